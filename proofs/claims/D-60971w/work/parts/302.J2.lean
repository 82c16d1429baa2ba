/-! java/util/ArrayList, walked (1) -/
set_option maxRecDepth 100000 in
theorem dJ2_init_0 : decode cJ2_init 0 = .ok (.aload_n 0, 1) := by decide +kernel
set_option maxRecDepth 100000 in
theorem dJ2_init_1 : decode cJ2_init 1 = .ok (.invokespecial 1, 3) := by decide +kernel
set_option maxRecDepth 100000 in
theorem dJ2_init_4 : decode cJ2_init 4 = .ok (.iload_n 1, 1) := by decide +kernel
set_option maxRecDepth 100000 in
theorem dJ2_init_5 : decode cJ2_init 5 = .ok (.ifCond .le 14, 3) := by decide +kernel
set_option maxRecDepth 100000 in
theorem dJ2_init_8 : decode cJ2_init 8 = .ok (.aload_n 0, 1) := by decide +kernel
set_option maxRecDepth 100000 in
theorem dJ2_init_9 : decode cJ2_init 9 = .ok (.iload_n 1, 1) := by decide +kernel
set_option maxRecDepth 100000 in
theorem dJ2_init_10 : decode cJ2_init 10 = .ok (.anewarray 7, 3) := by decide +kernel
set_option maxRecDepth 100000 in
theorem dJ2_init_13 : decode cJ2_init 13 = .ok (.putfield 9, 3) := by decide +kernel
set_option maxRecDepth 100000 in
theorem dJ2_init_16 : decode cJ2_init 16 = .ok (.goto 44, 3) := by decide +kernel
set_option maxRecDepth 100000 in
theorem dJ2_init_19 : decode cJ2_init 19 = .ok (.iload_n 1, 1) := by decide +kernel
set_option maxRecDepth 100000 in
theorem dJ2_init_20 : decode cJ2_init 20 = .ok (.ifCond .ne 13, 3) := by decide +kernel
set_option maxRecDepth 100000 in
theorem dJ2_init_23 : decode cJ2_init 23 = .ok (.aload_n 0, 1) := by decide +kernel
set_option maxRecDepth 100000 in
theorem dJ2_init_24 : decode cJ2_init 24 = .ok (.getstatic 15, 3) := by decide +kernel
set_option maxRecDepth 100000 in
theorem dJ2_init_27 : decode cJ2_init 27 = .ok (.putfield 9, 3) := by decide +kernel
set_option maxRecDepth 100000 in
theorem dJ2_init_30 : decode cJ2_init 30 = .ok (.goto 30, 3) := by decide +kernel
set_option maxRecDepth 100000 in
theorem dJ2_init_33 : decode cJ2_init 33 = .ok (.new 18, 3) := by decide +kernel
set_option maxRecDepth 100000 in
theorem dJ2_init_36 : decode cJ2_init 36 = .ok (.dup, 1) := by decide +kernel
set_option maxRecDepth 100000 in
theorem dJ2_init_37 : decode cJ2_init 37 = .ok (.new 20, 3) := by decide +kernel
set_option maxRecDepth 100000 in
theorem dJ2_init_40 : decode cJ2_init 40 = .ok (.dup, 1) := by decide +kernel
set_option maxRecDepth 100000 in
theorem dJ2_init_41 : decode cJ2_init 41 = .ok (.invokespecial 22, 3) := by decide +kernel
set_option maxRecDepth 100000 in
theorem dJ2_init_44 : decode cJ2_init 44 = .ok (.ldc 23, 2) := by decide +kernel
set_option maxRecDepth 100000 in
theorem dJ2_init_46 : decode cJ2_init 46 = .ok (.invokevirtual 25, 3) := by decide +kernel
set_option maxRecDepth 100000 in
theorem dJ2_init_49 : decode cJ2_init 49 = .ok (.iload_n 1, 1) := by decide +kernel
set_option maxRecDepth 100000 in
theorem dJ2_init_50 : decode cJ2_init 50 = .ok (.invokevirtual 29, 3) := by decide +kernel
set_option maxRecDepth 100000 in
theorem dJ2_init_53 : decode cJ2_init 53 = .ok (.invokevirtual 32, 3) := by decide +kernel
set_option maxRecDepth 100000 in
theorem dJ2_init_56 : decode cJ2_init 56 = .ok (.invokespecial 36, 3) := by decide +kernel
set_option maxRecDepth 100000 in
theorem dJ2_init_59 : decode cJ2_init 59 = .ok (.athrow, 1) := by decide +kernel
set_option maxRecDepth 100000 in
theorem dJ2_init_60 : decode cJ2_init 60 = .ok (.return_, 1) := by decide +kernel
set_option maxRecDepth 100000 in
def bJ2_init_60 (G : xG) (fr lo : Nat) (h : xH) (Q : Outcome → xH → Prop) : Prop := Q (.returned none) h
set_option maxRecDepth 100000 in
theorem uJ2_init_60 {G : xG} {fr lo : Nat} {h : xH} {Q : Outcome → xH → Prop} (hq : bJ2_init_60 G fr lo h Q) : xP G YJ2_init fr lo 60 [] [] h Q := by
  unfold bJ2_init_60 at hq
  exact x_vret rfl dJ2_init_60 hq
set_option maxRecDepth 100000 in
def bJ2_init (G : xG) (fr lo : Nat) (x0 : Nat) (x1 : Int32) (h : xH) (Q : Outcome → xH → Prop) : Prop := tg h x0 = 29 ∧ 1 ≤ fr ∧ 12 ≤ lo ∧ xRv G YJ1_init (fr - 1) (lo - 12) [rv x0] h (fun h4 => xext h h4 → ((x1 ≤ 0 → ((¬ x1 = 0 → False) ∧ (x1 = 0 → (∀ h10 : xH, h10 = sR h4 x0 7169 (xGS G 7) → bJ2_init_60 G fr lo h10 Q)))) ∧ (¬ x1 ≤ 0 → ¬ x1 < 0 ∧ Int32.toNatClampNeg x1 ≤ 1000000 ∧ nx h4 + 1 ≤ xGN G ∧ us h4 + (Int32.toNatClampNeg x1) ≤ xGU G ∧ (∀ (a16 : Nat) (h17 : xH), a16 = nx h4 + 1 → h17 = nA h4 105 (Int32.toNatClampNeg x1) → xfresh h4 a16 → (∀ h24 : xH, h24 = sR h17 x0 7169 a16 → bJ2_init_60 G fr lo h24 Q))))) (fun r h2 => Q (.threw r) h2)
set_option maxRecDepth 100000 in
theorem uJ2_init {G : xG} {fr lo : Nat} {x0 : Nat} {x1 : Int32} {h : xH} {Q : Outcome → xH → Prop} (hq : bJ2_init G fr lo x0 x1 h Q) : xP G YJ2_init fr lo 0 [(0, rv x0), (1, .int x1)] [] h Q := by
  unfold bJ2_init at hq
  refine x_aload_n 0 dJ2_init_0 rfl ?_
  obtain ⟨g1, hq⟩ := hq
  obtain ⟨g2, g3, hq⟩ := hq
  refine x_callI (Yc := YJ1_init) (as := []) (st := []) q505 miJ1_init (by rw [g1]; decide) rfl dJ2_init_1 (xle (xal1 (rv_cat _) xal0) (by decide)) (xfr g2) (xlo xsw0 (by decide) g3) (xKv hq (fun h4 hq e6 => ?_) (fun _ _ q _ => q))
  replace hq := hq e6
  refine x_iload_n 1 dJ2_init_4 rfl ?_
  refine x_if_le (tgt := 19) dJ2_init_5 (by decide) (fun c7 => ?_) (fun c7 => ?_)
  · replace hq := hq.1 c7
    refine x_iload_n 1 dJ2_init_19 rfl ?_
    refine x_if_ne (tgt := 33) dJ2_init_20 (by decide) (fun c8 => ?_) (fun c8 => ?_)
    · replace hq := hq.1 c8
      exact hq.elim
    · replace hq := hq.2 c8
      refine x_aload_n 0 dJ2_init_23 rfl ?_
      refine x_gets (v := rv (xGS G 7)) 7 rfl q514 (by simp [xsv]) dJ2_init_24 ?_
      have t9 : tg h4 x0 = 29 := e6.tg g1 (by decide)
      obtain ⟨h10, e11⟩ : ∃ y, y = sR h4 x0 7169 (xGS G 7) := ⟨_, rfl⟩
      replace hq := hq h10 e11
      refine x_putR fdJ2_9 xty_A dJ2_init_27 t9 (Or.inl (by rw [t9]; rfl)) rfl e11 ?_
      refine x_goto (tgt := 60) dJ2_init_30 (by decide) ?_
      refine xP.pick (lv' := []) [] rfl ?_
      exact uJ2_init_60 hq
  · replace hq := hq.2 c7
    refine x_aload_n 0 dJ2_init_8 rfl ?_
    refine x_iload_n 1 dJ2_init_9 rfl ?_
    obtain ⟨g12, g13, hq⟩ := hq
    obtain ⟨g14, g15, hq⟩ := hq
    obtain ⟨a16, e18⟩ : ∃ y, y = nx h4 + 1 := ⟨_, rfl⟩
    obtain ⟨h17, e19⟩ : ∃ y, y = nA h4 105 (Int32.toNatClampNeg x1) := ⟨_, rfl⟩
    refine x_anew 5 anJ2_7 dJ2_init_10 g12 g13 g14 g15 e18 e19 (fun f20 => ?_)
    replace hq := hq a16 h17 e18 e19 f20
    have t21 : tg h17 a16 = 105 := by rw [e19, e18]; exact tg_nA
    have t22 : tg h4 x0 = 29 := e6.tg g1 (by decide)
    have t23 : tg h17 x0 = 29 := by rw [e19]; exact tg_nA_ne e18 f20 t22 (by decide)
    obtain ⟨h24, e25⟩ : ∃ y, y = sR h17 x0 7169 a16 := ⟨_, rfl⟩
    replace hq := hq h24 e25
    refine x_putR fdJ2_9 xty_A dJ2_init_13 t23 (Or.inl (by rw [t23]; rfl)) rfl e25 ?_
    refine x_goto (tgt := 60) dJ2_init_16 (by decide) ?_
    refine xP.pick (lv' := []) [] rfl ?_
    exact uJ2_init_60 hq
theorem rJ2_init {G : xG} {fr lo : Nat} {x0 : Nat} {x1 : Int32} {h : xH} {Q : Outcome → xH → Prop} (hq : bJ2_init G fr lo x0 x1 h Q) : xR G YJ2_init fr lo [rv x0, .int x1] h Q := by
  show xP _ _ _ _ _ (lv_args 0 _) _ _ _
  rw [show lv_args 0 [rv x0, .int x1] = [(0, rv x0), (1, .int x1)] from (xla1 (rv_cat _) (xla1 rfl xla0))]
  exact uJ2_init hq
set_option maxRecDepth 100000 in
theorem dJ2_add_0 : decode cJ2_add 0 = .ok (.aload_n 0, 1) := by decide +kernel
set_option maxRecDepth 100000 in
theorem dJ2_add_1 : decode cJ2_add 1 = .ok (.dup, 1) := by decide +kernel
set_option maxRecDepth 100000 in
theorem dJ2_add_2 : decode cJ2_add 2 = .ok (.getfield 63, 3) := by decide +kernel
set_option maxRecDepth 100000 in
theorem dJ2_add_5 : decode cJ2_add 5 = .ok (.iconst 1, 1) := by decide +kernel
set_option maxRecDepth 100000 in
theorem dJ2_add_6 : decode cJ2_add 6 = .ok (.iadd, 1) := by decide +kernel
set_option maxRecDepth 100000 in
theorem dJ2_add_7 : decode cJ2_add 7 = .ok (.putfield 63, 3) := by decide +kernel
set_option maxRecDepth 100000 in
theorem dJ2_add_10 : decode cJ2_add 10 = .ok (.aload_n 0, 1) := by decide +kernel
set_option maxRecDepth 100000 in
theorem dJ2_add_11 : decode cJ2_add 11 = .ok (.aload_n 1, 1) := by decide +kernel
set_option maxRecDepth 100000 in
theorem dJ2_add_12 : decode cJ2_add 12 = .ok (.aload_n 0, 1) := by decide +kernel
set_option maxRecDepth 100000 in
theorem dJ2_add_13 : decode cJ2_add 13 = .ok (.getfield 9, 3) := by decide +kernel
set_option maxRecDepth 100000 in
theorem dJ2_add_16 : decode cJ2_add 16 = .ok (.aload_n 0, 1) := by decide +kernel
set_option maxRecDepth 100000 in
theorem dJ2_add_17 : decode cJ2_add 17 = .ok (.getfield 48, 3) := by decide +kernel
set_option maxRecDepth 100000 in
theorem dJ2_add_20 : decode cJ2_add 20 = .ok (.invokevirtual 131, 3) := by decide +kernel
set_option maxRecDepth 100000 in
theorem dJ2_add_23 : decode cJ2_add 23 = .ok (.iconst 1, 1) := by decide +kernel
set_option maxRecDepth 100000 in
theorem dJ2_add_24 : decode cJ2_add 24 = .ok (.ireturn, 1) := by decide +kernel
set_option maxRecDepth 100000 in
def bJ2_add (G : xG) (fr lo : Nat) (x0 : Nat) (x1 : Nat) (h : xH) (Q : Outcome → xH → Prop) : Prop := tg h x0 = 29 ∧ (∀ h2 : xH, h2 = sI h x0 7168 ((fI h x0 7168) + 1) → 1 ≤ fr ∧ 15 ≤ lo ∧ xRv G YJ2_add_2 (fr - 1) (lo - 15) [rv x0, rv x1, rv (fR h2 x0 7169), .int (fI h2 x0 7170)] h2 (fun h7 => xext h2 h7 → Q (.returned (some (.int 1))) h7) (fun r h2 => Q (.threw r) h2))
set_option maxRecDepth 100000 in
theorem uJ2_add {G : xG} {fr lo : Nat} {x0 : Nat} {x1 : Nat} {h : xH} {Q : Outcome → xH → Prop} (hq : bJ2_add G fr lo x0 x1 h Q) : xP G YJ2_add fr lo 0 [(0, rv x0), (1, rv x1)] [] h Q := by
  unfold bJ2_add at hq
  refine x_aload_n 0 dJ2_add_0 rfl ?_
  refine x_dup dJ2_add_1 (rv_cat _) ?_
  obtain ⟨g1, hq⟩ := hq
  refine x_getS (v := .int (fI h x0 7168)) fsJ2_63 dJ2_add_2 g1 rfl ?_
  refine x_iconst (v := 1) dJ2_add_5 (by decide) ?_
  refine x_iadd dJ2_add_6 ?_
  obtain ⟨h2, e3⟩ : ∃ y, y = sI h x0 7168 ((fI h x0 7168) + 1) := ⟨_, rfl⟩
  replace hq := hq h2 e3
  refine x_putSI fsJ2_63 dJ2_add_7 g1 (Or.inl (by rw [g1]; rfl)) rfl e3 ?_
  refine x_aload_n 0 dJ2_add_10 rfl ?_
  refine x_aload_n 1 dJ2_add_11 rfl ?_
  refine x_aload_n 0 dJ2_add_12 rfl ?_
  have t4 : tg h2 x0 = 29 := by rw [e3]; exact g1
  refine x_get (v := rv (fR h2 x0 7169)) fdJ2_9 dJ2_add_13 t4 rfl ?_
  refine x_aload_n 0 dJ2_add_16 rfl ?_
  refine x_get (v := .int (fI h2 x0 7170)) fdJ2_48 dJ2_add_17 t4 rfl ?_
  obtain ⟨g5, g6, hq⟩ := hq
  refine x_callV (Yc := YJ2_add_2) (as := [rv x1, rv (fR h2 x0 7169), .int (fI h2 x0 7170)]) (st := []) q1013 mvJ2_add_2 t4 rfl dJ2_add_20 (xle (xal1 (rv_cat _) (xal1 (rv_cat _) (xal1 (rv_cat _) (xal1 rfl xal0)))) (by decide)) (xfr g5) (xlo xsw0 (by decide) g6) (xKv hq (fun h7 hq e9 => ?_) (fun _ _ q _ => q))
  replace hq := hq e9
  refine x_iconst (v := 1) dJ2_add_23 (by decide) ?_
  exact x_iret rfl rfl dJ2_add_24 hq
theorem rJ2_add {G : xG} {fr lo : Nat} {x0 : Nat} {x1 : Nat} {h : xH} {Q : Outcome → xH → Prop} (hq : bJ2_add G fr lo x0 x1 h Q) : xR G YJ2_add fr lo [rv x0, rv x1] h Q := by
  show xP _ _ _ _ _ (lv_args 0 _) _ _ _
  rw [show lv_args 0 [rv x0, rv x1] = [(0, rv x0), (1, rv x1)] from (xla1 (rv_cat _) (xla1 (rv_cat _) xla0))]
  exact uJ2_add hq
set_option maxRecDepth 100000 in
theorem dJ2_add_2_0 : decode cJ2_add_2 0 = .ok (.iload_n 3, 1) := by decide +kernel
set_option maxRecDepth 100000 in
theorem dJ2_add_2_1 : decode cJ2_add_2 1 = .ok (.aload_n 2, 1) := by decide +kernel
set_option maxRecDepth 100000 in
theorem dJ2_add_2_2 : decode cJ2_add_2 2 = .ok (.arraylength, 1) := by decide +kernel
set_option maxRecDepth 100000 in
theorem dJ2_add_2_3 : decode cJ2_add_2 3 = .ok (.if_icmp .ne 8, 3) := by decide +kernel
set_option maxRecDepth 100000 in
theorem dJ2_add_2_6 : decode cJ2_add_2 6 = .ok (.aload_n 0, 1) := by decide +kernel
set_option maxRecDepth 100000 in
theorem dJ2_add_2_7 : decode cJ2_add_2 7 = .ok (.invokevirtual 129, 3) := by decide +kernel
set_option maxRecDepth 100000 in
theorem dJ2_add_2_10 : decode cJ2_add_2 10 = .ok (.astore_n 2, 1) := by decide +kernel
set_option maxRecDepth 100000 in
theorem dJ2_add_2_11 : decode cJ2_add_2 11 = .ok (.aload_n 2, 1) := by decide +kernel
set_option maxRecDepth 100000 in
theorem dJ2_add_2_12 : decode cJ2_add_2 12 = .ok (.iload_n 3, 1) := by decide +kernel
set_option maxRecDepth 100000 in
theorem dJ2_add_2_13 : decode cJ2_add_2 13 = .ok (.aload_n 1, 1) := by decide +kernel
set_option maxRecDepth 100000 in
theorem dJ2_add_2_14 : decode cJ2_add_2 14 = .ok (.aastore, 1) := by decide +kernel
set_option maxRecDepth 100000 in
theorem dJ2_add_2_15 : decode cJ2_add_2 15 = .ok (.aload_n 0, 1) := by decide +kernel
set_option maxRecDepth 100000 in
theorem dJ2_add_2_16 : decode cJ2_add_2 16 = .ok (.iload_n 3, 1) := by decide +kernel
set_option maxRecDepth 100000 in
theorem dJ2_add_2_17 : decode cJ2_add_2 17 = .ok (.iconst 1, 1) := by decide +kernel
set_option maxRecDepth 100000 in
theorem dJ2_add_2_18 : decode cJ2_add_2 18 = .ok (.iadd, 1) := by decide +kernel
set_option maxRecDepth 100000 in
theorem dJ2_add_2_19 : decode cJ2_add_2 19 = .ok (.putfield 48, 3) := by decide +kernel
set_option maxRecDepth 100000 in
theorem dJ2_add_2_22 : decode cJ2_add_2 22 = .ok (.return_, 1) := by decide +kernel
set_option maxRecDepth 100000 in
def bJ2_add_2_11 (G : xG) (fr lo : Nat) (x0 : Nat) (x1 : Nat) (x2 : Nat) (x3 : Int32) (h : xH) (Q : Outcome → xH → Prop) : Prop := tg h x2 = 105 ∧ xGB G < x2 ∧ (∃ c4, xas 5 c4 ∧ tg h x1 = c4 + 1 ∧ vp_in x3 (ln h x2) ∧ (∀ h7 : xH, h7 = tR h x2 (Int32.toNatClampNeg x3) x1 → tg h7 x0 = 29 ∧ (∀ h10 : xH, h10 = sI h7 x0 7170 (x3 + 1) → Q (.returned none) h10)))
set_option maxRecDepth 100000 in
theorem uJ2_add_2_11 {G : xG} {fr lo : Nat} {x0 : Nat} {x1 : Nat} {x2 : Nat} {x3 : Int32} {h : xH} {Q : Outcome → xH → Prop} (hq : bJ2_add_2_11 G fr lo x0 x1 x2 x3 h Q) : xP G YJ2_add_2 fr lo 11 [(0, rv x0), (1, rv x1), (2, rv x2), (3, .int x3)] [] h Q := by
  unfold bJ2_add_2_11 at hq
  refine x_aload_n 2 dJ2_add_2_11 rfl ?_
  refine x_iload_n 3 dJ2_add_2_12 rfl ?_
  refine x_aload_n 1 dJ2_add_2_13 rfl ?_
  obtain ⟨g1, hq⟩ := hq
  obtain ⟨w2, hq⟩ := hq
  obtain ⟨c4, g5, g3, hq⟩ := hq
  obtain ⟨i6, hq⟩ := hq
  obtain ⟨h7, e8⟩ : ∃ y, y = tR h x2 (Int32.toNatClampNeg x3) x1 := ⟨_, rfl⟩
  replace hq := hq h7 e8
  refine x_aast 5 c4 g5 g1 (Or.inr w2) g3 i6 dJ2_add_2_14 e8 ?_
  refine x_aload_n 0 dJ2_add_2_15 rfl ?_
  refine x_iload_n 3 dJ2_add_2_16 rfl ?_
  refine x_iconst (v := 1) dJ2_add_2_17 (by decide) ?_
  refine x_iadd dJ2_add_2_18 ?_
  obtain ⟨g9, hq⟩ := hq
  obtain ⟨h10, e11⟩ : ∃ y, y = sI h7 x0 7170 (x3 + 1) := ⟨_, rfl⟩
  replace hq := hq h10 e11
  refine x_putI fdJ2_48 xty_I1 dJ2_add_2_19 g9 (Or.inl (by rw [g9]; rfl)) xnI rfl e11 ?_
  exact x_vret rfl dJ2_add_2_22 hq
set_option maxRecDepth 100000 in
def bJ2_add_2 (G : xG) (fr lo : Nat) (x0 : Nat) (x1 : Nat) (x2 : Nat) (x3 : Int32) (h : xH) (Q : Outcome → xH → Prop) : Prop := tg h x2 = 105 ∧ ((¬ x3 = (Int32.ofNat (ln h x2)) → bJ2_add_2_11 G fr lo x0 x1 x2 x3 h Q) ∧ (x3 = (Int32.ofNat (ln h x2)) → tg h x0 = 29 ∧ 1 ≤ fr ∧ 12 ≤ lo ∧ xRr G YJ2_grow (fr - 1) (lo - 12) [rv x0] h (fun x7 h6 => xext h h6 → bJ2_add_2_11 G fr lo x0 x1 x7 x3 h6 Q) (fun r h2 => Q (.threw r) h2)))
set_option maxRecDepth 100000 in
theorem uJ2_add_2 {G : xG} {fr lo : Nat} {x0 : Nat} {x1 : Nat} {x2 : Nat} {x3 : Int32} {h : xH} {Q : Outcome → xH → Prop} (hq : bJ2_add_2 G fr lo x0 x1 x2 x3 h Q) : xP G YJ2_add_2 fr lo 0 [(0, rv x0), (1, rv x1), (2, rv x2), (3, .int x3)] [] h Q := by
  unfold bJ2_add_2 at hq
  refine x_iload_n 3 dJ2_add_2_0 rfl ?_
  refine x_aload_n 2 dJ2_add_2_1 rfl ?_
  obtain ⟨g1, hq⟩ := hq
  refine x_alen 5 g1 (by decide) dJ2_add_2_2 ?_
  refine x_icmp_ne (tgt := 11) dJ2_add_2_3 (by decide) (fun c2 => ?_) (fun c2 => ?_)
  · replace hq := hq.1 c2
    exact uJ2_add_2_11 hq
  · replace hq := hq.2 c2
    refine x_aload_n 0 dJ2_add_2_6 rfl ?_
    obtain ⟨g3, hq⟩ := hq
    obtain ⟨g4, g5, hq⟩ := hq
    refine x_callV (Yc := YJ2_grow) (as := []) (st := []) q1017 mvJ2_grow g3 rfl dJ2_add_2_7 (xle (xal1 (rv_cat _) xal0) (by decide)) (xfr g4) (xlo xsw0 (by decide) g5) (xKr hq (fun x7 h6 hq e8 => ?_) (fun _ _ q _ => q))
    replace hq := hq e8
    refine x_astore_n (lv' := [(2, rv x7), (0, rv x0), (1, rv x1), (3, .int x3)]) dJ2_add_2_10 (by decide) (by first | rfl | (simp [rv_cat, Value.category]; done) | (simp [rv_cat, Value.category]; decide)) ?_
    refine xP.pick (lv' := [(0, rv x0), (1, rv x1), (2, rv x7), (3, .int x3)]) [1, 2, 0, 3] rfl ?_
    exact uJ2_add_2_11 hq
theorem rJ2_add_2 {G : xG} {fr lo : Nat} {x0 : Nat} {x1 : Nat} {x2 : Nat} {x3 : Int32} {h : xH} {Q : Outcome → xH → Prop} (hq : bJ2_add_2 G fr lo x0 x1 x2 x3 h Q) : xR G YJ2_add_2 fr lo [rv x0, rv x1, rv x2, .int x3] h Q := by
  show xP _ _ _ _ _ (lv_args 0 _) _ _ _
  rw [show lv_args 0 [rv x0, rv x1, rv x2, .int x3] = [(0, rv x0), (1, rv x1), (2, rv x2), (3, .int x3)] from (xla1 (rv_cat _) (xla1 (rv_cat _) (xla1 (rv_cat _) (xla1 rfl xla0))))]
  exact uJ2_add_2 hq
set_option maxRecDepth 100000 in
theorem dJ2_grow_0 : decode cJ2_grow 0 = .ok (.aload_n 0, 1) := by decide +kernel
set_option maxRecDepth 100000 in
theorem dJ2_grow_1 : decode cJ2_grow 1 = .ok (.aload_n 0, 1) := by decide +kernel
set_option maxRecDepth 100000 in
theorem dJ2_grow_2 : decode cJ2_grow 2 = .ok (.getfield 48, 3) := by decide +kernel
set_option maxRecDepth 100000 in
theorem dJ2_grow_5 : decode cJ2_grow 5 = .ok (.iconst 1, 1) := by decide +kernel
set_option maxRecDepth 100000 in
theorem dJ2_grow_6 : decode cJ2_grow 6 = .ok (.iadd, 1) := by decide +kernel
set_option maxRecDepth 100000 in
theorem dJ2_grow_7 : decode cJ2_grow 7 = .ok (.invokevirtual 69, 3) := by decide +kernel
set_option maxRecDepth 100000 in
theorem dJ2_grow_10 : decode cJ2_grow 10 = .ok (.areturn, 1) := by decide +kernel
set_option maxRecDepth 100000 in
def bJ2_grow (G : xG) (fr lo : Nat) (x0 : Nat) (h : xH) (Q : Outcome → xH → Prop) : Prop := tg h x0 = 29 ∧ 1 ≤ fr ∧ 15 ≤ lo ∧ xRr G YJ2_grow_2 (fr - 1) (lo - 15) [rv x0, .int ((fI h x0 7170) + 1)] h (fun x5 h4 => xext h h4 → Q (.returned (some (rv x5))) h4) (fun r h2 => Q (.threw r) h2)
set_option maxRecDepth 100000 in
theorem uJ2_grow {G : xG} {fr lo : Nat} {x0 : Nat} {h : xH} {Q : Outcome → xH → Prop} (hq : bJ2_grow G fr lo x0 h Q) : xP G YJ2_grow fr lo 0 [(0, rv x0)] [] h Q := by
  unfold bJ2_grow at hq
  refine x_aload_n 0 dJ2_grow_0 rfl ?_
  refine x_aload_n 0 dJ2_grow_1 rfl ?_
  obtain ⟨g1, hq⟩ := hq
  refine x_get (v := .int (fI h x0 7170)) fdJ2_48 dJ2_grow_2 g1 rfl ?_
  refine x_iconst (v := 1) dJ2_grow_5 (by decide) ?_
  refine x_iadd dJ2_grow_6 ?_
  obtain ⟨g2, g3, hq⟩ := hq
  refine x_callV (Yc := YJ2_grow_2) (as := [.int ((fI h x0 7170) + 1)]) (st := []) q1021 mvJ2_grow_2 g1 rfl dJ2_grow_7 (xle (xal1 (rv_cat _) (xal1 rfl xal0)) (by decide)) (xfr g2) (xlo xsw0 (by decide) g3) (xKr hq (fun x5 h4 hq e6 => ?_) (fun _ _ q _ => q))
  replace hq := hq e6
  exact x_aret rfl xty_A dJ2_grow_10 hq
theorem rJ2_grow {G : xG} {fr lo : Nat} {x0 : Nat} {h : xH} {Q : Outcome → xH → Prop} (hq : bJ2_grow G fr lo x0 h Q) : xR G YJ2_grow fr lo [rv x0] h Q := by
  show xP _ _ _ _ _ (lv_args 0 _) _ _ _
  rw [show lv_args 0 [rv x0] = [(0, rv x0)] from (xla1 (rv_cat _) xla0)]
  exact uJ2_grow hq
set_option maxRecDepth 100000 in
theorem dJ2_grow_2_0 : decode cJ2_grow_2 0 = .ok (.aload_n 0, 1) := by decide +kernel
set_option maxRecDepth 100000 in
theorem dJ2_grow_2_1 : decode cJ2_grow_2 1 = .ok (.getfield 9, 3) := by decide +kernel
set_option maxRecDepth 100000 in
theorem dJ2_grow_2_4 : decode cJ2_grow_2 4 = .ok (.arraylength, 1) := by decide +kernel
set_option maxRecDepth 100000 in
theorem dJ2_grow_2_5 : decode cJ2_grow_2 5 = .ok (.istore_n 2, 1) := by decide +kernel
set_option maxRecDepth 100000 in
theorem dJ2_grow_2_6 : decode cJ2_grow_2 6 = .ok (.iload_n 2, 1) := by decide +kernel
set_option maxRecDepth 100000 in
theorem dJ2_grow_2_7 : decode cJ2_grow_2 7 = .ok (.ifCond .gt 13, 3) := by decide +kernel
set_option maxRecDepth 100000 in
theorem dJ2_grow_2_10 : decode cJ2_grow_2 10 = .ok (.aload_n 0, 1) := by decide +kernel
set_option maxRecDepth 100000 in
theorem dJ2_grow_2_11 : decode cJ2_grow_2 11 = .ok (.getfield 9, 3) := by decide +kernel
set_option maxRecDepth 100000 in
theorem dJ2_grow_2_14 : decode cJ2_grow_2 14 = .ok (.getstatic 39, 3) := by decide +kernel
set_option maxRecDepth 100000 in
theorem dJ2_grow_2_17 : decode cJ2_grow_2 17 = .ok (.if_acmp .eq 28, 3) := by decide +kernel
set_option maxRecDepth 100000 in
theorem dJ2_grow_2_20 : decode cJ2_grow_2 20 = .ok (.iload_n 2, 1) := by decide +kernel
set_option maxRecDepth 100000 in
theorem dJ2_grow_2_21 : decode cJ2_grow_2 21 = .ok (.iload_n 1, 1) := by decide +kernel
set_option maxRecDepth 100000 in
theorem dJ2_grow_2_22 : decode cJ2_grow_2 22 = .ok (.iload_n 2, 1) := by decide +kernel
set_option maxRecDepth 100000 in
theorem dJ2_grow_2_23 : decode cJ2_grow_2 23 = .ok (.isub, 1) := by decide +kernel
set_option maxRecDepth 100000 in
theorem dJ2_grow_2_24 : decode cJ2_grow_2 24 = .ok (.iload_n 2, 1) := by decide +kernel
set_option maxRecDepth 100000 in
theorem dJ2_grow_2_25 : decode cJ2_grow_2 25 = .ok (.iconst 1, 1) := by decide +kernel
set_option maxRecDepth 100000 in
theorem dJ2_grow_2_26 : decode cJ2_grow_2 26 = .ok (.ishr, 1) := by decide +kernel
set_option maxRecDepth 100000 in
theorem dJ2_grow_2_27 : decode cJ2_grow_2 27 = .ok (.invokestatic 73, 3) := by decide +kernel
set_option maxRecDepth 100000 in
theorem dJ2_grow_2_30 : decode cJ2_grow_2 30 = .ok (.istore_n 3, 1) := by decide +kernel
set_option maxRecDepth 100000 in
theorem dJ2_grow_2_31 : decode cJ2_grow_2 31 = .ok (.aload_n 0, 1) := by decide +kernel
set_option maxRecDepth 100000 in
theorem dJ2_grow_2_32 : decode cJ2_grow_2 32 = .ok (.aload_n 0, 1) := by decide +kernel
set_option maxRecDepth 100000 in
theorem dJ2_grow_2_33 : decode cJ2_grow_2 33 = .ok (.getfield 9, 3) := by decide +kernel
set_option maxRecDepth 100000 in
theorem dJ2_grow_2_36 : decode cJ2_grow_2 36 = .ok (.iload_n 3, 1) := by decide +kernel
set_option maxRecDepth 100000 in
theorem dJ2_grow_2_37 : decode cJ2_grow_2 37 = .ok (.invokestatic 66, 3) := by decide +kernel
set_option maxRecDepth 100000 in
theorem dJ2_grow_2_40 : decode cJ2_grow_2 40 = .ok (.dup_x1, 1) := by decide +kernel
set_option maxRecDepth 100000 in
theorem dJ2_grow_2_41 : decode cJ2_grow_2 41 = .ok (.putfield 9, 3) := by decide +kernel
set_option maxRecDepth 100000 in
theorem dJ2_grow_2_44 : decode cJ2_grow_2 44 = .ok (.areturn, 1) := by decide +kernel
set_option maxRecDepth 100000 in
theorem dJ2_grow_2_45 : decode cJ2_grow_2 45 = .ok (.aload_n 0, 1) := by decide +kernel
set_option maxRecDepth 100000 in
theorem dJ2_grow_2_46 : decode cJ2_grow_2 46 = .ok (.bipush 10, 2) := by decide +kernel
set_option maxRecDepth 100000 in
theorem dJ2_grow_2_48 : decode cJ2_grow_2 48 = .ok (.iload_n 1, 1) := by decide +kernel
set_option maxRecDepth 100000 in
theorem dJ2_grow_2_49 : decode cJ2_grow_2 49 = .ok (.invokestatic 79, 3) := by decide +kernel
set_option maxRecDepth 100000 in
theorem dJ2_grow_2_52 : decode cJ2_grow_2 52 = .ok (.anewarray 7, 3) := by decide +kernel
set_option maxRecDepth 100000 in
theorem dJ2_grow_2_55 : decode cJ2_grow_2 55 = .ok (.dup_x1, 1) := by decide +kernel
set_option maxRecDepth 100000 in
theorem dJ2_grow_2_56 : decode cJ2_grow_2 56 = .ok (.putfield 9, 3) := by decide +kernel
set_option maxRecDepth 100000 in
theorem dJ2_grow_2_59 : decode cJ2_grow_2 59 = .ok (.areturn, 1) := by decide +kernel
set_option maxRecDepth 100000 in
def bJ2_grow_2_20 (G : xG) (fr lo : Nat) (x0 : Nat) (x1 : Int32) (x2 : Int32) (h : xH) (Q : Outcome → xH → Prop) : Prop := 1 ≤ fr ∧ 15 ≤ lo ∧ xRi G YJ9_newLength (fr - 1) (lo - 15) [.int x2, .int (x1 - x2), .int (x2 >>> (1 &&& 31))] h (fun x4 h3 => xext h h3 → tg h3 x0 = 29 ∧ 1 ≤ fr ∧ 14 ≤ lo ∧ xRr G YJ11_copyOf_2 (fr - 1) (lo - 14) [rv (fR h3 x0 7169), .int x4] h3 (fun x10 h9 => xext h3 h9 → (∀ h13 : xH, h13 = sR h9 x0 7169 x10 → Q (.returned (some (rv x10))) h13)) (fun r h2 => Q (.threw r) h2)) (fun r h2 => Q (.threw r) h2)
set_option maxRecDepth 100000 in
theorem uJ2_grow_2_20 {G : xG} {fr lo : Nat} {x0 : Nat} {x1 : Int32} {x2 : Int32} {h : xH} {Q : Outcome → xH → Prop} (hq : bJ2_grow_2_20 G fr lo x0 x1 x2 h Q) : xP G YJ2_grow_2 fr lo 20 [(0, rv x0), (1, .int x1), (2, .int x2)] [] h Q := by
  unfold bJ2_grow_2_20 at hq
  refine x_iload_n 2 dJ2_grow_2_20 rfl ?_
  refine x_iload_n 1 dJ2_grow_2_21 rfl ?_
  refine x_iload_n 2 dJ2_grow_2_22 rfl ?_
  refine x_isub dJ2_grow_2_23 ?_
  refine x_iload_n 2 dJ2_grow_2_24 rfl ?_
  refine x_iconst (v := 1) dJ2_grow_2_25 (by decide) ?_
  refine x_ishr dJ2_grow_2_26 ?_
  obtain ⟨g1, g2, hq⟩ := hq
  refine x_callS (Yc := YJ9_newLength) (as := [.int x2, .int (x1 - x2), .int (x2 >>> (1 &&& 31))]) (st := []) q1027 msJ9_newLength rfl dJ2_grow_2_27 (xle (xal1 rfl (xal1 rfl (xal1 rfl xal0))) (by decide)) (xfr g1) (xlo xsw0 (by decide) g2) (xKi hq (fun x4 h3 hq e5 => ?_) (fun _ _ q _ => q))
  replace hq := hq e5
  refine x_istore_n (lv' := [(3, .int x4), (0, rv x0), (1, .int x1), (2, .int x2)]) dJ2_grow_2_30 (by decide) rfl ?_
  refine x_aload_n 1 dJ2_grow_2_31 rfl ?_
  refine x_aload_n 1 dJ2_grow_2_32 rfl ?_
  obtain ⟨g6, hq⟩ := hq
  refine x_get (v := rv (fR h3 x0 7169)) fdJ2_9 dJ2_grow_2_33 g6 rfl ?_
  refine x_iload_n 0 dJ2_grow_2_36 rfl ?_
  obtain ⟨g7, g8, hq⟩ := hq
  refine x_callS (Yc := YJ11_copyOf_2) (as := [rv (fR h3 x0 7169), .int x4]) (st := [rv x0]) q1028 msJ11_copyOf_2 rfl dJ2_grow_2_37 (xle (xal1 (rv_cat _) (xal1 rfl xal0)) (by decide)) (xfr g7) (xlo (xsw1 (rv_cat _) xsw0) (by decide) g8) (xKr hq (fun x10 h9 hq e11 => ?_) (fun _ _ q _ => q))
  replace hq := hq e11
  refine x_dup_x1 dJ2_grow_2_40 (rv_cat _) (rv_cat _) ?_
  have t12 : tg h9 x0 = 29 := e11.tg g6 (by decide)
  obtain ⟨h13, e14⟩ : ∃ y, y = sR h9 x0 7169 x10 := ⟨_, rfl⟩
  replace hq := hq h13 e14
  refine x_putR fdJ2_9 xty_A dJ2_grow_2_41 t12 (Or.inl (by rw [t12]; rfl)) rfl e14 ?_
  exact x_aret rfl xty_A dJ2_grow_2_44 hq
set_option maxRecDepth 100000 in
def bJ2_grow_2 (G : xG) (fr lo : Nat) (x0 : Nat) (x1 : Int32) (h : xH) (Q : Outcome → xH → Prop) : Prop := tg h x0 = 29 ∧ tg h (fR h x0 7169) = 105 ∧ ((0 < (Int32.ofNat (ln h (fR h x0 7169))) → bJ2_grow_2_20 G fr lo x0 x1 (Int32.ofNat (ln h (fR h x0 7169))) h Q) ∧ (¬ 0 < (Int32.ofNat (ln h (fR h x0 7169))) → (((fR h x0 7169) = (xGS G 8) → 1 ≤ fr ∧ 14 ≤ lo ∧ xRi G YJ10_max (fr - 1) (lo - 14) [.int 10, .int x1] h (fun x8 h7 => xext h h7 → ¬ x8 < 0 ∧ Int32.toNatClampNeg x8 ≤ 1000000 ∧ nx h7 + 1 ≤ xGN G ∧ us h7 + (Int32.toNatClampNeg x8) ≤ xGU G ∧ (∀ (a14 : Nat) (h15 : xH), a14 = nx h7 + 1 → h15 = nA h7 105 (Int32.toNatClampNeg x8) → xfresh h7 a14 → (∀ h22 : xH, h22 = sR h15 x0 7169 a14 → Q (.returned (some (rv a14))) h22))) (fun r h2 => Q (.threw r) h2)) ∧ (¬ (fR h x0 7169) = (xGS G 8) → bJ2_grow_2_20 G fr lo x0 x1 (Int32.ofNat (ln h (fR h x0 7169))) h Q))))
set_option maxRecDepth 100000 in
theorem uJ2_grow_2 {G : xG} {fr lo : Nat} {x0 : Nat} {x1 : Int32} {h : xH} {Q : Outcome → xH → Prop} (hq : bJ2_grow_2 G fr lo x0 x1 h Q) : xP G YJ2_grow_2 fr lo 0 [(0, rv x0), (1, .int x1)] [] h Q := by
  unfold bJ2_grow_2 at hq
  refine x_aload_n 0 dJ2_grow_2_0 rfl ?_
  obtain ⟨g1, hq⟩ := hq
  refine x_get (v := rv (fR h x0 7169)) fdJ2_9 dJ2_grow_2_1 g1 rfl ?_
  obtain ⟨g2, hq⟩ := hq
  refine x_alen 5 g2 (by decide) dJ2_grow_2_4 ?_
  refine x_istore_n (lv' := [(2, .int (Int32.ofNat (ln h (fR h x0 7169)))), (0, rv x0), (1, .int x1)]) dJ2_grow_2_5 (by decide) rfl ?_
  refine x_iload_n 0 dJ2_grow_2_6 rfl ?_
  refine x_if_gt (tgt := 20) dJ2_grow_2_7 (by decide) (fun c3 => ?_) (fun c3 => ?_)
  · replace hq := hq.1 c3
    refine xP.pick (lv' := [(0, rv x0), (1, .int x1), (2, .int (Int32.ofNat (ln h (fR h x0 7169))))]) [1, 2, 0] rfl ?_
    exact uJ2_grow_2_20 hq
  · replace hq := hq.2 c3
    refine x_aload_n 1 dJ2_grow_2_10 rfl ?_
    refine x_get (v := rv (fR h x0 7169)) fdJ2_9 dJ2_grow_2_11 g1 rfl ?_
    refine x_gets (v := rv (xGS G 8)) 8 rfl q1025 (by simp [xsv]) dJ2_grow_2_14 ?_
    refine x_acmp_eq (tgt := 45) dJ2_grow_2_17 (by decide) (fun c4 => ?_) (fun c4 => ?_)
    · replace hq := hq.1 c4
      refine x_aload_n 1 dJ2_grow_2_45 rfl ?_
      refine x_bipush (v := 10) dJ2_grow_2_46 (by decide) ?_
      refine x_iload_n 2 dJ2_grow_2_48 rfl ?_
      obtain ⟨g5, g6, hq⟩ := hq
      refine x_callS (Yc := YJ10_max) (as := [.int 10, .int x1]) (st := [rv x0]) q1073 msJ10_max rfl dJ2_grow_2_49 (xle (xal1 rfl (xal1 rfl xal0)) (by decide)) (xfr g5) (xlo (xsw1 (rv_cat _) xsw0) (by decide) g6) (xKi hq (fun x8 h7 hq e9 => ?_) (fun _ _ q _ => q))
      replace hq := hq e9
      obtain ⟨g10, g11, hq⟩ := hq
      obtain ⟨g12, g13, hq⟩ := hq
      obtain ⟨a14, e16⟩ : ∃ y, y = nx h7 + 1 := ⟨_, rfl⟩
      obtain ⟨h15, e17⟩ : ∃ y, y = nA h7 105 (Int32.toNatClampNeg x8) := ⟨_, rfl⟩
      refine x_anew 5 anJ2_7 dJ2_grow_2_52 g10 g11 g12 g13 e16 e17 (fun f18 => ?_)
      replace hq := hq a14 h15 e16 e17 f18
      have t19 : tg h15 a14 = 105 := by rw [e17, e16]; exact tg_nA
      refine x_dup_x1 dJ2_grow_2_55 (rv_cat _) (rv_cat _) ?_
      have t20 : tg h7 x0 = 29 := e9.tg g1 (by decide)
      have t21 : tg h15 x0 = 29 := by rw [e17]; exact tg_nA_ne e16 f18 t20 (by decide)
      obtain ⟨h22, e23⟩ : ∃ y, y = sR h15 x0 7169 a14 := ⟨_, rfl⟩
      replace hq := hq h22 e23
      refine x_putR fdJ2_9 xty_A dJ2_grow_2_56 t21 (Or.inl (by rw [t21]; rfl)) rfl e23 ?_
      exact x_aret rfl xty_A dJ2_grow_2_59 hq
    · replace hq := hq.2 c4
      refine xP.pick (lv' := [(0, rv x0), (1, .int x1), (2, .int (Int32.ofNat (ln h (fR h x0 7169))))]) [1, 2, 0] rfl ?_
      exact uJ2_grow_2_20 hq
theorem rJ2_grow_2 {G : xG} {fr lo : Nat} {x0 : Nat} {x1 : Int32} {h : xH} {Q : Outcome → xH → Prop} (hq : bJ2_grow_2 G fr lo x0 x1 h Q) : xR G YJ2_grow_2 fr lo [rv x0, .int x1] h Q := by
  show xP _ _ _ _ _ (lv_args 0 _) _ _ _
  rw [show lv_args 0 [rv x0, .int x1] = [(0, rv x0), (1, .int x1)] from (xla1 (rv_cat _) (xla1 rfl xla0))]
  exact uJ2_grow_2 hq
set_option maxRecDepth 100000 in
theorem dJ2_clear_0 : decode cJ2_clear 0 = .ok (.aload_n 0, 1) := by decide +kernel
set_option maxRecDepth 100000 in
theorem dJ2_clear_1 : decode cJ2_clear 1 = .ok (.dup, 1) := by decide +kernel
set_option maxRecDepth 100000 in
theorem dJ2_clear_2 : decode cJ2_clear 2 = .ok (.getfield 63, 3) := by decide +kernel
set_option maxRecDepth 100000 in
theorem dJ2_clear_5 : decode cJ2_clear 5 = .ok (.iconst 1, 1) := by decide +kernel
set_option maxRecDepth 100000 in
theorem dJ2_clear_6 : decode cJ2_clear 6 = .ok (.iadd, 1) := by decide +kernel
set_option maxRecDepth 100000 in
theorem dJ2_clear_7 : decode cJ2_clear 7 = .ok (.putfield 63, 3) := by decide +kernel
set_option maxRecDepth 100000 in
theorem dJ2_clear_10 : decode cJ2_clear 10 = .ok (.aload_n 0, 1) := by decide +kernel
set_option maxRecDepth 100000 in
theorem dJ2_clear_11 : decode cJ2_clear 11 = .ok (.getfield 9, 3) := by decide +kernel
set_option maxRecDepth 100000 in
theorem dJ2_clear_14 : decode cJ2_clear 14 = .ok (.astore_n 1, 1) := by decide +kernel
set_option maxRecDepth 100000 in
theorem dJ2_clear_15 : decode cJ2_clear 15 = .ok (.aload_n 0, 1) := by decide +kernel
set_option maxRecDepth 100000 in
theorem dJ2_clear_16 : decode cJ2_clear 16 = .ok (.getfield 48, 3) := by decide +kernel
set_option maxRecDepth 100000 in
theorem dJ2_clear_19 : decode cJ2_clear 19 = .ok (.istore_n 2, 1) := by decide +kernel
set_option maxRecDepth 100000 in
theorem dJ2_clear_20 : decode cJ2_clear 20 = .ok (.aload_n 0, 1) := by decide +kernel
set_option maxRecDepth 100000 in
theorem dJ2_clear_21 : decode cJ2_clear 21 = .ok (.iconst 0, 1) := by decide +kernel
set_option maxRecDepth 100000 in
theorem dJ2_clear_22 : decode cJ2_clear 22 = .ok (.dup_x1, 1) := by decide +kernel
set_option maxRecDepth 100000 in
theorem dJ2_clear_23 : decode cJ2_clear 23 = .ok (.putfield 48, 3) := by decide +kernel
set_option maxRecDepth 100000 in
theorem dJ2_clear_26 : decode cJ2_clear 26 = .ok (.istore_n 3, 1) := by decide +kernel
set_option maxRecDepth 100000 in
theorem dJ2_clear_27 : decode cJ2_clear 27 = .ok (.iload_n 3, 1) := by decide +kernel
set_option maxRecDepth 100000 in
theorem dJ2_clear_28 : decode cJ2_clear 28 = .ok (.iload_n 2, 1) := by decide +kernel
set_option maxRecDepth 100000 in
theorem dJ2_clear_29 : decode cJ2_clear 29 = .ok (.if_icmp .ge 13, 3) := by decide +kernel
set_option maxRecDepth 100000 in
theorem dJ2_clear_32 : decode cJ2_clear 32 = .ok (.aload_n 1, 1) := by decide +kernel
set_option maxRecDepth 100000 in
theorem dJ2_clear_33 : decode cJ2_clear 33 = .ok (.iload_n 3, 1) := by decide +kernel
set_option maxRecDepth 100000 in
theorem dJ2_clear_34 : decode cJ2_clear 34 = .ok (.aconst_null, 1) := by decide +kernel
set_option maxRecDepth 100000 in
theorem dJ2_clear_35 : decode cJ2_clear 35 = .ok (.aastore, 1) := by decide +kernel
set_option maxRecDepth 100000 in
theorem dJ2_clear_36 : decode cJ2_clear 36 = .ok (.iinc 3 1, 3) := by decide +kernel
set_option maxRecDepth 100000 in
theorem dJ2_clear_39 : decode cJ2_clear 39 = .ok (.goto (-12), 3) := by decide +kernel
set_option maxRecDepth 100000 in
theorem dJ2_clear_42 : decode cJ2_clear 42 = .ok (.return_, 1) := by decide +kernel
def lJ2_clear_27 (G : xG) (fr lo : Nat) (x1 : Nat) (x2 : Int32) (x3 : Int32) (h : xH) (Q : Outcome → xH → Prop) : Prop := xP G YJ2_clear fr lo 27 [(1, rv x1), (2, .int x2), (3, .int x3)] [] h Q
set_option maxRecDepth 100000 in
def bJ2_clear_27 (G : xG) (fr lo : Nat) (x1 : Nat) (x2 : Int32) (x3 : Int32) (h : xH) (Q : Outcome → xH → Prop) : Prop := ((x2 ≤ x3 → Q (.returned none) h) ∧ (¬ x2 ≤ x3 → tg h x1 = 105 ∧ xGB G < x1 ∧ vp_in x3 (ln h x1) ∧ (∀ h5 : xH, h5 = tR h x1 (Int32.toNatClampNeg x3) 0 → lJ2_clear_27 G fr lo x1 x2 (x3 + 1) h5 Q)))
set_option maxRecDepth 100000 in
theorem uJ2_clear_27 {G : xG} {fr lo : Nat} {x1 : Nat} {x2 : Int32} {x3 : Int32} {h : xH} {Q : Outcome → xH → Prop} (hq : bJ2_clear_27 G fr lo x1 x2 x3 h Q) : xP G YJ2_clear fr lo 27 [(1, rv x1), (2, .int x2), (3, .int x3)] [] h Q := by
  unfold bJ2_clear_27 at hq
  refine x_iload_n 2 dJ2_clear_27 rfl ?_
  refine x_iload_n 1 dJ2_clear_28 rfl ?_
  refine x_icmp_ge (tgt := 42) dJ2_clear_29 (by decide) (fun c1 => ?_) (fun c1 => ?_)
  · replace hq := hq.1 c1
    exact x_vret rfl dJ2_clear_42 hq
  · replace hq := hq.2 c1
    refine x_aload_n 0 dJ2_clear_32 rfl ?_
    refine x_iload_n 2 dJ2_clear_33 rfl ?_
    refine x_null dJ2_clear_34 ?_
    obtain ⟨g2, hq⟩ := hq
    obtain ⟨w3, hq⟩ := hq
    obtain ⟨i4, hq⟩ := hq
    obtain ⟨h5, e6⟩ : ∃ y, y = tR h x1 (Int32.toNatClampNeg x3) 0 := ⟨_, rfl⟩
    replace hq := hq h5 e6
    refine x_aastN 5 rfl (by decide) g2 (Or.inr w3) i4 dJ2_clear_35 e6 ?_
    refine x_iinc (lv' := [(3, .int (x3 + 1)), (1, rv x1), (2, .int x2)]) 2 dJ2_clear_36 rfl (by decide) rfl ?_
    refine x_goto (tgt := 27) dJ2_clear_39 (by decide) ?_
    refine xP.pick (lv' := [(1, rv x1), (2, .int x2), (3, .int (x3 + 1))]) [1, 2, 0] rfl ?_
    exact hq
set_option maxRecDepth 100000 in
def bJ2_clear (G : xG) (fr lo : Nat) (x0 : Nat) (h : xH) (Q : Outcome → xH → Prop) : Prop := tg h x0 = 29 ∧ (∀ h2 : xH, h2 = sI h x0 7168 ((fI h x0 7168) + 1) → (∀ h5 : xH, h5 = sI h2 x0 7170 0 → lJ2_clear_27 G fr lo (fR h2 x0 7169) (fI h2 x0 7170) 0 h5 Q))
set_option maxRecDepth 100000 in
theorem uJ2_clear {G : xG} {fr lo : Nat} {x0 : Nat} {h : xH} {Q : Outcome → xH → Prop} (hq : bJ2_clear G fr lo x0 h Q) : xP G YJ2_clear fr lo 0 [(0, rv x0)] [] h Q := by
  unfold bJ2_clear at hq
  refine x_aload_n 0 dJ2_clear_0 rfl ?_
  refine x_dup dJ2_clear_1 (rv_cat _) ?_
  obtain ⟨g1, hq⟩ := hq
  refine x_getS (v := .int (fI h x0 7168)) fsJ2_63 dJ2_clear_2 g1 rfl ?_
  refine x_iconst (v := 1) dJ2_clear_5 (by decide) ?_
  refine x_iadd dJ2_clear_6 ?_
  obtain ⟨h2, e3⟩ : ∃ y, y = sI h x0 7168 ((fI h x0 7168) + 1) := ⟨_, rfl⟩
  replace hq := hq h2 e3
  refine x_putSI fsJ2_63 dJ2_clear_7 g1 (Or.inl (by rw [g1]; rfl)) rfl e3 ?_
  refine x_aload_n 0 dJ2_clear_10 rfl ?_
  have t4 : tg h2 x0 = 29 := by rw [e3]; exact g1
  refine x_get (v := rv (fR h2 x0 7169)) fdJ2_9 dJ2_clear_11 t4 rfl ?_
  refine x_astore_n (lv' := [(1, rv (fR h2 x0 7169)), (0, rv x0)]) dJ2_clear_14 (by decide) (by first | rfl | (simp [rv_cat, Value.category]; done) | (simp [rv_cat, Value.category]; decide)) ?_
  refine x_aload_n 1 dJ2_clear_15 rfl ?_
  refine x_get (v := .int (fI h2 x0 7170)) fdJ2_48 dJ2_clear_16 t4 rfl ?_
  refine x_istore_n (lv' := [(2, .int (fI h2 x0 7170)), (1, rv (fR h2 x0 7169)), (0, rv x0)]) dJ2_clear_19 (by decide) (by first | rfl | (simp [rv_cat, Value.category]; done) | (simp [rv_cat, Value.category]; decide)) ?_
  refine x_aload_n 2 dJ2_clear_20 rfl ?_
  refine x_iconst (v := 0) dJ2_clear_21 (by decide) ?_
  refine x_dup_x1 dJ2_clear_22 rfl (rv_cat _) ?_
  obtain ⟨h5, e6⟩ : ∃ y, y = sI h2 x0 7170 0 := ⟨_, rfl⟩
  replace hq := hq h5 e6
  refine x_putI fdJ2_48 xty_I1 dJ2_clear_23 t4 (Or.inl (by rw [t4]; rfl)) xnI rfl e6 ?_
  refine x_istore_n (lv' := [(3, .int 0), (2, .int (fI h2 x0 7170)), (1, rv (fR h2 x0 7169)), (0, rv x0)]) dJ2_clear_26 (by decide) rfl ?_
  refine xP.pick (lv' := [(1, rv (fR h2 x0 7169)), (2, .int (fI h2 x0 7170)), (3, .int 0)]) [2, 1, 0] rfl ?_
  exact hq
theorem rJ2_clear {G : xG} {fr lo : Nat} {x0 : Nat} {h : xH} {Q : Outcome → xH → Prop} (hq : bJ2_clear G fr lo x0 h Q) : xR G YJ2_clear fr lo [rv x0] h Q := by
  show xP _ _ _ _ _ (lv_args 0 _) _ _ _
  rw [show lv_args 0 [rv x0] = [(0, rv x0)] from (xla1 (rv_cat _) xla0)]
  exact uJ2_clear hq
set_option maxRecDepth 100000 in
theorem dJ2_size_0 : decode cJ2_size 0 = .ok (.aload_n 0, 1) := by decide +kernel
set_option maxRecDepth 100000 in
theorem dJ2_size_1 : decode cJ2_size 1 = .ok (.getfield 48, 3) := by decide +kernel
set_option maxRecDepth 100000 in
theorem dJ2_size_4 : decode cJ2_size 4 = .ok (.ireturn, 1) := by decide +kernel
set_option maxRecDepth 100000 in
def bJ2_size (G : xG) (fr lo : Nat) (x0 : Nat) (h : xH) (Q : Outcome → xH → Prop) : Prop := tg h x0 = 29 ∧ Q (.returned (some (.int (fI h x0 7170)))) h
set_option maxRecDepth 100000 in
theorem uJ2_size {G : xG} {fr lo : Nat} {x0 : Nat} {h : xH} {Q : Outcome → xH → Prop} (hq : bJ2_size G fr lo x0 h Q) : xP G YJ2_size fr lo 0 [(0, rv x0)] [] h Q := by
  unfold bJ2_size at hq
  refine x_aload_n 0 dJ2_size_0 rfl ?_
  obtain ⟨g1, hq⟩ := hq
  refine x_get (v := .int (fI h x0 7170)) fdJ2_48 dJ2_size_1 g1 rfl ?_
  exact x_iret rfl rfl dJ2_size_4 hq
theorem rJ2_size {G : xG} {fr lo : Nat} {x0 : Nat} {h : xH} {Q : Outcome → xH → Prop} (hq : bJ2_size G fr lo x0 h Q) : xR G YJ2_size fr lo [rv x0] h Q := by
  show xP _ _ _ _ _ (lv_args 0 _) _ _ _
  rw [show lv_args 0 [rv x0] = [(0, rv x0)] from (xla1 (rv_cat _) xla0)]
  exact uJ2_size hq
set_option maxRecDepth 100000 in
theorem dJ2_get_0 : decode cJ2_get 0 = .ok (.iload_n 1, 1) := by decide +kernel
set_option maxRecDepth 100000 in
theorem dJ2_get_1 : decode cJ2_get 1 = .ok (.aload_n 0, 1) := by decide +kernel
set_option maxRecDepth 100000 in
theorem dJ2_get_2 : decode cJ2_get 2 = .ok (.getfield 48, 3) := by decide +kernel
set_option maxRecDepth 100000 in
theorem dJ2_get_5 : decode cJ2_get 5 = .ok (.invokestatic 118, 3) := by decide +kernel
set_option maxRecDepth 100000 in
theorem dJ2_get_8 : decode cJ2_get 8 = .ok (.pop, 1) := by decide +kernel
set_option maxRecDepth 100000 in
theorem dJ2_get_9 : decode cJ2_get 9 = .ok (.aload_n 0, 1) := by decide +kernel
set_option maxRecDepth 100000 in
theorem dJ2_get_10 : decode cJ2_get 10 = .ok (.iload_n 1, 1) := by decide +kernel
set_option maxRecDepth 100000 in
theorem dJ2_get_11 : decode cJ2_get 11 = .ok (.invokevirtual 123, 3) := by decide +kernel
set_option maxRecDepth 100000 in
theorem dJ2_get_14 : decode cJ2_get 14 = .ok (.areturn, 1) := by decide +kernel
set_option maxRecDepth 100000 in
def bJ2_get (G : xG) (fr lo : Nat) (x0 : Nat) (x1 : Int32) (h : xH) (Q : Outcome → xH → Prop) : Prop := tg h x0 = 29 ∧ 1 ≤ fr ∧ 13 ≤ lo ∧ xRi G YJ16_checkIndex (fr - 1) (lo - 13) [.int x1, .int (fI h x0 7170)] h (fun x5 h4 => xext h h4 → 1 ≤ fr ∧ 13 ≤ lo ∧ xRr G YJ2_elementData (fr - 1) (lo - 13) [rv x0, .int x1] h4 (fun x11 h10 => xext h4 h10 → Q (.returned (some (rv x11))) h10) (fun r h2 => Q (.threw r) h2)) (fun r h2 => Q (.threw r) h2)
set_option maxRecDepth 100000 in
theorem uJ2_get {G : xG} {fr lo : Nat} {x0 : Nat} {x1 : Int32} {h : xH} {Q : Outcome → xH → Prop} (hq : bJ2_get G fr lo x0 x1 h Q) : xP G YJ2_get fr lo 0 [(0, rv x0), (1, .int x1)] [] h Q := by
  unfold bJ2_get at hq
  refine x_iload_n 1 dJ2_get_0 rfl ?_
  refine x_aload_n 0 dJ2_get_1 rfl ?_
  obtain ⟨g1, hq⟩ := hq
  refine x_get (v := .int (fI h x0 7170)) fdJ2_48 dJ2_get_2 g1 rfl ?_
  obtain ⟨g2, g3, hq⟩ := hq
  refine x_callS (Yc := YJ16_checkIndex) (as := [.int x1, .int (fI h x0 7170)]) (st := []) q2119 msJ16_checkIndex rfl dJ2_get_5 (xle (xal1 rfl (xal1 rfl xal0)) (by decide)) (xfr g2) (xlo xsw0 (by decide) g3) (xKi hq (fun x5 h4 hq e6 => ?_) (fun _ _ q _ => q))
  replace hq := hq e6
  refine x_pop dJ2_get_8 rfl ?_
  refine x_aload_n 0 dJ2_get_9 rfl ?_
  refine x_iload_n 1 dJ2_get_10 rfl ?_
  have t7 : tg h4 x0 = 29 := e6.tg g1 (by decide)
  obtain ⟨g8, g9, hq⟩ := hq
  refine x_callV (Yc := YJ2_elementData) (as := [.int x1]) (st := []) q2123 mvJ2_elementData t7 rfl dJ2_get_11 (xle (xal1 (rv_cat _) (xal1 rfl xal0)) (by decide)) (xfr g8) (xlo xsw0 (by decide) g9) (xKr hq (fun x11 h10 hq e12 => ?_) (fun _ _ q _ => q))
  replace hq := hq e12
  exact x_aret rfl xty_O dJ2_get_14 hq
theorem rJ2_get {G : xG} {fr lo : Nat} {x0 : Nat} {x1 : Int32} {h : xH} {Q : Outcome → xH → Prop} (hq : bJ2_get G fr lo x0 x1 h Q) : xR G YJ2_get fr lo [rv x0, .int x1] h Q := by
  show xP _ _ _ _ _ (lv_args 0 _) _ _ _
  rw [show lv_args 0 [rv x0, .int x1] = [(0, rv x0), (1, .int x1)] from (xla1 (rv_cat _) (xla1 rfl xla0))]
  exact uJ2_get hq
set_option maxRecDepth 100000 in
theorem dJ2_elementData_0 : decode cJ2_elementData 0 = .ok (.aload_n 0, 1) := by decide +kernel
set_option maxRecDepth 100000 in
theorem dJ2_elementData_1 : decode cJ2_elementData 1 = .ok (.getfield 9, 3) := by decide +kernel
set_option maxRecDepth 100000 in
theorem dJ2_elementData_4 : decode cJ2_elementData 4 = .ok (.iload_n 1, 1) := by decide +kernel
set_option maxRecDepth 100000 in
theorem dJ2_elementData_5 : decode cJ2_elementData 5 = .ok (.aaload, 1) := by decide +kernel
set_option maxRecDepth 100000 in
theorem dJ2_elementData_6 : decode cJ2_elementData 6 = .ok (.areturn, 1) := by decide +kernel
set_option maxRecDepth 100000 in
def bJ2_elementData (G : xG) (fr lo : Nat) (x0 : Nat) (x1 : Int32) (h : xH) (Q : Outcome → xH → Prop) : Prop := tg h x0 = 29 ∧ tg h (fR h x0 7169) = 105 ∧ vp_in x1 (ln h (fR h x0 7169)) ∧ Q (.returned (some (rv (aR h (fR h x0 7169) (Int32.toNatClampNeg x1))))) h
set_option maxRecDepth 100000 in
theorem uJ2_elementData {G : xG} {fr lo : Nat} {x0 : Nat} {x1 : Int32} {h : xH} {Q : Outcome → xH → Prop} (hq : bJ2_elementData G fr lo x0 x1 h Q) : xP G YJ2_elementData fr lo 0 [(0, rv x0), (1, .int x1)] [] h Q := by
  unfold bJ2_elementData at hq
  refine x_aload_n 0 dJ2_elementData_0 rfl ?_
  obtain ⟨g1, hq⟩ := hq
  refine x_get (v := rv (fR h x0 7169)) fdJ2_9 dJ2_elementData_1 g1 rfl ?_
  refine x_iload_n 1 dJ2_elementData_4 rfl ?_
  obtain ⟨g2, hq⟩ := hq
  obtain ⟨i3, hq⟩ := hq
  refine x_aald 5 rfl g2 (by decide) i3 dJ2_elementData_5 ?_
  exact x_aret rfl xty_O dJ2_elementData_6 hq
theorem rJ2_elementData {G : xG} {fr lo : Nat} {x0 : Nat} {x1 : Int32} {h : xH} {Q : Outcome → xH → Prop} (hq : bJ2_elementData G fr lo x0 x1 h Q) : xR G YJ2_elementData fr lo [rv x0, .int x1] h Q := by
  show xP _ _ _ _ _ (lv_args 0 _) _ _ _
  rw [show lv_args 0 [rv x0, .int x1] = [(0, rv x0), (1, .int x1)] from (xla1 (rv_cat _) (xla1 rfl xla0))]
  exact uJ2_elementData hq
set_option maxRecDepth 100000 in
theorem dJ2_init_2_0 : decode cJ2_init_2 0 = .ok (.aload_n 0, 1) := by decide +kernel
set_option maxRecDepth 100000 in
theorem dJ2_init_2_1 : decode cJ2_init_2 1 = .ok (.invokespecial 1, 3) := by decide +kernel
set_option maxRecDepth 100000 in
theorem dJ2_init_2_4 : decode cJ2_init_2 4 = .ok (.aload_n 0, 1) := by decide +kernel
set_option maxRecDepth 100000 in
theorem dJ2_init_2_5 : decode cJ2_init_2 5 = .ok (.getstatic 39, 3) := by decide +kernel
set_option maxRecDepth 100000 in
theorem dJ2_init_2_8 : decode cJ2_init_2 8 = .ok (.putfield 9, 3) := by decide +kernel
set_option maxRecDepth 100000 in
theorem dJ2_init_2_11 : decode cJ2_init_2 11 = .ok (.return_, 1) := by decide +kernel
set_option maxRecDepth 100000 in
def bJ2_init_2 (G : xG) (fr lo : Nat) (x0 : Nat) (h : xH) (Q : Outcome → xH → Prop) : Prop := tg h x0 = 29 ∧ 1 ≤ fr ∧ 12 ≤ lo ∧ xRv G YJ1_init (fr - 1) (lo - 12) [rv x0] h (fun h4 => xext h h4 → (∀ h8 : xH, h8 = sR h4 x0 7169 (xGS G 8) → Q (.returned none) h8)) (fun r h2 => Q (.threw r) h2)
set_option maxRecDepth 100000 in
theorem uJ2_init_2 {G : xG} {fr lo : Nat} {x0 : Nat} {h : xH} {Q : Outcome → xH → Prop} (hq : bJ2_init_2 G fr lo x0 h Q) : xP G YJ2_init_2 fr lo 0 [(0, rv x0)] [] h Q := by
  unfold bJ2_init_2 at hq
  refine x_aload_n 0 dJ2_init_2_0 rfl ?_
  obtain ⟨g1, hq⟩ := hq
  obtain ⟨g2, g3, hq⟩ := hq
  refine x_callI (Yc := YJ1_init) (as := []) (st := []) q505 miJ1_init (by rw [g1]; decide) rfl dJ2_init_2_1 (xle (xal1 (rv_cat _) xal0) (by decide)) (xfr g2) (xlo xsw0 (by decide) g3) (xKv hq (fun h4 hq e6 => ?_) (fun _ _ q _ => q))
  replace hq := hq e6
  refine x_aload_n 0 dJ2_init_2_4 rfl ?_
  refine x_gets (v := rv (xGS G 8)) 8 rfl q1025 (by simp [xsv]) dJ2_init_2_5 ?_
  have t7 : tg h4 x0 = 29 := e6.tg g1 (by decide)
  obtain ⟨h8, e9⟩ : ∃ y, y = sR h4 x0 7169 (xGS G 8) := ⟨_, rfl⟩
  replace hq := hq h8 e9
  refine x_putR fdJ2_9 xty_A dJ2_init_2_8 t7 (Or.inl (by rw [t7]; rfl)) rfl e9 ?_
  exact x_vret rfl dJ2_init_2_11 hq
theorem rJ2_init_2 {G : xG} {fr lo : Nat} {x0 : Nat} {h : xH} {Q : Outcome → xH → Prop} (hq : bJ2_init_2 G fr lo x0 h Q) : xR G YJ2_init_2 fr lo [rv x0] h Q := by
  show xP _ _ _ _ _ (lv_args 0 _) _ _ _
  rw [show lv_args 0 [rv x0] = [(0, rv x0)] from (xla1 (rv_cat _) xla0)]
  exact uJ2_init_2 hq
set_option maxRecDepth 100000 in
theorem dJ2_set_0 : decode cJ2_set 0 = .ok (.iload_n 1, 1) := by decide +kernel
set_option maxRecDepth 100000 in
theorem dJ2_set_1 : decode cJ2_set 1 = .ok (.aload_n 0, 1) := by decide +kernel
set_option maxRecDepth 100000 in
theorem dJ2_set_2 : decode cJ2_set 2 = .ok (.getfield 48, 3) := by decide +kernel
set_option maxRecDepth 100000 in
theorem dJ2_set_5 : decode cJ2_set 5 = .ok (.invokestatic 118, 3) := by decide +kernel
set_option maxRecDepth 100000 in
theorem dJ2_set_8 : decode cJ2_set 8 = .ok (.pop, 1) := by decide +kernel
set_option maxRecDepth 100000 in
theorem dJ2_set_9 : decode cJ2_set 9 = .ok (.aload_n 0, 1) := by decide +kernel
set_option maxRecDepth 100000 in
theorem dJ2_set_10 : decode cJ2_set 10 = .ok (.iload_n 1, 1) := by decide +kernel
set_option maxRecDepth 100000 in
theorem dJ2_set_11 : decode cJ2_set 11 = .ok (.invokevirtual 123, 3) := by decide +kernel
set_option maxRecDepth 100000 in
theorem dJ2_set_14 : decode cJ2_set 14 = .ok (.astore_n 3, 1) := by decide +kernel
set_option maxRecDepth 100000 in
theorem dJ2_set_15 : decode cJ2_set 15 = .ok (.aload_n 0, 1) := by decide +kernel
set_option maxRecDepth 100000 in
theorem dJ2_set_16 : decode cJ2_set 16 = .ok (.getfield 9, 3) := by decide +kernel
set_option maxRecDepth 100000 in
theorem dJ2_set_19 : decode cJ2_set 19 = .ok (.iload_n 1, 1) := by decide +kernel
set_option maxRecDepth 100000 in
theorem dJ2_set_20 : decode cJ2_set 20 = .ok (.aload_n 2, 1) := by decide +kernel
set_option maxRecDepth 100000 in
theorem dJ2_set_21 : decode cJ2_set 21 = .ok (.aastore, 1) := by decide +kernel
set_option maxRecDepth 100000 in
theorem dJ2_set_22 : decode cJ2_set 22 = .ok (.aload_n 3, 1) := by decide +kernel
set_option maxRecDepth 100000 in
theorem dJ2_set_23 : decode cJ2_set 23 = .ok (.areturn, 1) := by decide +kernel
set_option maxRecDepth 100000 in
def bJ2_set (G : xG) (fr lo : Nat) (x0 : Nat) (x1 : Int32) (x2 : Nat) (h : xH) (Q : Outcome → xH → Prop) : Prop := tg h x0 = 29 ∧ 1 ≤ fr ∧ 13 ≤ lo ∧ xRi G YJ16_checkIndex (fr - 1) (lo - 13) [.int x1, .int (fI h x0 7170)] h (fun x5 h4 => xext h h4 → 1 ≤ fr ∧ 13 ≤ lo ∧ xRr G YJ2_elementData (fr - 1) (lo - 13) [rv x0, .int x1] h4 (fun x11 h10 => xext h4 h10 → tg h10 (fR h10 x0 7169) = 105 ∧ xGB G < (fR h10 x0 7169) ∧ (∃ c17, xas 5 c17 ∧ tg h10 x2 = c17 + 1 ∧ vp_in x1 (ln h10 (fR h10 x0 7169)) ∧ (∀ h20 : xH, h20 = tR h10 (fR h10 x0 7169) (Int32.toNatClampNeg x1) x2 → Q (.returned (some (rv x11))) h20))) (fun r h2 => Q (.threw r) h2)) (fun r h2 => Q (.threw r) h2)
set_option maxRecDepth 100000 in
theorem uJ2_set {G : xG} {fr lo : Nat} {x0 : Nat} {x1 : Int32} {x2 : Nat} {h : xH} {Q : Outcome → xH → Prop} (hq : bJ2_set G fr lo x0 x1 x2 h Q) : xP G YJ2_set fr lo 0 [(0, rv x0), (1, .int x1), (2, rv x2)] [] h Q := by
  unfold bJ2_set at hq
  refine x_iload_n 1 dJ2_set_0 rfl ?_
  refine x_aload_n 0 dJ2_set_1 rfl ?_
  obtain ⟨g1, hq⟩ := hq
  refine x_get (v := .int (fI h x0 7170)) fdJ2_48 dJ2_set_2 g1 rfl ?_
  obtain ⟨g2, g3, hq⟩ := hq
  refine x_callS (Yc := YJ16_checkIndex) (as := [.int x1, .int (fI h x0 7170)]) (st := []) q2119 msJ16_checkIndex rfl dJ2_set_5 (xle (xal1 rfl (xal1 rfl xal0)) (by decide)) (xfr g2) (xlo xsw0 (by decide) g3) (xKi hq (fun x5 h4 hq e6 => ?_) (fun _ _ q _ => q))
  replace hq := hq e6
  refine x_pop dJ2_set_8 rfl ?_
  refine x_aload_n 0 dJ2_set_9 rfl ?_
  refine x_iload_n 1 dJ2_set_10 rfl ?_
  have t7 : tg h4 x0 = 29 := e6.tg g1 (by decide)
  obtain ⟨g8, g9, hq⟩ := hq
  refine x_callV (Yc := YJ2_elementData) (as := [.int x1]) (st := []) q2123 mvJ2_elementData t7 rfl dJ2_set_11 (xle (xal1 (rv_cat _) (xal1 rfl xal0)) (by decide)) (xfr g8) (xlo xsw0 (by decide) g9) (xKr hq (fun x11 h10 hq e12 => ?_) (fun _ _ q _ => q))
  replace hq := hq e12
  refine x_astore_n (lv' := [(3, rv x11), (0, rv x0), (1, .int x1), (2, rv x2)]) dJ2_set_14 (by decide) (by first | rfl | (simp [rv_cat, Value.category]; done) | (simp [rv_cat, Value.category]; decide)) ?_
  refine x_aload_n 1 dJ2_set_15 rfl ?_
  have t13 : tg h10 x0 = 29 := e12.tg t7 (by decide)
  refine x_get (v := rv (fR h10 x0 7169)) fdJ2_9 dJ2_set_16 t13 rfl ?_
  refine x_iload_n 2 dJ2_set_19 rfl ?_
  refine x_aload_n 3 dJ2_set_20 rfl ?_
  obtain ⟨g14, hq⟩ := hq
  obtain ⟨w15, hq⟩ := hq
  obtain ⟨c17, g18, g16, hq⟩ := hq
  obtain ⟨i19, hq⟩ := hq
  obtain ⟨h20, e21⟩ : ∃ y, y = tR h10 (fR h10 x0 7169) (Int32.toNatClampNeg x1) x2 := ⟨_, rfl⟩
  replace hq := hq h20 e21
  refine x_aast 5 c17 g18 g14 (Or.inr w15) g16 i19 dJ2_set_21 e21 ?_
  refine x_aload_n 0 dJ2_set_22 rfl ?_
  exact x_aret rfl xty_O dJ2_set_23 hq
theorem rJ2_set {G : xG} {fr lo : Nat} {x0 : Nat} {x1 : Int32} {x2 : Nat} {h : xH} {Q : Outcome → xH → Prop} (hq : bJ2_set G fr lo x0 x1 x2 h Q) : xR G YJ2_set fr lo [rv x0, .int x1, rv x2] h Q := by
  show xP _ _ _ _ _ (lv_args 0 _) _ _ _
  rw [show lv_args 0 [rv x0, .int x1, rv x2] = [(0, rv x0), (1, .int x1), (2, rv x2)] from (xla1 (rv_cat _) (xla1 rfl (xla1 (rv_cat _) xla0)))]
  exact uJ2_set hq
set_option maxRecDepth 100000 in
theorem dJ2_remove_0 : decode cJ2_remove 0 = .ok (.iload_n 1, 1) := by decide +kernel
set_option maxRecDepth 100000 in
theorem dJ2_remove_1 : decode cJ2_remove 1 = .ok (.aload_n 0, 1) := by decide +kernel
set_option maxRecDepth 100000 in
theorem dJ2_remove_2 : decode cJ2_remove 2 = .ok (.getfield 48, 3) := by decide +kernel
set_option maxRecDepth 100000 in
theorem dJ2_remove_5 : decode cJ2_remove 5 = .ok (.invokestatic 118, 3) := by decide +kernel
set_option maxRecDepth 100000 in
theorem dJ2_remove_8 : decode cJ2_remove 8 = .ok (.pop, 1) := by decide +kernel
set_option maxRecDepth 100000 in
theorem dJ2_remove_9 : decode cJ2_remove 9 = .ok (.aload_n 0, 1) := by decide +kernel
set_option maxRecDepth 100000 in
theorem dJ2_remove_10 : decode cJ2_remove 10 = .ok (.getfield 9, 3) := by decide +kernel
set_option maxRecDepth 100000 in
theorem dJ2_remove_13 : decode cJ2_remove 13 = .ok (.astore_n 2, 1) := by decide +kernel
set_option maxRecDepth 100000 in
theorem dJ2_remove_14 : decode cJ2_remove 14 = .ok (.aload_n 2, 1) := by decide +kernel
set_option maxRecDepth 100000 in
theorem dJ2_remove_15 : decode cJ2_remove 15 = .ok (.iload_n 1, 1) := by decide +kernel
set_option maxRecDepth 100000 in
theorem dJ2_remove_16 : decode cJ2_remove 16 = .ok (.aaload, 1) := by decide +kernel
set_option maxRecDepth 100000 in
theorem dJ2_remove_17 : decode cJ2_remove 17 = .ok (.astore_n 3, 1) := by decide +kernel
set_option maxRecDepth 100000 in
theorem dJ2_remove_18 : decode cJ2_remove 18 = .ok (.aload_n 0, 1) := by decide +kernel
set_option maxRecDepth 100000 in
theorem dJ2_remove_19 : decode cJ2_remove 19 = .ok (.aload_n 2, 1) := by decide +kernel
set_option maxRecDepth 100000 in
theorem dJ2_remove_20 : decode cJ2_remove 20 = .ok (.iload_n 1, 1) := by decide +kernel
set_option maxRecDepth 100000 in
theorem dJ2_remove_21 : decode cJ2_remove 21 = .ok (.invokevirtual 144, 3) := by decide +kernel
set_option maxRecDepth 100000 in
theorem dJ2_remove_24 : decode cJ2_remove 24 = .ok (.aload_n 3, 1) := by decide +kernel
set_option maxRecDepth 100000 in
theorem dJ2_remove_25 : decode cJ2_remove 25 = .ok (.areturn, 1) := by decide +kernel
set_option maxRecDepth 100000 in
def bJ2_remove (G : xG) (fr lo : Nat) (x0 : Nat) (x1 : Int32) (h : xH) (Q : Outcome → xH → Prop) : Prop := tg h x0 = 29 ∧ 1 ≤ fr ∧ 13 ≤ lo ∧ xRi G YJ16_checkIndex (fr - 1) (lo - 13) [.int x1, .int (fI h x0 7170)] h (fun x5 h4 => xext h h4 → tg h4 (fR h4 x0 7169) = 105 ∧ vp_in x1 (ln h4 (fR h4 x0 7169)) ∧ 1 ≤ fr ∧ 15 ≤ lo ∧ xRv G YJ2_fastRemove (fr - 1) (lo - 15) [rv x0, rv (fR h4 x0 7169), .int x1] h4 (fun h12 => xext h4 h12 → Q (.returned (some (rv (aR h4 (fR h4 x0 7169) (Int32.toNatClampNeg x1))))) h12) (fun r h2 => Q (.threw r) h2)) (fun r h2 => Q (.threw r) h2)
set_option maxRecDepth 100000 in
theorem uJ2_remove {G : xG} {fr lo : Nat} {x0 : Nat} {x1 : Int32} {h : xH} {Q : Outcome → xH → Prop} (hq : bJ2_remove G fr lo x0 x1 h Q) : xP G YJ2_remove fr lo 0 [(0, rv x0), (1, .int x1)] [] h Q := by
  unfold bJ2_remove at hq
  refine x_iload_n 1 dJ2_remove_0 rfl ?_
  refine x_aload_n 0 dJ2_remove_1 rfl ?_
  obtain ⟨g1, hq⟩ := hq
  refine x_get (v := .int (fI h x0 7170)) fdJ2_48 dJ2_remove_2 g1 rfl ?_
  obtain ⟨g2, g3, hq⟩ := hq
  refine x_callS (Yc := YJ16_checkIndex) (as := [.int x1, .int (fI h x0 7170)]) (st := []) q2119 msJ16_checkIndex rfl dJ2_remove_5 (xle (xal1 rfl (xal1 rfl xal0)) (by decide)) (xfr g2) (xlo xsw0 (by decide) g3) (xKi hq (fun x5 h4 hq e6 => ?_) (fun _ _ q _ => q))
  replace hq := hq e6
  refine x_pop dJ2_remove_8 rfl ?_
  refine x_aload_n 0 dJ2_remove_9 rfl ?_
  have t7 : tg h4 x0 = 29 := e6.tg g1 (by decide)
  refine x_get (v := rv (fR h4 x0 7169)) fdJ2_9 dJ2_remove_10 t7 rfl ?_
  refine x_astore_n (lv' := [(2, rv (fR h4 x0 7169)), (0, rv x0), (1, .int x1)]) dJ2_remove_13 (by decide) rfl ?_
  refine x_aload_n 0 dJ2_remove_14 rfl ?_
  refine x_iload_n 2 dJ2_remove_15 rfl ?_
  obtain ⟨g8, hq⟩ := hq
  obtain ⟨i9, hq⟩ := hq
  refine x_aald 5 rfl g8 (by decide) i9 dJ2_remove_16 ?_
  refine x_astore_n (lv' := [(3, rv (aR h4 (fR h4 x0 7169) (Int32.toNatClampNeg x1))), (2, rv (fR h4 x0 7169)), (0, rv x0), (1, .int x1)]) dJ2_remove_17 (by decide) (by first | rfl | (simp [rv_cat, Value.category]; done) | (simp [rv_cat, Value.category]; decide)) ?_
  refine x_aload_n 2 dJ2_remove_18 rfl ?_
  refine x_aload_n 1 dJ2_remove_19 rfl ?_
  refine x_iload_n 3 dJ2_remove_20 rfl ?_
  obtain ⟨g10, g11, hq⟩ := hq
  refine x_callV (Yc := YJ2_fastRemove) (as := [rv (fR h4 x0 7169), .int x1]) (st := []) q4291 mvJ2_fastRemove t7 rfl dJ2_remove_21 (xle (xal1 (rv_cat _) (xal1 (rv_cat _) (xal1 rfl xal0))) (by decide)) (xfr g10) (xlo xsw0 (by decide) g11) (xKv hq (fun h12 hq e14 => ?_) (fun _ _ q _ => q))
  replace hq := hq e14
  refine x_aload_n 0 dJ2_remove_24 rfl ?_
  exact x_aret rfl xty_O dJ2_remove_25 hq
theorem rJ2_remove {G : xG} {fr lo : Nat} {x0 : Nat} {x1 : Int32} {h : xH} {Q : Outcome → xH → Prop} (hq : bJ2_remove G fr lo x0 x1 h Q) : xR G YJ2_remove fr lo [rv x0, .int x1] h Q := by
  show xP _ _ _ _ _ (lv_args 0 _) _ _ _
  rw [show lv_args 0 [rv x0, .int x1] = [(0, rv x0), (1, .int x1)] from (xla1 (rv_cat _) (xla1 rfl xla0))]
  exact uJ2_remove hq
set_option maxRecDepth 100000 in
theorem dJ2_fastRemove_0 : decode cJ2_fastRemove 0 = .ok (.aload_n 0, 1) := by decide +kernel
set_option maxRecDepth 100000 in
theorem dJ2_fastRemove_1 : decode cJ2_fastRemove 1 = .ok (.dup, 1) := by decide +kernel
set_option maxRecDepth 100000 in
theorem dJ2_fastRemove_2 : decode cJ2_fastRemove 2 = .ok (.getfield 63, 3) := by decide +kernel
set_option maxRecDepth 100000 in
theorem dJ2_fastRemove_5 : decode cJ2_fastRemove 5 = .ok (.iconst 1, 1) := by decide +kernel
set_option maxRecDepth 100000 in
theorem dJ2_fastRemove_6 : decode cJ2_fastRemove 6 = .ok (.iadd, 1) := by decide +kernel
set_option maxRecDepth 100000 in
theorem dJ2_fastRemove_7 : decode cJ2_fastRemove 7 = .ok (.putfield 63, 3) := by decide +kernel
set_option maxRecDepth 100000 in
theorem dJ2_fastRemove_10 : decode cJ2_fastRemove 10 = .ok (.aload_n 0, 1) := by decide +kernel
set_option maxRecDepth 100000 in
theorem dJ2_fastRemove_11 : decode cJ2_fastRemove 11 = .ok (.getfield 48, 3) := by decide +kernel
set_option maxRecDepth 100000 in
theorem dJ2_fastRemove_14 : decode cJ2_fastRemove 14 = .ok (.iconst 1, 1) := by decide +kernel
set_option maxRecDepth 100000 in
theorem dJ2_fastRemove_15 : decode cJ2_fastRemove 15 = .ok (.isub, 1) := by decide +kernel
set_option maxRecDepth 100000 in
theorem dJ2_fastRemove_16 : decode cJ2_fastRemove 16 = .ok (.dup, 1) := by decide +kernel
set_option maxRecDepth 100000 in
theorem dJ2_fastRemove_17 : decode cJ2_fastRemove 17 = .ok (.istore_n 3, 1) := by decide +kernel
set_option maxRecDepth 100000 in
theorem dJ2_fastRemove_18 : decode cJ2_fastRemove 18 = .ok (.iload_n 2, 1) := by decide +kernel
set_option maxRecDepth 100000 in
theorem dJ2_fastRemove_19 : decode cJ2_fastRemove 19 = .ok (.if_icmp .le 15, 3) := by decide +kernel
set_option maxRecDepth 100000 in
theorem dJ2_fastRemove_22 : decode cJ2_fastRemove 22 = .ok (.aload_n 1, 1) := by decide +kernel
set_option maxRecDepth 100000 in
theorem dJ2_fastRemove_23 : decode cJ2_fastRemove 23 = .ok (.iload_n 2, 1) := by decide +kernel
set_option maxRecDepth 100000 in
theorem dJ2_fastRemove_24 : decode cJ2_fastRemove 24 = .ok (.iconst 1, 1) := by decide +kernel
set_option maxRecDepth 100000 in
theorem dJ2_fastRemove_25 : decode cJ2_fastRemove 25 = .ok (.iadd, 1) := by decide +kernel
set_option maxRecDepth 100000 in
theorem dJ2_fastRemove_26 : decode cJ2_fastRemove 26 = .ok (.aload_n 1, 1) := by decide +kernel
set_option maxRecDepth 100000 in
theorem dJ2_fastRemove_27 : decode cJ2_fastRemove 27 = .ok (.iload_n 2, 1) := by decide +kernel
set_option maxRecDepth 100000 in
theorem dJ2_fastRemove_28 : decode cJ2_fastRemove 28 = .ok (.iload_n 3, 1) := by decide +kernel
set_option maxRecDepth 100000 in
theorem dJ2_fastRemove_29 : decode cJ2_fastRemove 29 = .ok (.iload_n 2, 1) := by decide +kernel
set_option maxRecDepth 100000 in
theorem dJ2_fastRemove_30 : decode cJ2_fastRemove 30 = .ok (.isub, 1) := by decide +kernel
set_option maxRecDepth 100000 in
theorem dJ2_fastRemove_31 : decode cJ2_fastRemove 31 = .ok (.invokestatic 112, 3) := by decide +kernel
set_option maxRecDepth 100000 in
theorem dJ2_fastRemove_34 : decode cJ2_fastRemove 34 = .ok (.aload_n 1, 1) := by decide +kernel
set_option maxRecDepth 100000 in
theorem dJ2_fastRemove_35 : decode cJ2_fastRemove 35 = .ok (.aload_n 0, 1) := by decide +kernel
set_option maxRecDepth 100000 in
theorem dJ2_fastRemove_36 : decode cJ2_fastRemove 36 = .ok (.iload_n 3, 1) := by decide +kernel
set_option maxRecDepth 100000 in
theorem dJ2_fastRemove_37 : decode cJ2_fastRemove 37 = .ok (.dup_x1, 1) := by decide +kernel
set_option maxRecDepth 100000 in
theorem dJ2_fastRemove_38 : decode cJ2_fastRemove 38 = .ok (.putfield 48, 3) := by decide +kernel
set_option maxRecDepth 100000 in
theorem dJ2_fastRemove_41 : decode cJ2_fastRemove 41 = .ok (.aconst_null, 1) := by decide +kernel
set_option maxRecDepth 100000 in
theorem dJ2_fastRemove_42 : decode cJ2_fastRemove 42 = .ok (.aastore, 1) := by decide +kernel
set_option maxRecDepth 100000 in
theorem dJ2_fastRemove_43 : decode cJ2_fastRemove 43 = .ok (.return_, 1) := by decide +kernel
set_option maxRecDepth 100000 in
def bJ2_fastRemove_34 (G : xG) (fr lo : Nat) (x0 : Nat) (x1 : Nat) (x3 : Int32) (h : xH) (Q : Outcome → xH → Prop) : Prop := tg h x0 = 29 ∧ (∀ h2 : xH, h2 = sI h x0 7170 x3 → tg h2 x1 = 105 ∧ xGB G < x1 ∧ vp_in x3 (ln h2 x1) ∧ (∀ h7 : xH, h7 = tR h2 x1 (Int32.toNatClampNeg x3) 0 → Q (.returned none) h7))
set_option maxRecDepth 100000 in
theorem uJ2_fastRemove_34 {G : xG} {fr lo : Nat} {x0 : Nat} {x1 : Nat} {x3 : Int32} {h : xH} {Q : Outcome → xH → Prop} (hq : bJ2_fastRemove_34 G fr lo x0 x1 x3 h Q) : xP G YJ2_fastRemove fr lo 34 [(0, rv x0), (1, rv x1), (3, .int x3)] [] h Q := by
  unfold bJ2_fastRemove_34 at hq
  refine x_aload_n 1 dJ2_fastRemove_34 rfl ?_
  refine x_aload_n 0 dJ2_fastRemove_35 rfl ?_
  refine x_iload_n 2 dJ2_fastRemove_36 rfl ?_
  refine x_dup_x1 dJ2_fastRemove_37 rfl (rv_cat _) ?_
  obtain ⟨g1, hq⟩ := hq
  obtain ⟨h2, e3⟩ : ∃ y, y = sI h x0 7170 x3 := ⟨_, rfl⟩
  replace hq := hq h2 e3
  refine x_putI fdJ2_48 xty_I1 dJ2_fastRemove_38 g1 (Or.inl (by rw [g1]; rfl)) xnI rfl e3 ?_
  refine x_null dJ2_fastRemove_41 ?_
  obtain ⟨g4, hq⟩ := hq
  obtain ⟨w5, hq⟩ := hq
  obtain ⟨i6, hq⟩ := hq
  obtain ⟨h7, e8⟩ : ∃ y, y = tR h2 x1 (Int32.toNatClampNeg x3) 0 := ⟨_, rfl⟩
  replace hq := hq h7 e8
  refine x_aastN 5 rfl (by decide) g4 (Or.inr w5) i6 dJ2_fastRemove_42 e8 ?_
  exact x_vret rfl dJ2_fastRemove_43 hq
set_option maxRecDepth 100000 in
def bJ2_fastRemove (G : xG) (fr lo : Nat) (x0 : Nat) (x1 : Nat) (x2 : Int32) (h : xH) (Q : Outcome → xH → Prop) : Prop := tg h x0 = 29 ∧ (∀ h2 : xH, h2 = sI h x0 7168 ((fI h x0 7168) + 1) → ((((fI h2 x0 7170) - 1) ≤ x2 → bJ2_fastRemove_34 G fr lo x0 x1 ((fI h2 x0 7170) - 1) h2 Q) ∧ (¬ ((fI h2 x0 7170) - 1) ≤ x2 → tg h2 x1 = 105 ∧ xGB G < x1 ∧ xGB G < x1 ∧ xcpr h2 x1 x1 (x2 + 1) x2 (((fI h2 x0 7170) - 1) - x2) ∧ (∀ i, i < (Int32.toNatClampNeg (((fI h2 x0 7170) - 1) - x2)) → xrf h2 (aR h2 x1 ((Int32.toNatClampNeg (x2 + 1)) + i))) ∧ 1 ≤ fr ∧ 18 ≤ lo ∧ (∀ h13 : xH, h13 = cR h2 x1 (va_cpy (aR h2 x1) (aR h2 x1) (Int32.toNatClampNeg (x2 + 1)) (Int32.toNatClampNeg x2) (Int32.toNatClampNeg (((fI h2 x0 7170) - 1) - x2))) → bJ2_fastRemove_34 G fr lo x0 x1 ((fI h2 x0 7170) - 1) h13 Q))))
set_option maxRecDepth 100000 in
theorem uJ2_fastRemove {G : xG} {fr lo : Nat} {x0 : Nat} {x1 : Nat} {x2 : Int32} {h : xH} {Q : Outcome → xH → Prop} (hq : bJ2_fastRemove G fr lo x0 x1 x2 h Q) : xP G YJ2_fastRemove fr lo 0 [(0, rv x0), (1, rv x1), (2, .int x2)] [] h Q := by
  unfold bJ2_fastRemove at hq
  refine x_aload_n 0 dJ2_fastRemove_0 rfl ?_
  refine x_dup dJ2_fastRemove_1 (rv_cat _) ?_
  obtain ⟨g1, hq⟩ := hq
  refine x_getS (v := .int (fI h x0 7168)) fsJ2_63 dJ2_fastRemove_2 g1 rfl ?_
  refine x_iconst (v := 1) dJ2_fastRemove_5 (by decide) ?_
  refine x_iadd dJ2_fastRemove_6 ?_
  obtain ⟨h2, e3⟩ : ∃ y, y = sI h x0 7168 ((fI h x0 7168) + 1) := ⟨_, rfl⟩
  replace hq := hq h2 e3
  refine x_putSI fsJ2_63 dJ2_fastRemove_7 g1 (Or.inl (by rw [g1]; rfl)) rfl e3 ?_
  refine x_aload_n 0 dJ2_fastRemove_10 rfl ?_
  have t4 : tg h2 x0 = 29 := by rw [e3]; exact g1
  refine x_get (v := .int (fI h2 x0 7170)) fdJ2_48 dJ2_fastRemove_11 t4 rfl ?_
  refine x_iconst (v := 1) dJ2_fastRemove_14 (by decide) ?_
  refine x_isub dJ2_fastRemove_15 ?_
  refine x_dup dJ2_fastRemove_16 rfl ?_
  refine x_istore_n (lv' := [(3, .int ((fI h2 x0 7170) - 1)), (0, rv x0), (1, rv x1), (2, .int x2)]) dJ2_fastRemove_17 (by decide) rfl ?_
  refine x_iload_n 3 dJ2_fastRemove_18 rfl ?_
  refine x_icmp_le (tgt := 34) dJ2_fastRemove_19 (by decide) (fun c5 => ?_) (fun c5 => ?_)
  · replace hq := hq.1 c5
    refine xP.pick (lv' := [(0, rv x0), (1, rv x1), (3, .int ((fI h2 x0 7170) - 1))]) [1, 2, 0] rfl ?_
    exact uJ2_fastRemove_34 hq
  · replace hq := hq.2 c5
    refine x_aload_n 2 dJ2_fastRemove_22 rfl ?_
    refine x_iload_n 3 dJ2_fastRemove_23 rfl ?_
    refine x_iconst (v := 1) dJ2_fastRemove_24 (by decide) ?_
    refine x_iadd dJ2_fastRemove_25 ?_
    refine x_aload_n 2 dJ2_fastRemove_26 rfl ?_
    refine x_iload_n 3 dJ2_fastRemove_27 rfl ?_
    refine x_iload_n 0 dJ2_fastRemove_28 rfl ?_
    refine x_iload_n 3 dJ2_fastRemove_29 rfl ?_
    refine x_isub dJ2_fastRemove_30 ?_
    obtain ⟨g6, hq⟩ := hq
    obtain ⟨w7, hq⟩ := hq
    obtain ⟨w8, hq⟩ := hq
    obtain ⟨g9, g10, hq⟩ := hq
    obtain ⟨g11, g12, hq⟩ := hq
    obtain ⟨h13, e14⟩ : ∃ y, y = cR h2 x1 (va_cpy (aR h2 x1) (aR h2 x1) (Int32.toNatClampNeg (x2 + 1)) (Int32.toNatClampNeg x2) (Int32.toNatClampNeg (((fI h2 x0 7170) - 1) - x2))) := ⟨_, rfl⟩
    replace hq := hq h13 e14
    refine x_copyO cwJ2_112 dJ2_fastRemove_31 g6 g6 (Or.inr w8) (Or.inr w7) g9 g10 g11 (by simp only [List.map_cons, List.map_nil, List.sum_cons, List.sum_nil, rv_cat, Value.category]; omega) e14 ?_
    refine xP.pick (lv' := [(0, rv x0), (1, rv x1), (3, .int ((fI h2 x0 7170) - 1))]) [1, 2, 0] rfl ?_
    exact uJ2_fastRemove_34 hq
theorem rJ2_fastRemove {G : xG} {fr lo : Nat} {x0 : Nat} {x1 : Nat} {x2 : Int32} {h : xH} {Q : Outcome → xH → Prop} (hq : bJ2_fastRemove G fr lo x0 x1 x2 h Q) : xR G YJ2_fastRemove fr lo [rv x0, rv x1, .int x2] h Q := by
  show xP _ _ _ _ _ (lv_args 0 _) _ _ _
  rw [show lv_args 0 [rv x0, rv x1, .int x2] = [(0, rv x0), (1, rv x1), (2, .int x2)] from (xla1 (rv_cat _) (xla1 (rv_cat _) (xla1 rfl xla0)))]
  exact uJ2_fastRemove hq
