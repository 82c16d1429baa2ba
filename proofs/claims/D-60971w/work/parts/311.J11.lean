/-! java/util/Arrays, walked (1) -/
set_option maxRecDepth 100000 in
theorem dJ11_copyOf_0 : decode cJ11_copyOf 0 = .ok (.iload_n 1, 1) := by decide +kernel
set_option maxRecDepth 100000 in
theorem dJ11_copyOf_1 : decode cJ11_copyOf 1 = .ok (.aload_n 0, 1) := by decide +kernel
set_option maxRecDepth 100000 in
theorem dJ11_copyOf_2 : decode cJ11_copyOf 2 = .ok (.arraylength, 1) := by decide +kernel
set_option maxRecDepth 100000 in
theorem dJ11_copyOf_3 : decode cJ11_copyOf 3 = .ok (.if_icmp .ne 11, 3) := by decide +kernel
set_option maxRecDepth 100000 in
theorem dJ11_copyOf_6 : decode cJ11_copyOf 6 = .ok (.aload_n 0, 1) := by decide +kernel
set_option maxRecDepth 100000 in
theorem dJ11_copyOf_7 : decode cJ11_copyOf 7 = .ok (.invokevirtual 310, 3) := by decide +kernel
set_option maxRecDepth 100000 in
theorem dJ11_copyOf_10 : decode cJ11_copyOf 10 = .ok (.checkcast 311, 3) := by decide +kernel
set_option maxRecDepth 100000 in
theorem dJ11_copyOf_13 : decode cJ11_copyOf 13 = .ok (.areturn, 1) := by decide +kernel
set_option maxRecDepth 100000 in
theorem dJ11_copyOf_14 : decode cJ11_copyOf 14 = .ok (.iload_n 1, 1) := by decide +kernel
set_option maxRecDepth 100000 in
theorem dJ11_copyOf_15 : decode cJ11_copyOf 15 = .ok (.newarray .byte, 2) := by decide +kernel
set_option maxRecDepth 100000 in
theorem dJ11_copyOf_17 : decode cJ11_copyOf 17 = .ok (.astore_n 2, 1) := by decide +kernel
set_option maxRecDepth 100000 in
theorem dJ11_copyOf_18 : decode cJ11_copyOf 18 = .ok (.aload_n 0, 1) := by decide +kernel
set_option maxRecDepth 100000 in
theorem dJ11_copyOf_19 : decode cJ11_copyOf 19 = .ok (.iconst 0, 1) := by decide +kernel
set_option maxRecDepth 100000 in
theorem dJ11_copyOf_20 : decode cJ11_copyOf 20 = .ok (.aload_n 2, 1) := by decide +kernel
set_option maxRecDepth 100000 in
theorem dJ11_copyOf_21 : decode cJ11_copyOf 21 = .ok (.iconst 0, 1) := by decide +kernel
set_option maxRecDepth 100000 in
theorem dJ11_copyOf_22 : decode cJ11_copyOf 22 = .ok (.aload_n 0, 1) := by decide +kernel
set_option maxRecDepth 100000 in
theorem dJ11_copyOf_23 : decode cJ11_copyOf 23 = .ok (.arraylength, 1) := by decide +kernel
set_option maxRecDepth 100000 in
theorem dJ11_copyOf_24 : decode cJ11_copyOf 24 = .ok (.iload_n 1, 1) := by decide +kernel
set_option maxRecDepth 100000 in
theorem dJ11_copyOf_25 : decode cJ11_copyOf 25 = .ok (.invokestatic 304, 3) := by decide +kernel
set_option maxRecDepth 100000 in
theorem dJ11_copyOf_28 : decode cJ11_copyOf 28 = .ok (.invokestatic 150, 3) := by decide +kernel
set_option maxRecDepth 100000 in
theorem dJ11_copyOf_31 : decode cJ11_copyOf 31 = .ok (.aload_n 2, 1) := by decide +kernel
set_option maxRecDepth 100000 in
theorem dJ11_copyOf_32 : decode cJ11_copyOf 32 = .ok (.areturn, 1) := by decide +kernel
set_option maxRecDepth 100000 in
def bJ11_copyOf (G : xG) (fr lo : Nat) (x0 : Nat) (x1 : Int32) (h : xH) (Q : Outcome → xH → Prop) : Prop := tg h x0 = 103 ∧ ((¬ x1 = (Int32.ofNat (ln h x0)) → ¬ x1 < 0 ∧ Int32.toNatClampNeg x1 ≤ 1000000 ∧ nx h + 1 ≤ xGN G ∧ us h + (Int32.toNatClampNeg x1) ≤ xGU G ∧ (∀ (a7 : Nat) (h8 : xH), a7 = nx h + 1 → h8 = nA h 103 (Int32.toNatClampNeg x1) → xfresh h a7 → 1 ≤ fr ∧ 17 ≤ lo ∧ xRi G YJ10_min (fr - 1) (lo - 17) [.int (Int32.ofNat (ln h8 x0)), .int x1] h8 (fun x17 h16 => xext h8 h16 → xGB G < a7 ∧ xcpr h16 x0 a7 0 0 x17 ∧ (∀ i, i < (Int32.toNatClampNeg x17) → xby (aI h16 x0 ((Int32.toNatClampNeg 0) + i))) ∧ 1 ≤ fr ∧ 18 ≤ lo ∧ (∀ h26 : xH, h26 = cI h16 a7 (va_cpy (aI h16 x0) (aI h16 a7) (Int32.toNatClampNeg 0) (Int32.toNatClampNeg 0) (Int32.toNatClampNeg x17)) → Q (.returned (some (rv a7))) h26)) (fun r h2 => Q (.threw r) h2))) ∧ (x1 = (Int32.ofNat (ln h x0)) → xGB G < x0 ∧ (∀ i, i < ln h x0 → xby (aI h x0 i)) ∧ 1 ≤ fr ∧ 14 ≤ lo ∧ nx h + 1 ≤ xGN G ∧ us h + ln h x0 ≤ xGU G ∧ (∀ (a34 : Nat) (h35 : xH), a34 = nx h + 1 → h35 = cI (nA h 103 (ln h x0)) (nx h + 1) (aI h x0) → xfresh h a34 → xGB G < a34 ∧ Q (.returned (some (rv a34))) h35)))
set_option maxRecDepth 100000 in
theorem uJ11_copyOf {G : xG} {fr lo : Nat} {x0 : Nat} {x1 : Int32} {h : xH} {Q : Outcome → xH → Prop} (hq : bJ11_copyOf G fr lo x0 x1 h Q) : xP G YJ11_copyOf fr lo 0 [(0, rv x0), (1, .int x1)] [] h Q := by
  unfold bJ11_copyOf at hq
  refine x_iload_n 1 dJ11_copyOf_0 rfl ?_
  refine x_aload_n 0 dJ11_copyOf_1 rfl ?_
  obtain ⟨g1, hq⟩ := hq
  refine x_alen 3 g1 (by decide) dJ11_copyOf_2 ?_
  refine x_icmp_ne (tgt := 14) dJ11_copyOf_3 (by decide) (fun c2 => ?_) (fun c2 => ?_)
  · replace hq := hq.1 c2
    refine x_iload_n 1 dJ11_copyOf_14 rfl ?_
    obtain ⟨g3, g4, hq⟩ := hq
    obtain ⟨g5, g6, hq⟩ := hq
    obtain ⟨a7, e9⟩ : ∃ y, y = nx h + 1 := ⟨_, rfl⟩
    obtain ⟨h8, e10⟩ : ∃ y, y = nA h 103 (Int32.toNatClampNeg x1) := ⟨_, rfl⟩
    refine x_newa' 3 pk_byte dJ11_copyOf_15 g3 g4 g5 g6 e9 e10 (fun f11 => ?_)
    replace hq := hq a7 h8 e9 e10 f11
    have t12 : tg h8 a7 = 103 := by rw [e10, e9]; exact tg_nA
    refine x_astore_n (lv' := [(2, rv a7), (0, rv x0), (1, .int x1)]) dJ11_copyOf_17 (by decide) rfl ?_
    refine x_aload_n 1 dJ11_copyOf_18 rfl ?_
    refine x_iconst (v := 0) dJ11_copyOf_19 (by decide) ?_
    refine x_aload_n 0 dJ11_copyOf_20 rfl ?_
    refine x_iconst (v := 0) dJ11_copyOf_21 (by decide) ?_
    refine x_aload_n 1 dJ11_copyOf_22 rfl ?_
    have t13 : tg h8 x0 = 103 := by rw [e10]; exact tg_nA_ne e9 f11 g1 (by decide)
    refine x_alen 3 t13 (by decide) dJ11_copyOf_23 ?_
    refine x_iload_n 2 dJ11_copyOf_24 rfl ?_
    obtain ⟨g14, g15, hq⟩ := hq
    refine x_callS (Yc := YJ10_min) (as := [.int (Int32.ofNat (ln h8 x0)), .int x1]) (st := [.int 0, rv a7, .int 0, rv x0]) q863 msJ10_min rfl dJ11_copyOf_25 (xle (xal1 rfl (xal1 rfl xal0)) (by decide)) (xfr g14) (xlo (xsw1 rfl (xsw1 (rv_cat _) (xsw1 rfl (xsw1 (rv_cat _) xsw0)))) (by decide) g15) (xKi hq (fun x17 h16 hq e18 => ?_) (fun _ _ q _ => q))
    replace hq := hq e18
    have t19 : tg h16 x0 = 103 := e18.tg t13 (by decide)
    have t20 : tg h16 a7 = 103 := e18.tg t12 (by decide)
    obtain ⟨w21, hq⟩ := hq
    obtain ⟨g22, g23, hq⟩ := hq
    obtain ⟨g24, g25, hq⟩ := hq
    obtain ⟨h26, e27⟩ : ∃ y, y = cI h16 a7 (va_cpy (aI h16 x0) (aI h16 a7) (Int32.toNatClampNeg 0) (Int32.toNatClampNeg 0) (Int32.toNatClampNeg x17)) := ⟨_, rfl⟩
    replace hq := hq h26 e27
    refine x_copyB cwJ11_150 dJ11_copyOf_28 t19 t20 (Or.inr w21) g22 g23 g24 (by simp only [List.map_cons, List.map_nil, List.sum_cons, List.sum_nil, rv_cat, Value.category]; omega) e27 ?_
    refine x_aload_n 0 dJ11_copyOf_31 rfl ?_
    exact x_aret rfl xty_A dJ11_copyOf_32 hq
  · replace hq := hq.2 c2
    refine x_aload_n 0 dJ11_copyOf_6 rfl ?_
    obtain ⟨w28, hq⟩ := hq
    obtain ⟨g29, hq⟩ := hq
    obtain ⟨g30, g31, hq⟩ := hq
    obtain ⟨g32, g33, hq⟩ := hq
    obtain ⟨a34, e36⟩ : ∃ y, y = nx h + 1 := ⟨_, rfl⟩
    obtain ⟨h35, e37⟩ : ∃ y, y = cI (nA h 103 (ln h x0)) (nx h + 1) (aI h x0) := ⟨_, rfl⟩
    refine x_cloneB kwJ11_310 dJ11_copyOf_7 g1 (Or.inr w28) g29 g30 (by simp only [List.map_cons, List.map_nil, List.sum_cons, List.sum_nil, rv_cat, Value.category]; omega) g32 g33 e36 e37 (fun f38 => ?_)
    replace hq := hq a34 h35 e36 e37 f38
    have t39 : tg h35 a34 = 103 := by rw [e37, e36]; exact tg_nA
    obtain ⟨w40, hq⟩ := hq
    refine x_castB q862 t39 (Or.inr w40) dJ11_copyOf_10 ?_
    exact x_aret rfl xty_A dJ11_copyOf_13 hq
theorem rJ11_copyOf {G : xG} {fr lo : Nat} {x0 : Nat} {x1 : Int32} {h : xH} {Q : Outcome → xH → Prop} (hq : bJ11_copyOf G fr lo x0 x1 h Q) : xR G YJ11_copyOf fr lo [rv x0, .int x1] h Q := by
  show xP _ _ _ _ _ (lv_args 0 _) _ _ _
  rw [show lv_args 0 [rv x0, .int x1] = [(0, rv x0), (1, .int x1)] from (xla1 (rv_cat _) (xla1 rfl xla0))]
  exact uJ11_copyOf hq
set_option maxRecDepth 100000 in
theorem dJ11_copyOfRange_0 : decode cJ11_copyOfRange 0 = .ok (.iload_n 1, 1) := by decide +kernel
set_option maxRecDepth 100000 in
theorem dJ11_copyOfRange_1 : decode cJ11_copyOfRange 1 = .ok (.ifCond .ne 9, 3) := by decide +kernel
set_option maxRecDepth 100000 in
theorem dJ11_copyOfRange_4 : decode cJ11_copyOfRange 4 = .ok (.iload_n 2, 1) := by decide +kernel
set_option maxRecDepth 100000 in
theorem dJ11_copyOfRange_5 : decode cJ11_copyOfRange 5 = .ok (.aload_n 0, 1) := by decide +kernel
set_option maxRecDepth 100000 in
theorem dJ11_copyOfRange_6 : decode cJ11_copyOfRange 6 = .ok (.arraylength, 1) := by decide +kernel
set_option maxRecDepth 100000 in
theorem dJ11_copyOfRange_7 : decode cJ11_copyOfRange 7 = .ok (.if_icmp .eq 10, 3) := by decide +kernel
set_option maxRecDepth 100000 in
theorem dJ11_copyOfRange_10 : decode cJ11_copyOfRange 10 = .ok (.aload_n 0, 1) := by decide +kernel
set_option maxRecDepth 100000 in
theorem dJ11_copyOfRange_11 : decode cJ11_copyOfRange 11 = .ok (.iload_n 1, 1) := by decide +kernel
set_option maxRecDepth 100000 in
theorem dJ11_copyOfRange_12 : decode cJ11_copyOfRange 12 = .ok (.iload_n 2, 1) := by decide +kernel
set_option maxRecDepth 100000 in
theorem dJ11_copyOfRange_13 : decode cJ11_copyOfRange 13 = .ok (.invokestatic 339, 3) := by decide +kernel
set_option maxRecDepth 100000 in
theorem dJ11_copyOfRange_16 : decode cJ11_copyOfRange 16 = .ok (.areturn, 1) := by decide +kernel
set_option maxRecDepth 100000 in
theorem dJ11_copyOfRange_17 : decode cJ11_copyOfRange 17 = .ok (.aload_n 0, 1) := by decide +kernel
set_option maxRecDepth 100000 in
theorem dJ11_copyOfRange_18 : decode cJ11_copyOfRange 18 = .ok (.invokevirtual 310, 3) := by decide +kernel
set_option maxRecDepth 100000 in
theorem dJ11_copyOfRange_21 : decode cJ11_copyOfRange 21 = .ok (.checkcast 311, 3) := by decide +kernel
set_option maxRecDepth 100000 in
theorem dJ11_copyOfRange_24 : decode cJ11_copyOfRange 24 = .ok (.areturn, 1) := by decide +kernel
set_option maxRecDepth 100000 in
def bJ11_copyOfRange_10 (G : xG) (fr lo : Nat) (x0 : Nat) (x1 : Int32) (x2 : Int32) (h : xH) (Q : Outcome → xH → Prop) : Prop := 1 ≤ fr ∧ 16 ≤ lo ∧ xRr G YJ11_copyOfRangeByte (fr - 1) (lo - 16) [rv x0, .int x1, .int x2] h (fun x4 h3 => xext h h3 → Q (.returned (some (rv x4))) h3) (fun r h2 => Q (.threw r) h2)
set_option maxRecDepth 100000 in
theorem uJ11_copyOfRange_10 {G : xG} {fr lo : Nat} {x0 : Nat} {x1 : Int32} {x2 : Int32} {h : xH} {Q : Outcome → xH → Prop} (hq : bJ11_copyOfRange_10 G fr lo x0 x1 x2 h Q) : xP G YJ11_copyOfRange fr lo 10 [(0, rv x0), (1, .int x1), (2, .int x2)] [] h Q := by
  unfold bJ11_copyOfRange_10 at hq
  refine x_aload_n 0 dJ11_copyOfRange_10 rfl ?_
  refine x_iload_n 1 dJ11_copyOfRange_11 rfl ?_
  refine x_iload_n 2 dJ11_copyOfRange_12 rfl ?_
  obtain ⟨g1, g2, hq⟩ := hq
  refine x_callS (Yc := YJ11_copyOfRangeByte) (as := [rv x0, .int x1, .int x2]) (st := []) q934 msJ11_copyOfRangeByte rfl dJ11_copyOfRange_13 (xle (xal1 (rv_cat _) (xal1 rfl (xal1 rfl xal0))) (by decide)) (xfr g1) (xlo xsw0 (by decide) g2) (xKr hq (fun x4 h3 hq e5 => ?_) (fun _ _ q _ => q))
  replace hq := hq e5
  exact x_aret rfl xty_A dJ11_copyOfRange_16 hq
set_option maxRecDepth 100000 in
def bJ11_copyOfRange (G : xG) (fr lo : Nat) (x0 : Nat) (x1 : Int32) (x2 : Int32) (h : xH) (Q : Outcome → xH → Prop) : Prop := ((¬ x1 = 0 → bJ11_copyOfRange_10 G fr lo x0 x1 x2 h Q) ∧ (x1 = 0 → tg h x0 = 103 ∧ ((x2 = (Int32.ofNat (ln h x0)) → xGB G < x0 ∧ (∀ i, i < ln h x0 → xby (aI h x0 i)) ∧ 1 ≤ fr ∧ 14 ≤ lo ∧ nx h + 1 ≤ xGN G ∧ us h + ln h x0 ≤ xGU G ∧ (∀ (a10 : Nat) (h11 : xH), a10 = nx h + 1 → h11 = cI (nA h 103 (ln h x0)) (nx h + 1) (aI h x0) → xfresh h a10 → xGB G < a10 ∧ Q (.returned (some (rv a10))) h11)) ∧ (¬ x2 = (Int32.ofNat (ln h x0)) → bJ11_copyOfRange_10 G fr lo x0 x1 x2 h Q))))
set_option maxRecDepth 100000 in
theorem uJ11_copyOfRange {G : xG} {fr lo : Nat} {x0 : Nat} {x1 : Int32} {x2 : Int32} {h : xH} {Q : Outcome → xH → Prop} (hq : bJ11_copyOfRange G fr lo x0 x1 x2 h Q) : xP G YJ11_copyOfRange fr lo 0 [(0, rv x0), (1, .int x1), (2, .int x2)] [] h Q := by
  unfold bJ11_copyOfRange at hq
  refine x_iload_n 1 dJ11_copyOfRange_0 rfl ?_
  refine x_if_ne (tgt := 10) dJ11_copyOfRange_1 (by decide) (fun c1 => ?_) (fun c1 => ?_)
  · replace hq := hq.1 c1
    exact uJ11_copyOfRange_10 hq
  · replace hq := hq.2 c1
    refine x_iload_n 2 dJ11_copyOfRange_4 rfl ?_
    refine x_aload_n 0 dJ11_copyOfRange_5 rfl ?_
    obtain ⟨g2, hq⟩ := hq
    refine x_alen 3 g2 (by decide) dJ11_copyOfRange_6 ?_
    refine x_icmp_eq (tgt := 17) dJ11_copyOfRange_7 (by decide) (fun c3 => ?_) (fun c3 => ?_)
    · replace hq := hq.1 c3
      refine x_aload_n 0 dJ11_copyOfRange_17 rfl ?_
      obtain ⟨w4, hq⟩ := hq
      obtain ⟨g5, hq⟩ := hq
      obtain ⟨g6, g7, hq⟩ := hq
      obtain ⟨g8, g9, hq⟩ := hq
      obtain ⟨a10, e12⟩ : ∃ y, y = nx h + 1 := ⟨_, rfl⟩
      obtain ⟨h11, e13⟩ : ∃ y, y = cI (nA h 103 (ln h x0)) (nx h + 1) (aI h x0) := ⟨_, rfl⟩
      refine x_cloneB kwJ11_310 dJ11_copyOfRange_18 g2 (Or.inr w4) g5 g6 (by simp only [List.map_cons, List.map_nil, List.sum_cons, List.sum_nil, rv_cat, Value.category]; omega) g8 g9 e12 e13 (fun f14 => ?_)
      replace hq := hq a10 h11 e12 e13 f14
      have t15 : tg h11 a10 = 103 := by rw [e13, e12]; exact tg_nA
      obtain ⟨w16, hq⟩ := hq
      refine x_castB q862 t15 (Or.inr w16) dJ11_copyOfRange_21 ?_
      exact x_aret rfl xty_A dJ11_copyOfRange_24 hq
    · replace hq := hq.2 c3
      exact uJ11_copyOfRange_10 hq
theorem rJ11_copyOfRange {G : xG} {fr lo : Nat} {x0 : Nat} {x1 : Int32} {x2 : Int32} {h : xH} {Q : Outcome → xH → Prop} (hq : bJ11_copyOfRange G fr lo x0 x1 x2 h Q) : xR G YJ11_copyOfRange fr lo [rv x0, .int x1, .int x2] h Q := by
  show xP _ _ _ _ _ (lv_args 0 _) _ _ _
  rw [show lv_args 0 [rv x0, .int x1, .int x2] = [(0, rv x0), (1, .int x1), (2, .int x2)] from (xla1 (rv_cat _) (xla1 rfl (xla1 rfl xla0)))]
  exact uJ11_copyOfRange hq
set_option maxRecDepth 100000 in
theorem dJ11_copyOfRangeByte_0 : decode cJ11_copyOfRangeByte 0 = .ok (.iload_n 1, 1) := by decide +kernel
set_option maxRecDepth 100000 in
theorem dJ11_copyOfRangeByte_1 : decode cJ11_copyOfRangeByte 1 = .ok (.iload_n 2, 1) := by decide +kernel
set_option maxRecDepth 100000 in
theorem dJ11_copyOfRangeByte_2 : decode cJ11_copyOfRangeByte 2 = .ok (.invokestatic 343, 3) := by decide +kernel
set_option maxRecDepth 100000 in
theorem dJ11_copyOfRangeByte_5 : decode cJ11_copyOfRangeByte 5 = .ok (.iload_n 2, 1) := by decide +kernel
set_option maxRecDepth 100000 in
theorem dJ11_copyOfRangeByte_6 : decode cJ11_copyOfRangeByte 6 = .ok (.iload_n 1, 1) := by decide +kernel
set_option maxRecDepth 100000 in
theorem dJ11_copyOfRangeByte_7 : decode cJ11_copyOfRangeByte 7 = .ok (.isub, 1) := by decide +kernel
set_option maxRecDepth 100000 in
theorem dJ11_copyOfRangeByte_8 : decode cJ11_copyOfRangeByte 8 = .ok (.istore_n 3, 1) := by decide +kernel
set_option maxRecDepth 100000 in
theorem dJ11_copyOfRangeByte_9 : decode cJ11_copyOfRangeByte 9 = .ok (.iload_n 3, 1) := by decide +kernel
set_option maxRecDepth 100000 in
theorem dJ11_copyOfRangeByte_10 : decode cJ11_copyOfRangeByte 10 = .ok (.newarray .byte, 2) := by decide +kernel
set_option maxRecDepth 100000 in
theorem dJ11_copyOfRangeByte_12 : decode cJ11_copyOfRangeByte 12 = .ok (.astore 4, 2) := by decide +kernel
set_option maxRecDepth 100000 in
theorem dJ11_copyOfRangeByte_14 : decode cJ11_copyOfRangeByte 14 = .ok (.aload_n 0, 1) := by decide +kernel
set_option maxRecDepth 100000 in
theorem dJ11_copyOfRangeByte_15 : decode cJ11_copyOfRangeByte 15 = .ok (.iload_n 1, 1) := by decide +kernel
set_option maxRecDepth 100000 in
theorem dJ11_copyOfRangeByte_16 : decode cJ11_copyOfRangeByte 16 = .ok (.aload 4, 2) := by decide +kernel
set_option maxRecDepth 100000 in
theorem dJ11_copyOfRangeByte_18 : decode cJ11_copyOfRangeByte 18 = .ok (.iconst 0, 1) := by decide +kernel
set_option maxRecDepth 100000 in
theorem dJ11_copyOfRangeByte_19 : decode cJ11_copyOfRangeByte 19 = .ok (.aload_n 0, 1) := by decide +kernel
set_option maxRecDepth 100000 in
theorem dJ11_copyOfRangeByte_20 : decode cJ11_copyOfRangeByte 20 = .ok (.arraylength, 1) := by decide +kernel
set_option maxRecDepth 100000 in
theorem dJ11_copyOfRangeByte_21 : decode cJ11_copyOfRangeByte 21 = .ok (.iload_n 1, 1) := by decide +kernel
set_option maxRecDepth 100000 in
theorem dJ11_copyOfRangeByte_22 : decode cJ11_copyOfRangeByte 22 = .ok (.isub, 1) := by decide +kernel
set_option maxRecDepth 100000 in
theorem dJ11_copyOfRangeByte_23 : decode cJ11_copyOfRangeByte 23 = .ok (.iload_n 3, 1) := by decide +kernel
set_option maxRecDepth 100000 in
theorem dJ11_copyOfRangeByte_24 : decode cJ11_copyOfRangeByte 24 = .ok (.invokestatic 304, 3) := by decide +kernel
set_option maxRecDepth 100000 in
theorem dJ11_copyOfRangeByte_27 : decode cJ11_copyOfRangeByte 27 = .ok (.invokestatic 150, 3) := by decide +kernel
set_option maxRecDepth 100000 in
theorem dJ11_copyOfRangeByte_30 : decode cJ11_copyOfRangeByte 30 = .ok (.aload 4, 2) := by decide +kernel
set_option maxRecDepth 100000 in
theorem dJ11_copyOfRangeByte_32 : decode cJ11_copyOfRangeByte 32 = .ok (.areturn, 1) := by decide +kernel
set_option maxRecDepth 100000 in
def bJ11_copyOfRangeByte (G : xG) (fr lo : Nat) (x0 : Nat) (x1 : Int32) (x2 : Int32) (h : xH) (Q : Outcome → xH → Prop) : Prop := 1 ≤ fr ∧ 13 ≤ lo ∧ xRv G YJ11_checkLength (fr - 1) (lo - 13) [.int x1, .int x2] h (fun h3 => xext h h3 → ¬ (x2 - x1) < 0 ∧ Int32.toNatClampNeg (x2 - x1) ≤ 1000000 ∧ nx h3 + 1 ≤ xGN G ∧ us h3 + (Int32.toNatClampNeg (x2 - x1)) ≤ xGU G ∧ (∀ (a10 : Nat) (h11 : xH), a10 = nx h3 + 1 → h11 = nA h3 103 (Int32.toNatClampNeg (x2 - x1)) → xfresh h3 a10 → tg h11 x0 = 103 ∧ 1 ≤ fr ∧ 17 ≤ lo ∧ xRi G YJ10_min (fr - 1) (lo - 17) [.int ((Int32.ofNat (ln h11 x0)) - x1), .int (x2 - x1)] h11 (fun x20 h19 => xext h11 h19 → xGB G < a10 ∧ xcpr h19 x0 a10 x1 0 x20 ∧ (∀ i, i < (Int32.toNatClampNeg x20) → xby (aI h19 x0 ((Int32.toNatClampNeg x1) + i))) ∧ 1 ≤ fr ∧ 18 ≤ lo ∧ (∀ h29 : xH, h29 = cI h19 a10 (va_cpy (aI h19 x0) (aI h19 a10) (Int32.toNatClampNeg x1) (Int32.toNatClampNeg 0) (Int32.toNatClampNeg x20)) → Q (.returned (some (rv a10))) h29)) (fun r h2 => Q (.threw r) h2))) (fun r h2 => Q (.threw r) h2)
set_option maxRecDepth 100000 in
theorem uJ11_copyOfRangeByte {G : xG} {fr lo : Nat} {x0 : Nat} {x1 : Int32} {x2 : Int32} {h : xH} {Q : Outcome → xH → Prop} (hq : bJ11_copyOfRangeByte G fr lo x0 x1 x2 h Q) : xP G YJ11_copyOfRangeByte fr lo 0 [(0, rv x0), (1, .int x1), (2, .int x2)] [] h Q := by
  unfold bJ11_copyOfRangeByte at hq
  refine x_iload_n 1 dJ11_copyOfRangeByte_0 rfl ?_
  refine x_iload_n 2 dJ11_copyOfRangeByte_1 rfl ?_
  obtain ⟨g1, g2, hq⟩ := hq
  refine x_callS (Yc := YJ11_checkLength) (as := [.int x1, .int x2]) (st := []) q937 msJ11_checkLength rfl dJ11_copyOfRangeByte_2 (xle (xal1 rfl (xal1 rfl xal0)) (by decide)) (xfr g1) (xlo xsw0 (by decide) g2) (xKv hq (fun h3 hq e5 => ?_) (fun _ _ q _ => q))
  replace hq := hq e5
  refine x_iload_n 2 dJ11_copyOfRangeByte_5 rfl ?_
  refine x_iload_n 1 dJ11_copyOfRangeByte_6 rfl ?_
  refine x_isub dJ11_copyOfRangeByte_7 ?_
  refine x_istore_n (lv' := [(3, .int (x2 - x1)), (0, rv x0), (1, .int x1), (2, .int x2)]) dJ11_copyOfRangeByte_8 (by decide) rfl ?_
  refine x_iload_n 0 dJ11_copyOfRangeByte_9 rfl ?_
  obtain ⟨g6, g7, hq⟩ := hq
  obtain ⟨g8, g9, hq⟩ := hq
  obtain ⟨a10, e12⟩ : ∃ y, y = nx h3 + 1 := ⟨_, rfl⟩
  obtain ⟨h11, e13⟩ : ∃ y, y = nA h3 103 (Int32.toNatClampNeg (x2 - x1)) := ⟨_, rfl⟩
  refine x_newa' 3 pk_byte dJ11_copyOfRangeByte_10 g6 g7 g8 g9 e12 e13 (fun f14 => ?_)
  replace hq := hq a10 h11 e12 e13 f14
  have t15 : tg h11 a10 = 103 := by rw [e13, e12]; exact tg_nA
  refine x_astore (lv' := [(4, rv a10), (3, .int (x2 - x1)), (0, rv x0), (1, .int x1), (2, .int x2)]) dJ11_copyOfRangeByte_12 (by decide) rfl ?_
  refine x_aload_n 2 dJ11_copyOfRangeByte_14 rfl ?_
  refine x_iload_n 3 dJ11_copyOfRangeByte_15 rfl ?_
  refine x_aload 0 dJ11_copyOfRangeByte_16 rfl ?_
  refine x_iconst (v := 0) dJ11_copyOfRangeByte_18 (by decide) ?_
  refine x_aload_n 2 dJ11_copyOfRangeByte_19 rfl ?_
  obtain ⟨g16, hq⟩ := hq
  refine x_alen 3 g16 (by decide) dJ11_copyOfRangeByte_20 ?_
  refine x_iload_n 3 dJ11_copyOfRangeByte_21 rfl ?_
  refine x_isub dJ11_copyOfRangeByte_22 ?_
  refine x_iload_n 1 dJ11_copyOfRangeByte_23 rfl ?_
  obtain ⟨g17, g18, hq⟩ := hq
  refine x_callS (Yc := YJ10_min) (as := [.int ((Int32.ofNat (ln h11 x0)) - x1), .int (x2 - x1)]) (st := [.int 0, rv a10, .int x1, rv x0]) q863 msJ10_min rfl dJ11_copyOfRangeByte_24 (xle (xal1 rfl (xal1 rfl xal0)) (by decide)) (xfr g17) (xlo (xsw1 rfl (xsw1 (rv_cat _) (xsw1 rfl (xsw1 (rv_cat _) xsw0)))) (by decide) g18) (xKi hq (fun x20 h19 hq e21 => ?_) (fun _ _ q _ => q))
  replace hq := hq e21
  have t22 : tg h19 x0 = 103 := e21.tg g16 (by decide)
  have t23 : tg h19 a10 = 103 := e21.tg t15 (by decide)
  obtain ⟨w24, hq⟩ := hq
  obtain ⟨g25, g26, hq⟩ := hq
  obtain ⟨g27, g28, hq⟩ := hq
  obtain ⟨h29, e30⟩ : ∃ y, y = cI h19 a10 (va_cpy (aI h19 x0) (aI h19 a10) (Int32.toNatClampNeg x1) (Int32.toNatClampNeg 0) (Int32.toNatClampNeg x20)) := ⟨_, rfl⟩
  replace hq := hq h29 e30
  refine x_copyB cwJ11_150 dJ11_copyOfRangeByte_27 t22 t23 (Or.inr w24) g25 g26 g27 (by simp only [List.map_cons, List.map_nil, List.sum_cons, List.sum_nil, rv_cat, Value.category]; omega) e30 ?_
  refine x_aload 0 dJ11_copyOfRangeByte_30 rfl ?_
  exact x_aret rfl xty_A dJ11_copyOfRangeByte_32 hq
theorem rJ11_copyOfRangeByte {G : xG} {fr lo : Nat} {x0 : Nat} {x1 : Int32} {x2 : Int32} {h : xH} {Q : Outcome → xH → Prop} (hq : bJ11_copyOfRangeByte G fr lo x0 x1 x2 h Q) : xR G YJ11_copyOfRangeByte fr lo [rv x0, .int x1, .int x2] h Q := by
  show xP _ _ _ _ _ (lv_args 0 _) _ _ _
  rw [show lv_args 0 [rv x0, .int x1, .int x2] = [(0, rv x0), (1, .int x1), (2, .int x2)] from (xla1 (rv_cat _) (xla1 rfl (xla1 rfl xla0)))]
  exact uJ11_copyOfRangeByte hq
set_option maxRecDepth 100000 in
theorem dJ11_checkLength_0 : decode cJ11_checkLength 0 = .ok (.iload_n 1, 1) := by decide +kernel
set_option maxRecDepth 100000 in
theorem dJ11_checkLength_1 : decode cJ11_checkLength 1 = .ok (.iload_n 0, 1) := by decide +kernel
set_option maxRecDepth 100000 in
theorem dJ11_checkLength_2 : decode cJ11_checkLength 2 = .ok (.if_icmp .ge 35, 3) := by decide +kernel
set_option maxRecDepth 100000 in
theorem dJ11_checkLength_5 : decode cJ11_checkLength 5 = .ok (.new 43, 3) := by decide +kernel
set_option maxRecDepth 100000 in
theorem dJ11_checkLength_8 : decode cJ11_checkLength 8 = .ok (.dup, 1) := by decide +kernel
set_option maxRecDepth 100000 in
theorem dJ11_checkLength_9 : decode cJ11_checkLength 9 = .ok (.new 45, 3) := by decide +kernel
set_option maxRecDepth 100000 in
theorem dJ11_checkLength_12 : decode cJ11_checkLength 12 = .ok (.dup, 1) := by decide +kernel
set_option maxRecDepth 100000 in
theorem dJ11_checkLength_13 : decode cJ11_checkLength 13 = .ok (.invokespecial 47, 3) := by decide +kernel
set_option maxRecDepth 100000 in
theorem dJ11_checkLength_16 : decode cJ11_checkLength 16 = .ok (.iload_n 0, 1) := by decide +kernel
set_option maxRecDepth 100000 in
theorem dJ11_checkLength_17 : decode cJ11_checkLength 17 = .ok (.invokevirtual 54, 3) := by decide +kernel
set_option maxRecDepth 100000 in
theorem dJ11_checkLength_20 : decode cJ11_checkLength 20 = .ok (.ldc_w 337, 3) := by decide +kernel
set_option maxRecDepth 100000 in
theorem dJ11_checkLength_23 : decode cJ11_checkLength 23 = .ok (.invokevirtual 50, 3) := by decide +kernel
set_option maxRecDepth 100000 in
theorem dJ11_checkLength_26 : decode cJ11_checkLength 26 = .ok (.iload_n 1, 1) := by decide +kernel
set_option maxRecDepth 100000 in
theorem dJ11_checkLength_27 : decode cJ11_checkLength 27 = .ok (.invokevirtual 54, 3) := by decide +kernel
set_option maxRecDepth 100000 in
theorem dJ11_checkLength_30 : decode cJ11_checkLength 30 = .ok (.invokevirtual 61, 3) := by decide +kernel
set_option maxRecDepth 100000 in
theorem dJ11_checkLength_33 : decode cJ11_checkLength 33 = .ok (.invokespecial 65, 3) := by decide +kernel
set_option maxRecDepth 100000 in
theorem dJ11_checkLength_36 : decode cJ11_checkLength 36 = .ok (.athrow, 1) := by decide +kernel
set_option maxRecDepth 100000 in
theorem dJ11_checkLength_37 : decode cJ11_checkLength 37 = .ok (.return_, 1) := by decide +kernel
set_option maxRecDepth 100000 in
def bJ11_checkLength (G : xG) (fr lo : Nat) (x0 : Int32) (x1 : Int32) (h : xH) (Q : Outcome → xH → Prop) : Prop := ((x0 ≤ x1 → Q (.returned none) h) ∧ (¬ x0 ≤ x1 → False))
set_option maxRecDepth 100000 in
theorem uJ11_checkLength {G : xG} {fr lo : Nat} {x0 : Int32} {x1 : Int32} {h : xH} {Q : Outcome → xH → Prop} (hq : bJ11_checkLength G fr lo x0 x1 h Q) : xP G YJ11_checkLength fr lo 0 [(0, .int x0), (1, .int x1)] [] h Q := by
  unfold bJ11_checkLength at hq
  refine x_iload_n 1 dJ11_checkLength_0 rfl ?_
  refine x_iload_n 0 dJ11_checkLength_1 rfl ?_
  refine x_icmp_ge (tgt := 37) dJ11_checkLength_2 (by decide) (fun c1 => ?_) (fun c1 => ?_)
  · replace hq := hq.1 c1
    exact x_vret rfl dJ11_checkLength_37 hq
  · replace hq := hq.2 c1
    exact hq.elim
theorem rJ11_checkLength {G : xG} {fr lo : Nat} {x0 : Int32} {x1 : Int32} {h : xH} {Q : Outcome → xH → Prop} (hq : bJ11_checkLength G fr lo x0 x1 h Q) : xR G YJ11_checkLength fr lo [.int x0, .int x1] h Q := by
  show xP _ _ _ _ _ (lv_args 0 _) _ _ _
  rw [show lv_args 0 [.int x0, .int x1] = [(0, .int x0), (1, .int x1)] from (xla1 rfl (xla1 rfl xla0))]
  exact uJ11_checkLength hq
set_option maxRecDepth 100000 in
theorem dJ11_copyOf_2_0 : decode cJ11_copyOf_2 0 = .ok (.aload_n 0, 1) := by decide +kernel
set_option maxRecDepth 100000 in
theorem dJ11_copyOf_2_1 : decode cJ11_copyOf_2 1 = .ok (.iload_n 1, 1) := by decide +kernel
set_option maxRecDepth 100000 in
theorem dJ11_copyOf_2_2 : decode cJ11_copyOf_2 2 = .ok (.aload_n 0, 1) := by decide +kernel
set_option maxRecDepth 100000 in
theorem dJ11_copyOf_2_3 : decode cJ11_copyOf_2 3 = .ok (.invokevirtual 86, 3) := by decide +kernel
set_option maxRecDepth 100000 in
theorem dJ11_copyOf_2_6 : decode cJ11_copyOf_2 6 = .ok (.invokestatic 300, 3) := by decide +kernel
set_option maxRecDepth 100000 in
theorem dJ11_copyOf_2_9 : decode cJ11_copyOf_2 9 = .ok (.areturn, 1) := by decide +kernel
set_option maxRecDepth 100000 in
def bJ11_copyOf_2 (G : xG) (fr lo : Nat) (x0 : Nat) (x1 : Int32) (h : xH) (Q : Outcome → xH → Prop) : Prop := tg h x0 = 105 ∧ xGB G < x0 ∧ 1 ≤ fr ∧ 16 ≤ lo ∧ 1 ≤ fr ∧ 15 ≤ lo ∧ xRr G YJ11_copyOf_3 (fr - 1) (lo - 15) [rv x0, .int x1, rv (tx G 1000)] h (fun x8 h7 => xext h h7 → Q (.returned (some (rv x8))) h7) (fun r h2 => Q (.threw r) h2)
set_option maxRecDepth 100000 in
theorem uJ11_copyOf_2 {G : xG} {fr lo : Nat} {x0 : Nat} {x1 : Int32} {h : xH} {Q : Outcome → xH → Prop} (hq : bJ11_copyOf_2 G fr lo x0 x1 h Q) : xP G YJ11_copyOf_2 fr lo 0 [(0, rv x0), (1, .int x1)] [] h Q := by
  unfold bJ11_copyOf_2 at hq
  refine x_aload_n 0 dJ11_copyOf_2_0 rfl ?_
  refine x_iload_n 1 dJ11_copyOf_2_1 rfl ?_
  refine x_aload_n 0 dJ11_copyOf_2_2 rfl ?_
  obtain ⟨g1, hq⟩ := hq
  obtain ⟨w2, hq⟩ := hq
  obtain ⟨g3, g4, hq⟩ := hq
  refine x_getC q1031 (List.mem_filter.mpr ⟨q4850, rfl⟩) q4849 q1032 q1067 g1 (Or.inr w2) dJ11_copyOf_2_3 g3 (by simp only [List.map_cons, List.map_nil, List.sum_cons, List.sum_nil, rv_cat, Value.category]; omega) ?_
  obtain ⟨g5, g6, hq⟩ := hq
  refine x_callS (Yc := YJ11_copyOf_3) (as := [rv x0, .int x1, rv (tx G 1000)]) (st := []) q1068 msJ11_copyOf_3 rfl dJ11_copyOf_2_6 (xle (xal1 (rv_cat _) (xal1 rfl (xal1 (rv_cat _) xal0))) (by decide)) (xfr g5) (xlo xsw0 (by decide) g6) (xKr hq (fun x8 h7 hq e9 => ?_) (fun _ _ q _ => q))
  replace hq := hq e9
  exact x_aret rfl xty_A dJ11_copyOf_2_9 hq
theorem rJ11_copyOf_2 {G : xG} {fr lo : Nat} {x0 : Nat} {x1 : Int32} {h : xH} {Q : Outcome → xH → Prop} (hq : bJ11_copyOf_2 G fr lo x0 x1 h Q) : xR G YJ11_copyOf_2 fr lo [rv x0, .int x1] h Q := by
  show xP _ _ _ _ _ (lv_args 0 _) _ _ _
  rw [show lv_args 0 [rv x0, .int x1] = [(0, rv x0), (1, .int x1)] from (xla1 (rv_cat _) (xla1 rfl xla0))]
  exact uJ11_copyOf_2 hq
set_option maxRecDepth 100000 in
theorem dJ11_copyOf_3_0 : decode cJ11_copyOf_3 0 = .ok (.aload_n 2, 1) := by decide +kernel
set_option maxRecDepth 100000 in
theorem dJ11_copyOf_3_1 : decode cJ11_copyOf_3 1 = .ok (.ldc 110, 2) := by decide +kernel
set_option maxRecDepth 100000 in
theorem dJ11_copyOf_3_3 : decode cJ11_copyOf_3 3 = .ok (.if_acmp .ne 10, 3) := by decide +kernel
set_option maxRecDepth 100000 in
theorem dJ11_copyOf_3_6 : decode cJ11_copyOf_3 6 = .ok (.iload_n 1, 1) := by decide +kernel
set_option maxRecDepth 100000 in
theorem dJ11_copyOf_3_7 : decode cJ11_copyOf_3 7 = .ok (.anewarray 2, 3) := by decide +kernel
set_option maxRecDepth 100000 in
theorem dJ11_copyOf_3_10 : decode cJ11_copyOf_3 10 = .ok (.goto 14, 3) := by decide +kernel
set_option maxRecDepth 100000 in
theorem dJ11_copyOf_3_13 : decode cJ11_copyOf_3 13 = .ok (.aload_n 2, 1) := by decide +kernel
set_option maxRecDepth 100000 in
theorem dJ11_copyOf_3_14 : decode cJ11_copyOf_3 14 = .ok (.invokevirtual 90, 3) := by decide +kernel
set_option maxRecDepth 100000 in
theorem dJ11_copyOf_3_17 : decode cJ11_copyOf_3 17 = .ok (.iload_n 1, 1) := by decide +kernel
set_option maxRecDepth 100000 in
theorem dJ11_copyOf_3_18 : decode cJ11_copyOf_3 18 = .ok (.invokestatic 95, 3) := by decide +kernel
set_option maxRecDepth 100000 in
theorem dJ11_copyOf_3_21 : decode cJ11_copyOf_3 21 = .ok (.checkcast 110, 3) := by decide +kernel
set_option maxRecDepth 100000 in
theorem dJ11_copyOf_3_24 : decode cJ11_copyOf_3 24 = .ok (.astore_n 3, 1) := by decide +kernel
set_option maxRecDepth 100000 in
theorem dJ11_copyOf_3_25 : decode cJ11_copyOf_3 25 = .ok (.aload_n 0, 1) := by decide +kernel
set_option maxRecDepth 100000 in
theorem dJ11_copyOf_3_26 : decode cJ11_copyOf_3 26 = .ok (.iconst 0, 1) := by decide +kernel
set_option maxRecDepth 100000 in
theorem dJ11_copyOf_3_27 : decode cJ11_copyOf_3 27 = .ok (.aload_n 3, 1) := by decide +kernel
set_option maxRecDepth 100000 in
theorem dJ11_copyOf_3_28 : decode cJ11_copyOf_3 28 = .ok (.iconst 0, 1) := by decide +kernel
set_option maxRecDepth 100000 in
theorem dJ11_copyOf_3_29 : decode cJ11_copyOf_3 29 = .ok (.aload_n 0, 1) := by decide +kernel
set_option maxRecDepth 100000 in
theorem dJ11_copyOf_3_30 : decode cJ11_copyOf_3 30 = .ok (.arraylength, 1) := by decide +kernel
set_option maxRecDepth 100000 in
theorem dJ11_copyOf_3_31 : decode cJ11_copyOf_3 31 = .ok (.iload_n 1, 1) := by decide +kernel
set_option maxRecDepth 100000 in
theorem dJ11_copyOf_3_32 : decode cJ11_copyOf_3 32 = .ok (.invokestatic 304, 3) := by decide +kernel
set_option maxRecDepth 100000 in
theorem dJ11_copyOf_3_35 : decode cJ11_copyOf_3 35 = .ok (.invokestatic 150, 3) := by decide +kernel
set_option maxRecDepth 100000 in
theorem dJ11_copyOf_3_38 : decode cJ11_copyOf_3 38 = .ok (.aload_n 3, 1) := by decide +kernel
set_option maxRecDepth 100000 in
theorem dJ11_copyOf_3_39 : decode cJ11_copyOf_3 39 = .ok (.areturn, 1) := by decide +kernel
set_option maxRecDepth 100000 in
def bJ11_copyOf_3_24 (G : xG) (fr lo : Nat) (x0 : Nat) (x1 : Int32) (s0 : Nat) (h : xH) (Q : Outcome → xH → Prop) : Prop := tg h x0 = 105 ∧ 1 ≤ fr ∧ 17 ≤ lo ∧ xRi G YJ10_min (fr - 1) (lo - 17) [.int (Int32.ofNat (ln h x0)), .int x1] h (fun x5 h4 => xext h h4 → tg h4 s0 = 105 ∧ xGB G < s0 ∧ xGB G < x0 ∧ xcpr h4 x0 s0 0 0 x5 ∧ (∀ i, i < (Int32.toNatClampNeg x5) → xrf h4 (aR h4 x0 ((Int32.toNatClampNeg 0) + i))) ∧ 1 ≤ fr ∧ 18 ≤ lo ∧ (∀ h15 : xH, h15 = cR h4 s0 (va_cpy (aR h4 x0) (aR h4 s0) (Int32.toNatClampNeg 0) (Int32.toNatClampNeg 0) (Int32.toNatClampNeg x5)) → Q (.returned (some (rv s0))) h15)) (fun r h2 => Q (.threw r) h2)
set_option maxRecDepth 100000 in
theorem uJ11_copyOf_3_24 {G : xG} {fr lo : Nat} {x0 : Nat} {x1 : Int32} {s0 : Nat} {h : xH} {Q : Outcome → xH → Prop} (hq : bJ11_copyOf_3_24 G fr lo x0 x1 s0 h Q) : xP G YJ11_copyOf_3 fr lo 24 [(0, rv x0), (1, .int x1)] [rv s0] h Q := by
  unfold bJ11_copyOf_3_24 at hq
  refine x_astore_n (lv' := [(3, rv s0), (0, rv x0), (1, .int x1)]) dJ11_copyOf_3_24 (by decide) rfl ?_
  refine x_aload_n 1 dJ11_copyOf_3_25 rfl ?_
  refine x_iconst (v := 0) dJ11_copyOf_3_26 (by decide) ?_
  refine x_aload_n 0 dJ11_copyOf_3_27 rfl ?_
  refine x_iconst (v := 0) dJ11_copyOf_3_28 (by decide) ?_
  refine x_aload_n 1 dJ11_copyOf_3_29 rfl ?_
  obtain ⟨g1, hq⟩ := hq
  refine x_alen 5 g1 (by decide) dJ11_copyOf_3_30 ?_
  refine x_iload_n 2 dJ11_copyOf_3_31 rfl ?_
  obtain ⟨g2, g3, hq⟩ := hq
  refine x_callS (Yc := YJ10_min) (as := [.int (Int32.ofNat (ln h x0)), .int x1]) (st := [.int 0, rv s0, .int 0, rv x0]) q863 msJ10_min rfl dJ11_copyOf_3_32 (xle (xal1 rfl (xal1 rfl xal0)) (by decide)) (xfr g2) (xlo (xsw1 rfl (xsw1 (rv_cat _) (xsw1 rfl (xsw1 (rv_cat _) xsw0)))) (by decide) g3) (xKi hq (fun x5 h4 hq e6 => ?_) (fun _ _ q _ => q))
  replace hq := hq e6
  have t7 : tg h4 x0 = 105 := e6.tg g1 (by decide)
  obtain ⟨g8, hq⟩ := hq
  obtain ⟨w9, hq⟩ := hq
  obtain ⟨w10, hq⟩ := hq
  obtain ⟨g11, g12, hq⟩ := hq
  obtain ⟨g13, g14, hq⟩ := hq
  obtain ⟨h15, e16⟩ : ∃ y, y = cR h4 s0 (va_cpy (aR h4 x0) (aR h4 s0) (Int32.toNatClampNeg 0) (Int32.toNatClampNeg 0) (Int32.toNatClampNeg x5)) := ⟨_, rfl⟩
  replace hq := hq h15 e16
  refine x_copyO cwJ11_150 dJ11_copyOf_3_35 t7 g8 (Or.inr w10) (Or.inr w9) g11 g12 g13 (by simp only [List.map_cons, List.map_nil, List.sum_cons, List.sum_nil, rv_cat, Value.category]; omega) e16 ?_
  refine x_aload_n 0 dJ11_copyOf_3_38 rfl ?_
  exact x_aret rfl xty_A dJ11_copyOf_3_39 hq
set_option maxRecDepth 100000 in
def bJ11_copyOf_3 (G : xG) (fr lo : Nat) (x0 : Nat) (x1 : Int32) (x2 : Nat) (h : xH) (Q : Outcome → xH → Prop) : Prop := ((¬ x2 = (tx G 1000) → False) ∧ (x2 = (tx G 1000) → ¬ x1 < 0 ∧ Int32.toNatClampNeg x1 ≤ 1000000 ∧ nx h + 1 ≤ xGN G ∧ us h + (Int32.toNatClampNeg x1) ≤ xGU G ∧ (∀ (a6 : Nat) (h7 : xH), a6 = nx h + 1 → h7 = nA h 105 (Int32.toNatClampNeg x1) → xfresh h a6 → bJ11_copyOf_3_24 G fr lo x0 x1 a6 h7 Q)))
set_option maxRecDepth 100000 in
theorem uJ11_copyOf_3 {G : xG} {fr lo : Nat} {x0 : Nat} {x1 : Int32} {x2 : Nat} {h : xH} {Q : Outcome → xH → Prop} (hq : bJ11_copyOf_3 G fr lo x0 x1 x2 h Q) : xP G YJ11_copyOf_3 fr lo 0 [(0, rv x0), (1, .int x1), (2, rv x2)] [] h Q := by
  unfold bJ11_copyOf_3 at hq
  refine x_aload_n 2 dJ11_copyOf_3_0 rfl ?_
  refine x_ldcM q1071 dJ11_copyOf_3_1 ?_
  refine x_acmp_ne (tgt := 13) dJ11_copyOf_3_3 (by decide) (fun c1 => ?_) (fun c1 => ?_)
  · replace hq := hq.1 c1
    exact hq.elim
  · replace hq := hq.2 c1
    refine x_iload_n 1 dJ11_copyOf_3_6 rfl ?_
    obtain ⟨g2, g3, hq⟩ := hq
    obtain ⟨g4, g5, hq⟩ := hq
    obtain ⟨a6, e8⟩ : ∃ y, y = nx h + 1 := ⟨_, rfl⟩
    obtain ⟨h7, e9⟩ : ∃ y, y = nA h 105 (Int32.toNatClampNeg x1) := ⟨_, rfl⟩
    refine x_anew 5 anJ11_2 dJ11_copyOf_3_7 g2 g3 g4 g5 e8 e9 (fun f10 => ?_)
    replace hq := hq a6 h7 e8 e9 f10
    have t11 : tg h7 a6 = 105 := by rw [e9, e8]; exact tg_nA
    refine x_goto (tgt := 24) dJ11_copyOf_3_10 (by decide) ?_
    refine xP.pick (lv' := [(0, rv x0), (1, .int x1)]) [0, 1] rfl ?_
    exact uJ11_copyOf_3_24 hq
theorem rJ11_copyOf_3 {G : xG} {fr lo : Nat} {x0 : Nat} {x1 : Int32} {x2 : Nat} {h : xH} {Q : Outcome → xH → Prop} (hq : bJ11_copyOf_3 G fr lo x0 x1 x2 h Q) : xR G YJ11_copyOf_3 fr lo [rv x0, .int x1, rv x2] h Q := by
  show xP _ _ _ _ _ (lv_args 0 _) _ _ _
  rw [show lv_args 0 [rv x0, .int x1, rv x2] = [(0, rv x0), (1, .int x1), (2, rv x2)] from (xla1 (rv_cat _) (xla1 rfl (xla1 (rv_cat _) xla0)))]
  exact uJ11_copyOf_3 hq
set_option maxRecDepth 100000 in
theorem dJ11_fill_0 : decode cJ11_fill 0 = .ok (.aload_n 0, 1) := by decide +kernel
set_option maxRecDepth 100000 in
theorem dJ11_fill_1 : decode cJ11_fill 1 = .ok (.arraylength, 1) := by decide +kernel
set_option maxRecDepth 100000 in
theorem dJ11_fill_2 : decode cJ11_fill 2 = .ok (.iload_n 1, 1) := by decide +kernel
set_option maxRecDepth 100000 in
theorem dJ11_fill_3 : decode cJ11_fill 3 = .ok (.iload_n 2, 1) := by decide +kernel
set_option maxRecDepth 100000 in
theorem dJ11_fill_4 : decode cJ11_fill 4 = .ok (.invokestatic 13, 3) := by decide +kernel
set_option maxRecDepth 100000 in
theorem dJ11_fill_7 : decode cJ11_fill 7 = .ok (.iload_n 1, 1) := by decide +kernel
set_option maxRecDepth 100000 in
theorem dJ11_fill_8 : decode cJ11_fill 8 = .ok (.istore 4, 2) := by decide +kernel
set_option maxRecDepth 100000 in
theorem dJ11_fill_10 : decode cJ11_fill 10 = .ok (.iload 4, 2) := by decide +kernel
set_option maxRecDepth 100000 in
theorem dJ11_fill_12 : decode cJ11_fill 12 = .ok (.iload_n 2, 1) := by decide +kernel
set_option maxRecDepth 100000 in
theorem dJ11_fill_13 : decode cJ11_fill 13 = .ok (.if_icmp .ge 14, 3) := by decide +kernel
set_option maxRecDepth 100000 in
theorem dJ11_fill_16 : decode cJ11_fill 16 = .ok (.aload_n 0, 1) := by decide +kernel
set_option maxRecDepth 100000 in
theorem dJ11_fill_17 : decode cJ11_fill 17 = .ok (.iload 4, 2) := by decide +kernel
set_option maxRecDepth 100000 in
theorem dJ11_fill_19 : decode cJ11_fill 19 = .ok (.iload_n 3, 1) := by decide +kernel
set_option maxRecDepth 100000 in
theorem dJ11_fill_20 : decode cJ11_fill 20 = .ok (.bastore, 1) := by decide +kernel
set_option maxRecDepth 100000 in
theorem dJ11_fill_21 : decode cJ11_fill 21 = .ok (.iinc 4 1, 3) := by decide +kernel
set_option maxRecDepth 100000 in
theorem dJ11_fill_24 : decode cJ11_fill 24 = .ok (.goto (-14), 3) := by decide +kernel
set_option maxRecDepth 100000 in
theorem dJ11_fill_27 : decode cJ11_fill 27 = .ok (.return_, 1) := by decide +kernel
def lJ11_fill_10 (G : xG) (fr lo : Nat) (x0 : Nat) (x2 : Int32) (x3 : Int32) (x4 : Int32) (h : xH) (Q : Outcome → xH → Prop) : Prop := xP G YJ11_fill fr lo 10 [(0, rv x0), (2, .int x2), (3, .int x3), (4, .int x4)] [] h Q
set_option maxRecDepth 100000 in
def bJ11_fill_10 (G : xG) (fr lo : Nat) (x0 : Nat) (x2 : Int32) (x3 : Int32) (x4 : Int32) (h : xH) (Q : Outcome → xH → Prop) : Prop := ((x2 ≤ x4 → Q (.returned none) h) ∧ (¬ x2 ≤ x4 → tg h x0 = 103 ∧ xGB G < x0 ∧ vp_in x4 (ln h x0) ∧ (∀ h5 : xH, h5 = tI h x0 (Int32.toNatClampNeg x4) (vp_nar .byte x3) → lJ11_fill_10 G fr lo x0 x2 x3 (x4 + 1) h5 Q)))
set_option maxRecDepth 100000 in
theorem uJ11_fill_10 {G : xG} {fr lo : Nat} {x0 : Nat} {x2 : Int32} {x3 : Int32} {x4 : Int32} {h : xH} {Q : Outcome → xH → Prop} (hq : bJ11_fill_10 G fr lo x0 x2 x3 x4 h Q) : xP G YJ11_fill fr lo 10 [(0, rv x0), (2, .int x2), (3, .int x3), (4, .int x4)] [] h Q := by
  unfold bJ11_fill_10 at hq
  refine x_iload 3 dJ11_fill_10 rfl ?_
  refine x_iload_n 1 dJ11_fill_12 rfl ?_
  refine x_icmp_ge (tgt := 27) dJ11_fill_13 (by decide) (fun c1 => ?_) (fun c1 => ?_)
  · replace hq := hq.1 c1
    exact x_vret rfl dJ11_fill_27 hq
  · replace hq := hq.2 c1
    refine x_aload_n 0 dJ11_fill_16 rfl ?_
    refine x_iload 3 dJ11_fill_17 rfl ?_
    refine x_iload_n 2 dJ11_fill_19 rfl ?_
    obtain ⟨g2, hq⟩ := hq
    obtain ⟨w3, hq⟩ := hq
    obtain ⟨i4, hq⟩ := hq
    obtain ⟨h5, e6⟩ : ∃ y, y = tI h x0 (Int32.toNatClampNeg x4) (vp_nar .byte x3) := ⟨_, rfl⟩
    replace hq := hq h5 e6
    refine x_bast' g2 (Or.inr w3) i4 dJ11_fill_20 e6 ?_
    refine x_iinc (lv' := [(4, .int (x4 + 1)), (0, rv x0), (2, .int x2), (3, .int x3)]) 3 dJ11_fill_21 rfl (by decide) rfl ?_
    refine x_goto (tgt := 10) dJ11_fill_24 (by decide) ?_
    refine xP.pick (lv' := [(0, rv x0), (2, .int x2), (3, .int x3), (4, .int (x4 + 1))]) [1, 2, 3, 0] rfl ?_
    exact hq
set_option maxRecDepth 100000 in
def bJ11_fill (G : xG) (fr lo : Nat) (x0 : Nat) (x1 : Int32) (x2 : Int32) (x3 : Int32) (h : xH) (Q : Outcome → xH → Prop) : Prop := tg h x0 = 103 ∧ 1 ≤ fr ∧ 14 ≤ lo ∧ xRv G YJ11_rangeCheck (fr - 1) (lo - 14) [.int (Int32.ofNat (ln h x0)), .int x1, .int x2] h (fun h4 => xext h h4 → lJ11_fill_10 G fr lo x0 x2 x3 x1 h4 Q) (fun r h2 => Q (.threw r) h2)
set_option maxRecDepth 100000 in
theorem uJ11_fill {G : xG} {fr lo : Nat} {x0 : Nat} {x1 : Int32} {x2 : Int32} {x3 : Int32} {h : xH} {Q : Outcome → xH → Prop} (hq : bJ11_fill G fr lo x0 x1 x2 x3 h Q) : xP G YJ11_fill fr lo 0 [(0, rv x0), (1, .int x1), (2, .int x2), (3, .int x3)] [] h Q := by
  unfold bJ11_fill at hq
  refine x_aload_n 0 dJ11_fill_0 rfl ?_
  obtain ⟨g1, hq⟩ := hq
  refine x_alen 3 g1 (by decide) dJ11_fill_1 ?_
  refine x_iload_n 1 dJ11_fill_2 rfl ?_
  refine x_iload_n 2 dJ11_fill_3 rfl ?_
  obtain ⟨g2, g3, hq⟩ := hq
  refine x_callS (Yc := YJ11_rangeCheck) (as := [.int (Int32.ofNat (ln h x0)), .int x1, .int x2]) (st := []) q1087 msJ11_rangeCheck rfl dJ11_fill_4 (xle (xal1 rfl (xal1 rfl (xal1 rfl xal0))) (by decide)) (xfr g2) (xlo xsw0 (by decide) g3) (xKv hq (fun h4 hq e6 => ?_) (fun _ _ q _ => q))
  replace hq := hq e6
  refine x_iload_n 1 dJ11_fill_7 rfl ?_
  refine x_istore (lv' := [(4, .int x1), (0, rv x0), (1, .int x1), (2, .int x2), (3, .int x3)]) dJ11_fill_8 (by decide) rfl ?_
  refine xP.pick (lv' := [(0, rv x0), (2, .int x2), (3, .int x3), (4, .int x1)]) [1, 3, 4, 0] rfl ?_
  exact hq
theorem rJ11_fill {G : xG} {fr lo : Nat} {x0 : Nat} {x1 : Int32} {x2 : Int32} {x3 : Int32} {h : xH} {Q : Outcome → xH → Prop} (hq : bJ11_fill G fr lo x0 x1 x2 x3 h Q) : xR G YJ11_fill fr lo [rv x0, .int x1, .int x2, .int x3] h Q := by
  show xP _ _ _ _ _ (lv_args 0 _) _ _ _
  rw [show lv_args 0 [rv x0, .int x1, .int x2, .int x3] = [(0, rv x0), (1, .int x1), (2, .int x2), (3, .int x3)] from (xla1 (rv_cat _) (xla1 rfl (xla1 rfl (xla1 rfl xla0))))]
  exact uJ11_fill hq
set_option maxRecDepth 100000 in
theorem dJ11_rangeCheck_0 : decode cJ11_rangeCheck 0 = .ok (.iload_n 1, 1) := by decide +kernel
set_option maxRecDepth 100000 in
theorem dJ11_rangeCheck_1 : decode cJ11_rangeCheck 1 = .ok (.iload_n 2, 1) := by decide +kernel
set_option maxRecDepth 100000 in
theorem dJ11_rangeCheck_2 : decode cJ11_rangeCheck 2 = .ok (.if_icmp .le 44, 3) := by decide +kernel
set_option maxRecDepth 100000 in
theorem dJ11_rangeCheck_5 : decode cJ11_rangeCheck 5 = .ok (.new 43, 3) := by decide +kernel
set_option maxRecDepth 100000 in
theorem dJ11_rangeCheck_8 : decode cJ11_rangeCheck 8 = .ok (.dup, 1) := by decide +kernel
set_option maxRecDepth 100000 in
theorem dJ11_rangeCheck_9 : decode cJ11_rangeCheck 9 = .ok (.new 45, 3) := by decide +kernel
set_option maxRecDepth 100000 in
theorem dJ11_rangeCheck_12 : decode cJ11_rangeCheck 12 = .ok (.dup, 1) := by decide +kernel
set_option maxRecDepth 100000 in
theorem dJ11_rangeCheck_13 : decode cJ11_rangeCheck 13 = .ok (.invokespecial 47, 3) := by decide +kernel
set_option maxRecDepth 100000 in
theorem dJ11_rangeCheck_16 : decode cJ11_rangeCheck 16 = .ok (.ldc 48, 2) := by decide +kernel
set_option maxRecDepth 100000 in
theorem dJ11_rangeCheck_18 : decode cJ11_rangeCheck 18 = .ok (.invokevirtual 50, 3) := by decide +kernel
set_option maxRecDepth 100000 in
theorem dJ11_rangeCheck_21 : decode cJ11_rangeCheck 21 = .ok (.iload_n 1, 1) := by decide +kernel
set_option maxRecDepth 100000 in
theorem dJ11_rangeCheck_22 : decode cJ11_rangeCheck 22 = .ok (.invokevirtual 54, 3) := by decide +kernel
set_option maxRecDepth 100000 in
theorem dJ11_rangeCheck_25 : decode cJ11_rangeCheck 25 = .ok (.ldc 57, 2) := by decide +kernel
set_option maxRecDepth 100000 in
theorem dJ11_rangeCheck_27 : decode cJ11_rangeCheck 27 = .ok (.invokevirtual 50, 3) := by decide +kernel
set_option maxRecDepth 100000 in
theorem dJ11_rangeCheck_30 : decode cJ11_rangeCheck 30 = .ok (.iload_n 2, 1) := by decide +kernel
set_option maxRecDepth 100000 in
theorem dJ11_rangeCheck_31 : decode cJ11_rangeCheck 31 = .ok (.invokevirtual 54, 3) := by decide +kernel
set_option maxRecDepth 100000 in
theorem dJ11_rangeCheck_34 : decode cJ11_rangeCheck 34 = .ok (.ldc 59, 2) := by decide +kernel
set_option maxRecDepth 100000 in
theorem dJ11_rangeCheck_36 : decode cJ11_rangeCheck 36 = .ok (.invokevirtual 50, 3) := by decide +kernel
set_option maxRecDepth 100000 in
theorem dJ11_rangeCheck_39 : decode cJ11_rangeCheck 39 = .ok (.invokevirtual 61, 3) := by decide +kernel
set_option maxRecDepth 100000 in
theorem dJ11_rangeCheck_42 : decode cJ11_rangeCheck 42 = .ok (.invokespecial 65, 3) := by decide +kernel
set_option maxRecDepth 100000 in
theorem dJ11_rangeCheck_45 : decode cJ11_rangeCheck 45 = .ok (.athrow, 1) := by decide +kernel
set_option maxRecDepth 100000 in
theorem dJ11_rangeCheck_46 : decode cJ11_rangeCheck 46 = .ok (.iload_n 1, 1) := by decide +kernel
set_option maxRecDepth 100000 in
theorem dJ11_rangeCheck_47 : decode cJ11_rangeCheck 47 = .ok (.ifCond .ge 12, 3) := by decide +kernel
set_option maxRecDepth 100000 in
theorem dJ11_rangeCheck_50 : decode cJ11_rangeCheck 50 = .ok (.new 68, 3) := by decide +kernel
set_option maxRecDepth 100000 in
theorem dJ11_rangeCheck_53 : decode cJ11_rangeCheck 53 = .ok (.dup, 1) := by decide +kernel
set_option maxRecDepth 100000 in
theorem dJ11_rangeCheck_54 : decode cJ11_rangeCheck 54 = .ok (.iload_n 1, 1) := by decide +kernel
set_option maxRecDepth 100000 in
theorem dJ11_rangeCheck_55 : decode cJ11_rangeCheck 55 = .ok (.invokespecial 70, 3) := by decide +kernel
set_option maxRecDepth 100000 in
theorem dJ11_rangeCheck_58 : decode cJ11_rangeCheck 58 = .ok (.athrow, 1) := by decide +kernel
set_option maxRecDepth 100000 in
theorem dJ11_rangeCheck_59 : decode cJ11_rangeCheck 59 = .ok (.iload_n 2, 1) := by decide +kernel
set_option maxRecDepth 100000 in
theorem dJ11_rangeCheck_60 : decode cJ11_rangeCheck 60 = .ok (.iload_n 0, 1) := by decide +kernel
set_option maxRecDepth 100000 in
theorem dJ11_rangeCheck_61 : decode cJ11_rangeCheck 61 = .ok (.if_icmp .le 12, 3) := by decide +kernel
set_option maxRecDepth 100000 in
theorem dJ11_rangeCheck_64 : decode cJ11_rangeCheck 64 = .ok (.new 68, 3) := by decide +kernel
set_option maxRecDepth 100000 in
theorem dJ11_rangeCheck_67 : decode cJ11_rangeCheck 67 = .ok (.dup, 1) := by decide +kernel
set_option maxRecDepth 100000 in
theorem dJ11_rangeCheck_68 : decode cJ11_rangeCheck 68 = .ok (.iload_n 2, 1) := by decide +kernel
set_option maxRecDepth 100000 in
theorem dJ11_rangeCheck_69 : decode cJ11_rangeCheck 69 = .ok (.invokespecial 70, 3) := by decide +kernel
set_option maxRecDepth 100000 in
theorem dJ11_rangeCheck_72 : decode cJ11_rangeCheck 72 = .ok (.athrow, 1) := by decide +kernel
set_option maxRecDepth 100000 in
theorem dJ11_rangeCheck_73 : decode cJ11_rangeCheck 73 = .ok (.return_, 1) := by decide +kernel
set_option maxRecDepth 100000 in
def bJ11_rangeCheck (G : xG) (fr lo : Nat) (x0 : Int32) (x1 : Int32) (x2 : Int32) (h : xH) (Q : Outcome → xH → Prop) : Prop := ((x1 ≤ x2 → ((0 ≤ x1 → ((x2 ≤ x0 → Q (.returned none) h) ∧ (¬ x2 ≤ x0 → False))) ∧ (¬ 0 ≤ x1 → False))) ∧ (¬ x1 ≤ x2 → False))
set_option maxRecDepth 100000 in
theorem uJ11_rangeCheck {G : xG} {fr lo : Nat} {x0 : Int32} {x1 : Int32} {x2 : Int32} {h : xH} {Q : Outcome → xH → Prop} (hq : bJ11_rangeCheck G fr lo x0 x1 x2 h Q) : xP G YJ11_rangeCheck fr lo 0 [(0, .int x0), (1, .int x1), (2, .int x2)] [] h Q := by
  unfold bJ11_rangeCheck at hq
  refine x_iload_n 1 dJ11_rangeCheck_0 rfl ?_
  refine x_iload_n 2 dJ11_rangeCheck_1 rfl ?_
  refine x_icmp_le (tgt := 46) dJ11_rangeCheck_2 (by decide) (fun c1 => ?_) (fun c1 => ?_)
  · replace hq := hq.1 c1
    refine x_iload_n 1 dJ11_rangeCheck_46 rfl ?_
    refine x_if_ge (tgt := 59) dJ11_rangeCheck_47 (by decide) (fun c2 => ?_) (fun c2 => ?_)
    · replace hq := hq.1 c2
      refine x_iload_n 2 dJ11_rangeCheck_59 rfl ?_
      refine x_iload_n 0 dJ11_rangeCheck_60 rfl ?_
      refine x_icmp_le (tgt := 73) dJ11_rangeCheck_61 (by decide) (fun c3 => ?_) (fun c3 => ?_)
      · replace hq := hq.1 c3
        exact x_vret rfl dJ11_rangeCheck_73 hq
      · replace hq := hq.2 c3
        exact hq.elim
    · replace hq := hq.2 c2
      exact hq.elim
  · replace hq := hq.2 c1
    exact hq.elim
theorem rJ11_rangeCheck {G : xG} {fr lo : Nat} {x0 : Int32} {x1 : Int32} {x2 : Int32} {h : xH} {Q : Outcome → xH → Prop} (hq : bJ11_rangeCheck G fr lo x0 x1 x2 h Q) : xR G YJ11_rangeCheck fr lo [.int x0, .int x1, .int x2] h Q := by
  show xP _ _ _ _ _ (lv_args 0 _) _ _ _
  rw [show lv_args 0 [.int x0, .int x1, .int x2] = [(0, .int x0), (1, .int x1), (2, .int x2)] from (xla1 rfl (xla1 rfl (xla1 rfl xla0)))]
  exact uJ11_rangeCheck hq
