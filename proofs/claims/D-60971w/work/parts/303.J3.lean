/-! java/lang/AbstractStringBuilder, walked (1) -/
set_option maxRecDepth 100000 in
theorem dJ3_init_0 : decode cJ3_init 0 = .ok (.aload_n 0, 1) := by decide +kernel
set_option maxRecDepth 100000 in
theorem dJ3_init_1 : decode cJ3_init 1 = .ok (.invokespecial 3, 3) := by decide +kernel
set_option maxRecDepth 100000 in
theorem dJ3_init_4 : decode cJ3_init 4 = .ok (.getstatic 18, 3) := by decide +kernel
set_option maxRecDepth 100000 in
theorem dJ3_init_7 : decode cJ3_init 7 = .ok (.ifCond .eq 18, 3) := by decide +kernel
set_option maxRecDepth 100000 in
theorem dJ3_init_10 : decode cJ3_init 10 = .ok (.aload_n 0, 1) := by decide +kernel
set_option maxRecDepth 100000 in
theorem dJ3_init_11 : decode cJ3_init 11 = .ok (.iload_n 1, 1) := by decide +kernel
set_option maxRecDepth 100000 in
theorem dJ3_init_12 : decode cJ3_init 12 = .ok (.newarray .byte, 2) := by decide +kernel
set_option maxRecDepth 100000 in
theorem dJ3_init_14 : decode cJ3_init 14 = .ok (.putfield 15, 3) := by decide +kernel
set_option maxRecDepth 100000 in
theorem dJ3_init_17 : decode cJ3_init 17 = .ok (.aload_n 0, 1) := by decide +kernel
set_option maxRecDepth 100000 in
theorem dJ3_init_18 : decode cJ3_init 18 = .ok (.iconst 0, 1) := by decide +kernel
set_option maxRecDepth 100000 in
theorem dJ3_init_19 : decode cJ3_init 19 = .ok (.putfield 22, 3) := by decide +kernel
set_option maxRecDepth 100000 in
theorem dJ3_init_22 : decode cJ3_init 22 = .ok (.goto 16, 3) := by decide +kernel
set_option maxRecDepth 100000 in
theorem dJ3_init_25 : decode cJ3_init 25 = .ok (.aload_n 0, 1) := by decide +kernel
set_option maxRecDepth 100000 in
theorem dJ3_init_26 : decode cJ3_init 26 = .ok (.iload_n 1, 1) := by decide +kernel
set_option maxRecDepth 100000 in
theorem dJ3_init_27 : decode cJ3_init 27 = .ok (.invokestatic 26, 3) := by decide +kernel
set_option maxRecDepth 100000 in
theorem dJ3_init_30 : decode cJ3_init 30 = .ok (.putfield 15, 3) := by decide +kernel
set_option maxRecDepth 100000 in
theorem dJ3_init_33 : decode cJ3_init 33 = .ok (.aload_n 0, 1) := by decide +kernel
set_option maxRecDepth 100000 in
theorem dJ3_init_34 : decode cJ3_init 34 = .ok (.iconst 1, 1) := by decide +kernel
set_option maxRecDepth 100000 in
theorem dJ3_init_35 : decode cJ3_init 35 = .ok (.putfield 22, 3) := by decide +kernel
set_option maxRecDepth 100000 in
theorem dJ3_init_38 : decode cJ3_init 38 = .ok (.return_, 1) := by decide +kernel
set_option maxRecDepth 100000 in
def bJ3_init_38 (G : xG) (fr lo : Nat) (h : xH) (Q : Outcome → xH → Prop) : Prop := Q (.returned none) h
set_option maxRecDepth 100000 in
theorem uJ3_init_38 {G : xG} {fr lo : Nat} {h : xH} {Q : Outcome → xH → Prop} (hq : bJ3_init_38 G fr lo h Q) : xP G YJ3_init fr lo 38 [] [] h Q := by
  unfold bJ3_init_38 at hq
  exact x_vret rfl dJ3_init_38 hq
set_option maxRecDepth 100000 in
def bJ3_init (G : xG) (fr lo : Nat) (x0 : Nat) (x1 : Int32) (h : xH) (Q : Outcome → xH → Prop) : Prop := tg h x0 = 30 ∧ 1 ≤ fr ∧ 12 ≤ lo ∧ ((1 = 0 → 1 ≤ fr ∧ 13 ≤ lo ∧ xRr G YJ6_newBytesFor (fr - 1) (lo - 13) [.int x1] h (fun x8 h7 => xext h h7 → (∀ h11 : xH, h11 = sR h7 x0 7424 x8 → xni .byte 1 ∧ (∀ h15 : xH, h15 = sI h11 x0 7425 1 → bJ3_init_38 G fr lo h15 Q))) (fun r h2 => Q (.threw r) h2)) ∧ (¬ 1 = 0 → ¬ x1 < 0 ∧ Int32.toNatClampNeg x1 ≤ 1000000 ∧ nx h + 1 ≤ xGN G ∧ us h + (Int32.toNatClampNeg x1) ≤ xGU G ∧ (∀ (a21 : Nat) (h22 : xH), a21 = nx h + 1 → h22 = nA h 103 (Int32.toNatClampNeg x1) → xfresh h a21 → (∀ h28 : xH, h28 = sR h22 x0 7424 a21 → xni .byte 0 ∧ (∀ h32 : xH, h32 = sI h28 x0 7425 0 → bJ3_init_38 G fr lo h32 Q)))))
set_option maxRecDepth 100000 in
theorem uJ3_init {G : xG} {fr lo : Nat} {x0 : Nat} {x1 : Int32} {h : xH} {Q : Outcome → xH → Prop} (hq : bJ3_init G fr lo x0 x1 h Q) : xP G YJ3_init fr lo 0 [(0, rv x0), (1, .int x1)] [] h Q := by
  unfold bJ3_init at hq
  refine x_aload_n 0 dJ3_init_0 rfl ?_
  obtain ⟨g1, hq⟩ := hq
  obtain ⟨g2, g3, hq⟩ := hq
  refine x_objInit (by rw [g1]; decide) q617 q438 q439 dJ3_init_1 g2 (by simp only [List.map_cons, List.map_nil, List.sum_cons, List.sum_nil, rv_cat, Value.category]; omega) ?_
  refine x_gets (v := .int 1) 9 rfl q618 (by simp [xsv]) dJ3_init_4 ?_
  refine x_if_eq (tgt := 25) dJ3_init_7 (by decide) (fun c4 => ?_) (fun c4 => ?_)
  · replace hq := hq.1 c4
    refine x_aload_n 0 dJ3_init_25 rfl ?_
    refine x_iload_n 1 dJ3_init_26 rfl ?_
    obtain ⟨g5, g6, hq⟩ := hq
    refine x_callS (Yc := YJ6_newBytesFor) (as := [.int x1]) (st := [rv x0]) q620 msJ6_newBytesFor rfl dJ3_init_27 (xle (xal1 rfl xal0) (by decide)) (xfr g5) (xlo (xsw1 (rv_cat _) xsw0) (by decide) g6) (xKr hq (fun x8 h7 hq e9 => ?_) (fun _ _ q _ => q))
    replace hq := hq e9
    have t10 : tg h7 x0 = 30 := e9.tg g1 (by decide)
    obtain ⟨h11, e12⟩ : ∃ y, y = sR h7 x0 7424 x8 := ⟨_, rfl⟩
    replace hq := hq h11 e12
    refine x_putR fdJ3_15 xty_A dJ3_init_30 t10 (Or.inl (by rw [t10]; rfl)) rfl e12 ?_
    refine x_aload_n 0 dJ3_init_33 rfl ?_
    refine x_iconst (v := 1) dJ3_init_34 (by decide) ?_
    have t13 : tg h11 x0 = 30 := by rw [e12]; exact t10
    obtain ⟨g14, hq⟩ := hq
    obtain ⟨h15, e16⟩ : ∃ y, y = sI h11 x0 7425 1 := ⟨_, rfl⟩
    replace hq := hq h15 e16
    refine x_putI fdJ3_22 xty_B1 dJ3_init_35 t13 (Or.inl (by rw [t13]; rfl)) g14 rfl e16 ?_
    refine xP.pick (lv' := []) [] rfl ?_
    exact uJ3_init_38 hq
  · replace hq := hq.2 c4
    refine x_aload_n 0 dJ3_init_10 rfl ?_
    refine x_iload_n 1 dJ3_init_11 rfl ?_
    obtain ⟨g17, g18, hq⟩ := hq
    obtain ⟨g19, g20, hq⟩ := hq
    obtain ⟨a21, e23⟩ : ∃ y, y = nx h + 1 := ⟨_, rfl⟩
    obtain ⟨h22, e24⟩ : ∃ y, y = nA h 103 (Int32.toNatClampNeg x1) := ⟨_, rfl⟩
    refine x_newa' 3 pk_byte dJ3_init_12 g17 g18 g19 g20 e23 e24 (fun f25 => ?_)
    replace hq := hq a21 h22 e23 e24 f25
    have t26 : tg h22 a21 = 103 := by rw [e24, e23]; exact tg_nA
    have t27 : tg h22 x0 = 30 := by rw [e24]; exact tg_nA_ne e23 f25 g1 (by decide)
    obtain ⟨h28, e29⟩ : ∃ y, y = sR h22 x0 7424 a21 := ⟨_, rfl⟩
    replace hq := hq h28 e29
    refine x_putR fdJ3_15 xty_A dJ3_init_14 t27 (Or.inl (by rw [t27]; rfl)) rfl e29 ?_
    refine x_aload_n 0 dJ3_init_17 rfl ?_
    refine x_iconst (v := 0) dJ3_init_18 (by decide) ?_
    have t30 : tg h28 x0 = 30 := by rw [e29]; exact t27
    obtain ⟨g31, hq⟩ := hq
    obtain ⟨h32, e33⟩ : ∃ y, y = sI h28 x0 7425 0 := ⟨_, rfl⟩
    replace hq := hq h32 e33
    refine x_putI fdJ3_22 xty_B1 dJ3_init_19 t30 (Or.inl (by rw [t30]; rfl)) g31 rfl e33 ?_
    refine x_goto (tgt := 38) dJ3_init_22 (by decide) ?_
    refine xP.pick (lv' := []) [] rfl ?_
    exact uJ3_init_38 hq
theorem rJ3_init {G : xG} {fr lo : Nat} {x0 : Nat} {x1 : Int32} {h : xH} {Q : Outcome → xH → Prop} (hq : bJ3_init G fr lo x0 x1 h Q) : xR G YJ3_init fr lo [rv x0, .int x1] h Q := by
  show xP _ _ _ _ _ (lv_args 0 _) _ _ _
  rw [show lv_args 0 [rv x0, .int x1] = [(0, rv x0), (1, .int x1)] from (xla1 (rv_cat _) (xla1 rfl xla0))]
  exact uJ3_init hq
set_option maxRecDepth 100000 in
theorem dJ3_append_0 : decode cJ3_append 0 = .ok (.aload_n 0, 1) := by decide +kernel
set_option maxRecDepth 100000 in
theorem dJ3_append_1 : decode cJ3_append 1 = .ok (.aload_n 0, 1) := by decide +kernel
set_option maxRecDepth 100000 in
theorem dJ3_append_2 : decode cJ3_append 2 = .ok (.getfield 79, 3) := by decide +kernel
set_option maxRecDepth 100000 in
theorem dJ3_append_5 : decode cJ3_append 5 = .ok (.iconst 1, 1) := by decide +kernel
set_option maxRecDepth 100000 in
theorem dJ3_append_6 : decode cJ3_append 6 = .ok (.iadd, 1) := by decide +kernel
set_option maxRecDepth 100000 in
theorem dJ3_append_7 : decode cJ3_append 7 = .ok (.invokevirtual 100, 3) := by decide +kernel
set_option maxRecDepth 100000 in
theorem dJ3_append_10 : decode cJ3_append 10 = .ok (.aload_n 0, 1) := by decide +kernel
set_option maxRecDepth 100000 in
theorem dJ3_append_11 : decode cJ3_append 11 = .ok (.invokevirtual 83, 3) := by decide +kernel
set_option maxRecDepth 100000 in
theorem dJ3_append_14 : decode cJ3_append 14 = .ok (.ifCond .eq 31, 3) := by decide +kernel
set_option maxRecDepth 100000 in
theorem dJ3_append_17 : decode cJ3_append 17 = .ok (.iload_n 1, 1) := by decide +kernel
set_option maxRecDepth 100000 in
theorem dJ3_append_18 : decode cJ3_append 18 = .ok (.invokestatic 191, 3) := by decide +kernel
set_option maxRecDepth 100000 in
theorem dJ3_append_21 : decode cJ3_append 21 = .ok (.ifCond .eq 24, 3) := by decide +kernel
set_option maxRecDepth 100000 in
theorem dJ3_append_24 : decode cJ3_append 24 = .ok (.aload_n 0, 1) := by decide +kernel
set_option maxRecDepth 100000 in
theorem dJ3_append_25 : decode cJ3_append 25 = .ok (.getfield 15, 3) := by decide +kernel
set_option maxRecDepth 100000 in
theorem dJ3_append_28 : decode cJ3_append 28 = .ok (.aload_n 0, 1) := by decide +kernel
set_option maxRecDepth 100000 in
theorem dJ3_append_29 : decode cJ3_append 29 = .ok (.dup, 1) := by decide +kernel
set_option maxRecDepth 100000 in
theorem dJ3_append_30 : decode cJ3_append 30 = .ok (.getfield 79, 3) := by decide +kernel
set_option maxRecDepth 100000 in
theorem dJ3_append_33 : decode cJ3_append 33 = .ok (.dup_x1, 1) := by decide +kernel
set_option maxRecDepth 100000 in
theorem dJ3_append_34 : decode cJ3_append 34 = .ok (.iconst 1, 1) := by decide +kernel
set_option maxRecDepth 100000 in
theorem dJ3_append_35 : decode cJ3_append 35 = .ok (.iadd, 1) := by decide +kernel
set_option maxRecDepth 100000 in
theorem dJ3_append_36 : decode cJ3_append 36 = .ok (.putfield 79, 3) := by decide +kernel
set_option maxRecDepth 100000 in
theorem dJ3_append_39 : decode cJ3_append 39 = .ok (.iload_n 1, 1) := by decide +kernel
set_option maxRecDepth 100000 in
theorem dJ3_append_40 : decode cJ3_append 40 = .ok (.i2b, 1) := by decide +kernel
set_option maxRecDepth 100000 in
theorem dJ3_append_41 : decode cJ3_append 41 = .ok (.bastore, 1) := by decide +kernel
set_option maxRecDepth 100000 in
theorem dJ3_append_42 : decode cJ3_append 42 = .ok (.goto 33, 3) := by decide +kernel
set_option maxRecDepth 100000 in
theorem dJ3_append_45 : decode cJ3_append 45 = .ok (.aload_n 0, 1) := by decide +kernel
set_option maxRecDepth 100000 in
theorem dJ3_append_46 : decode cJ3_append 46 = .ok (.invokevirtual 83, 3) := by decide +kernel
set_option maxRecDepth 100000 in
theorem dJ3_append_49 : decode cJ3_append 49 = .ok (.ifCond .eq 7, 3) := by decide +kernel
set_option maxRecDepth 100000 in
theorem dJ3_append_52 : decode cJ3_append 52 = .ok (.aload_n 0, 1) := by decide +kernel
set_option maxRecDepth 100000 in
theorem dJ3_append_53 : decode cJ3_append 53 = .ok (.invokevirtual 195, 3) := by decide +kernel
set_option maxRecDepth 100000 in
theorem dJ3_append_56 : decode cJ3_append 56 = .ok (.aload_n 0, 1) := by decide +kernel
set_option maxRecDepth 100000 in
theorem dJ3_append_57 : decode cJ3_append 57 = .ok (.getfield 15, 3) := by decide +kernel
set_option maxRecDepth 100000 in
theorem dJ3_append_60 : decode cJ3_append 60 = .ok (.aload_n 0, 1) := by decide +kernel
set_option maxRecDepth 100000 in
theorem dJ3_append_61 : decode cJ3_append 61 = .ok (.dup, 1) := by decide +kernel
set_option maxRecDepth 100000 in
theorem dJ3_append_62 : decode cJ3_append 62 = .ok (.getfield 79, 3) := by decide +kernel
set_option maxRecDepth 100000 in
theorem dJ3_append_65 : decode cJ3_append 65 = .ok (.dup_x1, 1) := by decide +kernel
set_option maxRecDepth 100000 in
theorem dJ3_append_66 : decode cJ3_append 66 = .ok (.iconst 1, 1) := by decide +kernel
set_option maxRecDepth 100000 in
theorem dJ3_append_67 : decode cJ3_append 67 = .ok (.iadd, 1) := by decide +kernel
set_option maxRecDepth 100000 in
theorem dJ3_append_68 : decode cJ3_append 68 = .ok (.putfield 79, 3) := by decide +kernel
set_option maxRecDepth 100000 in
theorem dJ3_append_71 : decode cJ3_append 71 = .ok (.iload_n 1, 1) := by decide +kernel
set_option maxRecDepth 100000 in
theorem dJ3_append_72 : decode cJ3_append 72 = .ok (.invokestatic 197, 3) := by decide +kernel
set_option maxRecDepth 100000 in
theorem dJ3_append_75 : decode cJ3_append 75 = .ok (.aload_n 0, 1) := by decide +kernel
set_option maxRecDepth 100000 in
theorem dJ3_append_76 : decode cJ3_append 76 = .ok (.areturn, 1) := by decide +kernel
set_option maxRecDepth 100000 in
def bJ3_append_75 (G : xG) (fr lo : Nat) (x0 : Nat) (h : xH) (Q : Outcome → xH → Prop) : Prop := Q (.returned (some (rv x0))) h
set_option maxRecDepth 100000 in
theorem uJ3_append_75 {G : xG} {fr lo : Nat} {x0 : Nat} {h : xH} {Q : Outcome → xH → Prop} (hq : bJ3_append_75 G fr lo x0 h Q) : xP G YJ3_append fr lo 75 [(0, rv x0)] [] h Q := by
  unfold bJ3_append_75 at hq
  refine x_aload_n 0 dJ3_append_75 rfl ?_
  exact x_aret rfl xty_O dJ3_append_76 hq
set_option maxRecDepth 100000 in
def bJ3_append_56 (G : xG) (fr lo : Nat) (x0 : Nat) (x1 : Int32) (h : xH) (Q : Outcome → xH → Prop) : Prop := tg h x0 = 30 ∧ (∀ h2 : xH, h2 = sI h x0 7427 ((fI h x0 7427) + 1) → 1 ≤ fr ∧ 14 ≤ lo ∧ xRv G YJ6_putCharSB (fr - 1) (lo - 14) [rv (fR h x0 7424), .int (fI h x0 7427), .int x1] h2 (fun h6 => xext h2 h6 → bJ3_append_75 G fr lo x0 h6 Q) (fun r h2 => Q (.threw r) h2))
set_option maxRecDepth 100000 in
theorem uJ3_append_56 {G : xG} {fr lo : Nat} {x0 : Nat} {x1 : Int32} {h : xH} {Q : Outcome → xH → Prop} (hq : bJ3_append_56 G fr lo x0 x1 h Q) : xP G YJ3_append fr lo 56 [(0, rv x0), (1, .int x1)] [] h Q := by
  unfold bJ3_append_56 at hq
  refine x_aload_n 0 dJ3_append_56 rfl ?_
  obtain ⟨g1, hq⟩ := hq
  refine x_get (v := rv (fR h x0 7424)) fdJ3_15 dJ3_append_57 g1 rfl ?_
  refine x_aload_n 0 dJ3_append_60 rfl ?_
  refine x_dup dJ3_append_61 (rv_cat _) ?_
  refine x_get (v := .int (fI h x0 7427)) fdJ3_79 dJ3_append_62 g1 rfl ?_
  refine x_dup_x1 dJ3_append_65 rfl (rv_cat _) ?_
  refine x_iconst (v := 1) dJ3_append_66 (by decide) ?_
  refine x_iadd dJ3_append_67 ?_
  obtain ⟨h2, e3⟩ : ∃ y, y = sI h x0 7427 ((fI h x0 7427) + 1) := ⟨_, rfl⟩
  replace hq := hq h2 e3
  refine x_putI fdJ3_79 xty_I1 dJ3_append_68 g1 (Or.inl (by rw [g1]; rfl)) xnI rfl e3 ?_
  refine x_iload_n 1 dJ3_append_71 rfl ?_
  obtain ⟨g4, g5, hq⟩ := hq
  refine x_callS (Yc := YJ6_putCharSB) (as := [rv (fR h x0 7424), .int (fI h x0 7427), .int x1]) (st := []) q899 msJ6_putCharSB rfl dJ3_append_72 (xle (xal1 (rv_cat _) (xal1 rfl (xal1 rfl xal0))) (by decide)) (xfr g4) (xlo xsw0 (by decide) g5) (xKv hq (fun h6 hq e8 => ?_) (fun _ _ q _ => q))
  replace hq := hq e8
  refine xP.pick (lv' := [(0, rv x0)]) [0] rfl ?_
  exact uJ3_append_75 hq
set_option maxRecDepth 100000 in
def bJ3_append_45 (G : xG) (fr lo : Nat) (x0 : Nat) (x1 : Int32) (h : xH) (Q : Outcome → xH → Prop) : Prop := tg h x0 = 30 ∧ 1 ≤ fr ∧ 12 ≤ lo ∧ xRi G YJ3_isLatin1 (fr - 1) (lo - 12) [rv x0] h (fun x5 h4 => xext h h4 → ((x5 = 0 → bJ3_append_56 G fr lo x0 x1 h4 Q) ∧ (¬ x5 = 0 → 1 ≤ fr ∧ 13 ≤ lo ∧ xRv G YJ3_inflate (fr - 1) (lo - 13) [rv x0] h4 (fun h11 => xext h4 h11 → bJ3_append_56 G fr lo x0 x1 h11 Q) (fun r h2 => Q (.threw r) h2)))) (fun r h2 => Q (.threw r) h2)
set_option maxRecDepth 100000 in
theorem uJ3_append_45 {G : xG} {fr lo : Nat} {x0 : Nat} {x1 : Int32} {h : xH} {Q : Outcome → xH → Prop} (hq : bJ3_append_45 G fr lo x0 x1 h Q) : xP G YJ3_append fr lo 45 [(0, rv x0), (1, .int x1)] [] h Q := by
  unfold bJ3_append_45 at hq
  refine x_aload_n 0 dJ3_append_45 rfl ?_
  obtain ⟨g1, hq⟩ := hq
  obtain ⟨g2, g3, hq⟩ := hq
  refine x_callV (Yc := YJ3_isLatin1) (as := []) (st := []) q869 mvJ3_isLatin1 g1 rfl dJ3_append_46 (xle (xal1 (rv_cat _) xal0) (by decide)) (xfr g2) (xlo xsw0 (by decide) g3) (xKi hq (fun x5 h4 hq e6 => ?_) (fun _ _ q _ => q))
  replace hq := hq e6
  refine x_if_eq (tgt := 56) dJ3_append_49 (by decide) (fun c7 => ?_) (fun c7 => ?_)
  · replace hq := hq.1 c7
    exact uJ3_append_56 hq
  · replace hq := hq.2 c7
    refine x_aload_n 0 dJ3_append_52 rfl ?_
    have t8 : tg h4 x0 = 30 := e6.tg g1 (by decide)
    obtain ⟨g9, g10, hq⟩ := hq
    refine x_callP (Yc := YJ3_inflate) (as := []) (st := []) q877 mpJ3_inflate t8 rfl dJ3_append_53 (xle (xal1 (rv_cat _) xal0) (by decide)) (xfr g9) (xlo xsw0 (by decide) g10) (xKv hq (fun h11 hq e13 => ?_) (fun _ _ q _ => q))
    replace hq := hq e13
    exact uJ3_append_56 hq
set_option maxRecDepth 100000 in
def bJ3_append (G : xG) (fr lo : Nat) (x0 : Nat) (x1 : Int32) (h : xH) (Q : Outcome → xH → Prop) : Prop := tg h x0 = 30 ∧ 1 ≤ fr ∧ 14 ≤ lo ∧ xRv G YJ3_ensureCapacityInternal (fr - 1) (lo - 14) [rv x0, .int ((fI h x0 7427) + 1)] h (fun h4 => xext h h4 → 1 ≤ fr ∧ 12 ≤ lo ∧ xRi G YJ3_isLatin1 (fr - 1) (lo - 12) [rv x0] h4 (fun x11 h10 => xext h4 h10 → ((x11 = 0 → bJ3_append_45 G fr lo x0 x1 h10 Q) ∧ (¬ x11 = 0 → 1 ≤ fr ∧ 12 ≤ lo ∧ xRi G YJ7_canEncode (fr - 1) (lo - 12) [.int x1] h10 (fun x17 h16 => xext h10 h16 → ((x17 = 0 → bJ3_append_45 G fr lo x0 x1 h16 Q) ∧ (¬ x17 = 0 → (∀ h22 : xH, h22 = sI h16 x0 7427 ((fI h16 x0 7427) + 1) → tg h22 (fR h16 x0 7424) = 103 ∧ xGB G < (fR h16 x0 7424) ∧ vp_in (fI h16 x0 7427) (ln h22 (fR h16 x0 7424)) ∧ (∀ h27 : xH, h27 = tI h22 (fR h16 x0 7424) (Int32.toNatClampNeg (fI h16 x0 7427)) (vp_nar .byte ((Int32.toInt8 x1).toInt32)) → bJ3_append_75 G fr lo x0 h27 Q))))) (fun r h2 => Q (.threw r) h2)))) (fun r h2 => Q (.threw r) h2)) (fun r h2 => Q (.threw r) h2)
set_option maxRecDepth 100000 in
theorem uJ3_append {G : xG} {fr lo : Nat} {x0 : Nat} {x1 : Int32} {h : xH} {Q : Outcome → xH → Prop} (hq : bJ3_append G fr lo x0 x1 h Q) : xP G YJ3_append fr lo 0 [(0, rv x0), (1, .int x1)] [] h Q := by
  unfold bJ3_append at hq
  refine x_aload_n 0 dJ3_append_0 rfl ?_
  refine x_aload_n 0 dJ3_append_1 rfl ?_
  obtain ⟨g1, hq⟩ := hq
  refine x_get (v := .int (fI h x0 7427)) fdJ3_79 dJ3_append_2 g1 rfl ?_
  refine x_iconst (v := 1) dJ3_append_5 (by decide) ?_
  refine x_iadd dJ3_append_6 ?_
  obtain ⟨g2, g3, hq⟩ := hq
  refine x_callP (Yc := YJ3_ensureCapacityInternal) (as := [.int ((fI h x0 7427) + 1)]) (st := []) q834 mpJ3_ensureCapacityInternal g1 rfl dJ3_append_7 (xle (xal1 (rv_cat _) (xal1 rfl xal0)) (by decide)) (xfr g2) (xlo xsw0 (by decide) g3) (xKv hq (fun h4 hq e6 => ?_) (fun _ _ q _ => q))
  replace hq := hq e6
  refine x_aload_n 0 dJ3_append_10 rfl ?_
  have t7 : tg h4 x0 = 30 := e6.tg g1 (by decide)
  obtain ⟨g8, g9, hq⟩ := hq
  refine x_callV (Yc := YJ3_isLatin1) (as := []) (st := []) q869 mvJ3_isLatin1 t7 rfl dJ3_append_11 (xle (xal1 (rv_cat _) xal0) (by decide)) (xfr g8) (xlo xsw0 (by decide) g9) (xKi hq (fun x11 h10 hq e12 => ?_) (fun _ _ q _ => q))
  replace hq := hq e12
  refine x_if_eq (tgt := 45) dJ3_append_14 (by decide) (fun c13 => ?_) (fun c13 => ?_)
  · replace hq := hq.1 c13
    exact uJ3_append_45 hq
  · replace hq := hq.2 c13
    refine x_iload_n 1 dJ3_append_17 rfl ?_
    obtain ⟨g14, g15, hq⟩ := hq
    refine x_callS (Yc := YJ7_canEncode) (as := [.int x1]) (st := []) q874 msJ7_canEncode rfl dJ3_append_18 (xle (xal1 rfl xal0) (by decide)) (xfr g14) (xlo xsw0 (by decide) g15) (xKi hq (fun x17 h16 hq e18 => ?_) (fun _ _ q _ => q))
    replace hq := hq e18
    refine x_if_eq (tgt := 45) dJ3_append_21 (by decide) (fun c19 => ?_) (fun c19 => ?_)
    · replace hq := hq.1 c19
      exact uJ3_append_45 hq
    · replace hq := hq.2 c19
      refine x_aload_n 0 dJ3_append_24 rfl ?_
      have t20 : tg h10 x0 = 30 := e12.tg t7 (by decide)
      have t21 : tg h16 x0 = 30 := e18.tg t20 (by decide)
      refine x_get (v := rv (fR h16 x0 7424)) fdJ3_15 dJ3_append_25 t21 rfl ?_
      refine x_aload_n 0 dJ3_append_28 rfl ?_
      refine x_dup dJ3_append_29 (rv_cat _) ?_
      refine x_get (v := .int (fI h16 x0 7427)) fdJ3_79 dJ3_append_30 t21 rfl ?_
      refine x_dup_x1 dJ3_append_33 rfl (rv_cat _) ?_
      refine x_iconst (v := 1) dJ3_append_34 (by decide) ?_
      refine x_iadd dJ3_append_35 ?_
      obtain ⟨h22, e23⟩ : ∃ y, y = sI h16 x0 7427 ((fI h16 x0 7427) + 1) := ⟨_, rfl⟩
      replace hq := hq h22 e23
      refine x_putI fdJ3_79 xty_I1 dJ3_append_36 t21 (Or.inl (by rw [t21]; rfl)) xnI rfl e23 ?_
      refine x_iload_n 1 dJ3_append_39 rfl ?_
      refine x_i2b dJ3_append_40 ?_
      obtain ⟨g24, hq⟩ := hq
      obtain ⟨w25, hq⟩ := hq
      obtain ⟨i26, hq⟩ := hq
      obtain ⟨h27, e28⟩ : ∃ y, y = tI h22 (fR h16 x0 7424) (Int32.toNatClampNeg (fI h16 x0 7427)) (vp_nar .byte ((Int32.toInt8 x1).toInt32)) := ⟨_, rfl⟩
      replace hq := hq h27 e28
      refine x_bast' g24 (Or.inr w25) i26 dJ3_append_41 e28 ?_
      refine x_goto (tgt := 75) dJ3_append_42 (by decide) ?_
      refine xP.pick (lv' := [(0, rv x0)]) [0] rfl ?_
      exact uJ3_append_75 hq
theorem rJ3_append {G : xG} {fr lo : Nat} {x0 : Nat} {x1 : Int32} {h : xH} {Q : Outcome → xH → Prop} (hq : bJ3_append G fr lo x0 x1 h Q) : xR G YJ3_append fr lo [rv x0, .int x1] h Q := by
  show xP _ _ _ _ _ (lv_args 0 _) _ _ _
  rw [show lv_args 0 [rv x0, .int x1] = [(0, rv x0), (1, .int x1)] from (xla1 (rv_cat _) (xla1 rfl xla0))]
  exact uJ3_append hq
set_option maxRecDepth 100000 in
theorem dJ3_ensureCapacityInternal_0 : decode cJ3_ensureCapacityInternal 0 = .ok (.aload_n 0, 1) := by decide +kernel
set_option maxRecDepth 100000 in
theorem dJ3_ensureCapacityInternal_1 : decode cJ3_ensureCapacityInternal 1 = .ok (.getfield 15, 3) := by decide +kernel
set_option maxRecDepth 100000 in
theorem dJ3_ensureCapacityInternal_4 : decode cJ3_ensureCapacityInternal 4 = .ok (.arraylength, 1) := by decide +kernel
set_option maxRecDepth 100000 in
theorem dJ3_ensureCapacityInternal_5 : decode cJ3_ensureCapacityInternal 5 = .ok (.aload_n 0, 1) := by decide +kernel
set_option maxRecDepth 100000 in
theorem dJ3_ensureCapacityInternal_6 : decode cJ3_ensureCapacityInternal 6 = .ok (.getfield 22, 3) := by decide +kernel
set_option maxRecDepth 100000 in
theorem dJ3_ensureCapacityInternal_9 : decode cJ3_ensureCapacityInternal 9 = .ok (.ishr, 1) := by decide +kernel
set_option maxRecDepth 100000 in
theorem dJ3_ensureCapacityInternal_10 : decode cJ3_ensureCapacityInternal 10 = .ok (.istore_n 2, 1) := by decide +kernel
set_option maxRecDepth 100000 in
theorem dJ3_ensureCapacityInternal_11 : decode cJ3_ensureCapacityInternal 11 = .ok (.iload_n 1, 1) := by decide +kernel
set_option maxRecDepth 100000 in
theorem dJ3_ensureCapacityInternal_12 : decode cJ3_ensureCapacityInternal 12 = .ok (.iload_n 2, 1) := by decide +kernel
set_option maxRecDepth 100000 in
theorem dJ3_ensureCapacityInternal_13 : decode cJ3_ensureCapacityInternal 13 = .ok (.isub, 1) := by decide +kernel
set_option maxRecDepth 100000 in
theorem dJ3_ensureCapacityInternal_14 : decode cJ3_ensureCapacityInternal 14 = .ok (.ifCond .le 24, 3) := by decide +kernel
set_option maxRecDepth 100000 in
theorem dJ3_ensureCapacityInternal_17 : decode cJ3_ensureCapacityInternal 17 = .ok (.aload_n 0, 1) := by decide +kernel
set_option maxRecDepth 100000 in
theorem dJ3_ensureCapacityInternal_18 : decode cJ3_ensureCapacityInternal 18 = .ok (.aload_n 0, 1) := by decide +kernel
set_option maxRecDepth 100000 in
theorem dJ3_ensureCapacityInternal_19 : decode cJ3_ensureCapacityInternal 19 = .ok (.getfield 15, 3) := by decide +kernel
set_option maxRecDepth 100000 in
theorem dJ3_ensureCapacityInternal_22 : decode cJ3_ensureCapacityInternal 22 = .ok (.aload_n 0, 1) := by decide +kernel
set_option maxRecDepth 100000 in
theorem dJ3_ensureCapacityInternal_23 : decode cJ3_ensureCapacityInternal 23 = .ok (.iload_n 1, 1) := by decide +kernel
set_option maxRecDepth 100000 in
theorem dJ3_ensureCapacityInternal_24 : decode cJ3_ensureCapacityInternal 24 = .ok (.invokevirtual 104, 3) := by decide +kernel
set_option maxRecDepth 100000 in
theorem dJ3_ensureCapacityInternal_27 : decode cJ3_ensureCapacityInternal 27 = .ok (.aload_n 0, 1) := by decide +kernel
set_option maxRecDepth 100000 in
theorem dJ3_ensureCapacityInternal_28 : decode cJ3_ensureCapacityInternal 28 = .ok (.getfield 22, 3) := by decide +kernel
set_option maxRecDepth 100000 in
theorem dJ3_ensureCapacityInternal_31 : decode cJ3_ensureCapacityInternal 31 = .ok (.ishl, 1) := by decide +kernel
set_option maxRecDepth 100000 in
theorem dJ3_ensureCapacityInternal_32 : decode cJ3_ensureCapacityInternal 32 = .ok (.invokestatic 108, 3) := by decide +kernel
set_option maxRecDepth 100000 in
theorem dJ3_ensureCapacityInternal_35 : decode cJ3_ensureCapacityInternal 35 = .ok (.putfield 15, 3) := by decide +kernel
set_option maxRecDepth 100000 in
theorem dJ3_ensureCapacityInternal_38 : decode cJ3_ensureCapacityInternal 38 = .ok (.return_, 1) := by decide +kernel
set_option maxRecDepth 100000 in
def bJ3_ensureCapacityInternal_38 (G : xG) (fr lo : Nat) (h : xH) (Q : Outcome → xH → Prop) : Prop := Q (.returned none) h
set_option maxRecDepth 100000 in
theorem uJ3_ensureCapacityInternal_38 {G : xG} {fr lo : Nat} {h : xH} {Q : Outcome → xH → Prop} (hq : bJ3_ensureCapacityInternal_38 G fr lo h Q) : xP G YJ3_ensureCapacityInternal fr lo 38 [] [] h Q := by
  unfold bJ3_ensureCapacityInternal_38 at hq
  exact x_vret rfl dJ3_ensureCapacityInternal_38 hq
set_option maxRecDepth 100000 in
def bJ3_ensureCapacityInternal (G : xG) (fr lo : Nat) (x0 : Nat) (x1 : Int32) (h : xH) (Q : Outcome → xH → Prop) : Prop := tg h x0 = 30 ∧ tg h (fR h x0 7424) = 103 ∧ (((x1 - ((Int32.ofNat (ln h (fR h x0 7424))) >>> ((fI h x0 7425) &&& 31))) ≤ 0 → bJ3_ensureCapacityInternal_38 G fr lo h Q) ∧ (¬ (x1 - ((Int32.ofNat (ln h (fR h x0 7424))) >>> ((fI h x0 7425) &&& 31))) ≤ 0 → 1 ≤ fr ∧ 19 ≤ lo ∧ xRi G YJ3_newCapacity (fr - 1) (lo - 19) [rv x0, .int x1] h (fun x7 h6 => xext h h6 → 1 ≤ fr ∧ 15 ≤ lo ∧ xRr G YJ11_copyOf (fr - 1) (lo - 15) [rv (fR h x0 7424), .int (x7 <<< ((fI h6 x0 7425) &&& 31))] h6 (fun x13 h12 => xext h6 h12 → (∀ h16 : xH, h16 = sR h12 x0 7424 x13 → bJ3_ensureCapacityInternal_38 G fr lo h16 Q)) (fun r h2 => Q (.threw r) h2)) (fun r h2 => Q (.threw r) h2)))
set_option maxRecDepth 100000 in
theorem uJ3_ensureCapacityInternal {G : xG} {fr lo : Nat} {x0 : Nat} {x1 : Int32} {h : xH} {Q : Outcome → xH → Prop} (hq : bJ3_ensureCapacityInternal G fr lo x0 x1 h Q) : xP G YJ3_ensureCapacityInternal fr lo 0 [(0, rv x0), (1, .int x1)] [] h Q := by
  unfold bJ3_ensureCapacityInternal at hq
  refine x_aload_n 0 dJ3_ensureCapacityInternal_0 rfl ?_
  obtain ⟨g1, hq⟩ := hq
  refine x_get (v := rv (fR h x0 7424)) fdJ3_15 dJ3_ensureCapacityInternal_1 g1 rfl ?_
  obtain ⟨g2, hq⟩ := hq
  refine x_alen 3 g2 (by decide) dJ3_ensureCapacityInternal_4 ?_
  refine x_aload_n 0 dJ3_ensureCapacityInternal_5 rfl ?_
  refine x_get (v := .int (fI h x0 7425)) fdJ3_22 dJ3_ensureCapacityInternal_6 g1 rfl ?_
  refine x_ishr dJ3_ensureCapacityInternal_9 ?_
  refine x_istore_n (lv' := [(2, .int ((Int32.ofNat (ln h (fR h x0 7424))) >>> ((fI h x0 7425) &&& 31))), (0, rv x0), (1, .int x1)]) dJ3_ensureCapacityInternal_10 (by decide) rfl ?_
  refine x_iload_n 2 dJ3_ensureCapacityInternal_11 rfl ?_
  refine x_iload_n 0 dJ3_ensureCapacityInternal_12 rfl ?_
  refine x_isub dJ3_ensureCapacityInternal_13 ?_
  refine x_if_le (tgt := 38) dJ3_ensureCapacityInternal_14 (by decide) (fun c3 => ?_) (fun c3 => ?_)
  · replace hq := hq.1 c3
    refine xP.pick (lv' := []) [] rfl ?_
    exact uJ3_ensureCapacityInternal_38 hq
  · replace hq := hq.2 c3
    refine x_aload_n 1 dJ3_ensureCapacityInternal_17 rfl ?_
    refine x_aload_n 1 dJ3_ensureCapacityInternal_18 rfl ?_
    refine x_get (v := rv (fR h x0 7424)) fdJ3_15 dJ3_ensureCapacityInternal_19 g1 rfl ?_
    refine x_aload_n 1 dJ3_ensureCapacityInternal_22 rfl ?_
    refine x_iload_n 2 dJ3_ensureCapacityInternal_23 rfl ?_
    obtain ⟨g4, g5, hq⟩ := hq
    refine x_callP (Yc := YJ3_newCapacity) (as := [.int x1]) (st := [rv (fR h x0 7424), rv x0]) q838 mpJ3_newCapacity g1 rfl dJ3_ensureCapacityInternal_24 (xle (xal1 (rv_cat _) (xal1 rfl xal0)) (by decide)) (xfr g4) (xlo (xsw1 (rv_cat _) (xsw1 (rv_cat _) xsw0)) (by decide) g5) (xKi hq (fun x7 h6 hq e8 => ?_) (fun _ _ q _ => q))
    replace hq := hq e8
    refine x_aload_n 1 dJ3_ensureCapacityInternal_27 rfl ?_
    have t9 : tg h6 x0 = 30 := e8.tg g1 (by decide)
    refine x_get (v := .int (fI h6 x0 7425)) fdJ3_22 dJ3_ensureCapacityInternal_28 t9 rfl ?_
    refine x_ishl dJ3_ensureCapacityInternal_31 ?_
    obtain ⟨g10, g11, hq⟩ := hq
    refine x_callS (Yc := YJ11_copyOf) (as := [rv (fR h x0 7424), .int (x7 <<< ((fI h6 x0 7425) &&& 31))]) (st := [rv x0]) q853 msJ11_copyOf rfl dJ3_ensureCapacityInternal_32 (xle (xal1 (rv_cat _) (xal1 rfl xal0)) (by decide)) (xfr g10) (xlo (xsw1 (rv_cat _) xsw0) (by decide) g11) (xKr hq (fun x13 h12 hq e14 => ?_) (fun _ _ q _ => q))
    replace hq := hq e14
    have t15 : tg h12 x0 = 30 := e14.tg t9 (by decide)
    obtain ⟨h16, e17⟩ : ∃ y, y = sR h12 x0 7424 x13 := ⟨_, rfl⟩
    replace hq := hq h16 e17
    refine x_putR fdJ3_15 xty_A dJ3_ensureCapacityInternal_35 t15 (Or.inl (by rw [t15]; rfl)) rfl e17 ?_
    refine xP.pick (lv' := []) [] rfl ?_
    exact uJ3_ensureCapacityInternal_38 hq
theorem rJ3_ensureCapacityInternal {G : xG} {fr lo : Nat} {x0 : Nat} {x1 : Int32} {h : xH} {Q : Outcome → xH → Prop} (hq : bJ3_ensureCapacityInternal G fr lo x0 x1 h Q) : xR G YJ3_ensureCapacityInternal fr lo [rv x0, .int x1] h Q := by
  show xP _ _ _ _ _ (lv_args 0 _) _ _ _
  rw [show lv_args 0 [rv x0, .int x1] = [(0, rv x0), (1, .int x1)] from (xla1 (rv_cat _) (xla1 rfl xla0))]
  exact uJ3_ensureCapacityInternal hq
set_option maxRecDepth 100000 in
theorem dJ3_newCapacity_0 : decode cJ3_newCapacity 0 = .ok (.aload_n 0, 1) := by decide +kernel
set_option maxRecDepth 100000 in
theorem dJ3_newCapacity_1 : decode cJ3_newCapacity 1 = .ok (.getfield 15, 3) := by decide +kernel
set_option maxRecDepth 100000 in
theorem dJ3_newCapacity_4 : decode cJ3_newCapacity 4 = .ok (.arraylength, 1) := by decide +kernel
set_option maxRecDepth 100000 in
theorem dJ3_newCapacity_5 : decode cJ3_newCapacity 5 = .ok (.istore_n 2, 1) := by decide +kernel
set_option maxRecDepth 100000 in
theorem dJ3_newCapacity_6 : decode cJ3_newCapacity 6 = .ok (.iload_n 1, 1) := by decide +kernel
set_option maxRecDepth 100000 in
theorem dJ3_newCapacity_7 : decode cJ3_newCapacity 7 = .ok (.aload_n 0, 1) := by decide +kernel
set_option maxRecDepth 100000 in
theorem dJ3_newCapacity_8 : decode cJ3_newCapacity 8 = .ok (.getfield 22, 3) := by decide +kernel
set_option maxRecDepth 100000 in
theorem dJ3_newCapacity_11 : decode cJ3_newCapacity 11 = .ok (.ishl, 1) := by decide +kernel
set_option maxRecDepth 100000 in
theorem dJ3_newCapacity_12 : decode cJ3_newCapacity 12 = .ok (.istore_n 3, 1) := by decide +kernel
set_option maxRecDepth 100000 in
theorem dJ3_newCapacity_13 : decode cJ3_newCapacity 13 = .ok (.iload_n 3, 1) := by decide +kernel
set_option maxRecDepth 100000 in
theorem dJ3_newCapacity_14 : decode cJ3_newCapacity 14 = .ok (.iload_n 2, 1) := by decide +kernel
set_option maxRecDepth 100000 in
theorem dJ3_newCapacity_15 : decode cJ3_newCapacity 15 = .ok (.isub, 1) := by decide +kernel
set_option maxRecDepth 100000 in
theorem dJ3_newCapacity_16 : decode cJ3_newCapacity 16 = .ok (.istore 4, 2) := by decide +kernel
set_option maxRecDepth 100000 in
theorem dJ3_newCapacity_18 : decode cJ3_newCapacity 18 = .ok (.iload_n 2, 1) := by decide +kernel
set_option maxRecDepth 100000 in
theorem dJ3_newCapacity_19 : decode cJ3_newCapacity 19 = .ok (.iload 4, 2) := by decide +kernel
set_option maxRecDepth 100000 in
theorem dJ3_newCapacity_21 : decode cJ3_newCapacity 21 = .ok (.iload_n 2, 1) := by decide +kernel
set_option maxRecDepth 100000 in
theorem dJ3_newCapacity_22 : decode cJ3_newCapacity 22 = .ok (.iconst 2, 1) := by decide +kernel
set_option maxRecDepth 100000 in
theorem dJ3_newCapacity_23 : decode cJ3_newCapacity 23 = .ok (.aload_n 0, 1) := by decide +kernel
set_option maxRecDepth 100000 in
theorem dJ3_newCapacity_24 : decode cJ3_newCapacity 24 = .ok (.getfield 22, 3) := by decide +kernel
set_option maxRecDepth 100000 in
theorem dJ3_newCapacity_27 : decode cJ3_newCapacity 27 = .ok (.ishl, 1) := by decide +kernel
set_option maxRecDepth 100000 in
theorem dJ3_newCapacity_28 : decode cJ3_newCapacity 28 = .ok (.iadd, 1) := by decide +kernel
set_option maxRecDepth 100000 in
theorem dJ3_newCapacity_29 : decode cJ3_newCapacity 29 = .ok (.invokestatic 114, 3) := by decide +kernel
set_option maxRecDepth 100000 in
theorem dJ3_newCapacity_32 : decode cJ3_newCapacity 32 = .ok (.istore 5, 2) := by decide +kernel
set_option maxRecDepth 100000 in
theorem dJ3_newCapacity_34 : decode cJ3_newCapacity 34 = .ok (.iload 5, 2) := by decide +kernel
set_option maxRecDepth 100000 in
theorem dJ3_newCapacity_36 : decode cJ3_newCapacity 36 = .ok (.ldc 39, 2) := by decide +kernel
set_option maxRecDepth 100000 in
theorem dJ3_newCapacity_38 : decode cJ3_newCapacity 38 = .ok (.if_icmp .ne 13, 3) := by decide +kernel
set_option maxRecDepth 100000 in
theorem dJ3_newCapacity_41 : decode cJ3_newCapacity 41 = .ok (.new 120, 3) := by decide +kernel
set_option maxRecDepth 100000 in
theorem dJ3_newCapacity_44 : decode cJ3_newCapacity 44 = .ok (.dup, 1) := by decide +kernel
set_option maxRecDepth 100000 in
theorem dJ3_newCapacity_45 : decode cJ3_newCapacity 45 = .ok (.ldc 122, 2) := by decide +kernel
set_option maxRecDepth 100000 in
theorem dJ3_newCapacity_47 : decode cJ3_newCapacity 47 = .ok (.invokespecial 124, 3) := by decide +kernel
set_option maxRecDepth 100000 in
theorem dJ3_newCapacity_50 : decode cJ3_newCapacity 50 = .ok (.athrow, 1) := by decide +kernel
set_option maxRecDepth 100000 in
theorem dJ3_newCapacity_51 : decode cJ3_newCapacity 51 = .ok (.iload 5, 2) := by decide +kernel
set_option maxRecDepth 100000 in
theorem dJ3_newCapacity_53 : decode cJ3_newCapacity 53 = .ok (.aload_n 0, 1) := by decide +kernel
set_option maxRecDepth 100000 in
theorem dJ3_newCapacity_54 : decode cJ3_newCapacity 54 = .ok (.getfield 22, 3) := by decide +kernel
set_option maxRecDepth 100000 in
theorem dJ3_newCapacity_57 : decode cJ3_newCapacity 57 = .ok (.ishr, 1) := by decide +kernel
set_option maxRecDepth 100000 in
theorem dJ3_newCapacity_58 : decode cJ3_newCapacity 58 = .ok (.ireturn, 1) := by decide +kernel
set_option maxRecDepth 100000 in
def bJ3_newCapacity (G : xG) (fr lo : Nat) (x0 : Nat) (x1 : Int32) (h : xH) (Q : Outcome → xH → Prop) : Prop := tg h x0 = 30 ∧ tg h (fR h x0 7424) = 103 ∧ 1 ≤ fr ∧ 15 ≤ lo ∧ xRi G YJ9_newLength (fr - 1) (lo - 15) [.int (Int32.ofNat (ln h (fR h x0 7424))), .int ((x1 <<< ((fI h x0 7425) &&& 31)) - (Int32.ofNat (ln h (fR h x0 7424)))), .int ((Int32.ofNat (ln h (fR h x0 7424))) + (2 <<< ((fI h x0 7425) &&& 31)))] h (fun x6 h5 => xext h h5 → ((¬ x6 = 2147483647 → Q (.returned (some (.int (x6 >>> ((fI h5 x0 7425) &&& 31))))) h5) ∧ (x6 = 2147483647 → False))) (fun r h2 => Q (.threw r) h2)
set_option maxRecDepth 100000 in
theorem uJ3_newCapacity {G : xG} {fr lo : Nat} {x0 : Nat} {x1 : Int32} {h : xH} {Q : Outcome → xH → Prop} (hq : bJ3_newCapacity G fr lo x0 x1 h Q) : xP G YJ3_newCapacity fr lo 0 [(0, rv x0), (1, .int x1)] [] h Q := by
  unfold bJ3_newCapacity at hq
  refine x_aload_n 0 dJ3_newCapacity_0 rfl ?_
  obtain ⟨g1, hq⟩ := hq
  refine x_get (v := rv (fR h x0 7424)) fdJ3_15 dJ3_newCapacity_1 g1 rfl ?_
  obtain ⟨g2, hq⟩ := hq
  refine x_alen 3 g2 (by decide) dJ3_newCapacity_4 ?_
  refine x_istore_n (lv' := [(2, .int (Int32.ofNat (ln h (fR h x0 7424)))), (0, rv x0), (1, .int x1)]) dJ3_newCapacity_5 (by decide) rfl ?_
  refine x_iload_n 2 dJ3_newCapacity_6 rfl ?_
  refine x_aload_n 1 dJ3_newCapacity_7 rfl ?_
  refine x_get (v := .int (fI h x0 7425)) fdJ3_22 dJ3_newCapacity_8 g1 rfl ?_
  refine x_ishl dJ3_newCapacity_11 ?_
  refine x_istore_n (lv' := [(3, .int (x1 <<< ((fI h x0 7425) &&& 31))), (2, .int (Int32.ofNat (ln h (fR h x0 7424)))), (0, rv x0), (1, .int x1)]) dJ3_newCapacity_12 (by decide) rfl ?_
  refine x_iload_n 0 dJ3_newCapacity_13 rfl ?_
  refine x_iload_n 1 dJ3_newCapacity_14 rfl ?_
  refine x_isub dJ3_newCapacity_15 ?_
  refine x_istore (lv' := [(4, .int ((x1 <<< ((fI h x0 7425) &&& 31)) - (Int32.ofNat (ln h (fR h x0 7424))))), (3, .int (x1 <<< ((fI h x0 7425) &&& 31))), (2, .int (Int32.ofNat (ln h (fR h x0 7424)))), (0, rv x0), (1, .int x1)]) dJ3_newCapacity_16 (by decide) rfl ?_
  refine x_iload_n 2 dJ3_newCapacity_18 rfl ?_
  refine x_iload 0 dJ3_newCapacity_19 rfl ?_
  refine x_iload_n 2 dJ3_newCapacity_21 rfl ?_
  refine x_iconst (v := 2) dJ3_newCapacity_22 (by decide) ?_
  refine x_aload_n 3 dJ3_newCapacity_23 rfl ?_
  refine x_get (v := .int (fI h x0 7425)) fdJ3_22 dJ3_newCapacity_24 g1 rfl ?_
  refine x_ishl dJ3_newCapacity_27 ?_
  refine x_iadd dJ3_newCapacity_28 ?_
  obtain ⟨g3, g4, hq⟩ := hq
  refine x_callS (Yc := YJ9_newLength) (as := [.int (Int32.ofNat (ln h (fR h x0 7424))), .int ((x1 <<< ((fI h x0 7425) &&& 31)) - (Int32.ofNat (ln h (fR h x0 7424)))), .int ((Int32.ofNat (ln h (fR h x0 7424))) + (2 <<< ((fI h x0 7425) &&& 31)))]) (st := []) q842 msJ9_newLength rfl dJ3_newCapacity_29 (xle (xal1 rfl (xal1 rfl (xal1 rfl xal0))) (by decide)) (xfr g3) (xlo xsw0 (by decide) g4) (xKi hq (fun x6 h5 hq e7 => ?_) (fun _ _ q _ => q))
  replace hq := hq e7
  refine x_istore (lv' := [(5, .int x6), (4, .int ((x1 <<< ((fI h x0 7425) &&& 31)) - (Int32.ofNat (ln h (fR h x0 7424))))), (3, .int (x1 <<< ((fI h x0 7425) &&& 31))), (2, .int (Int32.ofNat (ln h (fR h x0 7424)))), (0, rv x0), (1, .int x1)]) dJ3_newCapacity_32 (by decide) rfl ?_
  refine x_iload 0 dJ3_newCapacity_34 rfl ?_
  refine x_ldc (v := 2147483647) q852 dJ3_newCapacity_36 ?_
  refine x_icmp_ne (tgt := 51) dJ3_newCapacity_38 (by decide) (fun c8 => ?_) (fun c8 => ?_)
  · replace hq := hq.1 c8
    refine x_iload 0 dJ3_newCapacity_51 rfl ?_
    refine x_aload_n 4 dJ3_newCapacity_53 rfl ?_
    have t9 : tg h5 x0 = 30 := e7.tg g1 (by decide)
    refine x_get (v := .int (fI h5 x0 7425)) fdJ3_22 dJ3_newCapacity_54 t9 rfl ?_
    refine x_ishr dJ3_newCapacity_57 ?_
    exact x_iret rfl rfl dJ3_newCapacity_58 hq
  · replace hq := hq.2 c8
    exact hq.elim
theorem rJ3_newCapacity {G : xG} {fr lo : Nat} {x0 : Nat} {x1 : Int32} {h : xH} {Q : Outcome → xH → Prop} (hq : bJ3_newCapacity G fr lo x0 x1 h Q) : xR G YJ3_newCapacity fr lo [rv x0, .int x1] h Q := by
  show xP _ _ _ _ _ (lv_args 0 _) _ _ _
  rw [show lv_args 0 [rv x0, .int x1] = [(0, rv x0), (1, .int x1)] from (xla1 (rv_cat _) (xla1 rfl xla0))]
  exact uJ3_newCapacity hq
set_option maxRecDepth 100000 in
theorem dJ3_isLatin1_0 : decode cJ3_isLatin1 0 = .ok (.getstatic 18, 3) := by decide +kernel
set_option maxRecDepth 100000 in
theorem dJ3_isLatin1_3 : decode cJ3_isLatin1 3 = .ok (.ifCond .eq 14, 3) := by decide +kernel
set_option maxRecDepth 100000 in
theorem dJ3_isLatin1_6 : decode cJ3_isLatin1 6 = .ok (.aload_n 0, 1) := by decide +kernel
set_option maxRecDepth 100000 in
theorem dJ3_isLatin1_7 : decode cJ3_isLatin1 7 = .ok (.getfield 22, 3) := by decide +kernel
set_option maxRecDepth 100000 in
theorem dJ3_isLatin1_10 : decode cJ3_isLatin1 10 = .ok (.ifCond .ne 7, 3) := by decide +kernel
set_option maxRecDepth 100000 in
theorem dJ3_isLatin1_13 : decode cJ3_isLatin1 13 = .ok (.iconst 1, 1) := by decide +kernel
set_option maxRecDepth 100000 in
theorem dJ3_isLatin1_14 : decode cJ3_isLatin1 14 = .ok (.goto 4, 3) := by decide +kernel
set_option maxRecDepth 100000 in
theorem dJ3_isLatin1_17 : decode cJ3_isLatin1 17 = .ok (.iconst 0, 1) := by decide +kernel
set_option maxRecDepth 100000 in
theorem dJ3_isLatin1_18 : decode cJ3_isLatin1 18 = .ok (.ireturn, 1) := by decide +kernel
set_option maxRecDepth 100000 in
def bJ3_isLatin1_18 (G : xG) (fr lo : Nat) (s0 : Int32) (h : xH) (Q : Outcome → xH → Prop) : Prop := xbz s0 ∧ Q (.returned (some (.int s0))) h
set_option maxRecDepth 100000 in
theorem uJ3_isLatin1_18 {G : xG} {fr lo : Nat} {s0 : Int32} {h : xH} {Q : Outcome → xH → Prop} (hq : bJ3_isLatin1_18 G fr lo s0 h Q) : xP G YJ3_isLatin1 fr lo 18 [] [.int s0] h Q := by
  unfold bJ3_isLatin1_18 at hq
  obtain ⟨g1, hq⟩ := hq
  exact x_iret rfl (xnZ g1) dJ3_isLatin1_18 hq
set_option maxRecDepth 100000 in
def bJ3_isLatin1_17 (G : xG) (fr lo : Nat) (h : xH) (Q : Outcome → xH → Prop) : Prop := bJ3_isLatin1_18 G fr lo 0 h Q
set_option maxRecDepth 100000 in
theorem uJ3_isLatin1_17 {G : xG} {fr lo : Nat} {h : xH} {Q : Outcome → xH → Prop} (hq : bJ3_isLatin1_17 G fr lo h Q) : xP G YJ3_isLatin1 fr lo 17 [] [] h Q := by
  unfold bJ3_isLatin1_17 at hq
  refine x_iconst (v := 0) dJ3_isLatin1_17 (by decide) ?_
  exact uJ3_isLatin1_18 hq
set_option maxRecDepth 100000 in
def bJ3_isLatin1 (G : xG) (fr lo : Nat) (x0 : Nat) (h : xH) (Q : Outcome → xH → Prop) : Prop := ((1 = 0 → bJ3_isLatin1_17 G fr lo h Q) ∧ (¬ 1 = 0 → tg h x0 = 30 ∧ ((¬ (fI h x0 7425) = 0 → bJ3_isLatin1_17 G fr lo h Q) ∧ ((fI h x0 7425) = 0 → bJ3_isLatin1_18 G fr lo 1 h Q))))
set_option maxRecDepth 100000 in
theorem uJ3_isLatin1 {G : xG} {fr lo : Nat} {x0 : Nat} {h : xH} {Q : Outcome → xH → Prop} (hq : bJ3_isLatin1 G fr lo x0 h Q) : xP G YJ3_isLatin1 fr lo 0 [(0, rv x0)] [] h Q := by
  unfold bJ3_isLatin1 at hq
  refine x_gets (v := .int 1) 9 rfl q618 (by simp [xsv]) dJ3_isLatin1_0 ?_
  refine x_if_eq (tgt := 17) dJ3_isLatin1_3 (by decide) (fun c1 => ?_) (fun c1 => ?_)
  · replace hq := hq.1 c1
    refine xP.pick (lv' := []) [] rfl ?_
    exact uJ3_isLatin1_17 hq
  · replace hq := hq.2 c1
    refine x_aload_n 0 dJ3_isLatin1_6 rfl ?_
    obtain ⟨g2, hq⟩ := hq
    refine x_get (v := .int (fI h x0 7425)) fdJ3_22 dJ3_isLatin1_7 g2 rfl ?_
    refine x_if_ne (tgt := 17) dJ3_isLatin1_10 (by decide) (fun c3 => ?_) (fun c3 => ?_)
    · replace hq := hq.1 c3
      refine xP.pick (lv' := []) [] rfl ?_
      exact uJ3_isLatin1_17 hq
    · replace hq := hq.2 c3
      refine x_iconst (v := 1) dJ3_isLatin1_13 (by decide) ?_
      refine x_goto (tgt := 18) dJ3_isLatin1_14 (by decide) ?_
      refine xP.pick (lv' := []) [] rfl ?_
      exact uJ3_isLatin1_18 hq
theorem rJ3_isLatin1 {G : xG} {fr lo : Nat} {x0 : Nat} {h : xH} {Q : Outcome → xH → Prop} (hq : bJ3_isLatin1 G fr lo x0 h Q) : xR G YJ3_isLatin1 fr lo [rv x0] h Q := by
  show xP _ _ _ _ _ (lv_args 0 _) _ _ _
  rw [show lv_args 0 [rv x0] = [(0, rv x0)] from (xla1 (rv_cat _) xla0)]
  exact uJ3_isLatin1 hq
set_option maxRecDepth 100000 in
theorem dJ3_inflate_0 : decode cJ3_inflate 0 = .ok (.aload_n 0, 1) := by decide +kernel
set_option maxRecDepth 100000 in
theorem dJ3_inflate_1 : decode cJ3_inflate 1 = .ok (.invokevirtual 83, 3) := by decide +kernel
set_option maxRecDepth 100000 in
theorem dJ3_inflate_4 : decode cJ3_inflate 4 = .ok (.ifCond .ne 4, 3) := by decide +kernel
set_option maxRecDepth 100000 in
theorem dJ3_inflate_7 : decode cJ3_inflate 7 = .ok (.return_, 1) := by decide +kernel
set_option maxRecDepth 100000 in
theorem dJ3_inflate_8 : decode cJ3_inflate 8 = .ok (.aload_n 0, 1) := by decide +kernel
set_option maxRecDepth 100000 in
theorem dJ3_inflate_9 : decode cJ3_inflate 9 = .ok (.getfield 15, 3) := by decide +kernel
set_option maxRecDepth 100000 in
theorem dJ3_inflate_12 : decode cJ3_inflate 12 = .ok (.arraylength, 1) := by decide +kernel
set_option maxRecDepth 100000 in
theorem dJ3_inflate_13 : decode cJ3_inflate 13 = .ok (.invokestatic 26, 3) := by decide +kernel
set_option maxRecDepth 100000 in
theorem dJ3_inflate_16 : decode cJ3_inflate 16 = .ok (.astore_n 1, 1) := by decide +kernel
set_option maxRecDepth 100000 in
theorem dJ3_inflate_17 : decode cJ3_inflate 17 = .ok (.aload_n 0, 1) := by decide +kernel
set_option maxRecDepth 100000 in
theorem dJ3_inflate_18 : decode cJ3_inflate 18 = .ok (.getfield 15, 3) := by decide +kernel
set_option maxRecDepth 100000 in
theorem dJ3_inflate_21 : decode cJ3_inflate 21 = .ok (.iconst 0, 1) := by decide +kernel
set_option maxRecDepth 100000 in
theorem dJ3_inflate_22 : decode cJ3_inflate 22 = .ok (.aload_n 1, 1) := by decide +kernel
set_option maxRecDepth 100000 in
theorem dJ3_inflate_23 : decode cJ3_inflate 23 = .ok (.iconst 0, 1) := by decide +kernel
set_option maxRecDepth 100000 in
theorem dJ3_inflate_24 : decode cJ3_inflate 24 = .ok (.aload_n 0, 1) := by decide +kernel
set_option maxRecDepth 100000 in
theorem dJ3_inflate_25 : decode cJ3_inflate 25 = .ok (.getfield 79, 3) := by decide +kernel
set_option maxRecDepth 100000 in
theorem dJ3_inflate_28 : decode cJ3_inflate 28 = .ok (.invokestatic 125, 3) := by decide +kernel
set_option maxRecDepth 100000 in
theorem dJ3_inflate_31 : decode cJ3_inflate 31 = .ok (.aload_n 0, 1) := by decide +kernel
set_option maxRecDepth 100000 in
theorem dJ3_inflate_32 : decode cJ3_inflate 32 = .ok (.aload_n 1, 1) := by decide +kernel
set_option maxRecDepth 100000 in
theorem dJ3_inflate_33 : decode cJ3_inflate 33 = .ok (.putfield 15, 3) := by decide +kernel
set_option maxRecDepth 100000 in
theorem dJ3_inflate_36 : decode cJ3_inflate 36 = .ok (.aload_n 0, 1) := by decide +kernel
set_option maxRecDepth 100000 in
theorem dJ3_inflate_37 : decode cJ3_inflate 37 = .ok (.iconst 1, 1) := by decide +kernel
set_option maxRecDepth 100000 in
theorem dJ3_inflate_38 : decode cJ3_inflate 38 = .ok (.putfield 22, 3) := by decide +kernel
set_option maxRecDepth 100000 in
theorem dJ3_inflate_41 : decode cJ3_inflate 41 = .ok (.return_, 1) := by decide +kernel
set_option maxRecDepth 100000 in
def bJ3_inflate (G : xG) (fr lo : Nat) (x0 : Nat) (h : xH) (Q : Outcome → xH → Prop) : Prop := tg h x0 = 30 ∧ 1 ≤ fr ∧ 12 ≤ lo ∧ xRi G YJ3_isLatin1 (fr - 1) (lo - 12) [rv x0] h (fun x5 h4 => xext h h4 → ((¬ x5 = 0 → tg h4 (fR h4 x0 7424) = 103 ∧ 1 ≤ fr ∧ 12 ≤ lo ∧ xRr G YJ6_newBytesFor (fr - 1) (lo - 12) [.int (Int32.ofNat (ln h4 (fR h4 x0 7424)))] h4 (fun x13 h12 => xext h4 h12 → 1 ≤ fr ∧ 16 ≤ lo ∧ xRv G YJ7_inflate (fr - 1) (lo - 16) [rv (fR h12 x0 7424), .int 0, rv x13, .int 0, .int (fI h12 x0 7427)] h12 (fun h18 => xext h12 h18 → (∀ h22 : xH, h22 = sR h18 x0 7424 x13 → xni .byte 1 ∧ (∀ h26 : xH, h26 = sI h22 x0 7425 1 → Q (.returned none) h26))) (fun r h2 => Q (.threw r) h2)) (fun r h2 => Q (.threw r) h2)) ∧ (x5 = 0 → Q (.returned none) h4))) (fun r h2 => Q (.threw r) h2)
set_option maxRecDepth 100000 in
theorem uJ3_inflate {G : xG} {fr lo : Nat} {x0 : Nat} {h : xH} {Q : Outcome → xH → Prop} (hq : bJ3_inflate G fr lo x0 h Q) : xP G YJ3_inflate fr lo 0 [(0, rv x0)] [] h Q := by
  unfold bJ3_inflate at hq
  refine x_aload_n 0 dJ3_inflate_0 rfl ?_
  obtain ⟨g1, hq⟩ := hq
  obtain ⟨g2, g3, hq⟩ := hq
  refine x_callV (Yc := YJ3_isLatin1) (as := []) (st := []) q869 mvJ3_isLatin1 g1 rfl dJ3_inflate_1 (xle (xal1 (rv_cat _) xal0) (by decide)) (xfr g2) (xlo xsw0 (by decide) g3) (xKi hq (fun x5 h4 hq e6 => ?_) (fun _ _ q _ => q))
  replace hq := hq e6
  refine x_if_ne (tgt := 8) dJ3_inflate_4 (by decide) (fun c7 => ?_) (fun c7 => ?_)
  · replace hq := hq.1 c7
    refine x_aload_n 0 dJ3_inflate_8 rfl ?_
    have t8 : tg h4 x0 = 30 := e6.tg g1 (by decide)
    refine x_get (v := rv (fR h4 x0 7424)) fdJ3_15 dJ3_inflate_9 t8 rfl ?_
    obtain ⟨g9, hq⟩ := hq
    refine x_alen 3 g9 (by decide) dJ3_inflate_12 ?_
    obtain ⟨g10, g11, hq⟩ := hq
    refine x_callS (Yc := YJ6_newBytesFor) (as := [.int (Int32.ofNat (ln h4 (fR h4 x0 7424)))]) (st := []) q620 msJ6_newBytesFor rfl dJ3_inflate_13 (xle (xal1 rfl xal0) (by decide)) (xfr g10) (xlo xsw0 (by decide) g11) (xKr hq (fun x13 h12 hq e14 => ?_) (fun _ _ q _ => q))
    replace hq := hq e14
    refine x_astore_n (lv' := [(1, rv x13), (0, rv x0)]) dJ3_inflate_16 (by decide) (by first | rfl | (simp [rv_cat, Value.category]; done) | (simp [rv_cat, Value.category]; decide)) ?_
    refine x_aload_n 1 dJ3_inflate_17 rfl ?_
    have t15 : tg h12 x0 = 30 := e14.tg t8 (by decide)
    refine x_get (v := rv (fR h12 x0 7424)) fdJ3_15 dJ3_inflate_18 t15 rfl ?_
    refine x_iconst (v := 0) dJ3_inflate_21 (by decide) ?_
    refine x_aload_n 0 dJ3_inflate_22 rfl ?_
    refine x_iconst (v := 0) dJ3_inflate_23 (by decide) ?_
    refine x_aload_n 1 dJ3_inflate_24 rfl ?_
    refine x_get (v := .int (fI h12 x0 7427)) fdJ3_79 dJ3_inflate_25 t15 rfl ?_
    obtain ⟨g16, g17, hq⟩ := hq
    refine x_callS (Yc := YJ7_inflate) (as := [rv (fR h12 x0 7424), .int 0, rv x13, .int 0, .int (fI h12 x0 7427)]) (st := []) q881 msJ7_inflate rfl dJ3_inflate_28 (xle (xal1 (rv_cat _) (xal1 rfl (xal1 (rv_cat _) (xal1 rfl (xal1 rfl xal0))))) (by decide)) (xfr g16) (xlo xsw0 (by decide) g17) (xKv hq (fun h18 hq e20 => ?_) (fun _ _ q _ => q))
    replace hq := hq e20
    refine x_aload_n 1 dJ3_inflate_31 rfl ?_
    refine x_aload_n 0 dJ3_inflate_32 rfl ?_
    have t21 : tg h18 x0 = 30 := e20.tg t15 (by decide)
    obtain ⟨h22, e23⟩ : ∃ y, y = sR h18 x0 7424 x13 := ⟨_, rfl⟩
    replace hq := hq h22 e23
    refine x_putR fdJ3_15 xty_A dJ3_inflate_33 t21 (Or.inl (by rw [t21]; rfl)) rfl e23 ?_
    refine x_aload_n 1 dJ3_inflate_36 rfl ?_
    refine x_iconst (v := 1) dJ3_inflate_37 (by decide) ?_
    have t24 : tg h22 x0 = 30 := by rw [e23]; exact t21
    obtain ⟨g25, hq⟩ := hq
    obtain ⟨h26, e27⟩ : ∃ y, y = sI h22 x0 7425 1 := ⟨_, rfl⟩
    replace hq := hq h26 e27
    refine x_putI fdJ3_22 xty_B1 dJ3_inflate_38 t24 (Or.inl (by rw [t24]; rfl)) g25 rfl e27 ?_
    exact x_vret rfl dJ3_inflate_41 hq
  · replace hq := hq.2 c7
    exact x_vret rfl dJ3_inflate_7 hq
theorem rJ3_inflate {G : xG} {fr lo : Nat} {x0 : Nat} {h : xH} {Q : Outcome → xH → Prop} (hq : bJ3_inflate G fr lo x0 h Q) : xR G YJ3_inflate fr lo [rv x0] h Q := by
  show xP _ _ _ _ _ (lv_args 0 _) _ _ _
  rw [show lv_args 0 [rv x0] = [(0, rv x0)] from (xla1 (rv_cat _) xla0)]
  exact uJ3_inflate hq
set_option maxRecDepth 100000 in
theorem dJ3_getValue_0 : decode cJ3_getValue 0 = .ok (.aload_n 0, 1) := by decide +kernel
set_option maxRecDepth 100000 in
theorem dJ3_getValue_1 : decode cJ3_getValue 1 = .ok (.getfield 15, 3) := by decide +kernel
set_option maxRecDepth 100000 in
theorem dJ3_getValue_4 : decode cJ3_getValue 4 = .ok (.areturn, 1) := by decide +kernel
set_option maxRecDepth 100000 in
def bJ3_getValue (G : xG) (fr lo : Nat) (x0 : Nat) (h : xH) (Q : Outcome → xH → Prop) : Prop := tg h x0 = 30 ∧ Q (.returned (some (rv (fR h x0 7424)))) h
set_option maxRecDepth 100000 in
theorem uJ3_getValue {G : xG} {fr lo : Nat} {x0 : Nat} {h : xH} {Q : Outcome → xH → Prop} (hq : bJ3_getValue G fr lo x0 h Q) : xP G YJ3_getValue fr lo 0 [(0, rv x0)] [] h Q := by
  unfold bJ3_getValue at hq
  refine x_aload_n 0 dJ3_getValue_0 rfl ?_
  obtain ⟨g1, hq⟩ := hq
  refine x_get (v := rv (fR h x0 7424)) fdJ3_15 dJ3_getValue_1 g1 rfl ?_
  exact x_aret rfl xty_A dJ3_getValue_4 hq
theorem rJ3_getValue {G : xG} {fr lo : Nat} {x0 : Nat} {h : xH} {Q : Outcome → xH → Prop} (hq : bJ3_getValue G fr lo x0 h Q) : xR G YJ3_getValue fr lo [rv x0] h Q := by
  show xP _ _ _ _ _ (lv_args 0 _) _ _ _
  rw [show lv_args 0 [rv x0] = [(0, rv x0)] from (xla1 (rv_cat _) xla0)]
  exact uJ3_getValue hq
set_option maxRecDepth 100000 in
theorem dJ3_length_0 : decode cJ3_length 0 = .ok (.aload_n 0, 1) := by decide +kernel
set_option maxRecDepth 100000 in
theorem dJ3_length_1 : decode cJ3_length 1 = .ok (.getfield 79, 3) := by decide +kernel
set_option maxRecDepth 100000 in
theorem dJ3_length_4 : decode cJ3_length 4 = .ok (.ireturn, 1) := by decide +kernel
set_option maxRecDepth 100000 in
def bJ3_length (G : xG) (fr lo : Nat) (x0 : Nat) (h : xH) (Q : Outcome → xH → Prop) : Prop := tg h x0 = 30 ∧ Q (.returned (some (.int (fI h x0 7427)))) h
set_option maxRecDepth 100000 in
theorem uJ3_length {G : xG} {fr lo : Nat} {x0 : Nat} {h : xH} {Q : Outcome → xH → Prop} (hq : bJ3_length G fr lo x0 h Q) : xP G YJ3_length fr lo 0 [(0, rv x0)] [] h Q := by
  unfold bJ3_length at hq
  refine x_aload_n 0 dJ3_length_0 rfl ?_
  obtain ⟨g1, hq⟩ := hq
  refine x_get (v := .int (fI h x0 7427)) fdJ3_79 dJ3_length_1 g1 rfl ?_
  exact x_iret rfl rfl dJ3_length_4 hq
theorem rJ3_length {G : xG} {fr lo : Nat} {x0 : Nat} {h : xH} {Q : Outcome → xH → Prop} (hq : bJ3_length G fr lo x0 h Q) : xR G YJ3_length fr lo [rv x0] h Q := by
  show xP _ _ _ _ _ (lv_args 0 _) _ _ _
  rw [show lv_args 0 [rv x0] = [(0, rv x0)] from (xla1 (rv_cat _) xla0)]
  exact uJ3_length hq
set_option maxRecDepth 100000 in
theorem dJ3_setLength_0 : decode cJ3_setLength 0 = .ok (.iload_n 1, 1) := by decide +kernel
set_option maxRecDepth 100000 in
theorem dJ3_setLength_1 : decode cJ3_setLength 1 = .ok (.ifCond .ge 12, 3) := by decide +kernel
set_option maxRecDepth 100000 in
theorem dJ3_setLength_4 : decode cJ3_setLength 4 = .ok (.new 129, 3) := by decide +kernel
set_option maxRecDepth 100000 in
theorem dJ3_setLength_7 : decode cJ3_setLength 7 = .ok (.dup, 1) := by decide +kernel
set_option maxRecDepth 100000 in
theorem dJ3_setLength_8 : decode cJ3_setLength 8 = .ok (.iload_n 1, 1) := by decide +kernel
set_option maxRecDepth 100000 in
theorem dJ3_setLength_9 : decode cJ3_setLength 9 = .ok (.invokespecial 131, 3) := by decide +kernel
set_option maxRecDepth 100000 in
theorem dJ3_setLength_12 : decode cJ3_setLength 12 = .ok (.athrow, 1) := by decide +kernel
set_option maxRecDepth 100000 in
theorem dJ3_setLength_13 : decode cJ3_setLength 13 = .ok (.aload_n 0, 1) := by decide +kernel
set_option maxRecDepth 100000 in
theorem dJ3_setLength_14 : decode cJ3_setLength 14 = .ok (.iload_n 1, 1) := by decide +kernel
set_option maxRecDepth 100000 in
theorem dJ3_setLength_15 : decode cJ3_setLength 15 = .ok (.invokevirtual 100, 3) := by decide +kernel
set_option maxRecDepth 100000 in
theorem dJ3_setLength_18 : decode cJ3_setLength 18 = .ok (.aload_n 0, 1) := by decide +kernel
set_option maxRecDepth 100000 in
theorem dJ3_setLength_19 : decode cJ3_setLength 19 = .ok (.getfield 79, 3) := by decide +kernel
set_option maxRecDepth 100000 in
theorem dJ3_setLength_22 : decode cJ3_setLength 22 = .ok (.iload_n 1, 1) := by decide +kernel
set_option maxRecDepth 100000 in
theorem dJ3_setLength_23 : decode cJ3_setLength 23 = .ok (.if_icmp .ge 40, 3) := by decide +kernel
set_option maxRecDepth 100000 in
theorem dJ3_setLength_26 : decode cJ3_setLength 26 = .ok (.aload_n 0, 1) := by decide +kernel
set_option maxRecDepth 100000 in
theorem dJ3_setLength_27 : decode cJ3_setLength 27 = .ok (.invokevirtual 83, 3) := by decide +kernel
set_option maxRecDepth 100000 in
theorem dJ3_setLength_30 : decode cJ3_setLength 30 = .ok (.ifCond .eq 18, 3) := by decide +kernel
set_option maxRecDepth 100000 in
theorem dJ3_setLength_33 : decode cJ3_setLength 33 = .ok (.aload_n 0, 1) := by decide +kernel
set_option maxRecDepth 100000 in
theorem dJ3_setLength_34 : decode cJ3_setLength 34 = .ok (.getfield 15, 3) := by decide +kernel
set_option maxRecDepth 100000 in
theorem dJ3_setLength_37 : decode cJ3_setLength 37 = .ok (.aload_n 0, 1) := by decide +kernel
set_option maxRecDepth 100000 in
theorem dJ3_setLength_38 : decode cJ3_setLength 38 = .ok (.getfield 79, 3) := by decide +kernel
set_option maxRecDepth 100000 in
theorem dJ3_setLength_41 : decode cJ3_setLength 41 = .ok (.iload_n 1, 1) := by decide +kernel
set_option maxRecDepth 100000 in
theorem dJ3_setLength_42 : decode cJ3_setLength 42 = .ok (.invokestatic 133, 3) := by decide +kernel
set_option maxRecDepth 100000 in
theorem dJ3_setLength_45 : decode cJ3_setLength 45 = .ok (.goto 31, 3) := by decide +kernel
set_option maxRecDepth 100000 in
theorem dJ3_setLength_48 : decode cJ3_setLength 48 = .ok (.aload_n 0, 1) := by decide +kernel
set_option maxRecDepth 100000 in
theorem dJ3_setLength_49 : decode cJ3_setLength 49 = .ok (.getfield 15, 3) := by decide +kernel
set_option maxRecDepth 100000 in
theorem dJ3_setLength_52 : decode cJ3_setLength 52 = .ok (.aload_n 0, 1) := by decide +kernel
set_option maxRecDepth 100000 in
theorem dJ3_setLength_53 : decode cJ3_setLength 53 = .ok (.getfield 79, 3) := by decide +kernel
set_option maxRecDepth 100000 in
theorem dJ3_setLength_56 : decode cJ3_setLength 56 = .ok (.iload_n 1, 1) := by decide +kernel
set_option maxRecDepth 100000 in
theorem dJ3_setLength_57 : decode cJ3_setLength 57 = .ok (.invokestatic 137, 3) := by decide +kernel
set_option maxRecDepth 100000 in
theorem dJ3_setLength_60 : decode cJ3_setLength 60 = .ok (.goto 16, 3) := by decide +kernel
set_option maxRecDepth 100000 in
theorem dJ3_setLength_63 : decode cJ3_setLength 63 = .ok (.aload_n 0, 1) := by decide +kernel
set_option maxRecDepth 100000 in
theorem dJ3_setLength_64 : decode cJ3_setLength 64 = .ok (.getfield 79, 3) := by decide +kernel
set_option maxRecDepth 100000 in
theorem dJ3_setLength_67 : decode cJ3_setLength 67 = .ok (.iload_n 1, 1) := by decide +kernel
set_option maxRecDepth 100000 in
theorem dJ3_setLength_68 : decode cJ3_setLength 68 = .ok (.if_icmp .le 8, 3) := by decide +kernel
set_option maxRecDepth 100000 in
theorem dJ3_setLength_71 : decode cJ3_setLength 71 = .ok (.aload_n 0, 1) := by decide +kernel
set_option maxRecDepth 100000 in
theorem dJ3_setLength_72 : decode cJ3_setLength 72 = .ok (.iconst 1, 1) := by decide +kernel
set_option maxRecDepth 100000 in
theorem dJ3_setLength_73 : decode cJ3_setLength 73 = .ok (.putfield 73, 3) := by decide +kernel
set_option maxRecDepth 100000 in
theorem dJ3_setLength_76 : decode cJ3_setLength 76 = .ok (.aload_n 0, 1) := by decide +kernel
set_option maxRecDepth 100000 in
theorem dJ3_setLength_77 : decode cJ3_setLength 77 = .ok (.iload_n 1, 1) := by decide +kernel
set_option maxRecDepth 100000 in
theorem dJ3_setLength_78 : decode cJ3_setLength 78 = .ok (.putfield 79, 3) := by decide +kernel
set_option maxRecDepth 100000 in
theorem dJ3_setLength_81 : decode cJ3_setLength 81 = .ok (.return_, 1) := by decide +kernel
set_option maxRecDepth 100000 in
def bJ3_setLength_76 (G : xG) (fr lo : Nat) (x0 : Nat) (x1 : Int32) (h : xH) (Q : Outcome → xH → Prop) : Prop := tg h x0 = 30 ∧ (∀ h2 : xH, h2 = sI h x0 7427 x1 → Q (.returned none) h2)
set_option maxRecDepth 100000 in
theorem uJ3_setLength_76 {G : xG} {fr lo : Nat} {x0 : Nat} {x1 : Int32} {h : xH} {Q : Outcome → xH → Prop} (hq : bJ3_setLength_76 G fr lo x0 x1 h Q) : xP G YJ3_setLength fr lo 76 [(0, rv x0), (1, .int x1)] [] h Q := by
  unfold bJ3_setLength_76 at hq
  refine x_aload_n 0 dJ3_setLength_76 rfl ?_
  refine x_iload_n 1 dJ3_setLength_77 rfl ?_
  obtain ⟨g1, hq⟩ := hq
  obtain ⟨h2, e3⟩ : ∃ y, y = sI h x0 7427 x1 := ⟨_, rfl⟩
  replace hq := hq h2 e3
  refine x_putI fdJ3_79 xty_I1 dJ3_setLength_78 g1 (Or.inl (by rw [g1]; rfl)) xnI rfl e3 ?_
  exact x_vret rfl dJ3_setLength_81 hq
set_option maxRecDepth 100000 in
def bJ3_setLength (G : xG) (fr lo : Nat) (x0 : Nat) (x1 : Int32) (h : xH) (Q : Outcome → xH → Prop) : Prop := ((0 ≤ x1 → tg h x0 = 30 ∧ 1 ≤ fr ∧ 14 ≤ lo ∧ xRv G YJ3_ensureCapacityInternal (fr - 1) (lo - 14) [rv x0, .int x1] h (fun h5 => xext h h5 → ((x1 ≤ (fI h5 x0 7427) → (((fI h5 x0 7427) ≤ x1 → bJ3_setLength_76 G fr lo x0 x1 h5 Q) ∧ (¬ (fI h5 x0 7427) ≤ x1 → (∀ h11 : xH, h11 = sI h5 x0 7426 1 → bJ3_setLength_76 G fr lo x0 x1 h11 Q)))) ∧ (¬ x1 ≤ (fI h5 x0 7427) → 1 ≤ fr ∧ 12 ≤ lo ∧ xRi G YJ3_isLatin1 (fr - 1) (lo - 12) [rv x0] h5 (fun x16 h15 => xext h5 h15 → ((x16 = 0 → 1 ≤ fr ∧ 14 ≤ lo ∧ xRv G YJ6_fillNull (fr - 1) (lo - 14) [rv (fR h15 x0 7424), .int (fI h15 x0 7427), .int x1] h15 (fun h22 => xext h15 h22 → bJ3_setLength_76 G fr lo x0 x1 h22 Q) (fun r h2 => Q (.threw r) h2)) ∧ (¬ x16 = 0 → 1 ≤ fr ∧ 14 ≤ lo ∧ xRv G YJ7_fillNull (fr - 1) (lo - 14) [rv (fR h15 x0 7424), .int (fI h15 x0 7427), .int x1] h15 (fun h28 => xext h15 h28 → bJ3_setLength_76 G fr lo x0 x1 h28 Q) (fun r h2 => Q (.threw r) h2)))) (fun r h2 => Q (.threw r) h2)))) (fun r h2 => Q (.threw r) h2)) ∧ (¬ 0 ≤ x1 → False))
set_option maxRecDepth 100000 in
theorem uJ3_setLength {G : xG} {fr lo : Nat} {x0 : Nat} {x1 : Int32} {h : xH} {Q : Outcome → xH → Prop} (hq : bJ3_setLength G fr lo x0 x1 h Q) : xP G YJ3_setLength fr lo 0 [(0, rv x0), (1, .int x1)] [] h Q := by
  unfold bJ3_setLength at hq
  refine x_iload_n 1 dJ3_setLength_0 rfl ?_
  refine x_if_ge (tgt := 13) dJ3_setLength_1 (by decide) (fun c1 => ?_) (fun c1 => ?_)
  · replace hq := hq.1 c1
    refine x_aload_n 0 dJ3_setLength_13 rfl ?_
    refine x_iload_n 1 dJ3_setLength_14 rfl ?_
    obtain ⟨g2, hq⟩ := hq
    obtain ⟨g3, g4, hq⟩ := hq
    refine x_callP (Yc := YJ3_ensureCapacityInternal) (as := [.int x1]) (st := []) q834 mpJ3_ensureCapacityInternal g2 rfl dJ3_setLength_15 (xle (xal1 (rv_cat _) (xal1 rfl xal0)) (by decide)) (xfr g3) (xlo xsw0 (by decide) g4) (xKv hq (fun h5 hq e7 => ?_) (fun _ _ q _ => q))
    replace hq := hq e7
    refine x_aload_n 0 dJ3_setLength_18 rfl ?_
    have t8 : tg h5 x0 = 30 := e7.tg g2 (by decide)
    refine x_get (v := .int (fI h5 x0 7427)) fdJ3_79 dJ3_setLength_19 t8 rfl ?_
    refine x_iload_n 1 dJ3_setLength_22 rfl ?_
    refine x_icmp_ge (tgt := 63) dJ3_setLength_23 (by decide) (fun c9 => ?_) (fun c9 => ?_)
    · replace hq := hq.1 c9
      refine x_aload_n 0 dJ3_setLength_63 rfl ?_
      refine x_get (v := .int (fI h5 x0 7427)) fdJ3_79 dJ3_setLength_64 t8 rfl ?_
      refine x_iload_n 1 dJ3_setLength_67 rfl ?_
      refine x_icmp_le (tgt := 76) dJ3_setLength_68 (by decide) (fun c10 => ?_) (fun c10 => ?_)
      · replace hq := hq.1 c10
        exact uJ3_setLength_76 hq
      · replace hq := hq.2 c10
        refine x_aload_n 0 dJ3_setLength_71 rfl ?_
        refine x_iconst (v := 1) dJ3_setLength_72 (by decide) ?_
        obtain ⟨h11, e12⟩ : ∃ y, y = sI h5 x0 7426 1 := ⟨_, rfl⟩
        replace hq := hq h11 e12
        refine x_putI fdJ3_73 xty_Z1 dJ3_setLength_73 t8 (Or.inl (by rw [t8]; rfl)) (xnB (Or.inr rfl)) rfl e12 ?_
        exact uJ3_setLength_76 hq
    · replace hq := hq.2 c9
      refine x_aload_n 0 dJ3_setLength_26 rfl ?_
      obtain ⟨g13, g14, hq⟩ := hq
      refine x_callV (Yc := YJ3_isLatin1) (as := []) (st := []) q869 mvJ3_isLatin1 t8 rfl dJ3_setLength_27 (xle (xal1 (rv_cat _) xal0) (by decide)) (xfr g13) (xlo xsw0 (by decide) g14) (xKi hq (fun x16 h15 hq e17 => ?_) (fun _ _ q _ => q))
      replace hq := hq e17
      refine x_if_eq (tgt := 48) dJ3_setLength_30 (by decide) (fun c18 => ?_) (fun c18 => ?_)
      · replace hq := hq.1 c18
        refine x_aload_n 0 dJ3_setLength_48 rfl ?_
        have t19 : tg h15 x0 = 30 := e17.tg t8 (by decide)
        refine x_get (v := rv (fR h15 x0 7424)) fdJ3_15 dJ3_setLength_49 t19 rfl ?_
        refine x_aload_n 0 dJ3_setLength_52 rfl ?_
        refine x_get (v := .int (fI h15 x0 7427)) fdJ3_79 dJ3_setLength_53 t19 rfl ?_
        refine x_iload_n 1 dJ3_setLength_56 rfl ?_
        obtain ⟨g20, g21, hq⟩ := hq
        refine x_callS (Yc := YJ6_fillNull) (as := [rv (fR h15 x0 7424), .int (fI h15 x0 7427), .int x1]) (st := []) q1090 msJ6_fillNull rfl dJ3_setLength_57 (xle (xal1 (rv_cat _) (xal1 rfl (xal1 rfl xal0))) (by decide)) (xfr g20) (xlo xsw0 (by decide) g21) (xKv hq (fun h22 hq e24 => ?_) (fun _ _ q _ => q))
        replace hq := hq e24
        refine x_goto (tgt := 76) dJ3_setLength_60 (by decide) ?_
        exact uJ3_setLength_76 hq
      · replace hq := hq.2 c18
        refine x_aload_n 0 dJ3_setLength_33 rfl ?_
        have t25 : tg h15 x0 = 30 := e17.tg t8 (by decide)
        refine x_get (v := rv (fR h15 x0 7424)) fdJ3_15 dJ3_setLength_34 t25 rfl ?_
        refine x_aload_n 0 dJ3_setLength_37 rfl ?_
        refine x_get (v := .int (fI h15 x0 7427)) fdJ3_79 dJ3_setLength_38 t25 rfl ?_
        refine x_iload_n 1 dJ3_setLength_41 rfl ?_
        obtain ⟨g26, g27, hq⟩ := hq
        refine x_callS (Yc := YJ7_fillNull) (as := [rv (fR h15 x0 7424), .int (fI h15 x0 7427), .int x1]) (st := []) q1081 msJ7_fillNull rfl dJ3_setLength_42 (xle (xal1 (rv_cat _) (xal1 rfl (xal1 rfl xal0))) (by decide)) (xfr g26) (xlo xsw0 (by decide) g27) (xKv hq (fun h28 hq e30 => ?_) (fun _ _ q _ => q))
        replace hq := hq e30
        refine x_goto (tgt := 76) dJ3_setLength_45 (by decide) ?_
        exact uJ3_setLength_76 hq
  · replace hq := hq.2 c1
    exact hq.elim
theorem rJ3_setLength {G : xG} {fr lo : Nat} {x0 : Nat} {x1 : Int32} {h : xH} {Q : Outcome → xH → Prop} (hq : bJ3_setLength G fr lo x0 x1 h Q) : xR G YJ3_setLength fr lo [rv x0, .int x1] h Q := by
  show xP _ _ _ _ _ (lv_args 0 _) _ _ _
  rw [show lv_args 0 [rv x0, .int x1] = [(0, rv x0), (1, .int x1)] from (xla1 (rv_cat _) (xla1 rfl xla0))]
  exact uJ3_setLength hq
