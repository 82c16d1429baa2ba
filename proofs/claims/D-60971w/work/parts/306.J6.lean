/-! java/lang/StringUTF16, walked (1) -/
set_option maxRecDepth 100000 in
theorem dJ6_newBytesFor_0 : decode cJ6_newBytesFor 0 = .ok (.iload_n 0, 1) := by decide +kernel
set_option maxRecDepth 100000 in
theorem dJ6_newBytesFor_1 : decode cJ6_newBytesFor 1 = .ok (.invokestatic 11, 3) := by decide +kernel
set_option maxRecDepth 100000 in
theorem dJ6_newBytesFor_4 : decode cJ6_newBytesFor 4 = .ok (.newarray .byte, 2) := by decide +kernel
set_option maxRecDepth 100000 in
theorem dJ6_newBytesFor_6 : decode cJ6_newBytesFor 6 = .ok (.areturn, 1) := by decide +kernel
set_option maxRecDepth 100000 in
def bJ6_newBytesFor (G : xG) (fr lo : Nat) (x0 : Int32) (h : xH) (Q : Outcome → xH → Prop) : Prop := 1 ≤ fr ∧ 12 ≤ lo ∧ xRi G YJ6_newBytesLength (fr - 1) (lo - 12) [.int x0] h (fun x4 h3 => xext h h3 → ¬ x4 < 0 ∧ Int32.toNatClampNeg x4 ≤ 1000000 ∧ nx h3 + 1 ≤ xGN G ∧ us h3 + (Int32.toNatClampNeg x4) ≤ xGU G ∧ (∀ (a10 : Nat) (h11 : xH), a10 = nx h3 + 1 → h11 = nA h3 103 (Int32.toNatClampNeg x4) → xfresh h3 a10 → Q (.returned (some (rv a10))) h11)) (fun r h2 => Q (.threw r) h2)
set_option maxRecDepth 100000 in
theorem uJ6_newBytesFor {G : xG} {fr lo : Nat} {x0 : Int32} {h : xH} {Q : Outcome → xH → Prop} (hq : bJ6_newBytesFor G fr lo x0 h Q) : xP G YJ6_newBytesFor fr lo 0 [(0, .int x0)] [] h Q := by
  unfold bJ6_newBytesFor at hq
  refine x_iload_n 0 dJ6_newBytesFor_0 rfl ?_
  obtain ⟨g1, g2, hq⟩ := hq
  refine x_callS (Yc := YJ6_newBytesLength) (as := [.int x0]) (st := []) q623 msJ6_newBytesLength rfl dJ6_newBytesFor_1 (xle (xal1 rfl xal0) (by decide)) (xfr g1) (xlo xsw0 (by decide) g2) (xKi hq (fun x4 h3 hq e5 => ?_) (fun _ _ q _ => q))
  replace hq := hq e5
  obtain ⟨g6, g7, hq⟩ := hq
  obtain ⟨g8, g9, hq⟩ := hq
  obtain ⟨a10, e12⟩ : ∃ y, y = nx h3 + 1 := ⟨_, rfl⟩
  obtain ⟨h11, e13⟩ : ∃ y, y = nA h3 103 (Int32.toNatClampNeg x4) := ⟨_, rfl⟩
  refine x_newa' 3 pk_byte dJ6_newBytesFor_4 g6 g7 g8 g9 e12 e13 (fun f14 => ?_)
  replace hq := hq a10 h11 e12 e13 f14
  have t15 : tg h11 a10 = 103 := by rw [e13, e12]; exact tg_nA
  exact x_aret rfl xty_A dJ6_newBytesFor_6 hq
theorem rJ6_newBytesFor {G : xG} {fr lo : Nat} {x0 : Int32} {h : xH} {Q : Outcome → xH → Prop} (hq : bJ6_newBytesFor G fr lo x0 h Q) : xR G YJ6_newBytesFor fr lo [.int x0] h Q := by
  show xP _ _ _ _ _ (lv_args 0 _) _ _ _
  rw [show lv_args 0 [.int x0] = [(0, .int x0)] from (xla1 rfl xla0)]
  exact uJ6_newBytesFor hq
set_option maxRecDepth 100000 in
theorem dJ6_newBytesLength_0 : decode cJ6_newBytesLength 0 = .ok (.iload_n 0, 1) := by decide +kernel
set_option maxRecDepth 100000 in
theorem dJ6_newBytesLength_1 : decode cJ6_newBytesLength 1 = .ok (.ifCond .ge 11, 3) := by decide +kernel
set_option maxRecDepth 100000 in
theorem dJ6_newBytesLength_4 : decode cJ6_newBytesLength 4 = .ok (.new 17, 3) := by decide +kernel
set_option maxRecDepth 100000 in
theorem dJ6_newBytesLength_7 : decode cJ6_newBytesLength 7 = .ok (.dup, 1) := by decide +kernel
set_option maxRecDepth 100000 in
theorem dJ6_newBytesLength_8 : decode cJ6_newBytesLength 8 = .ok (.invokespecial 19, 3) := by decide +kernel
set_option maxRecDepth 100000 in
theorem dJ6_newBytesLength_11 : decode cJ6_newBytesLength 11 = .ok (.athrow, 1) := by decide +kernel
set_option maxRecDepth 100000 in
theorem dJ6_newBytesLength_12 : decode cJ6_newBytesLength 12 = .ok (.iload_n 0, 1) := by decide +kernel
set_option maxRecDepth 100000 in
theorem dJ6_newBytesLength_13 : decode cJ6_newBytesLength 13 = .ok (.ldc 20, 2) := by decide +kernel
set_option maxRecDepth 100000 in
theorem dJ6_newBytesLength_15 : decode cJ6_newBytesLength 15 = .ok (.if_icmp .lt 40, 3) := by decide +kernel
set_option maxRecDepth 100000 in
theorem dJ6_newBytesLength_18 : decode cJ6_newBytesLength 18 = .ok (.new 21, 3) := by decide +kernel
set_option maxRecDepth 100000 in
theorem dJ6_newBytesLength_21 : decode cJ6_newBytesLength 21 = .ok (.dup, 1) := by decide +kernel
set_option maxRecDepth 100000 in
theorem dJ6_newBytesLength_22 : decode cJ6_newBytesLength 22 = .ok (.new 23, 3) := by decide +kernel
set_option maxRecDepth 100000 in
theorem dJ6_newBytesLength_25 : decode cJ6_newBytesLength 25 = .ok (.dup, 1) := by decide +kernel
set_option maxRecDepth 100000 in
theorem dJ6_newBytesLength_26 : decode cJ6_newBytesLength 26 = .ok (.invokespecial 25, 3) := by decide +kernel
set_option maxRecDepth 100000 in
theorem dJ6_newBytesLength_29 : decode cJ6_newBytesLength 29 = .ok (.ldc 26, 2) := by decide +kernel
set_option maxRecDepth 100000 in
theorem dJ6_newBytesLength_31 : decode cJ6_newBytesLength 31 = .ok (.invokevirtual 28, 3) := by decide +kernel
set_option maxRecDepth 100000 in
theorem dJ6_newBytesLength_34 : decode cJ6_newBytesLength 34 = .ok (.iload_n 0, 1) := by decide +kernel
set_option maxRecDepth 100000 in
theorem dJ6_newBytesLength_35 : decode cJ6_newBytesLength 35 = .ok (.invokevirtual 32, 3) := by decide +kernel
set_option maxRecDepth 100000 in
theorem dJ6_newBytesLength_38 : decode cJ6_newBytesLength 38 = .ok (.ldc 35, 2) := by decide +kernel
set_option maxRecDepth 100000 in
theorem dJ6_newBytesLength_40 : decode cJ6_newBytesLength 40 = .ok (.invokevirtual 28, 3) := by decide +kernel
set_option maxRecDepth 100000 in
theorem dJ6_newBytesLength_43 : decode cJ6_newBytesLength 43 = .ok (.ldc 20, 2) := by decide +kernel
set_option maxRecDepth 100000 in
theorem dJ6_newBytesLength_45 : decode cJ6_newBytesLength 45 = .ok (.invokevirtual 32, 3) := by decide +kernel
set_option maxRecDepth 100000 in
theorem dJ6_newBytesLength_48 : decode cJ6_newBytesLength 48 = .ok (.invokevirtual 37, 3) := by decide +kernel
set_option maxRecDepth 100000 in
theorem dJ6_newBytesLength_51 : decode cJ6_newBytesLength 51 = .ok (.invokespecial 41, 3) := by decide +kernel
set_option maxRecDepth 100000 in
theorem dJ6_newBytesLength_54 : decode cJ6_newBytesLength 54 = .ok (.athrow, 1) := by decide +kernel
set_option maxRecDepth 100000 in
theorem dJ6_newBytesLength_55 : decode cJ6_newBytesLength 55 = .ok (.iload_n 0, 1) := by decide +kernel
set_option maxRecDepth 100000 in
theorem dJ6_newBytesLength_56 : decode cJ6_newBytesLength 56 = .ok (.iconst 1, 1) := by decide +kernel
set_option maxRecDepth 100000 in
theorem dJ6_newBytesLength_57 : decode cJ6_newBytesLength 57 = .ok (.ishl, 1) := by decide +kernel
set_option maxRecDepth 100000 in
theorem dJ6_newBytesLength_58 : decode cJ6_newBytesLength 58 = .ok (.ireturn, 1) := by decide +kernel
set_option maxRecDepth 100000 in
def bJ6_newBytesLength (G : xG) (fr lo : Nat) (x0 : Int32) (h : xH) (Q : Outcome → xH → Prop) : Prop := ((0 ≤ x0 → ((x0 < 1073741823 → Q (.returned (some (.int (x0 <<< (1 &&& 31))))) h) ∧ (¬ x0 < 1073741823 → False))) ∧ (¬ 0 ≤ x0 → False))
set_option maxRecDepth 100000 in
theorem uJ6_newBytesLength {G : xG} {fr lo : Nat} {x0 : Int32} {h : xH} {Q : Outcome → xH → Prop} (hq : bJ6_newBytesLength G fr lo x0 h Q) : xP G YJ6_newBytesLength fr lo 0 [(0, .int x0)] [] h Q := by
  unfold bJ6_newBytesLength at hq
  refine x_iload_n 0 dJ6_newBytesLength_0 rfl ?_
  refine x_if_ge (tgt := 12) dJ6_newBytesLength_1 (by decide) (fun c1 => ?_) (fun c1 => ?_)
  · replace hq := hq.1 c1
    refine x_iload_n 0 dJ6_newBytesLength_12 rfl ?_
    refine x_ldc (v := 1073741823) q626 dJ6_newBytesLength_13 ?_
    refine x_icmp_lt (tgt := 55) dJ6_newBytesLength_15 (by decide) (fun c2 => ?_) (fun c2 => ?_)
    · replace hq := hq.1 c2
      refine x_iload_n 0 dJ6_newBytesLength_55 rfl ?_
      refine x_iconst (v := 1) dJ6_newBytesLength_56 (by decide) ?_
      refine x_ishl dJ6_newBytesLength_57 ?_
      exact x_iret rfl rfl dJ6_newBytesLength_58 hq
    · replace hq := hq.2 c2
      exact hq.elim
  · replace hq := hq.2 c1
    exact hq.elim
theorem rJ6_newBytesLength {G : xG} {fr lo : Nat} {x0 : Int32} {h : xH} {Q : Outcome → xH → Prop} (hq : bJ6_newBytesLength G fr lo x0 h Q) : xR G YJ6_newBytesLength fr lo [.int x0] h Q := by
  show xP _ _ _ _ _ (lv_args 0 _) _ _ _
  rw [show lv_args 0 [.int x0] = [(0, .int x0)] from (xla1 rfl xla0)]
  exact uJ6_newBytesLength hq
set_option maxRecDepth 100000 in
theorem dJ6_charAt_0 : decode cJ6_charAt 0 = .ok (.iload_n 1, 1) := by decide +kernel
set_option maxRecDepth 100000 in
theorem dJ6_charAt_1 : decode cJ6_charAt 1 = .ok (.aload_n 0, 1) := by decide +kernel
set_option maxRecDepth 100000 in
theorem dJ6_charAt_2 : decode cJ6_charAt 2 = .ok (.invokestatic 67, 3) := by decide +kernel
set_option maxRecDepth 100000 in
theorem dJ6_charAt_5 : decode cJ6_charAt 5 = .ok (.aload_n 0, 1) := by decide +kernel
set_option maxRecDepth 100000 in
theorem dJ6_charAt_6 : decode cJ6_charAt 6 = .ok (.iload_n 1, 1) := by decide +kernel
set_option maxRecDepth 100000 in
theorem dJ6_charAt_7 : decode cJ6_charAt 7 = .ok (.invokestatic 71, 3) := by decide +kernel
set_option maxRecDepth 100000 in
theorem dJ6_charAt_10 : decode cJ6_charAt 10 = .ok (.ireturn, 1) := by decide +kernel
set_option maxRecDepth 100000 in
def bJ6_charAt (G : xG) (fr lo : Nat) (x0 : Nat) (x1 : Int32) (h : xH) (Q : Outcome → xH → Prop) : Prop := 1 ≤ fr ∧ 13 ≤ lo ∧ xRv G YJ6_checkIndex (fr - 1) (lo - 13) [.int x1, rv x0] h (fun h3 => xext h h3 → 1 ≤ fr ∧ 13 ≤ lo ∧ xRi G YJ6_getChar (fr - 1) (lo - 13) [rv x0, .int x1] h3 (fun x9 h8 => xext h3 h8 → narrow (.char) (.int x9) = .int x9 ∧ Q (.returned (some (.int x9))) h8) (fun r h2 => Q (.threw r) h2)) (fun r h2 => Q (.threw r) h2)
set_option maxRecDepth 100000 in
theorem uJ6_charAt {G : xG} {fr lo : Nat} {x0 : Nat} {x1 : Int32} {h : xH} {Q : Outcome → xH → Prop} (hq : bJ6_charAt G fr lo x0 x1 h Q) : xP G YJ6_charAt fr lo 0 [(0, rv x0), (1, .int x1)] [] h Q := by
  unfold bJ6_charAt at hq
  refine x_iload_n 1 dJ6_charAt_0 rfl ?_
  refine x_aload_n 0 dJ6_charAt_1 rfl ?_
  obtain ⟨g1, g2, hq⟩ := hq
  refine x_callS (Yc := YJ6_checkIndex) (as := [.int x1, rv x0]) (st := []) q811 msJ6_checkIndex rfl dJ6_charAt_2 (xle (xal1 rfl (xal1 (rv_cat _) xal0)) (by decide)) (xfr g1) (xlo xsw0 (by decide) g2) (xKv hq (fun h3 hq e5 => ?_) (fun _ _ q _ => q))
  replace hq := hq e5
  refine x_aload_n 0 dJ6_charAt_5 rfl ?_
  refine x_iload_n 1 dJ6_charAt_6 rfl ?_
  obtain ⟨g6, g7, hq⟩ := hq
  refine x_callS (Yc := YJ6_getChar) (as := [rv x0, .int x1]) (st := []) q818 msJ6_getChar rfl dJ6_charAt_7 (xle (xal1 (rv_cat _) (xal1 rfl xal0)) (by decide)) (xfr g6) (xlo xsw0 (by decide) g7) (xKi hq (fun x9 h8 hq e10 => ?_) (fun _ _ q _ => q))
  replace hq := hq e10
  obtain ⟨g11, hq⟩ := hq
  exact x_iret rfl g11 dJ6_charAt_10 hq
theorem rJ6_charAt {G : xG} {fr lo : Nat} {x0 : Nat} {x1 : Int32} {h : xH} {Q : Outcome → xH → Prop} (hq : bJ6_charAt G fr lo x0 x1 h Q) : xR G YJ6_charAt fr lo [rv x0, .int x1] h Q := by
  show xP _ _ _ _ _ (lv_args 0 _) _ _ _
  rw [show lv_args 0 [rv x0, .int x1] = [(0, rv x0), (1, .int x1)] from (xla1 (rv_cat _) (xla1 rfl xla0))]
  exact uJ6_charAt hq
set_option maxRecDepth 100000 in
theorem dJ6_checkIndex_0 : decode cJ6_checkIndex 0 = .ok (.iload_n 0, 1) := by decide +kernel
set_option maxRecDepth 100000 in
theorem dJ6_checkIndex_1 : decode cJ6_checkIndex 1 = .ok (.aload_n 1, 1) := by decide +kernel
set_option maxRecDepth 100000 in
theorem dJ6_checkIndex_2 : decode cJ6_checkIndex 2 = .ok (.invokestatic 48, 3) := by decide +kernel
set_option maxRecDepth 100000 in
theorem dJ6_checkIndex_5 : decode cJ6_checkIndex 5 = .ok (.invokestatic 414, 3) := by decide +kernel
set_option maxRecDepth 100000 in
theorem dJ6_checkIndex_8 : decode cJ6_checkIndex 8 = .ok (.return_, 1) := by decide +kernel
set_option maxRecDepth 100000 in
def bJ6_checkIndex (G : xG) (fr lo : Nat) (x0 : Int32) (x1 : Nat) (h : xH) (Q : Outcome → xH → Prop) : Prop := 1 ≤ fr ∧ 13 ≤ lo ∧ xRi G YJ6_length (fr - 1) (lo - 13) [rv x1] h (fun x4 h3 => xext h h3 → 1 ≤ fr ∧ 13 ≤ lo ∧ xRv G YJ5_checkIndex (fr - 1) (lo - 13) [.int x0, .int x4] h3 (fun h8 => xext h3 h8 → Q (.returned none) h8) (fun r h2 => Q (.threw r) h2)) (fun r h2 => Q (.threw r) h2)
set_option maxRecDepth 100000 in
theorem uJ6_checkIndex {G : xG} {fr lo : Nat} {x0 : Int32} {x1 : Nat} {h : xH} {Q : Outcome → xH → Prop} (hq : bJ6_checkIndex G fr lo x0 x1 h Q) : xP G YJ6_checkIndex fr lo 0 [(0, .int x0), (1, rv x1)] [] h Q := by
  unfold bJ6_checkIndex at hq
  refine x_iload_n 0 dJ6_checkIndex_0 rfl ?_
  refine x_aload_n 1 dJ6_checkIndex_1 rfl ?_
  obtain ⟨g1, g2, hq⟩ := hq
  refine x_callS (Yc := YJ6_length) (as := [rv x1]) (st := [.int x0]) q814 msJ6_length rfl dJ6_checkIndex_2 (xle (xal1 (rv_cat _) xal0) (by decide)) (xfr g1) (xlo (xsw1 rfl xsw0) (by decide) g2) (xKi hq (fun x4 h3 hq e5 => ?_) (fun _ _ q _ => q))
  replace hq := hq e5
  obtain ⟨g6, g7, hq⟩ := hq
  refine x_callS (Yc := YJ5_checkIndex) (as := [.int x0, .int x4]) (st := []) q817 msJ5_checkIndex rfl dJ6_checkIndex_5 (xle (xal1 rfl (xal1 rfl xal0)) (by decide)) (xfr g6) (xlo xsw0 (by decide) g7) (xKv hq (fun h8 hq e10 => ?_) (fun _ _ q _ => q))
  replace hq := hq e10
  exact x_vret rfl dJ6_checkIndex_8 hq
theorem rJ6_checkIndex {G : xG} {fr lo : Nat} {x0 : Int32} {x1 : Nat} {h : xH} {Q : Outcome → xH → Prop} (hq : bJ6_checkIndex G fr lo x0 x1 h Q) : xR G YJ6_checkIndex fr lo [.int x0, rv x1] h Q := by
  show xP _ _ _ _ _ (lv_args 0 _) _ _ _
  rw [show lv_args 0 [.int x0, rv x1] = [(0, .int x0), (1, rv x1)] from (xla1 rfl (xla1 (rv_cat _) xla0))]
  exact uJ6_checkIndex hq
set_option maxRecDepth 100000 in
theorem dJ6_length_0 : decode cJ6_length 0 = .ok (.aload_n 0, 1) := by decide +kernel
set_option maxRecDepth 100000 in
theorem dJ6_length_1 : decode cJ6_length 1 = .ok (.arraylength, 1) := by decide +kernel
set_option maxRecDepth 100000 in
theorem dJ6_length_2 : decode cJ6_length 2 = .ok (.iconst 1, 1) := by decide +kernel
set_option maxRecDepth 100000 in
theorem dJ6_length_3 : decode cJ6_length 3 = .ok (.ishr, 1) := by decide +kernel
set_option maxRecDepth 100000 in
theorem dJ6_length_4 : decode cJ6_length 4 = .ok (.ireturn, 1) := by decide +kernel
set_option maxRecDepth 100000 in
def bJ6_length (G : xG) (fr lo : Nat) (x0 : Nat) (h : xH) (Q : Outcome → xH → Prop) : Prop := tg h x0 = 103 ∧ Q (.returned (some (.int ((Int32.ofNat (ln h x0)) >>> (1 &&& 31))))) h
set_option maxRecDepth 100000 in
theorem uJ6_length {G : xG} {fr lo : Nat} {x0 : Nat} {h : xH} {Q : Outcome → xH → Prop} (hq : bJ6_length G fr lo x0 h Q) : xP G YJ6_length fr lo 0 [(0, rv x0)] [] h Q := by
  unfold bJ6_length at hq
  refine x_aload_n 0 dJ6_length_0 rfl ?_
  obtain ⟨g1, hq⟩ := hq
  refine x_alen 3 g1 (by decide) dJ6_length_1 ?_
  refine x_iconst (v := 1) dJ6_length_2 (by decide) ?_
  refine x_ishr dJ6_length_3 ?_
  exact x_iret rfl rfl dJ6_length_4 hq
theorem rJ6_length {G : xG} {fr lo : Nat} {x0 : Nat} {h : xH} {Q : Outcome → xH → Prop} (hq : bJ6_length G fr lo x0 h Q) : xR G YJ6_length fr lo [rv x0] h Q := by
  show xP _ _ _ _ _ (lv_args 0 _) _ _ _
  rw [show lv_args 0 [rv x0] = [(0, rv x0)] from (xla1 (rv_cat _) xla0)]
  exact uJ6_length hq
set_option maxRecDepth 100000 in
theorem dJ6_getChar_0 : decode cJ6_getChar 0 = .ok (.getstatic 44, 3) := by decide +kernel
set_option maxRecDepth 100000 in
theorem dJ6_getChar_3 : decode cJ6_getChar 3 = .ok (.ifCond .ne 25, 3) := by decide +kernel
set_option maxRecDepth 100000 in
theorem dJ6_getChar_6 : decode cJ6_getChar 6 = .ok (.iload_n 1, 1) := by decide +kernel
set_option maxRecDepth 100000 in
theorem dJ6_getChar_7 : decode cJ6_getChar 7 = .ok (.ifCond .lt 11, 3) := by decide +kernel
set_option maxRecDepth 100000 in
theorem dJ6_getChar_10 : decode cJ6_getChar 10 = .ok (.iload_n 1, 1) := by decide +kernel
set_option maxRecDepth 100000 in
theorem dJ6_getChar_11 : decode cJ6_getChar 11 = .ok (.aload_n 0, 1) := by decide +kernel
set_option maxRecDepth 100000 in
theorem dJ6_getChar_12 : decode cJ6_getChar 12 = .ok (.invokestatic 48, 3) := by decide +kernel
set_option maxRecDepth 100000 in
theorem dJ6_getChar_15 : decode cJ6_getChar 15 = .ok (.if_icmp .lt 13, 3) := by decide +kernel
set_option maxRecDepth 100000 in
theorem dJ6_getChar_18 : decode cJ6_getChar 18 = .ok (.new 52, 3) := by decide +kernel
set_option maxRecDepth 100000 in
theorem dJ6_getChar_21 : decode cJ6_getChar 21 = .ok (.dup, 1) := by decide +kernel
set_option maxRecDepth 100000 in
theorem dJ6_getChar_22 : decode cJ6_getChar 22 = .ok (.ldc 54, 2) := by decide +kernel
set_option maxRecDepth 100000 in
theorem dJ6_getChar_24 : decode cJ6_getChar 24 = .ok (.invokespecial 56, 3) := by decide +kernel
set_option maxRecDepth 100000 in
theorem dJ6_getChar_27 : decode cJ6_getChar 27 = .ok (.athrow, 1) := by decide +kernel
set_option maxRecDepth 100000 in
theorem dJ6_getChar_28 : decode cJ6_getChar 28 = .ok (.iload_n 1, 1) := by decide +kernel
set_option maxRecDepth 100000 in
theorem dJ6_getChar_29 : decode cJ6_getChar 29 = .ok (.iconst 1, 1) := by decide +kernel
set_option maxRecDepth 100000 in
theorem dJ6_getChar_30 : decode cJ6_getChar 30 = .ok (.ishl, 1) := by decide +kernel
set_option maxRecDepth 100000 in
theorem dJ6_getChar_31 : decode cJ6_getChar 31 = .ok (.istore_n 1, 1) := by decide +kernel
set_option maxRecDepth 100000 in
theorem dJ6_getChar_32 : decode cJ6_getChar 32 = .ok (.aload_n 0, 1) := by decide +kernel
set_option maxRecDepth 100000 in
theorem dJ6_getChar_33 : decode cJ6_getChar 33 = .ok (.iload_n 1, 1) := by decide +kernel
set_option maxRecDepth 100000 in
theorem dJ6_getChar_34 : decode cJ6_getChar 34 = .ok (.iinc 1 1, 3) := by decide +kernel
set_option maxRecDepth 100000 in
theorem dJ6_getChar_37 : decode cJ6_getChar 37 = .ok (.baload, 1) := by decide +kernel
set_option maxRecDepth 100000 in
theorem dJ6_getChar_38 : decode cJ6_getChar 38 = .ok (.sipush 255, 3) := by decide +kernel
set_option maxRecDepth 100000 in
theorem dJ6_getChar_41 : decode cJ6_getChar 41 = .ok (.iand, 1) := by decide +kernel
set_option maxRecDepth 100000 in
theorem dJ6_getChar_42 : decode cJ6_getChar 42 = .ok (.getstatic 59, 3) := by decide +kernel
set_option maxRecDepth 100000 in
theorem dJ6_getChar_45 : decode cJ6_getChar 45 = .ok (.ishl, 1) := by decide +kernel
set_option maxRecDepth 100000 in
theorem dJ6_getChar_46 : decode cJ6_getChar 46 = .ok (.aload_n 0, 1) := by decide +kernel
set_option maxRecDepth 100000 in
theorem dJ6_getChar_47 : decode cJ6_getChar 47 = .ok (.iload_n 1, 1) := by decide +kernel
set_option maxRecDepth 100000 in
theorem dJ6_getChar_48 : decode cJ6_getChar 48 = .ok (.baload, 1) := by decide +kernel
set_option maxRecDepth 100000 in
theorem dJ6_getChar_49 : decode cJ6_getChar 49 = .ok (.sipush 255, 3) := by decide +kernel
set_option maxRecDepth 100000 in
theorem dJ6_getChar_52 : decode cJ6_getChar 52 = .ok (.iand, 1) := by decide +kernel
set_option maxRecDepth 100000 in
theorem dJ6_getChar_53 : decode cJ6_getChar 53 = .ok (.getstatic 63, 3) := by decide +kernel
set_option maxRecDepth 100000 in
theorem dJ6_getChar_56 : decode cJ6_getChar 56 = .ok (.ishl, 1) := by decide +kernel
set_option maxRecDepth 100000 in
theorem dJ6_getChar_57 : decode cJ6_getChar 57 = .ok (.ior, 1) := by decide +kernel
set_option maxRecDepth 100000 in
theorem dJ6_getChar_58 : decode cJ6_getChar 58 = .ok (.i2c, 1) := by decide +kernel
set_option maxRecDepth 100000 in
theorem dJ6_getChar_59 : decode cJ6_getChar 59 = .ok (.ireturn, 1) := by decide +kernel
set_option maxRecDepth 100000 in
def bJ6_getChar_28 (G : xG) (fr lo : Nat) (x0 : Nat) (x1 : Int32) (h : xH) (Q : Outcome → xH → Prop) : Prop := tg h x0 = 103 ∧ vp_in (x1 <<< (1 &&& 31)) (ln h x0) ∧ vp_in ((x1 <<< (1 &&& 31)) + 1) (ln h x0) ∧ narrow (.char) (.int ((Int32.toUInt32 ((((aI h x0 (Int32.toNatClampNeg (x1 <<< (1 &&& 31)))) &&& 255) <<< (0 &&& 31)) ||| (((aI h x0 (Int32.toNatClampNeg ((x1 <<< (1 &&& 31)) + 1))) &&& 255) <<< (8 &&& 31))) % 65536).toInt32)) = .int ((Int32.toUInt32 ((((aI h x0 (Int32.toNatClampNeg (x1 <<< (1 &&& 31)))) &&& 255) <<< (0 &&& 31)) ||| (((aI h x0 (Int32.toNatClampNeg ((x1 <<< (1 &&& 31)) + 1))) &&& 255) <<< (8 &&& 31))) % 65536).toInt32) ∧ Q (.returned (some (.int ((Int32.toUInt32 ((((aI h x0 (Int32.toNatClampNeg (x1 <<< (1 &&& 31)))) &&& 255) <<< (0 &&& 31)) ||| (((aI h x0 (Int32.toNatClampNeg ((x1 <<< (1 &&& 31)) + 1))) &&& 255) <<< (8 &&& 31))) % 65536).toInt32)))) h
set_option maxRecDepth 100000 in
theorem uJ6_getChar_28 {G : xG} {fr lo : Nat} {x0 : Nat} {x1 : Int32} {h : xH} {Q : Outcome → xH → Prop} (hq : bJ6_getChar_28 G fr lo x0 x1 h Q) : xP G YJ6_getChar fr lo 28 [(0, rv x0), (1, .int x1)] [] h Q := by
  unfold bJ6_getChar_28 at hq
  refine x_iload_n 1 dJ6_getChar_28 rfl ?_
  refine x_iconst (v := 1) dJ6_getChar_29 (by decide) ?_
  refine x_ishl dJ6_getChar_30 ?_
  refine x_istore_n (lv' := [(1, .int (x1 <<< (1 &&& 31))), (0, rv x0)]) dJ6_getChar_31 (by decide) (by first | rfl | (simp [rv_cat, Value.category]; done) | (simp [rv_cat, Value.category]; decide)) ?_
  refine x_aload_n 1 dJ6_getChar_32 rfl ?_
  refine x_iload_n 0 dJ6_getChar_33 rfl ?_
  refine x_iinc (lv' := [(1, .int ((x1 <<< (1 &&& 31)) + 1)), (0, rv x0)]) 0 dJ6_getChar_34 rfl (by decide) (by first | rfl | (simp [rv_cat, Value.category]; done) | (simp [rv_cat, Value.category]; decide)) ?_
  obtain ⟨g1, hq⟩ := hq
  obtain ⟨i2, hq⟩ := hq
  refine x_bald g1 i2 dJ6_getChar_37 ?_
  refine x_sipush (v := 255) dJ6_getChar_38 (by decide) ?_
  refine x_iand dJ6_getChar_41 ?_
  refine x_gets (v := .int 0) 11 rfl q823 (by simp [xsv]) dJ6_getChar_42 ?_
  refine x_ishl dJ6_getChar_45 ?_
  refine x_aload_n 1 dJ6_getChar_46 rfl ?_
  refine x_iload_n 0 dJ6_getChar_47 rfl ?_
  obtain ⟨i3, hq⟩ := hq
  refine x_bald g1 i3 dJ6_getChar_48 ?_
  refine x_sipush (v := 255) dJ6_getChar_49 (by decide) ?_
  refine x_iand dJ6_getChar_52 ?_
  refine x_gets (v := .int 8) 12 rfl q825 (by simp [xsv]) dJ6_getChar_53 ?_
  refine x_ishl dJ6_getChar_56 ?_
  refine x_ior dJ6_getChar_57 ?_
  refine x_i2c dJ6_getChar_58 ?_
  obtain ⟨g4, hq⟩ := hq
  exact x_iret rfl g4 dJ6_getChar_59 hq
set_option maxRecDepth 100000 in
def bJ6_getChar_18 (G : xG) (fr lo : Nat) (h : xH) (Q : Outcome → xH → Prop) : Prop := False
set_option maxRecDepth 100000 in
theorem uJ6_getChar_18 {G : xG} {fr lo : Nat} {h : xH} {Q : Outcome → xH → Prop} (hq : bJ6_getChar_18 G fr lo h Q) : xP G YJ6_getChar fr lo 18 [] [] h Q := by
  unfold bJ6_getChar_18 at hq
  exact hq.elim
set_option maxRecDepth 100000 in
def bJ6_getChar (G : xG) (fr lo : Nat) (x0 : Nat) (x1 : Int32) (h : xH) (Q : Outcome → xH → Prop) : Prop := ((¬ 1 = 0 → bJ6_getChar_28 G fr lo x0 x1 h Q) ∧ (1 = 0 → ((x1 < 0 → bJ6_getChar_18 G fr lo h Q) ∧ (¬ x1 < 0 → 1 ≤ fr ∧ 13 ≤ lo ∧ xRi G YJ6_length (fr - 1) (lo - 13) [rv x0] h (fun x6 h5 => xext h h5 → ((x1 < x6 → bJ6_getChar_28 G fr lo x0 x1 h5 Q) ∧ (¬ x1 < x6 → bJ6_getChar_18 G fr lo h5 Q))) (fun r h2 => Q (.threw r) h2)))))
set_option maxRecDepth 100000 in
theorem uJ6_getChar {G : xG} {fr lo : Nat} {x0 : Nat} {x1 : Int32} {h : xH} {Q : Outcome → xH → Prop} (hq : bJ6_getChar G fr lo x0 x1 h Q) : xP G YJ6_getChar fr lo 0 [(0, rv x0), (1, .int x1)] [] h Q := by
  unfold bJ6_getChar at hq
  refine x_gets (v := .int 1) 10 rfl q821 (by simp [xsv]) dJ6_getChar_0 ?_
  refine x_if_ne (tgt := 28) dJ6_getChar_3 (by decide) (fun c1 => ?_) (fun c1 => ?_)
  · replace hq := hq.1 c1
    exact uJ6_getChar_28 hq
  · replace hq := hq.2 c1
    refine x_iload_n 1 dJ6_getChar_6 rfl ?_
    refine x_if_lt (tgt := 18) dJ6_getChar_7 (by decide) (fun c2 => ?_) (fun c2 => ?_)
    · replace hq := hq.1 c2
      refine xP.pick (lv' := []) [] rfl ?_
      exact uJ6_getChar_18 hq
    · replace hq := hq.2 c2
      refine x_iload_n 1 dJ6_getChar_10 rfl ?_
      refine x_aload_n 0 dJ6_getChar_11 rfl ?_
      obtain ⟨g3, g4, hq⟩ := hq
      refine x_callS (Yc := YJ6_length) (as := [rv x0]) (st := [.int x1]) q814 msJ6_length rfl dJ6_getChar_12 (xle (xal1 (rv_cat _) xal0) (by decide)) (xfr g3) (xlo (xsw1 rfl xsw0) (by decide) g4) (xKi hq (fun x6 h5 hq e7 => ?_) (fun _ _ q _ => q))
      replace hq := hq e7
      refine x_icmp_lt (tgt := 28) dJ6_getChar_15 (by decide) (fun c8 => ?_) (fun c8 => ?_)
      · replace hq := hq.1 c8
        exact uJ6_getChar_28 hq
      · replace hq := hq.2 c8
        refine xP.pick (lv' := []) [] rfl ?_
        exact uJ6_getChar_18 hq
theorem rJ6_getChar {G : xG} {fr lo : Nat} {x0 : Nat} {x1 : Int32} {h : xH} {Q : Outcome → xH → Prop} (hq : bJ6_getChar G fr lo x0 x1 h Q) : xR G YJ6_getChar fr lo [rv x0, .int x1] h Q := by
  show xP _ _ _ _ _ (lv_args 0 _) _ _ _
  rw [show lv_args 0 [rv x0, .int x1] = [(0, rv x0), (1, .int x1)] from (xla1 (rv_cat _) (xla1 rfl xla0))]
  exact uJ6_getChar hq
set_option maxRecDepth 100000 in
theorem dJ6_inflate_0 : decode cJ6_inflate 0 = .ok (.iload_n 3, 1) := by decide +kernel
set_option maxRecDepth 100000 in
theorem dJ6_inflate_1 : decode cJ6_inflate 1 = .ok (.iload 4, 2) := by decide +kernel
set_option maxRecDepth 100000 in
theorem dJ6_inflate_3 : decode cJ6_inflate 3 = .ok (.aload_n 2, 1) := by decide +kernel
set_option maxRecDepth 100000 in
theorem dJ6_inflate_4 : decode cJ6_inflate 4 = .ok (.invokestatic 173, 3) := by decide +kernel
set_option maxRecDepth 100000 in
theorem dJ6_inflate_7 : decode cJ6_inflate 7 = .ok (.iconst 0, 1) := by decide +kernel
set_option maxRecDepth 100000 in
theorem dJ6_inflate_8 : decode cJ6_inflate 8 = .ok (.istore 5, 2) := by decide +kernel
set_option maxRecDepth 100000 in
theorem dJ6_inflate_10 : decode cJ6_inflate 10 = .ok (.iload 5, 2) := by decide +kernel
set_option maxRecDepth 100000 in
theorem dJ6_inflate_12 : decode cJ6_inflate 12 = .ok (.iload 4, 2) := by decide +kernel
set_option maxRecDepth 100000 in
theorem dJ6_inflate_14 : decode cJ6_inflate 14 = .ok (.if_icmp .ge 27, 3) := by decide +kernel
set_option maxRecDepth 100000 in
theorem dJ6_inflate_17 : decode cJ6_inflate 17 = .ok (.aload_n 2, 1) := by decide +kernel
set_option maxRecDepth 100000 in
theorem dJ6_inflate_18 : decode cJ6_inflate 18 = .ok (.iload_n 3, 1) := by decide +kernel
set_option maxRecDepth 100000 in
theorem dJ6_inflate_19 : decode cJ6_inflate 19 = .ok (.iinc 3 1, 3) := by decide +kernel
set_option maxRecDepth 100000 in
theorem dJ6_inflate_22 : decode cJ6_inflate 22 = .ok (.aload_n 0, 1) := by decide +kernel
set_option maxRecDepth 100000 in
theorem dJ6_inflate_23 : decode cJ6_inflate 23 = .ok (.iload_n 1, 1) := by decide +kernel
set_option maxRecDepth 100000 in
theorem dJ6_inflate_24 : decode cJ6_inflate 24 = .ok (.iinc 1 1, 3) := by decide +kernel
set_option maxRecDepth 100000 in
theorem dJ6_inflate_27 : decode cJ6_inflate 27 = .ok (.baload, 1) := by decide +kernel
set_option maxRecDepth 100000 in
theorem dJ6_inflate_28 : decode cJ6_inflate 28 = .ok (.sipush 255, 3) := by decide +kernel
set_option maxRecDepth 100000 in
theorem dJ6_inflate_31 : decode cJ6_inflate 31 = .ok (.iand, 1) := by decide +kernel
set_option maxRecDepth 100000 in
theorem dJ6_inflate_32 : decode cJ6_inflate 32 = .ok (.invokestatic 111, 3) := by decide +kernel
set_option maxRecDepth 100000 in
theorem dJ6_inflate_35 : decode cJ6_inflate 35 = .ok (.iinc 5 1, 3) := by decide +kernel
set_option maxRecDepth 100000 in
theorem dJ6_inflate_38 : decode cJ6_inflate 38 = .ok (.goto (-28), 3) := by decide +kernel
set_option maxRecDepth 100000 in
theorem dJ6_inflate_41 : decode cJ6_inflate 41 = .ok (.return_, 1) := by decide +kernel
def lJ6_inflate_10 (G : xG) (fr lo : Nat) (x0 : Nat) (x1 : Int32) (x2 : Nat) (x3 : Int32) (x4 : Int32) (x5 : Int32) (h : xH) (Q : Outcome → xH → Prop) : Prop := xP G YJ6_inflate fr lo 10 [(0, rv x0), (1, .int x1), (2, rv x2), (3, .int x3), (4, .int x4), (5, .int x5)] [] h Q
set_option maxRecDepth 100000 in
def bJ6_inflate_10 (G : xG) (fr lo : Nat) (x0 : Nat) (x1 : Int32) (x2 : Nat) (x3 : Int32) (x4 : Int32) (x5 : Int32) (h : xH) (Q : Outcome → xH → Prop) : Prop := ((x4 ≤ x5 → Q (.returned none) h) ∧ (¬ x4 ≤ x5 → tg h x0 = 103 ∧ vp_in x1 (ln h x0) ∧ 1 ≤ fr ∧ 14 ≤ lo ∧ xRv G YJ6_putChar (fr - 1) (lo - 14) [rv x2, .int x3, .int ((aI h x0 (Int32.toNatClampNeg x1)) &&& 255)] h (fun h6 => xext h h6 → lJ6_inflate_10 G fr lo x0 (x1 + 1) x2 (x3 + 1) x4 (x5 + 1) h6 Q) (fun r h2 => Q (.threw r) h2)))
set_option maxRecDepth 100000 in
theorem uJ6_inflate_10 {G : xG} {fr lo : Nat} {x0 : Nat} {x1 : Int32} {x2 : Nat} {x3 : Int32} {x4 : Int32} {x5 : Int32} {h : xH} {Q : Outcome → xH → Prop} (hq : bJ6_inflate_10 G fr lo x0 x1 x2 x3 x4 x5 h Q) : xP G YJ6_inflate fr lo 10 [(0, rv x0), (1, .int x1), (2, rv x2), (3, .int x3), (4, .int x4), (5, .int x5)] [] h Q := by
  unfold bJ6_inflate_10 at hq
  refine x_iload 5 dJ6_inflate_10 rfl ?_
  refine x_iload 4 dJ6_inflate_12 rfl ?_
  refine x_icmp_ge (tgt := 41) dJ6_inflate_14 (by decide) (fun c1 => ?_) (fun c1 => ?_)
  · replace hq := hq.1 c1
    exact x_vret rfl dJ6_inflate_41 hq
  · replace hq := hq.2 c1
    refine x_aload_n 2 dJ6_inflate_17 rfl ?_
    refine x_iload_n 3 dJ6_inflate_18 rfl ?_
    refine x_iinc (lv' := [(3, .int (x3 + 1)), (0, rv x0), (1, .int x1), (2, rv x2), (4, .int x4), (5, .int x5)]) 3 dJ6_inflate_19 rfl (by decide) (by first | rfl | (simp [rv_cat, Value.category]; done) | (simp [rv_cat, Value.category]; decide)) ?_
    refine x_aload_n 1 dJ6_inflate_22 rfl ?_
    refine x_iload_n 2 dJ6_inflate_23 rfl ?_
    refine x_iinc (lv' := [(1, .int (x1 + 1)), (3, .int (x3 + 1)), (0, rv x0), (2, rv x2), (4, .int x4), (5, .int x5)]) 2 dJ6_inflate_24 rfl (by decide) (by first | rfl | (simp [rv_cat, Value.category]; done) | (simp [rv_cat, Value.category]; decide)) ?_
    obtain ⟨g2, hq⟩ := hq
    obtain ⟨i3, hq⟩ := hq
    refine x_bald g2 i3 dJ6_inflate_27 ?_
    refine x_sipush (v := 255) dJ6_inflate_28 (by decide) ?_
    refine x_iand dJ6_inflate_31 ?_
    obtain ⟨g4, g5, hq⟩ := hq
    refine x_callS (Yc := YJ6_putChar) (as := [rv x2, .int x3, .int ((aI h x0 (Int32.toNatClampNeg x1)) &&& 255)]) (st := []) q896 msJ6_putChar rfl dJ6_inflate_32 (xle (xal1 (rv_cat _) (xal1 rfl (xal1 rfl xal0))) (by decide)) (xfr g4) (xlo xsw0 (by decide) g5) (xKv hq (fun h6 hq e8 => ?_) (fun _ _ q _ => q))
    replace hq := hq e8
    refine x_iinc (lv' := [(5, .int (x5 + 1)), (1, .int (x1 + 1)), (3, .int (x3 + 1)), (0, rv x0), (2, rv x2), (4, .int x4)]) 5 dJ6_inflate_35 rfl (by decide) rfl ?_
    refine x_goto (tgt := 10) dJ6_inflate_38 (by decide) ?_
    refine xP.pick (lv' := [(0, rv x0), (1, .int (x1 + 1)), (2, rv x2), (3, .int (x3 + 1)), (4, .int x4), (5, .int (x5 + 1))]) [3, 1, 4, 2, 5, 0] rfl ?_
    exact hq
set_option maxRecDepth 100000 in
def bJ6_inflate (G : xG) (fr lo : Nat) (x0 : Nat) (x1 : Int32) (x2 : Nat) (x3 : Int32) (x4 : Int32) (h : xH) (Q : Outcome → xH → Prop) : Prop := 1 ≤ fr ∧ 14 ≤ lo ∧ xRv G YJ6_checkBoundsOffCount (fr - 1) (lo - 14) [.int x3, .int x4, rv x2] h (fun h3 => xext h h3 → lJ6_inflate_10 G fr lo x0 x1 x2 x3 x4 0 h3 Q) (fun r h2 => Q (.threw r) h2)
set_option maxRecDepth 100000 in
theorem uJ6_inflate {G : xG} {fr lo : Nat} {x0 : Nat} {x1 : Int32} {x2 : Nat} {x3 : Int32} {x4 : Int32} {h : xH} {Q : Outcome → xH → Prop} (hq : bJ6_inflate G fr lo x0 x1 x2 x3 x4 h Q) : xP G YJ6_inflate fr lo 0 [(0, rv x0), (1, .int x1), (2, rv x2), (3, .int x3), (4, .int x4)] [] h Q := by
  unfold bJ6_inflate at hq
  refine x_iload_n 3 dJ6_inflate_0 rfl ?_
  refine x_iload 4 dJ6_inflate_1 rfl ?_
  refine x_aload_n 2 dJ6_inflate_3 rfl ?_
  obtain ⟨g1, g2, hq⟩ := hq
  refine x_callS (Yc := YJ6_checkBoundsOffCount) (as := [.int x3, .int x4, rv x2]) (st := []) q887 msJ6_checkBoundsOffCount rfl dJ6_inflate_4 (xle (xal1 rfl (xal1 rfl (xal1 (rv_cat _) xal0))) (by decide)) (xfr g1) (xlo xsw0 (by decide) g2) (xKv hq (fun h3 hq e5 => ?_) (fun _ _ q _ => q))
  replace hq := hq e5
  refine x_iconst (v := 0) dJ6_inflate_7 (by decide) ?_
  refine x_istore (lv' := [(5, .int 0), (0, rv x0), (1, .int x1), (2, rv x2), (3, .int x3), (4, .int x4)]) dJ6_inflate_8 (by decide) rfl ?_
  refine xP.pick (lv' := [(0, rv x0), (1, .int x1), (2, rv x2), (3, .int x3), (4, .int x4), (5, .int 0)]) [1, 2, 3, 4, 5, 0] rfl ?_
  exact hq
theorem rJ6_inflate {G : xG} {fr lo : Nat} {x0 : Nat} {x1 : Int32} {x2 : Nat} {x3 : Int32} {x4 : Int32} {h : xH} {Q : Outcome → xH → Prop} (hq : bJ6_inflate G fr lo x0 x1 x2 x3 x4 h Q) : xR G YJ6_inflate fr lo [rv x0, .int x1, rv x2, .int x3, .int x4] h Q := by
  show xP _ _ _ _ _ (lv_args 0 _) _ _ _
  rw [show lv_args 0 [rv x0, .int x1, rv x2, .int x3, .int x4] = [(0, rv x0), (1, .int x1), (2, rv x2), (3, .int x3), (4, .int x4)] from (xla1 (rv_cat _) (xla1 rfl (xla1 (rv_cat _) (xla1 rfl (xla1 rfl xla0)))))]
  exact uJ6_inflate hq
set_option maxRecDepth 100000 in
theorem dJ6_checkBoundsOffCount_0 : decode cJ6_checkBoundsOffCount 0 = .ok (.iload_n 0, 1) := by decide +kernel
set_option maxRecDepth 100000 in
theorem dJ6_checkBoundsOffCount_1 : decode cJ6_checkBoundsOffCount 1 = .ok (.iload_n 1, 1) := by decide +kernel
set_option maxRecDepth 100000 in
theorem dJ6_checkBoundsOffCount_2 : decode cJ6_checkBoundsOffCount 2 = .ok (.aload_n 2, 1) := by decide +kernel
set_option maxRecDepth 100000 in
theorem dJ6_checkBoundsOffCount_3 : decode cJ6_checkBoundsOffCount 3 = .ok (.invokestatic 48, 3) := by decide +kernel
set_option maxRecDepth 100000 in
theorem dJ6_checkBoundsOffCount_6 : decode cJ6_checkBoundsOffCount 6 = .ok (.invokestatic 419, 3) := by decide +kernel
set_option maxRecDepth 100000 in
theorem dJ6_checkBoundsOffCount_9 : decode cJ6_checkBoundsOffCount 9 = .ok (.pop, 1) := by decide +kernel
set_option maxRecDepth 100000 in
theorem dJ6_checkBoundsOffCount_10 : decode cJ6_checkBoundsOffCount 10 = .ok (.return_, 1) := by decide +kernel
set_option maxRecDepth 100000 in
def bJ6_checkBoundsOffCount (G : xG) (fr lo : Nat) (x0 : Int32) (x1 : Int32) (x2 : Nat) (h : xH) (Q : Outcome → xH → Prop) : Prop := 1 ≤ fr ∧ 14 ≤ lo ∧ xRi G YJ6_length (fr - 1) (lo - 14) [rv x2] h (fun x4 h3 => xext h h3 → 1 ≤ fr ∧ 14 ≤ lo ∧ xRi G YJ5_checkBoundsOffCount (fr - 1) (lo - 14) [.int x0, .int x1, .int x4] h3 (fun x9 h8 => xext h3 h8 → Q (.returned none) h8) (fun r h2 => Q (.threw r) h2)) (fun r h2 => Q (.threw r) h2)
set_option maxRecDepth 100000 in
theorem uJ6_checkBoundsOffCount {G : xG} {fr lo : Nat} {x0 : Int32} {x1 : Int32} {x2 : Nat} {h : xH} {Q : Outcome → xH → Prop} (hq : bJ6_checkBoundsOffCount G fr lo x0 x1 x2 h Q) : xP G YJ6_checkBoundsOffCount fr lo 0 [(0, .int x0), (1, .int x1), (2, rv x2)] [] h Q := by
  unfold bJ6_checkBoundsOffCount at hq
  refine x_iload_n 0 dJ6_checkBoundsOffCount_0 rfl ?_
  refine x_iload_n 1 dJ6_checkBoundsOffCount_1 rfl ?_
  refine x_aload_n 2 dJ6_checkBoundsOffCount_2 rfl ?_
  obtain ⟨g1, g2, hq⟩ := hq
  refine x_callS (Yc := YJ6_length) (as := [rv x2]) (st := [.int x1, .int x0]) q814 msJ6_length rfl dJ6_checkBoundsOffCount_3 (xle (xal1 (rv_cat _) xal0) (by decide)) (xfr g1) (xlo (xsw1 rfl (xsw1 rfl xsw0)) (by decide) g2) (xKi hq (fun x4 h3 hq e5 => ?_) (fun _ _ q _ => q))
  replace hq := hq e5
  obtain ⟨g6, g7, hq⟩ := hq
  refine x_callS (Yc := YJ5_checkBoundsOffCount) (as := [.int x0, .int x1, .int x4]) (st := []) q890 msJ5_checkBoundsOffCount rfl dJ6_checkBoundsOffCount_6 (xle (xal1 rfl (xal1 rfl (xal1 rfl xal0))) (by decide)) (xfr g6) (xlo xsw0 (by decide) g7) (xKi hq (fun x9 h8 hq e10 => ?_) (fun _ _ q _ => q))
  replace hq := hq e10
  refine x_pop dJ6_checkBoundsOffCount_9 rfl ?_
  exact x_vret rfl dJ6_checkBoundsOffCount_10 hq
theorem rJ6_checkBoundsOffCount {G : xG} {fr lo : Nat} {x0 : Int32} {x1 : Int32} {x2 : Nat} {h : xH} {Q : Outcome → xH → Prop} (hq : bJ6_checkBoundsOffCount G fr lo x0 x1 x2 h Q) : xR G YJ6_checkBoundsOffCount fr lo [.int x0, .int x1, rv x2] h Q := by
  show xP _ _ _ _ _ (lv_args 0 _) _ _ _
  rw [show lv_args 0 [.int x0, .int x1, rv x2] = [(0, .int x0), (1, .int x1), (2, rv x2)] from (xla1 rfl (xla1 rfl (xla1 (rv_cat _) xla0)))]
  exact uJ6_checkBoundsOffCount hq
set_option maxRecDepth 100000 in
theorem dJ6_putChar_0 : decode cJ6_putChar 0 = .ok (.getstatic 44, 3) := by decide +kernel
set_option maxRecDepth 100000 in
theorem dJ6_putChar_3 : decode cJ6_putChar 3 = .ok (.ifCond .ne 25, 3) := by decide +kernel
set_option maxRecDepth 100000 in
theorem dJ6_putChar_6 : decode cJ6_putChar 6 = .ok (.iload_n 1, 1) := by decide +kernel
set_option maxRecDepth 100000 in
theorem dJ6_putChar_7 : decode cJ6_putChar 7 = .ok (.ifCond .lt 11, 3) := by decide +kernel
set_option maxRecDepth 100000 in
theorem dJ6_putChar_10 : decode cJ6_putChar 10 = .ok (.iload_n 1, 1) := by decide +kernel
set_option maxRecDepth 100000 in
theorem dJ6_putChar_11 : decode cJ6_putChar 11 = .ok (.aload_n 0, 1) := by decide +kernel
set_option maxRecDepth 100000 in
theorem dJ6_putChar_12 : decode cJ6_putChar 12 = .ok (.invokestatic 48, 3) := by decide +kernel
set_option maxRecDepth 100000 in
theorem dJ6_putChar_15 : decode cJ6_putChar 15 = .ok (.if_icmp .lt 13, 3) := by decide +kernel
set_option maxRecDepth 100000 in
theorem dJ6_putChar_18 : decode cJ6_putChar 18 = .ok (.new 52, 3) := by decide +kernel
set_option maxRecDepth 100000 in
theorem dJ6_putChar_21 : decode cJ6_putChar 21 = .ok (.dup, 1) := by decide +kernel
set_option maxRecDepth 100000 in
theorem dJ6_putChar_22 : decode cJ6_putChar 22 = .ok (.ldc 54, 2) := by decide +kernel
set_option maxRecDepth 100000 in
theorem dJ6_putChar_24 : decode cJ6_putChar 24 = .ok (.invokespecial 56, 3) := by decide +kernel
set_option maxRecDepth 100000 in
theorem dJ6_putChar_27 : decode cJ6_putChar 27 = .ok (.athrow, 1) := by decide +kernel
set_option maxRecDepth 100000 in
theorem dJ6_putChar_28 : decode cJ6_putChar 28 = .ok (.iload_n 1, 1) := by decide +kernel
set_option maxRecDepth 100000 in
theorem dJ6_putChar_29 : decode cJ6_putChar 29 = .ok (.iconst 1, 1) := by decide +kernel
set_option maxRecDepth 100000 in
theorem dJ6_putChar_30 : decode cJ6_putChar 30 = .ok (.ishl, 1) := by decide +kernel
set_option maxRecDepth 100000 in
theorem dJ6_putChar_31 : decode cJ6_putChar 31 = .ok (.istore_n 1, 1) := by decide +kernel
set_option maxRecDepth 100000 in
theorem dJ6_putChar_32 : decode cJ6_putChar 32 = .ok (.aload_n 0, 1) := by decide +kernel
set_option maxRecDepth 100000 in
theorem dJ6_putChar_33 : decode cJ6_putChar 33 = .ok (.iload_n 1, 1) := by decide +kernel
set_option maxRecDepth 100000 in
theorem dJ6_putChar_34 : decode cJ6_putChar 34 = .ok (.iinc 1 1, 3) := by decide +kernel
set_option maxRecDepth 100000 in
theorem dJ6_putChar_37 : decode cJ6_putChar 37 = .ok (.iload_n 2, 1) := by decide +kernel
set_option maxRecDepth 100000 in
theorem dJ6_putChar_38 : decode cJ6_putChar 38 = .ok (.getstatic 59, 3) := by decide +kernel
set_option maxRecDepth 100000 in
theorem dJ6_putChar_41 : decode cJ6_putChar 41 = .ok (.ishr, 1) := by decide +kernel
set_option maxRecDepth 100000 in
theorem dJ6_putChar_42 : decode cJ6_putChar 42 = .ok (.i2b, 1) := by decide +kernel
set_option maxRecDepth 100000 in
theorem dJ6_putChar_43 : decode cJ6_putChar 43 = .ok (.bastore, 1) := by decide +kernel
set_option maxRecDepth 100000 in
theorem dJ6_putChar_44 : decode cJ6_putChar 44 = .ok (.aload_n 0, 1) := by decide +kernel
set_option maxRecDepth 100000 in
theorem dJ6_putChar_45 : decode cJ6_putChar 45 = .ok (.iload_n 1, 1) := by decide +kernel
set_option maxRecDepth 100000 in
theorem dJ6_putChar_46 : decode cJ6_putChar 46 = .ok (.iload_n 2, 1) := by decide +kernel
set_option maxRecDepth 100000 in
theorem dJ6_putChar_47 : decode cJ6_putChar 47 = .ok (.getstatic 63, 3) := by decide +kernel
set_option maxRecDepth 100000 in
theorem dJ6_putChar_50 : decode cJ6_putChar 50 = .ok (.ishr, 1) := by decide +kernel
set_option maxRecDepth 100000 in
theorem dJ6_putChar_51 : decode cJ6_putChar 51 = .ok (.i2b, 1) := by decide +kernel
set_option maxRecDepth 100000 in
theorem dJ6_putChar_52 : decode cJ6_putChar 52 = .ok (.bastore, 1) := by decide +kernel
set_option maxRecDepth 100000 in
theorem dJ6_putChar_53 : decode cJ6_putChar 53 = .ok (.return_, 1) := by decide +kernel
set_option maxRecDepth 100000 in
def bJ6_putChar_28 (G : xG) (fr lo : Nat) (x0 : Nat) (x1 : Int32) (x2 : Int32) (h : xH) (Q : Outcome → xH → Prop) : Prop := tg h x0 = 103 ∧ xGB G < x0 ∧ vp_in (x1 <<< (1 &&& 31)) (ln h x0) ∧ (∀ h4 : xH, h4 = tI h x0 (Int32.toNatClampNeg (x1 <<< (1 &&& 31))) (vp_nar .byte ((Int32.toInt8 (x2 >>> (0 &&& 31))).toInt32)) → xGB G < x0 ∧ vp_in ((x1 <<< (1 &&& 31)) + 1) (ln h4 x0) ∧ (∀ h9 : xH, h9 = tI h4 x0 (Int32.toNatClampNeg ((x1 <<< (1 &&& 31)) + 1)) (vp_nar .byte ((Int32.toInt8 (x2 >>> (8 &&& 31))).toInt32)) → Q (.returned none) h9))
set_option maxRecDepth 100000 in
theorem uJ6_putChar_28 {G : xG} {fr lo : Nat} {x0 : Nat} {x1 : Int32} {x2 : Int32} {h : xH} {Q : Outcome → xH → Prop} (hq : bJ6_putChar_28 G fr lo x0 x1 x2 h Q) : xP G YJ6_putChar fr lo 28 [(0, rv x0), (1, .int x1), (2, .int x2)] [] h Q := by
  unfold bJ6_putChar_28 at hq
  refine x_iload_n 1 dJ6_putChar_28 rfl ?_
  refine x_iconst (v := 1) dJ6_putChar_29 (by decide) ?_
  refine x_ishl dJ6_putChar_30 ?_
  refine x_istore_n (lv' := [(1, .int (x1 <<< (1 &&& 31))), (0, rv x0), (2, .int x2)]) dJ6_putChar_31 (by decide) (by first | rfl | (simp [rv_cat, Value.category]; done) | (simp [rv_cat, Value.category]; decide)) ?_
  refine x_aload_n 1 dJ6_putChar_32 rfl ?_
  refine x_iload_n 0 dJ6_putChar_33 rfl ?_
  refine x_iinc (lv' := [(1, .int ((x1 <<< (1 &&& 31)) + 1)), (0, rv x0), (2, .int x2)]) 0 dJ6_putChar_34 rfl (by decide) (by first | rfl | (simp [rv_cat, Value.category]; done) | (simp [rv_cat, Value.category]; decide)) ?_
  refine x_iload_n 2 dJ6_putChar_37 rfl ?_
  refine x_gets (v := .int 0) 11 rfl q823 (by simp [xsv]) dJ6_putChar_38 ?_
  refine x_ishr dJ6_putChar_41 ?_
  refine x_i2b dJ6_putChar_42 ?_
  obtain ⟨g1, hq⟩ := hq
  obtain ⟨w2, hq⟩ := hq
  obtain ⟨i3, hq⟩ := hq
  obtain ⟨h4, e5⟩ : ∃ y, y = tI h x0 (Int32.toNatClampNeg (x1 <<< (1 &&& 31))) (vp_nar .byte ((Int32.toInt8 (x2 >>> (0 &&& 31))).toInt32)) := ⟨_, rfl⟩
  replace hq := hq h4 e5
  refine x_bast' g1 (Or.inr w2) i3 dJ6_putChar_43 e5 ?_
  refine x_aload_n 1 dJ6_putChar_44 rfl ?_
  refine x_iload_n 0 dJ6_putChar_45 rfl ?_
  refine x_iload_n 2 dJ6_putChar_46 rfl ?_
  refine x_gets (v := .int 8) 12 rfl q825 (by simp [xsv]) dJ6_putChar_47 ?_
  refine x_ishr dJ6_putChar_50 ?_
  refine x_i2b dJ6_putChar_51 ?_
  have t6 : tg h4 x0 = 103 := by rw [e5]; exact g1
  obtain ⟨w7, hq⟩ := hq
  obtain ⟨i8, hq⟩ := hq
  obtain ⟨h9, e10⟩ : ∃ y, y = tI h4 x0 (Int32.toNatClampNeg ((x1 <<< (1 &&& 31)) + 1)) (vp_nar .byte ((Int32.toInt8 (x2 >>> (8 &&& 31))).toInt32)) := ⟨_, rfl⟩
  replace hq := hq h9 e10
  refine x_bast' t6 (Or.inr w7) i8 dJ6_putChar_52 e10 ?_
  exact x_vret rfl dJ6_putChar_53 hq
set_option maxRecDepth 100000 in
def bJ6_putChar_18 (G : xG) (fr lo : Nat) (h : xH) (Q : Outcome → xH → Prop) : Prop := False
set_option maxRecDepth 100000 in
theorem uJ6_putChar_18 {G : xG} {fr lo : Nat} {h : xH} {Q : Outcome → xH → Prop} (hq : bJ6_putChar_18 G fr lo h Q) : xP G YJ6_putChar fr lo 18 [] [] h Q := by
  unfold bJ6_putChar_18 at hq
  exact hq.elim
set_option maxRecDepth 100000 in
def bJ6_putChar (G : xG) (fr lo : Nat) (x0 : Nat) (x1 : Int32) (x2 : Int32) (h : xH) (Q : Outcome → xH → Prop) : Prop := ((¬ 1 = 0 → bJ6_putChar_28 G fr lo x0 x1 x2 h Q) ∧ (1 = 0 → ((x1 < 0 → bJ6_putChar_18 G fr lo h Q) ∧ (¬ x1 < 0 → 1 ≤ fr ∧ 13 ≤ lo ∧ xRi G YJ6_length (fr - 1) (lo - 13) [rv x0] h (fun x6 h5 => xext h h5 → ((x1 < x6 → bJ6_putChar_28 G fr lo x0 x1 x2 h5 Q) ∧ (¬ x1 < x6 → bJ6_putChar_18 G fr lo h5 Q))) (fun r h2 => Q (.threw r) h2)))))
set_option maxRecDepth 100000 in
theorem uJ6_putChar {G : xG} {fr lo : Nat} {x0 : Nat} {x1 : Int32} {x2 : Int32} {h : xH} {Q : Outcome → xH → Prop} (hq : bJ6_putChar G fr lo x0 x1 x2 h Q) : xP G YJ6_putChar fr lo 0 [(0, rv x0), (1, .int x1), (2, .int x2)] [] h Q := by
  unfold bJ6_putChar at hq
  refine x_gets (v := .int 1) 10 rfl q821 (by simp [xsv]) dJ6_putChar_0 ?_
  refine x_if_ne (tgt := 28) dJ6_putChar_3 (by decide) (fun c1 => ?_) (fun c1 => ?_)
  · replace hq := hq.1 c1
    exact uJ6_putChar_28 hq
  · replace hq := hq.2 c1
    refine x_iload_n 1 dJ6_putChar_6 rfl ?_
    refine x_if_lt (tgt := 18) dJ6_putChar_7 (by decide) (fun c2 => ?_) (fun c2 => ?_)
    · replace hq := hq.1 c2
      refine xP.pick (lv' := []) [] rfl ?_
      exact uJ6_putChar_18 hq
    · replace hq := hq.2 c2
      refine x_iload_n 1 dJ6_putChar_10 rfl ?_
      refine x_aload_n 0 dJ6_putChar_11 rfl ?_
      obtain ⟨g3, g4, hq⟩ := hq
      refine x_callS (Yc := YJ6_length) (as := [rv x0]) (st := [.int x1]) q814 msJ6_length rfl dJ6_putChar_12 (xle (xal1 (rv_cat _) xal0) (by decide)) (xfr g3) (xlo (xsw1 rfl xsw0) (by decide) g4) (xKi hq (fun x6 h5 hq e7 => ?_) (fun _ _ q _ => q))
      replace hq := hq e7
      refine x_icmp_lt (tgt := 28) dJ6_putChar_15 (by decide) (fun c8 => ?_) (fun c8 => ?_)
      · replace hq := hq.1 c8
        exact uJ6_putChar_28 hq
      · replace hq := hq.2 c8
        refine xP.pick (lv' := []) [] rfl ?_
        exact uJ6_putChar_18 hq
theorem rJ6_putChar {G : xG} {fr lo : Nat} {x0 : Nat} {x1 : Int32} {x2 : Int32} {h : xH} {Q : Outcome → xH → Prop} (hq : bJ6_putChar G fr lo x0 x1 x2 h Q) : xR G YJ6_putChar fr lo [rv x0, .int x1, .int x2] h Q := by
  show xP _ _ _ _ _ (lv_args 0 _) _ _ _
  rw [show lv_args 0 [rv x0, .int x1, .int x2] = [(0, rv x0), (1, .int x1), (2, .int x2)] from (xla1 (rv_cat _) (xla1 rfl (xla1 rfl xla0)))]
  exact uJ6_putChar hq
set_option maxRecDepth 100000 in
theorem dJ6_putCharSB_0 : decode cJ6_putCharSB 0 = .ok (.iload_n 1, 1) := by decide +kernel
set_option maxRecDepth 100000 in
theorem dJ6_putCharSB_1 : decode cJ6_putCharSB 1 = .ok (.aload_n 0, 1) := by decide +kernel
set_option maxRecDepth 100000 in
theorem dJ6_putCharSB_2 : decode cJ6_putCharSB 2 = .ok (.invokestatic 67, 3) := by decide +kernel
set_option maxRecDepth 100000 in
theorem dJ6_putCharSB_5 : decode cJ6_putCharSB 5 = .ok (.aload_n 0, 1) := by decide +kernel
set_option maxRecDepth 100000 in
theorem dJ6_putCharSB_6 : decode cJ6_putCharSB 6 = .ok (.iload_n 1, 1) := by decide +kernel
set_option maxRecDepth 100000 in
theorem dJ6_putCharSB_7 : decode cJ6_putCharSB 7 = .ok (.iload_n 2, 1) := by decide +kernel
set_option maxRecDepth 100000 in
theorem dJ6_putCharSB_8 : decode cJ6_putCharSB 8 = .ok (.invokestatic 111, 3) := by decide +kernel
set_option maxRecDepth 100000 in
theorem dJ6_putCharSB_11 : decode cJ6_putCharSB 11 = .ok (.return_, 1) := by decide +kernel
set_option maxRecDepth 100000 in
def bJ6_putCharSB (G : xG) (fr lo : Nat) (x0 : Nat) (x1 : Int32) (x2 : Int32) (h : xH) (Q : Outcome → xH → Prop) : Prop := 1 ≤ fr ∧ 13 ≤ lo ∧ xRv G YJ6_checkIndex (fr - 1) (lo - 13) [.int x1, rv x0] h (fun h3 => xext h h3 → 1 ≤ fr ∧ 14 ≤ lo ∧ xRv G YJ6_putChar (fr - 1) (lo - 14) [rv x0, .int x1, .int x2] h3 (fun h8 => xext h3 h8 → Q (.returned none) h8) (fun r h2 => Q (.threw r) h2)) (fun r h2 => Q (.threw r) h2)
set_option maxRecDepth 100000 in
theorem uJ6_putCharSB {G : xG} {fr lo : Nat} {x0 : Nat} {x1 : Int32} {x2 : Int32} {h : xH} {Q : Outcome → xH → Prop} (hq : bJ6_putCharSB G fr lo x0 x1 x2 h Q) : xP G YJ6_putCharSB fr lo 0 [(0, rv x0), (1, .int x1), (2, .int x2)] [] h Q := by
  unfold bJ6_putCharSB at hq
  refine x_iload_n 1 dJ6_putCharSB_0 rfl ?_
  refine x_aload_n 0 dJ6_putCharSB_1 rfl ?_
  obtain ⟨g1, g2, hq⟩ := hq
  refine x_callS (Yc := YJ6_checkIndex) (as := [.int x1, rv x0]) (st := []) q811 msJ6_checkIndex rfl dJ6_putCharSB_2 (xle (xal1 rfl (xal1 (rv_cat _) xal0)) (by decide)) (xfr g1) (xlo xsw0 (by decide) g2) (xKv hq (fun h3 hq e5 => ?_) (fun _ _ q _ => q))
  replace hq := hq e5
  refine x_aload_n 0 dJ6_putCharSB_5 rfl ?_
  refine x_iload_n 1 dJ6_putCharSB_6 rfl ?_
  refine x_iload_n 2 dJ6_putCharSB_7 rfl ?_
  obtain ⟨g6, g7, hq⟩ := hq
  refine x_callS (Yc := YJ6_putChar) (as := [rv x0, .int x1, .int x2]) (st := []) q896 msJ6_putChar rfl dJ6_putCharSB_8 (xle (xal1 (rv_cat _) (xal1 rfl (xal1 rfl xal0))) (by decide)) (xfr g6) (xlo xsw0 (by decide) g7) (xKv hq (fun h8 hq e10 => ?_) (fun _ _ q _ => q))
  replace hq := hq e10
  exact x_vret rfl dJ6_putCharSB_11 hq
theorem rJ6_putCharSB {G : xG} {fr lo : Nat} {x0 : Nat} {x1 : Int32} {x2 : Int32} {h : xH} {Q : Outcome → xH → Prop} (hq : bJ6_putCharSB G fr lo x0 x1 x2 h Q) : xR G YJ6_putCharSB fr lo [rv x0, .int x1, .int x2] h Q := by
  show xP _ _ _ _ _ (lv_args 0 _) _ _ _
  rw [show lv_args 0 [rv x0, .int x1, .int x2] = [(0, rv x0), (1, .int x1), (2, .int x2)] from (xla1 (rv_cat _) (xla1 rfl (xla1 rfl xla0)))]
  exact uJ6_putCharSB hq
set_option maxRecDepth 100000 in
theorem dJ6_compress_0 : decode cJ6_compress 0 = .ok (.iload_n 2, 1) := by decide +kernel
set_option maxRecDepth 100000 in
theorem dJ6_compress_1 : decode cJ6_compress 1 = .ok (.newarray .byte, 2) := by decide +kernel
set_option maxRecDepth 100000 in
theorem dJ6_compress_3 : decode cJ6_compress 3 = .ok (.astore_n 3, 1) := by decide +kernel
set_option maxRecDepth 100000 in
theorem dJ6_compress_4 : decode cJ6_compress 4 = .ok (.aload_n 0, 1) := by decide +kernel
set_option maxRecDepth 100000 in
theorem dJ6_compress_5 : decode cJ6_compress 5 = .ok (.iload_n 1, 1) := by decide +kernel
set_option maxRecDepth 100000 in
theorem dJ6_compress_6 : decode cJ6_compress 6 = .ok (.aload_n 3, 1) := by decide +kernel
set_option maxRecDepth 100000 in
theorem dJ6_compress_7 : decode cJ6_compress 7 = .ok (.iconst 0, 1) := by decide +kernel
set_option maxRecDepth 100000 in
theorem dJ6_compress_8 : decode cJ6_compress 8 = .ok (.iload_n 2, 1) := by decide +kernel
set_option maxRecDepth 100000 in
theorem dJ6_compress_9 : decode cJ6_compress 9 = .ok (.invokestatic 123, 3) := by decide +kernel
set_option maxRecDepth 100000 in
theorem dJ6_compress_12 : decode cJ6_compress 12 = .ok (.istore 4, 2) := by decide +kernel
set_option maxRecDepth 100000 in
theorem dJ6_compress_14 : decode cJ6_compress 14 = .ok (.iload 4, 2) := by decide +kernel
set_option maxRecDepth 100000 in
theorem dJ6_compress_16 : decode cJ6_compress 16 = .ok (.iload_n 2, 1) := by decide +kernel
set_option maxRecDepth 100000 in
theorem dJ6_compress_17 : decode cJ6_compress 17 = .ok (.if_icmp .eq 47, 3) := by decide +kernel
set_option maxRecDepth 100000 in
theorem dJ6_compress_20 : decode cJ6_compress 20 = .ok (.aload_n 0, 1) := by decide +kernel
set_option maxRecDepth 100000 in
theorem dJ6_compress_21 : decode cJ6_compress 21 = .ok (.iload_n 1, 1) := by decide +kernel
set_option maxRecDepth 100000 in
theorem dJ6_compress_22 : decode cJ6_compress 22 = .ok (.iconst 1, 1) := by decide +kernel
set_option maxRecDepth 100000 in
theorem dJ6_compress_23 : decode cJ6_compress 23 = .ok (.ishl, 1) := by decide +kernel
set_option maxRecDepth 100000 in
theorem dJ6_compress_24 : decode cJ6_compress 24 = .ok (.iload_n 1, 1) := by decide +kernel
set_option maxRecDepth 100000 in
theorem dJ6_compress_25 : decode cJ6_compress 25 = .ok (.iload_n 2, 1) := by decide +kernel
set_option maxRecDepth 100000 in
theorem dJ6_compress_26 : decode cJ6_compress 26 = .ok (.iadd, 1) := by decide +kernel
set_option maxRecDepth 100000 in
theorem dJ6_compress_27 : decode cJ6_compress 27 = .ok (.invokestatic 11, 3) := by decide +kernel
set_option maxRecDepth 100000 in
theorem dJ6_compress_30 : decode cJ6_compress 30 = .ok (.invokestatic 126, 3) := by decide +kernel
set_option maxRecDepth 100000 in
theorem dJ6_compress_33 : decode cJ6_compress 33 = .ok (.astore 5, 2) := by decide +kernel
set_option maxRecDepth 100000 in
theorem dJ6_compress_35 : decode cJ6_compress 35 = .ok (.aload 5, 2) := by decide +kernel
set_option maxRecDepth 100000 in
theorem dJ6_compress_37 : decode cJ6_compress 37 = .ok (.iload 4, 2) := by decide +kernel
set_option maxRecDepth 100000 in
theorem dJ6_compress_39 : decode cJ6_compress 39 = .ok (.invokestatic 71, 3) := by decide +kernel
set_option maxRecDepth 100000 in
theorem dJ6_compress_42 : decode cJ6_compress 42 = .ok (.sipush 255, 3) := by decide +kernel
set_option maxRecDepth 100000 in
theorem dJ6_compress_45 : decode cJ6_compress 45 = .ok (.if_icmp .gt 16, 3) := by decide +kernel
set_option maxRecDepth 100000 in
theorem dJ6_compress_48 : decode cJ6_compress 48 = .ok (.aload 5, 2) := by decide +kernel
set_option maxRecDepth 100000 in
theorem dJ6_compress_50 : decode cJ6_compress 50 = .ok (.iconst 0, 1) := by decide +kernel
set_option maxRecDepth 100000 in
theorem dJ6_compress_51 : decode cJ6_compress 51 = .ok (.aload_n 3, 1) := by decide +kernel
set_option maxRecDepth 100000 in
theorem dJ6_compress_52 : decode cJ6_compress 52 = .ok (.iconst 0, 1) := by decide +kernel
set_option maxRecDepth 100000 in
theorem dJ6_compress_53 : decode cJ6_compress 53 = .ok (.iload_n 2, 1) := by decide +kernel
set_option maxRecDepth 100000 in
theorem dJ6_compress_54 : decode cJ6_compress 54 = .ok (.invokestatic 123, 3) := by decide +kernel
set_option maxRecDepth 100000 in
theorem dJ6_compress_57 : decode cJ6_compress 57 = .ok (.iload_n 2, 1) := by decide +kernel
set_option maxRecDepth 100000 in
theorem dJ6_compress_58 : decode cJ6_compress 58 = .ok (.if_icmp .eq 6, 3) := by decide +kernel
set_option maxRecDepth 100000 in
theorem dJ6_compress_61 : decode cJ6_compress 61 = .ok (.aload 5, 2) := by decide +kernel
set_option maxRecDepth 100000 in
theorem dJ6_compress_63 : decode cJ6_compress 63 = .ok (.areturn, 1) := by decide +kernel
set_option maxRecDepth 100000 in
theorem dJ6_compress_64 : decode cJ6_compress 64 = .ok (.aload_n 3, 1) := by decide +kernel
set_option maxRecDepth 100000 in
theorem dJ6_compress_65 : decode cJ6_compress 65 = .ok (.areturn, 1) := by decide +kernel
set_option maxRecDepth 100000 in
def bJ6_compress_64 (G : xG) (fr lo : Nat) (x3 : Nat) (h : xH) (Q : Outcome → xH → Prop) : Prop := Q (.returned (some (rv x3))) h
set_option maxRecDepth 100000 in
theorem uJ6_compress_64 {G : xG} {fr lo : Nat} {x3 : Nat} {h : xH} {Q : Outcome → xH → Prop} (hq : bJ6_compress_64 G fr lo x3 h Q) : xP G YJ6_compress fr lo 64 [(3, rv x3)] [] h Q := by
  unfold bJ6_compress_64 at hq
  refine x_aload_n 0 dJ6_compress_64 rfl ?_
  exact x_aret rfl xty_A dJ6_compress_65 hq
set_option maxRecDepth 100000 in
def bJ6_compress_61 (G : xG) (fr lo : Nat) (x5 : Nat) (h : xH) (Q : Outcome → xH → Prop) : Prop := Q (.returned (some (rv x5))) h
set_option maxRecDepth 100000 in
theorem uJ6_compress_61 {G : xG} {fr lo : Nat} {x5 : Nat} {h : xH} {Q : Outcome → xH → Prop} (hq : bJ6_compress_61 G fr lo x5 h Q) : xP G YJ6_compress fr lo 61 [(5, rv x5)] [] h Q := by
  unfold bJ6_compress_61 at hq
  refine x_aload 0 dJ6_compress_61 rfl ?_
  exact x_aret rfl xty_A dJ6_compress_63 hq
set_option maxRecDepth 100000 in
def bJ6_compress (G : xG) (fr lo : Nat) (x0 : Nat) (x1 : Int32) (x2 : Int32) (h : xH) (Q : Outcome → xH → Prop) : Prop := ¬ x2 < 0 ∧ Int32.toNatClampNeg x2 ≤ 1000000 ∧ nx h + 1 ≤ xGN G ∧ us h + (Int32.toNatClampNeg x2) ≤ xGU G ∧ (∀ (a5 : Nat) (h6 : xH), a5 = nx h + 1 → h6 = nA h 103 (Int32.toNatClampNeg x2) → xfresh h a5 → 1 ≤ fr ∧ 18 ≤ lo ∧ xRi G YJ6_compress_2 (fr - 1) (lo - 18) [rv x0, .int x1, rv a5, .int 0, .int x2] h6 (fun x14 h13 => xext h6 h13 → ((x14 = x2 → bJ6_compress_64 G fr lo a5 h13 Q) ∧ (¬ x14 = x2 → 1 ≤ fr ∧ 14 ≤ lo ∧ xRi G YJ6_newBytesLength (fr - 1) (lo - 14) [.int (x1 + x2)] h13 (fun x20 h19 => xext h13 h19 → 1 ≤ fr ∧ 14 ≤ lo ∧ xRr G YJ11_copyOfRange (fr - 1) (lo - 14) [rv x0, .int (x1 <<< (1 &&& 31)), .int x20] h19 (fun x25 h24 => xext h19 h24 → 1 ≤ fr ∧ 13 ≤ lo ∧ xRi G YJ6_getChar (fr - 1) (lo - 13) [rv x25, .int x14] h24 (fun x30 h29 => xext h24 h29 → ((255 < x30 → bJ6_compress_61 G fr lo x25 h29 Q) ∧ (¬ 255 < x30 → 1 ≤ fr ∧ 18 ≤ lo ∧ xRi G YJ6_compress_2 (fr - 1) (lo - 18) [rv x25, .int 0, rv a5, .int 0, .int x2] h29 (fun x36 h35 => xext h29 h35 → ((x36 = x2 → bJ6_compress_64 G fr lo a5 h35 Q) ∧ (¬ x36 = x2 → bJ6_compress_61 G fr lo x25 h35 Q))) (fun r h2 => Q (.threw r) h2)))) (fun r h2 => Q (.threw r) h2)) (fun r h2 => Q (.threw r) h2)) (fun r h2 => Q (.threw r) h2)))) (fun r h2 => Q (.threw r) h2))
set_option maxRecDepth 100000 in
theorem uJ6_compress {G : xG} {fr lo : Nat} {x0 : Nat} {x1 : Int32} {x2 : Int32} {h : xH} {Q : Outcome → xH → Prop} (hq : bJ6_compress G fr lo x0 x1 x2 h Q) : xP G YJ6_compress fr lo 0 [(0, rv x0), (1, .int x1), (2, .int x2)] [] h Q := by
  unfold bJ6_compress at hq
  refine x_iload_n 2 dJ6_compress_0 rfl ?_
  obtain ⟨g1, g2, hq⟩ := hq
  obtain ⟨g3, g4, hq⟩ := hq
  obtain ⟨a5, e7⟩ : ∃ y, y = nx h + 1 := ⟨_, rfl⟩
  obtain ⟨h6, e8⟩ : ∃ y, y = nA h 103 (Int32.toNatClampNeg x2) := ⟨_, rfl⟩
  refine x_newa' 3 pk_byte dJ6_compress_1 g1 g2 g3 g4 e7 e8 (fun f9 => ?_)
  replace hq := hq a5 h6 e7 e8 f9
  have t10 : tg h6 a5 = 103 := by rw [e8, e7]; exact tg_nA
  refine x_astore_n (lv' := [(3, rv a5), (0, rv x0), (1, .int x1), (2, .int x2)]) dJ6_compress_3 (by decide) rfl ?_
  refine x_aload_n 1 dJ6_compress_4 rfl ?_
  refine x_iload_n 2 dJ6_compress_5 rfl ?_
  refine x_aload_n 0 dJ6_compress_6 rfl ?_
  refine x_iconst (v := 0) dJ6_compress_7 (by decide) ?_
  refine x_iload_n 3 dJ6_compress_8 rfl ?_
  obtain ⟨g11, g12, hq⟩ := hq
  refine x_callS (Yc := YJ6_compress_2) (as := [rv x0, .int x1, rv a5, .int 0, .int x2]) (st := []) q943 msJ6_compress_2 rfl dJ6_compress_9 (xle (xal1 (rv_cat _) (xal1 rfl (xal1 (rv_cat _) (xal1 rfl (xal1 rfl xal0))))) (by decide)) (xfr g11) (xlo xsw0 (by decide) g12) (xKi hq (fun x14 h13 hq e15 => ?_) (fun _ _ q _ => q))
  replace hq := hq e15
  refine x_istore (lv' := [(4, .int x14), (3, rv a5), (0, rv x0), (1, .int x1), (2, .int x2)]) dJ6_compress_12 (by decide) (by first | rfl | (simp [rv_cat, Value.category]; done) | (simp [rv_cat, Value.category]; decide)) ?_
  refine x_iload 0 dJ6_compress_14 rfl ?_
  refine x_iload_n 4 dJ6_compress_16 rfl ?_
  refine x_icmp_eq (tgt := 64) dJ6_compress_17 (by decide) (fun c16 => ?_) (fun c16 => ?_)
  · replace hq := hq.1 c16
    refine xP.pick (lv' := [(3, rv a5)]) [1] rfl ?_
    exact uJ6_compress_64 hq
  · replace hq := hq.2 c16
    refine x_aload_n 2 dJ6_compress_20 rfl ?_
    refine x_iload_n 3 dJ6_compress_21 rfl ?_
    refine x_iconst (v := 1) dJ6_compress_22 (by decide) ?_
    refine x_ishl dJ6_compress_23 ?_
    refine x_iload_n 3 dJ6_compress_24 rfl ?_
    refine x_iload_n 4 dJ6_compress_25 rfl ?_
    refine x_iadd dJ6_compress_26 ?_
    obtain ⟨g17, g18, hq⟩ := hq
    refine x_callS (Yc := YJ6_newBytesLength) (as := [.int (x1 + x2)]) (st := [.int (x1 <<< (1 &&& 31)), rv x0]) q623 msJ6_newBytesLength rfl dJ6_compress_27 (xle (xal1 rfl xal0) (by decide)) (xfr g17) (xlo (xsw1 rfl (xsw1 (rv_cat _) xsw0)) (by decide) g18) (xKi hq (fun x20 h19 hq e21 => ?_) (fun _ _ q _ => q))
    replace hq := hq e21
    obtain ⟨g22, g23, hq⟩ := hq
    refine x_callS (Yc := YJ11_copyOfRange) (as := [rv x0, .int (x1 <<< (1 &&& 31)), .int x20]) (st := []) q946 msJ11_copyOfRange rfl dJ6_compress_30 (xle (xal1 (rv_cat _) (xal1 rfl (xal1 rfl xal0))) (by decide)) (xfr g22) (xlo xsw0 (by decide) g23) (xKr hq (fun x25 h24 hq e26 => ?_) (fun _ _ q _ => q))
    replace hq := hq e26
    refine x_astore (lv' := [(5, rv x25), (4, .int x14), (3, rv a5), (0, rv x0), (1, .int x1), (2, .int x2)]) dJ6_compress_33 (by decide) rfl ?_
    refine x_aload 0 dJ6_compress_35 rfl ?_
    refine x_iload 1 dJ6_compress_37 rfl ?_
    obtain ⟨g27, g28, hq⟩ := hq
    refine x_callS (Yc := YJ6_getChar) (as := [rv x25, .int x14]) (st := []) q818 msJ6_getChar rfl dJ6_compress_39 (xle (xal1 (rv_cat _) (xal1 rfl xal0)) (by decide)) (xfr g27) (xlo xsw0 (by decide) g28) (xKi hq (fun x30 h29 hq e31 => ?_) (fun _ _ q _ => q))
    replace hq := hq e31
    refine x_sipush (v := 255) dJ6_compress_42 (by decide) ?_
    refine x_icmp_gt (tgt := 61) dJ6_compress_45 (by decide) (fun c32 => ?_) (fun c32 => ?_)
    · replace hq := hq.1 c32
      refine xP.pick (lv' := [(5, rv x25)]) [0] rfl ?_
      exact uJ6_compress_61 hq
    · replace hq := hq.2 c32
      refine x_aload 0 dJ6_compress_48 rfl ?_
      refine x_iconst (v := 0) dJ6_compress_50 (by decide) ?_
      refine x_aload_n 2 dJ6_compress_51 rfl ?_
      refine x_iconst (v := 0) dJ6_compress_52 (by decide) ?_
      refine x_iload_n 5 dJ6_compress_53 rfl ?_
      obtain ⟨g33, g34, hq⟩ := hq
      refine x_callS (Yc := YJ6_compress_2) (as := [rv x25, .int 0, rv a5, .int 0, .int x2]) (st := []) q943 msJ6_compress_2 rfl dJ6_compress_54 (xle (xal1 (rv_cat _) (xal1 rfl (xal1 (rv_cat _) (xal1 rfl (xal1 rfl xal0))))) (by decide)) (xfr g33) (xlo xsw0 (by decide) g34) (xKi hq (fun x36 h35 hq e37 => ?_) (fun _ _ q _ => q))
      replace hq := hq e37
      refine x_iload_n 5 dJ6_compress_57 rfl ?_
      refine x_icmp_eq (tgt := 64) dJ6_compress_58 (by decide) (fun c38 => ?_) (fun c38 => ?_)
      · replace hq := hq.1 c38
        refine xP.pick (lv' := [(3, rv a5)]) [2] rfl ?_
        exact uJ6_compress_64 hq
      · replace hq := hq.2 c38
        refine xP.pick (lv' := [(5, rv x25)]) [0] rfl ?_
        exact uJ6_compress_61 hq
theorem rJ6_compress {G : xG} {fr lo : Nat} {x0 : Nat} {x1 : Int32} {x2 : Int32} {h : xH} {Q : Outcome → xH → Prop} (hq : bJ6_compress G fr lo x0 x1 x2 h Q) : xR G YJ6_compress fr lo [rv x0, .int x1, .int x2] h Q := by
  show xP _ _ _ _ _ (lv_args 0 _) _ _ _
  rw [show lv_args 0 [rv x0, .int x1, .int x2] = [(0, rv x0), (1, .int x1), (2, .int x2)] from (xla1 (rv_cat _) (xla1 rfl (xla1 rfl xla0)))]
  exact uJ6_compress hq
set_option maxRecDepth 100000 in
theorem dJ6_compress_2_0 : decode cJ6_compress_2 0 = .ok (.iload_n 1, 1) := by decide +kernel
set_option maxRecDepth 100000 in
theorem dJ6_compress_2_1 : decode cJ6_compress_2 1 = .ok (.iload 4, 2) := by decide +kernel
set_option maxRecDepth 100000 in
theorem dJ6_compress_2_3 : decode cJ6_compress_2 3 = .ok (.aload_n 0, 1) := by decide +kernel
set_option maxRecDepth 100000 in
theorem dJ6_compress_2_4 : decode cJ6_compress_2 4 = .ok (.invokestatic 173, 3) := by decide +kernel
set_option maxRecDepth 100000 in
theorem dJ6_compress_2_7 : decode cJ6_compress_2 7 = .ok (.iconst 0, 1) := by decide +kernel
set_option maxRecDepth 100000 in
theorem dJ6_compress_2_8 : decode cJ6_compress_2 8 = .ok (.istore 5, 2) := by decide +kernel
set_option maxRecDepth 100000 in
theorem dJ6_compress_2_10 : decode cJ6_compress_2 10 = .ok (.iload 5, 2) := by decide +kernel
set_option maxRecDepth 100000 in
theorem dJ6_compress_2_12 : decode cJ6_compress_2 12 = .ok (.iload 4, 2) := by decide +kernel
set_option maxRecDepth 100000 in
theorem dJ6_compress_2_14 : decode cJ6_compress_2 14 = .ok (.if_icmp .ge 39, 3) := by decide +kernel
set_option maxRecDepth 100000 in
theorem dJ6_compress_2_17 : decode cJ6_compress_2 17 = .ok (.aload_n 0, 1) := by decide +kernel
set_option maxRecDepth 100000 in
theorem dJ6_compress_2_18 : decode cJ6_compress_2 18 = .ok (.iload_n 1, 1) := by decide +kernel
set_option maxRecDepth 100000 in
theorem dJ6_compress_2_19 : decode cJ6_compress_2 19 = .ok (.invokestatic 71, 3) := by decide +kernel
set_option maxRecDepth 100000 in
theorem dJ6_compress_2_22 : decode cJ6_compress_2 22 = .ok (.istore 6, 2) := by decide +kernel
set_option maxRecDepth 100000 in
theorem dJ6_compress_2_24 : decode cJ6_compress_2 24 = .ok (.iload 6, 2) := by decide +kernel
set_option maxRecDepth 100000 in
theorem dJ6_compress_2_26 : decode cJ6_compress_2 26 = .ok (.sipush 255, 3) := by decide +kernel
set_option maxRecDepth 100000 in
theorem dJ6_compress_2_29 : decode cJ6_compress_2 29 = .ok (.if_icmp .le 6, 3) := by decide +kernel
set_option maxRecDepth 100000 in
theorem dJ6_compress_2_32 : decode cJ6_compress_2 32 = .ok (.iload 5, 2) := by decide +kernel
set_option maxRecDepth 100000 in
theorem dJ6_compress_2_34 : decode cJ6_compress_2 34 = .ok (.ireturn, 1) := by decide +kernel
set_option maxRecDepth 100000 in
theorem dJ6_compress_2_35 : decode cJ6_compress_2 35 = .ok (.aload_n 2, 1) := by decide +kernel
set_option maxRecDepth 100000 in
theorem dJ6_compress_2_36 : decode cJ6_compress_2 36 = .ok (.iload_n 3, 1) := by decide +kernel
set_option maxRecDepth 100000 in
theorem dJ6_compress_2_37 : decode cJ6_compress_2 37 = .ok (.iload 6, 2) := by decide +kernel
set_option maxRecDepth 100000 in
theorem dJ6_compress_2_39 : decode cJ6_compress_2 39 = .ok (.i2b, 1) := by decide +kernel
set_option maxRecDepth 100000 in
theorem dJ6_compress_2_40 : decode cJ6_compress_2 40 = .ok (.bastore, 1) := by decide +kernel
set_option maxRecDepth 100000 in
theorem dJ6_compress_2_41 : decode cJ6_compress_2 41 = .ok (.iinc 1 1, 3) := by decide +kernel
set_option maxRecDepth 100000 in
theorem dJ6_compress_2_44 : decode cJ6_compress_2 44 = .ok (.iinc 3 1, 3) := by decide +kernel
set_option maxRecDepth 100000 in
theorem dJ6_compress_2_47 : decode cJ6_compress_2 47 = .ok (.iinc 5 1, 3) := by decide +kernel
set_option maxRecDepth 100000 in
theorem dJ6_compress_2_50 : decode cJ6_compress_2 50 = .ok (.goto (-40), 3) := by decide +kernel
set_option maxRecDepth 100000 in
theorem dJ6_compress_2_53 : decode cJ6_compress_2 53 = .ok (.iload 4, 2) := by decide +kernel
set_option maxRecDepth 100000 in
theorem dJ6_compress_2_55 : decode cJ6_compress_2 55 = .ok (.ireturn, 1) := by decide +kernel
def lJ6_compress_2_10 (G : xG) (fr lo : Nat) (x0 : Nat) (x1 : Int32) (x2 : Nat) (x3 : Int32) (x4 : Int32) (x5 : Int32) (h : xH) (Q : Outcome → xH → Prop) : Prop := xP G YJ6_compress_2 fr lo 10 [(0, rv x0), (1, .int x1), (2, rv x2), (3, .int x3), (4, .int x4), (5, .int x5)] [] h Q
set_option maxRecDepth 100000 in
def bJ6_compress_2_10 (G : xG) (fr lo : Nat) (x0 : Nat) (x1 : Int32) (x2 : Nat) (x3 : Int32) (x4 : Int32) (x5 : Int32) (h : xH) (Q : Outcome → xH → Prop) : Prop := ((x4 ≤ x5 → Q (.returned (some (.int x4))) h) ∧ (¬ x4 ≤ x5 → 1 ≤ fr ∧ 13 ≤ lo ∧ xRi G YJ6_getChar (fr - 1) (lo - 13) [rv x0, .int x1] h (fun x5 h4 => xext h h4 → ((x5 ≤ 255 → tg h4 x2 = 103 ∧ xGB G < x2 ∧ vp_in x3 (ln h4 x2) ∧ (∀ h11 : xH, h11 = tI h4 x2 (Int32.toNatClampNeg x3) (vp_nar .byte ((Int32.toInt8 x5).toInt32)) → lJ6_compress_2_10 G fr lo x0 (x1 + 1) x2 (x3 + 1) x4 (x5 + 1) h11 Q)) ∧ (¬ x5 ≤ 255 → Q (.returned (some (.int x5))) h4))) (fun r h2 => Q (.threw r) h2)))
set_option maxRecDepth 100000 in
theorem uJ6_compress_2_10 {G : xG} {fr lo : Nat} {x0 : Nat} {x1 : Int32} {x2 : Nat} {x3 : Int32} {x4 : Int32} {x5 : Int32} {h : xH} {Q : Outcome → xH → Prop} (hq : bJ6_compress_2_10 G fr lo x0 x1 x2 x3 x4 x5 h Q) : xP G YJ6_compress_2 fr lo 10 [(0, rv x0), (1, .int x1), (2, rv x2), (3, .int x3), (4, .int x4), (5, .int x5)] [] h Q := by
  unfold bJ6_compress_2_10 at hq
  refine x_iload 5 dJ6_compress_2_10 rfl ?_
  refine x_iload 4 dJ6_compress_2_12 rfl ?_
  refine x_icmp_ge (tgt := 53) dJ6_compress_2_14 (by decide) (fun c1 => ?_) (fun c1 => ?_)
  · replace hq := hq.1 c1
    refine x_iload 4 dJ6_compress_2_53 rfl ?_
    exact x_iret rfl rfl dJ6_compress_2_55 hq
  · replace hq := hq.2 c1
    refine x_aload_n 0 dJ6_compress_2_17 rfl ?_
    refine x_iload_n 1 dJ6_compress_2_18 rfl ?_
    obtain ⟨g2, g3, hq⟩ := hq
    refine x_callS (Yc := YJ6_getChar) (as := [rv x0, .int x1]) (st := []) q818 msJ6_getChar rfl dJ6_compress_2_19 (xle (xal1 (rv_cat _) (xal1 rfl xal0)) (by decide)) (xfr g2) (xlo xsw0 (by decide) g3) (xKi hq (fun x5 h4 hq e6 => ?_) (fun _ _ q _ => q))
    replace hq := hq e6
    refine x_istore (lv' := [(6, .int x5), (0, rv x0), (1, .int x1), (2, rv x2), (3, .int x3), (4, .int x4), (5, .int x5)]) dJ6_compress_2_22 (by decide) rfl ?_
    refine x_iload 0 dJ6_compress_2_24 rfl ?_
    refine x_sipush (v := 255) dJ6_compress_2_26 (by decide) ?_
    refine x_icmp_le (tgt := 35) dJ6_compress_2_29 (by decide) (fun c7 => ?_) (fun c7 => ?_)
    · replace hq := hq.1 c7
      refine x_aload_n 3 dJ6_compress_2_35 rfl ?_
      refine x_iload_n 4 dJ6_compress_2_36 rfl ?_
      refine x_iload 0 dJ6_compress_2_37 rfl ?_
      refine x_i2b dJ6_compress_2_39 ?_
      obtain ⟨g8, hq⟩ := hq
      obtain ⟨w9, hq⟩ := hq
      obtain ⟨i10, hq⟩ := hq
      obtain ⟨h11, e12⟩ : ∃ y, y = tI h4 x2 (Int32.toNatClampNeg x3) (vp_nar .byte ((Int32.toInt8 x5).toInt32)) := ⟨_, rfl⟩
      replace hq := hq h11 e12
      refine x_bast' g8 (Or.inr w9) i10 dJ6_compress_2_40 e12 ?_
      refine x_iinc (lv' := [(1, .int (x1 + 1)), (6, .int x5), (0, rv x0), (2, rv x2), (3, .int x3), (4, .int x4), (5, .int x5)]) 2 dJ6_compress_2_41 rfl (by decide) (by first | rfl | (simp [rv_cat, Value.category]; done) | (simp [rv_cat, Value.category]; decide)) ?_
      refine x_iinc (lv' := [(3, .int (x3 + 1)), (1, .int (x1 + 1)), (6, .int x5), (0, rv x0), (2, rv x2), (4, .int x4), (5, .int x5)]) 4 dJ6_compress_2_44 rfl (by decide) (by first | rfl | (simp [rv_cat, Value.category]; done) | (simp [rv_cat, Value.category]; decide)) ?_
      refine x_iinc (lv' := [(5, .int (x5 + 1)), (3, .int (x3 + 1)), (1, .int (x1 + 1)), (6, .int x5), (0, rv x0), (2, rv x2), (4, .int x4)]) 6 dJ6_compress_2_47 rfl (by decide) rfl ?_
      refine x_goto (tgt := 10) dJ6_compress_2_50 (by decide) ?_
      refine xP.pick (lv' := [(0, rv x0), (1, .int (x1 + 1)), (2, rv x2), (3, .int (x3 + 1)), (4, .int x4), (5, .int (x5 + 1))]) [4, 2, 5, 1, 6, 0] rfl ?_
      exact hq
    · replace hq := hq.2 c7
      refine x_iload 6 dJ6_compress_2_32 rfl ?_
      exact x_iret rfl rfl dJ6_compress_2_34 hq
set_option maxRecDepth 100000 in
def bJ6_compress_2 (G : xG) (fr lo : Nat) (x0 : Nat) (x1 : Int32) (x2 : Nat) (x3 : Int32) (x4 : Int32) (h : xH) (Q : Outcome → xH → Prop) : Prop := 1 ≤ fr ∧ 14 ≤ lo ∧ xRv G YJ6_checkBoundsOffCount (fr - 1) (lo - 14) [.int x1, .int x4, rv x0] h (fun h3 => xext h h3 → lJ6_compress_2_10 G fr lo x0 x1 x2 x3 x4 0 h3 Q) (fun r h2 => Q (.threw r) h2)
set_option maxRecDepth 100000 in
theorem uJ6_compress_2 {G : xG} {fr lo : Nat} {x0 : Nat} {x1 : Int32} {x2 : Nat} {x3 : Int32} {x4 : Int32} {h : xH} {Q : Outcome → xH → Prop} (hq : bJ6_compress_2 G fr lo x0 x1 x2 x3 x4 h Q) : xP G YJ6_compress_2 fr lo 0 [(0, rv x0), (1, .int x1), (2, rv x2), (3, .int x3), (4, .int x4)] [] h Q := by
  unfold bJ6_compress_2 at hq
  refine x_iload_n 1 dJ6_compress_2_0 rfl ?_
  refine x_iload 4 dJ6_compress_2_1 rfl ?_
  refine x_aload_n 0 dJ6_compress_2_3 rfl ?_
  obtain ⟨g1, g2, hq⟩ := hq
  refine x_callS (Yc := YJ6_checkBoundsOffCount) (as := [.int x1, .int x4, rv x0]) (st := []) q887 msJ6_checkBoundsOffCount rfl dJ6_compress_2_4 (xle (xal1 rfl (xal1 rfl (xal1 (rv_cat _) xal0))) (by decide)) (xfr g1) (xlo xsw0 (by decide) g2) (xKv hq (fun h3 hq e5 => ?_) (fun _ _ q _ => q))
  replace hq := hq e5
  refine x_iconst (v := 0) dJ6_compress_2_7 (by decide) ?_
  refine x_istore (lv' := [(5, .int 0), (0, rv x0), (1, .int x1), (2, rv x2), (3, .int x3), (4, .int x4)]) dJ6_compress_2_8 (by decide) rfl ?_
  refine xP.pick (lv' := [(0, rv x0), (1, .int x1), (2, rv x2), (3, .int x3), (4, .int x4), (5, .int 0)]) [1, 2, 3, 4, 5, 0] rfl ?_
  exact hq
theorem rJ6_compress_2 {G : xG} {fr lo : Nat} {x0 : Nat} {x1 : Int32} {x2 : Nat} {x3 : Int32} {x4 : Int32} {h : xH} {Q : Outcome → xH → Prop} (hq : bJ6_compress_2 G fr lo x0 x1 x2 x3 x4 h Q) : xR G YJ6_compress_2 fr lo [rv x0, .int x1, rv x2, .int x3, .int x4] h Q := by
  show xP _ _ _ _ _ (lv_args 0 _) _ _ _
  rw [show lv_args 0 [rv x0, .int x1, rv x2, .int x3, .int x4] = [(0, rv x0), (1, .int x1), (2, rv x2), (3, .int x3), (4, .int x4)] from (xla1 (rv_cat _) (xla1 rfl (xla1 (rv_cat _) (xla1 rfl (xla1 rfl xla0)))))]
  exact uJ6_compress_2 hq
set_option maxRecDepth 100000 in
theorem dJ6_coderFromArrayLen_0 : decode cJ6_coderFromArrayLen 0 = .ok (.iload_n 1, 1) := by decide +kernel
set_option maxRecDepth 100000 in
theorem dJ6_coderFromArrayLen_1 : decode cJ6_coderFromArrayLen 1 = .ok (.aload_n 0, 1) := by decide +kernel
set_option maxRecDepth 100000 in
theorem dJ6_coderFromArrayLen_2 : decode cJ6_coderFromArrayLen 2 = .ok (.arraylength, 1) := by decide +kernel
set_option maxRecDepth 100000 in
theorem dJ6_coderFromArrayLen_3 : decode cJ6_coderFromArrayLen 3 = .ok (.isub, 1) := by decide +kernel
set_option maxRecDepth 100000 in
theorem dJ6_coderFromArrayLen_4 : decode cJ6_coderFromArrayLen 4 = .ok (.bipush 31, 2) := by decide +kernel
set_option maxRecDepth 100000 in
theorem dJ6_coderFromArrayLen_6 : decode cJ6_coderFromArrayLen 6 = .ok (.iushr, 1) := by decide +kernel
set_option maxRecDepth 100000 in
theorem dJ6_coderFromArrayLen_7 : decode cJ6_coderFromArrayLen 7 = .ok (.i2b, 1) := by decide +kernel
set_option maxRecDepth 100000 in
theorem dJ6_coderFromArrayLen_8 : decode cJ6_coderFromArrayLen 8 = .ok (.ireturn, 1) := by decide +kernel
set_option maxRecDepth 100000 in
def bJ6_coderFromArrayLen (G : xG) (fr lo : Nat) (x0 : Nat) (x1 : Int32) (h : xH) (Q : Outcome → xH → Prop) : Prop := tg h x0 = 103 ∧ narrow (.byte) (.int ((Int32.toInt8 ((Int32.toUInt32 (x1 - (Int32.ofNat (ln h x0))) >>> (Int32.toUInt32 31 &&& Int32.toUInt32 31)).toInt32)).toInt32)) = .int ((Int32.toInt8 ((Int32.toUInt32 (x1 - (Int32.ofNat (ln h x0))) >>> (Int32.toUInt32 31 &&& Int32.toUInt32 31)).toInt32)).toInt32) ∧ Q (.returned (some (.int ((Int32.toInt8 ((Int32.toUInt32 (x1 - (Int32.ofNat (ln h x0))) >>> (Int32.toUInt32 31 &&& Int32.toUInt32 31)).toInt32)).toInt32)))) h
set_option maxRecDepth 100000 in
theorem uJ6_coderFromArrayLen {G : xG} {fr lo : Nat} {x0 : Nat} {x1 : Int32} {h : xH} {Q : Outcome → xH → Prop} (hq : bJ6_coderFromArrayLen G fr lo x0 x1 h Q) : xP G YJ6_coderFromArrayLen fr lo 0 [(0, rv x0), (1, .int x1)] [] h Q := by
  unfold bJ6_coderFromArrayLen at hq
  refine x_iload_n 1 dJ6_coderFromArrayLen_0 rfl ?_
  refine x_aload_n 0 dJ6_coderFromArrayLen_1 rfl ?_
  obtain ⟨g1, hq⟩ := hq
  refine x_alen 3 g1 (by decide) dJ6_coderFromArrayLen_2 ?_
  refine x_isub dJ6_coderFromArrayLen_3 ?_
  refine x_bipush (v := 31) dJ6_coderFromArrayLen_4 (by decide) ?_
  refine x_iushr dJ6_coderFromArrayLen_6 ?_
  refine x_i2b dJ6_coderFromArrayLen_7 ?_
  obtain ⟨g2, hq⟩ := hq
  exact x_iret rfl g2 dJ6_coderFromArrayLen_8 hq
theorem rJ6_coderFromArrayLen {G : xG} {fr lo : Nat} {x0 : Nat} {x1 : Int32} {h : xH} {Q : Outcome → xH → Prop} (hq : bJ6_coderFromArrayLen G fr lo x0 x1 h Q) : xR G YJ6_coderFromArrayLen fr lo [rv x0, .int x1] h Q := by
  show xP _ _ _ _ _ (lv_args 0 _) _ _ _
  rw [show lv_args 0 [rv x0, .int x1] = [(0, rv x0), (1, .int x1)] from (xla1 (rv_cat _) (xla1 rfl xla0))]
  exact uJ6_coderFromArrayLen hq
set_option maxRecDepth 100000 in
theorem dJ6_fillNull_0 : decode cJ6_fillNull 0 = .ok (.aload_n 0, 1) := by decide +kernel
set_option maxRecDepth 100000 in
theorem dJ6_fillNull_1 : decode cJ6_fillNull 1 = .ok (.iload_n 1, 1) := by decide +kernel
set_option maxRecDepth 100000 in
theorem dJ6_fillNull_2 : decode cJ6_fillNull 2 = .ok (.iconst 1, 1) := by decide +kernel
set_option maxRecDepth 100000 in
theorem dJ6_fillNull_3 : decode cJ6_fillNull 3 = .ok (.ishl, 1) := by decide +kernel
set_option maxRecDepth 100000 in
theorem dJ6_fillNull_4 : decode cJ6_fillNull 4 = .ok (.iload_n 2, 1) := by decide +kernel
set_option maxRecDepth 100000 in
theorem dJ6_fillNull_5 : decode cJ6_fillNull 5 = .ok (.iconst 1, 1) := by decide +kernel
set_option maxRecDepth 100000 in
theorem dJ6_fillNull_6 : decode cJ6_fillNull 6 = .ok (.ishl, 1) := by decide +kernel
set_option maxRecDepth 100000 in
theorem dJ6_fillNull_7 : decode cJ6_fillNull 7 = .ok (.iconst 0, 1) := by decide +kernel
set_option maxRecDepth 100000 in
theorem dJ6_fillNull_8 : decode cJ6_fillNull 8 = .ok (.invokestatic 380, 3) := by decide +kernel
set_option maxRecDepth 100000 in
theorem dJ6_fillNull_11 : decode cJ6_fillNull 11 = .ok (.return_, 1) := by decide +kernel
set_option maxRecDepth 100000 in
def bJ6_fillNull (G : xG) (fr lo : Nat) (x0 : Nat) (x1 : Int32) (x2 : Int32) (h : xH) (Q : Outcome → xH → Prop) : Prop := 1 ≤ fr ∧ 16 ≤ lo ∧ xRv G YJ11_fill (fr - 1) (lo - 16) [rv x0, .int (x1 <<< (1 &&& 31)), .int (x2 <<< (1 &&& 31)), .int 0] h (fun h3 => xext h h3 → Q (.returned none) h3) (fun r h2 => Q (.threw r) h2)
set_option maxRecDepth 100000 in
theorem uJ6_fillNull {G : xG} {fr lo : Nat} {x0 : Nat} {x1 : Int32} {x2 : Int32} {h : xH} {Q : Outcome → xH → Prop} (hq : bJ6_fillNull G fr lo x0 x1 x2 h Q) : xP G YJ6_fillNull fr lo 0 [(0, rv x0), (1, .int x1), (2, .int x2)] [] h Q := by
  unfold bJ6_fillNull at hq
  refine x_aload_n 0 dJ6_fillNull_0 rfl ?_
  refine x_iload_n 1 dJ6_fillNull_1 rfl ?_
  refine x_iconst (v := 1) dJ6_fillNull_2 (by decide) ?_
  refine x_ishl dJ6_fillNull_3 ?_
  refine x_iload_n 2 dJ6_fillNull_4 rfl ?_
  refine x_iconst (v := 1) dJ6_fillNull_5 (by decide) ?_
  refine x_ishl dJ6_fillNull_6 ?_
  refine x_iconst (v := 0) dJ6_fillNull_7 (by decide) ?_
  obtain ⟨g1, g2, hq⟩ := hq
  refine x_callS (Yc := YJ11_fill) (as := [rv x0, .int (x1 <<< (1 &&& 31)), .int (x2 <<< (1 &&& 31)), .int 0]) (st := []) q1093 msJ11_fill rfl dJ6_fillNull_8 (xle (xal1 (rv_cat _) (xal1 rfl (xal1 rfl (xal1 rfl xal0)))) (by decide)) (xfr g1) (xlo xsw0 (by decide) g2) (xKv hq (fun h3 hq e5 => ?_) (fun _ _ q _ => q))
  replace hq := hq e5
  exact x_vret rfl dJ6_fillNull_11 hq
theorem rJ6_fillNull {G : xG} {fr lo : Nat} {x0 : Nat} {x1 : Int32} {x2 : Int32} {h : xH} {Q : Outcome → xH → Prop} (hq : bJ6_fillNull G fr lo x0 x1 x2 h Q) : xR G YJ6_fillNull fr lo [rv x0, .int x1, .int x2] h Q := by
  show xP _ _ _ _ _ (lv_args 0 _) _ _ _
  rw [show lv_args 0 [rv x0, .int x1, .int x2] = [(0, rv x0), (1, .int x1), (2, .int x2)] from (xla1 (rv_cat _) (xla1 rfl (xla1 rfl xla0)))]
  exact uJ6_fillNull hq
