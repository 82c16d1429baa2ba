/-! java/lang/String, walked (1) -/
set_option maxRecDepth 100000 in
theorem dJ5_length_0 : decode cJ5_length 0 = .ok (.aload_n 0, 1) := by decide +kernel
set_option maxRecDepth 100000 in
theorem dJ5_length_1 : decode cJ5_length 1 = .ok (.getfield 9, 3) := by decide +kernel
set_option maxRecDepth 100000 in
theorem dJ5_length_4 : decode cJ5_length 4 = .ok (.arraylength, 1) := by decide +kernel
set_option maxRecDepth 100000 in
theorem dJ5_length_5 : decode cJ5_length 5 = .ok (.aload_n 0, 1) := by decide +kernel
set_option maxRecDepth 100000 in
theorem dJ5_length_6 : decode cJ5_length 6 = .ok (.invokevirtual 335, 3) := by decide +kernel
set_option maxRecDepth 100000 in
theorem dJ5_length_9 : decode cJ5_length 9 = .ok (.ishr, 1) := by decide +kernel
set_option maxRecDepth 100000 in
theorem dJ5_length_10 : decode cJ5_length 10 = .ok (.ireturn, 1) := by decide +kernel
set_option maxRecDepth 100000 in
def bJ5_length (G : xG) (fr lo : Nat) (x0 : Nat) (h : xH) (Q : Outcome → xH → Prop) : Prop := tg h x0 = 31 ∧ tg h (fR h x0 7680) = 103 ∧ 1 ≤ fr ∧ 13 ≤ lo ∧ xRi G YJ5_coder (fr - 1) (lo - 13) [rv x0] h (fun x6 h5 => xext h h5 → Q (.returned (some (.int ((Int32.ofNat (ln h (fR h x0 7680))) >>> (x6 &&& 31))))) h5) (fun r h2 => Q (.threw r) h2)
set_option maxRecDepth 100000 in
theorem uJ5_length {G : xG} {fr lo : Nat} {x0 : Nat} {h : xH} {Q : Outcome → xH → Prop} (hq : bJ5_length G fr lo x0 h Q) : xP G YJ5_length fr lo 0 [(0, rv x0)] [] h Q := by
  unfold bJ5_length at hq
  refine x_aload_n 0 dJ5_length_0 rfl ?_
  obtain ⟨g1, hq⟩ := hq
  refine x_get (v := rv (fR h x0 7680)) fdJ5_9 dJ5_length_1 g1 rfl ?_
  obtain ⟨g2, hq⟩ := hq
  refine x_alen 3 g2 (by decide) dJ5_length_4 ?_
  refine x_aload_n 0 dJ5_length_5 rfl ?_
  obtain ⟨g3, g4, hq⟩ := hq
  refine x_callV (Yc := YJ5_coder) (as := []) (st := [.int (Int32.ofNat (ln h (fR h x0 7680)))]) q784 mvJ5_coder g1 rfl dJ5_length_6 (xle (xal1 (rv_cat _) xal0) (by decide)) (xfr g3) (xlo (xsw1 rfl xsw0) (by decide) g4) (xKi hq (fun x6 h5 hq e7 => ?_) (fun _ _ q _ => q))
  replace hq := hq e7
  refine x_ishr dJ5_length_9 ?_
  exact x_iret rfl rfl dJ5_length_10 hq
theorem rJ5_length {G : xG} {fr lo : Nat} {x0 : Nat} {h : xH} {Q : Outcome → xH → Prop} (hq : bJ5_length G fr lo x0 h Q) : xR G YJ5_length fr lo [rv x0] h Q := by
  show xP _ _ _ _ _ (lv_args 0 _) _ _ _
  rw [show lv_args 0 [rv x0] = [(0, rv x0)] from (xla1 (rv_cat _) xla0)]
  exact uJ5_length hq
set_option maxRecDepth 100000 in
theorem dJ5_coder_0 : decode cJ5_coder 0 = .ok (.getstatic 38, 3) := by decide +kernel
set_option maxRecDepth 100000 in
theorem dJ5_coder_3 : decode cJ5_coder 3 = .ok (.ifCond .eq 10, 3) := by decide +kernel
set_option maxRecDepth 100000 in
theorem dJ5_coder_6 : decode cJ5_coder 6 = .ok (.aload_n 0, 1) := by decide +kernel
set_option maxRecDepth 100000 in
theorem dJ5_coder_7 : decode cJ5_coder 7 = .ok (.getfield 15, 3) := by decide +kernel
set_option maxRecDepth 100000 in
theorem dJ5_coder_10 : decode cJ5_coder 10 = .ok (.goto 4, 3) := by decide +kernel
set_option maxRecDepth 100000 in
theorem dJ5_coder_13 : decode cJ5_coder 13 = .ok (.iconst 1, 1) := by decide +kernel
set_option maxRecDepth 100000 in
theorem dJ5_coder_14 : decode cJ5_coder 14 = .ok (.ireturn, 1) := by decide +kernel
set_option maxRecDepth 100000 in
def bJ5_coder_14 (G : xG) (fr lo : Nat) (s0 : Int32) (h : xH) (Q : Outcome → xH → Prop) : Prop := narrow (.byte) (.int s0) = .int s0 ∧ Q (.returned (some (.int s0))) h
set_option maxRecDepth 100000 in
theorem uJ5_coder_14 {G : xG} {fr lo : Nat} {s0 : Int32} {h : xH} {Q : Outcome → xH → Prop} (hq : bJ5_coder_14 G fr lo s0 h Q) : xP G YJ5_coder fr lo 14 [] [.int s0] h Q := by
  unfold bJ5_coder_14 at hq
  obtain ⟨g1, hq⟩ := hq
  exact x_iret rfl g1 dJ5_coder_14 hq
set_option maxRecDepth 100000 in
def bJ5_coder (G : xG) (fr lo : Nat) (x0 : Nat) (h : xH) (Q : Outcome → xH → Prop) : Prop := ((1 = 0 → bJ5_coder_14 G fr lo 1 h Q) ∧ (¬ 1 = 0 → tg h x0 = 31 ∧ bJ5_coder_14 G fr lo (fI h x0 7681) h Q))
set_option maxRecDepth 100000 in
theorem uJ5_coder {G : xG} {fr lo : Nat} {x0 : Nat} {h : xH} {Q : Outcome → xH → Prop} (hq : bJ5_coder G fr lo x0 h Q) : xP G YJ5_coder fr lo 0 [(0, rv x0)] [] h Q := by
  unfold bJ5_coder at hq
  refine x_gets (v := .int 1) 9 rfl q788 (by simp [xsv]) dJ5_coder_0 ?_
  refine x_if_eq (tgt := 13) dJ5_coder_3 (by decide) (fun c1 => ?_) (fun c1 => ?_)
  · replace hq := hq.1 c1
    refine x_iconst (v := 1) dJ5_coder_13 (by decide) ?_
    refine xP.pick (lv' := []) [] rfl ?_
    exact uJ5_coder_14 hq
  · replace hq := hq.2 c1
    refine x_aload_n 0 dJ5_coder_6 rfl ?_
    obtain ⟨g2, hq⟩ := hq
    refine x_get (v := .int (fI h x0 7681)) fdJ5_15 dJ5_coder_7 g2 rfl ?_
    refine x_goto (tgt := 14) dJ5_coder_10 (by decide) ?_
    refine xP.pick (lv' := []) [] rfl ?_
    exact uJ5_coder_14 hq
theorem rJ5_coder {G : xG} {fr lo : Nat} {x0 : Nat} {h : xH} {Q : Outcome → xH → Prop} (hq : bJ5_coder G fr lo x0 h Q) : xR G YJ5_coder fr lo [rv x0] h Q := by
  show xP _ _ _ _ _ (lv_args 0 _) _ _ _
  rw [show lv_args 0 [rv x0] = [(0, rv x0)] from (xla1 (rv_cat _) xla0)]
  exact uJ5_coder hq
set_option maxRecDepth 100000 in
theorem dJ5_charAt_0 : decode cJ5_charAt 0 = .ok (.aload_n 0, 1) := by decide +kernel
set_option maxRecDepth 100000 in
theorem dJ5_charAt_1 : decode cJ5_charAt 1 = .ok (.invokevirtual 492, 3) := by decide +kernel
set_option maxRecDepth 100000 in
theorem dJ5_charAt_4 : decode cJ5_charAt 4 = .ok (.ifCond .eq 12, 3) := by decide +kernel
set_option maxRecDepth 100000 in
theorem dJ5_charAt_7 : decode cJ5_charAt 7 = .ok (.aload_n 0, 1) := by decide +kernel
set_option maxRecDepth 100000 in
theorem dJ5_charAt_8 : decode cJ5_charAt 8 = .ok (.getfield 9, 3) := by decide +kernel
set_option maxRecDepth 100000 in
theorem dJ5_charAt_11 : decode cJ5_charAt 11 = .ok (.iload_n 1, 1) := by decide +kernel
set_option maxRecDepth 100000 in
theorem dJ5_charAt_12 : decode cJ5_charAt 12 = .ok (.invokestatic 495, 3) := by decide +kernel
set_option maxRecDepth 100000 in
theorem dJ5_charAt_15 : decode cJ5_charAt 15 = .ok (.ireturn, 1) := by decide +kernel
set_option maxRecDepth 100000 in
theorem dJ5_charAt_16 : decode cJ5_charAt 16 = .ok (.aload_n 0, 1) := by decide +kernel
set_option maxRecDepth 100000 in
theorem dJ5_charAt_17 : decode cJ5_charAt 17 = .ok (.getfield 9, 3) := by decide +kernel
set_option maxRecDepth 100000 in
theorem dJ5_charAt_20 : decode cJ5_charAt 20 = .ok (.iload_n 1, 1) := by decide +kernel
set_option maxRecDepth 100000 in
theorem dJ5_charAt_21 : decode cJ5_charAt 21 = .ok (.invokestatic 498, 3) := by decide +kernel
set_option maxRecDepth 100000 in
theorem dJ5_charAt_24 : decode cJ5_charAt 24 = .ok (.ireturn, 1) := by decide +kernel
set_option maxRecDepth 100000 in
def bJ5_charAt (G : xG) (fr lo : Nat) (x0 : Nat) (x1 : Int32) (h : xH) (Q : Outcome → xH → Prop) : Prop := tg h x0 = 31 ∧ 1 ≤ fr ∧ 12 ≤ lo ∧ xRi G YJ5_isLatin1 (fr - 1) (lo - 12) [rv x0] h (fun x5 h4 => xext h h4 → ((x5 = 0 → 1 ≤ fr ∧ 13 ≤ lo ∧ xRi G YJ6_charAt (fr - 1) (lo - 13) [rv (fR h4 x0 7680), .int x1] h4 (fun x12 h11 => xext h4 h11 → narrow (.char) (.int x12) = .int x12 ∧ Q (.returned (some (.int x12))) h11) (fun r h2 => Q (.threw r) h2)) ∧ (¬ x5 = 0 → 1 ≤ fr ∧ 13 ≤ lo ∧ xRi G YJ7_charAt (fr - 1) (lo - 13) [rv (fR h4 x0 7680), .int x1] h4 (fun x19 h18 => xext h4 h18 → narrow (.char) (.int x19) = .int x19 ∧ Q (.returned (some (.int x19))) h18) (fun r h2 => Q (.threw r) h2)))) (fun r h2 => Q (.threw r) h2)
set_option maxRecDepth 100000 in
theorem uJ5_charAt {G : xG} {fr lo : Nat} {x0 : Nat} {x1 : Int32} {h : xH} {Q : Outcome → xH → Prop} (hq : bJ5_charAt G fr lo x0 x1 h Q) : xP G YJ5_charAt fr lo 0 [(0, rv x0), (1, .int x1)] [] h Q := by
  unfold bJ5_charAt at hq
  refine x_aload_n 0 dJ5_charAt_0 rfl ?_
  obtain ⟨g1, hq⟩ := hq
  obtain ⟨g2, g3, hq⟩ := hq
  refine x_callV (Yc := YJ5_isLatin1) (as := []) (st := []) q793 mvJ5_isLatin1 g1 rfl dJ5_charAt_1 (xle (xal1 (rv_cat _) xal0) (by decide)) (xfr g2) (xlo xsw0 (by decide) g3) (xKi hq (fun x5 h4 hq e6 => ?_) (fun _ _ q _ => q))
  replace hq := hq e6
  refine x_if_eq (tgt := 16) dJ5_charAt_4 (by decide) (fun c7 => ?_) (fun c7 => ?_)
  · replace hq := hq.1 c7
    refine x_aload_n 0 dJ5_charAt_16 rfl ?_
    have t8 : tg h4 x0 = 31 := e6.tg g1 (by decide)
    refine x_get (v := rv (fR h4 x0 7680)) fdJ5_9 dJ5_charAt_17 t8 rfl ?_
    refine x_iload_n 1 dJ5_charAt_20 rfl ?_
    obtain ⟨g9, g10, hq⟩ := hq
    refine x_callS (Yc := YJ6_charAt) (as := [rv (fR h4 x0 7680), .int x1]) (st := []) q808 msJ6_charAt rfl dJ5_charAt_21 (xle (xal1 (rv_cat _) (xal1 rfl xal0)) (by decide)) (xfr g9) (xlo xsw0 (by decide) g10) (xKi hq (fun x12 h11 hq e13 => ?_) (fun _ _ q _ => q))
    replace hq := hq e13
    obtain ⟨g14, hq⟩ := hq
    exact x_iret rfl g14 dJ5_charAt_24 hq
  · replace hq := hq.2 c7
    refine x_aload_n 0 dJ5_charAt_7 rfl ?_
    have t15 : tg h4 x0 = 31 := e6.tg g1 (by decide)
    refine x_get (v := rv (fR h4 x0 7680)) fdJ5_9 dJ5_charAt_8 t15 rfl ?_
    refine x_iload_n 1 dJ5_charAt_11 rfl ?_
    obtain ⟨g16, g17, hq⟩ := hq
    refine x_callS (Yc := YJ7_charAt) (as := [rv (fR h4 x0 7680), .int x1]) (st := []) q797 msJ7_charAt rfl dJ5_charAt_12 (xle (xal1 (rv_cat _) (xal1 rfl xal0)) (by decide)) (xfr g16) (xlo xsw0 (by decide) g17) (xKi hq (fun x19 h18 hq e20 => ?_) (fun _ _ q _ => q))
    replace hq := hq e20
    obtain ⟨g21, hq⟩ := hq
    exact x_iret rfl g21 dJ5_charAt_15 hq
theorem rJ5_charAt {G : xG} {fr lo : Nat} {x0 : Nat} {x1 : Int32} {h : xH} {Q : Outcome → xH → Prop} (hq : bJ5_charAt G fr lo x0 x1 h Q) : xR G YJ5_charAt fr lo [rv x0, .int x1] h Q := by
  show xP _ _ _ _ _ (lv_args 0 _) _ _ _
  rw [show lv_args 0 [rv x0, .int x1] = [(0, rv x0), (1, .int x1)] from (xla1 (rv_cat _) (xla1 rfl xla0))]
  exact uJ5_charAt hq
set_option maxRecDepth 100000 in
theorem dJ5_isLatin1_0 : decode cJ5_isLatin1 0 = .ok (.getstatic 38, 3) := by decide +kernel
set_option maxRecDepth 100000 in
theorem dJ5_isLatin1_3 : decode cJ5_isLatin1 3 = .ok (.ifCond .eq 14, 3) := by decide +kernel
set_option maxRecDepth 100000 in
theorem dJ5_isLatin1_6 : decode cJ5_isLatin1 6 = .ok (.aload_n 0, 1) := by decide +kernel
set_option maxRecDepth 100000 in
theorem dJ5_isLatin1_7 : decode cJ5_isLatin1 7 = .ok (.getfield 15, 3) := by decide +kernel
set_option maxRecDepth 100000 in
theorem dJ5_isLatin1_10 : decode cJ5_isLatin1 10 = .ok (.ifCond .ne 7, 3) := by decide +kernel
set_option maxRecDepth 100000 in
theorem dJ5_isLatin1_13 : decode cJ5_isLatin1 13 = .ok (.iconst 1, 1) := by decide +kernel
set_option maxRecDepth 100000 in
theorem dJ5_isLatin1_14 : decode cJ5_isLatin1 14 = .ok (.goto 4, 3) := by decide +kernel
set_option maxRecDepth 100000 in
theorem dJ5_isLatin1_17 : decode cJ5_isLatin1 17 = .ok (.iconst 0, 1) := by decide +kernel
set_option maxRecDepth 100000 in
theorem dJ5_isLatin1_18 : decode cJ5_isLatin1 18 = .ok (.ireturn, 1) := by decide +kernel
set_option maxRecDepth 100000 in
def bJ5_isLatin1_18 (G : xG) (fr lo : Nat) (s0 : Int32) (h : xH) (Q : Outcome → xH → Prop) : Prop := xbz s0 ∧ Q (.returned (some (.int s0))) h
set_option maxRecDepth 100000 in
theorem uJ5_isLatin1_18 {G : xG} {fr lo : Nat} {s0 : Int32} {h : xH} {Q : Outcome → xH → Prop} (hq : bJ5_isLatin1_18 G fr lo s0 h Q) : xP G YJ5_isLatin1 fr lo 18 [] [.int s0] h Q := by
  unfold bJ5_isLatin1_18 at hq
  obtain ⟨g1, hq⟩ := hq
  exact x_iret rfl (xnZ g1) dJ5_isLatin1_18 hq
set_option maxRecDepth 100000 in
def bJ5_isLatin1_17 (G : xG) (fr lo : Nat) (h : xH) (Q : Outcome → xH → Prop) : Prop := bJ5_isLatin1_18 G fr lo 0 h Q
set_option maxRecDepth 100000 in
theorem uJ5_isLatin1_17 {G : xG} {fr lo : Nat} {h : xH} {Q : Outcome → xH → Prop} (hq : bJ5_isLatin1_17 G fr lo h Q) : xP G YJ5_isLatin1 fr lo 17 [] [] h Q := by
  unfold bJ5_isLatin1_17 at hq
  refine x_iconst (v := 0) dJ5_isLatin1_17 (by decide) ?_
  exact uJ5_isLatin1_18 hq
set_option maxRecDepth 100000 in
def bJ5_isLatin1 (G : xG) (fr lo : Nat) (x0 : Nat) (h : xH) (Q : Outcome → xH → Prop) : Prop := ((1 = 0 → bJ5_isLatin1_17 G fr lo h Q) ∧ (¬ 1 = 0 → tg h x0 = 31 ∧ ((¬ (fI h x0 7681) = 0 → bJ5_isLatin1_17 G fr lo h Q) ∧ ((fI h x0 7681) = 0 → bJ5_isLatin1_18 G fr lo 1 h Q))))
set_option maxRecDepth 100000 in
theorem uJ5_isLatin1 {G : xG} {fr lo : Nat} {x0 : Nat} {h : xH} {Q : Outcome → xH → Prop} (hq : bJ5_isLatin1 G fr lo x0 h Q) : xP G YJ5_isLatin1 fr lo 0 [(0, rv x0)] [] h Q := by
  unfold bJ5_isLatin1 at hq
  refine x_gets (v := .int 1) 9 rfl q788 (by simp [xsv]) dJ5_isLatin1_0 ?_
  refine x_if_eq (tgt := 17) dJ5_isLatin1_3 (by decide) (fun c1 => ?_) (fun c1 => ?_)
  · replace hq := hq.1 c1
    refine xP.pick (lv' := []) [] rfl ?_
    exact uJ5_isLatin1_17 hq
  · replace hq := hq.2 c1
    refine x_aload_n 0 dJ5_isLatin1_6 rfl ?_
    obtain ⟨g2, hq⟩ := hq
    refine x_get (v := .int (fI h x0 7681)) fdJ5_15 dJ5_isLatin1_7 g2 rfl ?_
    refine x_if_ne (tgt := 17) dJ5_isLatin1_10 (by decide) (fun c3 => ?_) (fun c3 => ?_)
    · replace hq := hq.1 c3
      refine xP.pick (lv' := []) [] rfl ?_
      exact uJ5_isLatin1_17 hq
    · replace hq := hq.2 c3
      refine x_iconst (v := 1) dJ5_isLatin1_13 (by decide) ?_
      refine x_goto (tgt := 18) dJ5_isLatin1_14 (by decide) ?_
      refine xP.pick (lv' := []) [] rfl ?_
      exact uJ5_isLatin1_18 hq
theorem rJ5_isLatin1 {G : xG} {fr lo : Nat} {x0 : Nat} {h : xH} {Q : Outcome → xH → Prop} (hq : bJ5_isLatin1 G fr lo x0 h Q) : xR G YJ5_isLatin1 fr lo [rv x0] h Q := by
  show xP _ _ _ _ _ (lv_args 0 _) _ _ _
  rw [show lv_args 0 [rv x0] = [(0, rv x0)] from (xla1 (rv_cat _) xla0)]
  exact uJ5_isLatin1 hq
set_option maxRecDepth 100000 in
theorem dJ5_checkIndex_0 : decode cJ5_checkIndex 0 = .ok (.iload_n 0, 1) := by decide +kernel
set_option maxRecDepth 100000 in
theorem dJ5_checkIndex_1 : decode cJ5_checkIndex 1 = .ok (.iload_n 1, 1) := by decide +kernel
set_option maxRecDepth 100000 in
theorem dJ5_checkIndex_2 : decode cJ5_checkIndex 2 = .ok (.getstatic 1053, 3) := by decide +kernel
set_option maxRecDepth 100000 in
theorem dJ5_checkIndex_5 : decode cJ5_checkIndex 5 = .ok (.invokestatic 1059, 3) := by decide +kernel
set_option maxRecDepth 100000 in
theorem dJ5_checkIndex_8 : decode cJ5_checkIndex 8 = .ok (.pop, 1) := by decide +kernel
set_option maxRecDepth 100000 in
theorem dJ5_checkIndex_9 : decode cJ5_checkIndex 9 = .ok (.return_, 1) := by decide +kernel
set_option maxRecDepth 100000 in
def bJ5_checkIndex (G : xG) (fr lo : Nat) (x0 : Int32) (x1 : Int32) (h : xH) (Q : Outcome → xH → Prop) : Prop := 1 ≤ fr ∧ 14 ≤ lo ∧ xRi G YJ8_checkIndex (fr - 1) (lo - 14) [.int x0, .int x1, rv (xGS G 13)] h (fun x4 h3 => xext h h3 → Q (.returned none) h3) (fun r h2 => Q (.threw r) h2)
set_option maxRecDepth 100000 in
theorem uJ5_checkIndex {G : xG} {fr lo : Nat} {x0 : Int32} {x1 : Int32} {h : xH} {Q : Outcome → xH → Prop} (hq : bJ5_checkIndex G fr lo x0 x1 h Q) : xP G YJ5_checkIndex fr lo 0 [(0, .int x0), (1, .int x1)] [] h Q := by
  unfold bJ5_checkIndex at hq
  refine x_iload_n 0 dJ5_checkIndex_0 rfl ?_
  refine x_iload_n 1 dJ5_checkIndex_1 rfl ?_
  refine x_gets (v := rv (xGS G 13)) 13 rfl q803 (by simp [xsv]) dJ5_checkIndex_2 ?_
  obtain ⟨g1, g2, hq⟩ := hq
  refine x_callS (Yc := YJ8_checkIndex) (as := [.int x0, .int x1, rv (xGS G 13)]) (st := []) q805 msJ8_checkIndex rfl dJ5_checkIndex_5 (xle (xal1 rfl (xal1 rfl (xal1 (rv_cat _) xal0))) (by decide)) (xfr g1) (xlo xsw0 (by decide) g2) (xKi hq (fun x4 h3 hq e5 => ?_) (fun _ _ q _ => q))
  replace hq := hq e5
  refine x_pop dJ5_checkIndex_8 rfl ?_
  exact x_vret rfl dJ5_checkIndex_9 hq
theorem rJ5_checkIndex {G : xG} {fr lo : Nat} {x0 : Int32} {x1 : Int32} {h : xH} {Q : Outcome → xH → Prop} (hq : bJ5_checkIndex G fr lo x0 x1 h Q) : xR G YJ5_checkIndex fr lo [.int x0, .int x1] h Q := by
  show xP _ _ _ _ _ (lv_args 0 _) _ _ _
  rw [show lv_args 0 [.int x0, .int x1] = [(0, .int x0), (1, .int x1)] from (xla1 rfl (xla1 rfl xla0))]
  exact uJ5_checkIndex hq
set_option maxRecDepth 100000 in
theorem dJ5_checkBoundsOffCount_0 : decode cJ5_checkBoundsOffCount 0 = .ok (.iload_n 0, 1) := by decide +kernel
set_option maxRecDepth 100000 in
theorem dJ5_checkBoundsOffCount_1 : decode cJ5_checkBoundsOffCount 1 = .ok (.iload_n 1, 1) := by decide +kernel
set_option maxRecDepth 100000 in
theorem dJ5_checkBoundsOffCount_2 : decode cJ5_checkBoundsOffCount 2 = .ok (.iload_n 2, 1) := by decide +kernel
set_option maxRecDepth 100000 in
theorem dJ5_checkBoundsOffCount_3 : decode cJ5_checkBoundsOffCount 3 = .ok (.getstatic 1053, 3) := by decide +kernel
set_option maxRecDepth 100000 in
theorem dJ5_checkBoundsOffCount_6 : decode cJ5_checkBoundsOffCount 6 = .ok (.invokestatic 1065, 3) := by decide +kernel
set_option maxRecDepth 100000 in
theorem dJ5_checkBoundsOffCount_9 : decode cJ5_checkBoundsOffCount 9 = .ok (.ireturn, 1) := by decide +kernel
set_option maxRecDepth 100000 in
def bJ5_checkBoundsOffCount (G : xG) (fr lo : Nat) (x0 : Int32) (x1 : Int32) (x2 : Int32) (h : xH) (Q : Outcome → xH → Prop) : Prop := 1 ≤ fr ∧ 15 ≤ lo ∧ xRi G YJ8_checkFromIndexSize (fr - 1) (lo - 15) [.int x0, .int x1, .int x2, rv (xGS G 13)] h (fun x4 h3 => xext h h3 → Q (.returned (some (.int x4))) h3) (fun r h2 => Q (.threw r) h2)
set_option maxRecDepth 100000 in
theorem uJ5_checkBoundsOffCount {G : xG} {fr lo : Nat} {x0 : Int32} {x1 : Int32} {x2 : Int32} {h : xH} {Q : Outcome → xH → Prop} (hq : bJ5_checkBoundsOffCount G fr lo x0 x1 x2 h Q) : xP G YJ5_checkBoundsOffCount fr lo 0 [(0, .int x0), (1, .int x1), (2, .int x2)] [] h Q := by
  unfold bJ5_checkBoundsOffCount at hq
  refine x_iload_n 0 dJ5_checkBoundsOffCount_0 rfl ?_
  refine x_iload_n 1 dJ5_checkBoundsOffCount_1 rfl ?_
  refine x_iload_n 2 dJ5_checkBoundsOffCount_2 rfl ?_
  refine x_gets (v := rv (xGS G 13)) 13 rfl q803 (by simp [xsv]) dJ5_checkBoundsOffCount_3 ?_
  obtain ⟨g1, g2, hq⟩ := hq
  refine x_callS (Yc := YJ8_checkFromIndexSize) (as := [.int x0, .int x1, .int x2, rv (xGS G 13)]) (st := []) q893 msJ8_checkFromIndexSize rfl dJ5_checkBoundsOffCount_6 (xle (xal1 rfl (xal1 rfl (xal1 rfl (xal1 (rv_cat _) xal0)))) (by decide)) (xfr g1) (xlo xsw0 (by decide) g2) (xKi hq (fun x4 h3 hq e5 => ?_) (fun _ _ q _ => q))
  replace hq := hq e5
  exact x_iret rfl rfl dJ5_checkBoundsOffCount_9 hq
theorem rJ5_checkBoundsOffCount {G : xG} {fr lo : Nat} {x0 : Int32} {x1 : Int32} {x2 : Int32} {h : xH} {Q : Outcome → xH → Prop} (hq : bJ5_checkBoundsOffCount G fr lo x0 x1 x2 h Q) : xR G YJ5_checkBoundsOffCount fr lo [.int x0, .int x1, .int x2] h Q := by
  show xP _ _ _ _ _ (lv_args 0 _) _ _ _
  rw [show lv_args 0 [.int x0, .int x1, .int x2] = [(0, .int x0), (1, .int x1), (2, .int x2)] from (xla1 rfl (xla1 rfl (xla1 rfl xla0)))]
  exact uJ5_checkBoundsOffCount hq
set_option maxRecDepth 100000 in
theorem dJ5_init_0 : decode cJ5_init 0 = .ok (.aload_n 0, 1) := by decide +kernel
set_option maxRecDepth 100000 in
theorem dJ5_init_1 : decode cJ5_init 1 = .ok (.aload_n 1, 1) := by decide +kernel
set_option maxRecDepth 100000 in
theorem dJ5_init_2 : decode cJ5_init 2 = .ok (.aconst_null, 1) := by decide +kernel
set_option maxRecDepth 100000 in
theorem dJ5_init_3 : decode cJ5_init 3 = .ok (.invokespecial 489, 3) := by decide +kernel
set_option maxRecDepth 100000 in
theorem dJ5_init_6 : decode cJ5_init 6 = .ok (.return_, 1) := by decide +kernel
set_option maxRecDepth 100000 in
def bJ5_init (G : xG) (fr lo : Nat) (x0 : Nat) (x1 : Nat) (h : xH) (Q : Outcome → xH → Prop) : Prop := tg h x0 = 31 ∧ 1 ≤ fr ∧ 16 ≤ lo ∧ xRv G YJ5_init_2 (fr - 1) (lo - 16) [rv x0, rv x1, rv 0] h (fun h4 => xext h h4 → Q (.returned none) h4) (fun r h2 => Q (.threw r) h2)
set_option maxRecDepth 100000 in
theorem uJ5_init {G : xG} {fr lo : Nat} {x0 : Nat} {x1 : Nat} {h : xH} {Q : Outcome → xH → Prop} (hq : bJ5_init G fr lo x0 x1 h Q) : xP G YJ5_init fr lo 0 [(0, rv x0), (1, rv x1)] [] h Q := by
  unfold bJ5_init at hq
  refine x_aload_n 0 dJ5_init_0 rfl ?_
  refine x_aload_n 1 dJ5_init_1 rfl ?_
  refine x_null dJ5_init_2 ?_
  obtain ⟨g1, hq⟩ := hq
  obtain ⟨g2, g3, hq⟩ := hq
  refine x_callI (Yc := YJ5_init_2) (as := [rv x1, rv 0]) (st := []) q913 miJ5_init_2 (by rw [g1]; decide) rfl dJ5_init_3 (xle (xal1 (rv_cat _) (xal1 (rv_cat _) (xal1 (rv_cat _) xal0))) (by decide)) (xfr g2) (xlo xsw0 (by decide) g3) (xKv hq (fun h4 hq e6 => ?_) (fun _ _ q _ => q))
  replace hq := hq e6
  exact x_vret rfl dJ5_init_6 hq
theorem rJ5_init {G : xG} {fr lo : Nat} {x0 : Nat} {x1 : Nat} {h : xH} {Q : Outcome → xH → Prop} (hq : bJ5_init G fr lo x0 x1 h Q) : xR G YJ5_init fr lo [rv x0, rv x1] h Q := by
  show xP _ _ _ _ _ (lv_args 0 _) _ _ _
  rw [show lv_args 0 [rv x0, rv x1] = [(0, rv x0), (1, rv x1)] from (xla1 (rv_cat _) (xla1 (rv_cat _) xla0))]
  exact uJ5_init hq
set_option maxRecDepth 100000 in
theorem dJ5_init_2_0 : decode cJ5_init_2 0 = .ok (.aload_n 0, 1) := by decide +kernel
set_option maxRecDepth 100000 in
theorem dJ5_init_2_1 : decode cJ5_init_2 1 = .ok (.invokespecial 1, 3) := by decide +kernel
set_option maxRecDepth 100000 in
theorem dJ5_init_2_4 : decode cJ5_init_2 4 = .ok (.aload_n 1, 1) := by decide +kernel
set_option maxRecDepth 100000 in
theorem dJ5_init_2_5 : decode cJ5_init_2 5 = .ok (.invokevirtual 552, 3) := by decide +kernel
set_option maxRecDepth 100000 in
theorem dJ5_init_2_8 : decode cJ5_init_2 8 = .ok (.astore_n 3, 1) := by decide +kernel
set_option maxRecDepth 100000 in
theorem dJ5_init_2_9 : decode cJ5_init_2 9 = .ok (.aload_n 1, 1) := by decide +kernel
set_option maxRecDepth 100000 in
theorem dJ5_init_2_10 : decode cJ5_init_2 10 = .ok (.invokevirtual 549, 3) := by decide +kernel
set_option maxRecDepth 100000 in
theorem dJ5_init_2_13 : decode cJ5_init_2 13 = .ok (.istore 4, 2) := by decide +kernel
set_option maxRecDepth 100000 in
theorem dJ5_init_2_15 : decode cJ5_init_2 15 = .ok (.aload_n 1, 1) := by decide +kernel
set_option maxRecDepth 100000 in
theorem dJ5_init_2_16 : decode cJ5_init_2 16 = .ok (.invokevirtual 1047, 3) := by decide +kernel
set_option maxRecDepth 100000 in
theorem dJ5_init_2_19 : decode cJ5_init_2 19 = .ok (.ifCond .eq 22, 3) := by decide +kernel
set_option maxRecDepth 100000 in
theorem dJ5_init_2_22 : decode cJ5_init_2 22 = .ok (.aload_n 0, 1) := by decide +kernel
set_option maxRecDepth 100000 in
theorem dJ5_init_2_23 : decode cJ5_init_2 23 = .ok (.iconst 0, 1) := by decide +kernel
set_option maxRecDepth 100000 in
theorem dJ5_init_2_24 : decode cJ5_init_2 24 = .ok (.putfield 15, 3) := by decide +kernel
set_option maxRecDepth 100000 in
theorem dJ5_init_2_27 : decode cJ5_init_2 27 = .ok (.aload_n 0, 1) := by decide +kernel
set_option maxRecDepth 100000 in
theorem dJ5_init_2_28 : decode cJ5_init_2 28 = .ok (.aload_n 3, 1) := by decide +kernel
set_option maxRecDepth 100000 in
theorem dJ5_init_2_29 : decode cJ5_init_2 29 = .ok (.iconst 0, 1) := by decide +kernel
set_option maxRecDepth 100000 in
theorem dJ5_init_2_30 : decode cJ5_init_2 30 = .ok (.iload 4, 2) := by decide +kernel
set_option maxRecDepth 100000 in
theorem dJ5_init_2_32 : decode cJ5_init_2 32 = .ok (.invokestatic 54, 3) := by decide +kernel
set_option maxRecDepth 100000 in
theorem dJ5_init_2_35 : decode cJ5_init_2 35 = .ok (.putfield 9, 3) := by decide +kernel
set_option maxRecDepth 100000 in
theorem dJ5_init_2_38 : decode cJ5_init_2 38 = .ok (.goto 59, 3) := by decide +kernel
set_option maxRecDepth 100000 in
theorem dJ5_init_2_41 : decode cJ5_init_2 41 = .ok (.getstatic 38, 3) := by decide +kernel
set_option maxRecDepth 100000 in
theorem dJ5_init_2_44 : decode cJ5_init_2 44 = .ok (.ifCond .eq 35, 3) := by decide +kernel
set_option maxRecDepth 100000 in
theorem dJ5_init_2_47 : decode cJ5_init_2 47 = .ok (.aload_n 1, 1) := by decide +kernel
set_option maxRecDepth 100000 in
theorem dJ5_init_2_48 : decode cJ5_init_2 48 = .ok (.getfield 1048, 3) := by decide +kernel
set_option maxRecDepth 100000 in
theorem dJ5_init_2_51 : decode cJ5_init_2 51 = .ok (.ifCond .eq 28, 3) := by decide +kernel
set_option maxRecDepth 100000 in
theorem dJ5_init_2_54 : decode cJ5_init_2 54 = .ok (.aload_n 0, 1) := by decide +kernel
set_option maxRecDepth 100000 in
theorem dJ5_init_2_55 : decode cJ5_init_2 55 = .ok (.aload_n 3, 1) := by decide +kernel
set_option maxRecDepth 100000 in
theorem dJ5_init_2_56 : decode cJ5_init_2 56 = .ok (.iconst 0, 1) := by decide +kernel
set_option maxRecDepth 100000 in
theorem dJ5_init_2_57 : decode cJ5_init_2 57 = .ok (.iload 4, 2) := by decide +kernel
set_option maxRecDepth 100000 in
theorem dJ5_init_2_59 : decode cJ5_init_2 59 = .ok (.invokestatic 1051, 3) := by decide +kernel
set_option maxRecDepth 100000 in
theorem dJ5_init_2_62 : decode cJ5_init_2 62 = .ok (.putfield 9, 3) := by decide +kernel
set_option maxRecDepth 100000 in
theorem dJ5_init_2_65 : decode cJ5_init_2 65 = .ok (.aload_n 0, 1) := by decide +kernel
set_option maxRecDepth 100000 in
theorem dJ5_init_2_66 : decode cJ5_init_2 66 = .ok (.aload_n 0, 1) := by decide +kernel
set_option maxRecDepth 100000 in
theorem dJ5_init_2_67 : decode cJ5_init_2 67 = .ok (.getfield 9, 3) := by decide +kernel
set_option maxRecDepth 100000 in
theorem dJ5_init_2_70 : decode cJ5_init_2 70 = .ok (.iload 4, 2) := by decide +kernel
set_option maxRecDepth 100000 in
theorem dJ5_init_2_72 : decode cJ5_init_2 72 = .ok (.invokestatic 47, 3) := by decide +kernel
set_option maxRecDepth 100000 in
theorem dJ5_init_2_75 : decode cJ5_init_2 75 = .ok (.putfield 15, 3) := by decide +kernel
set_option maxRecDepth 100000 in
theorem dJ5_init_2_78 : decode cJ5_init_2 78 = .ok (.return_, 1) := by decide +kernel
set_option maxRecDepth 100000 in
theorem dJ5_init_2_79 : decode cJ5_init_2 79 = .ok (.aload_n 0, 1) := by decide +kernel
set_option maxRecDepth 100000 in
theorem dJ5_init_2_80 : decode cJ5_init_2 80 = .ok (.iconst 1, 1) := by decide +kernel
set_option maxRecDepth 100000 in
theorem dJ5_init_2_81 : decode cJ5_init_2 81 = .ok (.putfield 15, 3) := by decide +kernel
set_option maxRecDepth 100000 in
theorem dJ5_init_2_84 : decode cJ5_init_2 84 = .ok (.aload_n 0, 1) := by decide +kernel
set_option maxRecDepth 100000 in
theorem dJ5_init_2_85 : decode cJ5_init_2 85 = .ok (.aload_n 3, 1) := by decide +kernel
set_option maxRecDepth 100000 in
theorem dJ5_init_2_86 : decode cJ5_init_2 86 = .ok (.iconst 0, 1) := by decide +kernel
set_option maxRecDepth 100000 in
theorem dJ5_init_2_87 : decode cJ5_init_2 87 = .ok (.iload 4, 2) := by decide +kernel
set_option maxRecDepth 100000 in
theorem dJ5_init_2_89 : decode cJ5_init_2 89 = .ok (.iconst 1, 1) := by decide +kernel
set_option maxRecDepth 100000 in
theorem dJ5_init_2_90 : decode cJ5_init_2 90 = .ok (.ishl, 1) := by decide +kernel
set_option maxRecDepth 100000 in
theorem dJ5_init_2_91 : decode cJ5_init_2 91 = .ok (.invokestatic 54, 3) := by decide +kernel
set_option maxRecDepth 100000 in
theorem dJ5_init_2_94 : decode cJ5_init_2 94 = .ok (.putfield 9, 3) := by decide +kernel
set_option maxRecDepth 100000 in
theorem dJ5_init_2_97 : decode cJ5_init_2 97 = .ok (.return_, 1) := by decide +kernel
set_option maxRecDepth 100000 in
def bJ5_init_2_97 (G : xG) (fr lo : Nat) (h : xH) (Q : Outcome → xH → Prop) : Prop := Q (.returned none) h
set_option maxRecDepth 100000 in
theorem uJ5_init_2_97 {G : xG} {fr lo : Nat} {h : xH} {Q : Outcome → xH → Prop} (hq : bJ5_init_2_97 G fr lo h Q) : xP G YJ5_init_2 fr lo 97 [] [] h Q := by
  unfold bJ5_init_2_97 at hq
  exact x_vret rfl dJ5_init_2_97 hq
set_option maxRecDepth 100000 in
def bJ5_init_2_79 (G : xG) (fr lo : Nat) (x0 : Nat) (x3 : Nat) (x4 : Int32) (h : xH) (Q : Outcome → xH → Prop) : Prop := tg h x0 = 31 ∧ xGB G < x0 ∧ xni .byte 1 ∧ (∀ h4 : xH, h4 = sI h x0 7681 1 → 1 ≤ fr ∧ 15 ≤ lo ∧ xRr G YJ11_copyOfRange (fr - 1) (lo - 15) [rv x3, .int 0, .int (x4 <<< (1 &&& 31))] h4 (fun x9 h8 => xext h4 h8 → xGB G < x0 ∧ (∀ h14 : xH, h14 = sR h8 x0 7680 x9 → bJ5_init_2_97 G fr lo h14 Q)) (fun r h2 => Q (.threw r) h2))
set_option maxRecDepth 100000 in
theorem uJ5_init_2_79 {G : xG} {fr lo : Nat} {x0 : Nat} {x3 : Nat} {x4 : Int32} {h : xH} {Q : Outcome → xH → Prop} (hq : bJ5_init_2_79 G fr lo x0 x3 x4 h Q) : xP G YJ5_init_2 fr lo 79 [(0, rv x0), (3, rv x3), (4, .int x4)] [] h Q := by
  unfold bJ5_init_2_79 at hq
  refine x_aload_n 0 dJ5_init_2_79 rfl ?_
  refine x_iconst (v := 1) dJ5_init_2_80 (by decide) ?_
  obtain ⟨g1, hq⟩ := hq
  obtain ⟨w2, hq⟩ := hq
  obtain ⟨g3, hq⟩ := hq
  obtain ⟨h4, e5⟩ : ∃ y, y = sI h x0 7681 1 := ⟨_, rfl⟩
  replace hq := hq h4 e5
  refine x_putFI fdJ5_15 owJ5_init_2_1 xty_B1 dJ5_init_2_81 g1 (Or.inr w2) g3 rfl e5 ?_
  refine x_aload_n 0 dJ5_init_2_84 rfl ?_
  refine x_aload_n 1 dJ5_init_2_85 rfl ?_
  refine x_iconst (v := 0) dJ5_init_2_86 (by decide) ?_
  refine x_iload 2 dJ5_init_2_87 rfl ?_
  refine x_iconst (v := 1) dJ5_init_2_89 (by decide) ?_
  refine x_ishl dJ5_init_2_90 ?_
  obtain ⟨g6, g7, hq⟩ := hq
  refine x_callS (Yc := YJ11_copyOfRange) (as := [rv x3, .int 0, .int (x4 <<< (1 &&& 31))]) (st := [rv x0]) q931 msJ11_copyOfRange rfl dJ5_init_2_91 (xle (xal1 (rv_cat _) (xal1 rfl (xal1 rfl xal0))) (by decide)) (xfr g6) (xlo (xsw1 (rv_cat _) xsw0) (by decide) g7) (xKr hq (fun x9 h8 hq e10 => ?_) (fun _ _ q _ => q))
  replace hq := hq e10
  have t11 : tg h4 x0 = 31 := by rw [e5]; exact g1
  have t12 : tg h8 x0 = 31 := e10.tg t11 (by decide)
  obtain ⟨w13, hq⟩ := hq
  obtain ⟨h14, e15⟩ : ∃ y, y = sR h8 x0 7680 x9 := ⟨_, rfl⟩
  replace hq := hq h14 e15
  refine x_putFR fdJ5_9 owJ5_init_2_0 xty_A dJ5_init_2_94 t12 (Or.inr w13) rfl e15 ?_
  refine xP.pick (lv' := []) [] rfl ?_
  exact uJ5_init_2_97 hq
set_option maxRecDepth 100000 in
def bJ5_init_2 (G : xG) (fr lo : Nat) (x0 : Nat) (x1 : Nat) (x2 : Nat) (h : xH) (Q : Outcome → xH → Prop) : Prop := tg h x0 = 31 ∧ 1 ≤ fr ∧ 12 ≤ lo ∧ tg h x1 = 30 ∧ 1 ≤ fr ∧ 12 ≤ lo ∧ xRr G YJ3_getValue (fr - 1) (lo - 12) [rv x1] h (fun x8 h7 => xext h h7 → 1 ≤ fr ∧ 12 ≤ lo ∧ xRi G YJ4_length (fr - 1) (lo - 12) [rv x1] h7 (fun x14 h13 => xext h7 h13 → 1 ≤ fr ∧ 12 ≤ lo ∧ xRi G YJ3_isLatin1 (fr - 1) (lo - 12) [rv x1] h13 (fun x20 h19 => xext h13 h19 → ((x20 = 0 → ((1 = 0 → bJ5_init_2_79 G fr lo x0 x8 x14 h19 Q) ∧ (¬ 1 = 0 → (((fI h19 x1 7426) = 0 → bJ5_init_2_79 G fr lo x0 x8 x14 h19 Q) ∧ (¬ (fI h19 x1 7426) = 0 → 1 ≤ fr ∧ 18 ≤ lo ∧ xRr G YJ6_compress (fr - 1) (lo - 18) [rv x8, .int 0, .int x14] h19 (fun x29 h28 => xext h19 h28 → xGB G < x0 ∧ (∀ h36 : xH, h36 = sR h28 x0 7680 x29 → 1 ≤ fr ∧ 14 ≤ lo ∧ xRi G YJ6_coderFromArrayLen (fr - 1) (lo - 14) [rv (fR h36 x0 7680), .int x14] h36 (fun x42 h41 => xext h36 h41 → xGB G < x0 ∧ xni .byte x42 ∧ (∀ h47 : xH, h47 = sI h41 x0 7681 x42 → Q (.returned none) h47)) (fun r h2 => Q (.threw r) h2))) (fun r h2 => Q (.threw r) h2)))))) ∧ (¬ x20 = 0 → xGB G < x0 ∧ xni .byte 0 ∧ (∀ h54 : xH, h54 = sI h19 x0 7681 0 → 1 ≤ fr ∧ 15 ≤ lo ∧ xRr G YJ11_copyOfRange (fr - 1) (lo - 15) [rv x8, .int 0, .int x14] h54 (fun x59 h58 => xext h54 h58 → xGB G < x0 ∧ (∀ h64 : xH, h64 = sR h58 x0 7680 x59 → bJ5_init_2_97 G fr lo h64 Q)) (fun r h2 => Q (.threw r) h2))))) (fun r h2 => Q (.threw r) h2)) (fun r h2 => Q (.threw r) h2)) (fun r h2 => Q (.threw r) h2)
set_option maxRecDepth 100000 in
theorem uJ5_init_2 {G : xG} {fr lo : Nat} {x0 : Nat} {x1 : Nat} {x2 : Nat} {h : xH} {Q : Outcome → xH → Prop} (hq : bJ5_init_2 G fr lo x0 x1 x2 h Q) : xP G YJ5_init_2 fr lo 0 [(0, rv x0), (1, rv x1), (2, rv x2)] [] h Q := by
  unfold bJ5_init_2 at hq
  refine x_aload_n 0 dJ5_init_2_0 rfl ?_
  obtain ⟨g1, hq⟩ := hq
  obtain ⟨g2, g3, hq⟩ := hq
  refine x_objInit (by rw [g1]; decide) q916 q438 q439 dJ5_init_2_1 g2 (by simp only [List.map_cons, List.map_nil, List.sum_cons, List.sum_nil, rv_cat, Value.category]; omega) ?_
  refine x_aload_n 1 dJ5_init_2_4 rfl ?_
  obtain ⟨g4, hq⟩ := hq
  obtain ⟨g5, g6, hq⟩ := hq
  refine x_callV (Yc := YJ3_getValue) (as := []) (st := []) q917 mvJ3_getValue g4 rfl dJ5_init_2_5 (xle (xal1 (rv_cat _) xal0) (by decide)) (xfr g5) (xlo xsw0 (by decide) g6) (xKr hq (fun x8 h7 hq e9 => ?_) (fun _ _ q _ => q))
  replace hq := hq e9
  refine x_astore_n (lv' := [(3, rv x8), (0, rv x0), (1, rv x1), (2, rv x2)]) dJ5_init_2_8 (by decide) (by first | rfl | (simp [rv_cat, Value.category]; done) | (simp [rv_cat, Value.category]; decide)) ?_
  refine x_aload_n 2 dJ5_init_2_9 rfl ?_
  have t10 : tg h7 x1 = 30 := e9.tg g4 (by decide)
  obtain ⟨g11, g12, hq⟩ := hq
  refine x_callX (Yc := YJ4_length) (as := []) (st := []) mxJ5_549 t10 rfl dJ5_init_2_10 (xle (xal1 (rv_cat _) xal0) (by decide)) (xfr g11) (xlo xsw0 (by decide) g12) (xKi hq (fun x14 h13 hq e15 => ?_) (fun _ _ q _ => q))
  replace hq := hq e15
  refine x_istore (lv' := [(4, .int x14), (3, rv x8), (0, rv x0), (1, rv x1), (2, rv x2)]) dJ5_init_2_13 (by decide) (by first | rfl | (simp [rv_cat, Value.category]; done) | (simp [rv_cat, Value.category]; decide)) ?_
  refine x_aload_n 3 dJ5_init_2_15 rfl ?_
  have t16 : tg h13 x1 = 30 := e15.tg t10 (by decide)
  obtain ⟨g17, g18, hq⟩ := hq
  refine x_callV (Yc := YJ3_isLatin1) (as := []) (st := []) q930 mvJ3_isLatin1 t16 rfl dJ5_init_2_16 (xle (xal1 (rv_cat _) xal0) (by decide)) (xfr g17) (xlo xsw0 (by decide) g18) (xKi hq (fun x20 h19 hq e21 => ?_) (fun _ _ q _ => q))
  replace hq := hq e21
  refine x_if_eq (tgt := 41) dJ5_init_2_19 (by decide) (fun c22 => ?_) (fun c22 => ?_)
  · replace hq := hq.1 c22
    refine x_gets (v := .int 1) 9 rfl q788 (by simp [xsv]) dJ5_init_2_41 ?_
    refine x_if_eq (tgt := 79) dJ5_init_2_44 (by decide) (fun c23 => ?_) (fun c23 => ?_)
    · replace hq := hq.1 c23
      refine xP.pick (lv' := [(0, rv x0), (3, rv x8), (4, .int x14)]) [2, 1, 0] rfl ?_
      exact uJ5_init_2_79 hq
    · replace hq := hq.2 c23
      refine x_aload_n 3 dJ5_init_2_47 rfl ?_
      have t24 : tg h19 x1 = 30 := e21.tg t16 (by decide)
      refine x_get (v := .int (fI h19 x1 7426)) fdJ5_1048 dJ5_init_2_48 t24 rfl ?_
      refine x_if_eq (tgt := 79) dJ5_init_2_51 (by decide) (fun c25 => ?_) (fun c25 => ?_)
      · replace hq := hq.1 c25
        refine xP.pick (lv' := [(0, rv x0), (3, rv x8), (4, .int x14)]) [2, 1, 0] rfl ?_
        exact uJ5_init_2_79 hq
      · replace hq := hq.2 c25
        refine x_aload_n 2 dJ5_init_2_54 rfl ?_
        refine x_aload_n 1 dJ5_init_2_55 rfl ?_
        refine x_iconst (v := 0) dJ5_init_2_56 (by decide) ?_
        refine x_iload 0 dJ5_init_2_57 rfl ?_
        obtain ⟨g26, g27, hq⟩ := hq
        refine x_callS (Yc := YJ6_compress) (as := [rv x8, .int 0, .int x14]) (st := [rv x0]) q940 msJ6_compress rfl dJ5_init_2_59 (xle (xal1 (rv_cat _) (xal1 rfl (xal1 rfl xal0))) (by decide)) (xfr g26) (xlo (xsw1 (rv_cat _) xsw0) (by decide) g27) (xKr hq (fun x29 h28 hq e30 => ?_) (fun _ _ q _ => q))
        replace hq := hq e30
        have t31 : tg h7 x0 = 31 := e9.tg g1 (by decide)
        have t32 : tg h13 x0 = 31 := e15.tg t31 (by decide)
        have t33 : tg h19 x0 = 31 := e21.tg t32 (by decide)
        have t34 : tg h28 x0 = 31 := e30.tg t33 (by decide)
        obtain ⟨w35, hq⟩ := hq
        obtain ⟨h36, e37⟩ : ∃ y, y = sR h28 x0 7680 x29 := ⟨_, rfl⟩
        replace hq := hq h36 e37
        refine x_putFR fdJ5_9 owJ5_init_2_0 xty_A dJ5_init_2_62 t34 (Or.inr w35) rfl e37 ?_
        refine x_aload_n 2 dJ5_init_2_65 rfl ?_
        refine x_aload_n 2 dJ5_init_2_66 rfl ?_
        have t38 : tg h36 x0 = 31 := by rw [e37]; exact t34
        refine x_get (v := rv (fR h36 x0 7680)) fdJ5_9 dJ5_init_2_67 t38 rfl ?_
        refine x_iload 0 dJ5_init_2_70 rfl ?_
        obtain ⟨g39, g40, hq⟩ := hq
        refine x_callS (Yc := YJ6_coderFromArrayLen) (as := [rv (fR h36 x0 7680), .int x14]) (st := [rv x0]) q947 msJ6_coderFromArrayLen rfl dJ5_init_2_72 (xle (xal1 (rv_cat _) (xal1 rfl xal0)) (by decide)) (xfr g39) (xlo (xsw1 (rv_cat _) xsw0) (by decide) g40) (xKi hq (fun x42 h41 hq e43 => ?_) (fun _ _ q _ => q))
        replace hq := hq e43
        have t44 : tg h41 x0 = 31 := e43.tg t38 (by decide)
        obtain ⟨w45, hq⟩ := hq
        obtain ⟨g46, hq⟩ := hq
        obtain ⟨h47, e48⟩ : ∃ y, y = sI h41 x0 7681 x42 := ⟨_, rfl⟩
        replace hq := hq h47 e48
        refine x_putFI fdJ5_15 owJ5_init_2_1 xty_B1 dJ5_init_2_75 t44 (Or.inr w45) g46 rfl e48 ?_
        exact x_vret rfl dJ5_init_2_78 hq
  · replace hq := hq.2 c22
    refine x_aload_n 2 dJ5_init_2_22 rfl ?_
    refine x_iconst (v := 0) dJ5_init_2_23 (by decide) ?_
    have t49 : tg h7 x0 = 31 := e9.tg g1 (by decide)
    have t50 : tg h13 x0 = 31 := e15.tg t49 (by decide)
    have t51 : tg h19 x0 = 31 := e21.tg t50 (by decide)
    obtain ⟨w52, hq⟩ := hq
    obtain ⟨g53, hq⟩ := hq
    obtain ⟨h54, e55⟩ : ∃ y, y = sI h19 x0 7681 0 := ⟨_, rfl⟩
    replace hq := hq h54 e55
    refine x_putFI fdJ5_15 owJ5_init_2_1 xty_B1 dJ5_init_2_24 t51 (Or.inr w52) g53 rfl e55 ?_
    refine x_aload_n 2 dJ5_init_2_27 rfl ?_
    refine x_aload_n 1 dJ5_init_2_28 rfl ?_
    refine x_iconst (v := 0) dJ5_init_2_29 (by decide) ?_
    refine x_iload 0 dJ5_init_2_30 rfl ?_
    obtain ⟨g56, g57, hq⟩ := hq
    refine x_callS (Yc := YJ11_copyOfRange) (as := [rv x8, .int 0, .int x14]) (st := [rv x0]) q931 msJ11_copyOfRange rfl dJ5_init_2_32 (xle (xal1 (rv_cat _) (xal1 rfl (xal1 rfl xal0))) (by decide)) (xfr g56) (xlo (xsw1 (rv_cat _) xsw0) (by decide) g57) (xKr hq (fun x59 h58 hq e60 => ?_) (fun _ _ q _ => q))
    replace hq := hq e60
    have t61 : tg h54 x0 = 31 := by rw [e55]; exact t51
    have t62 : tg h58 x0 = 31 := e60.tg t61 (by decide)
    obtain ⟨w63, hq⟩ := hq
    obtain ⟨h64, e65⟩ : ∃ y, y = sR h58 x0 7680 x59 := ⟨_, rfl⟩
    replace hq := hq h64 e65
    refine x_putFR fdJ5_9 owJ5_init_2_0 xty_A dJ5_init_2_35 t62 (Or.inr w63) rfl e65 ?_
    refine x_goto (tgt := 97) dJ5_init_2_38 (by decide) ?_
    refine xP.pick (lv' := []) [] rfl ?_
    exact uJ5_init_2_97 hq
theorem rJ5_init_2 {G : xG} {fr lo : Nat} {x0 : Nat} {x1 : Nat} {x2 : Nat} {h : xH} {Q : Outcome → xH → Prop} (hq : bJ5_init_2 G fr lo x0 x1 x2 h Q) : xR G YJ5_init_2 fr lo [rv x0, rv x1, rv x2] h Q := by
  show xP _ _ _ _ _ (lv_args 0 _) _ _ _
  rw [show lv_args 0 [rv x0, rv x1, rv x2] = [(0, rv x0), (1, rv x1), (2, rv x2)] from (xla1 (rv_cat _) (xla1 (rv_cat _) (xla1 (rv_cat _) xla0)))]
  exact uJ5_init_2 hq
set_option maxRecDepth 100000 in
theorem dJ5_equals_0 : decode cJ5_equals 0 = .ok (.aload_n 0, 1) := by decide +kernel
set_option maxRecDepth 100000 in
theorem dJ5_equals_1 : decode cJ5_equals 1 = .ok (.aload_n 1, 1) := by decide +kernel
set_option maxRecDepth 100000 in
theorem dJ5_equals_2 : decode cJ5_equals 2 = .ok (.if_acmp .ne 5, 3) := by decide +kernel
set_option maxRecDepth 100000 in
theorem dJ5_equals_5 : decode cJ5_equals 5 = .ok (.iconst 1, 1) := by decide +kernel
set_option maxRecDepth 100000 in
theorem dJ5_equals_6 : decode cJ5_equals 6 = .ok (.ireturn, 1) := by decide +kernel
set_option maxRecDepth 100000 in
theorem dJ5_equals_7 : decode cJ5_equals 7 = .ok (.aload_n 1, 1) := by decide +kernel
set_option maxRecDepth 100000 in
theorem dJ5_equals_8 : decode cJ5_equals 8 = .ok (.instanceof 10, 3) := by decide +kernel
set_option maxRecDepth 100000 in
theorem dJ5_equals_11 : decode cJ5_equals 11 = .ok (.ifCond .eq 43, 3) := by decide +kernel
set_option maxRecDepth 100000 in
theorem dJ5_equals_14 : decode cJ5_equals 14 = .ok (.aload_n 1, 1) := by decide +kernel
set_option maxRecDepth 100000 in
theorem dJ5_equals_15 : decode cJ5_equals 15 = .ok (.checkcast 10, 3) := by decide +kernel
set_option maxRecDepth 100000 in
theorem dJ5_equals_18 : decode cJ5_equals 18 = .ok (.astore_n 2, 1) := by decide +kernel
set_option maxRecDepth 100000 in
theorem dJ5_equals_19 : decode cJ5_equals 19 = .ok (.getstatic 38, 3) := by decide +kernel
set_option maxRecDepth 100000 in
theorem dJ5_equals_22 : decode cJ5_equals 22 = .ok (.ifCond .eq 14, 3) := by decide +kernel
set_option maxRecDepth 100000 in
theorem dJ5_equals_25 : decode cJ5_equals 25 = .ok (.aload_n 0, 1) := by decide +kernel
set_option maxRecDepth 100000 in
theorem dJ5_equals_26 : decode cJ5_equals 26 = .ok (.getfield 15, 3) := by decide +kernel
set_option maxRecDepth 100000 in
theorem dJ5_equals_29 : decode cJ5_equals 29 = .ok (.aload_n 2, 1) := by decide +kernel
set_option maxRecDepth 100000 in
theorem dJ5_equals_30 : decode cJ5_equals 30 = .ok (.getfield 15, 3) := by decide +kernel
set_option maxRecDepth 100000 in
theorem dJ5_equals_33 : decode cJ5_equals 33 = .ok (.if_icmp .ne 21, 3) := by decide +kernel
set_option maxRecDepth 100000 in
theorem dJ5_equals_36 : decode cJ5_equals 36 = .ok (.aload_n 0, 1) := by decide +kernel
set_option maxRecDepth 100000 in
theorem dJ5_equals_37 : decode cJ5_equals 37 = .ok (.getfield 9, 3) := by decide +kernel
set_option maxRecDepth 100000 in
theorem dJ5_equals_40 : decode cJ5_equals 40 = .ok (.aload_n 2, 1) := by decide +kernel
set_option maxRecDepth 100000 in
theorem dJ5_equals_41 : decode cJ5_equals 41 = .ok (.getfield 9, 3) := by decide +kernel
set_option maxRecDepth 100000 in
theorem dJ5_equals_44 : decode cJ5_equals 44 = .ok (.invokestatic 541, 3) := by decide +kernel
set_option maxRecDepth 100000 in
theorem dJ5_equals_47 : decode cJ5_equals 47 = .ok (.ifCond .eq 7, 3) := by decide +kernel
set_option maxRecDepth 100000 in
theorem dJ5_equals_50 : decode cJ5_equals 50 = .ok (.iconst 1, 1) := by decide +kernel
set_option maxRecDepth 100000 in
theorem dJ5_equals_51 : decode cJ5_equals 51 = .ok (.goto 4, 3) := by decide +kernel
set_option maxRecDepth 100000 in
theorem dJ5_equals_54 : decode cJ5_equals 54 = .ok (.iconst 0, 1) := by decide +kernel
set_option maxRecDepth 100000 in
theorem dJ5_equals_55 : decode cJ5_equals 55 = .ok (.ireturn, 1) := by decide +kernel
set_option maxRecDepth 100000 in
def bJ5_equals_55 (G : xG) (fr lo : Nat) (s0 : Int32) (h : xH) (Q : Outcome → xH → Prop) : Prop := xbz s0 ∧ Q (.returned (some (.int s0))) h
set_option maxRecDepth 100000 in
theorem uJ5_equals_55 {G : xG} {fr lo : Nat} {s0 : Int32} {h : xH} {Q : Outcome → xH → Prop} (hq : bJ5_equals_55 G fr lo s0 h Q) : xP G YJ5_equals fr lo 55 [] [.int s0] h Q := by
  unfold bJ5_equals_55 at hq
  obtain ⟨g1, hq⟩ := hq
  exact x_iret rfl (xnZ g1) dJ5_equals_55 hq
set_option maxRecDepth 100000 in
def bJ5_equals_54 (G : xG) (fr lo : Nat) (h : xH) (Q : Outcome → xH → Prop) : Prop := bJ5_equals_55 G fr lo 0 h Q
set_option maxRecDepth 100000 in
theorem uJ5_equals_54 {G : xG} {fr lo : Nat} {h : xH} {Q : Outcome → xH → Prop} (hq : bJ5_equals_54 G fr lo h Q) : xP G YJ5_equals fr lo 54 [] [] h Q := by
  unfold bJ5_equals_54 at hq
  refine x_iconst (v := 0) dJ5_equals_54 (by decide) ?_
  exact uJ5_equals_55 hq
set_option maxRecDepth 100000 in
def bJ5_equals_36 (G : xG) (fr lo : Nat) (x0 : Nat) (x2 : Nat) (h : xH) (Q : Outcome → xH → Prop) : Prop := tg h x0 = 31 ∧ tg h x2 = 31 ∧ 1 ≤ fr ∧ 14 ≤ lo ∧ xRi G YJ7_equals (fr - 1) (lo - 14) [rv (fR h x0 7680), rv (fR h x2 7680)] h (fun x6 h5 => xext h h5 → ((x6 = 0 → bJ5_equals_54 G fr lo h5 Q) ∧ (¬ x6 = 0 → bJ5_equals_55 G fr lo 1 h5 Q))) (fun r h2 => Q (.threw r) h2)
set_option maxRecDepth 100000 in
theorem uJ5_equals_36 {G : xG} {fr lo : Nat} {x0 : Nat} {x2 : Nat} {h : xH} {Q : Outcome → xH → Prop} (hq : bJ5_equals_36 G fr lo x0 x2 h Q) : xP G YJ5_equals fr lo 36 [(0, rv x0), (2, rv x2)] [] h Q := by
  unfold bJ5_equals_36 at hq
  refine x_aload_n 0 dJ5_equals_36 rfl ?_
  obtain ⟨g1, hq⟩ := hq
  refine x_get (v := rv (fR h x0 7680)) fdJ5_9 dJ5_equals_37 g1 rfl ?_
  refine x_aload_n 1 dJ5_equals_40 rfl ?_
  obtain ⟨g2, hq⟩ := hq
  refine x_get (v := rv (fR h x2 7680)) fdJ5_9 dJ5_equals_41 g2 rfl ?_
  obtain ⟨g3, g4, hq⟩ := hq
  refine x_callS (Yc := YJ7_equals) (as := [rv (fR h x0 7680), rv (fR h x2 7680)]) (st := []) q1648 msJ7_equals rfl dJ5_equals_44 (xle (xal1 (rv_cat _) (xal1 (rv_cat _) xal0)) (by decide)) (xfr g3) (xlo xsw0 (by decide) g4) (xKi hq (fun x6 h5 hq e7 => ?_) (fun _ _ q _ => q))
  replace hq := hq e7
  refine x_if_eq (tgt := 54) dJ5_equals_47 (by decide) (fun c8 => ?_) (fun c8 => ?_)
  · replace hq := hq.1 c8
    refine xP.pick (lv' := []) [] rfl ?_
    exact uJ5_equals_54 hq
  · replace hq := hq.2 c8
    refine x_iconst (v := 1) dJ5_equals_50 (by decide) ?_
    refine x_goto (tgt := 55) dJ5_equals_51 (by decide) ?_
    refine xP.pick (lv' := []) [] rfl ?_
    exact uJ5_equals_55 hq
set_option maxRecDepth 100000 in
def bJ5_equals (G : xG) (fr lo : Nat) (x0 : Nat) (x1 : Nat) (h : xH) (Q : Outcome → xH → Prop) : Prop := ((¬ x0 = x1 → (x1 = 0 ∨ tg h x1 = 31) ∧ (((if x1 = 0 then 0 else 1) = 0 → bJ5_equals_54 G fr lo h Q) ∧ (¬ (if x1 = 0 then 0 else 1) = 0 → tg h x1 = 31 ∧ ((1 = 0 → bJ5_equals_36 G fr lo x0 x1 h Q) ∧ (¬ 1 = 0 → tg h x0 = 31 ∧ ((¬ (fI h x0 7681) = (fI h x1 7681) → bJ5_equals_54 G fr lo h Q) ∧ ((fI h x0 7681) = (fI h x1 7681) → bJ5_equals_36 G fr lo x0 x1 h Q))))))) ∧ (x0 = x1 → Q (.returned (some (.int 1))) h))
set_option maxRecDepth 100000 in
theorem uJ5_equals {G : xG} {fr lo : Nat} {x0 : Nat} {x1 : Nat} {h : xH} {Q : Outcome → xH → Prop} (hq : bJ5_equals G fr lo x0 x1 h Q) : xP G YJ5_equals fr lo 0 [(0, rv x0), (1, rv x1)] [] h Q := by
  unfold bJ5_equals at hq
  refine x_aload_n 0 dJ5_equals_0 rfl ?_
  refine x_aload_n 1 dJ5_equals_1 rfl ?_
  refine x_acmp_ne (tgt := 7) dJ5_equals_2 (by decide) (fun c1 => ?_) (fun c1 => ?_)
  · replace hq := hq.1 c1
    refine x_aload_n 1 dJ5_equals_7 rfl ?_
    obtain ⟨g2, hq⟩ := hq
    refine x_inst (ci := 30) (by decide) rfl q1647 g2 dJ5_equals_8 ?_
    refine x_if_eq (tgt := 54) dJ5_equals_11 (by decide) (fun c3 => ?_) (fun c3 => ?_)
    · replace hq := hq.1 c3
      refine xP.pick (lv' := []) [] rfl ?_
      exact uJ5_equals_54 hq
    · replace hq := hq.2 c3
      refine x_aload_n 1 dJ5_equals_14 rfl ?_
      obtain ⟨g4, hq⟩ := hq
      refine x_cast (ci := 30) (by decide) rfl q1647 g4 dJ5_equals_15 ?_
      refine x_astore_n (lv' := [(2, rv x1), (0, rv x0), (1, rv x1)]) dJ5_equals_18 (by decide) (by first | rfl | (simp [rv_cat, Value.category]; done) | (simp [rv_cat, Value.category]; decide)) ?_
      refine x_gets (v := .int 1) 9 rfl q788 (by simp [xsv]) dJ5_equals_19 ?_
      refine x_if_eq (tgt := 36) dJ5_equals_22 (by decide) (fun c5 => ?_) (fun c5 => ?_)
      · replace hq := hq.1 c5
        refine xP.pick (lv' := [(0, rv x0), (2, rv x1)]) [1, 0] rfl ?_
        exact uJ5_equals_36 hq
      · replace hq := hq.2 c5
        refine x_aload_n 1 dJ5_equals_25 rfl ?_
        obtain ⟨g6, hq⟩ := hq
        refine x_get (v := .int (fI h x0 7681)) fdJ5_15 dJ5_equals_26 g6 rfl ?_
        refine x_aload_n 0 dJ5_equals_29 rfl ?_
        refine x_get (v := .int (fI h x1 7681)) fdJ5_15 dJ5_equals_30 g4 rfl ?_
        refine x_icmp_ne (tgt := 54) dJ5_equals_33 (by decide) (fun c7 => ?_) (fun c7 => ?_)
        · replace hq := hq.1 c7
          refine xP.pick (lv' := []) [] rfl ?_
          exact uJ5_equals_54 hq
        · replace hq := hq.2 c7
          refine xP.pick (lv' := [(0, rv x0), (2, rv x1)]) [1, 0] rfl ?_
          exact uJ5_equals_36 hq
  · replace hq := hq.2 c1
    refine x_iconst (v := 1) dJ5_equals_5 (by decide) ?_
    exact x_iret rfl rfl dJ5_equals_6 hq
theorem rJ5_equals {G : xG} {fr lo : Nat} {x0 : Nat} {x1 : Nat} {h : xH} {Q : Outcome → xH → Prop} (hq : bJ5_equals G fr lo x0 x1 h Q) : xR G YJ5_equals fr lo [rv x0, rv x1] h Q := by
  show xP _ _ _ _ _ (lv_args 0 _) _ _ _
  rw [show lv_args 0 [rv x0, rv x1] = [(0, rv x0), (1, rv x1)] from (xla1 (rv_cat _) (xla1 (rv_cat _) xla0))]
  exact uJ5_equals hq
