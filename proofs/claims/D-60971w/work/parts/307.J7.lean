/-! java/lang/StringLatin1, walked (1) -/
set_option maxRecDepth 100000 in
theorem dJ7_charAt_0 : decode cJ7_charAt 0 = .ok (.iload_n 1, 1) := by decide +kernel
set_option maxRecDepth 100000 in
theorem dJ7_charAt_1 : decode cJ7_charAt 1 = .ok (.aload_n 0, 1) := by decide +kernel
set_option maxRecDepth 100000 in
theorem dJ7_charAt_2 : decode cJ7_charAt 2 = .ok (.arraylength, 1) := by decide +kernel
set_option maxRecDepth 100000 in
theorem dJ7_charAt_3 : decode cJ7_charAt 3 = .ok (.invokestatic 9, 3) := by decide +kernel
set_option maxRecDepth 100000 in
theorem dJ7_charAt_6 : decode cJ7_charAt 6 = .ok (.aload_n 0, 1) := by decide +kernel
set_option maxRecDepth 100000 in
theorem dJ7_charAt_7 : decode cJ7_charAt 7 = .ok (.iload_n 1, 1) := by decide +kernel
set_option maxRecDepth 100000 in
theorem dJ7_charAt_8 : decode cJ7_charAt 8 = .ok (.baload, 1) := by decide +kernel
set_option maxRecDepth 100000 in
theorem dJ7_charAt_9 : decode cJ7_charAt 9 = .ok (.sipush 255, 3) := by decide +kernel
set_option maxRecDepth 100000 in
theorem dJ7_charAt_12 : decode cJ7_charAt 12 = .ok (.iand, 1) := by decide +kernel
set_option maxRecDepth 100000 in
theorem dJ7_charAt_13 : decode cJ7_charAt 13 = .ok (.i2c, 1) := by decide +kernel
set_option maxRecDepth 100000 in
theorem dJ7_charAt_14 : decode cJ7_charAt 14 = .ok (.ireturn, 1) := by decide +kernel
set_option maxRecDepth 100000 in
def bJ7_charAt (G : xG) (fr lo : Nat) (x0 : Nat) (x1 : Int32) (h : xH) (Q : Outcome → xH → Prop) : Prop := tg h x0 = 103 ∧ 1 ≤ fr ∧ 13 ≤ lo ∧ xRv G YJ5_checkIndex (fr - 1) (lo - 13) [.int x1, .int (Int32.ofNat (ln h x0))] h (fun h4 => xext h h4 → vp_in x1 (ln h4 x0) ∧ narrow (.char) (.int ((Int32.toUInt32 ((aI h4 x0 (Int32.toNatClampNeg x1)) &&& 255) % 65536).toInt32)) = .int ((Int32.toUInt32 ((aI h4 x0 (Int32.toNatClampNeg x1)) &&& 255) % 65536).toInt32) ∧ Q (.returned (some (.int ((Int32.toUInt32 ((aI h4 x0 (Int32.toNatClampNeg x1)) &&& 255) % 65536).toInt32)))) h4) (fun r h2 => Q (.threw r) h2)
set_option maxRecDepth 100000 in
theorem uJ7_charAt {G : xG} {fr lo : Nat} {x0 : Nat} {x1 : Int32} {h : xH} {Q : Outcome → xH → Prop} (hq : bJ7_charAt G fr lo x0 x1 h Q) : xP G YJ7_charAt fr lo 0 [(0, rv x0), (1, .int x1)] [] h Q := by
  unfold bJ7_charAt at hq
  refine x_iload_n 1 dJ7_charAt_0 rfl ?_
  refine x_aload_n 0 dJ7_charAt_1 rfl ?_
  obtain ⟨g1, hq⟩ := hq
  refine x_alen 3 g1 (by decide) dJ7_charAt_2 ?_
  obtain ⟨g2, g3, hq⟩ := hq
  refine x_callS (Yc := YJ5_checkIndex) (as := [.int x1, .int (Int32.ofNat (ln h x0))]) (st := []) q800 msJ5_checkIndex rfl dJ7_charAt_3 (xle (xal1 rfl (xal1 rfl xal0)) (by decide)) (xfr g2) (xlo xsw0 (by decide) g3) (xKv hq (fun h4 hq e6 => ?_) (fun _ _ q _ => q))
  replace hq := hq e6
  refine x_aload_n 0 dJ7_charAt_6 rfl ?_
  refine x_iload_n 1 dJ7_charAt_7 rfl ?_
  have t7 : tg h4 x0 = 103 := e6.tg g1 (by decide)
  obtain ⟨i8, hq⟩ := hq
  refine x_bald t7 i8 dJ7_charAt_8 ?_
  refine x_sipush (v := 255) dJ7_charAt_9 (by decide) ?_
  refine x_iand dJ7_charAt_12 ?_
  refine x_i2c dJ7_charAt_13 ?_
  obtain ⟨g9, hq⟩ := hq
  exact x_iret rfl g9 dJ7_charAt_14 hq
theorem rJ7_charAt {G : xG} {fr lo : Nat} {x0 : Nat} {x1 : Int32} {h : xH} {Q : Outcome → xH → Prop} (hq : bJ7_charAt G fr lo x0 x1 h Q) : xR G YJ7_charAt fr lo [rv x0, .int x1] h Q := by
  show xP _ _ _ _ _ (lv_args 0 _) _ _ _
  rw [show lv_args 0 [rv x0, .int x1] = [(0, rv x0), (1, .int x1)] from (xla1 (rv_cat _) (xla1 rfl xla0))]
  exact uJ7_charAt hq
set_option maxRecDepth 100000 in
theorem dJ7_canEncode_0 : decode cJ7_canEncode 0 = .ok (.iload_n 0, 1) := by decide +kernel
set_option maxRecDepth 100000 in
theorem dJ7_canEncode_1 : decode cJ7_canEncode 1 = .ok (.sipush 255, 3) := by decide +kernel
set_option maxRecDepth 100000 in
theorem dJ7_canEncode_4 : decode cJ7_canEncode 4 = .ok (.if_icmp .gt 7, 3) := by decide +kernel
set_option maxRecDepth 100000 in
theorem dJ7_canEncode_7 : decode cJ7_canEncode 7 = .ok (.iconst 1, 1) := by decide +kernel
set_option maxRecDepth 100000 in
theorem dJ7_canEncode_8 : decode cJ7_canEncode 8 = .ok (.goto 4, 3) := by decide +kernel
set_option maxRecDepth 100000 in
theorem dJ7_canEncode_11 : decode cJ7_canEncode 11 = .ok (.iconst 0, 1) := by decide +kernel
set_option maxRecDepth 100000 in
theorem dJ7_canEncode_12 : decode cJ7_canEncode 12 = .ok (.ireturn, 1) := by decide +kernel
set_option maxRecDepth 100000 in
def bJ7_canEncode_12 (G : xG) (fr lo : Nat) (s0 : Int32) (h : xH) (Q : Outcome → xH → Prop) : Prop := xbz s0 ∧ Q (.returned (some (.int s0))) h
set_option maxRecDepth 100000 in
theorem uJ7_canEncode_12 {G : xG} {fr lo : Nat} {s0 : Int32} {h : xH} {Q : Outcome → xH → Prop} (hq : bJ7_canEncode_12 G fr lo s0 h Q) : xP G YJ7_canEncode fr lo 12 [] [.int s0] h Q := by
  unfold bJ7_canEncode_12 at hq
  obtain ⟨g1, hq⟩ := hq
  exact x_iret rfl (xnZ g1) dJ7_canEncode_12 hq
set_option maxRecDepth 100000 in
def bJ7_canEncode (G : xG) (fr lo : Nat) (x0 : Int32) (h : xH) (Q : Outcome → xH → Prop) : Prop := ((255 < x0 → bJ7_canEncode_12 G fr lo 0 h Q) ∧ (¬ 255 < x0 → bJ7_canEncode_12 G fr lo 1 h Q))
set_option maxRecDepth 100000 in
theorem uJ7_canEncode {G : xG} {fr lo : Nat} {x0 : Int32} {h : xH} {Q : Outcome → xH → Prop} (hq : bJ7_canEncode G fr lo x0 h Q) : xP G YJ7_canEncode fr lo 0 [(0, .int x0)] [] h Q := by
  unfold bJ7_canEncode at hq
  refine x_iload_n 0 dJ7_canEncode_0 rfl ?_
  refine x_sipush (v := 255) dJ7_canEncode_1 (by decide) ?_
  refine x_icmp_gt (tgt := 11) dJ7_canEncode_4 (by decide) (fun c1 => ?_) (fun c1 => ?_)
  · replace hq := hq.1 c1
    refine x_iconst (v := 0) dJ7_canEncode_11 (by decide) ?_
    refine xP.pick (lv' := []) [] rfl ?_
    exact uJ7_canEncode_12 hq
  · replace hq := hq.2 c1
    refine x_iconst (v := 1) dJ7_canEncode_7 (by decide) ?_
    refine x_goto (tgt := 12) dJ7_canEncode_8 (by decide) ?_
    refine xP.pick (lv' := []) [] rfl ?_
    exact uJ7_canEncode_12 hq
theorem rJ7_canEncode {G : xG} {fr lo : Nat} {x0 : Int32} {h : xH} {Q : Outcome → xH → Prop} (hq : bJ7_canEncode G fr lo x0 h Q) : xR G YJ7_canEncode fr lo [.int x0] h Q := by
  show xP _ _ _ _ _ (lv_args 0 _) _ _ _
  rw [show lv_args 0 [.int x0] = [(0, .int x0)] from (xla1 rfl xla0)]
  exact uJ7_canEncode hq
set_option maxRecDepth 100000 in
theorem dJ7_inflate_0 : decode cJ7_inflate 0 = .ok (.aload_n 0, 1) := by decide +kernel
set_option maxRecDepth 100000 in
theorem dJ7_inflate_1 : decode cJ7_inflate 1 = .ok (.iload_n 1, 1) := by decide +kernel
set_option maxRecDepth 100000 in
theorem dJ7_inflate_2 : decode cJ7_inflate 2 = .ok (.aload_n 2, 1) := by decide +kernel
set_option maxRecDepth 100000 in
theorem dJ7_inflate_3 : decode cJ7_inflate 3 = .ok (.iload_n 3, 1) := by decide +kernel
set_option maxRecDepth 100000 in
theorem dJ7_inflate_4 : decode cJ7_inflate 4 = .ok (.iload 4, 2) := by decide +kernel
set_option maxRecDepth 100000 in
theorem dJ7_inflate_6 : decode cJ7_inflate 6 = .ok (.invokestatic 240, 3) := by decide +kernel
set_option maxRecDepth 100000 in
theorem dJ7_inflate_9 : decode cJ7_inflate 9 = .ok (.return_, 1) := by decide +kernel
set_option maxRecDepth 100000 in
def bJ7_inflate (G : xG) (fr lo : Nat) (x0 : Nat) (x1 : Int32) (x2 : Nat) (x3 : Int32) (x4 : Int32) (h : xH) (Q : Outcome → xH → Prop) : Prop := 1 ≤ fr ∧ 17 ≤ lo ∧ xRv G YJ6_inflate (fr - 1) (lo - 17) [rv x0, .int x1, rv x2, .int x3, .int x4] h (fun h3 => xext h h3 → Q (.returned none) h3) (fun r h2 => Q (.threw r) h2)
set_option maxRecDepth 100000 in
theorem uJ7_inflate {G : xG} {fr lo : Nat} {x0 : Nat} {x1 : Int32} {x2 : Nat} {x3 : Int32} {x4 : Int32} {h : xH} {Q : Outcome → xH → Prop} (hq : bJ7_inflate G fr lo x0 x1 x2 x3 x4 h Q) : xP G YJ7_inflate fr lo 0 [(0, rv x0), (1, .int x1), (2, rv x2), (3, .int x3), (4, .int x4)] [] h Q := by
  unfold bJ7_inflate at hq
  refine x_aload_n 0 dJ7_inflate_0 rfl ?_
  refine x_iload_n 1 dJ7_inflate_1 rfl ?_
  refine x_aload_n 2 dJ7_inflate_2 rfl ?_
  refine x_iload_n 3 dJ7_inflate_3 rfl ?_
  refine x_iload 4 dJ7_inflate_4 rfl ?_
  obtain ⟨g1, g2, hq⟩ := hq
  refine x_callS (Yc := YJ6_inflate) (as := [rv x0, .int x1, rv x2, .int x3, .int x4]) (st := []) q884 msJ6_inflate rfl dJ7_inflate_6 (xle (xal1 (rv_cat _) (xal1 rfl (xal1 (rv_cat _) (xal1 rfl (xal1 rfl xal0))))) (by decide)) (xfr g1) (xlo xsw0 (by decide) g2) (xKv hq (fun h3 hq e5 => ?_) (fun _ _ q _ => q))
  replace hq := hq e5
  exact x_vret rfl dJ7_inflate_9 hq
theorem rJ7_inflate {G : xG} {fr lo : Nat} {x0 : Nat} {x1 : Int32} {x2 : Nat} {x3 : Int32} {x4 : Int32} {h : xH} {Q : Outcome → xH → Prop} (hq : bJ7_inflate G fr lo x0 x1 x2 x3 x4 h Q) : xR G YJ7_inflate fr lo [rv x0, .int x1, rv x2, .int x3, .int x4] h Q := by
  show xP _ _ _ _ _ (lv_args 0 _) _ _ _
  rw [show lv_args 0 [rv x0, .int x1, rv x2, .int x3, .int x4] = [(0, rv x0), (1, .int x1), (2, rv x2), (3, .int x3), (4, .int x4)] from (xla1 (rv_cat _) (xla1 rfl (xla1 (rv_cat _) (xla1 rfl (xla1 rfl xla0)))))]
  exact uJ7_inflate hq
set_option maxRecDepth 100000 in
theorem dJ7_fillNull_0 : decode cJ7_fillNull 0 = .ok (.aload_n 0, 1) := by decide +kernel
set_option maxRecDepth 100000 in
theorem dJ7_fillNull_1 : decode cJ7_fillNull 1 = .ok (.iload_n 1, 1) := by decide +kernel
set_option maxRecDepth 100000 in
theorem dJ7_fillNull_2 : decode cJ7_fillNull 2 = .ok (.iload_n 2, 1) := by decide +kernel
set_option maxRecDepth 100000 in
theorem dJ7_fillNull_3 : decode cJ7_fillNull 3 = .ok (.iconst 0, 1) := by decide +kernel
set_option maxRecDepth 100000 in
theorem dJ7_fillNull_4 : decode cJ7_fillNull 4 = .ok (.invokestatic 236, 3) := by decide +kernel
set_option maxRecDepth 100000 in
theorem dJ7_fillNull_7 : decode cJ7_fillNull 7 = .ok (.return_, 1) := by decide +kernel
set_option maxRecDepth 100000 in
def bJ7_fillNull (G : xG) (fr lo : Nat) (x0 : Nat) (x1 : Int32) (x2 : Int32) (h : xH) (Q : Outcome → xH → Prop) : Prop := 1 ≤ fr ∧ 16 ≤ lo ∧ xRv G YJ11_fill (fr - 1) (lo - 16) [rv x0, .int x1, .int x2, .int 0] h (fun h3 => xext h h3 → Q (.returned none) h3) (fun r h2 => Q (.threw r) h2)
set_option maxRecDepth 100000 in
theorem uJ7_fillNull {G : xG} {fr lo : Nat} {x0 : Nat} {x1 : Int32} {x2 : Int32} {h : xH} {Q : Outcome → xH → Prop} (hq : bJ7_fillNull G fr lo x0 x1 x2 h Q) : xP G YJ7_fillNull fr lo 0 [(0, rv x0), (1, .int x1), (2, .int x2)] [] h Q := by
  unfold bJ7_fillNull at hq
  refine x_aload_n 0 dJ7_fillNull_0 rfl ?_
  refine x_iload_n 1 dJ7_fillNull_1 rfl ?_
  refine x_iload_n 2 dJ7_fillNull_2 rfl ?_
  refine x_iconst (v := 0) dJ7_fillNull_3 (by decide) ?_
  obtain ⟨g1, g2, hq⟩ := hq
  refine x_callS (Yc := YJ11_fill) (as := [rv x0, .int x1, .int x2, .int 0]) (st := []) q1084 msJ11_fill rfl dJ7_fillNull_4 (xle (xal1 (rv_cat _) (xal1 rfl (xal1 rfl (xal1 rfl xal0)))) (by decide)) (xfr g1) (xlo xsw0 (by decide) g2) (xKv hq (fun h3 hq e5 => ?_) (fun _ _ q _ => q))
  replace hq := hq e5
  exact x_vret rfl dJ7_fillNull_7 hq
theorem rJ7_fillNull {G : xG} {fr lo : Nat} {x0 : Nat} {x1 : Int32} {x2 : Int32} {h : xH} {Q : Outcome → xH → Prop} (hq : bJ7_fillNull G fr lo x0 x1 x2 h Q) : xR G YJ7_fillNull fr lo [rv x0, .int x1, .int x2] h Q := by
  show xP _ _ _ _ _ (lv_args 0 _) _ _ _
  rw [show lv_args 0 [rv x0, .int x1, .int x2] = [(0, rv x0), (1, .int x1), (2, .int x2)] from (xla1 (rv_cat _) (xla1 rfl (xla1 rfl xla0)))]
  exact uJ7_fillNull hq
set_option maxRecDepth 100000 in
theorem dJ7_equals_0 : decode cJ7_equals 0 = .ok (.aload_n 0, 1) := by decide +kernel
set_option maxRecDepth 100000 in
theorem dJ7_equals_1 : decode cJ7_equals 1 = .ok (.arraylength, 1) := by decide +kernel
set_option maxRecDepth 100000 in
theorem dJ7_equals_2 : decode cJ7_equals 2 = .ok (.aload_n 1, 1) := by decide +kernel
set_option maxRecDepth 100000 in
theorem dJ7_equals_3 : decode cJ7_equals 3 = .ok (.arraylength, 1) := by decide +kernel
set_option maxRecDepth 100000 in
theorem dJ7_equals_4 : decode cJ7_equals 4 = .ok (.if_icmp .ne 30, 3) := by decide +kernel
set_option maxRecDepth 100000 in
theorem dJ7_equals_7 : decode cJ7_equals 7 = .ok (.iconst 0, 1) := by decide +kernel
set_option maxRecDepth 100000 in
theorem dJ7_equals_8 : decode cJ7_equals 8 = .ok (.istore_n 2, 1) := by decide +kernel
set_option maxRecDepth 100000 in
theorem dJ7_equals_9 : decode cJ7_equals 9 = .ok (.iload_n 2, 1) := by decide +kernel
set_option maxRecDepth 100000 in
theorem dJ7_equals_10 : decode cJ7_equals 10 = .ok (.aload_n 0, 1) := by decide +kernel
set_option maxRecDepth 100000 in
theorem dJ7_equals_11 : decode cJ7_equals 11 = .ok (.arraylength, 1) := by decide +kernel
set_option maxRecDepth 100000 in
theorem dJ7_equals_12 : decode cJ7_equals 12 = .ok (.if_icmp .ge 20, 3) := by decide +kernel
set_option maxRecDepth 100000 in
theorem dJ7_equals_15 : decode cJ7_equals 15 = .ok (.aload_n 0, 1) := by decide +kernel
set_option maxRecDepth 100000 in
theorem dJ7_equals_16 : decode cJ7_equals 16 = .ok (.iload_n 2, 1) := by decide +kernel
set_option maxRecDepth 100000 in
theorem dJ7_equals_17 : decode cJ7_equals 17 = .ok (.baload, 1) := by decide +kernel
set_option maxRecDepth 100000 in
theorem dJ7_equals_18 : decode cJ7_equals 18 = .ok (.aload_n 1, 1) := by decide +kernel
set_option maxRecDepth 100000 in
theorem dJ7_equals_19 : decode cJ7_equals 19 = .ok (.iload_n 2, 1) := by decide +kernel
set_option maxRecDepth 100000 in
theorem dJ7_equals_20 : decode cJ7_equals 20 = .ok (.baload, 1) := by decide +kernel
set_option maxRecDepth 100000 in
theorem dJ7_equals_21 : decode cJ7_equals 21 = .ok (.if_icmp .eq 5, 3) := by decide +kernel
set_option maxRecDepth 100000 in
theorem dJ7_equals_24 : decode cJ7_equals 24 = .ok (.iconst 0, 1) := by decide +kernel
set_option maxRecDepth 100000 in
theorem dJ7_equals_25 : decode cJ7_equals 25 = .ok (.ireturn, 1) := by decide +kernel
set_option maxRecDepth 100000 in
theorem dJ7_equals_26 : decode cJ7_equals 26 = .ok (.iinc 2 1, 3) := by decide +kernel
set_option maxRecDepth 100000 in
theorem dJ7_equals_29 : decode cJ7_equals 29 = .ok (.goto (-20), 3) := by decide +kernel
set_option maxRecDepth 100000 in
theorem dJ7_equals_32 : decode cJ7_equals 32 = .ok (.iconst 1, 1) := by decide +kernel
set_option maxRecDepth 100000 in
theorem dJ7_equals_33 : decode cJ7_equals 33 = .ok (.ireturn, 1) := by decide +kernel
set_option maxRecDepth 100000 in
theorem dJ7_equals_34 : decode cJ7_equals 34 = .ok (.iconst 0, 1) := by decide +kernel
set_option maxRecDepth 100000 in
theorem dJ7_equals_35 : decode cJ7_equals 35 = .ok (.ireturn, 1) := by decide +kernel
def lJ7_equals_9 (G : xG) (fr lo : Nat) (x0 : Nat) (x1 : Nat) (x2 : Int32) (h : xH) (Q : Outcome → xH → Prop) : Prop := xP G YJ7_equals fr lo 9 [(0, rv x0), (1, rv x1), (2, .int x2)] [] h Q
set_option maxRecDepth 100000 in
def bJ7_equals_9 (G : xG) (fr lo : Nat) (x0 : Nat) (x1 : Nat) (x2 : Int32) (h : xH) (Q : Outcome → xH → Prop) : Prop := tg h x0 = 103 ∧ (((Int32.ofNat (ln h x0)) ≤ x2 → Q (.returned (some (.int 1))) h) ∧ (¬ (Int32.ofNat (ln h x0)) ≤ x2 → vp_in x2 (ln h x0) ∧ tg h x1 = 103 ∧ vp_in x2 (ln h x1) ∧ (((aI h x0 (Int32.toNatClampNeg x2)) = (aI h x1 (Int32.toNatClampNeg x2)) → lJ7_equals_9 G fr lo x0 x1 (x2 + 1) h Q) ∧ (¬ (aI h x0 (Int32.toNatClampNeg x2)) = (aI h x1 (Int32.toNatClampNeg x2)) → Q (.returned (some (.int 0))) h))))
set_option maxRecDepth 100000 in
theorem uJ7_equals_9 {G : xG} {fr lo : Nat} {x0 : Nat} {x1 : Nat} {x2 : Int32} {h : xH} {Q : Outcome → xH → Prop} (hq : bJ7_equals_9 G fr lo x0 x1 x2 h Q) : xP G YJ7_equals fr lo 9 [(0, rv x0), (1, rv x1), (2, .int x2)] [] h Q := by
  unfold bJ7_equals_9 at hq
  refine x_iload_n 2 dJ7_equals_9 rfl ?_
  refine x_aload_n 0 dJ7_equals_10 rfl ?_
  obtain ⟨g1, hq⟩ := hq
  refine x_alen 3 g1 (by decide) dJ7_equals_11 ?_
  refine x_icmp_ge (tgt := 32) dJ7_equals_12 (by decide) (fun c2 => ?_) (fun c2 => ?_)
  · replace hq := hq.1 c2
    refine x_iconst (v := 1) dJ7_equals_32 (by decide) ?_
    exact x_iret rfl rfl dJ7_equals_33 hq
  · replace hq := hq.2 c2
    refine x_aload_n 0 dJ7_equals_15 rfl ?_
    refine x_iload_n 2 dJ7_equals_16 rfl ?_
    obtain ⟨i3, hq⟩ := hq
    refine x_bald g1 i3 dJ7_equals_17 ?_
    refine x_aload_n 1 dJ7_equals_18 rfl ?_
    refine x_iload_n 2 dJ7_equals_19 rfl ?_
    obtain ⟨g4, hq⟩ := hq
    obtain ⟨i5, hq⟩ := hq
    refine x_bald g4 i5 dJ7_equals_20 ?_
    refine x_icmp_eq (tgt := 26) dJ7_equals_21 (by decide) (fun c6 => ?_) (fun c6 => ?_)
    · replace hq := hq.1 c6
      refine x_iinc (lv' := [(2, .int (x2 + 1)), (0, rv x0), (1, rv x1)]) 2 dJ7_equals_26 rfl (by decide) (by first | rfl | (simp [rv_cat, Value.category]; done) | (simp [rv_cat, Value.category]; decide)) ?_
      refine x_goto (tgt := 9) dJ7_equals_29 (by decide) ?_
      refine xP.pick (lv' := [(0, rv x0), (1, rv x1), (2, .int (x2 + 1))]) [1, 2, 0] rfl ?_
      exact hq
    · replace hq := hq.2 c6
      refine x_iconst (v := 0) dJ7_equals_24 (by decide) ?_
      exact x_iret rfl rfl dJ7_equals_25 hq
set_option maxRecDepth 100000 in
def bJ7_equals (G : xG) (fr lo : Nat) (x0 : Nat) (x1 : Nat) (h : xH) (Q : Outcome → xH → Prop) : Prop := tg h x0 = 103 ∧ tg h x1 = 103 ∧ ((¬ (Int32.ofNat (ln h x0)) = (Int32.ofNat (ln h x1)) → Q (.returned (some (.int 0))) h) ∧ ((Int32.ofNat (ln h x0)) = (Int32.ofNat (ln h x1)) → lJ7_equals_9 G fr lo x0 x1 0 h Q))
set_option maxRecDepth 100000 in
theorem uJ7_equals {G : xG} {fr lo : Nat} {x0 : Nat} {x1 : Nat} {h : xH} {Q : Outcome → xH → Prop} (hq : bJ7_equals G fr lo x0 x1 h Q) : xP G YJ7_equals fr lo 0 [(0, rv x0), (1, rv x1)] [] h Q := by
  unfold bJ7_equals at hq
  refine x_aload_n 0 dJ7_equals_0 rfl ?_
  obtain ⟨g1, hq⟩ := hq
  refine x_alen 3 g1 (by decide) dJ7_equals_1 ?_
  refine x_aload_n 1 dJ7_equals_2 rfl ?_
  obtain ⟨g2, hq⟩ := hq
  refine x_alen 3 g2 (by decide) dJ7_equals_3 ?_
  refine x_icmp_ne (tgt := 34) dJ7_equals_4 (by decide) (fun c3 => ?_) (fun c3 => ?_)
  · replace hq := hq.1 c3
    refine x_iconst (v := 0) dJ7_equals_34 (by decide) ?_
    exact x_iret rfl rfl dJ7_equals_35 hq
  · replace hq := hq.2 c3
    refine x_iconst (v := 0) dJ7_equals_7 (by decide) ?_
    refine x_istore_n (lv' := [(2, .int 0), (0, rv x0), (1, rv x1)]) dJ7_equals_8 (by decide) (by first | rfl | (simp [rv_cat, Value.category]; done) | (simp [rv_cat, Value.category]; decide)) ?_
    refine xP.pick (lv' := [(0, rv x0), (1, rv x1), (2, .int 0)]) [1, 2, 0] rfl ?_
    exact hq
theorem rJ7_equals {G : xG} {fr lo : Nat} {x0 : Nat} {x1 : Nat} {h : xH} {Q : Outcome → xH → Prop} (hq : bJ7_equals G fr lo x0 x1 h Q) : xR G YJ7_equals fr lo [rv x0, rv x1] h Q := by
  show xP _ _ _ _ _ (lv_args 0 _) _ _ _
  rw [show lv_args 0 [rv x0, rv x1] = [(0, rv x0), (1, rv x1)] from (xla1 (rv_cat _) (xla1 (rv_cat _) xla0))]
  exact uJ7_equals hq
