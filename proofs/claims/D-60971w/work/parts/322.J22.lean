/-! java/lang/Long, walked (1) -/
set_option maxRecDepth 100000 in
theorem dJ22_numberOfLeadingZeros_0 : decode cJ22_numberOfLeadingZeros 0 = .ok (.lload_n 0, 1) := by decide +kernel
set_option maxRecDepth 100000 in
theorem dJ22_numberOfLeadingZeros_1 : decode cJ22_numberOfLeadingZeros 1 = .ok (.bipush 32, 2) := by decide +kernel
set_option maxRecDepth 100000 in
theorem dJ22_numberOfLeadingZeros_3 : decode cJ22_numberOfLeadingZeros 3 = .ok (.lushr, 1) := by decide +kernel
set_option maxRecDepth 100000 in
theorem dJ22_numberOfLeadingZeros_4 : decode cJ22_numberOfLeadingZeros 4 = .ok (.l2i, 1) := by decide +kernel
set_option maxRecDepth 100000 in
theorem dJ22_numberOfLeadingZeros_5 : decode cJ22_numberOfLeadingZeros 5 = .ok (.istore_n 2, 1) := by decide +kernel
set_option maxRecDepth 100000 in
theorem dJ22_numberOfLeadingZeros_6 : decode cJ22_numberOfLeadingZeros 6 = .ok (.iload_n 2, 1) := by decide +kernel
set_option maxRecDepth 100000 in
theorem dJ22_numberOfLeadingZeros_7 : decode cJ22_numberOfLeadingZeros 7 = .ok (.ifCond .ne 14, 3) := by decide +kernel
set_option maxRecDepth 100000 in
theorem dJ22_numberOfLeadingZeros_10 : decode cJ22_numberOfLeadingZeros 10 = .ok (.bipush 32, 2) := by decide +kernel
set_option maxRecDepth 100000 in
theorem dJ22_numberOfLeadingZeros_12 : decode cJ22_numberOfLeadingZeros 12 = .ok (.lload_n 0, 1) := by decide +kernel
set_option maxRecDepth 100000 in
theorem dJ22_numberOfLeadingZeros_13 : decode cJ22_numberOfLeadingZeros 13 = .ok (.l2i, 1) := by decide +kernel
set_option maxRecDepth 100000 in
theorem dJ22_numberOfLeadingZeros_14 : decode cJ22_numberOfLeadingZeros 14 = .ok (.invokestatic 308, 3) := by decide +kernel
set_option maxRecDepth 100000 in
theorem dJ22_numberOfLeadingZeros_17 : decode cJ22_numberOfLeadingZeros 17 = .ok (.iadd, 1) := by decide +kernel
set_option maxRecDepth 100000 in
theorem dJ22_numberOfLeadingZeros_18 : decode cJ22_numberOfLeadingZeros 18 = .ok (.goto 7, 3) := by decide +kernel
set_option maxRecDepth 100000 in
theorem dJ22_numberOfLeadingZeros_21 : decode cJ22_numberOfLeadingZeros 21 = .ok (.iload_n 2, 1) := by decide +kernel
set_option maxRecDepth 100000 in
theorem dJ22_numberOfLeadingZeros_22 : decode cJ22_numberOfLeadingZeros 22 = .ok (.invokestatic 308, 3) := by decide +kernel
set_option maxRecDepth 100000 in
theorem dJ22_numberOfLeadingZeros_25 : decode cJ22_numberOfLeadingZeros 25 = .ok (.ireturn, 1) := by decide +kernel
set_option maxRecDepth 100000 in
def bJ22_numberOfLeadingZeros_25 (G : xG) (fr lo : Nat) (s0 : Int32) (h : xH) (Q : Outcome → xH → Prop) : Prop := Q (.returned (some (.int s0))) h
set_option maxRecDepth 100000 in
theorem uJ22_numberOfLeadingZeros_25 {G : xG} {fr lo : Nat} {s0 : Int32} {h : xH} {Q : Outcome → xH → Prop} (hq : bJ22_numberOfLeadingZeros_25 G fr lo s0 h Q) : xP G YJ22_numberOfLeadingZeros fr lo 25 [] [.int s0] h Q := by
  unfold bJ22_numberOfLeadingZeros_25 at hq
  exact x_iret rfl rfl dJ22_numberOfLeadingZeros_25 hq
set_option maxRecDepth 100000 in
def bJ22_numberOfLeadingZeros (G : xG) (fr lo : Nat) (x0 : Int64) (h : xH) (Q : Outcome → xH → Prop) : Prop := ((¬ (Int64.toInt32 ((Int64.toUInt64 x0 >>> (Int64.toUInt64 (Int32.toInt64 32) &&& Int64.toUInt64 63)).toInt64)) = 0 → 1 ≤ fr ∧ 13 ≤ lo ∧ xRi G YJ21_numberOfLeadingZeros (fr - 1) (lo - 13) [.int (Int64.toInt32 ((Int64.toUInt64 x0 >>> (Int64.toUInt64 (Int32.toInt64 32) &&& Int64.toUInt64 63)).toInt64))] h (fun x5 h4 => xext h h4 → bJ22_numberOfLeadingZeros_25 G fr lo x5 h4 Q) (fun r h2 => Q (.threw r) h2)) ∧ ((Int64.toInt32 ((Int64.toUInt64 x0 >>> (Int64.toUInt64 (Int32.toInt64 32) &&& Int64.toUInt64 63)).toInt64)) = 0 → 1 ≤ fr ∧ 14 ≤ lo ∧ xRi G YJ21_numberOfLeadingZeros (fr - 1) (lo - 14) [.int (Int64.toInt32 x0)] h (fun x10 h9 => xext h h9 → bJ22_numberOfLeadingZeros_25 G fr lo (32 + x10) h9 Q) (fun r h2 => Q (.threw r) h2)))
set_option maxRecDepth 100000 in
theorem uJ22_numberOfLeadingZeros {G : xG} {fr lo : Nat} {x0 : Int64} {h : xH} {Q : Outcome → xH → Prop} (hq : bJ22_numberOfLeadingZeros G fr lo x0 h Q) : xP G YJ22_numberOfLeadingZeros fr lo 0 [(0, .long x0)] [] h Q := by
  unfold bJ22_numberOfLeadingZeros at hq
  refine x_lload_n 0 dJ22_numberOfLeadingZeros_0 rfl ?_
  refine x_bipush (v := 32) dJ22_numberOfLeadingZeros_1 (by decide) ?_
  refine x_lushr dJ22_numberOfLeadingZeros_3 ?_
  refine x_l2i dJ22_numberOfLeadingZeros_4 ?_
  refine x_istore_n (lv' := [(2, .int (Int64.toInt32 ((Int64.toUInt64 x0 >>> (Int64.toUInt64 (Int32.toInt64 32) &&& Int64.toUInt64 63)).toInt64))), (0, .long x0)]) dJ22_numberOfLeadingZeros_5 (by decide) rfl ?_
  refine x_iload_n 0 dJ22_numberOfLeadingZeros_6 rfl ?_
  refine x_if_ne (tgt := 21) dJ22_numberOfLeadingZeros_7 (by decide) (fun c1 => ?_) (fun c1 => ?_)
  · replace hq := hq.1 c1
    refine x_iload_n 0 dJ22_numberOfLeadingZeros_21 rfl ?_
    obtain ⟨g2, g3, hq⟩ := hq
    refine x_callS (Yc := YJ21_numberOfLeadingZeros) (as := [.int (Int64.toInt32 ((Int64.toUInt64 x0 >>> (Int64.toUInt64 (Int32.toInt64 32) &&& Int64.toUInt64 63)).toInt64))]) (st := []) q4594 msJ21_numberOfLeadingZeros rfl dJ22_numberOfLeadingZeros_22 (xle (xal1 rfl xal0) (by decide)) (xfr g2) (xlo xsw0 (by decide) g3) (xKi hq (fun x5 h4 hq e6 => ?_) (fun _ _ q _ => q))
    replace hq := hq e6
    refine xP.pick (lv' := []) [] rfl ?_
    exact uJ22_numberOfLeadingZeros_25 hq
  · replace hq := hq.2 c1
    refine x_bipush (v := 32) dJ22_numberOfLeadingZeros_10 (by decide) ?_
    refine x_lload_n 1 dJ22_numberOfLeadingZeros_12 rfl ?_
    refine x_l2i dJ22_numberOfLeadingZeros_13 ?_
    obtain ⟨g7, g8, hq⟩ := hq
    refine x_callS (Yc := YJ21_numberOfLeadingZeros) (as := [.int (Int64.toInt32 x0)]) (st := [.int 32]) q4594 msJ21_numberOfLeadingZeros rfl dJ22_numberOfLeadingZeros_14 (xle (xal1 rfl xal0) (by decide)) (xfr g7) (xlo (xsw1 rfl xsw0) (by decide) g8) (xKi hq (fun x10 h9 hq e11 => ?_) (fun _ _ q _ => q))
    replace hq := hq e11
    refine x_iadd dJ22_numberOfLeadingZeros_17 ?_
    refine x_goto (tgt := 25) dJ22_numberOfLeadingZeros_18 (by decide) ?_
    refine xP.pick (lv' := []) [] rfl ?_
    exact uJ22_numberOfLeadingZeros_25 hq
theorem rJ22_numberOfLeadingZeros {G : xG} {fr lo : Nat} {x0 : Int64} {h : xH} {Q : Outcome → xH → Prop} (hq : bJ22_numberOfLeadingZeros G fr lo x0 h Q) : xR G YJ22_numberOfLeadingZeros fr lo [.long x0] h Q := by
  show xP _ _ _ _ _ (lv_args 0 _) _ _ _
  rw [show lv_args 0 [.long x0] = [(0, .long x0)] from (xla2 rfl xla0)]
  exact uJ22_numberOfLeadingZeros hq
