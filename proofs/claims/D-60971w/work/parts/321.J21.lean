/-! java/lang/Integer, walked (1) -/
set_option maxRecDepth 100000 in
theorem dJ21_compareUnsigned_0 : decode cJ21_compareUnsigned 0 = .ok (.iload_n 0, 1) := by decide +kernel
set_option maxRecDepth 100000 in
theorem dJ21_compareUnsigned_1 : decode cJ21_compareUnsigned 1 = .ok (.ldc 127, 2) := by decide +kernel
set_option maxRecDepth 100000 in
theorem dJ21_compareUnsigned_3 : decode cJ21_compareUnsigned 3 = .ok (.iadd, 1) := by decide +kernel
set_option maxRecDepth 100000 in
theorem dJ21_compareUnsigned_4 : decode cJ21_compareUnsigned 4 = .ok (.iload_n 1, 1) := by decide +kernel
set_option maxRecDepth 100000 in
theorem dJ21_compareUnsigned_5 : decode cJ21_compareUnsigned 5 = .ok (.ldc 127, 2) := by decide +kernel
set_option maxRecDepth 100000 in
theorem dJ21_compareUnsigned_7 : decode cJ21_compareUnsigned 7 = .ok (.iadd, 1) := by decide +kernel
set_option maxRecDepth 100000 in
theorem dJ21_compareUnsigned_8 : decode cJ21_compareUnsigned 8 = .ok (.invokestatic 259, 3) := by decide +kernel
set_option maxRecDepth 100000 in
theorem dJ21_compareUnsigned_11 : decode cJ21_compareUnsigned 11 = .ok (.ireturn, 1) := by decide +kernel
set_option maxRecDepth 100000 in
def bJ21_compareUnsigned (G : xG) (fr lo : Nat) (x0 : Int32) (x1 : Int32) (h : xH) (Q : Outcome → xH → Prop) : Prop := 1 ≤ fr ∧ 13 ≤ lo ∧ xRi G YJ21_compare (fr - 1) (lo - 13) [.int (x0 + (-2147483648)), .int (x1 + (-2147483648))] h (fun x4 h3 => xext h h3 → Q (.returned (some (.int x4))) h3) (fun r h2 => Q (.threw r) h2)
set_option maxRecDepth 100000 in
theorem uJ21_compareUnsigned {G : xG} {fr lo : Nat} {x0 : Int32} {x1 : Int32} {h : xH} {Q : Outcome → xH → Prop} (hq : bJ21_compareUnsigned G fr lo x0 x1 h Q) : xP G YJ21_compareUnsigned fr lo 0 [(0, .int x0), (1, .int x1)] [] h Q := by
  unfold bJ21_compareUnsigned at hq
  refine x_iload_n 0 dJ21_compareUnsigned_0 rfl ?_
  refine x_ldc (v := (-2147483648)) q3056 dJ21_compareUnsigned_1 ?_
  refine x_iadd dJ21_compareUnsigned_3 ?_
  refine x_iload_n 1 dJ21_compareUnsigned_4 rfl ?_
  refine x_ldc (v := (-2147483648)) q3056 dJ21_compareUnsigned_5 ?_
  refine x_iadd dJ21_compareUnsigned_7 ?_
  obtain ⟨g1, g2, hq⟩ := hq
  refine x_callS (Yc := YJ21_compare) (as := [.int (x0 + (-2147483648)), .int (x1 + (-2147483648))]) (st := []) q3057 msJ21_compare rfl dJ21_compareUnsigned_8 (xle (xal1 rfl (xal1 rfl xal0)) (by decide)) (xfr g1) (xlo xsw0 (by decide) g2) (xKi hq (fun x4 h3 hq e5 => ?_) (fun _ _ q _ => q))
  replace hq := hq e5
  exact x_iret rfl rfl dJ21_compareUnsigned_11 hq
theorem rJ21_compareUnsigned {G : xG} {fr lo : Nat} {x0 : Int32} {x1 : Int32} {h : xH} {Q : Outcome → xH → Prop} (hq : bJ21_compareUnsigned G fr lo x0 x1 h Q) : xR G YJ21_compareUnsigned fr lo [.int x0, .int x1] h Q := by
  show xP _ _ _ _ _ (lv_args 0 _) _ _ _
  rw [show lv_args 0 [.int x0, .int x1] = [(0, .int x0), (1, .int x1)] from (xla1 rfl (xla1 rfl xla0))]
  exact uJ21_compareUnsigned hq
set_option maxRecDepth 100000 in
theorem dJ21_compare_0 : decode cJ21_compare 0 = .ok (.iload_n 0, 1) := by decide +kernel
set_option maxRecDepth 100000 in
theorem dJ21_compare_1 : decode cJ21_compare 1 = .ok (.iload_n 1, 1) := by decide +kernel
set_option maxRecDepth 100000 in
theorem dJ21_compare_2 : decode cJ21_compare 2 = .ok (.if_icmp .ge 7, 3) := by decide +kernel
set_option maxRecDepth 100000 in
theorem dJ21_compare_5 : decode cJ21_compare 5 = .ok (.iconst (-1), 1) := by decide +kernel
set_option maxRecDepth 100000 in
theorem dJ21_compare_6 : decode cJ21_compare 6 = .ok (.goto 13, 3) := by decide +kernel
set_option maxRecDepth 100000 in
theorem dJ21_compare_9 : decode cJ21_compare 9 = .ok (.iload_n 0, 1) := by decide +kernel
set_option maxRecDepth 100000 in
theorem dJ21_compare_10 : decode cJ21_compare 10 = .ok (.iload_n 1, 1) := by decide +kernel
set_option maxRecDepth 100000 in
theorem dJ21_compare_11 : decode cJ21_compare 11 = .ok (.if_icmp .ne 7, 3) := by decide +kernel
set_option maxRecDepth 100000 in
theorem dJ21_compare_14 : decode cJ21_compare 14 = .ok (.iconst 0, 1) := by decide +kernel
set_option maxRecDepth 100000 in
theorem dJ21_compare_15 : decode cJ21_compare 15 = .ok (.goto 4, 3) := by decide +kernel
set_option maxRecDepth 100000 in
theorem dJ21_compare_18 : decode cJ21_compare 18 = .ok (.iconst 1, 1) := by decide +kernel
set_option maxRecDepth 100000 in
theorem dJ21_compare_19 : decode cJ21_compare 19 = .ok (.ireturn, 1) := by decide +kernel
set_option maxRecDepth 100000 in
def bJ21_compare_19 (G : xG) (fr lo : Nat) (s0 : Int32) (h : xH) (Q : Outcome → xH → Prop) : Prop := Q (.returned (some (.int s0))) h
set_option maxRecDepth 100000 in
theorem uJ21_compare_19 {G : xG} {fr lo : Nat} {s0 : Int32} {h : xH} {Q : Outcome → xH → Prop} (hq : bJ21_compare_19 G fr lo s0 h Q) : xP G YJ21_compare fr lo 19 [] [.int s0] h Q := by
  unfold bJ21_compare_19 at hq
  exact x_iret rfl rfl dJ21_compare_19 hq
set_option maxRecDepth 100000 in
def bJ21_compare (G : xG) (fr lo : Nat) (x0 : Int32) (x1 : Int32) (h : xH) (Q : Outcome → xH → Prop) : Prop := ((x1 ≤ x0 → ((¬ x0 = x1 → bJ21_compare_19 G fr lo 1 h Q) ∧ (x0 = x1 → bJ21_compare_19 G fr lo 0 h Q))) ∧ (¬ x1 ≤ x0 → bJ21_compare_19 G fr lo (-1) h Q))
set_option maxRecDepth 100000 in
theorem uJ21_compare {G : xG} {fr lo : Nat} {x0 : Int32} {x1 : Int32} {h : xH} {Q : Outcome → xH → Prop} (hq : bJ21_compare G fr lo x0 x1 h Q) : xP G YJ21_compare fr lo 0 [(0, .int x0), (1, .int x1)] [] h Q := by
  unfold bJ21_compare at hq
  refine x_iload_n 0 dJ21_compare_0 rfl ?_
  refine x_iload_n 1 dJ21_compare_1 rfl ?_
  refine x_icmp_ge (tgt := 9) dJ21_compare_2 (by decide) (fun c1 => ?_) (fun c1 => ?_)
  · replace hq := hq.1 c1
    refine x_iload_n 0 dJ21_compare_9 rfl ?_
    refine x_iload_n 1 dJ21_compare_10 rfl ?_
    refine x_icmp_ne (tgt := 18) dJ21_compare_11 (by decide) (fun c2 => ?_) (fun c2 => ?_)
    · replace hq := hq.1 c2
      refine x_iconst (v := 1) dJ21_compare_18 (by decide) ?_
      refine xP.pick (lv' := []) [] rfl ?_
      exact uJ21_compare_19 hq
    · replace hq := hq.2 c2
      refine x_iconst (v := 0) dJ21_compare_14 (by decide) ?_
      refine x_goto (tgt := 19) dJ21_compare_15 (by decide) ?_
      refine xP.pick (lv' := []) [] rfl ?_
      exact uJ21_compare_19 hq
  · replace hq := hq.2 c1
    refine x_iconst (v := (-1)) dJ21_compare_5 (by decide) ?_
    refine x_goto (tgt := 19) dJ21_compare_6 (by decide) ?_
    refine xP.pick (lv' := []) [] rfl ?_
    exact uJ21_compare_19 hq
theorem rJ21_compare {G : xG} {fr lo : Nat} {x0 : Int32} {x1 : Int32} {h : xH} {Q : Outcome → xH → Prop} (hq : bJ21_compare G fr lo x0 x1 h Q) : xR G YJ21_compare fr lo [.int x0, .int x1] h Q := by
  show xP _ _ _ _ _ (lv_args 0 _) _ _ _
  rw [show lv_args 0 [.int x0, .int x1] = [(0, .int x0), (1, .int x1)] from (xla1 rfl (xla1 rfl xla0))]
  exact uJ21_compare hq
set_option maxRecDepth 100000 in
theorem dJ21_numberOfLeadingZeros_0 : decode cJ21_numberOfLeadingZeros 0 = .ok (.iload_n 0, 1) := by decide +kernel
set_option maxRecDepth 100000 in
theorem dJ21_numberOfLeadingZeros_1 : decode cJ21_numberOfLeadingZeros 1 = .ok (.ifCond .gt 14, 3) := by decide +kernel
set_option maxRecDepth 100000 in
theorem dJ21_numberOfLeadingZeros_4 : decode cJ21_numberOfLeadingZeros 4 = .ok (.iload_n 0, 1) := by decide +kernel
set_option maxRecDepth 100000 in
theorem dJ21_numberOfLeadingZeros_5 : decode cJ21_numberOfLeadingZeros 5 = .ok (.ifCond .ne 8, 3) := by decide +kernel
set_option maxRecDepth 100000 in
theorem dJ21_numberOfLeadingZeros_8 : decode cJ21_numberOfLeadingZeros 8 = .ok (.bipush 32, 2) := by decide +kernel
set_option maxRecDepth 100000 in
theorem dJ21_numberOfLeadingZeros_10 : decode cJ21_numberOfLeadingZeros 10 = .ok (.goto 4, 3) := by decide +kernel
set_option maxRecDepth 100000 in
theorem dJ21_numberOfLeadingZeros_13 : decode cJ21_numberOfLeadingZeros 13 = .ok (.iconst 0, 1) := by decide +kernel
set_option maxRecDepth 100000 in
theorem dJ21_numberOfLeadingZeros_14 : decode cJ21_numberOfLeadingZeros 14 = .ok (.ireturn, 1) := by decide +kernel
set_option maxRecDepth 100000 in
theorem dJ21_numberOfLeadingZeros_15 : decode cJ21_numberOfLeadingZeros 15 = .ok (.bipush 31, 2) := by decide +kernel
set_option maxRecDepth 100000 in
theorem dJ21_numberOfLeadingZeros_17 : decode cJ21_numberOfLeadingZeros 17 = .ok (.istore_n 1, 1) := by decide +kernel
set_option maxRecDepth 100000 in
theorem dJ21_numberOfLeadingZeros_18 : decode cJ21_numberOfLeadingZeros 18 = .ok (.iload_n 0, 1) := by decide +kernel
set_option maxRecDepth 100000 in
theorem dJ21_numberOfLeadingZeros_19 : decode cJ21_numberOfLeadingZeros 19 = .ok (.ldc_w 264, 3) := by decide +kernel
set_option maxRecDepth 100000 in
theorem dJ21_numberOfLeadingZeros_22 : decode cJ21_numberOfLeadingZeros 22 = .ok (.if_icmp .lt 11, 3) := by decide +kernel
set_option maxRecDepth 100000 in
theorem dJ21_numberOfLeadingZeros_25 : decode cJ21_numberOfLeadingZeros 25 = .ok (.iinc 1 (-16), 3) := by decide +kernel
set_option maxRecDepth 100000 in
theorem dJ21_numberOfLeadingZeros_28 : decode cJ21_numberOfLeadingZeros 28 = .ok (.iload_n 0, 1) := by decide +kernel
set_option maxRecDepth 100000 in
theorem dJ21_numberOfLeadingZeros_29 : decode cJ21_numberOfLeadingZeros 29 = .ok (.bipush 16, 2) := by decide +kernel
set_option maxRecDepth 100000 in
theorem dJ21_numberOfLeadingZeros_31 : decode cJ21_numberOfLeadingZeros 31 = .ok (.iushr, 1) := by decide +kernel
set_option maxRecDepth 100000 in
theorem dJ21_numberOfLeadingZeros_32 : decode cJ21_numberOfLeadingZeros 32 = .ok (.istore_n 0, 1) := by decide +kernel
set_option maxRecDepth 100000 in
theorem dJ21_numberOfLeadingZeros_33 : decode cJ21_numberOfLeadingZeros 33 = .ok (.iload_n 0, 1) := by decide +kernel
set_option maxRecDepth 100000 in
theorem dJ21_numberOfLeadingZeros_34 : decode cJ21_numberOfLeadingZeros 34 = .ok (.sipush 256, 3) := by decide +kernel
set_option maxRecDepth 100000 in
theorem dJ21_numberOfLeadingZeros_37 : decode cJ21_numberOfLeadingZeros 37 = .ok (.if_icmp .lt 11, 3) := by decide +kernel
set_option maxRecDepth 100000 in
theorem dJ21_numberOfLeadingZeros_40 : decode cJ21_numberOfLeadingZeros 40 = .ok (.iinc 1 (-8), 3) := by decide +kernel
set_option maxRecDepth 100000 in
theorem dJ21_numberOfLeadingZeros_43 : decode cJ21_numberOfLeadingZeros 43 = .ok (.iload_n 0, 1) := by decide +kernel
set_option maxRecDepth 100000 in
theorem dJ21_numberOfLeadingZeros_44 : decode cJ21_numberOfLeadingZeros 44 = .ok (.bipush 8, 2) := by decide +kernel
set_option maxRecDepth 100000 in
theorem dJ21_numberOfLeadingZeros_46 : decode cJ21_numberOfLeadingZeros 46 = .ok (.iushr, 1) := by decide +kernel
set_option maxRecDepth 100000 in
theorem dJ21_numberOfLeadingZeros_47 : decode cJ21_numberOfLeadingZeros 47 = .ok (.istore_n 0, 1) := by decide +kernel
set_option maxRecDepth 100000 in
theorem dJ21_numberOfLeadingZeros_48 : decode cJ21_numberOfLeadingZeros 48 = .ok (.iload_n 0, 1) := by decide +kernel
set_option maxRecDepth 100000 in
theorem dJ21_numberOfLeadingZeros_49 : decode cJ21_numberOfLeadingZeros 49 = .ok (.bipush 16, 2) := by decide +kernel
set_option maxRecDepth 100000 in
theorem dJ21_numberOfLeadingZeros_51 : decode cJ21_numberOfLeadingZeros 51 = .ok (.if_icmp .lt 10, 3) := by decide +kernel
set_option maxRecDepth 100000 in
theorem dJ21_numberOfLeadingZeros_54 : decode cJ21_numberOfLeadingZeros 54 = .ok (.iinc 1 (-4), 3) := by decide +kernel
set_option maxRecDepth 100000 in
theorem dJ21_numberOfLeadingZeros_57 : decode cJ21_numberOfLeadingZeros 57 = .ok (.iload_n 0, 1) := by decide +kernel
set_option maxRecDepth 100000 in
theorem dJ21_numberOfLeadingZeros_58 : decode cJ21_numberOfLeadingZeros 58 = .ok (.iconst 4, 1) := by decide +kernel
set_option maxRecDepth 100000 in
theorem dJ21_numberOfLeadingZeros_59 : decode cJ21_numberOfLeadingZeros 59 = .ok (.iushr, 1) := by decide +kernel
set_option maxRecDepth 100000 in
theorem dJ21_numberOfLeadingZeros_60 : decode cJ21_numberOfLeadingZeros 60 = .ok (.istore_n 0, 1) := by decide +kernel
set_option maxRecDepth 100000 in
theorem dJ21_numberOfLeadingZeros_61 : decode cJ21_numberOfLeadingZeros 61 = .ok (.iload_n 0, 1) := by decide +kernel
set_option maxRecDepth 100000 in
theorem dJ21_numberOfLeadingZeros_62 : decode cJ21_numberOfLeadingZeros 62 = .ok (.iconst 4, 1) := by decide +kernel
set_option maxRecDepth 100000 in
theorem dJ21_numberOfLeadingZeros_63 : decode cJ21_numberOfLeadingZeros 63 = .ok (.if_icmp .lt 10, 3) := by decide +kernel
set_option maxRecDepth 100000 in
theorem dJ21_numberOfLeadingZeros_66 : decode cJ21_numberOfLeadingZeros 66 = .ok (.iinc 1 (-2), 3) := by decide +kernel
set_option maxRecDepth 100000 in
theorem dJ21_numberOfLeadingZeros_69 : decode cJ21_numberOfLeadingZeros 69 = .ok (.iload_n 0, 1) := by decide +kernel
set_option maxRecDepth 100000 in
theorem dJ21_numberOfLeadingZeros_70 : decode cJ21_numberOfLeadingZeros 70 = .ok (.iconst 2, 1) := by decide +kernel
set_option maxRecDepth 100000 in
theorem dJ21_numberOfLeadingZeros_71 : decode cJ21_numberOfLeadingZeros 71 = .ok (.iushr, 1) := by decide +kernel
set_option maxRecDepth 100000 in
theorem dJ21_numberOfLeadingZeros_72 : decode cJ21_numberOfLeadingZeros 72 = .ok (.istore_n 0, 1) := by decide +kernel
set_option maxRecDepth 100000 in
theorem dJ21_numberOfLeadingZeros_73 : decode cJ21_numberOfLeadingZeros 73 = .ok (.iload_n 1, 1) := by decide +kernel
set_option maxRecDepth 100000 in
theorem dJ21_numberOfLeadingZeros_74 : decode cJ21_numberOfLeadingZeros 74 = .ok (.iload_n 0, 1) := by decide +kernel
set_option maxRecDepth 100000 in
theorem dJ21_numberOfLeadingZeros_75 : decode cJ21_numberOfLeadingZeros 75 = .ok (.iconst 1, 1) := by decide +kernel
set_option maxRecDepth 100000 in
theorem dJ21_numberOfLeadingZeros_76 : decode cJ21_numberOfLeadingZeros 76 = .ok (.iushr, 1) := by decide +kernel
set_option maxRecDepth 100000 in
theorem dJ21_numberOfLeadingZeros_77 : decode cJ21_numberOfLeadingZeros 77 = .ok (.isub, 1) := by decide +kernel
set_option maxRecDepth 100000 in
theorem dJ21_numberOfLeadingZeros_78 : decode cJ21_numberOfLeadingZeros 78 = .ok (.ireturn, 1) := by decide +kernel
set_option maxRecDepth 100000 in
def bJ21_numberOfLeadingZeros_73 (G : xG) (fr lo : Nat) (x0 : Int32) (x1 : Int32) (h : xH) (Q : Outcome → xH → Prop) : Prop := Q (.returned (some (.int (x1 - ((Int32.toUInt32 x0 >>> (Int32.toUInt32 1 &&& Int32.toUInt32 31)).toInt32))))) h
set_option maxRecDepth 100000 in
theorem uJ21_numberOfLeadingZeros_73 {G : xG} {fr lo : Nat} {x0 : Int32} {x1 : Int32} {h : xH} {Q : Outcome → xH → Prop} (hq : bJ21_numberOfLeadingZeros_73 G fr lo x0 x1 h Q) : xP G YJ21_numberOfLeadingZeros fr lo 73 [(0, .int x0), (1, .int x1)] [] h Q := by
  unfold bJ21_numberOfLeadingZeros_73 at hq
  refine x_iload_n 1 dJ21_numberOfLeadingZeros_73 rfl ?_
  refine x_iload_n 0 dJ21_numberOfLeadingZeros_74 rfl ?_
  refine x_iconst (v := 1) dJ21_numberOfLeadingZeros_75 (by decide) ?_
  refine x_iushr dJ21_numberOfLeadingZeros_76 ?_
  refine x_isub dJ21_numberOfLeadingZeros_77 ?_
  exact x_iret rfl rfl dJ21_numberOfLeadingZeros_78 hq
set_option maxRecDepth 100000 in
def bJ21_numberOfLeadingZeros_61 (G : xG) (fr lo : Nat) (x0 : Int32) (x1 : Int32) (h : xH) (Q : Outcome → xH → Prop) : Prop := ((x0 < 4 → bJ21_numberOfLeadingZeros_73 G fr lo x0 x1 h Q) ∧ (¬ x0 < 4 → bJ21_numberOfLeadingZeros_73 G fr lo ((Int32.toUInt32 x0 >>> (Int32.toUInt32 2 &&& Int32.toUInt32 31)).toInt32) (x1 + (-2)) h Q))
set_option maxRecDepth 100000 in
theorem uJ21_numberOfLeadingZeros_61 {G : xG} {fr lo : Nat} {x0 : Int32} {x1 : Int32} {h : xH} {Q : Outcome → xH → Prop} (hq : bJ21_numberOfLeadingZeros_61 G fr lo x0 x1 h Q) : xP G YJ21_numberOfLeadingZeros fr lo 61 [(0, .int x0), (1, .int x1)] [] h Q := by
  unfold bJ21_numberOfLeadingZeros_61 at hq
  refine x_iload_n 0 dJ21_numberOfLeadingZeros_61 rfl ?_
  refine x_iconst (v := 4) dJ21_numberOfLeadingZeros_62 (by decide) ?_
  refine x_icmp_lt (tgt := 73) dJ21_numberOfLeadingZeros_63 (by decide) (fun c1 => ?_) (fun c1 => ?_)
  · replace hq := hq.1 c1
    exact uJ21_numberOfLeadingZeros_73 hq
  · replace hq := hq.2 c1
    refine x_iinc (lv' := [(1, .int (x1 + (-2))), (0, .int x0)]) 1 dJ21_numberOfLeadingZeros_66 rfl (by decide) rfl ?_
    refine x_iload_n 1 dJ21_numberOfLeadingZeros_69 rfl ?_
    refine x_iconst (v := 2) dJ21_numberOfLeadingZeros_70 (by decide) ?_
    refine x_iushr dJ21_numberOfLeadingZeros_71 ?_
    refine x_istore_n (lv' := [(0, .int ((Int32.toUInt32 x0 >>> (Int32.toUInt32 2 &&& Int32.toUInt32 31)).toInt32)), (1, .int (x1 + (-2)))]) dJ21_numberOfLeadingZeros_72 (by decide) rfl ?_
    exact uJ21_numberOfLeadingZeros_73 hq
set_option maxRecDepth 100000 in
def bJ21_numberOfLeadingZeros_48 (G : xG) (fr lo : Nat) (x0 : Int32) (x1 : Int32) (h : xH) (Q : Outcome → xH → Prop) : Prop := ((x0 < 16 → bJ21_numberOfLeadingZeros_61 G fr lo x0 x1 h Q) ∧ (¬ x0 < 16 → bJ21_numberOfLeadingZeros_61 G fr lo ((Int32.toUInt32 x0 >>> (Int32.toUInt32 4 &&& Int32.toUInt32 31)).toInt32) (x1 + (-4)) h Q))
set_option maxRecDepth 100000 in
theorem uJ21_numberOfLeadingZeros_48 {G : xG} {fr lo : Nat} {x0 : Int32} {x1 : Int32} {h : xH} {Q : Outcome → xH → Prop} (hq : bJ21_numberOfLeadingZeros_48 G fr lo x0 x1 h Q) : xP G YJ21_numberOfLeadingZeros fr lo 48 [(0, .int x0), (1, .int x1)] [] h Q := by
  unfold bJ21_numberOfLeadingZeros_48 at hq
  refine x_iload_n 0 dJ21_numberOfLeadingZeros_48 rfl ?_
  refine x_bipush (v := 16) dJ21_numberOfLeadingZeros_49 (by decide) ?_
  refine x_icmp_lt (tgt := 61) dJ21_numberOfLeadingZeros_51 (by decide) (fun c1 => ?_) (fun c1 => ?_)
  · replace hq := hq.1 c1
    exact uJ21_numberOfLeadingZeros_61 hq
  · replace hq := hq.2 c1
    refine x_iinc (lv' := [(1, .int (x1 + (-4))), (0, .int x0)]) 1 dJ21_numberOfLeadingZeros_54 rfl (by decide) rfl ?_
    refine x_iload_n 1 dJ21_numberOfLeadingZeros_57 rfl ?_
    refine x_iconst (v := 4) dJ21_numberOfLeadingZeros_58 (by decide) ?_
    refine x_iushr dJ21_numberOfLeadingZeros_59 ?_
    refine x_istore_n (lv' := [(0, .int ((Int32.toUInt32 x0 >>> (Int32.toUInt32 4 &&& Int32.toUInt32 31)).toInt32)), (1, .int (x1 + (-4)))]) dJ21_numberOfLeadingZeros_60 (by decide) rfl ?_
    exact uJ21_numberOfLeadingZeros_61 hq
set_option maxRecDepth 100000 in
def bJ21_numberOfLeadingZeros_33 (G : xG) (fr lo : Nat) (x0 : Int32) (x1 : Int32) (h : xH) (Q : Outcome → xH → Prop) : Prop := ((x0 < 256 → bJ21_numberOfLeadingZeros_48 G fr lo x0 x1 h Q) ∧ (¬ x0 < 256 → bJ21_numberOfLeadingZeros_48 G fr lo ((Int32.toUInt32 x0 >>> (Int32.toUInt32 8 &&& Int32.toUInt32 31)).toInt32) (x1 + (-8)) h Q))
set_option maxRecDepth 100000 in
theorem uJ21_numberOfLeadingZeros_33 {G : xG} {fr lo : Nat} {x0 : Int32} {x1 : Int32} {h : xH} {Q : Outcome → xH → Prop} (hq : bJ21_numberOfLeadingZeros_33 G fr lo x0 x1 h Q) : xP G YJ21_numberOfLeadingZeros fr lo 33 [(0, .int x0), (1, .int x1)] [] h Q := by
  unfold bJ21_numberOfLeadingZeros_33 at hq
  refine x_iload_n 0 dJ21_numberOfLeadingZeros_33 rfl ?_
  refine x_sipush (v := 256) dJ21_numberOfLeadingZeros_34 (by decide) ?_
  refine x_icmp_lt (tgt := 48) dJ21_numberOfLeadingZeros_37 (by decide) (fun c1 => ?_) (fun c1 => ?_)
  · replace hq := hq.1 c1
    exact uJ21_numberOfLeadingZeros_48 hq
  · replace hq := hq.2 c1
    refine x_iinc (lv' := [(1, .int (x1 + (-8))), (0, .int x0)]) 1 dJ21_numberOfLeadingZeros_40 rfl (by decide) rfl ?_
    refine x_iload_n 1 dJ21_numberOfLeadingZeros_43 rfl ?_
    refine x_bipush (v := 8) dJ21_numberOfLeadingZeros_44 (by decide) ?_
    refine x_iushr dJ21_numberOfLeadingZeros_46 ?_
    refine x_istore_n (lv' := [(0, .int ((Int32.toUInt32 x0 >>> (Int32.toUInt32 8 &&& Int32.toUInt32 31)).toInt32)), (1, .int (x1 + (-8)))]) dJ21_numberOfLeadingZeros_47 (by decide) rfl ?_
    exact uJ21_numberOfLeadingZeros_48 hq
set_option maxRecDepth 100000 in
def bJ21_numberOfLeadingZeros_14 (G : xG) (fr lo : Nat) (s0 : Int32) (h : xH) (Q : Outcome → xH → Prop) : Prop := Q (.returned (some (.int s0))) h
set_option maxRecDepth 100000 in
theorem uJ21_numberOfLeadingZeros_14 {G : xG} {fr lo : Nat} {s0 : Int32} {h : xH} {Q : Outcome → xH → Prop} (hq : bJ21_numberOfLeadingZeros_14 G fr lo s0 h Q) : xP G YJ21_numberOfLeadingZeros fr lo 14 [] [.int s0] h Q := by
  unfold bJ21_numberOfLeadingZeros_14 at hq
  exact x_iret rfl rfl dJ21_numberOfLeadingZeros_14 hq
set_option maxRecDepth 100000 in
def bJ21_numberOfLeadingZeros (G : xG) (fr lo : Nat) (x0 : Int32) (h : xH) (Q : Outcome → xH → Prop) : Prop := ((0 < x0 → ((x0 < 65536 → bJ21_numberOfLeadingZeros_33 G fr lo x0 31 h Q) ∧ (¬ x0 < 65536 → bJ21_numberOfLeadingZeros_33 G fr lo ((Int32.toUInt32 x0 >>> (Int32.toUInt32 16 &&& Int32.toUInt32 31)).toInt32) (31 + (-16)) h Q))) ∧ (¬ 0 < x0 → ((¬ x0 = 0 → bJ21_numberOfLeadingZeros_14 G fr lo 0 h Q) ∧ (x0 = 0 → bJ21_numberOfLeadingZeros_14 G fr lo 32 h Q))))
set_option maxRecDepth 100000 in
theorem uJ21_numberOfLeadingZeros {G : xG} {fr lo : Nat} {x0 : Int32} {h : xH} {Q : Outcome → xH → Prop} (hq : bJ21_numberOfLeadingZeros G fr lo x0 h Q) : xP G YJ21_numberOfLeadingZeros fr lo 0 [(0, .int x0)] [] h Q := by
  unfold bJ21_numberOfLeadingZeros at hq
  refine x_iload_n 0 dJ21_numberOfLeadingZeros_0 rfl ?_
  refine x_if_gt (tgt := 15) dJ21_numberOfLeadingZeros_1 (by decide) (fun c1 => ?_) (fun c1 => ?_)
  · replace hq := hq.1 c1
    refine x_bipush (v := 31) dJ21_numberOfLeadingZeros_15 (by decide) ?_
    refine x_istore_n (lv' := [(1, .int 31), (0, .int x0)]) dJ21_numberOfLeadingZeros_17 (by decide) rfl ?_
    refine x_iload_n 1 dJ21_numberOfLeadingZeros_18 rfl ?_
    refine x_ldcw (v := 65536) q4597 dJ21_numberOfLeadingZeros_19 ?_
    refine x_icmp_lt (tgt := 33) dJ21_numberOfLeadingZeros_22 (by decide) (fun c2 => ?_) (fun c2 => ?_)
    · replace hq := hq.1 c2
      refine xP.pick (lv' := [(0, .int x0), (1, .int 31)]) [1, 0] rfl ?_
      exact uJ21_numberOfLeadingZeros_33 hq
    · replace hq := hq.2 c2
      refine x_iinc (lv' := [(1, .int (31 + (-16))), (0, .int x0)]) 0 dJ21_numberOfLeadingZeros_25 rfl (by decide) rfl ?_
      refine x_iload_n 1 dJ21_numberOfLeadingZeros_28 rfl ?_
      refine x_bipush (v := 16) dJ21_numberOfLeadingZeros_29 (by decide) ?_
      refine x_iushr dJ21_numberOfLeadingZeros_31 ?_
      refine x_istore_n (lv' := [(0, .int ((Int32.toUInt32 x0 >>> (Int32.toUInt32 16 &&& Int32.toUInt32 31)).toInt32)), (1, .int (31 + (-16)))]) dJ21_numberOfLeadingZeros_32 (by decide) rfl ?_
      exact uJ21_numberOfLeadingZeros_33 hq
  · replace hq := hq.2 c1
    refine x_iload_n 0 dJ21_numberOfLeadingZeros_4 rfl ?_
    refine x_if_ne (tgt := 13) dJ21_numberOfLeadingZeros_5 (by decide) (fun c3 => ?_) (fun c3 => ?_)
    · replace hq := hq.1 c3
      refine x_iconst (v := 0) dJ21_numberOfLeadingZeros_13 (by decide) ?_
      refine xP.pick (lv' := []) [] rfl ?_
      exact uJ21_numberOfLeadingZeros_14 hq
    · replace hq := hq.2 c3
      refine x_bipush (v := 32) dJ21_numberOfLeadingZeros_8 (by decide) ?_
      refine x_goto (tgt := 14) dJ21_numberOfLeadingZeros_10 (by decide) ?_
      refine xP.pick (lv' := []) [] rfl ?_
      exact uJ21_numberOfLeadingZeros_14 hq
theorem rJ21_numberOfLeadingZeros {G : xG} {fr lo : Nat} {x0 : Int32} {h : xH} {Q : Outcome → xH → Prop} (hq : bJ21_numberOfLeadingZeros G fr lo x0 h Q) : xR G YJ21_numberOfLeadingZeros fr lo [.int x0] h Q := by
  show xP _ _ _ _ _ (lv_args 0 _) _ _ _
  rw [show lv_args 0 [.int x0] = [(0, .int x0)] from (xla1 rfl xla0)]
  exact uJ21_numberOfLeadingZeros hq
