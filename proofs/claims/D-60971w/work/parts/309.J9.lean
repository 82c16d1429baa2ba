/-! jdk/internal/util/ArraysSupport, walked (1) -/
set_option maxRecDepth 100000 in
theorem dJ9_newLength_0 : decode cJ9_newLength 0 = .ok (.iload_n 0, 1) := by decide +kernel
set_option maxRecDepth 100000 in
theorem dJ9_newLength_1 : decode cJ9_newLength 1 = .ok (.iload_n 1, 1) := by decide +kernel
set_option maxRecDepth 100000 in
theorem dJ9_newLength_2 : decode cJ9_newLength 2 = .ok (.iload_n 2, 1) := by decide +kernel
set_option maxRecDepth 100000 in
theorem dJ9_newLength_3 : decode cJ9_newLength 3 = .ok (.invokestatic 194, 3) := by decide +kernel
set_option maxRecDepth 100000 in
theorem dJ9_newLength_6 : decode cJ9_newLength 6 = .ok (.iadd, 1) := by decide +kernel
set_option maxRecDepth 100000 in
theorem dJ9_newLength_7 : decode cJ9_newLength 7 = .ok (.istore_n 3, 1) := by decide +kernel
set_option maxRecDepth 100000 in
theorem dJ9_newLength_8 : decode cJ9_newLength 8 = .ok (.iconst 0, 1) := by decide +kernel
set_option maxRecDepth 100000 in
theorem dJ9_newLength_9 : decode cJ9_newLength 9 = .ok (.iload_n 3, 1) := by decide +kernel
set_option maxRecDepth 100000 in
theorem dJ9_newLength_10 : decode cJ9_newLength 10 = .ok (.if_icmp .ge 11, 3) := by decide +kernel
set_option maxRecDepth 100000 in
theorem dJ9_newLength_13 : decode cJ9_newLength 13 = .ok (.iload_n 3, 1) := by decide +kernel
set_option maxRecDepth 100000 in
theorem dJ9_newLength_14 : decode cJ9_newLength 14 = .ok (.ldc 200, 2) := by decide +kernel
set_option maxRecDepth 100000 in
theorem dJ9_newLength_16 : decode cJ9_newLength 16 = .ok (.if_icmp .gt 5, 3) := by decide +kernel
set_option maxRecDepth 100000 in
theorem dJ9_newLength_19 : decode cJ9_newLength 19 = .ok (.iload_n 3, 1) := by decide +kernel
set_option maxRecDepth 100000 in
theorem dJ9_newLength_20 : decode cJ9_newLength 20 = .ok (.ireturn, 1) := by decide +kernel
set_option maxRecDepth 100000 in
theorem dJ9_newLength_21 : decode cJ9_newLength 21 = .ok (.iload_n 0, 1) := by decide +kernel
set_option maxRecDepth 100000 in
theorem dJ9_newLength_22 : decode cJ9_newLength 22 = .ok (.iload_n 1, 1) := by decide +kernel
set_option maxRecDepth 100000 in
theorem dJ9_newLength_23 : decode cJ9_newLength 23 = .ok (.invokestatic 201, 3) := by decide +kernel
set_option maxRecDepth 100000 in
theorem dJ9_newLength_26 : decode cJ9_newLength 26 = .ok (.ireturn, 1) := by decide +kernel
set_option maxRecDepth 100000 in
def bJ9_newLength_21 (G : xG) (fr lo : Nat) (x0 : Int32) (x1 : Int32) (h : xH) (Q : Outcome → xH → Prop) : Prop := 1 ≤ fr ∧ 14 ≤ lo ∧ xRi G YJ9_hugeLength (fr - 1) (lo - 14) [.int x0, .int x1] h (fun x4 h3 => xext h h3 → Q (.returned (some (.int x4))) h3) (fun r h2 => Q (.threw r) h2)
set_option maxRecDepth 100000 in
theorem uJ9_newLength_21 {G : xG} {fr lo : Nat} {x0 : Int32} {x1 : Int32} {h : xH} {Q : Outcome → xH → Prop} (hq : bJ9_newLength_21 G fr lo x0 x1 h Q) : xP G YJ9_newLength fr lo 21 [(0, .int x0), (1, .int x1)] [] h Q := by
  unfold bJ9_newLength_21 at hq
  refine x_iload_n 0 dJ9_newLength_21 rfl ?_
  refine x_iload_n 1 dJ9_newLength_22 rfl ?_
  obtain ⟨g1, g2, hq⟩ := hq
  refine x_callS (Yc := YJ9_hugeLength) (as := [.int x0, .int x1]) (st := []) q849 msJ9_hugeLength rfl dJ9_newLength_23 (xle (xal1 rfl (xal1 rfl xal0)) (by decide)) (xfr g1) (xlo xsw0 (by decide) g2) (xKi hq (fun x4 h3 hq e5 => ?_) (fun _ _ q _ => q))
  replace hq := hq e5
  exact x_iret rfl rfl dJ9_newLength_26 hq
set_option maxRecDepth 100000 in
def bJ9_newLength (G : xG) (fr lo : Nat) (x0 : Int32) (x1 : Int32) (x2 : Int32) (h : xH) (Q : Outcome → xH → Prop) : Prop := 1 ≤ fr ∧ 14 ≤ lo ∧ xRi G YJ10_max (fr - 1) (lo - 14) [.int x1, .int x2] h (fun x4 h3 => xext h h3 → (((x0 + x4) ≤ 0 → bJ9_newLength_21 G fr lo x0 x1 h3 Q) ∧ (¬ (x0 + x4) ≤ 0 → ((2147483639 < (x0 + x4) → bJ9_newLength_21 G fr lo x0 x1 h3 Q) ∧ (¬ 2147483639 < (x0 + x4) → Q (.returned (some (.int (x0 + x4)))) h3))))) (fun r h2 => Q (.threw r) h2)
set_option maxRecDepth 100000 in
theorem uJ9_newLength {G : xG} {fr lo : Nat} {x0 : Int32} {x1 : Int32} {x2 : Int32} {h : xH} {Q : Outcome → xH → Prop} (hq : bJ9_newLength G fr lo x0 x1 x2 h Q) : xP G YJ9_newLength fr lo 0 [(0, .int x0), (1, .int x1), (2, .int x2)] [] h Q := by
  unfold bJ9_newLength at hq
  refine x_iload_n 0 dJ9_newLength_0 rfl ?_
  refine x_iload_n 1 dJ9_newLength_1 rfl ?_
  refine x_iload_n 2 dJ9_newLength_2 rfl ?_
  obtain ⟨g1, g2, hq⟩ := hq
  refine x_callS (Yc := YJ10_max) (as := [.int x1, .int x2]) (st := [.int x0]) q845 msJ10_max rfl dJ9_newLength_3 (xle (xal1 rfl (xal1 rfl xal0)) (by decide)) (xfr g1) (xlo (xsw1 rfl xsw0) (by decide) g2) (xKi hq (fun x4 h3 hq e5 => ?_) (fun _ _ q _ => q))
  replace hq := hq e5
  refine x_iadd dJ9_newLength_6 ?_
  refine x_istore_n (lv' := [(3, .int (x0 + x4)), (0, .int x0), (1, .int x1), (2, .int x2)]) dJ9_newLength_7 (by decide) rfl ?_
  refine x_iconst (v := 0) dJ9_newLength_8 (by decide) ?_
  refine x_iload_n 0 dJ9_newLength_9 rfl ?_
  refine x_icmp_ge (tgt := 21) dJ9_newLength_10 (by decide) (fun c6 => ?_) (fun c6 => ?_)
  · replace hq := hq.1 c6
    refine xP.pick (lv' := [(0, .int x0), (1, .int x1)]) [1, 2] rfl ?_
    exact uJ9_newLength_21 hq
  · replace hq := hq.2 c6
    refine x_iload_n 0 dJ9_newLength_13 rfl ?_
    refine x_ldc (v := 2147483639) q848 dJ9_newLength_14 ?_
    refine x_icmp_gt (tgt := 21) dJ9_newLength_16 (by decide) (fun c7 => ?_) (fun c7 => ?_)
    · replace hq := hq.1 c7
      refine xP.pick (lv' := [(0, .int x0), (1, .int x1)]) [1, 2] rfl ?_
      exact uJ9_newLength_21 hq
    · replace hq := hq.2 c7
      refine x_iload_n 0 dJ9_newLength_19 rfl ?_
      exact x_iret rfl rfl dJ9_newLength_20 hq
theorem rJ9_newLength {G : xG} {fr lo : Nat} {x0 : Int32} {x1 : Int32} {x2 : Int32} {h : xH} {Q : Outcome → xH → Prop} (hq : bJ9_newLength G fr lo x0 x1 x2 h Q) : xR G YJ9_newLength fr lo [.int x0, .int x1, .int x2] h Q := by
  show xP _ _ _ _ _ (lv_args 0 _) _ _ _
  rw [show lv_args 0 [.int x0, .int x1, .int x2] = [(0, .int x0), (1, .int x1), (2, .int x2)] from (xla1 rfl (xla1 rfl (xla1 rfl xla0)))]
  exact uJ9_newLength hq
set_option maxRecDepth 100000 in
theorem dJ9_hugeLength_0 : decode cJ9_hugeLength 0 = .ok (.iload_n 0, 1) := by decide +kernel
set_option maxRecDepth 100000 in
theorem dJ9_hugeLength_1 : decode cJ9_hugeLength 1 = .ok (.iload_n 1, 1) := by decide +kernel
set_option maxRecDepth 100000 in
theorem dJ9_hugeLength_2 : decode cJ9_hugeLength 2 = .ok (.iadd, 1) := by decide +kernel
set_option maxRecDepth 100000 in
theorem dJ9_hugeLength_3 : decode cJ9_hugeLength 3 = .ok (.istore_n 2, 1) := by decide +kernel
set_option maxRecDepth 100000 in
theorem dJ9_hugeLength_4 : decode cJ9_hugeLength 4 = .ok (.iload_n 2, 1) := by decide +kernel
set_option maxRecDepth 100000 in
theorem dJ9_hugeLength_5 : decode cJ9_hugeLength 5 = .ok (.ifCond .ge 44, 3) := by decide +kernel
set_option maxRecDepth 100000 in
theorem dJ9_hugeLength_8 : decode cJ9_hugeLength 8 = .ok (.new 204, 3) := by decide +kernel
set_option maxRecDepth 100000 in
theorem dJ9_hugeLength_11 : decode cJ9_hugeLength 11 = .ok (.dup, 1) := by decide +kernel
set_option maxRecDepth 100000 in
theorem dJ9_hugeLength_12 : decode cJ9_hugeLength 12 = .ok (.new 89, 3) := by decide +kernel
set_option maxRecDepth 100000 in
theorem dJ9_hugeLength_15 : decode cJ9_hugeLength 15 = .ok (.dup, 1) := by decide +kernel
set_option maxRecDepth 100000 in
theorem dJ9_hugeLength_16 : decode cJ9_hugeLength 16 = .ok (.invokespecial 91, 3) := by decide +kernel
set_option maxRecDepth 100000 in
theorem dJ9_hugeLength_19 : decode cJ9_hugeLength 19 = .ok (.ldc 206, 2) := by decide +kernel
set_option maxRecDepth 100000 in
theorem dJ9_hugeLength_21 : decode cJ9_hugeLength 21 = .ok (.invokevirtual 94, 3) := by decide +kernel
set_option maxRecDepth 100000 in
theorem dJ9_hugeLength_24 : decode cJ9_hugeLength 24 = .ok (.iload_n 0, 1) := by decide +kernel
set_option maxRecDepth 100000 in
theorem dJ9_hugeLength_25 : decode cJ9_hugeLength 25 = .ok (.invokevirtual 98, 3) := by decide +kernel
set_option maxRecDepth 100000 in
theorem dJ9_hugeLength_28 : decode cJ9_hugeLength 28 = .ok (.ldc 208, 2) := by decide +kernel
set_option maxRecDepth 100000 in
theorem dJ9_hugeLength_30 : decode cJ9_hugeLength 30 = .ok (.invokevirtual 94, 3) := by decide +kernel
set_option maxRecDepth 100000 in
theorem dJ9_hugeLength_33 : decode cJ9_hugeLength 33 = .ok (.iload_n 1, 1) := by decide +kernel
set_option maxRecDepth 100000 in
theorem dJ9_hugeLength_34 : decode cJ9_hugeLength 34 = .ok (.invokevirtual 98, 3) := by decide +kernel
set_option maxRecDepth 100000 in
theorem dJ9_hugeLength_37 : decode cJ9_hugeLength 37 = .ok (.ldc 210, 2) := by decide +kernel
set_option maxRecDepth 100000 in
theorem dJ9_hugeLength_39 : decode cJ9_hugeLength 39 = .ok (.invokevirtual 94, 3) := by decide +kernel
set_option maxRecDepth 100000 in
theorem dJ9_hugeLength_42 : decode cJ9_hugeLength 42 = .ok (.invokevirtual 101, 3) := by decide +kernel
set_option maxRecDepth 100000 in
theorem dJ9_hugeLength_45 : decode cJ9_hugeLength 45 = .ok (.invokespecial 212, 3) := by decide +kernel
set_option maxRecDepth 100000 in
theorem dJ9_hugeLength_48 : decode cJ9_hugeLength 48 = .ok (.athrow, 1) := by decide +kernel
set_option maxRecDepth 100000 in
theorem dJ9_hugeLength_49 : decode cJ9_hugeLength 49 = .ok (.iload_n 2, 1) := by decide +kernel
set_option maxRecDepth 100000 in
theorem dJ9_hugeLength_50 : decode cJ9_hugeLength 50 = .ok (.ldc 200, 2) := by decide +kernel
set_option maxRecDepth 100000 in
theorem dJ9_hugeLength_52 : decode cJ9_hugeLength 52 = .ok (.if_icmp .gt 6, 3) := by decide +kernel
set_option maxRecDepth 100000 in
theorem dJ9_hugeLength_55 : decode cJ9_hugeLength 55 = .ok (.ldc 200, 2) := by decide +kernel
set_option maxRecDepth 100000 in
theorem dJ9_hugeLength_57 : decode cJ9_hugeLength 57 = .ok (.ireturn, 1) := by decide +kernel
set_option maxRecDepth 100000 in
theorem dJ9_hugeLength_58 : decode cJ9_hugeLength 58 = .ok (.iload_n 2, 1) := by decide +kernel
set_option maxRecDepth 100000 in
theorem dJ9_hugeLength_59 : decode cJ9_hugeLength 59 = .ok (.ireturn, 1) := by decide +kernel
set_option maxRecDepth 100000 in
def bJ9_hugeLength (G : xG) (fr lo : Nat) (x0 : Int32) (x1 : Int32) (h : xH) (Q : Outcome → xH → Prop) : Prop := ((0 ≤ (x0 + x1) → ((2147483639 < (x0 + x1) → Q (.returned (some (.int (x0 + x1)))) h) ∧ (¬ 2147483639 < (x0 + x1) → Q (.returned (some (.int 2147483639))) h))) ∧ (¬ 0 ≤ (x0 + x1) → False))
set_option maxRecDepth 100000 in
theorem uJ9_hugeLength {G : xG} {fr lo : Nat} {x0 : Int32} {x1 : Int32} {h : xH} {Q : Outcome → xH → Prop} (hq : bJ9_hugeLength G fr lo x0 x1 h Q) : xP G YJ9_hugeLength fr lo 0 [(0, .int x0), (1, .int x1)] [] h Q := by
  unfold bJ9_hugeLength at hq
  refine x_iload_n 0 dJ9_hugeLength_0 rfl ?_
  refine x_iload_n 1 dJ9_hugeLength_1 rfl ?_
  refine x_iadd dJ9_hugeLength_2 ?_
  refine x_istore_n (lv' := [(2, .int (x0 + x1)), (0, .int x0), (1, .int x1)]) dJ9_hugeLength_3 (by decide) rfl ?_
  refine x_iload_n 0 dJ9_hugeLength_4 rfl ?_
  refine x_if_ge (tgt := 49) dJ9_hugeLength_5 (by decide) (fun c1 => ?_) (fun c1 => ?_)
  · replace hq := hq.1 c1
    refine x_iload_n 0 dJ9_hugeLength_49 rfl ?_
    refine x_ldc (v := 2147483639) q848 dJ9_hugeLength_50 ?_
    refine x_icmp_gt (tgt := 58) dJ9_hugeLength_52 (by decide) (fun c2 => ?_) (fun c2 => ?_)
    · replace hq := hq.1 c2
      refine x_iload_n 0 dJ9_hugeLength_58 rfl ?_
      exact x_iret rfl rfl dJ9_hugeLength_59 hq
    · replace hq := hq.2 c2
      refine x_ldc (v := 2147483639) q848 dJ9_hugeLength_55 ?_
      exact x_iret rfl rfl dJ9_hugeLength_57 hq
  · replace hq := hq.2 c1
    exact hq.elim
theorem rJ9_hugeLength {G : xG} {fr lo : Nat} {x0 : Int32} {x1 : Int32} {h : xH} {Q : Outcome → xH → Prop} (hq : bJ9_hugeLength G fr lo x0 x1 h Q) : xR G YJ9_hugeLength fr lo [.int x0, .int x1] h Q := by
  show xP _ _ _ _ _ (lv_args 0 _) _ _ _
  rw [show lv_args 0 [.int x0, .int x1] = [(0, .int x0), (1, .int x1)] from (xla1 rfl (xla1 rfl xla0))]
  exact uJ9_hugeLength hq
