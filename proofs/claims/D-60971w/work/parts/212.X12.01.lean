/-! PascalHouseModel, walked (2) -/
set_option maxRecDepth 100000 in
theorem dX12_valueOf_0 : decode cX12_valueOf 0 = .ok (.lconst 0, 1) := by decide +kernel
set_option maxRecDepth 100000 in
theorem dX12_valueOf_1 : decode cX12_valueOf 1 = .ok (.lstore_n 3, 1) := by decide +kernel
set_option maxRecDepth 100000 in
theorem dX12_valueOf_2 : decode cX12_valueOf 2 = .ok (.iload_n 1, 1) := by decide +kernel
set_option maxRecDepth 100000 in
theorem dX12_valueOf_3 : decode cX12_valueOf 3 = .ok (.istore 5, 2) := by decide +kernel
set_option maxRecDepth 100000 in
theorem dX12_valueOf_5 : decode cX12_valueOf 5 = .ok (.iload 5, 2) := by decide +kernel
set_option maxRecDepth 100000 in
theorem dX12_valueOf_7 : decode cX12_valueOf 7 = .ok (.iload_n 2, 1) := by decide +kernel
set_option maxRecDepth 100000 in
theorem dX12_valueOf_8 : decode cX12_valueOf 8 = .ok (.if_icmp .ge 27, 3) := by decide +kernel
set_option maxRecDepth 100000 in
theorem dX12_valueOf_11 : decode cX12_valueOf 11 = .ok (.ldc2_w 389, 3) := by decide +kernel
set_option maxRecDepth 100000 in
theorem dX12_valueOf_14 : decode cX12_valueOf 14 = .ok (.lload_n 3, 1) := by decide +kernel
set_option maxRecDepth 100000 in
theorem dX12_valueOf_15 : decode cX12_valueOf 15 = .ok (.lmul, 1) := by decide +kernel
set_option maxRecDepth 100000 in
theorem dX12_valueOf_16 : decode cX12_valueOf 16 = .ok (.aload_n 0, 1) := by decide +kernel
set_option maxRecDepth 100000 in
theorem dX12_valueOf_17 : decode cX12_valueOf 17 = .ok (.iload 5, 2) := by decide +kernel
set_option maxRecDepth 100000 in
theorem dX12_valueOf_19 : decode cX12_valueOf 19 = .ok (.invokevirtual 272, 3) := by decide +kernel
set_option maxRecDepth 100000 in
theorem dX12_valueOf_22 : decode cX12_valueOf 22 = .ok (.i2l, 1) := by decide +kernel
set_option maxRecDepth 100000 in
theorem dX12_valueOf_23 : decode cX12_valueOf 23 = .ok (.ladd, 1) := by decide +kernel
set_option maxRecDepth 100000 in
theorem dX12_valueOf_24 : decode cX12_valueOf 24 = .ok (.ldc2_w 391, 3) := by decide +kernel
set_option maxRecDepth 100000 in
theorem dX12_valueOf_27 : decode cX12_valueOf 27 = .ok (.lsub, 1) := by decide +kernel
set_option maxRecDepth 100000 in
theorem dX12_valueOf_28 : decode cX12_valueOf 28 = .ok (.lstore_n 3, 1) := by decide +kernel
set_option maxRecDepth 100000 in
theorem dX12_valueOf_29 : decode cX12_valueOf 29 = .ok (.iinc 5 1, 3) := by decide +kernel
set_option maxRecDepth 100000 in
theorem dX12_valueOf_32 : decode cX12_valueOf 32 = .ok (.goto (-27), 3) := by decide +kernel
set_option maxRecDepth 100000 in
theorem dX12_valueOf_35 : decode cX12_valueOf 35 = .ok (.lload_n 3, 1) := by decide +kernel
set_option maxRecDepth 100000 in
theorem dX12_valueOf_36 : decode cX12_valueOf 36 = .ok (.lreturn, 1) := by decide +kernel
def lX12_valueOf_5 (G : xG) (fr lo : Nat) (x0 : Nat) (x2 : Int32) (x3 : Int64) (x5 : Int32) (h : xH) (Q : Outcome → xH → Prop) : Prop := xP G YX12_valueOf fr lo 5 [(0, rv x0), (2, .int x2), (3, .long x3), (5, .int x5)] [] h Q
set_option maxRecDepth 100000 in
def bX12_valueOf_5 (G : xG) (fr lo : Nat) (x0 : Nat) (x2 : Int32) (x3 : Int64) (x5 : Int32) (h : xH) (Q : Outcome → xH → Prop) : Prop := ((x2 ≤ x5 → Q (.returned (some (.long x3))) h) ∧ (¬ x2 ≤ x5 → tg h x0 = 13 ∧ 1 ≤ fr ∧ 15 ≤ lo ∧ xRi G YX12_byteAt (fr - 1) (lo - 15) [rv x0, .int x5] h (fun x6 h5 => xext h h5 → lX12_valueOf_5 G fr lo x0 x2 (((10 * x3) + (Int32.toInt64 x6)) - 48) (x5 + 1) h5 Q) (fun r h2 => Q (.threw r) h2)))
set_option maxRecDepth 100000 in
theorem uX12_valueOf_5 {G : xG} {fr lo : Nat} {x0 : Nat} {x2 : Int32} {x3 : Int64} {x5 : Int32} {h : xH} {Q : Outcome → xH → Prop} (hq : bX12_valueOf_5 G fr lo x0 x2 x3 x5 h Q) : xP G YX12_valueOf fr lo 5 [(0, rv x0), (2, .int x2), (3, .long x3), (5, .int x5)] [] h Q := by
  unfold bX12_valueOf_5 at hq
  refine x_iload 3 dX12_valueOf_5 rfl ?_
  refine x_iload_n 1 dX12_valueOf_7 rfl ?_
  refine x_icmp_ge (tgt := 35) dX12_valueOf_8 (by decide) (fun c1 => ?_) (fun c1 => ?_)
  · replace hq := hq.1 c1
    refine x_lload_n 2 dX12_valueOf_35 rfl ?_
    exact x_lret rfl dX12_valueOf_36 hq
  · replace hq := hq.2 c1
    refine x_ldc2 (v := 10) q3750 dX12_valueOf_11 ?_
    refine x_lload_n 2 dX12_valueOf_14 rfl ?_
    refine x_lmul dX12_valueOf_15 ?_
    refine x_aload_n 0 dX12_valueOf_16 rfl ?_
    refine x_iload 3 dX12_valueOf_17 rfl ?_
    obtain ⟨g2, hq⟩ := hq
    obtain ⟨g3, g4, hq⟩ := hq
    refine x_callV (Yc := YX12_byteAt) (as := [.int x5]) (st := [.long (10 * x3)]) q3725 mvX12_byteAt g2 rfl dX12_valueOf_19 (xle (xal1 (rv_cat _) (xal1 rfl xal0)) (by decide)) (xfr g3) (xlo (xsw2 rfl xsw0) (by decide) g4) (xKi hq (fun x6 h5 hq e7 => ?_) (fun _ _ q _ => q))
    replace hq := hq e7
    refine x_i2l dX12_valueOf_22 ?_
    refine x_ladd dX12_valueOf_23 ?_
    refine x_ldc2 (v := 48) q3751 dX12_valueOf_24 ?_
    refine x_lsub dX12_valueOf_27 ?_
    refine x_lstore_n (lv' := [(3, .long (((10 * x3) + (Int32.toInt64 x6)) - 48)), (0, rv x0), (2, .int x2), (5, .int x5)]) dX12_valueOf_28 (by decide) rfl ?_
    refine x_iinc (lv' := [(5, .int (x5 + 1)), (3, .long (((10 * x3) + (Int32.toInt64 x6)) - 48)), (0, rv x0), (2, .int x2)]) 3 dX12_valueOf_29 rfl (by decide) rfl ?_
    refine x_goto (tgt := 5) dX12_valueOf_32 (by decide) ?_
    refine xP.pick (lv' := [(0, rv x0), (2, .int x2), (3, .long (((10 * x3) + (Int32.toInt64 x6)) - 48)), (5, .int (x5 + 1))]) [2, 3, 1, 0] rfl ?_
    exact hq
set_option maxRecDepth 100000 in
def bX12_valueOf (G : xG) (fr lo : Nat) (x0 : Nat) (x1 : Int32) (x2 : Int32) (h : xH) (Q : Outcome → xH → Prop) : Prop := lX12_valueOf_5 G fr lo x0 x2 0 x1 h Q
set_option maxRecDepth 100000 in
theorem uX12_valueOf {G : xG} {fr lo : Nat} {x0 : Nat} {x1 : Int32} {x2 : Int32} {h : xH} {Q : Outcome → xH → Prop} (hq : bX12_valueOf G fr lo x0 x1 x2 h Q) : xP G YX12_valueOf fr lo 0 [(0, rv x0), (1, .int x1), (2, .int x2)] [] h Q := by
  unfold bX12_valueOf at hq
  refine x_lconst (v := 0) dX12_valueOf_0 (by decide) ?_
  refine x_lstore_n (lv' := [(3, .long 0), (0, rv x0), (1, .int x1), (2, .int x2)]) dX12_valueOf_1 (by decide) rfl ?_
  refine x_iload_n 2 dX12_valueOf_2 rfl ?_
  refine x_istore (lv' := [(5, .int x1), (3, .long 0), (0, rv x0), (1, .int x1), (2, .int x2)]) dX12_valueOf_3 (by decide) rfl ?_
  refine xP.pick (lv' := [(0, rv x0), (2, .int x2), (3, .long 0), (5, .int x1)]) [2, 4, 1, 0] rfl ?_
  exact hq
theorem rX12_valueOf {G : xG} {fr lo : Nat} {x0 : Nat} {x1 : Int32} {x2 : Int32} {h : xH} {Q : Outcome → xH → Prop} (hq : bX12_valueOf G fr lo x0 x1 x2 h Q) : xR G YX12_valueOf fr lo [rv x0, .int x1, .int x2] h Q := by
  show xP _ _ _ _ _ (lv_args 0 _) _ _ _
  rw [show lv_args 0 [rv x0, .int x1, .int x2] = [(0, rv x0), (1, .int x1), (2, .int x2)] from (xla1 (rv_cat _) (xla1 rfl (xla1 rfl xla0)))]
  exact uX12_valueOf hq
set_option maxRecDepth 100000 in
theorem dX12_realOf_0 : decode cX12_realOf 0 = .ok (.lload_n 0, 1) := by decide +kernel
set_option maxRecDepth 100000 in
theorem dX12_realOf_1 : decode cX12_realOf 1 = .ok (.l2d, 1) := by decide +kernel
set_option maxRecDepth 100000 in
theorem dX12_realOf_2 : decode cX12_realOf 2 = .ok (.iload_n 2, 1) := by decide +kernel
set_option maxRecDepth 100000 in
theorem dX12_realOf_3 : decode cX12_realOf 3 = .ok (.invokestatic 407, 3) := by decide +kernel
set_option maxRecDepth 100000 in
theorem dX12_realOf_6 : decode cX12_realOf 6 = .ok (.ddiv, 1) := by decide +kernel
set_option maxRecDepth 100000 in
theorem dX12_realOf_7 : decode cX12_realOf 7 = .ok (.dstore 5, 2) := by decide +kernel
set_option maxRecDepth 100000 in
theorem dX12_realOf_9 : decode cX12_realOf 9 = .ok (.iload_n 3, 1) := by decide +kernel
set_option maxRecDepth 100000 in
theorem dX12_realOf_10 : decode cX12_realOf 10 = .ok (.ifCond .eq 14, 3) := by decide +kernel
set_option maxRecDepth 100000 in
theorem dX12_realOf_13 : decode cX12_realOf 13 = .ok (.dload 5, 2) := by decide +kernel
set_option maxRecDepth 100000 in
theorem dX12_realOf_15 : decode cX12_realOf 15 = .ok (.iload 4, 2) := by decide +kernel
set_option maxRecDepth 100000 in
theorem dX12_realOf_17 : decode cX12_realOf 17 = .ok (.invokestatic 407, 3) := by decide +kernel
set_option maxRecDepth 100000 in
theorem dX12_realOf_20 : decode cX12_realOf 20 = .ok (.ddiv, 1) := by decide +kernel
set_option maxRecDepth 100000 in
theorem dX12_realOf_21 : decode cX12_realOf 21 = .ok (.goto 11, 3) := by decide +kernel
set_option maxRecDepth 100000 in
theorem dX12_realOf_24 : decode cX12_realOf 24 = .ok (.dload 5, 2) := by decide +kernel
set_option maxRecDepth 100000 in
theorem dX12_realOf_26 : decode cX12_realOf 26 = .ok (.iload 4, 2) := by decide +kernel
set_option maxRecDepth 100000 in
theorem dX12_realOf_28 : decode cX12_realOf 28 = .ok (.invokestatic 407, 3) := by decide +kernel
set_option maxRecDepth 100000 in
theorem dX12_realOf_31 : decode cX12_realOf 31 = .ok (.dmul, 1) := by decide +kernel
set_option maxRecDepth 100000 in
theorem dX12_realOf_32 : decode cX12_realOf 32 = .ok (.dreturn, 1) := by decide +kernel
set_option maxRecDepth 100000 in
def bX12_realOf_32 (G : xG) (fr lo : Nat) (s0 : UInt64) (h : xH) (Q : Outcome → xH → Prop) : Prop := Q (.returned (some (.double s0))) h
set_option maxRecDepth 100000 in
theorem uX12_realOf_32 {G : xG} {fr lo : Nat} {s0 : UInt64} {h : xH} {Q : Outcome → xH → Prop} (hq : bX12_realOf_32 G fr lo s0 h Q) : xP G YX12_realOf fr lo 32 [] [.double s0] h Q := by
  unfold bX12_realOf_32 at hq
  exact x_dret rfl dX12_realOf_32 hq
set_option maxRecDepth 100000 in
def bX12_realOf (G : xG) (fr lo : Nat) (x0 : Int64) (x2 : Int32) (x3 : Int32) (x4 : Int32) (h : xH) (Q : Outcome → xH → Prop) : Prop := 1 ≤ fr ∧ 17 ≤ lo ∧ xRd G YX12_power (fr - 1) (lo - 17) [.int x2] h (fun x4 h3 => xext h h3 → vf_n64 (FP.ddiv (FP.l2d x0) x4) ∧ ((x3 = 0 → 1 ≤ fr ∧ 17 ≤ lo ∧ xRd G YX12_power (fr - 1) (lo - 17) [.int x4] h3 (fun x11 h10 => xext h3 h10 → vf_n64 (FP.dmul (FP.ddiv (FP.l2d x0) x4) x11) ∧ bX12_realOf_32 G fr lo (FP.dmul (FP.ddiv (FP.l2d x0) x4) x11) h10 Q) (fun r h2 => Q (.threw r) h2)) ∧ (¬ x3 = 0 → 1 ≤ fr ∧ 17 ≤ lo ∧ xRd G YX12_power (fr - 1) (lo - 17) [.int x4] h3 (fun x17 h16 => xext h3 h16 → vf_n64 (FP.ddiv (FP.ddiv (FP.l2d x0) x4) x17) ∧ bX12_realOf_32 G fr lo (FP.ddiv (FP.ddiv (FP.l2d x0) x4) x17) h16 Q) (fun r h2 => Q (.threw r) h2)))) (fun r h2 => Q (.threw r) h2)
set_option maxRecDepth 100000 in
theorem uX12_realOf {G : xG} {fr lo : Nat} {x0 : Int64} {x2 : Int32} {x3 : Int32} {x4 : Int32} {h : xH} {Q : Outcome → xH → Prop} (hq : bX12_realOf G fr lo x0 x2 x3 x4 h Q) : xP G YX12_realOf fr lo 0 [(0, .long x0), (2, .int x2), (3, .int x3), (4, .int x4)] [] h Q := by
  unfold bX12_realOf at hq
  refine x_lload_n 0 dX12_realOf_0 rfl ?_
  refine x_l2d dX12_realOf_1 ?_
  refine x_iload_n 1 dX12_realOf_2 rfl ?_
  obtain ⟨g1, g2, hq⟩ := hq
  refine x_callS (Yc := YX12_power) (as := [.int x2]) (st := [.double (FP.l2d x0)]) q3760 msX12_power rfl dX12_realOf_3 (xle (xal1 rfl xal0) (by decide)) (xfr g1) (xlo (xsw2 rfl xsw0) (by decide) g2) (xKd hq (fun x4 h3 hq e5 => ?_) (fun _ _ q _ => q))
  replace hq := hq e5
  obtain ⟨g6, hq⟩ := hq
  refine x_ddiv dX12_realOf_6 g6 ?_
  refine x_dstore (lv' := [(5, .double (FP.ddiv (FP.l2d x0) x4)), (0, .long x0), (2, .int x2), (3, .int x3), (4, .int x4)]) dX12_realOf_7 (by decide) rfl ?_
  refine x_iload_n 3 dX12_realOf_9 rfl ?_
  refine x_if_eq (tgt := 24) dX12_realOf_10 (by decide) (fun c7 => ?_) (fun c7 => ?_)
  · replace hq := hq.1 c7
    refine x_dload 0 dX12_realOf_24 rfl ?_
    refine x_iload 4 dX12_realOf_26 rfl ?_
    obtain ⟨g8, g9, hq⟩ := hq
    refine x_callS (Yc := YX12_power) (as := [.int x4]) (st := [.double (FP.ddiv (FP.l2d x0) x4)]) q3760 msX12_power rfl dX12_realOf_28 (xle (xal1 rfl xal0) (by decide)) (xfr g8) (xlo (xsw2 rfl xsw0) (by decide) g9) (xKd hq (fun x11 h10 hq e12 => ?_) (fun _ _ q _ => q))
    replace hq := hq e12
    obtain ⟨g13, hq⟩ := hq
    refine x_dmul dX12_realOf_31 g13 ?_
    refine xP.pick (lv' := []) [] rfl ?_
    exact uX12_realOf_32 hq
  · replace hq := hq.2 c7
    refine x_dload 0 dX12_realOf_13 rfl ?_
    refine x_iload 4 dX12_realOf_15 rfl ?_
    obtain ⟨g14, g15, hq⟩ := hq
    refine x_callS (Yc := YX12_power) (as := [.int x4]) (st := [.double (FP.ddiv (FP.l2d x0) x4)]) q3760 msX12_power rfl dX12_realOf_17 (xle (xal1 rfl xal0) (by decide)) (xfr g14) (xlo (xsw2 rfl xsw0) (by decide) g15) (xKd hq (fun x17 h16 hq e18 => ?_) (fun _ _ q _ => q))
    replace hq := hq e18
    obtain ⟨g19, hq⟩ := hq
    refine x_ddiv dX12_realOf_20 g19 ?_
    refine x_goto (tgt := 32) dX12_realOf_21 (by decide) ?_
    refine xP.pick (lv' := []) [] rfl ?_
    exact uX12_realOf_32 hq
theorem rX12_realOf {G : xG} {fr lo : Nat} {x0 : Int64} {x2 : Int32} {x3 : Int32} {x4 : Int32} {h : xH} {Q : Outcome → xH → Prop} (hq : bX12_realOf G fr lo x0 x2 x3 x4 h Q) : xR G YX12_realOf fr lo [.long x0, .int x2, .int x3, .int x4] h Q := by
  show xP _ _ _ _ _ (lv_args 0 _) _ _ _
  rw [show lv_args 0 [.long x0, .int x2, .int x3, .int x4] = [(0, .long x0), (2, .int x2), (3, .int x3), (4, .int x4)] from (xla2 rfl (xla1 rfl (xla1 rfl (xla1 rfl xla0))))]
  exact uX12_realOf hq
set_option maxRecDepth 100000 in
theorem dX12_power_0 : decode cX12_power 0 = .ok (.dconst 1, 1) := by decide +kernel
set_option maxRecDepth 100000 in
theorem dX12_power_1 : decode cX12_power 1 = .ok (.dstore_n 1, 1) := by decide +kernel
set_option maxRecDepth 100000 in
theorem dX12_power_2 : decode cX12_power 2 = .ok (.iconst 0, 1) := by decide +kernel
set_option maxRecDepth 100000 in
theorem dX12_power_3 : decode cX12_power 3 = .ok (.istore_n 3, 1) := by decide +kernel
set_option maxRecDepth 100000 in
theorem dX12_power_4 : decode cX12_power 4 = .ok (.iload_n 3, 1) := by decide +kernel
set_option maxRecDepth 100000 in
theorem dX12_power_5 : decode cX12_power 5 = .ok (.iload_n 0, 1) := by decide +kernel
set_option maxRecDepth 100000 in
theorem dX12_power_6 : decode cX12_power 6 = .ok (.if_icmp .ge 15, 3) := by decide +kernel
set_option maxRecDepth 100000 in
theorem dX12_power_9 : decode cX12_power 9 = .ok (.dload_n 1, 1) := by decide +kernel
set_option maxRecDepth 100000 in
theorem dX12_power_10 : decode cX12_power 10 = .ok (.ldc2_w 381, 3) := by decide +kernel
set_option maxRecDepth 100000 in
theorem dX12_power_13 : decode cX12_power 13 = .ok (.dmul, 1) := by decide +kernel
set_option maxRecDepth 100000 in
theorem dX12_power_14 : decode cX12_power 14 = .ok (.dstore_n 1, 1) := by decide +kernel
set_option maxRecDepth 100000 in
theorem dX12_power_15 : decode cX12_power 15 = .ok (.iinc 3 1, 3) := by decide +kernel
set_option maxRecDepth 100000 in
theorem dX12_power_18 : decode cX12_power 18 = .ok (.goto (-14), 3) := by decide +kernel
set_option maxRecDepth 100000 in
theorem dX12_power_21 : decode cX12_power 21 = .ok (.dload_n 1, 1) := by decide +kernel
set_option maxRecDepth 100000 in
theorem dX12_power_22 : decode cX12_power 22 = .ok (.dreturn, 1) := by decide +kernel
def lX12_power_4 (G : xG) (fr lo : Nat) (x0 : Int32) (x1 : UInt64) (x3 : Int32) (h : xH) (Q : Outcome → xH → Prop) : Prop := xP G YX12_power fr lo 4 [(0, .int x0), (1, .double x1), (3, .int x3)] [] h Q
set_option maxRecDepth 100000 in
def bX12_power_4 (G : xG) (fr lo : Nat) (x0 : Int32) (x1 : UInt64) (x3 : Int32) (h : xH) (Q : Outcome → xH → Prop) : Prop := ((x0 ≤ x3 → Q (.returned (some (.double x1))) h) ∧ (¬ x0 ≤ x3 → vf_n64 (FP.dmul x1 4621819117588971520) ∧ lX12_power_4 G fr lo x0 (FP.dmul x1 4621819117588971520) (x3 + 1) h Q))
set_option maxRecDepth 100000 in
theorem uX12_power_4 {G : xG} {fr lo : Nat} {x0 : Int32} {x1 : UInt64} {x3 : Int32} {h : xH} {Q : Outcome → xH → Prop} (hq : bX12_power_4 G fr lo x0 x1 x3 h Q) : xP G YX12_power fr lo 4 [(0, .int x0), (1, .double x1), (3, .int x3)] [] h Q := by
  unfold bX12_power_4 at hq
  refine x_iload_n 2 dX12_power_4 rfl ?_
  refine x_iload_n 0 dX12_power_5 rfl ?_
  refine x_icmp_ge (tgt := 21) dX12_power_6 (by decide) (fun c1 => ?_) (fun c1 => ?_)
  · replace hq := hq.1 c1
    refine x_dload_n 1 dX12_power_21 rfl ?_
    exact x_dret rfl dX12_power_22 hq
  · replace hq := hq.2 c1
    refine x_dload_n 1 dX12_power_9 rfl ?_
    refine x_ldc2d (v := 4621819117588971520) q3763 dX12_power_10 ?_
    obtain ⟨g2, hq⟩ := hq
    refine x_dmul dX12_power_13 g2 ?_
    refine x_dstore_n (lv' := [(1, .double (FP.dmul x1 4621819117588971520)), (0, .int x0), (3, .int x3)]) dX12_power_14 (by decide) rfl ?_
    refine x_iinc (lv' := [(3, .int (x3 + 1)), (1, .double (FP.dmul x1 4621819117588971520)), (0, .int x0)]) 2 dX12_power_15 rfl (by decide) rfl ?_
    refine x_goto (tgt := 4) dX12_power_18 (by decide) ?_
    refine xP.pick (lv' := [(0, .int x0), (1, .double (FP.dmul x1 4621819117588971520)), (3, .int (x3 + 1))]) [2, 1, 0] rfl ?_
    exact hq
set_option maxRecDepth 100000 in
def bX12_power (G : xG) (fr lo : Nat) (x0 : Int32) (h : xH) (Q : Outcome → xH → Prop) : Prop := lX12_power_4 G fr lo x0 FP.dconst1 0 h Q
set_option maxRecDepth 100000 in
theorem uX12_power {G : xG} {fr lo : Nat} {x0 : Int32} {h : xH} {Q : Outcome → xH → Prop} (hq : bX12_power G fr lo x0 h Q) : xP G YX12_power fr lo 0 [(0, .int x0)] [] h Q := by
  unfold bX12_power at hq
  refine x_dconst1 dX12_power_0 ?_
  refine x_dstore_n (lv' := [(1, .double FP.dconst1), (0, .int x0)]) dX12_power_1 (by decide) rfl ?_
  refine x_iconst (v := 0) dX12_power_2 (by decide) ?_
  refine x_istore_n (lv' := [(3, .int 0), (1, .double FP.dconst1), (0, .int x0)]) dX12_power_3 (by decide) rfl ?_
  refine xP.pick (lv' := [(0, .int x0), (1, .double FP.dconst1), (3, .int 0)]) [2, 1, 0] rfl ?_
  exact hq
theorem rX12_power {G : xG} {fr lo : Nat} {x0 : Int32} {h : xH} {Q : Outcome → xH → Prop} (hq : bX12_power G fr lo x0 h Q) : xR G YX12_power fr lo [.int x0] h Q := by
  show xP _ _ _ _ _ (lv_args 0 _) _ _ _
  rw [show lv_args 0 [.int x0] = [(0, .int x0)] from (xla1 rfl xla0)]
  exact uX12_power hq
set_option maxRecDepth 100000 in
theorem dX12_string_0 : decode cX12_string 0 = .ok (.iload_n 1, 1) := by decide +kernel
set_option maxRecDepth 100000 in
theorem dX12_string_1 : decode cX12_string 1 = .ok (.iconst 1, 1) := by decide +kernel
set_option maxRecDepth 100000 in
theorem dX12_string_2 : decode cX12_string 2 = .ok (.iadd, 1) := by decide +kernel
set_option maxRecDepth 100000 in
theorem dX12_string_3 : decode cX12_string 3 = .ok (.istore_n 2, 1) := by decide +kernel
set_option maxRecDepth 100000 in
theorem dX12_string_4 : decode cX12_string 4 = .ok (.aload_n 0, 1) := by decide +kernel
set_option maxRecDepth 100000 in
theorem dX12_string_5 : decode cX12_string 5 = .ok (.getfield 411, 3) := by decide +kernel
set_option maxRecDepth 100000 in
theorem dX12_string_8 : decode cX12_string 8 = .ok (.istore_n 3, 1) := by decide +kernel
set_option maxRecDepth 100000 in
theorem dX12_string_9 : decode cX12_string 9 = .ok (.iconst 0, 1) := by decide +kernel
set_option maxRecDepth 100000 in
theorem dX12_string_10 : decode cX12_string 10 = .ok (.istore 4, 2) := by decide +kernel
set_option maxRecDepth 100000 in
theorem dX12_string_12 : decode cX12_string 12 = .ok (.iconst 1, 1) := by decide +kernel
set_option maxRecDepth 100000 in
theorem dX12_string_13 : decode cX12_string 13 = .ok (.istore 5, 2) := by decide +kernel
set_option maxRecDepth 100000 in
theorem dX12_string_15 : decode cX12_string 15 = .ok (.iload_n 2, 1) := by decide +kernel
set_option maxRecDepth 100000 in
theorem dX12_string_16 : decode cX12_string 16 = .ok (.aload_n 0, 1) := by decide +kernel
set_option maxRecDepth 100000 in
theorem dX12_string_17 : decode cX12_string 17 = .ok (.getfield 266, 3) := by decide +kernel
set_option maxRecDepth 100000 in
theorem dX12_string_20 : decode cX12_string 20 = .ok (.if_icmp .ge 109, 3) := by decide +kernel
set_option maxRecDepth 100000 in
theorem dX12_string_23 : decode cX12_string 23 = .ok (.iload 4, 2) := by decide +kernel
set_option maxRecDepth 100000 in
theorem dX12_string_25 : decode cX12_string 25 = .ok (.ifCond .ne 104, 3) := by decide +kernel
set_option maxRecDepth 100000 in
theorem dX12_string_28 : decode cX12_string 28 = .ok (.aload_n 0, 1) := by decide +kernel
set_option maxRecDepth 100000 in
theorem dX12_string_29 : decode cX12_string 29 = .ok (.iload_n 2, 1) := by decide +kernel
set_option maxRecDepth 100000 in
theorem dX12_string_30 : decode cX12_string 30 = .ok (.invokevirtual 272, 3) := by decide +kernel
set_option maxRecDepth 100000 in
theorem dX12_string_33 : decode cX12_string 33 = .ok (.istore 6, 2) := by decide +kernel
set_option maxRecDepth 100000 in
theorem dX12_string_35 : decode cX12_string 35 = .ok (.iload 6, 2) := by decide +kernel
set_option maxRecDepth 100000 in
theorem dX12_string_37 : decode cX12_string 37 = .ok (.bipush 39, 2) := by decide +kernel
set_option maxRecDepth 100000 in
theorem dX12_string_39 : decode cX12_string 39 = .ok (.if_icmp .ne 21, 3) := by decide +kernel
set_option maxRecDepth 100000 in
theorem dX12_string_42 : decode cX12_string 42 = .ok (.aload_n 0, 1) := by decide +kernel
set_option maxRecDepth 100000 in
theorem dX12_string_43 : decode cX12_string 43 = .ok (.iload_n 2, 1) := by decide +kernel
set_option maxRecDepth 100000 in
theorem dX12_string_44 : decode cX12_string 44 = .ok (.iconst 1, 1) := by decide +kernel
set_option maxRecDepth 100000 in
theorem dX12_string_45 : decode cX12_string 45 = .ok (.iadd, 1) := by decide +kernel
set_option maxRecDepth 100000 in
theorem dX12_string_46 : decode cX12_string 46 = .ok (.invokevirtual 272, 3) := by decide +kernel
set_option maxRecDepth 100000 in
theorem dX12_string_49 : decode cX12_string 49 = .ok (.bipush 39, 2) := by decide +kernel
set_option maxRecDepth 100000 in
theorem dX12_string_51 : decode cX12_string 51 = .ok (.if_icmp .eq 9, 3) := by decide +kernel
set_option maxRecDepth 100000 in
theorem dX12_string_54 : decode cX12_string 54 = .ok (.iconst 1, 1) := by decide +kernel
set_option maxRecDepth 100000 in
theorem dX12_string_55 : decode cX12_string 55 = .ok (.istore 4, 2) := by decide +kernel
set_option maxRecDepth 100000 in
theorem dX12_string_57 : decode cX12_string 57 = .ok (.goto 66, 3) := by decide +kernel
set_option maxRecDepth 100000 in
theorem dX12_string_60 : decode cX12_string 60 = .ok (.iload 5, 2) := by decide +kernel
set_option maxRecDepth 100000 in
theorem dX12_string_62 : decode cX12_string 62 = .ok (.ifCond .eq 21, 3) := by decide +kernel
set_option maxRecDepth 100000 in
theorem dX12_string_65 : decode cX12_string 65 = .ok (.iload 6, 2) := by decide +kernel
set_option maxRecDepth 100000 in
theorem dX12_string_67 : decode cX12_string 67 = .ok (.bipush 32, 2) := by decide +kernel
set_option maxRecDepth 100000 in
theorem dX12_string_69 : decode cX12_string 69 = .ok (.if_icmp .lt 14, 3) := by decide +kernel
set_option maxRecDepth 100000 in
theorem dX12_string_72 : decode cX12_string 72 = .ok (.iload 6, 2) := by decide +kernel
set_option maxRecDepth 100000 in
theorem dX12_string_74 : decode cX12_string 74 = .ok (.bipush 126, 2) := by decide +kernel
set_option maxRecDepth 100000 in
theorem dX12_string_76 : decode cX12_string 76 = .ok (.if_icmp .gt 7, 3) := by decide +kernel
set_option maxRecDepth 100000 in
theorem dX12_string_79 : decode cX12_string 79 = .ok (.iconst 1, 1) := by decide +kernel
set_option maxRecDepth 100000 in
theorem dX12_string_80 : decode cX12_string 80 = .ok (.goto 4, 3) := by decide +kernel
set_option maxRecDepth 100000 in
theorem dX12_string_83 : decode cX12_string 83 = .ok (.iconst 0, 1) := by decide +kernel
set_option maxRecDepth 100000 in
theorem dX12_string_84 : decode cX12_string 84 = .ok (.istore 5, 2) := by decide +kernel
set_option maxRecDepth 100000 in
theorem dX12_string_86 : decode cX12_string 86 = .ok (.aload_n 0, 1) := by decide +kernel
set_option maxRecDepth 100000 in
theorem dX12_string_87 : decode cX12_string 87 = .ok (.getfield 42, 3) := by decide +kernel
set_option maxRecDepth 100000 in
theorem dX12_string_90 : decode cX12_string 90 = .ok (.aload_n 0, 1) := by decide +kernel
set_option maxRecDepth 100000 in
theorem dX12_string_91 : decode cX12_string 91 = .ok (.getfield 411, 3) := by decide +kernel
set_option maxRecDepth 100000 in
theorem dX12_string_94 : decode cX12_string 94 = .ok (.iload 6, 2) := by decide +kernel
set_option maxRecDepth 100000 in
theorem dX12_string_96 : decode cX12_string 96 = .ok (.i2b, 1) := by decide +kernel
set_option maxRecDepth 100000 in
theorem dX12_string_97 : decode cX12_string 97 = .ok (.bastore, 1) := by decide +kernel
set_option maxRecDepth 100000 in
theorem dX12_string_98 : decode cX12_string 98 = .ok (.aload_n 0, 1) := by decide +kernel
set_option maxRecDepth 100000 in
theorem dX12_string_99 : decode cX12_string 99 = .ok (.dup, 1) := by decide +kernel
set_option maxRecDepth 100000 in
theorem dX12_string_100 : decode cX12_string 100 = .ok (.getfield 411, 3) := by decide +kernel
set_option maxRecDepth 100000 in
theorem dX12_string_103 : decode cX12_string 103 = .ok (.iconst 1, 1) := by decide +kernel
set_option maxRecDepth 100000 in
theorem dX12_string_104 : decode cX12_string 104 = .ok (.iadd, 1) := by decide +kernel
set_option maxRecDepth 100000 in
theorem dX12_string_105 : decode cX12_string 105 = .ok (.putfield 411, 3) := by decide +kernel
set_option maxRecDepth 100000 in
theorem dX12_string_108 : decode cX12_string 108 = .ok (.iload_n 2, 1) := by decide +kernel
set_option maxRecDepth 100000 in
theorem dX12_string_109 : decode cX12_string 109 = .ok (.iload 6, 2) := by decide +kernel
set_option maxRecDepth 100000 in
theorem dX12_string_111 : decode cX12_string 111 = .ok (.bipush 39, 2) := by decide +kernel
set_option maxRecDepth 100000 in
theorem dX12_string_113 : decode cX12_string 113 = .ok (.if_icmp .ne 7, 3) := by decide +kernel
set_option maxRecDepth 100000 in
theorem dX12_string_116 : decode cX12_string 116 = .ok (.iconst 1, 1) := by decide +kernel
set_option maxRecDepth 100000 in
theorem dX12_string_117 : decode cX12_string 117 = .ok (.goto 4, 3) := by decide +kernel
set_option maxRecDepth 100000 in
theorem dX12_string_120 : decode cX12_string 120 = .ok (.iconst 0, 1) := by decide +kernel
set_option maxRecDepth 100000 in
theorem dX12_string_121 : decode cX12_string 121 = .ok (.iadd, 1) := by decide +kernel
set_option maxRecDepth 100000 in
theorem dX12_string_122 : decode cX12_string 122 = .ok (.istore_n 2, 1) := by decide +kernel
set_option maxRecDepth 100000 in
theorem dX12_string_123 : decode cX12_string 123 = .ok (.iinc 2 1, 3) := by decide +kernel
set_option maxRecDepth 100000 in
theorem dX12_string_126 : decode cX12_string 126 = .ok (.goto (-111), 3) := by decide +kernel
set_option maxRecDepth 100000 in
theorem dX12_string_129 : decode cX12_string 129 = .ok (.aload_n 0, 1) := by decide +kernel
set_option maxRecDepth 100000 in
theorem dX12_string_130 : decode cX12_string 130 = .ok (.getfield 411, 3) := by decide +kernel
set_option maxRecDepth 100000 in
theorem dX12_string_133 : decode cX12_string 133 = .ok (.iload_n 3, 1) := by decide +kernel
set_option maxRecDepth 100000 in
theorem dX12_string_134 : decode cX12_string 134 = .ok (.isub, 1) := by decide +kernel
set_option maxRecDepth 100000 in
theorem dX12_string_135 : decode cX12_string 135 = .ok (.istore 6, 2) := by decide +kernel
set_option maxRecDepth 100000 in
theorem dX12_string_137 : decode cX12_string 137 = .ok (.iload 4, 2) := by decide +kernel
set_option maxRecDepth 100000 in
theorem dX12_string_139 : decode cX12_string 139 = .ok (.ifCond .eq 20, 3) := by decide +kernel
set_option maxRecDepth 100000 in
theorem dX12_string_142 : decode cX12_string 142 = .ok (.iload 5, 2) := by decide +kernel
set_option maxRecDepth 100000 in
theorem dX12_string_144 : decode cX12_string 144 = .ok (.ifCond .eq 15, 3) := by decide +kernel
set_option maxRecDepth 100000 in
theorem dX12_string_147 : decode cX12_string 147 = .ok (.iload 6, 2) := by decide +kernel
set_option maxRecDepth 100000 in
theorem dX12_string_149 : decode cX12_string 149 = .ok (.ifCond .eq 10, 3) := by decide +kernel
set_option maxRecDepth 100000 in
theorem dX12_string_152 : decode cX12_string 152 = .ok (.iload 6, 2) := by decide +kernel
set_option maxRecDepth 100000 in
theorem dX12_string_154 : decode cX12_string 154 = .ok (.bipush 80, 2) := by decide +kernel
set_option maxRecDepth 100000 in
theorem dX12_string_156 : decode cX12_string 156 = .ok (.if_icmp .le 9, 3) := by decide +kernel
set_option maxRecDepth 100000 in
theorem dX12_string_159 : decode cX12_string 159 = .ok (.aload_n 0, 1) := by decide +kernel
set_option maxRecDepth 100000 in
theorem dX12_string_160 : decode cX12_string 160 = .ok (.iconst 1, 1) := by decide +kernel
set_option maxRecDepth 100000 in
theorem dX12_string_161 : decode cX12_string 161 = .ok (.iload_n 1, 1) := by decide +kernel
set_option maxRecDepth 100000 in
theorem dX12_string_162 : decode cX12_string 162 = .ok (.invokevirtual 276, 3) := by decide +kernel
set_option maxRecDepth 100000 in
theorem dX12_string_165 : decode cX12_string 165 = .ok (.aload_n 0, 1) := by decide +kernel
set_option maxRecDepth 100000 in
theorem dX12_string_166 : decode cX12_string 166 = .ok (.iload_n 2, 1) := by decide +kernel
set_option maxRecDepth 100000 in
theorem dX12_string_167 : decode cX12_string 167 = .ok (.putfield 269, 3) := by decide +kernel
set_option maxRecDepth 100000 in
theorem dX12_string_170 : decode cX12_string 170 = .ok (.aload_n 0, 1) := by decide +kernel
set_option maxRecDepth 100000 in
theorem dX12_string_171 : decode cX12_string 171 = .ok (.getfield 35, 3) := by decide +kernel
set_option maxRecDepth 100000 in
theorem dX12_string_174 : decode cX12_string 174 = .ok (.aload_n 0, 1) := by decide +kernel
set_option maxRecDepth 100000 in
theorem dX12_string_175 : decode cX12_string 175 = .ok (.getfield 378, 3) := by decide +kernel
set_option maxRecDepth 100000 in
theorem dX12_string_178 : decode cX12_string 178 = .ok (.iload 6, 2) := by decide +kernel
set_option maxRecDepth 100000 in
theorem dX12_string_180 : decode cX12_string 180 = .ok (.iastore, 1) := by decide +kernel
set_option maxRecDepth 100000 in
theorem dX12_string_181 : decode cX12_string 181 = .ok (.aload_n 0, 1) := by decide +kernel
set_option maxRecDepth 100000 in
theorem dX12_string_182 : decode cX12_string 182 = .ok (.bipush 43, 2) := by decide +kernel
set_option maxRecDepth 100000 in
theorem dX12_string_184 : decode cX12_string 184 = .ok (.iload_n 1, 1) := by decide +kernel
set_option maxRecDepth 100000 in
theorem dX12_string_185 : decode cX12_string 185 = .ok (.iload_n 3, 1) := by decide +kernel
set_option maxRecDepth 100000 in
theorem dX12_string_186 : decode cX12_string 186 = .ok (.invokevirtual 399, 3) := by decide +kernel
set_option maxRecDepth 100000 in
theorem dX12_string_189 : decode cX12_string 189 = .ok (.return_, 1) := by decide +kernel
def lX12_string_15 (G : xG) (fr lo : Nat) (x0 : Nat) (x1 : Int32) (x2 : Int32) (x3 : Int32) (x4 : Int32) (x5 : Int32) (h : xH) (Q : Outcome → xH → Prop) : Prop := xP G YX12_string fr lo 15 [(0, rv x0), (1, .int x1), (2, .int x2), (3, .int x3), (4, .int x4), (5, .int x5)] [] h Q
set_option maxRecDepth 100000 in
def bX12_string_165 (G : xG) (fr lo : Nat) (x0 : Nat) (x1 : Int32) (x2 : Int32) (x3 : Int32) (x6 : Int32) (h : xH) (Q : Outcome → xH → Prop) : Prop := tg h x0 = 13 ∧ (∀ h2 : xH, h2 = sI h x0 3081 x2 → tg h2 (fR h2 x0 3085) = 100 ∧ vp_in (fI h2 x0 3087) (ln h2 (fR h2 x0 3085)) ∧ (∀ h7 : xH, h7 = tI h2 (fR h2 x0 3085) (Int32.toNatClampNeg (fI h2 x0 3087)) x6 → 1 ≤ fr ∧ 15 ≤ lo ∧ xRv G YX12_lay (fr - 1) (lo - 15) [rv x0, .int 43, .int x1, .int x3] h7 (fun h12 => xext h7 h12 → Q (.returned none) h12) (fun r h2 => Q (.threw r) h2)))
set_option maxRecDepth 100000 in
theorem uX12_string_165 {G : xG} {fr lo : Nat} {x0 : Nat} {x1 : Int32} {x2 : Int32} {x3 : Int32} {x6 : Int32} {h : xH} {Q : Outcome → xH → Prop} (hq : bX12_string_165 G fr lo x0 x1 x2 x3 x6 h Q) : xP G YX12_string fr lo 165 [(0, rv x0), (1, .int x1), (2, .int x2), (3, .int x3), (6, .int x6)] [] h Q := by
  unfold bX12_string_165 at hq
  refine x_aload_n 0 dX12_string_165 rfl ?_
  refine x_iload_n 2 dX12_string_166 rfl ?_
  obtain ⟨g1, hq⟩ := hq
  obtain ⟨h2, e3⟩ : ∃ y, y = sI h x0 3081 x2 := ⟨_, rfl⟩
  replace hq := hq h2 e3
  refine x_putI fdX12_269 xty_I1 dX12_string_167 g1 (Or.inl (by rw [g1]; rfl)) xnI rfl e3 ?_
  refine x_aload_n 0 dX12_string_170 rfl ?_
  have t4 : tg h2 x0 = 13 := by rw [e3]; exact g1
  refine x_get (v := rv (fR h2 x0 3085)) fdX12_35 dX12_string_171 t4 rfl ?_
  refine x_aload_n 0 dX12_string_174 rfl ?_
  refine x_get (v := .int (fI h2 x0 3087)) fdX12_378 dX12_string_175 t4 rfl ?_
  refine x_iload 4 dX12_string_178 rfl ?_
  obtain ⟨g5, hq⟩ := hq
  obtain ⟨i6, hq⟩ := hq
  obtain ⟨h7, e8⟩ : ∃ y, y = tI h2 (fR h2 x0 3085) (Int32.toNatClampNeg (fI h2 x0 3087)) x6 := ⟨_, rfl⟩
  replace hq := hq h7 e8
  refine x_iast' g5 i6 dX12_string_180 e8 ?_
  refine x_aload_n 0 dX12_string_181 rfl ?_
  refine x_bipush (v := 43) dX12_string_182 (by decide) ?_
  refine x_iload_n 1 dX12_string_184 rfl ?_
  refine x_iload_n 3 dX12_string_185 rfl ?_
  have t9 : tg h7 x0 = 13 := by rw [e8]; exact t4
  obtain ⟨g10, g11, hq⟩ := hq
  refine x_callV (Yc := YX12_lay) (as := [.int 43, .int x1, .int x3]) (st := []) q3735 mvX12_lay t9 rfl dX12_string_186 (xle (xal1 (rv_cat _) (xal1 rfl (xal1 rfl (xal1 rfl xal0)))) (by decide)) (xfr g10) (xlo xsw0 (by decide) g11) (xKv hq (fun h12 hq e14 => ?_) (fun _ _ q _ => q))
  replace hq := hq e14
  exact x_vret rfl dX12_string_189 hq
set_option maxRecDepth 100000 in
def bX12_string_159 (G : xG) (fr lo : Nat) (x0 : Nat) (x1 : Int32) (x2 : Int32) (x3 : Int32) (x6 : Int32) (h : xH) (Q : Outcome → xH → Prop) : Prop := tg h x0 = 13 ∧ 1 ≤ fr ∧ 14 ≤ lo ∧ xRv G YX12_stop (fr - 1) (lo - 14) [rv x0, .int 1, .int x1] h (fun h4 => xext h h4 → bX12_string_165 G fr lo x0 x1 x2 x3 x6 h4 Q) (fun r h2 => Q (.threw r) h2)
set_option maxRecDepth 100000 in
theorem uX12_string_159 {G : xG} {fr lo : Nat} {x0 : Nat} {x1 : Int32} {x2 : Int32} {x3 : Int32} {x6 : Int32} {h : xH} {Q : Outcome → xH → Prop} (hq : bX12_string_159 G fr lo x0 x1 x2 x3 x6 h Q) : xP G YX12_string fr lo 159 [(0, rv x0), (1, .int x1), (2, .int x2), (3, .int x3), (6, .int x6)] [] h Q := by
  unfold bX12_string_159 at hq
  refine x_aload_n 0 dX12_string_159 rfl ?_
  refine x_iconst (v := 1) dX12_string_160 (by decide) ?_
  refine x_iload_n 1 dX12_string_161 rfl ?_
  obtain ⟨g1, hq⟩ := hq
  obtain ⟨g2, g3, hq⟩ := hq
  refine x_callV (Yc := YX12_stop) (as := [.int 1, .int x1]) (st := []) q3729 mvX12_stop g1 rfl dX12_string_162 (xle (xal1 (rv_cat _) (xal1 rfl (xal1 rfl xal0))) (by decide)) (xfr g2) (xlo xsw0 (by decide) g3) (xKv hq (fun h4 hq e6 => ?_) (fun _ _ q _ => q))
  replace hq := hq e6
  exact uX12_string_165 hq
set_option maxRecDepth 100000 in
def bX12_string_129 (G : xG) (fr lo : Nat) (x0 : Nat) (x1 : Int32) (x2 : Int32) (x3 : Int32) (x4 : Int32) (x5 : Int32) (h : xH) (Q : Outcome → xH → Prop) : Prop := tg h x0 = 13 ∧ ((x4 = 0 → bX12_string_159 G fr lo x0 x1 x2 x3 ((fI h x0 3089) - x3) h Q) ∧ (¬ x4 = 0 → ((x5 = 0 → bX12_string_159 G fr lo x0 x1 x2 x3 ((fI h x0 3089) - x3) h Q) ∧ (¬ x5 = 0 → ((((fI h x0 3089) - x3) = 0 → bX12_string_159 G fr lo x0 x1 x2 x3 ((fI h x0 3089) - x3) h Q) ∧ (¬ ((fI h x0 3089) - x3) = 0 → ((((fI h x0 3089) - x3) ≤ 80 → bX12_string_165 G fr lo x0 x1 x2 x3 ((fI h x0 3089) - x3) h Q) ∧ (¬ ((fI h x0 3089) - x3) ≤ 80 → bX12_string_159 G fr lo x0 x1 x2 x3 ((fI h x0 3089) - x3) h Q))))))))
set_option maxRecDepth 100000 in
theorem uX12_string_129 {G : xG} {fr lo : Nat} {x0 : Nat} {x1 : Int32} {x2 : Int32} {x3 : Int32} {x4 : Int32} {x5 : Int32} {h : xH} {Q : Outcome → xH → Prop} (hq : bX12_string_129 G fr lo x0 x1 x2 x3 x4 x5 h Q) : xP G YX12_string fr lo 129 [(0, rv x0), (1, .int x1), (2, .int x2), (3, .int x3), (4, .int x4), (5, .int x5)] [] h Q := by
  unfold bX12_string_129 at hq
  refine x_aload_n 0 dX12_string_129 rfl ?_
  obtain ⟨g1, hq⟩ := hq
  refine x_get (v := .int (fI h x0 3089)) fdX12_411 dX12_string_130 g1 rfl ?_
  refine x_iload_n 3 dX12_string_133 rfl ?_
  refine x_isub dX12_string_134 ?_
  refine x_istore (lv' := [(6, .int ((fI h x0 3089) - x3)), (0, rv x0), (1, .int x1), (2, .int x2), (3, .int x3), (4, .int x4), (5, .int x5)]) dX12_string_135 (by decide) rfl ?_
  refine x_iload 5 dX12_string_137 rfl ?_
  refine x_if_eq (tgt := 159) dX12_string_139 (by decide) (fun c2 => ?_) (fun c2 => ?_)
  · replace hq := hq.1 c2
    refine xP.pick (lv' := [(0, rv x0), (1, .int x1), (2, .int x2), (3, .int x3), (6, .int ((fI h x0 3089) - x3))]) [1, 2, 3, 4, 0] rfl ?_
    exact uX12_string_159 hq
  · replace hq := hq.2 c2
    refine x_iload 6 dX12_string_142 rfl ?_
    refine x_if_eq (tgt := 159) dX12_string_144 (by decide) (fun c3 => ?_) (fun c3 => ?_)
    · replace hq := hq.1 c3
      refine xP.pick (lv' := [(0, rv x0), (1, .int x1), (2, .int x2), (3, .int x3), (6, .int ((fI h x0 3089) - x3))]) [1, 2, 3, 4, 0] rfl ?_
      exact uX12_string_159 hq
    · replace hq := hq.2 c3
      refine x_iload 0 dX12_string_147 rfl ?_
      refine x_if_eq (tgt := 159) dX12_string_149 (by decide) (fun c4 => ?_) (fun c4 => ?_)
      · replace hq := hq.1 c4
        refine xP.pick (lv' := [(0, rv x0), (1, .int x1), (2, .int x2), (3, .int x3), (6, .int ((fI h x0 3089) - x3))]) [1, 2, 3, 4, 0] rfl ?_
        exact uX12_string_159 hq
      · replace hq := hq.2 c4
        refine x_iload 0 dX12_string_152 rfl ?_
        refine x_bipush (v := 80) dX12_string_154 (by decide) ?_
        refine x_icmp_le (tgt := 165) dX12_string_156 (by decide) (fun c5 => ?_) (fun c5 => ?_)
        · replace hq := hq.1 c5
          refine xP.pick (lv' := [(0, rv x0), (1, .int x1), (2, .int x2), (3, .int x3), (6, .int ((fI h x0 3089) - x3))]) [1, 2, 3, 4, 0] rfl ?_
          exact uX12_string_165 hq
        · replace hq := hq.2 c5
          refine xP.pick (lv' := [(0, rv x0), (1, .int x1), (2, .int x2), (3, .int x3), (6, .int ((fI h x0 3089) - x3))]) [1, 2, 3, 4, 0] rfl ?_
          exact uX12_string_159 hq
set_option maxRecDepth 100000 in
def bX12_string_123 (G : xG) (fr lo : Nat) (x0 : Nat) (x1 : Int32) (x2 : Int32) (x3 : Int32) (x4 : Int32) (x5 : Int32) (h : xH) (Q : Outcome → xH → Prop) : Prop := lX12_string_15 G fr lo x0 x1 (x2 + 1) x3 x4 x5 h Q
set_option maxRecDepth 100000 in
theorem uX12_string_123 {G : xG} {fr lo : Nat} {x0 : Nat} {x1 : Int32} {x2 : Int32} {x3 : Int32} {x4 : Int32} {x5 : Int32} {h : xH} {Q : Outcome → xH → Prop} (hq : bX12_string_123 G fr lo x0 x1 x2 x3 x4 x5 h Q) : xP G YX12_string fr lo 123 [(0, rv x0), (1, .int x1), (2, .int x2), (3, .int x3), (4, .int x4), (5, .int x5)] [] h Q := by
  unfold bX12_string_123 at hq
  refine x_iinc (lv' := [(2, .int (x2 + 1)), (0, rv x0), (1, .int x1), (3, .int x3), (4, .int x4), (5, .int x5)]) 2 dX12_string_123 rfl (by decide) rfl ?_
  refine x_goto (tgt := 15) dX12_string_126 (by decide) ?_
  refine xP.pick (lv' := [(0, rv x0), (1, .int x1), (2, .int (x2 + 1)), (3, .int x3), (4, .int x4), (5, .int x5)]) [1, 2, 0, 3, 4, 5] rfl ?_
  exact hq
set_option maxRecDepth 100000 in
def bX12_string_121 (G : xG) (fr lo : Nat) (x0 : Nat) (x1 : Int32) (x3 : Int32) (x4 : Int32) (x5 : Int32) (s0 : Int32) (s1 : Int32) (h : xH) (Q : Outcome → xH → Prop) : Prop := bX12_string_123 G fr lo x0 x1 (s1 + s0) x3 x4 x5 h Q
set_option maxRecDepth 100000 in
theorem uX12_string_121 {G : xG} {fr lo : Nat} {x0 : Nat} {x1 : Int32} {x3 : Int32} {x4 : Int32} {x5 : Int32} {s0 : Int32} {s1 : Int32} {h : xH} {Q : Outcome → xH → Prop} (hq : bX12_string_121 G fr lo x0 x1 x3 x4 x5 s0 s1 h Q) : xP G YX12_string fr lo 121 [(0, rv x0), (1, .int x1), (3, .int x3), (4, .int x4), (5, .int x5)] [.int s0, .int s1] h Q := by
  unfold bX12_string_121 at hq
  refine x_iadd dX12_string_121 ?_
  refine x_istore_n (lv' := [(2, .int (s1 + s0)), (0, rv x0), (1, .int x1), (3, .int x3), (4, .int x4), (5, .int x5)]) dX12_string_122 (by decide) rfl ?_
  refine xP.pick (lv' := [(0, rv x0), (1, .int x1), (2, .int (s1 + s0)), (3, .int x3), (4, .int x4), (5, .int x5)]) [1, 2, 0, 3, 4, 5] rfl ?_
  exact uX12_string_123 hq
set_option maxRecDepth 100000 in
def bX12_string_84 (G : xG) (fr lo : Nat) (x0 : Nat) (x1 : Int32) (x2 : Int32) (x3 : Int32) (x4 : Int32) (x6 : Int32) (s0 : Int32) (h : xH) (Q : Outcome → xH → Prop) : Prop := tg h x0 = 13 ∧ tg h (fR h x0 3088) = 103 ∧ xGB G < (fR h x0 3088) ∧ vp_in (fI h x0 3089) (ln h (fR h x0 3088)) ∧ (∀ h5 : xH, h5 = tI h (fR h x0 3088) (Int32.toNatClampNeg (fI h x0 3089)) (vp_nar .byte ((Int32.toInt8 x6).toInt32)) → (∀ h8 : xH, h8 = sI h5 x0 3089 ((fI h5 x0 3089) + 1) → ((¬ x6 = 39 → bX12_string_121 G fr lo x0 x1 x3 x4 s0 0 x2 h8 Q) ∧ (x6 = 39 → bX12_string_121 G fr lo x0 x1 x3 x4 s0 1 x2 h8 Q))))
set_option maxRecDepth 100000 in
theorem uX12_string_84 {G : xG} {fr lo : Nat} {x0 : Nat} {x1 : Int32} {x2 : Int32} {x3 : Int32} {x4 : Int32} {x6 : Int32} {s0 : Int32} {h : xH} {Q : Outcome → xH → Prop} (hq : bX12_string_84 G fr lo x0 x1 x2 x3 x4 x6 s0 h Q) : xP G YX12_string fr lo 84 [(0, rv x0), (1, .int x1), (2, .int x2), (3, .int x3), (4, .int x4), (6, .int x6)] [.int s0] h Q := by
  unfold bX12_string_84 at hq
  refine x_istore (lv' := [(5, .int s0), (0, rv x0), (1, .int x1), (2, .int x2), (3, .int x3), (4, .int x4), (6, .int x6)]) dX12_string_84 (by decide) rfl ?_
  refine x_aload_n 1 dX12_string_86 rfl ?_
  obtain ⟨g1, hq⟩ := hq
  refine x_get (v := rv (fR h x0 3088)) fdX12_42 dX12_string_87 g1 rfl ?_
  refine x_aload_n 1 dX12_string_90 rfl ?_
  refine x_get (v := .int (fI h x0 3089)) fdX12_411 dX12_string_91 g1 rfl ?_
  refine x_iload 6 dX12_string_94 rfl ?_
  refine x_i2b dX12_string_96 ?_
  obtain ⟨g2, hq⟩ := hq
  obtain ⟨w3, hq⟩ := hq
  obtain ⟨i4, hq⟩ := hq
  obtain ⟨h5, e6⟩ : ∃ y, y = tI h (fR h x0 3088) (Int32.toNatClampNeg (fI h x0 3089)) (vp_nar .byte ((Int32.toInt8 x6).toInt32)) := ⟨_, rfl⟩
  replace hq := hq h5 e6
  refine x_bast' g2 (Or.inr w3) i4 dX12_string_97 e6 ?_
  refine x_aload_n 1 dX12_string_98 rfl ?_
  refine x_dup dX12_string_99 (rv_cat _) ?_
  have t7 : tg h5 x0 = 13 := by rw [e6]; exact g1
  refine x_get (v := .int (fI h5 x0 3089)) fdX12_411 dX12_string_100 t7 rfl ?_
  refine x_iconst (v := 1) dX12_string_103 (by decide) ?_
  refine x_iadd dX12_string_104 ?_
  obtain ⟨h8, e9⟩ : ∃ y, y = sI h5 x0 3089 ((fI h5 x0 3089) + 1) := ⟨_, rfl⟩
  replace hq := hq h8 e9
  refine x_putI fdX12_411 xty_I1 dX12_string_105 t7 (Or.inl (by rw [t7]; rfl)) xnI rfl e9 ?_
  refine x_iload_n 3 dX12_string_108 rfl ?_
  refine x_iload 6 dX12_string_109 rfl ?_
  refine x_bipush (v := 39) dX12_string_111 (by decide) ?_
  refine x_icmp_ne (tgt := 120) dX12_string_113 (by decide) (fun c10 => ?_) (fun c10 => ?_)
  · replace hq := hq.1 c10
    refine x_iconst (v := 0) dX12_string_120 (by decide) ?_
    refine xP.pick (lv' := [(0, rv x0), (1, .int x1), (3, .int x3), (4, .int x4), (5, .int s0)]) [1, 2, 4, 5, 0] rfl ?_
    exact uX12_string_121 hq
  · replace hq := hq.2 c10
    refine x_iconst (v := 1) dX12_string_116 (by decide) ?_
    refine x_goto (tgt := 121) dX12_string_117 (by decide) ?_
    refine xP.pick (lv' := [(0, rv x0), (1, .int x1), (3, .int x3), (4, .int x4), (5, .int s0)]) [1, 2, 4, 5, 0] rfl ?_
    exact uX12_string_121 hq
set_option maxRecDepth 100000 in
def bX12_string_83 (G : xG) (fr lo : Nat) (x0 : Nat) (x1 : Int32) (x2 : Int32) (x3 : Int32) (x4 : Int32) (x6 : Int32) (h : xH) (Q : Outcome → xH → Prop) : Prop := bX12_string_84 G fr lo x0 x1 x2 x3 x4 x6 0 h Q
set_option maxRecDepth 100000 in
theorem uX12_string_83 {G : xG} {fr lo : Nat} {x0 : Nat} {x1 : Int32} {x2 : Int32} {x3 : Int32} {x4 : Int32} {x6 : Int32} {h : xH} {Q : Outcome → xH → Prop} (hq : bX12_string_83 G fr lo x0 x1 x2 x3 x4 x6 h Q) : xP G YX12_string fr lo 83 [(0, rv x0), (1, .int x1), (2, .int x2), (3, .int x3), (4, .int x4), (6, .int x6)] [] h Q := by
  unfold bX12_string_83 at hq
  refine x_iconst (v := 0) dX12_string_83 (by decide) ?_
  exact uX12_string_84 hq
set_option maxRecDepth 100000 in
def bX12_string_60 (G : xG) (fr lo : Nat) (x0 : Nat) (x1 : Int32) (x2 : Int32) (x3 : Int32) (x4 : Int32) (x5 : Int32) (x6 : Int32) (h : xH) (Q : Outcome → xH → Prop) : Prop := ((x5 = 0 → bX12_string_83 G fr lo x0 x1 x2 x3 x4 x6 h Q) ∧ (¬ x5 = 0 → ((x6 < 32 → bX12_string_83 G fr lo x0 x1 x2 x3 x4 x6 h Q) ∧ (¬ x6 < 32 → ((126 < x6 → bX12_string_83 G fr lo x0 x1 x2 x3 x4 x6 h Q) ∧ (¬ 126 < x6 → bX12_string_84 G fr lo x0 x1 x2 x3 x4 x6 1 h Q))))))
set_option maxRecDepth 100000 in
theorem uX12_string_60 {G : xG} {fr lo : Nat} {x0 : Nat} {x1 : Int32} {x2 : Int32} {x3 : Int32} {x4 : Int32} {x5 : Int32} {x6 : Int32} {h : xH} {Q : Outcome → xH → Prop} (hq : bX12_string_60 G fr lo x0 x1 x2 x3 x4 x5 x6 h Q) : xP G YX12_string fr lo 60 [(0, rv x0), (1, .int x1), (2, .int x2), (3, .int x3), (4, .int x4), (5, .int x5), (6, .int x6)] [] h Q := by
  unfold bX12_string_60 at hq
  refine x_iload 5 dX12_string_60 rfl ?_
  refine x_if_eq (tgt := 83) dX12_string_62 (by decide) (fun c1 => ?_) (fun c1 => ?_)
  · replace hq := hq.1 c1
    refine xP.pick (lv' := [(0, rv x0), (1, .int x1), (2, .int x2), (3, .int x3), (4, .int x4), (6, .int x6)]) [0, 1, 2, 3, 4, 6] rfl ?_
    exact uX12_string_83 hq
  · replace hq := hq.2 c1
    refine x_iload 6 dX12_string_65 rfl ?_
    refine x_bipush (v := 32) dX12_string_67 (by decide) ?_
    refine x_icmp_lt (tgt := 83) dX12_string_69 (by decide) (fun c2 => ?_) (fun c2 => ?_)
    · replace hq := hq.1 c2
      refine xP.pick (lv' := [(0, rv x0), (1, .int x1), (2, .int x2), (3, .int x3), (4, .int x4), (6, .int x6)]) [0, 1, 2, 3, 4, 6] rfl ?_
      exact uX12_string_83 hq
    · replace hq := hq.2 c2
      refine x_iload 6 dX12_string_72 rfl ?_
      refine x_bipush (v := 126) dX12_string_74 (by decide) ?_
      refine x_icmp_gt (tgt := 83) dX12_string_76 (by decide) (fun c3 => ?_) (fun c3 => ?_)
      · replace hq := hq.1 c3
        refine xP.pick (lv' := [(0, rv x0), (1, .int x1), (2, .int x2), (3, .int x3), (4, .int x4), (6, .int x6)]) [0, 1, 2, 3, 4, 6] rfl ?_
        exact uX12_string_83 hq
      · replace hq := hq.2 c3
        refine x_iconst (v := 1) dX12_string_79 (by decide) ?_
        refine x_goto (tgt := 84) dX12_string_80 (by decide) ?_
        refine xP.pick (lv' := [(0, rv x0), (1, .int x1), (2, .int x2), (3, .int x3), (4, .int x4), (6, .int x6)]) [0, 1, 2, 3, 4, 6] rfl ?_
        exact uX12_string_84 hq
set_option maxRecDepth 100000 in
def bX12_string_15 (G : xG) (fr lo : Nat) (x0 : Nat) (x1 : Int32) (x2 : Int32) (x3 : Int32) (x4 : Int32) (x5 : Int32) (h : xH) (Q : Outcome → xH → Prop) : Prop := tg h x0 = 13 ∧ (((fI h x0 3080) ≤ x2 → bX12_string_129 G fr lo x0 x1 x2 x3 x4 x5 h Q) ∧ (¬ (fI h x0 3080) ≤ x2 → ((¬ x4 = 0 → bX12_string_129 G fr lo x0 x1 x2 x3 x4 x5 h Q) ∧ (x4 = 0 → 1 ≤ fr ∧ 13 ≤ lo ∧ xRi G YX12_byteAt (fr - 1) (lo - 13) [rv x0, .int x2] h (fun x7 h6 => xext h h6 → ((¬ x7 = 39 → bX12_string_60 G fr lo x0 x1 x2 x3 x4 x5 x7 h6 Q) ∧ (x7 = 39 → 1 ≤ fr ∧ 13 ≤ lo ∧ xRi G YX12_byteAt (fr - 1) (lo - 13) [rv x0, .int (x2 + 1)] h6 (fun x14 h13 => xext h6 h13 → ((x14 = 39 → bX12_string_60 G fr lo x0 x1 x2 x3 x4 x5 x7 h13 Q) ∧ (¬ x14 = 39 → bX12_string_123 G fr lo x0 x1 x2 x3 1 x5 h13 Q))) (fun r h2 => Q (.threw r) h2)))) (fun r h2 => Q (.threw r) h2)))))
set_option maxRecDepth 100000 in
theorem uX12_string_15 {G : xG} {fr lo : Nat} {x0 : Nat} {x1 : Int32} {x2 : Int32} {x3 : Int32} {x4 : Int32} {x5 : Int32} {h : xH} {Q : Outcome → xH → Prop} (hq : bX12_string_15 G fr lo x0 x1 x2 x3 x4 x5 h Q) : xP G YX12_string fr lo 15 [(0, rv x0), (1, .int x1), (2, .int x2), (3, .int x3), (4, .int x4), (5, .int x5)] [] h Q := by
  unfold bX12_string_15 at hq
  refine x_iload_n 2 dX12_string_15 rfl ?_
  refine x_aload_n 0 dX12_string_16 rfl ?_
  obtain ⟨g1, hq⟩ := hq
  refine x_get (v := .int (fI h x0 3080)) fdX12_266 dX12_string_17 g1 rfl ?_
  refine x_icmp_ge (tgt := 129) dX12_string_20 (by decide) (fun c2 => ?_) (fun c2 => ?_)
  · replace hq := hq.1 c2
    exact uX12_string_129 hq
  · replace hq := hq.2 c2
    refine x_iload 4 dX12_string_23 rfl ?_
    refine x_if_ne (tgt := 129) dX12_string_25 (by decide) (fun c3 => ?_) (fun c3 => ?_)
    · replace hq := hq.1 c3
      exact uX12_string_129 hq
    · replace hq := hq.2 c3
      refine x_aload_n 0 dX12_string_28 rfl ?_
      refine x_iload_n 2 dX12_string_29 rfl ?_
      obtain ⟨g4, g5, hq⟩ := hq
      refine x_callV (Yc := YX12_byteAt) (as := [.int x2]) (st := []) q3725 mvX12_byteAt g1 rfl dX12_string_30 (xle (xal1 (rv_cat _) (xal1 rfl xal0)) (by decide)) (xfr g4) (xlo xsw0 (by decide) g5) (xKi hq (fun x7 h6 hq e8 => ?_) (fun _ _ q _ => q))
      replace hq := hq e8
      refine x_istore (lv' := [(6, .int x7), (0, rv x0), (1, .int x1), (2, .int x2), (3, .int x3), (4, .int x4), (5, .int x5)]) dX12_string_33 (by decide) rfl ?_
      refine x_iload 0 dX12_string_35 rfl ?_
      refine x_bipush (v := 39) dX12_string_37 (by decide) ?_
      refine x_icmp_ne (tgt := 60) dX12_string_39 (by decide) (fun c9 => ?_) (fun c9 => ?_)
      · replace hq := hq.1 c9
        refine xP.pick (lv' := [(0, rv x0), (1, .int x1), (2, .int x2), (3, .int x3), (4, .int x4), (5, .int x5), (6, .int x7)]) [1, 2, 3, 4, 5, 6, 0] rfl ?_
        exact uX12_string_60 hq
      · replace hq := hq.2 c9
        refine x_aload_n 1 dX12_string_42 rfl ?_
        refine x_iload_n 3 dX12_string_43 rfl ?_
        refine x_iconst (v := 1) dX12_string_44 (by decide) ?_
        refine x_iadd dX12_string_45 ?_
        have t10 : tg h6 x0 = 13 := e8.tg g1 (by decide)
        obtain ⟨g11, g12, hq⟩ := hq
        refine x_callV (Yc := YX12_byteAt) (as := [.int (x2 + 1)]) (st := []) q3725 mvX12_byteAt t10 rfl dX12_string_46 (xle (xal1 (rv_cat _) (xal1 rfl xal0)) (by decide)) (xfr g11) (xlo xsw0 (by decide) g12) (xKi hq (fun x14 h13 hq e15 => ?_) (fun _ _ q _ => q))
        replace hq := hq e15
        refine x_bipush (v := 39) dX12_string_49 (by decide) ?_
        refine x_icmp_eq (tgt := 60) dX12_string_51 (by decide) (fun c16 => ?_) (fun c16 => ?_)
        · replace hq := hq.1 c16
          refine xP.pick (lv' := [(0, rv x0), (1, .int x1), (2, .int x2), (3, .int x3), (4, .int x4), (5, .int x5), (6, .int x7)]) [1, 2, 3, 4, 5, 6, 0] rfl ?_
          exact uX12_string_60 hq
        · replace hq := hq.2 c16
          refine x_iconst (v := 1) dX12_string_54 (by decide) ?_
          refine x_istore (lv' := [(4, .int 1), (6, .int x7), (0, rv x0), (1, .int x1), (2, .int x2), (3, .int x3), (5, .int x5)]) dX12_string_55 (by decide) rfl ?_
          refine x_goto (tgt := 123) dX12_string_57 (by decide) ?_
          refine xP.pick (lv' := [(0, rv x0), (1, .int x1), (2, .int x2), (3, .int x3), (4, .int 1), (5, .int x5)]) [2, 3, 4, 5, 0, 6] rfl ?_
          exact uX12_string_123 hq
set_option maxRecDepth 100000 in
def bX12_string (G : xG) (fr lo : Nat) (x0 : Nat) (x1 : Int32) (h : xH) (Q : Outcome → xH → Prop) : Prop := tg h x0 = 13 ∧ lX12_string_15 G fr lo x0 x1 (x1 + 1) (fI h x0 3089) 0 1 h Q
set_option maxRecDepth 100000 in
theorem uX12_string {G : xG} {fr lo : Nat} {x0 : Nat} {x1 : Int32} {h : xH} {Q : Outcome → xH → Prop} (hq : bX12_string G fr lo x0 x1 h Q) : xP G YX12_string fr lo 0 [(0, rv x0), (1, .int x1)] [] h Q := by
  unfold bX12_string at hq
  refine x_iload_n 1 dX12_string_0 rfl ?_
  refine x_iconst (v := 1) dX12_string_1 (by decide) ?_
  refine x_iadd dX12_string_2 ?_
  refine x_istore_n (lv' := [(2, .int (x1 + 1)), (0, rv x0), (1, .int x1)]) dX12_string_3 (by decide) rfl ?_
  refine x_aload_n 1 dX12_string_4 rfl ?_
  obtain ⟨g1, hq⟩ := hq
  refine x_get (v := .int (fI h x0 3089)) fdX12_411 dX12_string_5 g1 rfl ?_
  refine x_istore_n (lv' := [(3, .int (fI h x0 3089)), (2, .int (x1 + 1)), (0, rv x0), (1, .int x1)]) dX12_string_8 (by decide) rfl ?_
  refine x_iconst (v := 0) dX12_string_9 (by decide) ?_
  refine x_istore (lv' := [(4, .int 0), (3, .int (fI h x0 3089)), (2, .int (x1 + 1)), (0, rv x0), (1, .int x1)]) dX12_string_10 (by decide) rfl ?_
  refine x_iconst (v := 1) dX12_string_12 (by decide) ?_
  refine x_istore (lv' := [(5, .int 1), (4, .int 0), (3, .int (fI h x0 3089)), (2, .int (x1 + 1)), (0, rv x0), (1, .int x1)]) dX12_string_13 (by decide) rfl ?_
  refine xP.pick (lv' := [(0, rv x0), (1, .int x1), (2, .int (x1 + 1)), (3, .int (fI h x0 3089)), (4, .int 0), (5, .int 1)]) [4, 5, 3, 2, 1, 0] rfl ?_
  exact hq
theorem rX12_string {G : xG} {fr lo : Nat} {x0 : Nat} {x1 : Int32} {h : xH} {Q : Outcome → xH → Prop} (hq : bX12_string G fr lo x0 x1 h Q) : xR G YX12_string fr lo [rv x0, .int x1] h Q := by
  show xP _ _ _ _ _ (lv_args 0 _) _ _ _
  rw [show lv_args 0 [rv x0, .int x1] = [(0, rv x0), (1, .int x1)] from (xla1 (rv_cat _) (xla1 rfl xla0))]
  exact uX12_string hq
set_option maxRecDepth 100000 in
theorem dX12_twofold_0 : decode cX12_twofold 0 = .ok (.iload_n 0, 1) := by decide +kernel
set_option maxRecDepth 100000 in
theorem dX12_twofold_1 : decode cX12_twofold 1 = .ok (.bipush 60, 2) := by decide +kernel
set_option maxRecDepth 100000 in
theorem dX12_twofold_3 : decode cX12_twofold 3 = .ok (.if_icmp .ne 12, 3) := by decide +kernel
set_option maxRecDepth 100000 in
theorem dX12_twofold_6 : decode cX12_twofold 6 = .ok (.iload_n 1, 1) := by decide +kernel
set_option maxRecDepth 100000 in
theorem dX12_twofold_7 : decode cX12_twofold 7 = .ok (.bipush 61, 2) := by decide +kernel
set_option maxRecDepth 100000 in
theorem dX12_twofold_9 : decode cX12_twofold 9 = .ok (.if_icmp .ne 6, 3) := by decide +kernel
set_option maxRecDepth 100000 in
theorem dX12_twofold_12 : decode cX12_twofold 12 = .ok (.bipush 57, 2) := by decide +kernel
set_option maxRecDepth 100000 in
theorem dX12_twofold_14 : decode cX12_twofold 14 = .ok (.ireturn, 1) := by decide +kernel
set_option maxRecDepth 100000 in
theorem dX12_twofold_15 : decode cX12_twofold 15 = .ok (.iload_n 0, 1) := by decide +kernel
set_option maxRecDepth 100000 in
theorem dX12_twofold_16 : decode cX12_twofold 16 = .ok (.bipush 62, 2) := by decide +kernel
set_option maxRecDepth 100000 in
theorem dX12_twofold_18 : decode cX12_twofold 18 = .ok (.if_icmp .ne 12, 3) := by decide +kernel
set_option maxRecDepth 100000 in
theorem dX12_twofold_21 : decode cX12_twofold 21 = .ok (.iload_n 1, 1) := by decide +kernel
set_option maxRecDepth 100000 in
theorem dX12_twofold_22 : decode cX12_twofold 22 = .ok (.bipush 61, 2) := by decide +kernel
set_option maxRecDepth 100000 in
theorem dX12_twofold_24 : decode cX12_twofold 24 = .ok (.if_icmp .ne 6, 3) := by decide +kernel
set_option maxRecDepth 100000 in
theorem dX12_twofold_27 : decode cX12_twofold 27 = .ok (.bipush 58, 2) := by decide +kernel
set_option maxRecDepth 100000 in
theorem dX12_twofold_29 : decode cX12_twofold 29 = .ok (.ireturn, 1) := by decide +kernel
set_option maxRecDepth 100000 in
theorem dX12_twofold_30 : decode cX12_twofold 30 = .ok (.iload_n 0, 1) := by decide +kernel
set_option maxRecDepth 100000 in
theorem dX12_twofold_31 : decode cX12_twofold 31 = .ok (.bipush 60, 2) := by decide +kernel
set_option maxRecDepth 100000 in
theorem dX12_twofold_33 : decode cX12_twofold 33 = .ok (.if_icmp .ne 12, 3) := by decide +kernel
set_option maxRecDepth 100000 in
theorem dX12_twofold_36 : decode cX12_twofold 36 = .ok (.iload_n 1, 1) := by decide +kernel
set_option maxRecDepth 100000 in
theorem dX12_twofold_37 : decode cX12_twofold 37 = .ok (.bipush 62, 2) := by decide +kernel
set_option maxRecDepth 100000 in
theorem dX12_twofold_39 : decode cX12_twofold 39 = .ok (.if_icmp .ne 6, 3) := by decide +kernel
set_option maxRecDepth 100000 in
theorem dX12_twofold_42 : decode cX12_twofold 42 = .ok (.bipush 59, 2) := by decide +kernel
set_option maxRecDepth 100000 in
theorem dX12_twofold_44 : decode cX12_twofold 44 = .ok (.ireturn, 1) := by decide +kernel
set_option maxRecDepth 100000 in
theorem dX12_twofold_45 : decode cX12_twofold 45 = .ok (.iload_n 0, 1) := by decide +kernel
set_option maxRecDepth 100000 in
theorem dX12_twofold_46 : decode cX12_twofold 46 = .ok (.bipush 58, 2) := by decide +kernel
set_option maxRecDepth 100000 in
theorem dX12_twofold_48 : decode cX12_twofold 48 = .ok (.if_icmp .ne 12, 3) := by decide +kernel
set_option maxRecDepth 100000 in
theorem dX12_twofold_51 : decode cX12_twofold 51 = .ok (.iload_n 1, 1) := by decide +kernel
set_option maxRecDepth 100000 in
theorem dX12_twofold_52 : decode cX12_twofold 52 = .ok (.bipush 61, 2) := by decide +kernel
set_option maxRecDepth 100000 in
theorem dX12_twofold_54 : decode cX12_twofold 54 = .ok (.if_icmp .ne 6, 3) := by decide +kernel
set_option maxRecDepth 100000 in
theorem dX12_twofold_57 : decode cX12_twofold 57 = .ok (.bipush 64, 2) := by decide +kernel
set_option maxRecDepth 100000 in
theorem dX12_twofold_59 : decode cX12_twofold 59 = .ok (.ireturn, 1) := by decide +kernel
set_option maxRecDepth 100000 in
theorem dX12_twofold_60 : decode cX12_twofold 60 = .ok (.iload_n 0, 1) := by decide +kernel
set_option maxRecDepth 100000 in
theorem dX12_twofold_61 : decode cX12_twofold 61 = .ok (.bipush 46, 2) := by decide +kernel
set_option maxRecDepth 100000 in
theorem dX12_twofold_63 : decode cX12_twofold 63 = .ok (.if_icmp .ne 12, 3) := by decide +kernel
set_option maxRecDepth 100000 in
theorem dX12_twofold_66 : decode cX12_twofold 66 = .ok (.iload_n 1, 1) := by decide +kernel
set_option maxRecDepth 100000 in
theorem dX12_twofold_67 : decode cX12_twofold 67 = .ok (.bipush 46, 2) := by decide +kernel
set_option maxRecDepth 100000 in
theorem dX12_twofold_69 : decode cX12_twofold 69 = .ok (.if_icmp .ne 6, 3) := by decide +kernel
set_option maxRecDepth 100000 in
theorem dX12_twofold_72 : decode cX12_twofold 72 = .ok (.bipush 69, 2) := by decide +kernel
set_option maxRecDepth 100000 in
theorem dX12_twofold_74 : decode cX12_twofold 74 = .ok (.ireturn, 1) := by decide +kernel
set_option maxRecDepth 100000 in
theorem dX12_twofold_75 : decode cX12_twofold 75 = .ok (.iload_n 0, 1) := by decide +kernel
set_option maxRecDepth 100000 in
theorem dX12_twofold_76 : decode cX12_twofold 76 = .ok (.bipush 40, 2) := by decide +kernel
set_option maxRecDepth 100000 in
theorem dX12_twofold_78 : decode cX12_twofold 78 = .ok (.if_icmp .ne 12, 3) := by decide +kernel
set_option maxRecDepth 100000 in
theorem dX12_twofold_81 : decode cX12_twofold 81 = .ok (.iload_n 1, 1) := by decide +kernel
set_option maxRecDepth 100000 in
theorem dX12_twofold_82 : decode cX12_twofold 82 = .ok (.bipush 46, 2) := by decide +kernel
set_option maxRecDepth 100000 in
theorem dX12_twofold_84 : decode cX12_twofold 84 = .ok (.if_icmp .ne 6, 3) := by decide +kernel
set_option maxRecDepth 100000 in
theorem dX12_twofold_87 : decode cX12_twofold 87 = .ok (.bipush 62, 2) := by decide +kernel
set_option maxRecDepth 100000 in
theorem dX12_twofold_89 : decode cX12_twofold 89 = .ok (.ireturn, 1) := by decide +kernel
set_option maxRecDepth 100000 in
theorem dX12_twofold_90 : decode cX12_twofold 90 = .ok (.iload_n 0, 1) := by decide +kernel
set_option maxRecDepth 100000 in
theorem dX12_twofold_91 : decode cX12_twofold 91 = .ok (.bipush 46, 2) := by decide +kernel
set_option maxRecDepth 100000 in
theorem dX12_twofold_93 : decode cX12_twofold 93 = .ok (.if_icmp .ne 12, 3) := by decide +kernel
set_option maxRecDepth 100000 in
theorem dX12_twofold_96 : decode cX12_twofold 96 = .ok (.iload_n 1, 1) := by decide +kernel
set_option maxRecDepth 100000 in
theorem dX12_twofold_97 : decode cX12_twofold 97 = .ok (.bipush 41, 2) := by decide +kernel
set_option maxRecDepth 100000 in
theorem dX12_twofold_99 : decode cX12_twofold 99 = .ok (.if_icmp .ne 6, 3) := by decide +kernel
set_option maxRecDepth 100000 in
theorem dX12_twofold_102 : decode cX12_twofold 102 = .ok (.bipush 63, 2) := by decide +kernel
set_option maxRecDepth 100000 in
theorem dX12_twofold_104 : decode cX12_twofold 104 = .ok (.ireturn, 1) := by decide +kernel
set_option maxRecDepth 100000 in
theorem dX12_twofold_105 : decode cX12_twofold 105 = .ok (.iconst (-1), 1) := by decide +kernel
set_option maxRecDepth 100000 in
theorem dX12_twofold_106 : decode cX12_twofold 106 = .ok (.ireturn, 1) := by decide +kernel
set_option maxRecDepth 100000 in
def bX12_twofold_105 (G : xG) (fr lo : Nat) (h : xH) (Q : Outcome → xH → Prop) : Prop := Q (.returned (some (.int (-1)))) h
set_option maxRecDepth 100000 in
theorem uX12_twofold_105 {G : xG} {fr lo : Nat} {h : xH} {Q : Outcome → xH → Prop} (hq : bX12_twofold_105 G fr lo h Q) : xP G YX12_twofold fr lo 105 [] [] h Q := by
  unfold bX12_twofold_105 at hq
  refine x_iconst (v := (-1)) dX12_twofold_105 (by decide) ?_
  exact x_iret rfl rfl dX12_twofold_106 hq
set_option maxRecDepth 100000 in
def bX12_twofold_90 (G : xG) (fr lo : Nat) (x0 : Int32) (x1 : Int32) (h : xH) (Q : Outcome → xH → Prop) : Prop := ((¬ x0 = 46 → bX12_twofold_105 G fr lo h Q) ∧ (x0 = 46 → ((¬ x1 = 41 → bX12_twofold_105 G fr lo h Q) ∧ (x1 = 41 → Q (.returned (some (.int 63))) h))))
set_option maxRecDepth 100000 in
theorem uX12_twofold_90 {G : xG} {fr lo : Nat} {x0 : Int32} {x1 : Int32} {h : xH} {Q : Outcome → xH → Prop} (hq : bX12_twofold_90 G fr lo x0 x1 h Q) : xP G YX12_twofold fr lo 90 [(0, .int x0), (1, .int x1)] [] h Q := by
  unfold bX12_twofold_90 at hq
  refine x_iload_n 0 dX12_twofold_90 rfl ?_
  refine x_bipush (v := 46) dX12_twofold_91 (by decide) ?_
  refine x_icmp_ne (tgt := 105) dX12_twofold_93 (by decide) (fun c1 => ?_) (fun c1 => ?_)
  · replace hq := hq.1 c1
    refine xP.pick (lv' := []) [] rfl ?_
    exact uX12_twofold_105 hq
  · replace hq := hq.2 c1
    refine x_iload_n 1 dX12_twofold_96 rfl ?_
    refine x_bipush (v := 41) dX12_twofold_97 (by decide) ?_
    refine x_icmp_ne (tgt := 105) dX12_twofold_99 (by decide) (fun c2 => ?_) (fun c2 => ?_)
    · replace hq := hq.1 c2
      refine xP.pick (lv' := []) [] rfl ?_
      exact uX12_twofold_105 hq
    · replace hq := hq.2 c2
      refine x_bipush (v := 63) dX12_twofold_102 (by decide) ?_
      exact x_iret rfl rfl dX12_twofold_104 hq
set_option maxRecDepth 100000 in
def bX12_twofold_75 (G : xG) (fr lo : Nat) (x0 : Int32) (x1 : Int32) (h : xH) (Q : Outcome → xH → Prop) : Prop := ((¬ x0 = 40 → bX12_twofold_90 G fr lo x0 x1 h Q) ∧ (x0 = 40 → ((¬ x1 = 46 → bX12_twofold_90 G fr lo x0 x1 h Q) ∧ (x1 = 46 → Q (.returned (some (.int 62))) h))))
set_option maxRecDepth 100000 in
theorem uX12_twofold_75 {G : xG} {fr lo : Nat} {x0 : Int32} {x1 : Int32} {h : xH} {Q : Outcome → xH → Prop} (hq : bX12_twofold_75 G fr lo x0 x1 h Q) : xP G YX12_twofold fr lo 75 [(0, .int x0), (1, .int x1)] [] h Q := by
  unfold bX12_twofold_75 at hq
  refine x_iload_n 0 dX12_twofold_75 rfl ?_
  refine x_bipush (v := 40) dX12_twofold_76 (by decide) ?_
  refine x_icmp_ne (tgt := 90) dX12_twofold_78 (by decide) (fun c1 => ?_) (fun c1 => ?_)
  · replace hq := hq.1 c1
    exact uX12_twofold_90 hq
  · replace hq := hq.2 c1
    refine x_iload_n 1 dX12_twofold_81 rfl ?_
    refine x_bipush (v := 46) dX12_twofold_82 (by decide) ?_
    refine x_icmp_ne (tgt := 90) dX12_twofold_84 (by decide) (fun c2 => ?_) (fun c2 => ?_)
    · replace hq := hq.1 c2
      exact uX12_twofold_90 hq
    · replace hq := hq.2 c2
      refine x_bipush (v := 62) dX12_twofold_87 (by decide) ?_
      exact x_iret rfl rfl dX12_twofold_89 hq
set_option maxRecDepth 100000 in
def bX12_twofold_60 (G : xG) (fr lo : Nat) (x0 : Int32) (x1 : Int32) (h : xH) (Q : Outcome → xH → Prop) : Prop := ((¬ x0 = 46 → bX12_twofold_75 G fr lo x0 x1 h Q) ∧ (x0 = 46 → ((¬ x1 = 46 → bX12_twofold_75 G fr lo x0 x1 h Q) ∧ (x1 = 46 → Q (.returned (some (.int 69))) h))))
set_option maxRecDepth 100000 in
theorem uX12_twofold_60 {G : xG} {fr lo : Nat} {x0 : Int32} {x1 : Int32} {h : xH} {Q : Outcome → xH → Prop} (hq : bX12_twofold_60 G fr lo x0 x1 h Q) : xP G YX12_twofold fr lo 60 [(0, .int x0), (1, .int x1)] [] h Q := by
  unfold bX12_twofold_60 at hq
  refine x_iload_n 0 dX12_twofold_60 rfl ?_
  refine x_bipush (v := 46) dX12_twofold_61 (by decide) ?_
  refine x_icmp_ne (tgt := 75) dX12_twofold_63 (by decide) (fun c1 => ?_) (fun c1 => ?_)
  · replace hq := hq.1 c1
    exact uX12_twofold_75 hq
  · replace hq := hq.2 c1
    refine x_iload_n 1 dX12_twofold_66 rfl ?_
    refine x_bipush (v := 46) dX12_twofold_67 (by decide) ?_
    refine x_icmp_ne (tgt := 75) dX12_twofold_69 (by decide) (fun c2 => ?_) (fun c2 => ?_)
    · replace hq := hq.1 c2
      exact uX12_twofold_75 hq
    · replace hq := hq.2 c2
      refine x_bipush (v := 69) dX12_twofold_72 (by decide) ?_
      exact x_iret rfl rfl dX12_twofold_74 hq
set_option maxRecDepth 100000 in
def bX12_twofold_45 (G : xG) (fr lo : Nat) (x0 : Int32) (x1 : Int32) (h : xH) (Q : Outcome → xH → Prop) : Prop := ((¬ x0 = 58 → bX12_twofold_60 G fr lo x0 x1 h Q) ∧ (x0 = 58 → ((¬ x1 = 61 → bX12_twofold_60 G fr lo x0 x1 h Q) ∧ (x1 = 61 → Q (.returned (some (.int 64))) h))))
set_option maxRecDepth 100000 in
theorem uX12_twofold_45 {G : xG} {fr lo : Nat} {x0 : Int32} {x1 : Int32} {h : xH} {Q : Outcome → xH → Prop} (hq : bX12_twofold_45 G fr lo x0 x1 h Q) : xP G YX12_twofold fr lo 45 [(0, .int x0), (1, .int x1)] [] h Q := by
  unfold bX12_twofold_45 at hq
  refine x_iload_n 0 dX12_twofold_45 rfl ?_
  refine x_bipush (v := 58) dX12_twofold_46 (by decide) ?_
  refine x_icmp_ne (tgt := 60) dX12_twofold_48 (by decide) (fun c1 => ?_) (fun c1 => ?_)
  · replace hq := hq.1 c1
    exact uX12_twofold_60 hq
  · replace hq := hq.2 c1
    refine x_iload_n 1 dX12_twofold_51 rfl ?_
    refine x_bipush (v := 61) dX12_twofold_52 (by decide) ?_
    refine x_icmp_ne (tgt := 60) dX12_twofold_54 (by decide) (fun c2 => ?_) (fun c2 => ?_)
    · replace hq := hq.1 c2
      exact uX12_twofold_60 hq
    · replace hq := hq.2 c2
      refine x_bipush (v := 64) dX12_twofold_57 (by decide) ?_
      exact x_iret rfl rfl dX12_twofold_59 hq
set_option maxRecDepth 100000 in
def bX12_twofold_30 (G : xG) (fr lo : Nat) (x0 : Int32) (x1 : Int32) (h : xH) (Q : Outcome → xH → Prop) : Prop := ((¬ x0 = 60 → bX12_twofold_45 G fr lo x0 x1 h Q) ∧ (x0 = 60 → ((¬ x1 = 62 → bX12_twofold_45 G fr lo x0 x1 h Q) ∧ (x1 = 62 → Q (.returned (some (.int 59))) h))))
set_option maxRecDepth 100000 in
theorem uX12_twofold_30 {G : xG} {fr lo : Nat} {x0 : Int32} {x1 : Int32} {h : xH} {Q : Outcome → xH → Prop} (hq : bX12_twofold_30 G fr lo x0 x1 h Q) : xP G YX12_twofold fr lo 30 [(0, .int x0), (1, .int x1)] [] h Q := by
  unfold bX12_twofold_30 at hq
  refine x_iload_n 0 dX12_twofold_30 rfl ?_
  refine x_bipush (v := 60) dX12_twofold_31 (by decide) ?_
  refine x_icmp_ne (tgt := 45) dX12_twofold_33 (by decide) (fun c1 => ?_) (fun c1 => ?_)
  · replace hq := hq.1 c1
    exact uX12_twofold_45 hq
  · replace hq := hq.2 c1
    refine x_iload_n 1 dX12_twofold_36 rfl ?_
    refine x_bipush (v := 62) dX12_twofold_37 (by decide) ?_
    refine x_icmp_ne (tgt := 45) dX12_twofold_39 (by decide) (fun c2 => ?_) (fun c2 => ?_)
    · replace hq := hq.1 c2
      exact uX12_twofold_45 hq
    · replace hq := hq.2 c2
      refine x_bipush (v := 59) dX12_twofold_42 (by decide) ?_
      exact x_iret rfl rfl dX12_twofold_44 hq
set_option maxRecDepth 100000 in
def bX12_twofold_15 (G : xG) (fr lo : Nat) (x0 : Int32) (x1 : Int32) (h : xH) (Q : Outcome → xH → Prop) : Prop := ((¬ x0 = 62 → bX12_twofold_30 G fr lo x0 x1 h Q) ∧ (x0 = 62 → ((¬ x1 = 61 → bX12_twofold_30 G fr lo x0 x1 h Q) ∧ (x1 = 61 → Q (.returned (some (.int 58))) h))))
set_option maxRecDepth 100000 in
theorem uX12_twofold_15 {G : xG} {fr lo : Nat} {x0 : Int32} {x1 : Int32} {h : xH} {Q : Outcome → xH → Prop} (hq : bX12_twofold_15 G fr lo x0 x1 h Q) : xP G YX12_twofold fr lo 15 [(0, .int x0), (1, .int x1)] [] h Q := by
  unfold bX12_twofold_15 at hq
  refine x_iload_n 0 dX12_twofold_15 rfl ?_
  refine x_bipush (v := 62) dX12_twofold_16 (by decide) ?_
  refine x_icmp_ne (tgt := 30) dX12_twofold_18 (by decide) (fun c1 => ?_) (fun c1 => ?_)
  · replace hq := hq.1 c1
    exact uX12_twofold_30 hq
  · replace hq := hq.2 c1
    refine x_iload_n 1 dX12_twofold_21 rfl ?_
    refine x_bipush (v := 61) dX12_twofold_22 (by decide) ?_
    refine x_icmp_ne (tgt := 30) dX12_twofold_24 (by decide) (fun c2 => ?_) (fun c2 => ?_)
    · replace hq := hq.1 c2
      exact uX12_twofold_30 hq
    · replace hq := hq.2 c2
      refine x_bipush (v := 58) dX12_twofold_27 (by decide) ?_
      exact x_iret rfl rfl dX12_twofold_29 hq
set_option maxRecDepth 100000 in
def bX12_twofold (G : xG) (fr lo : Nat) (x0 : Int32) (x1 : Int32) (h : xH) (Q : Outcome → xH → Prop) : Prop := ((¬ x0 = 60 → bX12_twofold_15 G fr lo x0 x1 h Q) ∧ (x0 = 60 → ((¬ x1 = 61 → bX12_twofold_15 G fr lo x0 x1 h Q) ∧ (x1 = 61 → Q (.returned (some (.int 57))) h))))
set_option maxRecDepth 100000 in
theorem uX12_twofold {G : xG} {fr lo : Nat} {x0 : Int32} {x1 : Int32} {h : xH} {Q : Outcome → xH → Prop} (hq : bX12_twofold G fr lo x0 x1 h Q) : xP G YX12_twofold fr lo 0 [(0, .int x0), (1, .int x1)] [] h Q := by
  unfold bX12_twofold at hq
  refine x_iload_n 0 dX12_twofold_0 rfl ?_
  refine x_bipush (v := 60) dX12_twofold_1 (by decide) ?_
  refine x_icmp_ne (tgt := 15) dX12_twofold_3 (by decide) (fun c1 => ?_) (fun c1 => ?_)
  · replace hq := hq.1 c1
    exact uX12_twofold_15 hq
  · replace hq := hq.2 c1
    refine x_iload_n 1 dX12_twofold_6 rfl ?_
    refine x_bipush (v := 61) dX12_twofold_7 (by decide) ?_
    refine x_icmp_ne (tgt := 15) dX12_twofold_9 (by decide) (fun c2 => ?_) (fun c2 => ?_)
    · replace hq := hq.1 c2
      exact uX12_twofold_15 hq
    · replace hq := hq.2 c2
      refine x_bipush (v := 57) dX12_twofold_12 (by decide) ?_
      exact x_iret rfl rfl dX12_twofold_14 hq
theorem rX12_twofold {G : xG} {fr lo : Nat} {x0 : Int32} {x1 : Int32} {h : xH} {Q : Outcome → xH → Prop} (hq : bX12_twofold G fr lo x0 x1 h Q) : xR G YX12_twofold fr lo [.int x0, .int x1] h Q := by
  show xP _ _ _ _ _ (lv_args 0 _) _ _ _
  rw [show lv_args 0 [.int x0, .int x1] = [(0, .int x0), (1, .int x1)] from (xla1 rfl (xla1 rfl xla0))]
  exact uX12_twofold hq
set_option maxRecDepth 100000 in
theorem dX12_alone_0 : decode cX12_alone 0 = .ok (.iload_n 0, 1) := by decide +kernel
set_option maxRecDepth 100000 in
theorem dX12_alone_1 : decode cX12_alone 1 = .ok (.tableswitch 286 40 94 #[277, 250, 241, 235, 259, 238, 280, 244, 286, 286, 286, 286, 286, 286, 286, 286, 286, 286, 283, 262, 271, 247, 274, 286, 268, 286, 286, 286, 286, 286, 286, 286, 286, 286, 286, 286, 286, 286, 286, 286, 286, 286, 286, 286, 286, 286, 286, 286, 286, 286, 286, 253, 286, 256, 265], 235) := by decide +kernel
set_option maxRecDepth 100000 in
theorem dX12_alone_236 : decode cX12_alone 236 = .ok (.bipush 50, 2) := by decide +kernel
set_option maxRecDepth 100000 in
theorem dX12_alone_238 : decode cX12_alone 238 = .ok (.ireturn, 1) := by decide +kernel
set_option maxRecDepth 100000 in
theorem dX12_alone_239 : decode cX12_alone 239 = .ok (.bipush 51, 2) := by decide +kernel
set_option maxRecDepth 100000 in
theorem dX12_alone_241 : decode cX12_alone 241 = .ok (.ireturn, 1) := by decide +kernel
set_option maxRecDepth 100000 in
theorem dX12_alone_242 : decode cX12_alone 242 = .ok (.bipush 52, 2) := by decide +kernel
set_option maxRecDepth 100000 in
theorem dX12_alone_244 : decode cX12_alone 244 = .ok (.ireturn, 1) := by decide +kernel
set_option maxRecDepth 100000 in
theorem dX12_alone_245 : decode cX12_alone 245 = .ok (.bipush 53, 2) := by decide +kernel
set_option maxRecDepth 100000 in
theorem dX12_alone_247 : decode cX12_alone 247 = .ok (.ireturn, 1) := by decide +kernel
set_option maxRecDepth 100000 in
theorem dX12_alone_248 : decode cX12_alone 248 = .ok (.bipush 54, 2) := by decide +kernel
set_option maxRecDepth 100000 in
theorem dX12_alone_250 : decode cX12_alone 250 = .ok (.ireturn, 1) := by decide +kernel
set_option maxRecDepth 100000 in
theorem dX12_alone_251 : decode cX12_alone 251 = .ok (.bipush 61, 2) := by decide +kernel
set_option maxRecDepth 100000 in
theorem dX12_alone_253 : decode cX12_alone 253 = .ok (.ireturn, 1) := by decide +kernel
set_option maxRecDepth 100000 in
theorem dX12_alone_254 : decode cX12_alone 254 = .ok (.bipush 62, 2) := by decide +kernel
set_option maxRecDepth 100000 in
theorem dX12_alone_256 : decode cX12_alone 256 = .ok (.ireturn, 1) := by decide +kernel
set_option maxRecDepth 100000 in
theorem dX12_alone_257 : decode cX12_alone 257 = .ok (.bipush 63, 2) := by decide +kernel
set_option maxRecDepth 100000 in
theorem dX12_alone_259 : decode cX12_alone 259 = .ok (.ireturn, 1) := by decide +kernel
set_option maxRecDepth 100000 in
theorem dX12_alone_260 : decode cX12_alone 260 = .ok (.bipush 66, 2) := by decide +kernel
set_option maxRecDepth 100000 in
theorem dX12_alone_262 : decode cX12_alone 262 = .ok (.ireturn, 1) := by decide +kernel
set_option maxRecDepth 100000 in
theorem dX12_alone_263 : decode cX12_alone 263 = .ok (.bipush 67, 2) := by decide +kernel
set_option maxRecDepth 100000 in
theorem dX12_alone_265 : decode cX12_alone 265 = .ok (.ireturn, 1) := by decide +kernel
set_option maxRecDepth 100000 in
theorem dX12_alone_266 : decode cX12_alone 266 = .ok (.bipush 70, 2) := by decide +kernel
set_option maxRecDepth 100000 in
theorem dX12_alone_268 : decode cX12_alone 268 = .ok (.ireturn, 1) := by decide +kernel
set_option maxRecDepth 100000 in
theorem dX12_alone_269 : decode cX12_alone 269 = .ok (.bipush 70, 2) := by decide +kernel
set_option maxRecDepth 100000 in
theorem dX12_alone_271 : decode cX12_alone 271 = .ok (.ireturn, 1) := by decide +kernel
set_option maxRecDepth 100000 in
theorem dX12_alone_272 : decode cX12_alone 272 = .ok (.bipush 55, 2) := by decide +kernel
set_option maxRecDepth 100000 in
theorem dX12_alone_274 : decode cX12_alone 274 = .ok (.ireturn, 1) := by decide +kernel
set_option maxRecDepth 100000 in
theorem dX12_alone_275 : decode cX12_alone 275 = .ok (.bipush 56, 2) := by decide +kernel
set_option maxRecDepth 100000 in
theorem dX12_alone_277 : decode cX12_alone 277 = .ok (.ireturn, 1) := by decide +kernel
set_option maxRecDepth 100000 in
theorem dX12_alone_278 : decode cX12_alone 278 = .ok (.bipush 60, 2) := by decide +kernel
set_option maxRecDepth 100000 in
theorem dX12_alone_280 : decode cX12_alone 280 = .ok (.ireturn, 1) := by decide +kernel
set_option maxRecDepth 100000 in
theorem dX12_alone_281 : decode cX12_alone 281 = .ok (.bipush 65, 2) := by decide +kernel
set_option maxRecDepth 100000 in
theorem dX12_alone_283 : decode cX12_alone 283 = .ok (.ireturn, 1) := by decide +kernel
set_option maxRecDepth 100000 in
theorem dX12_alone_284 : decode cX12_alone 284 = .ok (.bipush 68, 2) := by decide +kernel
set_option maxRecDepth 100000 in
theorem dX12_alone_286 : decode cX12_alone 286 = .ok (.ireturn, 1) := by decide +kernel
set_option maxRecDepth 100000 in
theorem dX12_alone_287 : decode cX12_alone 287 = .ok (.iconst (-1), 1) := by decide +kernel
set_option maxRecDepth 100000 in
theorem dX12_alone_288 : decode cX12_alone 288 = .ok (.ireturn, 1) := by decide +kernel
set_option maxRecDepth 100000 in
def bX12_alone (G : xG) (fr lo : Nat) (x0 : Int32) (h : xH) (Q : Outcome → xH → Prop) : Prop := ((x0 = 40 → Q (.returned (some (.int 60))) h) ∧ (x0 = 41 → Q (.returned (some (.int 61))) h) ∧ (x0 = 42 → Q (.returned (some (.int 52))) h) ∧ (x0 = 43 → Q (.returned (some (.int 50))) h) ∧ (x0 = 44 → Q (.returned (some (.int 66))) h) ∧ (x0 = 45 → Q (.returned (some (.int 51))) h) ∧ (x0 = 46 → Q (.returned (some (.int 65))) h) ∧ (x0 = 47 → Q (.returned (some (.int 53))) h) ∧ (x0 = 48 → Q (.returned (some (.int (-1)))) h) ∧ (x0 = 49 → Q (.returned (some (.int (-1)))) h) ∧ (x0 = 50 → Q (.returned (some (.int (-1)))) h) ∧ (x0 = 51 → Q (.returned (some (.int (-1)))) h) ∧ (x0 = 52 → Q (.returned (some (.int (-1)))) h) ∧ (x0 = 53 → Q (.returned (some (.int (-1)))) h) ∧ (x0 = 54 → Q (.returned (some (.int (-1)))) h) ∧ (x0 = 55 → Q (.returned (some (.int (-1)))) h) ∧ (x0 = 56 → Q (.returned (some (.int (-1)))) h) ∧ (x0 = 57 → Q (.returned (some (.int (-1)))) h) ∧ (x0 = 58 → Q (.returned (some (.int 68))) h) ∧ (x0 = 59 → Q (.returned (some (.int 67))) h) ∧ (x0 = 60 → Q (.returned (some (.int 55))) h) ∧ (x0 = 61 → Q (.returned (some (.int 54))) h) ∧ (x0 = 62 → Q (.returned (some (.int 56))) h) ∧ (x0 = 63 → Q (.returned (some (.int (-1)))) h) ∧ (x0 = 64 → Q (.returned (some (.int 70))) h) ∧ (x0 = 65 → Q (.returned (some (.int (-1)))) h) ∧ (x0 = 66 → Q (.returned (some (.int (-1)))) h) ∧ (x0 = 67 → Q (.returned (some (.int (-1)))) h) ∧ (x0 = 68 → Q (.returned (some (.int (-1)))) h) ∧ (x0 = 69 → Q (.returned (some (.int (-1)))) h) ∧ (x0 = 70 → Q (.returned (some (.int (-1)))) h) ∧ (x0 = 71 → Q (.returned (some (.int (-1)))) h) ∧ (x0 = 72 → Q (.returned (some (.int (-1)))) h) ∧ (x0 = 73 → Q (.returned (some (.int (-1)))) h) ∧ (x0 = 74 → Q (.returned (some (.int (-1)))) h) ∧ (x0 = 75 → Q (.returned (some (.int (-1)))) h) ∧ (x0 = 76 → Q (.returned (some (.int (-1)))) h) ∧ (x0 = 77 → Q (.returned (some (.int (-1)))) h) ∧ (x0 = 78 → Q (.returned (some (.int (-1)))) h) ∧ (x0 = 79 → Q (.returned (some (.int (-1)))) h) ∧ (x0 = 80 → Q (.returned (some (.int (-1)))) h) ∧ (x0 = 81 → Q (.returned (some (.int (-1)))) h) ∧ (x0 = 82 → Q (.returned (some (.int (-1)))) h) ∧ (x0 = 83 → Q (.returned (some (.int (-1)))) h) ∧ (x0 = 84 → Q (.returned (some (.int (-1)))) h) ∧ (x0 = 85 → Q (.returned (some (.int (-1)))) h) ∧ (x0 = 86 → Q (.returned (some (.int (-1)))) h) ∧ (x0 = 87 → Q (.returned (some (.int (-1)))) h) ∧ (x0 = 88 → Q (.returned (some (.int (-1)))) h) ∧ (x0 = 89 → Q (.returned (some (.int (-1)))) h) ∧ (x0 = 90 → Q (.returned (some (.int (-1)))) h) ∧ (x0 = 91 → Q (.returned (some (.int 62))) h) ∧ (x0 = 92 → Q (.returned (some (.int (-1)))) h) ∧ (x0 = 93 → Q (.returned (some (.int 63))) h) ∧ (x0 = 94 → Q (.returned (some (.int 70))) h) ∧ (¬ x0 = 40 → ¬ x0 = 41 → ¬ x0 = 42 → ¬ x0 = 43 → ¬ x0 = 44 → ¬ x0 = 45 → ¬ x0 = 46 → ¬ x0 = 47 → ¬ x0 = 48 → ¬ x0 = 49 → ¬ x0 = 50 → ¬ x0 = 51 → ¬ x0 = 52 → ¬ x0 = 53 → ¬ x0 = 54 → ¬ x0 = 55 → ¬ x0 = 56 → ¬ x0 = 57 → ¬ x0 = 58 → ¬ x0 = 59 → ¬ x0 = 60 → ¬ x0 = 61 → ¬ x0 = 62 → ¬ x0 = 63 → ¬ x0 = 64 → ¬ x0 = 65 → ¬ x0 = 66 → ¬ x0 = 67 → ¬ x0 = 68 → ¬ x0 = 69 → ¬ x0 = 70 → ¬ x0 = 71 → ¬ x0 = 72 → ¬ x0 = 73 → ¬ x0 = 74 → ¬ x0 = 75 → ¬ x0 = 76 → ¬ x0 = 77 → ¬ x0 = 78 → ¬ x0 = 79 → ¬ x0 = 80 → ¬ x0 = 81 → ¬ x0 = 82 → ¬ x0 = 83 → ¬ x0 = 84 → ¬ x0 = 85 → ¬ x0 = 86 → ¬ x0 = 87 → ¬ x0 = 88 → ¬ x0 = 89 → ¬ x0 = 90 → ¬ x0 = 91 → ¬ x0 = 92 → ¬ x0 = 93 → ¬ x0 = 94 → Q (.returned (some (.int (-1)))) h))
set_option maxRecDepth 100000 in
theorem uX12_alone {G : xG} {fr lo : Nat} {x0 : Int32} {h : xH} {Q : Outcome → xH → Prop} (hq : bX12_alone G fr lo x0 h Q) : xP G YX12_alone fr lo 0 [(0, .int x0)] [] h Q := by
  unfold bX12_alone at hq
  refine x_iload_n 0 dX12_alone_0 rfl ?_
  by_cases c1 : x0 = 40
  · replace hq := hq.1 c1
    refine x_tin (tgt := 278) (off := 277) 40 c1 dX12_alone_1 (by decide) (by decide) (by decide) (by decide) ?_
    refine x_bipush (v := 60) dX12_alone_278 (by decide) ?_
    exact x_iret rfl rfl dX12_alone_280 hq
  replace hq := hq.2
  by_cases c2 : x0 = 41
  · replace hq := hq.1 c2
    refine x_tin (tgt := 251) (off := 250) 41 c2 dX12_alone_1 (by decide) (by decide) (by decide) (by decide) ?_
    refine x_bipush (v := 61) dX12_alone_251 (by decide) ?_
    exact x_iret rfl rfl dX12_alone_253 hq
  replace hq := hq.2
  by_cases c3 : x0 = 42
  · replace hq := hq.1 c3
    refine x_tin (tgt := 242) (off := 241) 42 c3 dX12_alone_1 (by decide) (by decide) (by decide) (by decide) ?_
    refine x_bipush (v := 52) dX12_alone_242 (by decide) ?_
    exact x_iret rfl rfl dX12_alone_244 hq
  replace hq := hq.2
  by_cases c4 : x0 = 43
  · replace hq := hq.1 c4
    refine x_tin (tgt := 236) (off := 235) 43 c4 dX12_alone_1 (by decide) (by decide) (by decide) (by decide) ?_
    refine x_bipush (v := 50) dX12_alone_236 (by decide) ?_
    exact x_iret rfl rfl dX12_alone_238 hq
  replace hq := hq.2
  by_cases c5 : x0 = 44
  · replace hq := hq.1 c5
    refine x_tin (tgt := 260) (off := 259) 44 c5 dX12_alone_1 (by decide) (by decide) (by decide) (by decide) ?_
    refine x_bipush (v := 66) dX12_alone_260 (by decide) ?_
    exact x_iret rfl rfl dX12_alone_262 hq
  replace hq := hq.2
  by_cases c6 : x0 = 45
  · replace hq := hq.1 c6
    refine x_tin (tgt := 239) (off := 238) 45 c6 dX12_alone_1 (by decide) (by decide) (by decide) (by decide) ?_
    refine x_bipush (v := 51) dX12_alone_239 (by decide) ?_
    exact x_iret rfl rfl dX12_alone_241 hq
  replace hq := hq.2
  by_cases c7 : x0 = 46
  · replace hq := hq.1 c7
    refine x_tin (tgt := 281) (off := 280) 46 c7 dX12_alone_1 (by decide) (by decide) (by decide) (by decide) ?_
    refine x_bipush (v := 65) dX12_alone_281 (by decide) ?_
    exact x_iret rfl rfl dX12_alone_283 hq
  replace hq := hq.2
  by_cases c8 : x0 = 47
  · replace hq := hq.1 c8
    refine x_tin (tgt := 245) (off := 244) 47 c8 dX12_alone_1 (by decide) (by decide) (by decide) (by decide) ?_
    refine x_bipush (v := 53) dX12_alone_245 (by decide) ?_
    exact x_iret rfl rfl dX12_alone_247 hq
  replace hq := hq.2
  by_cases c9 : x0 = 48
  · replace hq := hq.1 c9
    refine x_tin (tgt := 287) (off := 286) 48 c9 dX12_alone_1 (by decide) (by decide) (by decide) (by decide) ?_
    refine x_iconst (v := (-1)) dX12_alone_287 (by decide) ?_
    exact x_iret rfl rfl dX12_alone_288 hq
  replace hq := hq.2
  by_cases c10 : x0 = 49
  · replace hq := hq.1 c10
    refine x_tin (tgt := 287) (off := 286) 49 c10 dX12_alone_1 (by decide) (by decide) (by decide) (by decide) ?_
    refine x_iconst (v := (-1)) dX12_alone_287 (by decide) ?_
    exact x_iret rfl rfl dX12_alone_288 hq
  replace hq := hq.2
  by_cases c11 : x0 = 50
  · replace hq := hq.1 c11
    refine x_tin (tgt := 287) (off := 286) 50 c11 dX12_alone_1 (by decide) (by decide) (by decide) (by decide) ?_
    refine x_iconst (v := (-1)) dX12_alone_287 (by decide) ?_
    exact x_iret rfl rfl dX12_alone_288 hq
  replace hq := hq.2
  by_cases c12 : x0 = 51
  · replace hq := hq.1 c12
    refine x_tin (tgt := 287) (off := 286) 51 c12 dX12_alone_1 (by decide) (by decide) (by decide) (by decide) ?_
    refine x_iconst (v := (-1)) dX12_alone_287 (by decide) ?_
    exact x_iret rfl rfl dX12_alone_288 hq
  replace hq := hq.2
  by_cases c13 : x0 = 52
  · replace hq := hq.1 c13
    refine x_tin (tgt := 287) (off := 286) 52 c13 dX12_alone_1 (by decide) (by decide) (by decide) (by decide) ?_
    refine x_iconst (v := (-1)) dX12_alone_287 (by decide) ?_
    exact x_iret rfl rfl dX12_alone_288 hq
  replace hq := hq.2
  by_cases c14 : x0 = 53
  · replace hq := hq.1 c14
    refine x_tin (tgt := 287) (off := 286) 53 c14 dX12_alone_1 (by decide) (by decide) (by decide) (by decide) ?_
    refine x_iconst (v := (-1)) dX12_alone_287 (by decide) ?_
    exact x_iret rfl rfl dX12_alone_288 hq
  replace hq := hq.2
  by_cases c15 : x0 = 54
  · replace hq := hq.1 c15
    refine x_tin (tgt := 287) (off := 286) 54 c15 dX12_alone_1 (by decide) (by decide) (by decide) (by decide) ?_
    refine x_iconst (v := (-1)) dX12_alone_287 (by decide) ?_
    exact x_iret rfl rfl dX12_alone_288 hq
  replace hq := hq.2
  by_cases c16 : x0 = 55
  · replace hq := hq.1 c16
    refine x_tin (tgt := 287) (off := 286) 55 c16 dX12_alone_1 (by decide) (by decide) (by decide) (by decide) ?_
    refine x_iconst (v := (-1)) dX12_alone_287 (by decide) ?_
    exact x_iret rfl rfl dX12_alone_288 hq
  replace hq := hq.2
  by_cases c17 : x0 = 56
  · replace hq := hq.1 c17
    refine x_tin (tgt := 287) (off := 286) 56 c17 dX12_alone_1 (by decide) (by decide) (by decide) (by decide) ?_
    refine x_iconst (v := (-1)) dX12_alone_287 (by decide) ?_
    exact x_iret rfl rfl dX12_alone_288 hq
  replace hq := hq.2
  by_cases c18 : x0 = 57
  · replace hq := hq.1 c18
    refine x_tin (tgt := 287) (off := 286) 57 c18 dX12_alone_1 (by decide) (by decide) (by decide) (by decide) ?_
    refine x_iconst (v := (-1)) dX12_alone_287 (by decide) ?_
    exact x_iret rfl rfl dX12_alone_288 hq
  replace hq := hq.2
  by_cases c19 : x0 = 58
  · replace hq := hq.1 c19
    refine x_tin (tgt := 284) (off := 283) 58 c19 dX12_alone_1 (by decide) (by decide) (by decide) (by decide) ?_
    refine x_bipush (v := 68) dX12_alone_284 (by decide) ?_
    exact x_iret rfl rfl dX12_alone_286 hq
  replace hq := hq.2
  by_cases c20 : x0 = 59
  · replace hq := hq.1 c20
    refine x_tin (tgt := 263) (off := 262) 59 c20 dX12_alone_1 (by decide) (by decide) (by decide) (by decide) ?_
    refine x_bipush (v := 67) dX12_alone_263 (by decide) ?_
    exact x_iret rfl rfl dX12_alone_265 hq
  replace hq := hq.2
  by_cases c21 : x0 = 60
  · replace hq := hq.1 c21
    refine x_tin (tgt := 272) (off := 271) 60 c21 dX12_alone_1 (by decide) (by decide) (by decide) (by decide) ?_
    refine x_bipush (v := 55) dX12_alone_272 (by decide) ?_
    exact x_iret rfl rfl dX12_alone_274 hq
  replace hq := hq.2
  by_cases c22 : x0 = 61
  · replace hq := hq.1 c22
    refine x_tin (tgt := 248) (off := 247) 61 c22 dX12_alone_1 (by decide) (by decide) (by decide) (by decide) ?_
    refine x_bipush (v := 54) dX12_alone_248 (by decide) ?_
    exact x_iret rfl rfl dX12_alone_250 hq
  replace hq := hq.2
  by_cases c23 : x0 = 62
  · replace hq := hq.1 c23
    refine x_tin (tgt := 275) (off := 274) 62 c23 dX12_alone_1 (by decide) (by decide) (by decide) (by decide) ?_
    refine x_bipush (v := 56) dX12_alone_275 (by decide) ?_
    exact x_iret rfl rfl dX12_alone_277 hq
  replace hq := hq.2
  by_cases c24 : x0 = 63
  · replace hq := hq.1 c24
    refine x_tin (tgt := 287) (off := 286) 63 c24 dX12_alone_1 (by decide) (by decide) (by decide) (by decide) ?_
    refine x_iconst (v := (-1)) dX12_alone_287 (by decide) ?_
    exact x_iret rfl rfl dX12_alone_288 hq
  replace hq := hq.2
  by_cases c25 : x0 = 64
  · replace hq := hq.1 c25
    refine x_tin (tgt := 269) (off := 268) 64 c25 dX12_alone_1 (by decide) (by decide) (by decide) (by decide) ?_
    refine x_bipush (v := 70) dX12_alone_269 (by decide) ?_
    exact x_iret rfl rfl dX12_alone_271 hq
  replace hq := hq.2
  by_cases c26 : x0 = 65
  · replace hq := hq.1 c26
    refine x_tin (tgt := 287) (off := 286) 65 c26 dX12_alone_1 (by decide) (by decide) (by decide) (by decide) ?_
    refine x_iconst (v := (-1)) dX12_alone_287 (by decide) ?_
    exact x_iret rfl rfl dX12_alone_288 hq
  replace hq := hq.2
  by_cases c27 : x0 = 66
  · replace hq := hq.1 c27
    refine x_tin (tgt := 287) (off := 286) 66 c27 dX12_alone_1 (by decide) (by decide) (by decide) (by decide) ?_
    refine x_iconst (v := (-1)) dX12_alone_287 (by decide) ?_
    exact x_iret rfl rfl dX12_alone_288 hq
  replace hq := hq.2
  by_cases c28 : x0 = 67
  · replace hq := hq.1 c28
    refine x_tin (tgt := 287) (off := 286) 67 c28 dX12_alone_1 (by decide) (by decide) (by decide) (by decide) ?_
    refine x_iconst (v := (-1)) dX12_alone_287 (by decide) ?_
    exact x_iret rfl rfl dX12_alone_288 hq
  replace hq := hq.2
  by_cases c29 : x0 = 68
  · replace hq := hq.1 c29
    refine x_tin (tgt := 287) (off := 286) 68 c29 dX12_alone_1 (by decide) (by decide) (by decide) (by decide) ?_
    refine x_iconst (v := (-1)) dX12_alone_287 (by decide) ?_
    exact x_iret rfl rfl dX12_alone_288 hq
  replace hq := hq.2
  by_cases c30 : x0 = 69
  · replace hq := hq.1 c30
    refine x_tin (tgt := 287) (off := 286) 69 c30 dX12_alone_1 (by decide) (by decide) (by decide) (by decide) ?_
    refine x_iconst (v := (-1)) dX12_alone_287 (by decide) ?_
    exact x_iret rfl rfl dX12_alone_288 hq
  replace hq := hq.2
  by_cases c31 : x0 = 70
  · replace hq := hq.1 c31
    refine x_tin (tgt := 287) (off := 286) 70 c31 dX12_alone_1 (by decide) (by decide) (by decide) (by decide) ?_
    refine x_iconst (v := (-1)) dX12_alone_287 (by decide) ?_
    exact x_iret rfl rfl dX12_alone_288 hq
  replace hq := hq.2
  by_cases c32 : x0 = 71
  · replace hq := hq.1 c32
    refine x_tin (tgt := 287) (off := 286) 71 c32 dX12_alone_1 (by decide) (by decide) (by decide) (by decide) ?_
    refine x_iconst (v := (-1)) dX12_alone_287 (by decide) ?_
    exact x_iret rfl rfl dX12_alone_288 hq
  replace hq := hq.2
  by_cases c33 : x0 = 72
  · replace hq := hq.1 c33
    refine x_tin (tgt := 287) (off := 286) 72 c33 dX12_alone_1 (by decide) (by decide) (by decide) (by decide) ?_
    refine x_iconst (v := (-1)) dX12_alone_287 (by decide) ?_
    exact x_iret rfl rfl dX12_alone_288 hq
  replace hq := hq.2
  by_cases c34 : x0 = 73
  · replace hq := hq.1 c34
    refine x_tin (tgt := 287) (off := 286) 73 c34 dX12_alone_1 (by decide) (by decide) (by decide) (by decide) ?_
    refine x_iconst (v := (-1)) dX12_alone_287 (by decide) ?_
    exact x_iret rfl rfl dX12_alone_288 hq
  replace hq := hq.2
  by_cases c35 : x0 = 74
  · replace hq := hq.1 c35
    refine x_tin (tgt := 287) (off := 286) 74 c35 dX12_alone_1 (by decide) (by decide) (by decide) (by decide) ?_
    refine x_iconst (v := (-1)) dX12_alone_287 (by decide) ?_
    exact x_iret rfl rfl dX12_alone_288 hq
  replace hq := hq.2
  by_cases c36 : x0 = 75
  · replace hq := hq.1 c36
    refine x_tin (tgt := 287) (off := 286) 75 c36 dX12_alone_1 (by decide) (by decide) (by decide) (by decide) ?_
    refine x_iconst (v := (-1)) dX12_alone_287 (by decide) ?_
    exact x_iret rfl rfl dX12_alone_288 hq
  replace hq := hq.2
  by_cases c37 : x0 = 76
  · replace hq := hq.1 c37
    refine x_tin (tgt := 287) (off := 286) 76 c37 dX12_alone_1 (by decide) (by decide) (by decide) (by decide) ?_
    refine x_iconst (v := (-1)) dX12_alone_287 (by decide) ?_
    exact x_iret rfl rfl dX12_alone_288 hq
  replace hq := hq.2
  by_cases c38 : x0 = 77
  · replace hq := hq.1 c38
    refine x_tin (tgt := 287) (off := 286) 77 c38 dX12_alone_1 (by decide) (by decide) (by decide) (by decide) ?_
    refine x_iconst (v := (-1)) dX12_alone_287 (by decide) ?_
    exact x_iret rfl rfl dX12_alone_288 hq
  replace hq := hq.2
  by_cases c39 : x0 = 78
  · replace hq := hq.1 c39
    refine x_tin (tgt := 287) (off := 286) 78 c39 dX12_alone_1 (by decide) (by decide) (by decide) (by decide) ?_
    refine x_iconst (v := (-1)) dX12_alone_287 (by decide) ?_
    exact x_iret rfl rfl dX12_alone_288 hq
  replace hq := hq.2
  by_cases c40 : x0 = 79
  · replace hq := hq.1 c40
    refine x_tin (tgt := 287) (off := 286) 79 c40 dX12_alone_1 (by decide) (by decide) (by decide) (by decide) ?_
    refine x_iconst (v := (-1)) dX12_alone_287 (by decide) ?_
    exact x_iret rfl rfl dX12_alone_288 hq
  replace hq := hq.2
  by_cases c41 : x0 = 80
  · replace hq := hq.1 c41
    refine x_tin (tgt := 287) (off := 286) 80 c41 dX12_alone_1 (by decide) (by decide) (by decide) (by decide) ?_
    refine x_iconst (v := (-1)) dX12_alone_287 (by decide) ?_
    exact x_iret rfl rfl dX12_alone_288 hq
  replace hq := hq.2
  by_cases c42 : x0 = 81
  · replace hq := hq.1 c42
    refine x_tin (tgt := 287) (off := 286) 81 c42 dX12_alone_1 (by decide) (by decide) (by decide) (by decide) ?_
    refine x_iconst (v := (-1)) dX12_alone_287 (by decide) ?_
    exact x_iret rfl rfl dX12_alone_288 hq
  replace hq := hq.2
  by_cases c43 : x0 = 82
  · replace hq := hq.1 c43
    refine x_tin (tgt := 287) (off := 286) 82 c43 dX12_alone_1 (by decide) (by decide) (by decide) (by decide) ?_
    refine x_iconst (v := (-1)) dX12_alone_287 (by decide) ?_
    exact x_iret rfl rfl dX12_alone_288 hq
  replace hq := hq.2
  by_cases c44 : x0 = 83
  · replace hq := hq.1 c44
    refine x_tin (tgt := 287) (off := 286) 83 c44 dX12_alone_1 (by decide) (by decide) (by decide) (by decide) ?_
    refine x_iconst (v := (-1)) dX12_alone_287 (by decide) ?_
    exact x_iret rfl rfl dX12_alone_288 hq
  replace hq := hq.2
  by_cases c45 : x0 = 84
  · replace hq := hq.1 c45
    refine x_tin (tgt := 287) (off := 286) 84 c45 dX12_alone_1 (by decide) (by decide) (by decide) (by decide) ?_
    refine x_iconst (v := (-1)) dX12_alone_287 (by decide) ?_
    exact x_iret rfl rfl dX12_alone_288 hq
  replace hq := hq.2
  by_cases c46 : x0 = 85
  · replace hq := hq.1 c46
    refine x_tin (tgt := 287) (off := 286) 85 c46 dX12_alone_1 (by decide) (by decide) (by decide) (by decide) ?_
    refine x_iconst (v := (-1)) dX12_alone_287 (by decide) ?_
    exact x_iret rfl rfl dX12_alone_288 hq
  replace hq := hq.2
  by_cases c47 : x0 = 86
  · replace hq := hq.1 c47
    refine x_tin (tgt := 287) (off := 286) 86 c47 dX12_alone_1 (by decide) (by decide) (by decide) (by decide) ?_
    refine x_iconst (v := (-1)) dX12_alone_287 (by decide) ?_
    exact x_iret rfl rfl dX12_alone_288 hq
  replace hq := hq.2
  by_cases c48 : x0 = 87
  · replace hq := hq.1 c48
    refine x_tin (tgt := 287) (off := 286) 87 c48 dX12_alone_1 (by decide) (by decide) (by decide) (by decide) ?_
    refine x_iconst (v := (-1)) dX12_alone_287 (by decide) ?_
    exact x_iret rfl rfl dX12_alone_288 hq
  replace hq := hq.2
  by_cases c49 : x0 = 88
  · replace hq := hq.1 c49
    refine x_tin (tgt := 287) (off := 286) 88 c49 dX12_alone_1 (by decide) (by decide) (by decide) (by decide) ?_
    refine x_iconst (v := (-1)) dX12_alone_287 (by decide) ?_
    exact x_iret rfl rfl dX12_alone_288 hq
  replace hq := hq.2
  by_cases c50 : x0 = 89
  · replace hq := hq.1 c50
    refine x_tin (tgt := 287) (off := 286) 89 c50 dX12_alone_1 (by decide) (by decide) (by decide) (by decide) ?_
    refine x_iconst (v := (-1)) dX12_alone_287 (by decide) ?_
    exact x_iret rfl rfl dX12_alone_288 hq
  replace hq := hq.2
  by_cases c51 : x0 = 90
  · replace hq := hq.1 c51
    refine x_tin (tgt := 287) (off := 286) 90 c51 dX12_alone_1 (by decide) (by decide) (by decide) (by decide) ?_
    refine x_iconst (v := (-1)) dX12_alone_287 (by decide) ?_
    exact x_iret rfl rfl dX12_alone_288 hq
  replace hq := hq.2
  by_cases c52 : x0 = 91
  · replace hq := hq.1 c52
    refine x_tin (tgt := 254) (off := 253) 91 c52 dX12_alone_1 (by decide) (by decide) (by decide) (by decide) ?_
    refine x_bipush (v := 62) dX12_alone_254 (by decide) ?_
    exact x_iret rfl rfl dX12_alone_256 hq
  replace hq := hq.2
  by_cases c53 : x0 = 92
  · replace hq := hq.1 c53
    refine x_tin (tgt := 287) (off := 286) 92 c53 dX12_alone_1 (by decide) (by decide) (by decide) (by decide) ?_
    refine x_iconst (v := (-1)) dX12_alone_287 (by decide) ?_
    exact x_iret rfl rfl dX12_alone_288 hq
  replace hq := hq.2
  by_cases c54 : x0 = 93
  · replace hq := hq.1 c54
    refine x_tin (tgt := 257) (off := 256) 93 c54 dX12_alone_1 (by decide) (by decide) (by decide) (by decide) ?_
    refine x_bipush (v := 63) dX12_alone_257 (by decide) ?_
    exact x_iret rfl rfl dX12_alone_259 hq
  replace hq := hq.2
  by_cases c55 : x0 = 94
  · replace hq := hq.1 c55
    refine x_tin (tgt := 266) (off := 265) 94 c55 dX12_alone_1 (by decide) (by decide) (by decide) (by decide) ?_
    refine x_bipush (v := 70) dX12_alone_266 (by decide) ?_
    exact x_iret rfl rfl dX12_alone_268 hq
  replace hq := hq.2
  replace hq := hq c1 c2 c3 c4 c5 c6 c7 c8 c9 c10 c11 c12 c13 c14 c15 c16 c17 c18 c19 c20 c21 c22 c23 c24 c25 c26 c27 c28 c29 c30 c31 c32 c33 c34 c35 c36 c37 c38 c39 c40 c41 c42 c43 c44 c45 c46 c47 c48 c49 c50 c51 c52 c53 c54 c55
  have nc1 := lv_neT c1 (show (40 : Int32).toInt = 40 from by decide)
  have nc2 := lv_neT c2 (show (41 : Int32).toInt = 41 from by decide)
  have nc3 := lv_neT c3 (show (42 : Int32).toInt = 42 from by decide)
  have nc4 := lv_neT c4 (show (43 : Int32).toInt = 43 from by decide)
  have nc5 := lv_neT c5 (show (44 : Int32).toInt = 44 from by decide)
  have nc6 := lv_neT c6 (show (45 : Int32).toInt = 45 from by decide)
  have nc7 := lv_neT c7 (show (46 : Int32).toInt = 46 from by decide)
  have nc8 := lv_neT c8 (show (47 : Int32).toInt = 47 from by decide)
  have nc9 := lv_neT c9 (show (48 : Int32).toInt = 48 from by decide)
  have nc10 := lv_neT c10 (show (49 : Int32).toInt = 49 from by decide)
  have nc11 := lv_neT c11 (show (50 : Int32).toInt = 50 from by decide)
  have nc12 := lv_neT c12 (show (51 : Int32).toInt = 51 from by decide)
  have nc13 := lv_neT c13 (show (52 : Int32).toInt = 52 from by decide)
  have nc14 := lv_neT c14 (show (53 : Int32).toInt = 53 from by decide)
  have nc15 := lv_neT c15 (show (54 : Int32).toInt = 54 from by decide)
  have nc16 := lv_neT c16 (show (55 : Int32).toInt = 55 from by decide)
  have nc17 := lv_neT c17 (show (56 : Int32).toInt = 56 from by decide)
  have nc18 := lv_neT c18 (show (57 : Int32).toInt = 57 from by decide)
  have nc19 := lv_neT c19 (show (58 : Int32).toInt = 58 from by decide)
  have nc20 := lv_neT c20 (show (59 : Int32).toInt = 59 from by decide)
  have nc21 := lv_neT c21 (show (60 : Int32).toInt = 60 from by decide)
  have nc22 := lv_neT c22 (show (61 : Int32).toInt = 61 from by decide)
  have nc23 := lv_neT c23 (show (62 : Int32).toInt = 62 from by decide)
  have nc24 := lv_neT c24 (show (63 : Int32).toInt = 63 from by decide)
  have nc25 := lv_neT c25 (show (64 : Int32).toInt = 64 from by decide)
  have nc26 := lv_neT c26 (show (65 : Int32).toInt = 65 from by decide)
  have nc27 := lv_neT c27 (show (66 : Int32).toInt = 66 from by decide)
  have nc28 := lv_neT c28 (show (67 : Int32).toInt = 67 from by decide)
  have nc29 := lv_neT c29 (show (68 : Int32).toInt = 68 from by decide)
  have nc30 := lv_neT c30 (show (69 : Int32).toInt = 69 from by decide)
  have nc31 := lv_neT c31 (show (70 : Int32).toInt = 70 from by decide)
  have nc32 := lv_neT c32 (show (71 : Int32).toInt = 71 from by decide)
  have nc33 := lv_neT c33 (show (72 : Int32).toInt = 72 from by decide)
  have nc34 := lv_neT c34 (show (73 : Int32).toInt = 73 from by decide)
  have nc35 := lv_neT c35 (show (74 : Int32).toInt = 74 from by decide)
  have nc36 := lv_neT c36 (show (75 : Int32).toInt = 75 from by decide)
  have nc37 := lv_neT c37 (show (76 : Int32).toInt = 76 from by decide)
  have nc38 := lv_neT c38 (show (77 : Int32).toInt = 77 from by decide)
  have nc39 := lv_neT c39 (show (78 : Int32).toInt = 78 from by decide)
  have nc40 := lv_neT c40 (show (79 : Int32).toInt = 79 from by decide)
  have nc41 := lv_neT c41 (show (80 : Int32).toInt = 80 from by decide)
  have nc42 := lv_neT c42 (show (81 : Int32).toInt = 81 from by decide)
  have nc43 := lv_neT c43 (show (82 : Int32).toInt = 82 from by decide)
  have nc44 := lv_neT c44 (show (83 : Int32).toInt = 83 from by decide)
  have nc45 := lv_neT c45 (show (84 : Int32).toInt = 84 from by decide)
  have nc46 := lv_neT c46 (show (85 : Int32).toInt = 85 from by decide)
  have nc47 := lv_neT c47 (show (86 : Int32).toInt = 86 from by decide)
  have nc48 := lv_neT c48 (show (87 : Int32).toInt = 87 from by decide)
  have nc49 := lv_neT c49 (show (88 : Int32).toInt = 88 from by decide)
  have nc50 := lv_neT c50 (show (89 : Int32).toInt = 89 from by decide)
  have nc51 := lv_neT c51 (show (90 : Int32).toInt = 90 from by decide)
  have nc52 := lv_neT c52 (show (91 : Int32).toInt = 91 from by decide)
  have nc53 := lv_neT c53 (show (92 : Int32).toInt = 92 from by decide)
  have nc54 := lv_neT c54 (show (93 : Int32).toInt = 93 from by decide)
  have nc55 := lv_neT c55 (show (94 : Int32).toInt = 94 from by decide)
  refine x_tout (tgt := 287) dX12_alone_1 (by omega) (by decide) ?_
  refine x_iconst (v := (-1)) dX12_alone_287 (by decide) ?_
  exact x_iret rfl rfl dX12_alone_288 hq
theorem rX12_alone {G : xG} {fr lo : Nat} {x0 : Int32} {h : xH} {Q : Outcome → xH → Prop} (hq : bX12_alone G fr lo x0 h Q) : xR G YX12_alone fr lo [.int x0] h Q := by
  show xP _ _ _ _ _ (lv_args 0 _) _ _ _
  rw [show lv_args 0 [.int x0] = [(0, .int x0)] from (xla1 rfl xla0)]
  exact uX12_alone hq
set_option maxRecDepth 100000 in
theorem dX12_parseProgram_0 : decode cX12_parseProgram 0 = .ok (.aload_n 0, 1) := by decide +kernel
set_option maxRecDepth 100000 in
theorem dX12_parseProgram_1 : decode cX12_parseProgram 1 = .ok (.bipush 25, 2) := by decide +kernel
set_option maxRecDepth 100000 in
theorem dX12_parseProgram_3 : decode cX12_parseProgram 3 = .ok (.invokevirtual 457, 3) := by decide +kernel
set_option maxRecDepth 100000 in
theorem dX12_parseProgram_6 : decode cX12_parseProgram 6 = .ok (.pop, 1) := by decide +kernel
set_option maxRecDepth 100000 in
theorem dX12_parseProgram_7 : decode cX12_parseProgram 7 = .ok (.aload_n 0, 1) := by decide +kernel
set_option maxRecDepth 100000 in
theorem dX12_parseProgram_8 : decode cX12_parseProgram 8 = .ok (.iconst 1, 1) := by decide +kernel
set_option maxRecDepth 100000 in
theorem dX12_parseProgram_9 : decode cX12_parseProgram 9 = .ok (.aload_n 0, 1) := by decide +kernel
set_option maxRecDepth 100000 in
theorem dX12_parseProgram_10 : decode cX12_parseProgram 10 = .ok (.bipush 40, 2) := by decide +kernel
set_option maxRecDepth 100000 in
theorem dX12_parseProgram_12 : decode cX12_parseProgram 12 = .ok (.invokevirtual 457, 3) := by decide +kernel
set_option maxRecDepth 100000 in
theorem dX12_parseProgram_15 : decode cX12_parseProgram 15 = .ok (.invokevirtual 454, 3) := by decide +kernel
set_option maxRecDepth 100000 in
theorem dX12_parseProgram_18 : decode cX12_parseProgram 18 = .ok (.istore_n 1, 1) := by decide +kernel
set_option maxRecDepth 100000 in
theorem dX12_parseProgram_19 : decode cX12_parseProgram 19 = .ok (.aload_n 0, 1) := by decide +kernel
set_option maxRecDepth 100000 in
theorem dX12_parseProgram_20 : decode cX12_parseProgram 20 = .ok (.iconst 3, 1) := by decide +kernel
set_option maxRecDepth 100000 in
theorem dX12_parseProgram_21 : decode cX12_parseProgram 21 = .ok (.aload_n 0, 1) := by decide +kernel
set_option maxRecDepth 100000 in
theorem dX12_parseProgram_22 : decode cX12_parseProgram 22 = .ok (.invokevirtual 445, 3) := by decide +kernel
set_option maxRecDepth 100000 in
theorem dX12_parseProgram_25 : decode cX12_parseProgram 25 = .ok (.invokevirtual 454, 3) := by decide +kernel
set_option maxRecDepth 100000 in
theorem dX12_parseProgram_28 : decode cX12_parseProgram 28 = .ok (.istore_n 2, 1) := by decide +kernel
set_option maxRecDepth 100000 in
theorem dX12_parseProgram_29 : decode cX12_parseProgram 29 = .ok (.aload_n 0, 1) := by decide +kernel
set_option maxRecDepth 100000 in
theorem dX12_parseProgram_30 : decode cX12_parseProgram 30 = .ok (.bipush 60, 2) := by decide +kernel
set_option maxRecDepth 100000 in
theorem dX12_parseProgram_32 : decode cX12_parseProgram 32 = .ok (.invokevirtual 463, 3) := by decide +kernel
set_option maxRecDepth 100000 in
theorem dX12_parseProgram_35 : decode cX12_parseProgram 35 = .ok (.ifCond .eq 15, 3) := by decide +kernel
set_option maxRecDepth 100000 in
theorem dX12_parseProgram_38 : decode cX12_parseProgram 38 = .ok (.aload_n 0, 1) := by decide +kernel
set_option maxRecDepth 100000 in
theorem dX12_parseProgram_39 : decode cX12_parseProgram 39 = .ok (.invokevirtual 466, 3) := by decide +kernel
set_option maxRecDepth 100000 in
theorem dX12_parseProgram_42 : decode cX12_parseProgram 42 = .ok (.istore_n 2, 1) := by decide +kernel
set_option maxRecDepth 100000 in
theorem dX12_parseProgram_43 : decode cX12_parseProgram 43 = .ok (.aload_n 0, 1) := by decide +kernel
set_option maxRecDepth 100000 in
theorem dX12_parseProgram_44 : decode cX12_parseProgram 44 = .ok (.bipush 61, 2) := by decide +kernel
set_option maxRecDepth 100000 in
theorem dX12_parseProgram_46 : decode cX12_parseProgram 46 = .ok (.invokevirtual 457, 3) := by decide +kernel
set_option maxRecDepth 100000 in
theorem dX12_parseProgram_49 : decode cX12_parseProgram 49 = .ok (.pop, 1) := by decide +kernel
set_option maxRecDepth 100000 in
theorem dX12_parseProgram_50 : decode cX12_parseProgram 50 = .ok (.aload_n 0, 1) := by decide +kernel
set_option maxRecDepth 100000 in
theorem dX12_parseProgram_51 : decode cX12_parseProgram 51 = .ok (.iload_n 1, 1) := by decide +kernel
set_option maxRecDepth 100000 in
theorem dX12_parseProgram_52 : decode cX12_parseProgram 52 = .ok (.iload_n 2, 1) := by decide +kernel
set_option maxRecDepth 100000 in
theorem dX12_parseProgram_53 : decode cX12_parseProgram 53 = .ok (.invokevirtual 460, 3) := by decide +kernel
set_option maxRecDepth 100000 in
theorem dX12_parseProgram_56 : decode cX12_parseProgram 56 = .ok (.aload_n 0, 1) := by decide +kernel
set_option maxRecDepth 100000 in
theorem dX12_parseProgram_57 : decode cX12_parseProgram 57 = .ok (.bipush 67, 2) := by decide +kernel
set_option maxRecDepth 100000 in
theorem dX12_parseProgram_59 : decode cX12_parseProgram 59 = .ok (.invokevirtual 457, 3) := by decide +kernel
set_option maxRecDepth 100000 in
theorem dX12_parseProgram_62 : decode cX12_parseProgram 62 = .ok (.pop, 1) := by decide +kernel
set_option maxRecDepth 100000 in
theorem dX12_parseProgram_63 : decode cX12_parseProgram 63 = .ok (.aload_n 0, 1) := by decide +kernel
set_option maxRecDepth 100000 in
theorem dX12_parseProgram_64 : decode cX12_parseProgram 64 = .ok (.iload_n 1, 1) := by decide +kernel
set_option maxRecDepth 100000 in
theorem dX12_parseProgram_65 : decode cX12_parseProgram 65 = .ok (.aload_n 0, 1) := by decide +kernel
set_option maxRecDepth 100000 in
theorem dX12_parseProgram_66 : decode cX12_parseProgram 66 = .ok (.invokevirtual 469, 3) := by decide +kernel
set_option maxRecDepth 100000 in
theorem dX12_parseProgram_69 : decode cX12_parseProgram 69 = .ok (.invokevirtual 460, 3) := by decide +kernel
set_option maxRecDepth 100000 in
theorem dX12_parseProgram_72 : decode cX12_parseProgram 72 = .ok (.aload_n 0, 1) := by decide +kernel
set_option maxRecDepth 100000 in
theorem dX12_parseProgram_73 : decode cX12_parseProgram 73 = .ok (.bipush 65, 2) := by decide +kernel
set_option maxRecDepth 100000 in
theorem dX12_parseProgram_75 : decode cX12_parseProgram 75 = .ok (.invokevirtual 457, 3) := by decide +kernel
set_option maxRecDepth 100000 in
theorem dX12_parseProgram_78 : decode cX12_parseProgram 78 = .ok (.pop, 1) := by decide +kernel
set_option maxRecDepth 100000 in
theorem dX12_parseProgram_79 : decode cX12_parseProgram 79 = .ok (.aload_n 0, 1) := by decide +kernel
set_option maxRecDepth 100000 in
theorem dX12_parseProgram_80 : decode cX12_parseProgram 80 = .ok (.iconst 0, 1) := by decide +kernel
set_option maxRecDepth 100000 in
theorem dX12_parseProgram_81 : decode cX12_parseProgram 81 = .ok (.invokevirtual 439, 3) := by decide +kernel
set_option maxRecDepth 100000 in
theorem dX12_parseProgram_84 : decode cX12_parseProgram 84 = .ok (.ifCond .ne 7, 3) := by decide +kernel
set_option maxRecDepth 100000 in
theorem dX12_parseProgram_87 : decode cX12_parseProgram 87 = .ok (.aload_n 0, 1) := by decide +kernel
set_option maxRecDepth 100000 in
theorem dX12_parseProgram_88 : decode cX12_parseProgram 88 = .ok (.invokevirtual 448, 3) := by decide +kernel
set_option maxRecDepth 100000 in
theorem dX12_parseProgram_91 : decode cX12_parseProgram 91 = .ok (.iload_n 1, 1) := by decide +kernel
set_option maxRecDepth 100000 in
theorem dX12_parseProgram_92 : decode cX12_parseProgram 92 = .ok (.ireturn, 1) := by decide +kernel
set_option maxRecDepth 100000 in
def bX12_parseProgram_91 (G : xG) (fr lo : Nat) (x1 : Int32) (h : xH) (Q : Outcome → xH → Prop) : Prop := Q (.returned (some (.int x1))) h
set_option maxRecDepth 100000 in
theorem uX12_parseProgram_91 {G : xG} {fr lo : Nat} {x1 : Int32} {h : xH} {Q : Outcome → xH → Prop} (hq : bX12_parseProgram_91 G fr lo x1 h Q) : xP G YX12_parseProgram fr lo 91 [(1, .int x1)] [] h Q := by
  unfold bX12_parseProgram_91 at hq
  refine x_iload_n 0 dX12_parseProgram_91 rfl ?_
  exact x_iret rfl rfl dX12_parseProgram_92 hq
set_option maxRecDepth 100000 in
def bX12_parseProgram_50 (G : xG) (fr lo : Nat) (x0 : Nat) (x1 : Int32) (x2 : Int32) (h : xH) (Q : Outcome → xH → Prop) : Prop := tg h x0 = 13 ∧ 1 ≤ fr ∧ 14 ≤ lo ∧ xRv G YX12_add (fr - 1) (lo - 14) [rv x0, .int x1, .int x2] h (fun h4 => xext h h4 → 1 ≤ fr ∧ 13 ≤ lo ∧ xRi G YX12_must (fr - 1) (lo - 13) [rv x0, .int 67] h4 (fun x11 h10 => xext h4 h10 → 1 ≤ fr ∧ 21 ≤ lo ∧ xRi G YX12_parseBlock (fr - 1) (lo - 21) [rv x0] h10 (fun x17 h16 => xext h10 h16 → 1 ≤ fr ∧ 14 ≤ lo ∧ xRv G YX12_add (fr - 1) (lo - 14) [rv x0, .int x1, .int x17] h16 (fun h22 => xext h16 h22 → 1 ≤ fr ∧ 13 ≤ lo ∧ xRi G YX12_must (fr - 1) (lo - 13) [rv x0, .int 65] h22 (fun x29 h28 => xext h22 h28 → 1 ≤ fr ∧ 13 ≤ lo ∧ xRi G YX12_sees (fr - 1) (lo - 13) [rv x0, .int 0] h28 (fun x35 h34 => xext h28 h34 → ((¬ x35 = 0 → bX12_parseProgram_91 G fr lo x1 h34 Q) ∧ (x35 = 0 → 1 ≤ fr ∧ 12 ≤ lo ∧ xRv G YX12_bad (fr - 1) (lo - 12) [rv x0] h34 (fun h41 => xext h34 h41 → bX12_parseProgram_91 G fr lo x1 h41 Q) (fun r h2 => Q (.threw r) h2)))) (fun r h2 => Q (.threw r) h2)) (fun r h2 => Q (.threw r) h2)) (fun r h2 => Q (.threw r) h2)) (fun r h2 => Q (.threw r) h2)) (fun r h2 => Q (.threw r) h2)) (fun r h2 => Q (.threw r) h2)
set_option maxRecDepth 100000 in
theorem uX12_parseProgram_50 {G : xG} {fr lo : Nat} {x0 : Nat} {x1 : Int32} {x2 : Int32} {h : xH} {Q : Outcome → xH → Prop} (hq : bX12_parseProgram_50 G fr lo x0 x1 x2 h Q) : xP G YX12_parseProgram fr lo 50 [(0, rv x0), (1, .int x1), (2, .int x2)] [] h Q := by
  unfold bX12_parseProgram_50 at hq
  refine x_aload_n 0 dX12_parseProgram_50 rfl ?_
  refine x_iload_n 1 dX12_parseProgram_51 rfl ?_
  refine x_iload_n 2 dX12_parseProgram_52 rfl ?_
  obtain ⟨g1, hq⟩ := hq
  obtain ⟨g2, g3, hq⟩ := hq
  refine x_callV (Yc := YX12_add) (as := [.int x1, .int x2]) (st := []) q3810 mvX12_add g1 rfl dX12_parseProgram_53 (xle (xal1 (rv_cat _) (xal1 rfl (xal1 rfl xal0))) (by decide)) (xfr g2) (xlo xsw0 (by decide) g3) (xKv hq (fun h4 hq e6 => ?_) (fun _ _ q _ => q))
  replace hq := hq e6
  refine x_aload_n 0 dX12_parseProgram_56 rfl ?_
  refine x_bipush (v := 67) dX12_parseProgram_57 (by decide) ?_
  have t7 : tg h4 x0 = 13 := e6.tg g1 (by decide)
  obtain ⟨g8, g9, hq⟩ := hq
  refine x_callV (Yc := YX12_must) (as := [.int 67]) (st := []) q3778 mvX12_must t7 rfl dX12_parseProgram_59 (xle (xal1 (rv_cat _) (xal1 rfl xal0)) (by decide)) (xfr g8) (xlo xsw0 (by decide) g9) (xKi hq (fun x11 h10 hq e12 => ?_) (fun _ _ q _ => q))
  replace hq := hq e12
  refine x_pop dX12_parseProgram_62 rfl ?_
  refine x_aload_n 0 dX12_parseProgram_63 rfl ?_
  refine x_iload_n 1 dX12_parseProgram_64 rfl ?_
  refine x_aload_n 0 dX12_parseProgram_65 rfl ?_
  have t13 : tg h10 x0 = 13 := e12.tg t7 (by decide)
  obtain ⟨g14, g15, hq⟩ := hq
  refine x_callV (Yc := YX12_parseBlock) (as := []) (st := [.int x1, rv x0]) q3814 mvX12_parseBlock t13 rfl dX12_parseProgram_66 (xle (xal1 (rv_cat _) xal0) (by decide)) (xfr g14) (xlo (xsw1 rfl (xsw1 (rv_cat _) xsw0)) (by decide) g15) (xKi hq (fun x17 h16 hq e18 => ?_) (fun _ _ q _ => q))
  replace hq := hq e18
  have t19 : tg h16 x0 = 13 := e18.tg t13 (by decide)
  obtain ⟨g20, g21, hq⟩ := hq
  refine x_callV (Yc := YX12_add) (as := [.int x1, .int x17]) (st := []) q3810 mvX12_add t19 rfl dX12_parseProgram_69 (xle (xal1 (rv_cat _) (xal1 rfl (xal1 rfl xal0))) (by decide)) (xfr g20) (xlo xsw0 (by decide) g21) (xKv hq (fun h22 hq e24 => ?_) (fun _ _ q _ => q))
  replace hq := hq e24
  refine x_aload_n 0 dX12_parseProgram_72 rfl ?_
  refine x_bipush (v := 65) dX12_parseProgram_73 (by decide) ?_
  have t25 : tg h22 x0 = 13 := e24.tg t19 (by decide)
  obtain ⟨g26, g27, hq⟩ := hq
  refine x_callV (Yc := YX12_must) (as := [.int 65]) (st := []) q3778 mvX12_must t25 rfl dX12_parseProgram_75 (xle (xal1 (rv_cat _) (xal1 rfl xal0)) (by decide)) (xfr g26) (xlo xsw0 (by decide) g27) (xKi hq (fun x29 h28 hq e30 => ?_) (fun _ _ q _ => q))
  replace hq := hq e30
  refine x_pop dX12_parseProgram_78 rfl ?_
  refine x_aload_n 0 dX12_parseProgram_79 rfl ?_
  refine x_iconst (v := 0) dX12_parseProgram_80 (by decide) ?_
  have t31 : tg h28 x0 = 13 := e30.tg t25 (by decide)
  obtain ⟨g32, g33, hq⟩ := hq
  refine x_callV (Yc := YX12_sees) (as := [.int 0]) (st := []) q3782 mvX12_sees t31 rfl dX12_parseProgram_81 (xle (xal1 (rv_cat _) (xal1 rfl xal0)) (by decide)) (xfr g32) (xlo xsw0 (by decide) g33) (xKi hq (fun x35 h34 hq e36 => ?_) (fun _ _ q _ => q))
  replace hq := hq e36
  refine x_if_ne (tgt := 91) dX12_parseProgram_84 (by decide) (fun c37 => ?_) (fun c37 => ?_)
  · replace hq := hq.1 c37
    refine xP.pick (lv' := [(1, .int x1)]) [1] rfl ?_
    exact uX12_parseProgram_91 hq
  · replace hq := hq.2 c37
    refine x_aload_n 0 dX12_parseProgram_87 rfl ?_
    have t38 : tg h34 x0 = 13 := e36.tg t31 (by decide)
    obtain ⟨g39, g40, hq⟩ := hq
    refine x_callV (Yc := YX12_bad) (as := []) (st := []) q3786 mvX12_bad t38 rfl dX12_parseProgram_88 (xle (xal1 (rv_cat _) xal0) (by decide)) (xfr g39) (xlo xsw0 (by decide) g40) (xKv hq (fun h41 hq e43 => ?_) (fun _ _ q _ => q))
    replace hq := hq e43
    refine xP.pick (lv' := [(1, .int x1)]) [1] rfl ?_
    exact uX12_parseProgram_91 hq
set_option maxRecDepth 100000 in
def bX12_parseProgram (G : xG) (fr lo : Nat) (x0 : Nat) (h : xH) (Q : Outcome → xH → Prop) : Prop := tg h x0 = 13 ∧ 1 ≤ fr ∧ 13 ≤ lo ∧ xRi G YX12_must (fr - 1) (lo - 13) [rv x0, .int 25] h (fun x5 h4 => xext h h4 → 1 ≤ fr ∧ 15 ≤ lo ∧ xRi G YX12_must (fr - 1) (lo - 15) [rv x0, .int 40] h4 (fun x11 h10 => xext h4 h10 → 1 ≤ fr ∧ 15 ≤ lo ∧ xRi G YX12_node (fr - 1) (lo - 15) [rv x0, .int 1, .int x11] h10 (fun x17 h16 => xext h10 h16 → 1 ≤ fr ∧ 14 ≤ lo ∧ xRi G YX12_now (fr - 1) (lo - 14) [rv x0] h16 (fun x23 h22 => xext h16 h22 → 1 ≤ fr ∧ 15 ≤ lo ∧ xRi G YX12_node (fr - 1) (lo - 15) [rv x0, .int 3, .int x23] h22 (fun x29 h28 => xext h22 h28 → 1 ≤ fr ∧ 13 ≤ lo ∧ xRi G YX12_takes (fr - 1) (lo - 13) [rv x0, .int 60] h28 (fun x35 h34 => xext h28 h34 → ((x35 = 0 → bX12_parseProgram_50 G fr lo x0 x17 x29 h34 Q) ∧ (¬ x35 = 0 → 1 ≤ fr ∧ 14 ≤ lo ∧ xRi G YX12_parseNames (fr - 1) (lo - 14) [rv x0] h34 (fun x42 h41 => xext h34 h41 → 1 ≤ fr ∧ 13 ≤ lo ∧ xRi G YX12_must (fr - 1) (lo - 13) [rv x0, .int 61] h41 (fun x48 h47 => xext h41 h47 → bX12_parseProgram_50 G fr lo x0 x17 x42 h47 Q) (fun r h2 => Q (.threw r) h2)) (fun r h2 => Q (.threw r) h2)))) (fun r h2 => Q (.threw r) h2)) (fun r h2 => Q (.threw r) h2)) (fun r h2 => Q (.threw r) h2)) (fun r h2 => Q (.threw r) h2)) (fun r h2 => Q (.threw r) h2)) (fun r h2 => Q (.threw r) h2)
set_option maxRecDepth 100000 in
theorem uX12_parseProgram {G : xG} {fr lo : Nat} {x0 : Nat} {h : xH} {Q : Outcome → xH → Prop} (hq : bX12_parseProgram G fr lo x0 h Q) : xP G YX12_parseProgram fr lo 0 [(0, rv x0)] [] h Q := by
  unfold bX12_parseProgram at hq
  refine x_aload_n 0 dX12_parseProgram_0 rfl ?_
  refine x_bipush (v := 25) dX12_parseProgram_1 (by decide) ?_
  obtain ⟨g1, hq⟩ := hq
  obtain ⟨g2, g3, hq⟩ := hq
  refine x_callV (Yc := YX12_must) (as := [.int 25]) (st := []) q3778 mvX12_must g1 rfl dX12_parseProgram_3 (xle (xal1 (rv_cat _) (xal1 rfl xal0)) (by decide)) (xfr g2) (xlo xsw0 (by decide) g3) (xKi hq (fun x5 h4 hq e6 => ?_) (fun _ _ q _ => q))
  replace hq := hq e6
  refine x_pop dX12_parseProgram_6 rfl ?_
  refine x_aload_n 0 dX12_parseProgram_7 rfl ?_
  refine x_iconst (v := 1) dX12_parseProgram_8 (by decide) ?_
  refine x_aload_n 0 dX12_parseProgram_9 rfl ?_
  refine x_bipush (v := 40) dX12_parseProgram_10 (by decide) ?_
  have t7 : tg h4 x0 = 13 := e6.tg g1 (by decide)
  obtain ⟨g8, g9, hq⟩ := hq
  refine x_callV (Yc := YX12_must) (as := [.int 40]) (st := [.int 1, rv x0]) q3778 mvX12_must t7 rfl dX12_parseProgram_12 (xle (xal1 (rv_cat _) (xal1 rfl xal0)) (by decide)) (xfr g8) (xlo (xsw1 rfl (xsw1 (rv_cat _) xsw0)) (by decide) g9) (xKi hq (fun x11 h10 hq e12 => ?_) (fun _ _ q _ => q))
  replace hq := hq e12
  have t13 : tg h10 x0 = 13 := e12.tg t7 (by decide)
  obtain ⟨g14, g15, hq⟩ := hq
  refine x_callV (Yc := YX12_node) (as := [.int 1, .int x11]) (st := []) q3798 mvX12_node t13 rfl dX12_parseProgram_15 (xle (xal1 (rv_cat _) (xal1 rfl (xal1 rfl xal0))) (by decide)) (xfr g14) (xlo xsw0 (by decide) g15) (xKi hq (fun x17 h16 hq e18 => ?_) (fun _ _ q _ => q))
  replace hq := hq e18
  refine x_istore_n (lv' := [(1, .int x17), (0, rv x0)]) dX12_parseProgram_18 (by decide) (by first | rfl | (simp [rv_cat, Value.category]; done) | (simp [rv_cat, Value.category]; decide)) ?_
  refine x_aload_n 1 dX12_parseProgram_19 rfl ?_
  refine x_iconst (v := 3) dX12_parseProgram_20 (by decide) ?_
  refine x_aload_n 1 dX12_parseProgram_21 rfl ?_
  have t19 : tg h16 x0 = 13 := e18.tg t13 (by decide)
  obtain ⟨g20, g21, hq⟩ := hq
  refine x_callV (Yc := YX12_now) (as := []) (st := [.int 3, rv x0]) q3790 mvX12_now t19 rfl dX12_parseProgram_22 (xle (xal1 (rv_cat _) xal0) (by decide)) (xfr g20) (xlo (xsw1 rfl (xsw1 (rv_cat _) xsw0)) (by decide) g21) (xKi hq (fun x23 h22 hq e24 => ?_) (fun _ _ q _ => q))
  replace hq := hq e24
  have t25 : tg h22 x0 = 13 := e24.tg t19 (by decide)
  obtain ⟨g26, g27, hq⟩ := hq
  refine x_callV (Yc := YX12_node) (as := [.int 3, .int x23]) (st := []) q3798 mvX12_node t25 rfl dX12_parseProgram_25 (xle (xal1 (rv_cat _) (xal1 rfl (xal1 rfl xal0))) (by decide)) (xfr g26) (xlo xsw0 (by decide) g27) (xKi hq (fun x29 h28 hq e30 => ?_) (fun _ _ q _ => q))
  replace hq := hq e30
  refine x_istore_n (lv' := [(2, .int x29), (1, .int x17), (0, rv x0)]) dX12_parseProgram_28 (by decide) rfl ?_
  refine x_aload_n 2 dX12_parseProgram_29 rfl ?_
  refine x_bipush (v := 60) dX12_parseProgram_30 (by decide) ?_
  have t31 : tg h28 x0 = 13 := e30.tg t25 (by decide)
  obtain ⟨g32, g33, hq⟩ := hq
  refine x_callV (Yc := YX12_takes) (as := [.int 60]) (st := []) q3802 mvX12_takes t31 rfl dX12_parseProgram_32 (xle (xal1 (rv_cat _) (xal1 rfl xal0)) (by decide)) (xfr g32) (xlo xsw0 (by decide) g33) (xKi hq (fun x35 h34 hq e36 => ?_) (fun _ _ q _ => q))
  replace hq := hq e36
  refine x_if_eq (tgt := 50) dX12_parseProgram_35 (by decide) (fun c37 => ?_) (fun c37 => ?_)
  · replace hq := hq.1 c37
    refine xP.pick (lv' := [(0, rv x0), (1, .int x17), (2, .int x29)]) [2, 1, 0] rfl ?_
    exact uX12_parseProgram_50 hq
  · replace hq := hq.2 c37
    refine x_aload_n 2 dX12_parseProgram_38 rfl ?_
    have t38 : tg h34 x0 = 13 := e36.tg t31 (by decide)
    obtain ⟨g39, g40, hq⟩ := hq
    refine x_callV (Yc := YX12_parseNames) (as := []) (st := []) q3806 mvX12_parseNames t38 rfl dX12_parseProgram_39 (xle (xal1 (rv_cat _) xal0) (by decide)) (xfr g39) (xlo xsw0 (by decide) g40) (xKi hq (fun x42 h41 hq e43 => ?_) (fun _ _ q _ => q))
    replace hq := hq e43
    refine x_istore_n (lv' := [(2, .int x42), (1, .int x17), (0, rv x0)]) dX12_parseProgram_42 (by decide) rfl ?_
    refine x_aload_n 2 dX12_parseProgram_43 rfl ?_
    refine x_bipush (v := 61) dX12_parseProgram_44 (by decide) ?_
    have t44 : tg h41 x0 = 13 := e43.tg t38 (by decide)
    obtain ⟨g45, g46, hq⟩ := hq
    refine x_callV (Yc := YX12_must) (as := [.int 61]) (st := []) q3778 mvX12_must t44 rfl dX12_parseProgram_46 (xle (xal1 (rv_cat _) (xal1 rfl xal0)) (by decide)) (xfr g45) (xlo xsw0 (by decide) g46) (xKi hq (fun x48 h47 hq e49 => ?_) (fun _ _ q _ => q))
    replace hq := hq e49
    refine x_pop dX12_parseProgram_49 rfl ?_
    refine xP.pick (lv' := [(0, rv x0), (1, .int x17), (2, .int x42)]) [2, 1, 0] rfl ?_
    exact uX12_parseProgram_50 hq
theorem rX12_parseProgram {G : xG} {fr lo : Nat} {x0 : Nat} {h : xH} {Q : Outcome → xH → Prop} (hq : bX12_parseProgram G fr lo x0 h Q) : xR G YX12_parseProgram fr lo [rv x0] h Q := by
  show xP _ _ _ _ _ (lv_args 0 _) _ _ _
  rw [show lv_args 0 [rv x0] = [(0, rv x0)] from (xla1 (rv_cat _) xla0)]
  exact uX12_parseProgram hq
set_option maxRecDepth 100000 in
theorem dX12_must_0 : decode cX12_must 0 = .ok (.aload_n 0, 1) := by decide +kernel
set_option maxRecDepth 100000 in
theorem dX12_must_1 : decode cX12_must 1 = .ok (.iload_n 1, 1) := by decide +kernel
set_option maxRecDepth 100000 in
theorem dX12_must_2 : decode cX12_must 2 = .ok (.invokevirtual 439, 3) := by decide +kernel
set_option maxRecDepth 100000 in
theorem dX12_must_5 : decode cX12_must 5 = .ok (.ifCond .ne 7, 3) := by decide +kernel
set_option maxRecDepth 100000 in
theorem dX12_must_8 : decode cX12_must 8 = .ok (.aload_n 0, 1) := by decide +kernel
set_option maxRecDepth 100000 in
theorem dX12_must_9 : decode cX12_must 9 = .ok (.invokevirtual 448, 3) := by decide +kernel
set_option maxRecDepth 100000 in
theorem dX12_must_12 : decode cX12_must 12 = .ok (.aload_n 0, 1) := by decide +kernel
set_option maxRecDepth 100000 in
theorem dX12_must_13 : decode cX12_must 13 = .ok (.invokevirtual 442, 3) := by decide +kernel
set_option maxRecDepth 100000 in
theorem dX12_must_16 : decode cX12_must 16 = .ok (.ireturn, 1) := by decide +kernel
set_option maxRecDepth 100000 in
def bX12_must_12 (G : xG) (fr lo : Nat) (x0 : Nat) (h : xH) (Q : Outcome → xH → Prop) : Prop := tg h x0 = 13 ∧ 1 ≤ fr ∧ 13 ≤ lo ∧ xRi G YX12_take (fr - 1) (lo - 13) [rv x0] h (fun x5 h4 => xext h h4 → Q (.returned (some (.int x5))) h4) (fun r h2 => Q (.threw r) h2)
set_option maxRecDepth 100000 in
theorem uX12_must_12 {G : xG} {fr lo : Nat} {x0 : Nat} {h : xH} {Q : Outcome → xH → Prop} (hq : bX12_must_12 G fr lo x0 h Q) : xP G YX12_must fr lo 12 [(0, rv x0)] [] h Q := by
  unfold bX12_must_12 at hq
  refine x_aload_n 0 dX12_must_12 rfl ?_
  obtain ⟨g1, hq⟩ := hq
  obtain ⟨g2, g3, hq⟩ := hq
  refine x_callV (Yc := YX12_take) (as := []) (st := []) q3794 mvX12_take g1 rfl dX12_must_13 (xle (xal1 (rv_cat _) xal0) (by decide)) (xfr g2) (xlo xsw0 (by decide) g3) (xKi hq (fun x5 h4 hq e6 => ?_) (fun _ _ q _ => q))
  replace hq := hq e6
  exact x_iret rfl rfl dX12_must_16 hq
set_option maxRecDepth 100000 in
def bX12_must (G : xG) (fr lo : Nat) (x0 : Nat) (x1 : Int32) (h : xH) (Q : Outcome → xH → Prop) : Prop := tg h x0 = 13 ∧ 1 ≤ fr ∧ 13 ≤ lo ∧ xRi G YX12_sees (fr - 1) (lo - 13) [rv x0, .int x1] h (fun x5 h4 => xext h h4 → ((¬ x5 = 0 → bX12_must_12 G fr lo x0 h4 Q) ∧ (x5 = 0 → 1 ≤ fr ∧ 12 ≤ lo ∧ xRv G YX12_bad (fr - 1) (lo - 12) [rv x0] h4 (fun h11 => xext h4 h11 → bX12_must_12 G fr lo x0 h11 Q) (fun r h2 => Q (.threw r) h2)))) (fun r h2 => Q (.threw r) h2)
set_option maxRecDepth 100000 in
theorem uX12_must {G : xG} {fr lo : Nat} {x0 : Nat} {x1 : Int32} {h : xH} {Q : Outcome → xH → Prop} (hq : bX12_must G fr lo x0 x1 h Q) : xP G YX12_must fr lo 0 [(0, rv x0), (1, .int x1)] [] h Q := by
  unfold bX12_must at hq
  refine x_aload_n 0 dX12_must_0 rfl ?_
  refine x_iload_n 1 dX12_must_1 rfl ?_
  obtain ⟨g1, hq⟩ := hq
  obtain ⟨g2, g3, hq⟩ := hq
  refine x_callV (Yc := YX12_sees) (as := [.int x1]) (st := []) q3782 mvX12_sees g1 rfl dX12_must_2 (xle (xal1 (rv_cat _) (xal1 rfl xal0)) (by decide)) (xfr g2) (xlo xsw0 (by decide) g3) (xKi hq (fun x5 h4 hq e6 => ?_) (fun _ _ q _ => q))
  replace hq := hq e6
  refine x_if_ne (tgt := 12) dX12_must_5 (by decide) (fun c7 => ?_) (fun c7 => ?_)
  · replace hq := hq.1 c7
    refine xP.pick (lv' := [(0, rv x0)]) [0] rfl ?_
    exact uX12_must_12 hq
  · replace hq := hq.2 c7
    refine x_aload_n 0 dX12_must_8 rfl ?_
    have t8 : tg h4 x0 = 13 := e6.tg g1 (by decide)
    obtain ⟨g9, g10, hq⟩ := hq
    refine x_callV (Yc := YX12_bad) (as := []) (st := []) q3786 mvX12_bad t8 rfl dX12_must_9 (xle (xal1 (rv_cat _) xal0) (by decide)) (xfr g9) (xlo xsw0 (by decide) g10) (xKv hq (fun h11 hq e13 => ?_) (fun _ _ q _ => q))
    replace hq := hq e13
    refine xP.pick (lv' := [(0, rv x0)]) [0] rfl ?_
    exact uX12_must_12 hq
theorem rX12_must {G : xG} {fr lo : Nat} {x0 : Nat} {x1 : Int32} {h : xH} {Q : Outcome → xH → Prop} (hq : bX12_must G fr lo x0 x1 h Q) : xR G YX12_must fr lo [rv x0, .int x1] h Q := by
  show xP _ _ _ _ _ (lv_args 0 _) _ _ _
  rw [show lv_args 0 [rv x0, .int x1] = [(0, rv x0), (1, .int x1)] from (xla1 (rv_cat _) (xla1 rfl xla0))]
  exact uX12_must hq
set_option maxRecDepth 100000 in
theorem dX12_sees_0 : decode cX12_sees 0 = .ok (.aload_n 0, 1) := by decide +kernel
set_option maxRecDepth 100000 in
theorem dX12_sees_1 : decode cX12_sees 1 = .ok (.getfield 26, 3) := by decide +kernel
set_option maxRecDepth 100000 in
theorem dX12_sees_4 : decode cX12_sees 4 = .ok (.aload_n 0, 1) := by decide +kernel
set_option maxRecDepth 100000 in
theorem dX12_sees_5 : decode cX12_sees 5 = .ok (.getfield 378, 3) := by decide +kernel
set_option maxRecDepth 100000 in
theorem dX12_sees_8 : decode cX12_sees 8 = .ok (.iconst 1, 1) := by decide +kernel
set_option maxRecDepth 100000 in
theorem dX12_sees_9 : decode cX12_sees 9 = .ok (.isub, 1) := by decide +kernel
set_option maxRecDepth 100000 in
theorem dX12_sees_10 : decode cX12_sees 10 = .ok (.iaload, 1) := by decide +kernel
set_option maxRecDepth 100000 in
theorem dX12_sees_11 : decode cX12_sees 11 = .ok (.iload_n 1, 1) := by decide +kernel
set_option maxRecDepth 100000 in
theorem dX12_sees_12 : decode cX12_sees 12 = .ok (.if_icmp .ne 7, 3) := by decide +kernel
set_option maxRecDepth 100000 in
theorem dX12_sees_15 : decode cX12_sees 15 = .ok (.iconst 1, 1) := by decide +kernel
set_option maxRecDepth 100000 in
theorem dX12_sees_16 : decode cX12_sees 16 = .ok (.goto 4, 3) := by decide +kernel
set_option maxRecDepth 100000 in
theorem dX12_sees_19 : decode cX12_sees 19 = .ok (.iconst 0, 1) := by decide +kernel
set_option maxRecDepth 100000 in
theorem dX12_sees_20 : decode cX12_sees 20 = .ok (.ireturn, 1) := by decide +kernel
set_option maxRecDepth 100000 in
def bX12_sees_20 (G : xG) (fr lo : Nat) (s0 : Int32) (h : xH) (Q : Outcome → xH → Prop) : Prop := xbz s0 ∧ Q (.returned (some (.int s0))) h
set_option maxRecDepth 100000 in
theorem uX12_sees_20 {G : xG} {fr lo : Nat} {s0 : Int32} {h : xH} {Q : Outcome → xH → Prop} (hq : bX12_sees_20 G fr lo s0 h Q) : xP G YX12_sees fr lo 20 [] [.int s0] h Q := by
  unfold bX12_sees_20 at hq
  obtain ⟨g1, hq⟩ := hq
  exact x_iret rfl (xnZ g1) dX12_sees_20 hq
set_option maxRecDepth 100000 in
def bX12_sees (G : xG) (fr lo : Nat) (x0 : Nat) (x1 : Int32) (h : xH) (Q : Outcome → xH → Prop) : Prop := tg h x0 = 13 ∧ tg h (fR h x0 3082) = 100 ∧ vp_in ((fI h x0 3087) - 1) (ln h (fR h x0 3082)) ∧ ((¬ (aI h (fR h x0 3082) (Int32.toNatClampNeg ((fI h x0 3087) - 1))) = x1 → bX12_sees_20 G fr lo 0 h Q) ∧ ((aI h (fR h x0 3082) (Int32.toNatClampNeg ((fI h x0 3087) - 1))) = x1 → bX12_sees_20 G fr lo 1 h Q))
set_option maxRecDepth 100000 in
theorem uX12_sees {G : xG} {fr lo : Nat} {x0 : Nat} {x1 : Int32} {h : xH} {Q : Outcome → xH → Prop} (hq : bX12_sees G fr lo x0 x1 h Q) : xP G YX12_sees fr lo 0 [(0, rv x0), (1, .int x1)] [] h Q := by
  unfold bX12_sees at hq
  refine x_aload_n 0 dX12_sees_0 rfl ?_
  obtain ⟨g1, hq⟩ := hq
  refine x_get (v := rv (fR h x0 3082)) fdX12_26 dX12_sees_1 g1 rfl ?_
  refine x_aload_n 0 dX12_sees_4 rfl ?_
  refine x_get (v := .int (fI h x0 3087)) fdX12_378 dX12_sees_5 g1 rfl ?_
  refine x_iconst (v := 1) dX12_sees_8 (by decide) ?_
  refine x_isub dX12_sees_9 ?_
  obtain ⟨g2, hq⟩ := hq
  obtain ⟨i3, hq⟩ := hq
  refine x_iald 0 (Or.inl rfl) g2 i3 dX12_sees_10 ?_
  refine x_iload_n 1 dX12_sees_11 rfl ?_
  refine x_icmp_ne (tgt := 19) dX12_sees_12 (by decide) (fun c4 => ?_) (fun c4 => ?_)
  · replace hq := hq.1 c4
    refine x_iconst (v := 0) dX12_sees_19 (by decide) ?_
    refine xP.pick (lv' := []) [] rfl ?_
    exact uX12_sees_20 hq
  · replace hq := hq.2 c4
    refine x_iconst (v := 1) dX12_sees_15 (by decide) ?_
    refine x_goto (tgt := 20) dX12_sees_16 (by decide) ?_
    refine xP.pick (lv' := []) [] rfl ?_
    exact uX12_sees_20 hq
theorem rX12_sees {G : xG} {fr lo : Nat} {x0 : Nat} {x1 : Int32} {h : xH} {Q : Outcome → xH → Prop} (hq : bX12_sees G fr lo x0 x1 h Q) : xR G YX12_sees fr lo [rv x0, .int x1] h Q := by
  show xP _ _ _ _ _ (lv_args 0 _) _ _ _
  rw [show lv_args 0 [rv x0, .int x1] = [(0, rv x0), (1, .int x1)] from (xla1 (rv_cat _) (xla1 rfl xla0))]
  exact uX12_sees hq
set_option maxRecDepth 100000 in
theorem dX12_bad_0 : decode cX12_bad 0 = .ok (.aload_n 0, 1) := by decide +kernel
set_option maxRecDepth 100000 in
theorem dX12_bad_1 : decode cX12_bad 1 = .ok (.iconst 2, 1) := by decide +kernel
set_option maxRecDepth 100000 in
theorem dX12_bad_2 : decode cX12_bad 2 = .ok (.aload_n 0, 1) := by decide +kernel
set_option maxRecDepth 100000 in
theorem dX12_bad_3 : decode cX12_bad 3 = .ok (.getfield 29, 3) := by decide +kernel
set_option maxRecDepth 100000 in
theorem dX12_bad_6 : decode cX12_bad 6 = .ok (.aload_n 0, 1) := by decide +kernel
set_option maxRecDepth 100000 in
theorem dX12_bad_7 : decode cX12_bad 7 = .ok (.invokevirtual 445, 3) := by decide +kernel
set_option maxRecDepth 100000 in
theorem dX12_bad_10 : decode cX12_bad 10 = .ok (.iaload, 1) := by decide +kernel
set_option maxRecDepth 100000 in
theorem dX12_bad_11 : decode cX12_bad 11 = .ok (.invokevirtual 276, 3) := by decide +kernel
set_option maxRecDepth 100000 in
theorem dX12_bad_14 : decode cX12_bad 14 = .ok (.return_, 1) := by decide +kernel
set_option maxRecDepth 100000 in
def bX12_bad (G : xG) (fr lo : Nat) (x0 : Nat) (h : xH) (Q : Outcome → xH → Prop) : Prop := tg h x0 = 13 ∧ 1 ≤ fr ∧ 15 ≤ lo ∧ xRi G YX12_now (fr - 1) (lo - 15) [rv x0] h (fun x5 h4 => xext h h4 → tg h4 (fR h x0 3083) = 100 ∧ vp_in x5 (ln h4 (fR h x0 3083)) ∧ 1 ≤ fr ∧ 14 ≤ lo ∧ xRv G YX12_stop (fr - 1) (lo - 14) [rv x0, .int 2, .int (aI h4 (fR h x0 3083) (Int32.toNatClampNeg x5))] h4 (fun h12 => xext h4 h12 → Q (.returned none) h12) (fun r h2 => Q (.threw r) h2)) (fun r h2 => Q (.threw r) h2)
set_option maxRecDepth 100000 in
theorem uX12_bad {G : xG} {fr lo : Nat} {x0 : Nat} {h : xH} {Q : Outcome → xH → Prop} (hq : bX12_bad G fr lo x0 h Q) : xP G YX12_bad fr lo 0 [(0, rv x0)] [] h Q := by
  unfold bX12_bad at hq
  refine x_aload_n 0 dX12_bad_0 rfl ?_
  refine x_iconst (v := 2) dX12_bad_1 (by decide) ?_
  refine x_aload_n 0 dX12_bad_2 rfl ?_
  obtain ⟨g1, hq⟩ := hq
  refine x_get (v := rv (fR h x0 3083)) fdX12_29 dX12_bad_3 g1 rfl ?_
  refine x_aload_n 0 dX12_bad_6 rfl ?_
  obtain ⟨g2, g3, hq⟩ := hq
  refine x_callV (Yc := YX12_now) (as := []) (st := [rv (fR h x0 3083), .int 2, rv x0]) q3790 mvX12_now g1 rfl dX12_bad_7 (xle (xal1 (rv_cat _) xal0) (by decide)) (xfr g2) (xlo (xsw1 (rv_cat _) (xsw1 rfl (xsw1 (rv_cat _) xsw0))) (by decide) g3) (xKi hq (fun x5 h4 hq e6 => ?_) (fun _ _ q _ => q))
  replace hq := hq e6
  obtain ⟨g7, hq⟩ := hq
  obtain ⟨i8, hq⟩ := hq
  refine x_iald 0 (Or.inl rfl) g7 i8 dX12_bad_10 ?_
  have t9 : tg h4 x0 = 13 := e6.tg g1 (by decide)
  obtain ⟨g10, g11, hq⟩ := hq
  refine x_callV (Yc := YX12_stop) (as := [.int 2, .int (aI h4 (fR h x0 3083) (Int32.toNatClampNeg x5))]) (st := []) q3729 mvX12_stop t9 rfl dX12_bad_11 (xle (xal1 (rv_cat _) (xal1 rfl (xal1 rfl xal0))) (by decide)) (xfr g10) (xlo xsw0 (by decide) g11) (xKv hq (fun h12 hq e14 => ?_) (fun _ _ q _ => q))
  replace hq := hq e14
  exact x_vret rfl dX12_bad_14 hq
theorem rX12_bad {G : xG} {fr lo : Nat} {x0 : Nat} {h : xH} {Q : Outcome → xH → Prop} (hq : bX12_bad G fr lo x0 h Q) : xR G YX12_bad fr lo [rv x0] h Q := by
  show xP _ _ _ _ _ (lv_args 0 _) _ _ _
  rw [show lv_args 0 [rv x0] = [(0, rv x0)] from (xla1 (rv_cat _) xla0)]
  exact uX12_bad hq
set_option maxRecDepth 100000 in
theorem dX12_now_0 : decode cX12_now 0 = .ok (.aload_n 0, 1) := by decide +kernel
set_option maxRecDepth 100000 in
theorem dX12_now_1 : decode cX12_now 1 = .ok (.getfield 378, 3) := by decide +kernel
set_option maxRecDepth 100000 in
theorem dX12_now_4 : decode cX12_now 4 = .ok (.iconst 1, 1) := by decide +kernel
set_option maxRecDepth 100000 in
theorem dX12_now_5 : decode cX12_now 5 = .ok (.isub, 1) := by decide +kernel
set_option maxRecDepth 100000 in
theorem dX12_now_6 : decode cX12_now 6 = .ok (.ireturn, 1) := by decide +kernel
set_option maxRecDepth 100000 in
def bX12_now (G : xG) (fr lo : Nat) (x0 : Nat) (h : xH) (Q : Outcome → xH → Prop) : Prop := tg h x0 = 13 ∧ Q (.returned (some (.int ((fI h x0 3087) - 1)))) h
set_option maxRecDepth 100000 in
theorem uX12_now {G : xG} {fr lo : Nat} {x0 : Nat} {h : xH} {Q : Outcome → xH → Prop} (hq : bX12_now G fr lo x0 h Q) : xP G YX12_now fr lo 0 [(0, rv x0)] [] h Q := by
  unfold bX12_now at hq
  refine x_aload_n 0 dX12_now_0 rfl ?_
  obtain ⟨g1, hq⟩ := hq
  refine x_get (v := .int (fI h x0 3087)) fdX12_378 dX12_now_1 g1 rfl ?_
  refine x_iconst (v := 1) dX12_now_4 (by decide) ?_
  refine x_isub dX12_now_5 ?_
  exact x_iret rfl rfl dX12_now_6 hq
theorem rX12_now {G : xG} {fr lo : Nat} {x0 : Nat} {h : xH} {Q : Outcome → xH → Prop} (hq : bX12_now G fr lo x0 h Q) : xR G YX12_now fr lo [rv x0] h Q := by
  show xP _ _ _ _ _ (lv_args 0 _) _ _ _
  rw [show lv_args 0 [rv x0] = [(0, rv x0)] from (xla1 (rv_cat _) xla0)]
  exact uX12_now hq
set_option maxRecDepth 100000 in
theorem dX12_take_0 : decode cX12_take 0 = .ok (.aload_n 0, 1) := by decide +kernel
set_option maxRecDepth 100000 in
theorem dX12_take_1 : decode cX12_take 1 = .ok (.getfield 378, 3) := by decide +kernel
set_option maxRecDepth 100000 in
theorem dX12_take_4 : decode cX12_take 4 = .ok (.iconst 1, 1) := by decide +kernel
set_option maxRecDepth 100000 in
theorem dX12_take_5 : decode cX12_take 5 = .ok (.isub, 1) := by decide +kernel
set_option maxRecDepth 100000 in
theorem dX12_take_6 : decode cX12_take 6 = .ok (.istore_n 1, 1) := by decide +kernel
set_option maxRecDepth 100000 in
theorem dX12_take_7 : decode cX12_take 7 = .ok (.aload_n 0, 1) := by decide +kernel
set_option maxRecDepth 100000 in
theorem dX12_take_8 : decode cX12_take 8 = .ok (.invokevirtual 436, 3) := by decide +kernel
set_option maxRecDepth 100000 in
theorem dX12_take_11 : decode cX12_take 11 = .ok (.iload_n 1, 1) := by decide +kernel
set_option maxRecDepth 100000 in
theorem dX12_take_12 : decode cX12_take 12 = .ok (.ireturn, 1) := by decide +kernel
set_option maxRecDepth 100000 in
def bX12_take (G : xG) (fr lo : Nat) (x0 : Nat) (h : xH) (Q : Outcome → xH → Prop) : Prop := tg h x0 = 13 ∧ 1 ≤ fr ∧ 16 ≤ lo ∧ xRv G YX12_read (fr - 1) (lo - 16) [rv x0] h (fun h4 => xext h h4 → Q (.returned (some (.int ((fI h x0 3087) - 1)))) h4) (fun r h2 => Q (.threw r) h2)
set_option maxRecDepth 100000 in
theorem uX12_take {G : xG} {fr lo : Nat} {x0 : Nat} {h : xH} {Q : Outcome → xH → Prop} (hq : bX12_take G fr lo x0 h Q) : xP G YX12_take fr lo 0 [(0, rv x0)] [] h Q := by
  unfold bX12_take at hq
  refine x_aload_n 0 dX12_take_0 rfl ?_
  obtain ⟨g1, hq⟩ := hq
  refine x_get (v := .int (fI h x0 3087)) fdX12_378 dX12_take_1 g1 rfl ?_
  refine x_iconst (v := 1) dX12_take_4 (by decide) ?_
  refine x_isub dX12_take_5 ?_
  refine x_istore_n (lv' := [(1, .int ((fI h x0 3087) - 1)), (0, rv x0)]) dX12_take_6 (by decide) (by first | rfl | (simp [rv_cat, Value.category]; done) | (simp [rv_cat, Value.category]; decide)) ?_
  refine x_aload_n 1 dX12_take_7 rfl ?_
  obtain ⟨g2, g3, hq⟩ := hq
  refine x_callV (Yc := YX12_read) (as := []) (st := []) q3717 mvX12_read g1 rfl dX12_take_8 (xle (xal1 (rv_cat _) xal0) (by decide)) (xfr g2) (xlo xsw0 (by decide) g3) (xKv hq (fun h4 hq e6 => ?_) (fun _ _ q _ => q))
  replace hq := hq e6
  refine x_iload_n 0 dX12_take_11 rfl ?_
  exact x_iret rfl rfl dX12_take_12 hq
theorem rX12_take {G : xG} {fr lo : Nat} {x0 : Nat} {h : xH} {Q : Outcome → xH → Prop} (hq : bX12_take G fr lo x0 h Q) : xR G YX12_take fr lo [rv x0] h Q := by
  show xP _ _ _ _ _ (lv_args 0 _) _ _ _
  rw [show lv_args 0 [rv x0] = [(0, rv x0)] from (xla1 (rv_cat _) xla0)]
  exact uX12_take hq
set_option maxRecDepth 100000 in
theorem dX12_node_0 : decode cX12_node 0 = .ok (.aload_n 0, 1) := by decide +kernel
set_option maxRecDepth 100000 in
theorem dX12_node_1 : decode cX12_node 1 = .ok (.getfield 433, 3) := by decide +kernel
set_option maxRecDepth 100000 in
theorem dX12_node_4 : decode cX12_node 4 = .ok (.istore_n 3, 1) := by decide +kernel
set_option maxRecDepth 100000 in
theorem dX12_node_5 : decode cX12_node 5 = .ok (.aload_n 0, 1) := by decide +kernel
set_option maxRecDepth 100000 in
theorem dX12_node_6 : decode cX12_node 6 = .ok (.getfield 67, 3) := by decide +kernel
set_option maxRecDepth 100000 in
theorem dX12_node_9 : decode cX12_node 9 = .ok (.iload_n 3, 1) := by decide +kernel
set_option maxRecDepth 100000 in
theorem dX12_node_10 : decode cX12_node 10 = .ok (.iload_n 1, 1) := by decide +kernel
set_option maxRecDepth 100000 in
theorem dX12_node_11 : decode cX12_node 11 = .ok (.iastore, 1) := by decide +kernel
set_option maxRecDepth 100000 in
theorem dX12_node_12 : decode cX12_node 12 = .ok (.aload_n 0, 1) := by decide +kernel
set_option maxRecDepth 100000 in
theorem dX12_node_13 : decode cX12_node 13 = .ok (.getfield 70, 3) := by decide +kernel
set_option maxRecDepth 100000 in
theorem dX12_node_16 : decode cX12_node 16 = .ok (.iload_n 3, 1) := by decide +kernel
set_option maxRecDepth 100000 in
theorem dX12_node_17 : decode cX12_node 17 = .ok (.iload_n 2, 1) := by decide +kernel
set_option maxRecDepth 100000 in
theorem dX12_node_18 : decode cX12_node 18 = .ok (.iastore, 1) := by decide +kernel
set_option maxRecDepth 100000 in
theorem dX12_node_19 : decode cX12_node 19 = .ok (.aload_n 0, 1) := by decide +kernel
set_option maxRecDepth 100000 in
theorem dX12_node_20 : decode cX12_node 20 = .ok (.getfield 73, 3) := by decide +kernel
set_option maxRecDepth 100000 in
theorem dX12_node_23 : decode cX12_node 23 = .ok (.iload_n 3, 1) := by decide +kernel
set_option maxRecDepth 100000 in
theorem dX12_node_24 : decode cX12_node 24 = .ok (.iconst (-1), 1) := by decide +kernel
set_option maxRecDepth 100000 in
theorem dX12_node_25 : decode cX12_node 25 = .ok (.iastore, 1) := by decide +kernel
set_option maxRecDepth 100000 in
theorem dX12_node_26 : decode cX12_node 26 = .ok (.aload_n 0, 1) := by decide +kernel
set_option maxRecDepth 100000 in
theorem dX12_node_27 : decode cX12_node 27 = .ok (.getfield 76, 3) := by decide +kernel
set_option maxRecDepth 100000 in
theorem dX12_node_30 : decode cX12_node 30 = .ok (.iload_n 3, 1) := by decide +kernel
set_option maxRecDepth 100000 in
theorem dX12_node_31 : decode cX12_node 31 = .ok (.iconst (-1), 1) := by decide +kernel
set_option maxRecDepth 100000 in
theorem dX12_node_32 : decode cX12_node 32 = .ok (.iastore, 1) := by decide +kernel
set_option maxRecDepth 100000 in
theorem dX12_node_33 : decode cX12_node 33 = .ok (.aload_n 0, 1) := by decide +kernel
set_option maxRecDepth 100000 in
theorem dX12_node_34 : decode cX12_node 34 = .ok (.getfield 79, 3) := by decide +kernel
set_option maxRecDepth 100000 in
theorem dX12_node_37 : decode cX12_node 37 = .ok (.iload_n 3, 1) := by decide +kernel
set_option maxRecDepth 100000 in
theorem dX12_node_38 : decode cX12_node 38 = .ok (.iconst (-1), 1) := by decide +kernel
set_option maxRecDepth 100000 in
theorem dX12_node_39 : decode cX12_node 39 = .ok (.iastore, 1) := by decide +kernel
set_option maxRecDepth 100000 in
theorem dX12_node_40 : decode cX12_node 40 = .ok (.aload_n 0, 1) := by decide +kernel
set_option maxRecDepth 100000 in
theorem dX12_node_41 : decode cX12_node 41 = .ok (.getfield 82, 3) := by decide +kernel
set_option maxRecDepth 100000 in
theorem dX12_node_44 : decode cX12_node 44 = .ok (.iload_n 3, 1) := by decide +kernel
set_option maxRecDepth 100000 in
theorem dX12_node_45 : decode cX12_node 45 = .ok (.iconst (-1), 1) := by decide +kernel
set_option maxRecDepth 100000 in
theorem dX12_node_46 : decode cX12_node 46 = .ok (.iastore, 1) := by decide +kernel
set_option maxRecDepth 100000 in
theorem dX12_node_47 : decode cX12_node 47 = .ok (.aload_n 0, 1) := by decide +kernel
set_option maxRecDepth 100000 in
theorem dX12_node_48 : decode cX12_node 48 = .ok (.getfield 85, 3) := by decide +kernel
set_option maxRecDepth 100000 in
theorem dX12_node_51 : decode cX12_node 51 = .ok (.iload_n 3, 1) := by decide +kernel
set_option maxRecDepth 100000 in
theorem dX12_node_52 : decode cX12_node 52 = .ok (.iconst (-1), 1) := by decide +kernel
set_option maxRecDepth 100000 in
theorem dX12_node_53 : decode cX12_node 53 = .ok (.iastore, 1) := by decide +kernel
set_option maxRecDepth 100000 in
theorem dX12_node_54 : decode cX12_node 54 = .ok (.aload_n 0, 1) := by decide +kernel
set_option maxRecDepth 100000 in
theorem dX12_node_55 : decode cX12_node 55 = .ok (.getfield 88, 3) := by decide +kernel
set_option maxRecDepth 100000 in
theorem dX12_node_58 : decode cX12_node 58 = .ok (.iload_n 3, 1) := by decide +kernel
set_option maxRecDepth 100000 in
theorem dX12_node_59 : decode cX12_node 59 = .ok (.iconst (-1), 1) := by decide +kernel
set_option maxRecDepth 100000 in
theorem dX12_node_60 : decode cX12_node 60 = .ok (.iastore, 1) := by decide +kernel
set_option maxRecDepth 100000 in
theorem dX12_node_61 : decode cX12_node 61 = .ok (.aload_n 0, 1) := by decide +kernel
set_option maxRecDepth 100000 in
theorem dX12_node_62 : decode cX12_node 62 = .ok (.getfield 91, 3) := by decide +kernel
set_option maxRecDepth 100000 in
theorem dX12_node_65 : decode cX12_node 65 = .ok (.iload_n 3, 1) := by decide +kernel
set_option maxRecDepth 100000 in
theorem dX12_node_66 : decode cX12_node 66 = .ok (.iconst (-1), 1) := by decide +kernel
set_option maxRecDepth 100000 in
theorem dX12_node_67 : decode cX12_node 67 = .ok (.iastore, 1) := by decide +kernel
set_option maxRecDepth 100000 in
theorem dX12_node_68 : decode cX12_node 68 = .ok (.aload_n 0, 1) := by decide +kernel
set_option maxRecDepth 100000 in
theorem dX12_node_69 : decode cX12_node 69 = .ok (.getfield 96, 3) := by decide +kernel
set_option maxRecDepth 100000 in
theorem dX12_node_72 : decode cX12_node 72 = .ok (.iload_n 3, 1) := by decide +kernel
set_option maxRecDepth 100000 in
theorem dX12_node_73 : decode cX12_node 73 = .ok (.aconst_null, 1) := by decide +kernel
set_option maxRecDepth 100000 in
theorem dX12_node_74 : decode cX12_node 74 = .ok (.aastore, 1) := by decide +kernel
set_option maxRecDepth 100000 in
theorem dX12_node_75 : decode cX12_node 75 = .ok (.aload_n 0, 1) := by decide +kernel
set_option maxRecDepth 100000 in
theorem dX12_node_76 : decode cX12_node 76 = .ok (.getfield 102, 3) := by decide +kernel
set_option maxRecDepth 100000 in
theorem dX12_node_79 : decode cX12_node 79 = .ok (.iload_n 3, 1) := by decide +kernel
set_option maxRecDepth 100000 in
theorem dX12_node_80 : decode cX12_node 80 = .ok (.aconst_null, 1) := by decide +kernel
set_option maxRecDepth 100000 in
theorem dX12_node_81 : decode cX12_node 81 = .ok (.aastore, 1) := by decide +kernel
set_option maxRecDepth 100000 in
theorem dX12_node_82 : decode cX12_node 82 = .ok (.aload_n 0, 1) := by decide +kernel
set_option maxRecDepth 100000 in
theorem dX12_node_83 : decode cX12_node 83 = .ok (.dup, 1) := by decide +kernel
set_option maxRecDepth 100000 in
theorem dX12_node_84 : decode cX12_node 84 = .ok (.getfield 433, 3) := by decide +kernel
set_option maxRecDepth 100000 in
theorem dX12_node_87 : decode cX12_node 87 = .ok (.iconst 1, 1) := by decide +kernel
set_option maxRecDepth 100000 in
theorem dX12_node_88 : decode cX12_node 88 = .ok (.iadd, 1) := by decide +kernel
set_option maxRecDepth 100000 in
theorem dX12_node_89 : decode cX12_node 89 = .ok (.putfield 433, 3) := by decide +kernel
set_option maxRecDepth 100000 in
theorem dX12_node_92 : decode cX12_node 92 = .ok (.iload_n 3, 1) := by decide +kernel
set_option maxRecDepth 100000 in
theorem dX12_node_93 : decode cX12_node 93 = .ok (.ireturn, 1) := by decide +kernel
set_option maxRecDepth 100000 in
def bX12_node (G : xG) (fr lo : Nat) (x0 : Nat) (x1 : Int32) (x2 : Int32) (h : xH) (Q : Outcome → xH → Prop) : Prop := tg h x0 = 13 ∧ tg h (fR h x0 3101) = 100 ∧ vp_in (fI h x0 3110) (ln h (fR h x0 3101)) ∧ (∀ h4 : xH, h4 = tI h (fR h x0 3101) (Int32.toNatClampNeg (fI h x0 3110)) x1 → tg h4 (fR h4 x0 3102) = 100 ∧ vp_in (fI h x0 3110) (ln h4 (fR h4 x0 3102)) ∧ (∀ h9 : xH, h9 = tI h4 (fR h4 x0 3102) (Int32.toNatClampNeg (fI h x0 3110)) x2 → tg h9 (fR h9 x0 3103) = 100 ∧ vp_in (fI h x0 3110) (ln h9 (fR h9 x0 3103)) ∧ (∀ h14 : xH, h14 = tI h9 (fR h9 x0 3103) (Int32.toNatClampNeg (fI h x0 3110)) (-1) → tg h14 (fR h14 x0 3104) = 100 ∧ vp_in (fI h x0 3110) (ln h14 (fR h14 x0 3104)) ∧ (∀ h19 : xH, h19 = tI h14 (fR h14 x0 3104) (Int32.toNatClampNeg (fI h x0 3110)) (-1) → tg h19 (fR h19 x0 3105) = 100 ∧ vp_in (fI h x0 3110) (ln h19 (fR h19 x0 3105)) ∧ (∀ h24 : xH, h24 = tI h19 (fR h19 x0 3105) (Int32.toNatClampNeg (fI h x0 3110)) (-1) → tg h24 (fR h24 x0 3106) = 100 ∧ vp_in (fI h x0 3110) (ln h24 (fR h24 x0 3106)) ∧ (∀ h29 : xH, h29 = tI h24 (fR h24 x0 3106) (Int32.toNatClampNeg (fI h x0 3110)) (-1) → tg h29 (fR h29 x0 3107) = 100 ∧ vp_in (fI h x0 3110) (ln h29 (fR h29 x0 3107)) ∧ (∀ h34 : xH, h34 = tI h29 (fR h29 x0 3107) (Int32.toNatClampNeg (fI h x0 3110)) (-1) → tg h34 (fR h34 x0 3108) = 100 ∧ vp_in (fI h x0 3110) (ln h34 (fR h34 x0 3108)) ∧ (∀ h39 : xH, h39 = tI h34 (fR h34 x0 3108) (Int32.toNatClampNeg (fI h x0 3110)) (-1) → tg h39 (fR h39 x0 3109) = 100 ∧ vp_in (fI h x0 3110) (ln h39 (fR h39 x0 3109)) ∧ (∀ h44 : xH, h44 = tI h39 (fR h39 x0 3109) (Int32.toNatClampNeg (fI h x0 3110)) (-1) → tg h44 (fR h44 x0 3113) = 108 ∧ vp_in (fI h x0 3110) (ln h44 (fR h44 x0 3113)) ∧ (∀ h49 : xH, h49 = tR h44 (fR h44 x0 3113) (Int32.toNatClampNeg (fI h x0 3110)) 0 → tg h49 (fR h49 x0 3114) = 109 ∧ vp_in (fI h x0 3110) (ln h49 (fR h49 x0 3114)) ∧ (∀ h54 : xH, h54 = tR h49 (fR h49 x0 3114) (Int32.toNatClampNeg (fI h x0 3110)) 0 → (∀ h57 : xH, h57 = sI h54 x0 3110 ((fI h54 x0 3110) + 1) → Q (.returned (some (.int (fI h x0 3110)))) h57))))))))))))
set_option maxRecDepth 100000 in
theorem uX12_node {G : xG} {fr lo : Nat} {x0 : Nat} {x1 : Int32} {x2 : Int32} {h : xH} {Q : Outcome → xH → Prop} (hq : bX12_node G fr lo x0 x1 x2 h Q) : xP G YX12_node fr lo 0 [(0, rv x0), (1, .int x1), (2, .int x2)] [] h Q := by
  unfold bX12_node at hq
  refine x_aload_n 0 dX12_node_0 rfl ?_
  obtain ⟨g1, hq⟩ := hq
  refine x_get (v := .int (fI h x0 3110)) fdX12_433 dX12_node_1 g1 rfl ?_
  refine x_istore_n (lv' := [(3, .int (fI h x0 3110)), (0, rv x0), (1, .int x1), (2, .int x2)]) dX12_node_4 (by decide) rfl ?_
  refine x_aload_n 1 dX12_node_5 rfl ?_
  refine x_get (v := rv (fR h x0 3101)) fdX12_67 dX12_node_6 g1 rfl ?_
  refine x_iload_n 0 dX12_node_9 rfl ?_
  refine x_iload_n 2 dX12_node_10 rfl ?_
  obtain ⟨g2, hq⟩ := hq
  obtain ⟨i3, hq⟩ := hq
  obtain ⟨h4, e5⟩ : ∃ y, y = tI h (fR h x0 3101) (Int32.toNatClampNeg (fI h x0 3110)) x1 := ⟨_, rfl⟩
  replace hq := hq h4 e5
  refine x_iast' g2 i3 dX12_node_11 e5 ?_
  refine x_aload_n 1 dX12_node_12 rfl ?_
  have t6 : tg h4 x0 = 13 := by rw [e5]; exact g1
  refine x_get (v := rv (fR h4 x0 3102)) fdX12_70 dX12_node_13 t6 rfl ?_
  refine x_iload_n 0 dX12_node_16 rfl ?_
  refine x_iload_n 3 dX12_node_17 rfl ?_
  obtain ⟨g7, hq⟩ := hq
  obtain ⟨i8, hq⟩ := hq
  obtain ⟨h9, e10⟩ : ∃ y, y = tI h4 (fR h4 x0 3102) (Int32.toNatClampNeg (fI h x0 3110)) x2 := ⟨_, rfl⟩
  replace hq := hq h9 e10
  refine x_iast' g7 i8 dX12_node_18 e10 ?_
  refine x_aload_n 1 dX12_node_19 rfl ?_
  have t11 : tg h9 x0 = 13 := by rw [e10]; exact t6
  refine x_get (v := rv (fR h9 x0 3103)) fdX12_73 dX12_node_20 t11 rfl ?_
  refine x_iload_n 0 dX12_node_23 rfl ?_
  refine x_iconst (v := (-1)) dX12_node_24 (by decide) ?_
  obtain ⟨g12, hq⟩ := hq
  obtain ⟨i13, hq⟩ := hq
  obtain ⟨h14, e15⟩ : ∃ y, y = tI h9 (fR h9 x0 3103) (Int32.toNatClampNeg (fI h x0 3110)) (-1) := ⟨_, rfl⟩
  replace hq := hq h14 e15
  refine x_iast' g12 i13 dX12_node_25 e15 ?_
  refine x_aload_n 1 dX12_node_26 rfl ?_
  have t16 : tg h14 x0 = 13 := by rw [e15]; exact t11
  refine x_get (v := rv (fR h14 x0 3104)) fdX12_76 dX12_node_27 t16 rfl ?_
  refine x_iload_n 0 dX12_node_30 rfl ?_
  refine x_iconst (v := (-1)) dX12_node_31 (by decide) ?_
  obtain ⟨g17, hq⟩ := hq
  obtain ⟨i18, hq⟩ := hq
  obtain ⟨h19, e20⟩ : ∃ y, y = tI h14 (fR h14 x0 3104) (Int32.toNatClampNeg (fI h x0 3110)) (-1) := ⟨_, rfl⟩
  replace hq := hq h19 e20
  refine x_iast' g17 i18 dX12_node_32 e20 ?_
  refine x_aload_n 1 dX12_node_33 rfl ?_
  have t21 : tg h19 x0 = 13 := by rw [e20]; exact t16
  refine x_get (v := rv (fR h19 x0 3105)) fdX12_79 dX12_node_34 t21 rfl ?_
  refine x_iload_n 0 dX12_node_37 rfl ?_
  refine x_iconst (v := (-1)) dX12_node_38 (by decide) ?_
  obtain ⟨g22, hq⟩ := hq
  obtain ⟨i23, hq⟩ := hq
  obtain ⟨h24, e25⟩ : ∃ y, y = tI h19 (fR h19 x0 3105) (Int32.toNatClampNeg (fI h x0 3110)) (-1) := ⟨_, rfl⟩
  replace hq := hq h24 e25
  refine x_iast' g22 i23 dX12_node_39 e25 ?_
  refine x_aload_n 1 dX12_node_40 rfl ?_
  have t26 : tg h24 x0 = 13 := by rw [e25]; exact t21
  refine x_get (v := rv (fR h24 x0 3106)) fdX12_82 dX12_node_41 t26 rfl ?_
  refine x_iload_n 0 dX12_node_44 rfl ?_
  refine x_iconst (v := (-1)) dX12_node_45 (by decide) ?_
  obtain ⟨g27, hq⟩ := hq
  obtain ⟨i28, hq⟩ := hq
  obtain ⟨h29, e30⟩ : ∃ y, y = tI h24 (fR h24 x0 3106) (Int32.toNatClampNeg (fI h x0 3110)) (-1) := ⟨_, rfl⟩
  replace hq := hq h29 e30
  refine x_iast' g27 i28 dX12_node_46 e30 ?_
  refine x_aload_n 1 dX12_node_47 rfl ?_
  have t31 : tg h29 x0 = 13 := by rw [e30]; exact t26
  refine x_get (v := rv (fR h29 x0 3107)) fdX12_85 dX12_node_48 t31 rfl ?_
  refine x_iload_n 0 dX12_node_51 rfl ?_
  refine x_iconst (v := (-1)) dX12_node_52 (by decide) ?_
  obtain ⟨g32, hq⟩ := hq
  obtain ⟨i33, hq⟩ := hq
  obtain ⟨h34, e35⟩ : ∃ y, y = tI h29 (fR h29 x0 3107) (Int32.toNatClampNeg (fI h x0 3110)) (-1) := ⟨_, rfl⟩
  replace hq := hq h34 e35
  refine x_iast' g32 i33 dX12_node_53 e35 ?_
  refine x_aload_n 1 dX12_node_54 rfl ?_
  have t36 : tg h34 x0 = 13 := by rw [e35]; exact t31
  refine x_get (v := rv (fR h34 x0 3108)) fdX12_88 dX12_node_55 t36 rfl ?_
  refine x_iload_n 0 dX12_node_58 rfl ?_
  refine x_iconst (v := (-1)) dX12_node_59 (by decide) ?_
  obtain ⟨g37, hq⟩ := hq
  obtain ⟨i38, hq⟩ := hq
  obtain ⟨h39, e40⟩ : ∃ y, y = tI h34 (fR h34 x0 3108) (Int32.toNatClampNeg (fI h x0 3110)) (-1) := ⟨_, rfl⟩
  replace hq := hq h39 e40
  refine x_iast' g37 i38 dX12_node_60 e40 ?_
  refine x_aload_n 1 dX12_node_61 rfl ?_
  have t41 : tg h39 x0 = 13 := by rw [e40]; exact t36
  refine x_get (v := rv (fR h39 x0 3109)) fdX12_91 dX12_node_62 t41 rfl ?_
  refine x_iload_n 0 dX12_node_65 rfl ?_
  refine x_iconst (v := (-1)) dX12_node_66 (by decide) ?_
  obtain ⟨g42, hq⟩ := hq
  obtain ⟨i43, hq⟩ := hq
  obtain ⟨h44, e45⟩ : ∃ y, y = tI h39 (fR h39 x0 3109) (Int32.toNatClampNeg (fI h x0 3110)) (-1) := ⟨_, rfl⟩
  replace hq := hq h44 e45
  refine x_iast' g42 i43 dX12_node_67 e45 ?_
  refine x_aload_n 1 dX12_node_68 rfl ?_
  have t46 : tg h44 x0 = 13 := by rw [e45]; exact t41
  refine x_get (v := rv (fR h44 x0 3113)) fdX12_96 dX12_node_69 t46 rfl ?_
  refine x_iload_n 0 dX12_node_72 rfl ?_
  refine x_null dX12_node_73 ?_
  obtain ⟨g47, hq⟩ := hq
  obtain ⟨i48, hq⟩ := hq
  obtain ⟨h49, e50⟩ : ∃ y, y = tR h44 (fR h44 x0 3113) (Int32.toNatClampNeg (fI h x0 3110)) 0 := ⟨_, rfl⟩
  replace hq := hq h49 e50
  refine x_aastN 8 rfl (by decide) g47 (Or.inl (by rw [g47]; rfl)) i48 dX12_node_74 e50 ?_
  refine x_aload_n 1 dX12_node_75 rfl ?_
  have t51 : tg h49 x0 = 13 := by rw [e50]; exact t46
  refine x_get (v := rv (fR h49 x0 3114)) fdX12_102 dX12_node_76 t51 rfl ?_
  refine x_iload_n 0 dX12_node_79 rfl ?_
  refine x_null dX12_node_80 ?_
  obtain ⟨g52, hq⟩ := hq
  obtain ⟨i53, hq⟩ := hq
  obtain ⟨h54, e55⟩ : ∃ y, y = tR h49 (fR h49 x0 3114) (Int32.toNatClampNeg (fI h x0 3110)) 0 := ⟨_, rfl⟩
  replace hq := hq h54 e55
  refine x_aastN 9 rfl (by decide) g52 (Or.inl (by rw [g52]; rfl)) i53 dX12_node_81 e55 ?_
  refine x_aload_n 1 dX12_node_82 rfl ?_
  refine x_dup dX12_node_83 (rv_cat _) ?_
  have t56 : tg h54 x0 = 13 := by rw [e55]; exact t51
  refine x_get (v := .int (fI h54 x0 3110)) fdX12_433 dX12_node_84 t56 rfl ?_
  refine x_iconst (v := 1) dX12_node_87 (by decide) ?_
  refine x_iadd dX12_node_88 ?_
  obtain ⟨h57, e58⟩ : ∃ y, y = sI h54 x0 3110 ((fI h54 x0 3110) + 1) := ⟨_, rfl⟩
  replace hq := hq h57 e58
  refine x_putI fdX12_433 xty_I1 dX12_node_89 t56 (Or.inl (by rw [t56]; rfl)) xnI rfl e58 ?_
  refine x_iload_n 0 dX12_node_92 rfl ?_
  exact x_iret rfl rfl dX12_node_93 hq
theorem rX12_node {G : xG} {fr lo : Nat} {x0 : Nat} {x1 : Int32} {x2 : Int32} {h : xH} {Q : Outcome → xH → Prop} (hq : bX12_node G fr lo x0 x1 x2 h Q) : xR G YX12_node fr lo [rv x0, .int x1, .int x2] h Q := by
  show xP _ _ _ _ _ (lv_args 0 _) _ _ _
  rw [show lv_args 0 [rv x0, .int x1, .int x2] = [(0, rv x0), (1, .int x1), (2, .int x2)] from (xla1 (rv_cat _) (xla1 rfl (xla1 rfl xla0)))]
  exact uX12_node hq
set_option maxRecDepth 100000 in
theorem dX12_takes_0 : decode cX12_takes 0 = .ok (.aload_n 0, 1) := by decide +kernel
set_option maxRecDepth 100000 in
theorem dX12_takes_1 : decode cX12_takes 1 = .ok (.iload_n 1, 1) := by decide +kernel
set_option maxRecDepth 100000 in
theorem dX12_takes_2 : decode cX12_takes 2 = .ok (.invokevirtual 439, 3) := by decide +kernel
set_option maxRecDepth 100000 in
theorem dX12_takes_5 : decode cX12_takes 5 = .ok (.ifCond .ne 5, 3) := by decide +kernel
set_option maxRecDepth 100000 in
theorem dX12_takes_8 : decode cX12_takes 8 = .ok (.iconst 0, 1) := by decide +kernel
set_option maxRecDepth 100000 in
theorem dX12_takes_9 : decode cX12_takes 9 = .ok (.ireturn, 1) := by decide +kernel
set_option maxRecDepth 100000 in
theorem dX12_takes_10 : decode cX12_takes 10 = .ok (.aload_n 0, 1) := by decide +kernel
set_option maxRecDepth 100000 in
theorem dX12_takes_11 : decode cX12_takes 11 = .ok (.invokevirtual 442, 3) := by decide +kernel
set_option maxRecDepth 100000 in
theorem dX12_takes_14 : decode cX12_takes 14 = .ok (.pop, 1) := by decide +kernel
set_option maxRecDepth 100000 in
theorem dX12_takes_15 : decode cX12_takes 15 = .ok (.iconst 1, 1) := by decide +kernel
set_option maxRecDepth 100000 in
theorem dX12_takes_16 : decode cX12_takes 16 = .ok (.ireturn, 1) := by decide +kernel
set_option maxRecDepth 100000 in
def bX12_takes (G : xG) (fr lo : Nat) (x0 : Nat) (x1 : Int32) (h : xH) (Q : Outcome → xH → Prop) : Prop := tg h x0 = 13 ∧ 1 ≤ fr ∧ 13 ≤ lo ∧ xRi G YX12_sees (fr - 1) (lo - 13) [rv x0, .int x1] h (fun x5 h4 => xext h h4 → ((¬ x5 = 0 → 1 ≤ fr ∧ 13 ≤ lo ∧ xRi G YX12_take (fr - 1) (lo - 13) [rv x0] h4 (fun x12 h11 => xext h4 h11 → Q (.returned (some (.int 1))) h11) (fun r h2 => Q (.threw r) h2)) ∧ (x5 = 0 → Q (.returned (some (.int 0))) h4))) (fun r h2 => Q (.threw r) h2)
set_option maxRecDepth 100000 in
theorem uX12_takes {G : xG} {fr lo : Nat} {x0 : Nat} {x1 : Int32} {h : xH} {Q : Outcome → xH → Prop} (hq : bX12_takes G fr lo x0 x1 h Q) : xP G YX12_takes fr lo 0 [(0, rv x0), (1, .int x1)] [] h Q := by
  unfold bX12_takes at hq
  refine x_aload_n 0 dX12_takes_0 rfl ?_
  refine x_iload_n 1 dX12_takes_1 rfl ?_
  obtain ⟨g1, hq⟩ := hq
  obtain ⟨g2, g3, hq⟩ := hq
  refine x_callV (Yc := YX12_sees) (as := [.int x1]) (st := []) q3782 mvX12_sees g1 rfl dX12_takes_2 (xle (xal1 (rv_cat _) (xal1 rfl xal0)) (by decide)) (xfr g2) (xlo xsw0 (by decide) g3) (xKi hq (fun x5 h4 hq e6 => ?_) (fun _ _ q _ => q))
  replace hq := hq e6
  refine x_if_ne (tgt := 10) dX12_takes_5 (by decide) (fun c7 => ?_) (fun c7 => ?_)
  · replace hq := hq.1 c7
    refine x_aload_n 0 dX12_takes_10 rfl ?_
    have t8 : tg h4 x0 = 13 := e6.tg g1 (by decide)
    obtain ⟨g9, g10, hq⟩ := hq
    refine x_callV (Yc := YX12_take) (as := []) (st := []) q3794 mvX12_take t8 rfl dX12_takes_11 (xle (xal1 (rv_cat _) xal0) (by decide)) (xfr g9) (xlo xsw0 (by decide) g10) (xKi hq (fun x12 h11 hq e13 => ?_) (fun _ _ q _ => q))
    replace hq := hq e13
    refine x_pop dX12_takes_14 rfl ?_
    refine x_iconst (v := 1) dX12_takes_15 (by decide) ?_
    exact x_iret rfl rfl dX12_takes_16 hq
  · replace hq := hq.2 c7
    refine x_iconst (v := 0) dX12_takes_8 (by decide) ?_
    exact x_iret rfl rfl dX12_takes_9 hq
theorem rX12_takes {G : xG} {fr lo : Nat} {x0 : Nat} {x1 : Int32} {h : xH} {Q : Outcome → xH → Prop} (hq : bX12_takes G fr lo x0 x1 h Q) : xR G YX12_takes fr lo [rv x0, .int x1] h Q := by
  show xP _ _ _ _ _ (lv_args 0 _) _ _ _
  rw [show lv_args 0 [rv x0, .int x1] = [(0, rv x0), (1, .int x1)] from (xla1 (rv_cat _) (xla1 rfl xla0))]
  exact uX12_takes hq
set_option maxRecDepth 100000 in
theorem dX12_parseNames_0 : decode cX12_parseNames 0 = .ok (.aload_n 0, 1) := by decide +kernel
set_option maxRecDepth 100000 in
theorem dX12_parseNames_1 : decode cX12_parseNames 1 = .ok (.iconst 3, 1) := by decide +kernel
set_option maxRecDepth 100000 in
theorem dX12_parseNames_2 : decode cX12_parseNames 2 = .ok (.aload_n 0, 1) := by decide +kernel
set_option maxRecDepth 100000 in
theorem dX12_parseNames_3 : decode cX12_parseNames 3 = .ok (.invokevirtual 445, 3) := by decide +kernel
set_option maxRecDepth 100000 in
theorem dX12_parseNames_6 : decode cX12_parseNames 6 = .ok (.invokevirtual 454, 3) := by decide +kernel
set_option maxRecDepth 100000 in
theorem dX12_parseNames_9 : decode cX12_parseNames 9 = .ok (.istore_n 1, 1) := by decide +kernel
set_option maxRecDepth 100000 in
theorem dX12_parseNames_10 : decode cX12_parseNames 10 = .ok (.aload_n 0, 1) := by decide +kernel
set_option maxRecDepth 100000 in
theorem dX12_parseNames_11 : decode cX12_parseNames 11 = .ok (.bipush 40, 2) := by decide +kernel
set_option maxRecDepth 100000 in
theorem dX12_parseNames_13 : decode cX12_parseNames 13 = .ok (.invokevirtual 457, 3) := by decide +kernel
set_option maxRecDepth 100000 in
theorem dX12_parseNames_16 : decode cX12_parseNames 16 = .ok (.istore_n 2, 1) := by decide +kernel
set_option maxRecDepth 100000 in
theorem dX12_parseNames_17 : decode cX12_parseNames 17 = .ok (.aload_n 0, 1) := by decide +kernel
set_option maxRecDepth 100000 in
theorem dX12_parseNames_18 : decode cX12_parseNames 18 = .ok (.iload_n 1, 1) := by decide +kernel
set_option maxRecDepth 100000 in
theorem dX12_parseNames_19 : decode cX12_parseNames 19 = .ok (.aload_n 0, 1) := by decide +kernel
set_option maxRecDepth 100000 in
theorem dX12_parseNames_20 : decode cX12_parseNames 20 = .ok (.iconst 4, 1) := by decide +kernel
set_option maxRecDepth 100000 in
theorem dX12_parseNames_21 : decode cX12_parseNames 21 = .ok (.iload_n 2, 1) := by decide +kernel
set_option maxRecDepth 100000 in
theorem dX12_parseNames_22 : decode cX12_parseNames 22 = .ok (.invokevirtual 454, 3) := by decide +kernel
set_option maxRecDepth 100000 in
theorem dX12_parseNames_25 : decode cX12_parseNames 25 = .ok (.invokevirtual 460, 3) := by decide +kernel
set_option maxRecDepth 100000 in
theorem dX12_parseNames_28 : decode cX12_parseNames 28 = .ok (.aload_n 0, 1) := by decide +kernel
set_option maxRecDepth 100000 in
theorem dX12_parseNames_29 : decode cX12_parseNames 29 = .ok (.bipush 66, 2) := by decide +kernel
set_option maxRecDepth 100000 in
theorem dX12_parseNames_31 : decode cX12_parseNames 31 = .ok (.invokevirtual 463, 3) := by decide +kernel
set_option maxRecDepth 100000 in
theorem dX12_parseNames_34 : decode cX12_parseNames 34 = .ok (.ifCond .ne (-24), 3) := by decide +kernel
set_option maxRecDepth 100000 in
theorem dX12_parseNames_37 : decode cX12_parseNames 37 = .ok (.iload_n 1, 1) := by decide +kernel
set_option maxRecDepth 100000 in
theorem dX12_parseNames_38 : decode cX12_parseNames 38 = .ok (.ireturn, 1) := by decide +kernel
def lX12_parseNames_10 (G : xG) (fr lo : Nat) (x0 : Nat) (x1 : Int32) (h : xH) (Q : Outcome → xH → Prop) : Prop := xP G YX12_parseNames fr lo 10 [(0, rv x0), (1, .int x1)] [] h Q
set_option maxRecDepth 100000 in
def bX12_parseNames_10 (G : xG) (fr lo : Nat) (x0 : Nat) (x1 : Int32) (h : xH) (Q : Outcome → xH → Prop) : Prop := tg h x0 = 13 ∧ 1 ≤ fr ∧ 13 ≤ lo ∧ xRi G YX12_must (fr - 1) (lo - 13) [rv x0, .int 40] h (fun x5 h4 => xext h h4 → 1 ≤ fr ∧ 17 ≤ lo ∧ xRi G YX12_node (fr - 1) (lo - 17) [rv x0, .int 4, .int x5] h4 (fun x11 h10 => xext h4 h10 → 1 ≤ fr ∧ 14 ≤ lo ∧ xRv G YX12_add (fr - 1) (lo - 14) [rv x0, .int x1, .int x11] h10 (fun h16 => xext h10 h16 → 1 ≤ fr ∧ 13 ≤ lo ∧ xRi G YX12_takes (fr - 1) (lo - 13) [rv x0, .int 66] h16 (fun x23 h22 => xext h16 h22 → ((¬ x23 = 0 → lX12_parseNames_10 G fr lo x0 x1 h22 Q) ∧ (x23 = 0 → Q (.returned (some (.int x1))) h22))) (fun r h2 => Q (.threw r) h2)) (fun r h2 => Q (.threw r) h2)) (fun r h2 => Q (.threw r) h2)) (fun r h2 => Q (.threw r) h2)
set_option maxRecDepth 100000 in
theorem uX12_parseNames_10 {G : xG} {fr lo : Nat} {x0 : Nat} {x1 : Int32} {h : xH} {Q : Outcome → xH → Prop} (hq : bX12_parseNames_10 G fr lo x0 x1 h Q) : xP G YX12_parseNames fr lo 10 [(0, rv x0), (1, .int x1)] [] h Q := by
  unfold bX12_parseNames_10 at hq
  refine x_aload_n 0 dX12_parseNames_10 rfl ?_
  refine x_bipush (v := 40) dX12_parseNames_11 (by decide) ?_
  obtain ⟨g1, hq⟩ := hq
  obtain ⟨g2, g3, hq⟩ := hq
  refine x_callV (Yc := YX12_must) (as := [.int 40]) (st := []) q3778 mvX12_must g1 rfl dX12_parseNames_13 (xle (xal1 (rv_cat _) (xal1 rfl xal0)) (by decide)) (xfr g2) (xlo xsw0 (by decide) g3) (xKi hq (fun x5 h4 hq e6 => ?_) (fun _ _ q _ => q))
  replace hq := hq e6
  refine x_istore_n (lv' := [(2, .int x5), (0, rv x0), (1, .int x1)]) dX12_parseNames_16 (by decide) rfl ?_
  refine x_aload_n 1 dX12_parseNames_17 rfl ?_
  refine x_iload_n 2 dX12_parseNames_18 rfl ?_
  refine x_aload_n 1 dX12_parseNames_19 rfl ?_
  refine x_iconst (v := 4) dX12_parseNames_20 (by decide) ?_
  refine x_iload_n 0 dX12_parseNames_21 rfl ?_
  have t7 : tg h4 x0 = 13 := e6.tg g1 (by decide)
  obtain ⟨g8, g9, hq⟩ := hq
  refine x_callV (Yc := YX12_node) (as := [.int 4, .int x5]) (st := [.int x1, rv x0]) q3798 mvX12_node t7 rfl dX12_parseNames_22 (xle (xal1 (rv_cat _) (xal1 rfl (xal1 rfl xal0))) (by decide)) (xfr g8) (xlo (xsw1 rfl (xsw1 (rv_cat _) xsw0)) (by decide) g9) (xKi hq (fun x11 h10 hq e12 => ?_) (fun _ _ q _ => q))
  replace hq := hq e12
  have t13 : tg h10 x0 = 13 := e12.tg t7 (by decide)
  obtain ⟨g14, g15, hq⟩ := hq
  refine x_callV (Yc := YX12_add) (as := [.int x1, .int x11]) (st := []) q3810 mvX12_add t13 rfl dX12_parseNames_25 (xle (xal1 (rv_cat _) (xal1 rfl (xal1 rfl xal0))) (by decide)) (xfr g14) (xlo xsw0 (by decide) g15) (xKv hq (fun h16 hq e18 => ?_) (fun _ _ q _ => q))
  replace hq := hq e18
  refine x_aload_n 1 dX12_parseNames_28 rfl ?_
  refine x_bipush (v := 66) dX12_parseNames_29 (by decide) ?_
  have t19 : tg h16 x0 = 13 := e18.tg t13 (by decide)
  obtain ⟨g20, g21, hq⟩ := hq
  refine x_callV (Yc := YX12_takes) (as := [.int 66]) (st := []) q3802 mvX12_takes t19 rfl dX12_parseNames_31 (xle (xal1 (rv_cat _) (xal1 rfl xal0)) (by decide)) (xfr g20) (xlo xsw0 (by decide) g21) (xKi hq (fun x23 h22 hq e24 => ?_) (fun _ _ q _ => q))
  replace hq := hq e24
  refine x_if_ne (tgt := 10) dX12_parseNames_34 (by decide) (fun c25 => ?_) (fun c25 => ?_)
  · replace hq := hq.1 c25
    refine xP.pick (lv' := [(0, rv x0), (1, .int x1)]) [1, 2] rfl ?_
    exact hq
  · replace hq := hq.2 c25
    refine x_iload_n 2 dX12_parseNames_37 rfl ?_
    exact x_iret rfl rfl dX12_parseNames_38 hq
set_option maxRecDepth 100000 in
def bX12_parseNames (G : xG) (fr lo : Nat) (x0 : Nat) (h : xH) (Q : Outcome → xH → Prop) : Prop := tg h x0 = 13 ∧ 1 ≤ fr ∧ 14 ≤ lo ∧ xRi G YX12_now (fr - 1) (lo - 14) [rv x0] h (fun x5 h4 => xext h h4 → 1 ≤ fr ∧ 15 ≤ lo ∧ xRi G YX12_node (fr - 1) (lo - 15) [rv x0, .int 3, .int x5] h4 (fun x11 h10 => xext h4 h10 → lX12_parseNames_10 G fr lo x0 x11 h10 Q) (fun r h2 => Q (.threw r) h2)) (fun r h2 => Q (.threw r) h2)
set_option maxRecDepth 100000 in
theorem uX12_parseNames {G : xG} {fr lo : Nat} {x0 : Nat} {h : xH} {Q : Outcome → xH → Prop} (hq : bX12_parseNames G fr lo x0 h Q) : xP G YX12_parseNames fr lo 0 [(0, rv x0)] [] h Q := by
  unfold bX12_parseNames at hq
  refine x_aload_n 0 dX12_parseNames_0 rfl ?_
  refine x_iconst (v := 3) dX12_parseNames_1 (by decide) ?_
  refine x_aload_n 0 dX12_parseNames_2 rfl ?_
  obtain ⟨g1, hq⟩ := hq
  obtain ⟨g2, g3, hq⟩ := hq
  refine x_callV (Yc := YX12_now) (as := []) (st := [.int 3, rv x0]) q3790 mvX12_now g1 rfl dX12_parseNames_3 (xle (xal1 (rv_cat _) xal0) (by decide)) (xfr g2) (xlo (xsw1 rfl (xsw1 (rv_cat _) xsw0)) (by decide) g3) (xKi hq (fun x5 h4 hq e6 => ?_) (fun _ _ q _ => q))
  replace hq := hq e6
  have t7 : tg h4 x0 = 13 := e6.tg g1 (by decide)
  obtain ⟨g8, g9, hq⟩ := hq
  refine x_callV (Yc := YX12_node) (as := [.int 3, .int x5]) (st := []) q3798 mvX12_node t7 rfl dX12_parseNames_6 (xle (xal1 (rv_cat _) (xal1 rfl (xal1 rfl xal0))) (by decide)) (xfr g8) (xlo xsw0 (by decide) g9) (xKi hq (fun x11 h10 hq e12 => ?_) (fun _ _ q _ => q))
  replace hq := hq e12
  refine x_istore_n (lv' := [(1, .int x11), (0, rv x0)]) dX12_parseNames_9 (by decide) (by first | rfl | (simp [rv_cat, Value.category]; done) | (simp [rv_cat, Value.category]; decide)) ?_
  refine xP.pick (lv' := [(0, rv x0), (1, .int x11)]) [1, 0] rfl ?_
  exact hq
theorem rX12_parseNames {G : xG} {fr lo : Nat} {x0 : Nat} {h : xH} {Q : Outcome → xH → Prop} (hq : bX12_parseNames G fr lo x0 h Q) : xR G YX12_parseNames fr lo [rv x0] h Q := by
  show xP _ _ _ _ _ (lv_args 0 _) _ _ _
  rw [show lv_args 0 [rv x0] = [(0, rv x0)] from (xla1 (rv_cat _) xla0)]
  exact uX12_parseNames hq
set_option maxRecDepth 100000 in
theorem dX12_add_0 : decode cX12_add 0 = .ok (.aload_n 0, 1) := by decide +kernel
set_option maxRecDepth 100000 in
theorem dX12_add_1 : decode cX12_add 1 = .ok (.getfield 91, 3) := by decide +kernel
set_option maxRecDepth 100000 in
theorem dX12_add_4 : decode cX12_add 4 = .ok (.iload_n 2, 1) := by decide +kernel
set_option maxRecDepth 100000 in
theorem dX12_add_5 : decode cX12_add 5 = .ok (.iload_n 1, 1) := by decide +kernel
set_option maxRecDepth 100000 in
theorem dX12_add_6 : decode cX12_add 6 = .ok (.iastore, 1) := by decide +kernel
set_option maxRecDepth 100000 in
theorem dX12_add_7 : decode cX12_add 7 = .ok (.aload_n 0, 1) := by decide +kernel
set_option maxRecDepth 100000 in
theorem dX12_add_8 : decode cX12_add 8 = .ok (.getfield 73, 3) := by decide +kernel
set_option maxRecDepth 100000 in
theorem dX12_add_11 : decode cX12_add 11 = .ok (.iload_n 1, 1) := by decide +kernel
set_option maxRecDepth 100000 in
theorem dX12_add_12 : decode cX12_add 12 = .ok (.iaload, 1) := by decide +kernel
set_option maxRecDepth 100000 in
theorem dX12_add_13 : decode cX12_add 13 = .ok (.iconst (-1), 1) := by decide +kernel
set_option maxRecDepth 100000 in
theorem dX12_add_14 : decode cX12_add 14 = .ok (.if_icmp .ne 13, 3) := by decide +kernel
set_option maxRecDepth 100000 in
theorem dX12_add_17 : decode cX12_add 17 = .ok (.aload_n 0, 1) := by decide +kernel
set_option maxRecDepth 100000 in
theorem dX12_add_18 : decode cX12_add 18 = .ok (.getfield 73, 3) := by decide +kernel
set_option maxRecDepth 100000 in
theorem dX12_add_21 : decode cX12_add 21 = .ok (.iload_n 1, 1) := by decide +kernel
set_option maxRecDepth 100000 in
theorem dX12_add_22 : decode cX12_add 22 = .ok (.iload_n 2, 1) := by decide +kernel
set_option maxRecDepth 100000 in
theorem dX12_add_23 : decode cX12_add 23 = .ok (.iastore, 1) := by decide +kernel
set_option maxRecDepth 100000 in
theorem dX12_add_24 : decode cX12_add 24 = .ok (.goto 15, 3) := by decide +kernel
set_option maxRecDepth 100000 in
theorem dX12_add_27 : decode cX12_add 27 = .ok (.aload_n 0, 1) := by decide +kernel
set_option maxRecDepth 100000 in
theorem dX12_add_28 : decode cX12_add 28 = .ok (.getfield 79, 3) := by decide +kernel
set_option maxRecDepth 100000 in
theorem dX12_add_31 : decode cX12_add 31 = .ok (.aload_n 0, 1) := by decide +kernel
set_option maxRecDepth 100000 in
theorem dX12_add_32 : decode cX12_add 32 = .ok (.getfield 76, 3) := by decide +kernel
set_option maxRecDepth 100000 in
theorem dX12_add_35 : decode cX12_add 35 = .ok (.iload_n 1, 1) := by decide +kernel
set_option maxRecDepth 100000 in
theorem dX12_add_36 : decode cX12_add 36 = .ok (.iaload, 1) := by decide +kernel
set_option maxRecDepth 100000 in
theorem dX12_add_37 : decode cX12_add 37 = .ok (.iload_n 2, 1) := by decide +kernel
set_option maxRecDepth 100000 in
theorem dX12_add_38 : decode cX12_add 38 = .ok (.iastore, 1) := by decide +kernel
set_option maxRecDepth 100000 in
theorem dX12_add_39 : decode cX12_add 39 = .ok (.aload_n 0, 1) := by decide +kernel
set_option maxRecDepth 100000 in
theorem dX12_add_40 : decode cX12_add 40 = .ok (.getfield 76, 3) := by decide +kernel
set_option maxRecDepth 100000 in
theorem dX12_add_43 : decode cX12_add 43 = .ok (.iload_n 1, 1) := by decide +kernel
set_option maxRecDepth 100000 in
theorem dX12_add_44 : decode cX12_add 44 = .ok (.iload_n 2, 1) := by decide +kernel
set_option maxRecDepth 100000 in
theorem dX12_add_45 : decode cX12_add 45 = .ok (.iastore, 1) := by decide +kernel
set_option maxRecDepth 100000 in
theorem dX12_add_46 : decode cX12_add 46 = .ok (.return_, 1) := by decide +kernel
set_option maxRecDepth 100000 in
def bX12_add_39 (G : xG) (fr lo : Nat) (x0 : Nat) (x1 : Int32) (x2 : Int32) (h : xH) (Q : Outcome → xH → Prop) : Prop := tg h x0 = 13 ∧ tg h (fR h x0 3104) = 100 ∧ vp_in x1 (ln h (fR h x0 3104)) ∧ (∀ h4 : xH, h4 = tI h (fR h x0 3104) (Int32.toNatClampNeg x1) x2 → Q (.returned none) h4)
set_option maxRecDepth 100000 in
theorem uX12_add_39 {G : xG} {fr lo : Nat} {x0 : Nat} {x1 : Int32} {x2 : Int32} {h : xH} {Q : Outcome → xH → Prop} (hq : bX12_add_39 G fr lo x0 x1 x2 h Q) : xP G YX12_add fr lo 39 [(0, rv x0), (1, .int x1), (2, .int x2)] [] h Q := by
  unfold bX12_add_39 at hq
  refine x_aload_n 0 dX12_add_39 rfl ?_
  obtain ⟨g1, hq⟩ := hq
  refine x_get (v := rv (fR h x0 3104)) fdX12_76 dX12_add_40 g1 rfl ?_
  refine x_iload_n 1 dX12_add_43 rfl ?_
  refine x_iload_n 2 dX12_add_44 rfl ?_
  obtain ⟨g2, hq⟩ := hq
  obtain ⟨i3, hq⟩ := hq
  obtain ⟨h4, e5⟩ : ∃ y, y = tI h (fR h x0 3104) (Int32.toNatClampNeg x1) x2 := ⟨_, rfl⟩
  replace hq := hq h4 e5
  refine x_iast' g2 i3 dX12_add_45 e5 ?_
  exact x_vret rfl dX12_add_46 hq
set_option maxRecDepth 100000 in
def bX12_add (G : xG) (fr lo : Nat) (x0 : Nat) (x1 : Int32) (x2 : Int32) (h : xH) (Q : Outcome → xH → Prop) : Prop := tg h x0 = 13 ∧ tg h (fR h x0 3109) = 100 ∧ vp_in x2 (ln h (fR h x0 3109)) ∧ (∀ h4 : xH, h4 = tI h (fR h x0 3109) (Int32.toNatClampNeg x2) x1 → tg h4 (fR h4 x0 3103) = 100 ∧ vp_in x1 (ln h4 (fR h4 x0 3103)) ∧ ((¬ (aI h4 (fR h4 x0 3103) (Int32.toNatClampNeg x1)) = (-1) → tg h4 (fR h4 x0 3104) = 100 ∧ vp_in x1 (ln h4 (fR h4 x0 3104)) ∧ tg h4 (fR h4 x0 3105) = 100 ∧ vp_in (aI h4 (fR h4 x0 3104) (Int32.toNatClampNeg x1)) (ln h4 (fR h4 x0 3105)) ∧ (∀ h14 : xH, h14 = tI h4 (fR h4 x0 3105) (Int32.toNatClampNeg (aI h4 (fR h4 x0 3104) (Int32.toNatClampNeg x1))) x2 → bX12_add_39 G fr lo x0 x1 x2 h14 Q)) ∧ ((aI h4 (fR h4 x0 3103) (Int32.toNatClampNeg x1)) = (-1) → vp_in x1 (ln h4 (fR h4 x0 3103)) ∧ (∀ h17 : xH, h17 = tI h4 (fR h4 x0 3103) (Int32.toNatClampNeg x1) x2 → bX12_add_39 G fr lo x0 x1 x2 h17 Q))))
set_option maxRecDepth 100000 in
theorem uX12_add {G : xG} {fr lo : Nat} {x0 : Nat} {x1 : Int32} {x2 : Int32} {h : xH} {Q : Outcome → xH → Prop} (hq : bX12_add G fr lo x0 x1 x2 h Q) : xP G YX12_add fr lo 0 [(0, rv x0), (1, .int x1), (2, .int x2)] [] h Q := by
  unfold bX12_add at hq
  refine x_aload_n 0 dX12_add_0 rfl ?_
  obtain ⟨g1, hq⟩ := hq
  refine x_get (v := rv (fR h x0 3109)) fdX12_91 dX12_add_1 g1 rfl ?_
  refine x_iload_n 2 dX12_add_4 rfl ?_
  refine x_iload_n 1 dX12_add_5 rfl ?_
  obtain ⟨g2, hq⟩ := hq
  obtain ⟨i3, hq⟩ := hq
  obtain ⟨h4, e5⟩ : ∃ y, y = tI h (fR h x0 3109) (Int32.toNatClampNeg x2) x1 := ⟨_, rfl⟩
  replace hq := hq h4 e5
  refine x_iast' g2 i3 dX12_add_6 e5 ?_
  refine x_aload_n 0 dX12_add_7 rfl ?_
  have t6 : tg h4 x0 = 13 := by rw [e5]; exact g1
  refine x_get (v := rv (fR h4 x0 3103)) fdX12_73 dX12_add_8 t6 rfl ?_
  refine x_iload_n 1 dX12_add_11 rfl ?_
  obtain ⟨g7, hq⟩ := hq
  obtain ⟨i8, hq⟩ := hq
  refine x_iald 0 (Or.inl rfl) g7 i8 dX12_add_12 ?_
  refine x_iconst (v := (-1)) dX12_add_13 (by decide) ?_
  refine x_icmp_ne (tgt := 27) dX12_add_14 (by decide) (fun c9 => ?_) (fun c9 => ?_)
  · replace hq := hq.1 c9
    refine x_aload_n 0 dX12_add_27 rfl ?_
    refine x_get (v := rv (fR h4 x0 3105)) fdX12_79 dX12_add_28 t6 rfl ?_
    refine x_aload_n 0 dX12_add_31 rfl ?_
    refine x_get (v := rv (fR h4 x0 3104)) fdX12_76 dX12_add_32 t6 rfl ?_
    refine x_iload_n 1 dX12_add_35 rfl ?_
    obtain ⟨g10, hq⟩ := hq
    obtain ⟨i11, hq⟩ := hq
    refine x_iald 0 (Or.inl rfl) g10 i11 dX12_add_36 ?_
    refine x_iload_n 2 dX12_add_37 rfl ?_
    obtain ⟨g12, hq⟩ := hq
    obtain ⟨i13, hq⟩ := hq
    obtain ⟨h14, e15⟩ : ∃ y, y = tI h4 (fR h4 x0 3105) (Int32.toNatClampNeg (aI h4 (fR h4 x0 3104) (Int32.toNatClampNeg x1))) x2 := ⟨_, rfl⟩
    replace hq := hq h14 e15
    refine x_iast' g12 i13 dX12_add_38 e15 ?_
    exact uX12_add_39 hq
  · replace hq := hq.2 c9
    refine x_aload_n 0 dX12_add_17 rfl ?_
    refine x_get (v := rv (fR h4 x0 3103)) fdX12_73 dX12_add_18 t6 rfl ?_
    refine x_iload_n 1 dX12_add_21 rfl ?_
    refine x_iload_n 2 dX12_add_22 rfl ?_
    obtain ⟨i16, hq⟩ := hq
    obtain ⟨h17, e18⟩ : ∃ y, y = tI h4 (fR h4 x0 3103) (Int32.toNatClampNeg x1) x2 := ⟨_, rfl⟩
    replace hq := hq h17 e18
    refine x_iast' g7 i16 dX12_add_23 e18 ?_
    refine x_goto (tgt := 39) dX12_add_24 (by decide) ?_
    exact uX12_add_39 hq
theorem rX12_add {G : xG} {fr lo : Nat} {x0 : Nat} {x1 : Int32} {x2 : Int32} {h : xH} {Q : Outcome → xH → Prop} (hq : bX12_add G fr lo x0 x1 x2 h Q) : xR G YX12_add fr lo [rv x0, .int x1, .int x2] h Q := by
  show xP _ _ _ _ _ (lv_args 0 _) _ _ _
  rw [show lv_args 0 [rv x0, .int x1, .int x2] = [(0, rv x0), (1, .int x1), (2, .int x2)] from (xla1 (rv_cat _) (xla1 rfl (xla1 rfl xla0)))]
  exact uX12_add hq
set_option maxRecDepth 100000 in
theorem dX12_parseBlock_0 : decode cX12_parseBlock 0 = .ok (.aload_n 0, 1) := by decide +kernel
set_option maxRecDepth 100000 in
theorem dX12_parseBlock_1 : decode cX12_parseBlock 1 = .ok (.invokevirtual 472, 3) := by decide +kernel
set_option maxRecDepth 100000 in
theorem dX12_parseBlock_4 : decode cX12_parseBlock 4 = .ok (.aload_n 0, 1) := by decide +kernel
set_option maxRecDepth 100000 in
theorem dX12_parseBlock_5 : decode cX12_parseBlock 5 = .ok (.iconst 2, 1) := by decide +kernel
set_option maxRecDepth 100000 in
theorem dX12_parseBlock_6 : decode cX12_parseBlock 6 = .ok (.aload_n 0, 1) := by decide +kernel
set_option maxRecDepth 100000 in
theorem dX12_parseBlock_7 : decode cX12_parseBlock 7 = .ok (.invokevirtual 445, 3) := by decide +kernel
set_option maxRecDepth 100000 in
theorem dX12_parseBlock_10 : decode cX12_parseBlock 10 = .ok (.invokevirtual 454, 3) := by decide +kernel
set_option maxRecDepth 100000 in
theorem dX12_parseBlock_13 : decode cX12_parseBlock 13 = .ok (.istore_n 1, 1) := by decide +kernel
set_option maxRecDepth 100000 in
theorem dX12_parseBlock_14 : decode cX12_parseBlock 14 = .ok (.aload_n 0, 1) := by decide +kernel
set_option maxRecDepth 100000 in
theorem dX12_parseBlock_15 : decode cX12_parseBlock 15 = .ok (.iconst 3, 1) := by decide +kernel
set_option maxRecDepth 100000 in
theorem dX12_parseBlock_16 : decode cX12_parseBlock 16 = .ok (.aload_n 0, 1) := by decide +kernel
set_option maxRecDepth 100000 in
theorem dX12_parseBlock_17 : decode cX12_parseBlock 17 = .ok (.invokevirtual 445, 3) := by decide +kernel
set_option maxRecDepth 100000 in
theorem dX12_parseBlock_20 : decode cX12_parseBlock 20 = .ok (.invokevirtual 454, 3) := by decide +kernel
set_option maxRecDepth 100000 in
theorem dX12_parseBlock_23 : decode cX12_parseBlock 23 = .ok (.istore_n 2, 1) := by decide +kernel
set_option maxRecDepth 100000 in
theorem dX12_parseBlock_24 : decode cX12_parseBlock 24 = .ok (.aload_n 0, 1) := by decide +kernel
set_option maxRecDepth 100000 in
theorem dX12_parseBlock_25 : decode cX12_parseBlock 25 = .ok (.bipush 17, 2) := by decide +kernel
set_option maxRecDepth 100000 in
theorem dX12_parseBlock_27 : decode cX12_parseBlock 27 = .ok (.invokevirtual 463, 3) := by decide +kernel
set_option maxRecDepth 100000 in
theorem dX12_parseBlock_30 : decode cX12_parseBlock 30 = .ok (.ifCond .eq 35, 3) := by decide +kernel
set_option maxRecDepth 100000 in
theorem dX12_parseBlock_33 : decode cX12_parseBlock 33 = .ok (.aload_n 0, 1) := by decide +kernel
set_option maxRecDepth 100000 in
theorem dX12_parseBlock_34 : decode cX12_parseBlock 34 = .ok (.iload_n 2, 1) := by decide +kernel
set_option maxRecDepth 100000 in
theorem dX12_parseBlock_35 : decode cX12_parseBlock 35 = .ok (.aload_n 0, 1) := by decide +kernel
set_option maxRecDepth 100000 in
theorem dX12_parseBlock_36 : decode cX12_parseBlock 36 = .ok (.iconst 5, 1) := by decide +kernel
set_option maxRecDepth 100000 in
theorem dX12_parseBlock_37 : decode cX12_parseBlock 37 = .ok (.aload_n 0, 1) := by decide +kernel
set_option maxRecDepth 100000 in
theorem dX12_parseBlock_38 : decode cX12_parseBlock 38 = .ok (.bipush 41, 2) := by decide +kernel
set_option maxRecDepth 100000 in
theorem dX12_parseBlock_40 : decode cX12_parseBlock 40 = .ok (.invokevirtual 457, 3) := by decide +kernel
set_option maxRecDepth 100000 in
theorem dX12_parseBlock_43 : decode cX12_parseBlock 43 = .ok (.invokevirtual 454, 3) := by decide +kernel
set_option maxRecDepth 100000 in
theorem dX12_parseBlock_46 : decode cX12_parseBlock 46 = .ok (.invokevirtual 460, 3) := by decide +kernel
set_option maxRecDepth 100000 in
theorem dX12_parseBlock_49 : decode cX12_parseBlock 49 = .ok (.aload_n 0, 1) := by decide +kernel
set_option maxRecDepth 100000 in
theorem dX12_parseBlock_50 : decode cX12_parseBlock 50 = .ok (.bipush 66, 2) := by decide +kernel
set_option maxRecDepth 100000 in
theorem dX12_parseBlock_52 : decode cX12_parseBlock 52 = .ok (.invokevirtual 463, 3) := by decide +kernel
set_option maxRecDepth 100000 in
theorem dX12_parseBlock_55 : decode cX12_parseBlock 55 = .ok (.ifCond .ne (-22), 3) := by decide +kernel
set_option maxRecDepth 100000 in
theorem dX12_parseBlock_58 : decode cX12_parseBlock 58 = .ok (.aload_n 0, 1) := by decide +kernel
set_option maxRecDepth 100000 in
theorem dX12_parseBlock_59 : decode cX12_parseBlock 59 = .ok (.bipush 67, 2) := by decide +kernel
set_option maxRecDepth 100000 in
theorem dX12_parseBlock_61 : decode cX12_parseBlock 61 = .ok (.invokevirtual 457, 3) := by decide +kernel
set_option maxRecDepth 100000 in
theorem dX12_parseBlock_64 : decode cX12_parseBlock 64 = .ok (.pop, 1) := by decide +kernel
set_option maxRecDepth 100000 in
theorem dX12_parseBlock_65 : decode cX12_parseBlock 65 = .ok (.aload_n 0, 1) := by decide +kernel
set_option maxRecDepth 100000 in
theorem dX12_parseBlock_66 : decode cX12_parseBlock 66 = .ok (.iload_n 1, 1) := by decide +kernel
set_option maxRecDepth 100000 in
theorem dX12_parseBlock_67 : decode cX12_parseBlock 67 = .ok (.iload_n 2, 1) := by decide +kernel
set_option maxRecDepth 100000 in
theorem dX12_parseBlock_68 : decode cX12_parseBlock 68 = .ok (.invokevirtual 460, 3) := by decide +kernel
set_option maxRecDepth 100000 in
theorem dX12_parseBlock_71 : decode cX12_parseBlock 71 = .ok (.aload_n 0, 1) := by decide +kernel
set_option maxRecDepth 100000 in
theorem dX12_parseBlock_72 : decode cX12_parseBlock 72 = .ok (.iconst 3, 1) := by decide +kernel
set_option maxRecDepth 100000 in
theorem dX12_parseBlock_73 : decode cX12_parseBlock 73 = .ok (.aload_n 0, 1) := by decide +kernel
set_option maxRecDepth 100000 in
theorem dX12_parseBlock_74 : decode cX12_parseBlock 74 = .ok (.invokevirtual 445, 3) := by decide +kernel
set_option maxRecDepth 100000 in
theorem dX12_parseBlock_77 : decode cX12_parseBlock 77 = .ok (.invokevirtual 454, 3) := by decide +kernel
set_option maxRecDepth 100000 in
theorem dX12_parseBlock_80 : decode cX12_parseBlock 80 = .ok (.istore_n 3, 1) := by decide +kernel
set_option maxRecDepth 100000 in
theorem dX12_parseBlock_81 : decode cX12_parseBlock 81 = .ok (.aload_n 0, 1) := by decide +kernel
set_option maxRecDepth 100000 in
theorem dX12_parseBlock_82 : decode cX12_parseBlock 82 = .ok (.iconst 5, 1) := by decide +kernel
set_option maxRecDepth 100000 in
theorem dX12_parseBlock_83 : decode cX12_parseBlock 83 = .ok (.invokevirtual 463, 3) := by decide +kernel
set_option maxRecDepth 100000 in
theorem dX12_parseBlock_86 : decode cX12_parseBlock 86 = .ok (.ifCond .eq 57, 3) := by decide +kernel
set_option maxRecDepth 100000 in
theorem dX12_parseBlock_89 : decode cX12_parseBlock 89 = .ok (.aload_n 0, 1) := by decide +kernel
set_option maxRecDepth 100000 in
theorem dX12_parseBlock_90 : decode cX12_parseBlock 90 = .ok (.bipush 6, 2) := by decide +kernel
set_option maxRecDepth 100000 in
theorem dX12_parseBlock_92 : decode cX12_parseBlock 92 = .ok (.aload_n 0, 1) := by decide +kernel
set_option maxRecDepth 100000 in
theorem dX12_parseBlock_93 : decode cX12_parseBlock 93 = .ok (.bipush 40, 2) := by decide +kernel
set_option maxRecDepth 100000 in
theorem dX12_parseBlock_95 : decode cX12_parseBlock 95 = .ok (.invokevirtual 457, 3) := by decide +kernel
set_option maxRecDepth 100000 in
theorem dX12_parseBlock_98 : decode cX12_parseBlock 98 = .ok (.invokevirtual 454, 3) := by decide +kernel
set_option maxRecDepth 100000 in
theorem dX12_parseBlock_101 : decode cX12_parseBlock 101 = .ok (.istore 4, 2) := by decide +kernel
set_option maxRecDepth 100000 in
theorem dX12_parseBlock_103 : decode cX12_parseBlock 103 = .ok (.aload_n 0, 1) := by decide +kernel
set_option maxRecDepth 100000 in
theorem dX12_parseBlock_104 : decode cX12_parseBlock 104 = .ok (.bipush 54, 2) := by decide +kernel
set_option maxRecDepth 100000 in
theorem dX12_parseBlock_106 : decode cX12_parseBlock 106 = .ok (.invokevirtual 457, 3) := by decide +kernel
set_option maxRecDepth 100000 in
theorem dX12_parseBlock_109 : decode cX12_parseBlock 109 = .ok (.pop, 1) := by decide +kernel
set_option maxRecDepth 100000 in
theorem dX12_parseBlock_110 : decode cX12_parseBlock 110 = .ok (.aload_n 0, 1) := by decide +kernel
set_option maxRecDepth 100000 in
theorem dX12_parseBlock_111 : decode cX12_parseBlock 111 = .ok (.iload 4, 2) := by decide +kernel
set_option maxRecDepth 100000 in
theorem dX12_parseBlock_113 : decode cX12_parseBlock 113 = .ok (.aload_n 0, 1) := by decide +kernel
set_option maxRecDepth 100000 in
theorem dX12_parseBlock_114 : decode cX12_parseBlock 114 = .ok (.invokevirtual 475, 3) := by decide +kernel
set_option maxRecDepth 100000 in
theorem dX12_parseBlock_117 : decode cX12_parseBlock 117 = .ok (.invokevirtual 460, 3) := by decide +kernel
set_option maxRecDepth 100000 in
theorem dX12_parseBlock_120 : decode cX12_parseBlock 120 = .ok (.aload_n 0, 1) := by decide +kernel
set_option maxRecDepth 100000 in
theorem dX12_parseBlock_121 : decode cX12_parseBlock 121 = .ok (.bipush 67, 2) := by decide +kernel
set_option maxRecDepth 100000 in
theorem dX12_parseBlock_123 : decode cX12_parseBlock 123 = .ok (.invokevirtual 457, 3) := by decide +kernel
set_option maxRecDepth 100000 in
theorem dX12_parseBlock_126 : decode cX12_parseBlock 126 = .ok (.pop, 1) := by decide +kernel
set_option maxRecDepth 100000 in
theorem dX12_parseBlock_127 : decode cX12_parseBlock 127 = .ok (.aload_n 0, 1) := by decide +kernel
set_option maxRecDepth 100000 in
theorem dX12_parseBlock_128 : decode cX12_parseBlock 128 = .ok (.iload_n 3, 1) := by decide +kernel
set_option maxRecDepth 100000 in
theorem dX12_parseBlock_129 : decode cX12_parseBlock 129 = .ok (.iload 4, 2) := by decide +kernel
set_option maxRecDepth 100000 in
theorem dX12_parseBlock_131 : decode cX12_parseBlock 131 = .ok (.invokevirtual 460, 3) := by decide +kernel
set_option maxRecDepth 100000 in
theorem dX12_parseBlock_134 : decode cX12_parseBlock 134 = .ok (.aload_n 0, 1) := by decide +kernel
set_option maxRecDepth 100000 in
theorem dX12_parseBlock_135 : decode cX12_parseBlock 135 = .ok (.bipush 40, 2) := by decide +kernel
set_option maxRecDepth 100000 in
theorem dX12_parseBlock_137 : decode cX12_parseBlock 137 = .ok (.invokevirtual 439, 3) := by decide +kernel
set_option maxRecDepth 100000 in
theorem dX12_parseBlock_140 : decode cX12_parseBlock 140 = .ok (.ifCond .ne (-51), 3) := by decide +kernel
set_option maxRecDepth 100000 in
theorem dX12_parseBlock_143 : decode cX12_parseBlock 143 = .ok (.aload_n 0, 1) := by decide +kernel
set_option maxRecDepth 100000 in
theorem dX12_parseBlock_144 : decode cX12_parseBlock 144 = .ok (.iload_n 1, 1) := by decide +kernel
set_option maxRecDepth 100000 in
theorem dX12_parseBlock_145 : decode cX12_parseBlock 145 = .ok (.iload_n 3, 1) := by decide +kernel
set_option maxRecDepth 100000 in
theorem dX12_parseBlock_146 : decode cX12_parseBlock 146 = .ok (.invokevirtual 460, 3) := by decide +kernel
set_option maxRecDepth 100000 in
theorem dX12_parseBlock_149 : decode cX12_parseBlock 149 = .ok (.aload_n 0, 1) := by decide +kernel
set_option maxRecDepth 100000 in
theorem dX12_parseBlock_150 : decode cX12_parseBlock 150 = .ok (.iconst 3, 1) := by decide +kernel
set_option maxRecDepth 100000 in
theorem dX12_parseBlock_151 : decode cX12_parseBlock 151 = .ok (.aload_n 0, 1) := by decide +kernel
set_option maxRecDepth 100000 in
theorem dX12_parseBlock_152 : decode cX12_parseBlock 152 = .ok (.invokevirtual 445, 3) := by decide +kernel
set_option maxRecDepth 100000 in
theorem dX12_parseBlock_155 : decode cX12_parseBlock 155 = .ok (.invokevirtual 454, 3) := by decide +kernel
set_option maxRecDepth 100000 in
theorem dX12_parseBlock_158 : decode cX12_parseBlock 158 = .ok (.istore 4, 2) := by decide +kernel
set_option maxRecDepth 100000 in
theorem dX12_parseBlock_160 : decode cX12_parseBlock 160 = .ok (.aload_n 0, 1) := by decide +kernel
set_option maxRecDepth 100000 in
theorem dX12_parseBlock_161 : decode cX12_parseBlock 161 = .ok (.bipush 31, 2) := by decide +kernel
set_option maxRecDepth 100000 in
theorem dX12_parseBlock_163 : decode cX12_parseBlock 163 = .ok (.invokevirtual 463, 3) := by decide +kernel
set_option maxRecDepth 100000 in
theorem dX12_parseBlock_166 : decode cX12_parseBlock 166 = .ok (.ifCond .eq 58, 3) := by decide +kernel
set_option maxRecDepth 100000 in
theorem dX12_parseBlock_169 : decode cX12_parseBlock 169 = .ok (.aload_n 0, 1) := by decide +kernel
set_option maxRecDepth 100000 in
theorem dX12_parseBlock_170 : decode cX12_parseBlock 170 = .ok (.bipush 6, 2) := by decide +kernel
set_option maxRecDepth 100000 in
theorem dX12_parseBlock_172 : decode cX12_parseBlock 172 = .ok (.aload_n 0, 1) := by decide +kernel
set_option maxRecDepth 100000 in
theorem dX12_parseBlock_173 : decode cX12_parseBlock 173 = .ok (.bipush 40, 2) := by decide +kernel
set_option maxRecDepth 100000 in
theorem dX12_parseBlock_175 : decode cX12_parseBlock 175 = .ok (.invokevirtual 457, 3) := by decide +kernel
set_option maxRecDepth 100000 in
theorem dX12_parseBlock_178 : decode cX12_parseBlock 178 = .ok (.invokevirtual 454, 3) := by decide +kernel
set_option maxRecDepth 100000 in
theorem dX12_parseBlock_181 : decode cX12_parseBlock 181 = .ok (.istore 5, 2) := by decide +kernel
set_option maxRecDepth 100000 in
theorem dX12_parseBlock_183 : decode cX12_parseBlock 183 = .ok (.aload_n 0, 1) := by decide +kernel
set_option maxRecDepth 100000 in
theorem dX12_parseBlock_184 : decode cX12_parseBlock 184 = .ok (.bipush 54, 2) := by decide +kernel
set_option maxRecDepth 100000 in
theorem dX12_parseBlock_186 : decode cX12_parseBlock 186 = .ok (.invokevirtual 457, 3) := by decide +kernel
set_option maxRecDepth 100000 in
theorem dX12_parseBlock_189 : decode cX12_parseBlock 189 = .ok (.pop, 1) := by decide +kernel
set_option maxRecDepth 100000 in
theorem dX12_parseBlock_190 : decode cX12_parseBlock 190 = .ok (.aload_n 0, 1) := by decide +kernel
set_option maxRecDepth 100000 in
theorem dX12_parseBlock_191 : decode cX12_parseBlock 191 = .ok (.iload 5, 2) := by decide +kernel
set_option maxRecDepth 100000 in
theorem dX12_parseBlock_193 : decode cX12_parseBlock 193 = .ok (.aload_n 0, 1) := by decide +kernel
set_option maxRecDepth 100000 in
theorem dX12_parseBlock_194 : decode cX12_parseBlock 194 = .ok (.invokevirtual 478, 3) := by decide +kernel
set_option maxRecDepth 100000 in
theorem dX12_parseBlock_197 : decode cX12_parseBlock 197 = .ok (.invokevirtual 460, 3) := by decide +kernel
set_option maxRecDepth 100000 in
theorem dX12_parseBlock_200 : decode cX12_parseBlock 200 = .ok (.aload_n 0, 1) := by decide +kernel
set_option maxRecDepth 100000 in
theorem dX12_parseBlock_201 : decode cX12_parseBlock 201 = .ok (.bipush 67, 2) := by decide +kernel
set_option maxRecDepth 100000 in
theorem dX12_parseBlock_203 : decode cX12_parseBlock 203 = .ok (.invokevirtual 457, 3) := by decide +kernel
set_option maxRecDepth 100000 in
theorem dX12_parseBlock_206 : decode cX12_parseBlock 206 = .ok (.pop, 1) := by decide +kernel
set_option maxRecDepth 100000 in
theorem dX12_parseBlock_207 : decode cX12_parseBlock 207 = .ok (.aload_n 0, 1) := by decide +kernel
set_option maxRecDepth 100000 in
theorem dX12_parseBlock_208 : decode cX12_parseBlock 208 = .ok (.iload 4, 2) := by decide +kernel
set_option maxRecDepth 100000 in
theorem dX12_parseBlock_210 : decode cX12_parseBlock 210 = .ok (.iload 5, 2) := by decide +kernel
set_option maxRecDepth 100000 in
theorem dX12_parseBlock_212 : decode cX12_parseBlock 212 = .ok (.invokevirtual 460, 3) := by decide +kernel
set_option maxRecDepth 100000 in
theorem dX12_parseBlock_215 : decode cX12_parseBlock 215 = .ok (.aload_n 0, 1) := by decide +kernel
set_option maxRecDepth 100000 in
theorem dX12_parseBlock_216 : decode cX12_parseBlock 216 = .ok (.bipush 40, 2) := by decide +kernel
set_option maxRecDepth 100000 in
theorem dX12_parseBlock_218 : decode cX12_parseBlock 218 = .ok (.invokevirtual 439, 3) := by decide +kernel
set_option maxRecDepth 100000 in
theorem dX12_parseBlock_221 : decode cX12_parseBlock 221 = .ok (.ifCond .ne (-52), 3) := by decide +kernel
set_option maxRecDepth 100000 in
theorem dX12_parseBlock_224 : decode cX12_parseBlock 224 = .ok (.aload_n 0, 1) := by decide +kernel
set_option maxRecDepth 100000 in
theorem dX12_parseBlock_225 : decode cX12_parseBlock 225 = .ok (.iload_n 1, 1) := by decide +kernel
set_option maxRecDepth 100000 in
theorem dX12_parseBlock_226 : decode cX12_parseBlock 226 = .ok (.iload 4, 2) := by decide +kernel
set_option maxRecDepth 100000 in
theorem dX12_parseBlock_228 : decode cX12_parseBlock 228 = .ok (.invokevirtual 460, 3) := by decide +kernel
set_option maxRecDepth 100000 in
theorem dX12_parseBlock_231 : decode cX12_parseBlock 231 = .ok (.aload_n 0, 1) := by decide +kernel
set_option maxRecDepth 100000 in
theorem dX12_parseBlock_232 : decode cX12_parseBlock 232 = .ok (.iconst 3, 1) := by decide +kernel
set_option maxRecDepth 100000 in
theorem dX12_parseBlock_233 : decode cX12_parseBlock 233 = .ok (.aload_n 0, 1) := by decide +kernel
set_option maxRecDepth 100000 in
theorem dX12_parseBlock_234 : decode cX12_parseBlock 234 = .ok (.invokevirtual 445, 3) := by decide +kernel
set_option maxRecDepth 100000 in
theorem dX12_parseBlock_237 : decode cX12_parseBlock 237 = .ok (.invokevirtual 454, 3) := by decide +kernel
set_option maxRecDepth 100000 in
theorem dX12_parseBlock_240 : decode cX12_parseBlock 240 = .ok (.istore 5, 2) := by decide +kernel
set_option maxRecDepth 100000 in
theorem dX12_parseBlock_242 : decode cX12_parseBlock 242 = .ok (.aload_n 0, 1) := by decide +kernel
set_option maxRecDepth 100000 in
theorem dX12_parseBlock_243 : decode cX12_parseBlock 243 = .ok (.bipush 33, 2) := by decide +kernel
set_option maxRecDepth 100000 in
theorem dX12_parseBlock_245 : decode cX12_parseBlock 245 = .ok (.invokevirtual 463, 3) := by decide +kernel
set_option maxRecDepth 100000 in
theorem dX12_parseBlock_248 : decode cX12_parseBlock 248 = .ok (.ifCond .eq 29, 3) := by decide +kernel
set_option maxRecDepth 100000 in
theorem dX12_parseBlock_251 : decode cX12_parseBlock 251 = .ok (.aload_n 0, 1) := by decide +kernel
set_option maxRecDepth 100000 in
theorem dX12_parseBlock_252 : decode cX12_parseBlock 252 = .ok (.iload 5, 2) := by decide +kernel
set_option maxRecDepth 100000 in
theorem dX12_parseBlock_254 : decode cX12_parseBlock 254 = .ok (.aload_n 0, 1) := by decide +kernel
set_option maxRecDepth 100000 in
theorem dX12_parseBlock_255 : decode cX12_parseBlock 255 = .ok (.invokevirtual 481, 3) := by decide +kernel
set_option maxRecDepth 100000 in
theorem dX12_parseBlock_258 : decode cX12_parseBlock 258 = .ok (.invokevirtual 460, 3) := by decide +kernel
set_option maxRecDepth 100000 in
theorem dX12_parseBlock_261 : decode cX12_parseBlock 261 = .ok (.aload_n 0, 1) := by decide +kernel
set_option maxRecDepth 100000 in
theorem dX12_parseBlock_262 : decode cX12_parseBlock 262 = .ok (.bipush 67, 2) := by decide +kernel
set_option maxRecDepth 100000 in
theorem dX12_parseBlock_264 : decode cX12_parseBlock 264 = .ok (.invokevirtual 457, 3) := by decide +kernel
set_option maxRecDepth 100000 in
theorem dX12_parseBlock_267 : decode cX12_parseBlock 267 = .ok (.pop, 1) := by decide +kernel
set_option maxRecDepth 100000 in
theorem dX12_parseBlock_268 : decode cX12_parseBlock 268 = .ok (.aload_n 0, 1) := by decide +kernel
set_option maxRecDepth 100000 in
theorem dX12_parseBlock_269 : decode cX12_parseBlock 269 = .ok (.bipush 40, 2) := by decide +kernel
set_option maxRecDepth 100000 in
theorem dX12_parseBlock_271 : decode cX12_parseBlock 271 = .ok (.invokevirtual 439, 3) := by decide +kernel
set_option maxRecDepth 100000 in
theorem dX12_parseBlock_274 : decode cX12_parseBlock 274 = .ok (.ifCond .ne (-23), 3) := by decide +kernel
set_option maxRecDepth 100000 in
theorem dX12_parseBlock_277 : decode cX12_parseBlock 277 = .ok (.aload_n 0, 1) := by decide +kernel
set_option maxRecDepth 100000 in
theorem dX12_parseBlock_278 : decode cX12_parseBlock 278 = .ok (.iload_n 1, 1) := by decide +kernel
set_option maxRecDepth 100000 in
theorem dX12_parseBlock_279 : decode cX12_parseBlock 279 = .ok (.iload 5, 2) := by decide +kernel
set_option maxRecDepth 100000 in
theorem dX12_parseBlock_281 : decode cX12_parseBlock 281 = .ok (.invokevirtual 460, 3) := by decide +kernel
set_option maxRecDepth 100000 in
theorem dX12_parseBlock_284 : decode cX12_parseBlock 284 = .ok (.aload_n 0, 1) := by decide +kernel
set_option maxRecDepth 100000 in
theorem dX12_parseBlock_285 : decode cX12_parseBlock 285 = .ok (.iconst 3, 1) := by decide +kernel
set_option maxRecDepth 100000 in
theorem dX12_parseBlock_286 : decode cX12_parseBlock 286 = .ok (.aload_n 0, 1) := by decide +kernel
set_option maxRecDepth 100000 in
theorem dX12_parseBlock_287 : decode cX12_parseBlock 287 = .ok (.invokevirtual 445, 3) := by decide +kernel
set_option maxRecDepth 100000 in
theorem dX12_parseBlock_290 : decode cX12_parseBlock 290 = .ok (.invokevirtual 454, 3) := by decide +kernel
set_option maxRecDepth 100000 in
theorem dX12_parseBlock_293 : decode cX12_parseBlock 293 = .ok (.istore 6, 2) := by decide +kernel
set_option maxRecDepth 100000 in
theorem dX12_parseBlock_295 : decode cX12_parseBlock 295 = .ok (.aload_n 0, 1) := by decide +kernel
set_option maxRecDepth 100000 in
theorem dX12_parseBlock_296 : decode cX12_parseBlock 296 = .ok (.bipush 24, 2) := by decide +kernel
set_option maxRecDepth 100000 in
theorem dX12_parseBlock_298 : decode cX12_parseBlock 298 = .ok (.invokevirtual 439, 3) := by decide +kernel
set_option maxRecDepth 100000 in
theorem dX12_parseBlock_301 : decode cX12_parseBlock 301 = .ok (.ifCond .ne 12, 3) := by decide +kernel
set_option maxRecDepth 100000 in
theorem dX12_parseBlock_304 : decode cX12_parseBlock 304 = .ok (.aload_n 0, 1) := by decide +kernel
set_option maxRecDepth 100000 in
theorem dX12_parseBlock_305 : decode cX12_parseBlock 305 = .ok (.bipush 13, 2) := by decide +kernel
set_option maxRecDepth 100000 in
theorem dX12_parseBlock_307 : decode cX12_parseBlock 307 = .ok (.invokevirtual 439, 3) := by decide +kernel
set_option maxRecDepth 100000 in
theorem dX12_parseBlock_310 : decode cX12_parseBlock 310 = .ok (.ifCond .eq 23, 3) := by decide +kernel
set_option maxRecDepth 100000 in
theorem dX12_parseBlock_313 : decode cX12_parseBlock 313 = .ok (.aload_n 0, 1) := by decide +kernel
set_option maxRecDepth 100000 in
theorem dX12_parseBlock_314 : decode cX12_parseBlock 314 = .ok (.iload 6, 2) := by decide +kernel
set_option maxRecDepth 100000 in
theorem dX12_parseBlock_316 : decode cX12_parseBlock 316 = .ok (.aload_n 0, 1) := by decide +kernel
set_option maxRecDepth 100000 in
theorem dX12_parseBlock_317 : decode cX12_parseBlock 317 = .ok (.invokevirtual 484, 3) := by decide +kernel
set_option maxRecDepth 100000 in
theorem dX12_parseBlock_320 : decode cX12_parseBlock 320 = .ok (.invokevirtual 460, 3) := by decide +kernel
set_option maxRecDepth 100000 in
theorem dX12_parseBlock_323 : decode cX12_parseBlock 323 = .ok (.aload_n 0, 1) := by decide +kernel
set_option maxRecDepth 100000 in
theorem dX12_parseBlock_324 : decode cX12_parseBlock 324 = .ok (.bipush 67, 2) := by decide +kernel
set_option maxRecDepth 100000 in
theorem dX12_parseBlock_326 : decode cX12_parseBlock 326 = .ok (.invokevirtual 457, 3) := by decide +kernel
set_option maxRecDepth 100000 in
theorem dX12_parseBlock_329 : decode cX12_parseBlock 329 = .ok (.pop, 1) := by decide +kernel
set_option maxRecDepth 100000 in
theorem dX12_parseBlock_330 : decode cX12_parseBlock 330 = .ok (.goto (-35), 3) := by decide +kernel
set_option maxRecDepth 100000 in
theorem dX12_parseBlock_333 : decode cX12_parseBlock 333 = .ok (.aload_n 0, 1) := by decide +kernel
set_option maxRecDepth 100000 in
theorem dX12_parseBlock_334 : decode cX12_parseBlock 334 = .ok (.iload_n 1, 1) := by decide +kernel
set_option maxRecDepth 100000 in
theorem dX12_parseBlock_335 : decode cX12_parseBlock 335 = .ok (.iload 6, 2) := by decide +kernel
set_option maxRecDepth 100000 in
theorem dX12_parseBlock_337 : decode cX12_parseBlock 337 = .ok (.invokevirtual 460, 3) := by decide +kernel
set_option maxRecDepth 100000 in
theorem dX12_parseBlock_340 : decode cX12_parseBlock 340 = .ok (.aload_n 0, 1) := by decide +kernel
set_option maxRecDepth 100000 in
theorem dX12_parseBlock_341 : decode cX12_parseBlock 341 = .ok (.bipush 31, 2) := by decide +kernel
set_option maxRecDepth 100000 in
theorem dX12_parseBlock_343 : decode cX12_parseBlock 343 = .ok (.aload_n 0, 1) := by decide +kernel
set_option maxRecDepth 100000 in
theorem dX12_parseBlock_344 : decode cX12_parseBlock 344 = .ok (.iconst 3, 1) := by decide +kernel
set_option maxRecDepth 100000 in
theorem dX12_parseBlock_345 : decode cX12_parseBlock 345 = .ok (.invokevirtual 457, 3) := by decide +kernel
set_option maxRecDepth 100000 in
theorem dX12_parseBlock_348 : decode cX12_parseBlock 348 = .ok (.invokevirtual 454, 3) := by decide +kernel
set_option maxRecDepth 100000 in
theorem dX12_parseBlock_351 : decode cX12_parseBlock 351 = .ok (.istore 7, 2) := by decide +kernel
set_option maxRecDepth 100000 in
theorem dX12_parseBlock_353 : decode cX12_parseBlock 353 = .ok (.aload_n 0, 1) := by decide +kernel
set_option maxRecDepth 100000 in
theorem dX12_parseBlock_354 : decode cX12_parseBlock 354 = .ok (.iload 7, 2) := by decide +kernel
set_option maxRecDepth 100000 in
theorem dX12_parseBlock_356 : decode cX12_parseBlock 356 = .ok (.invokevirtual 487, 3) := by decide +kernel
set_option maxRecDepth 100000 in
theorem dX12_parseBlock_359 : decode cX12_parseBlock 359 = .ok (.aload_n 0, 1) := by decide +kernel
set_option maxRecDepth 100000 in
theorem dX12_parseBlock_360 : decode cX12_parseBlock 360 = .ok (.bipush 10, 2) := by decide +kernel
set_option maxRecDepth 100000 in
theorem dX12_parseBlock_362 : decode cX12_parseBlock 362 = .ok (.invokevirtual 457, 3) := by decide +kernel
set_option maxRecDepth 100000 in
theorem dX12_parseBlock_365 : decode cX12_parseBlock 365 = .ok (.pop, 1) := by decide +kernel
set_option maxRecDepth 100000 in
theorem dX12_parseBlock_366 : decode cX12_parseBlock 366 = .ok (.aload_n 0, 1) := by decide +kernel
set_option maxRecDepth 100000 in
theorem dX12_parseBlock_367 : decode cX12_parseBlock 367 = .ok (.iload_n 1, 1) := by decide +kernel
set_option maxRecDepth 100000 in
theorem dX12_parseBlock_368 : decode cX12_parseBlock 368 = .ok (.iload 7, 2) := by decide +kernel
set_option maxRecDepth 100000 in
theorem dX12_parseBlock_370 : decode cX12_parseBlock 370 = .ok (.invokevirtual 460, 3) := by decide +kernel
set_option maxRecDepth 100000 in
theorem dX12_parseBlock_373 : decode cX12_parseBlock 373 = .ok (.aload_n 0, 1) := by decide +kernel
set_option maxRecDepth 100000 in
theorem dX12_parseBlock_374 : decode cX12_parseBlock 374 = .ok (.dup, 1) := by decide +kernel
set_option maxRecDepth 100000 in
theorem dX12_parseBlock_375 : decode cX12_parseBlock 375 = .ok (.getfield 451, 3) := by decide +kernel
set_option maxRecDepth 100000 in
theorem dX12_parseBlock_378 : decode cX12_parseBlock 378 = .ok (.iconst 1, 1) := by decide +kernel
set_option maxRecDepth 100000 in
theorem dX12_parseBlock_379 : decode cX12_parseBlock 379 = .ok (.isub, 1) := by decide +kernel
set_option maxRecDepth 100000 in
theorem dX12_parseBlock_380 : decode cX12_parseBlock 380 = .ok (.putfield 451, 3) := by decide +kernel
set_option maxRecDepth 100000 in
theorem dX12_parseBlock_383 : decode cX12_parseBlock 383 = .ok (.iload_n 1, 1) := by decide +kernel
set_option maxRecDepth 100000 in
theorem dX12_parseBlock_384 : decode cX12_parseBlock 384 = .ok (.ireturn, 1) := by decide +kernel
def lX12_parseBlock_33 (G : xG) (fr lo : Nat) (x0 : Nat) (x1 : Int32) (x2 : Int32) (h : xH) (Q : Outcome → xH → Prop) : Prop := xP G YX12_parseBlock fr lo 33 [(0, rv x0), (1, .int x1), (2, .int x2)] [] h Q
def lX12_parseBlock_89 (G : xG) (fr lo : Nat) (x0 : Nat) (x1 : Int32) (x3 : Int32) (h : xH) (Q : Outcome → xH → Prop) : Prop := xP G YX12_parseBlock fr lo 89 [(0, rv x0), (1, .int x1), (3, .int x3)] [] h Q
def lX12_parseBlock_169 (G : xG) (fr lo : Nat) (x0 : Nat) (x1 : Int32) (x4 : Int32) (h : xH) (Q : Outcome → xH → Prop) : Prop := xP G YX12_parseBlock fr lo 169 [(0, rv x0), (1, .int x1), (4, .int x4)] [] h Q
def lX12_parseBlock_251 (G : xG) (fr lo : Nat) (x0 : Nat) (x1 : Int32) (x5 : Int32) (h : xH) (Q : Outcome → xH → Prop) : Prop := xP G YX12_parseBlock fr lo 251 [(0, rv x0), (1, .int x1), (5, .int x5)] [] h Q
def lX12_parseBlock_295 (G : xG) (fr lo : Nat) (x0 : Nat) (x1 : Int32) (x6 : Int32) (h : xH) (Q : Outcome → xH → Prop) : Prop := xP G YX12_parseBlock fr lo 295 [(0, rv x0), (1, .int x1), (6, .int x6)] [] h Q
set_option maxRecDepth 100000 in
def bX12_parseBlock_313 (G : xG) (fr lo : Nat) (x0 : Nat) (x1 : Int32) (x6 : Int32) (h : xH) (Q : Outcome → xH → Prop) : Prop := tg h x0 = 13 ∧ 1 ≤ fr ∧ 16 ≤ lo ∧ xRi G YX12_parseRoutine (fr - 1) (lo - 16) [rv x0] h (fun x5 h4 => xext h h4 → 1 ≤ fr ∧ 14 ≤ lo ∧ xRv G YX12_add (fr - 1) (lo - 14) [rv x0, .int x6, .int x5] h4 (fun h10 => xext h4 h10 → 1 ≤ fr ∧ 13 ≤ lo ∧ xRi G YX12_must (fr - 1) (lo - 13) [rv x0, .int 67] h10 (fun x17 h16 => xext h10 h16 → lX12_parseBlock_295 G fr lo x0 x1 x6 h16 Q) (fun r h2 => Q (.threw r) h2)) (fun r h2 => Q (.threw r) h2)) (fun r h2 => Q (.threw r) h2)
set_option maxRecDepth 100000 in
theorem uX12_parseBlock_313 {G : xG} {fr lo : Nat} {x0 : Nat} {x1 : Int32} {x6 : Int32} {h : xH} {Q : Outcome → xH → Prop} (hq : bX12_parseBlock_313 G fr lo x0 x1 x6 h Q) : xP G YX12_parseBlock fr lo 313 [(0, rv x0), (1, .int x1), (6, .int x6)] [] h Q := by
  unfold bX12_parseBlock_313 at hq
  refine x_aload_n 0 dX12_parseBlock_313 rfl ?_
  refine x_iload 2 dX12_parseBlock_314 rfl ?_
  refine x_aload_n 0 dX12_parseBlock_316 rfl ?_
  obtain ⟨g1, hq⟩ := hq
  obtain ⟨g2, g3, hq⟩ := hq
  refine x_callV (Yc := YX12_parseRoutine) (as := []) (st := [.int x6, rv x0]) q3854 mvX12_parseRoutine g1 rfl dX12_parseBlock_317 (xle (xal1 (rv_cat _) xal0) (by decide)) (xfr g2) (xlo (xsw1 rfl (xsw1 (rv_cat _) xsw0)) (by decide) g3) (xKi hq (fun x5 h4 hq e6 => ?_) (fun _ _ q _ => q))
  replace hq := hq e6
  have t7 : tg h4 x0 = 13 := e6.tg g1 (by decide)
  obtain ⟨g8, g9, hq⟩ := hq
  refine x_callV (Yc := YX12_add) (as := [.int x6, .int x5]) (st := []) q3810 mvX12_add t7 rfl dX12_parseBlock_320 (xle (xal1 (rv_cat _) (xal1 rfl (xal1 rfl xal0))) (by decide)) (xfr g8) (xlo xsw0 (by decide) g9) (xKv hq (fun h10 hq e12 => ?_) (fun _ _ q _ => q))
  replace hq := hq e12
  refine x_aload_n 0 dX12_parseBlock_323 rfl ?_
  refine x_bipush (v := 67) dX12_parseBlock_324 (by decide) ?_
  have t13 : tg h10 x0 = 13 := e12.tg t7 (by decide)
  obtain ⟨g14, g15, hq⟩ := hq
  refine x_callV (Yc := YX12_must) (as := [.int 67]) (st := []) q3778 mvX12_must t13 rfl dX12_parseBlock_326 (xle (xal1 (rv_cat _) (xal1 rfl xal0)) (by decide)) (xfr g14) (xlo xsw0 (by decide) g15) (xKi hq (fun x17 h16 hq e18 => ?_) (fun _ _ q _ => q))
  replace hq := hq e18
  refine x_pop dX12_parseBlock_329 rfl ?_
  refine x_goto (tgt := 295) dX12_parseBlock_330 (by decide) ?_
  exact hq
set_option maxRecDepth 100000 in
def bX12_parseBlock_295 (G : xG) (fr lo : Nat) (x0 : Nat) (x1 : Int32) (x6 : Int32) (h : xH) (Q : Outcome → xH → Prop) : Prop := tg h x0 = 13 ∧ 1 ≤ fr ∧ 13 ≤ lo ∧ xRi G YX12_sees (fr - 1) (lo - 13) [rv x0, .int 24] h (fun x5 h4 => xext h h4 → ((¬ x5 = 0 → bX12_parseBlock_313 G fr lo x0 x1 x6 h4 Q) ∧ (x5 = 0 → 1 ≤ fr ∧ 13 ≤ lo ∧ xRi G YX12_sees (fr - 1) (lo - 13) [rv x0, .int 13] h4 (fun x12 h11 => xext h4 h11 → ((x12 = 0 → 1 ≤ fr ∧ 14 ≤ lo ∧ xRv G YX12_add (fr - 1) (lo - 14) [rv x0, .int x1, .int x6] h11 (fun h18 => xext h11 h18 → 1 ≤ fr ∧ 15 ≤ lo ∧ xRi G YX12_must (fr - 1) (lo - 15) [rv x0, .int 3] h18 (fun x25 h24 => xext h18 h24 → 1 ≤ fr ∧ 15 ≤ lo ∧ xRi G YX12_node (fr - 1) (lo - 15) [rv x0, .int 31, .int x25] h24 (fun x31 h30 => xext h24 h30 → 1 ≤ fr ∧ 13 ≤ lo ∧ xRv G YX12_parseRow (fr - 1) (lo - 13) [rv x0, .int x31] h30 (fun h36 => xext h30 h36 → 1 ≤ fr ∧ 13 ≤ lo ∧ xRi G YX12_must (fr - 1) (lo - 13) [rv x0, .int 10] h36 (fun x43 h42 => xext h36 h42 → 1 ≤ fr ∧ 14 ≤ lo ∧ xRv G YX12_add (fr - 1) (lo - 14) [rv x0, .int x1, .int x31] h42 (fun h48 => xext h42 h48 → (∀ h52 : xH, h52 = sI h48 x0 3111 ((fI h48 x0 3111) - 1) → Q (.returned (some (.int x1))) h52)) (fun r h2 => Q (.threw r) h2)) (fun r h2 => Q (.threw r) h2)) (fun r h2 => Q (.threw r) h2)) (fun r h2 => Q (.threw r) h2)) (fun r h2 => Q (.threw r) h2)) (fun r h2 => Q (.threw r) h2)) ∧ (¬ x12 = 0 → bX12_parseBlock_313 G fr lo x0 x1 x6 h11 Q))) (fun r h2 => Q (.threw r) h2)))) (fun r h2 => Q (.threw r) h2)
set_option maxRecDepth 100000 in
theorem uX12_parseBlock_295 {G : xG} {fr lo : Nat} {x0 : Nat} {x1 : Int32} {x6 : Int32} {h : xH} {Q : Outcome → xH → Prop} (hq : bX12_parseBlock_295 G fr lo x0 x1 x6 h Q) : xP G YX12_parseBlock fr lo 295 [(0, rv x0), (1, .int x1), (6, .int x6)] [] h Q := by
  unfold bX12_parseBlock_295 at hq
  refine x_aload_n 0 dX12_parseBlock_295 rfl ?_
  refine x_bipush (v := 24) dX12_parseBlock_296 (by decide) ?_
  obtain ⟨g1, hq⟩ := hq
  obtain ⟨g2, g3, hq⟩ := hq
  refine x_callV (Yc := YX12_sees) (as := [.int 24]) (st := []) q3782 mvX12_sees g1 rfl dX12_parseBlock_298 (xle (xal1 (rv_cat _) (xal1 rfl xal0)) (by decide)) (xfr g2) (xlo xsw0 (by decide) g3) (xKi hq (fun x5 h4 hq e6 => ?_) (fun _ _ q _ => q))
  replace hq := hq e6
  refine x_if_ne (tgt := 313) dX12_parseBlock_301 (by decide) (fun c7 => ?_) (fun c7 => ?_)
  · replace hq := hq.1 c7
    exact uX12_parseBlock_313 hq
  · replace hq := hq.2 c7
    refine x_aload_n 0 dX12_parseBlock_304 rfl ?_
    refine x_bipush (v := 13) dX12_parseBlock_305 (by decide) ?_
    have t8 : tg h4 x0 = 13 := e6.tg g1 (by decide)
    obtain ⟨g9, g10, hq⟩ := hq
    refine x_callV (Yc := YX12_sees) (as := [.int 13]) (st := []) q3782 mvX12_sees t8 rfl dX12_parseBlock_307 (xle (xal1 (rv_cat _) (xal1 rfl xal0)) (by decide)) (xfr g9) (xlo xsw0 (by decide) g10) (xKi hq (fun x12 h11 hq e13 => ?_) (fun _ _ q _ => q))
    replace hq := hq e13
    refine x_if_eq (tgt := 333) dX12_parseBlock_310 (by decide) (fun c14 => ?_) (fun c14 => ?_)
    · replace hq := hq.1 c14
      refine x_aload_n 0 dX12_parseBlock_333 rfl ?_
      refine x_iload_n 1 dX12_parseBlock_334 rfl ?_
      refine x_iload 2 dX12_parseBlock_335 rfl ?_
      have t15 : tg h11 x0 = 13 := e13.tg t8 (by decide)
      obtain ⟨g16, g17, hq⟩ := hq
      refine x_callV (Yc := YX12_add) (as := [.int x1, .int x6]) (st := []) q3810 mvX12_add t15 rfl dX12_parseBlock_337 (xle (xal1 (rv_cat _) (xal1 rfl (xal1 rfl xal0))) (by decide)) (xfr g16) (xlo xsw0 (by decide) g17) (xKv hq (fun h18 hq e20 => ?_) (fun _ _ q _ => q))
      replace hq := hq e20
      refine x_aload_n 0 dX12_parseBlock_340 rfl ?_
      refine x_bipush (v := 31) dX12_parseBlock_341 (by decide) ?_
      refine x_aload_n 0 dX12_parseBlock_343 rfl ?_
      refine x_iconst (v := 3) dX12_parseBlock_344 (by decide) ?_
      have t21 : tg h18 x0 = 13 := e20.tg t15 (by decide)
      obtain ⟨g22, g23, hq⟩ := hq
      refine x_callV (Yc := YX12_must) (as := [.int 3]) (st := [.int 31, rv x0]) q3778 mvX12_must t21 rfl dX12_parseBlock_345 (xle (xal1 (rv_cat _) (xal1 rfl xal0)) (by decide)) (xfr g22) (xlo (xsw1 rfl (xsw1 (rv_cat _) xsw0)) (by decide) g23) (xKi hq (fun x25 h24 hq e26 => ?_) (fun _ _ q _ => q))
      replace hq := hq e26
      have t27 : tg h24 x0 = 13 := e26.tg t21 (by decide)
      obtain ⟨g28, g29, hq⟩ := hq
      refine x_callV (Yc := YX12_node) (as := [.int 31, .int x25]) (st := []) q3798 mvX12_node t27 rfl dX12_parseBlock_348 (xle (xal1 (rv_cat _) (xal1 rfl (xal1 rfl xal0))) (by decide)) (xfr g28) (xlo xsw0 (by decide) g29) (xKi hq (fun x31 h30 hq e32 => ?_) (fun _ _ q _ => q))
      replace hq := hq e32
      refine x_istore (lv' := [(7, .int x31), (0, rv x0), (1, .int x1), (6, .int x6)]) dX12_parseBlock_351 (by decide) rfl ?_
      refine x_aload_n 1 dX12_parseBlock_353 rfl ?_
      refine x_iload 0 dX12_parseBlock_354 rfl ?_
      have t33 : tg h30 x0 = 13 := e32.tg t27 (by decide)
      obtain ⟨g34, g35, hq⟩ := hq
      refine x_callV (Yc := YX12_parseRow) (as := [.int x31]) (st := []) q3866 mvX12_parseRow t33 rfl dX12_parseBlock_356 (xle (xal1 (rv_cat _) (xal1 rfl xal0)) (by decide)) (xfr g34) (xlo xsw0 (by decide) g35) (xKv hq (fun h36 hq e38 => ?_) (fun _ _ q _ => q))
      replace hq := hq e38
      refine x_aload_n 1 dX12_parseBlock_359 rfl ?_
      refine x_bipush (v := 10) dX12_parseBlock_360 (by decide) ?_
      have t39 : tg h36 x0 = 13 := e38.tg t33 (by decide)
      obtain ⟨g40, g41, hq⟩ := hq
      refine x_callV (Yc := YX12_must) (as := [.int 10]) (st := []) q3778 mvX12_must t39 rfl dX12_parseBlock_362 (xle (xal1 (rv_cat _) (xal1 rfl xal0)) (by decide)) (xfr g40) (xlo xsw0 (by decide) g41) (xKi hq (fun x43 h42 hq e44 => ?_) (fun _ _ q _ => q))
      replace hq := hq e44
      refine x_pop dX12_parseBlock_365 rfl ?_
      refine x_aload_n 1 dX12_parseBlock_366 rfl ?_
      refine x_iload_n 2 dX12_parseBlock_367 rfl ?_
      refine x_iload 0 dX12_parseBlock_368 rfl ?_
      have t45 : tg h42 x0 = 13 := e44.tg t39 (by decide)
      obtain ⟨g46, g47, hq⟩ := hq
      refine x_callV (Yc := YX12_add) (as := [.int x1, .int x31]) (st := []) q3810 mvX12_add t45 rfl dX12_parseBlock_370 (xle (xal1 (rv_cat _) (xal1 rfl (xal1 rfl xal0))) (by decide)) (xfr g46) (xlo xsw0 (by decide) g47) (xKv hq (fun h48 hq e50 => ?_) (fun _ _ q _ => q))
      replace hq := hq e50
      refine x_aload_n 1 dX12_parseBlock_373 rfl ?_
      refine x_dup dX12_parseBlock_374 (rv_cat _) ?_
      have t51 : tg h48 x0 = 13 := e50.tg t45 (by decide)
      refine x_get (v := .int (fI h48 x0 3111)) fdX12_451 dX12_parseBlock_375 t51 rfl ?_
      refine x_iconst (v := 1) dX12_parseBlock_378 (by decide) ?_
      refine x_isub dX12_parseBlock_379 ?_
      obtain ⟨h52, e53⟩ : ∃ y, y = sI h48 x0 3111 ((fI h48 x0 3111) - 1) := ⟨_, rfl⟩
      replace hq := hq h52 e53
      refine x_putI fdX12_451 xty_I1 dX12_parseBlock_380 t51 (Or.inl (by rw [t51]; rfl)) xnI rfl e53 ?_
      refine x_iload_n 2 dX12_parseBlock_383 rfl ?_
      exact x_iret rfl rfl dX12_parseBlock_384 hq
    · replace hq := hq.2 c14
      exact uX12_parseBlock_313 hq
set_option maxRecDepth 100000 in
def bX12_parseBlock_277 (G : xG) (fr lo : Nat) (x0 : Nat) (x1 : Int32) (x5 : Int32) (h : xH) (Q : Outcome → xH → Prop) : Prop := tg h x0 = 13 ∧ 1 ≤ fr ∧ 14 ≤ lo ∧ xRv G YX12_add (fr - 1) (lo - 14) [rv x0, .int x1, .int x5] h (fun h4 => xext h h4 → 1 ≤ fr ∧ 14 ≤ lo ∧ xRi G YX12_now (fr - 1) (lo - 14) [rv x0] h4 (fun x11 h10 => xext h4 h10 → 1 ≤ fr ∧ 15 ≤ lo ∧ xRi G YX12_node (fr - 1) (lo - 15) [rv x0, .int 3, .int x11] h10 (fun x17 h16 => xext h10 h16 → lX12_parseBlock_295 G fr lo x0 x1 x17 h16 Q) (fun r h2 => Q (.threw r) h2)) (fun r h2 => Q (.threw r) h2)) (fun r h2 => Q (.threw r) h2)
set_option maxRecDepth 100000 in
theorem uX12_parseBlock_277 {G : xG} {fr lo : Nat} {x0 : Nat} {x1 : Int32} {x5 : Int32} {h : xH} {Q : Outcome → xH → Prop} (hq : bX12_parseBlock_277 G fr lo x0 x1 x5 h Q) : xP G YX12_parseBlock fr lo 277 [(0, rv x0), (1, .int x1), (5, .int x5)] [] h Q := by
  unfold bX12_parseBlock_277 at hq
  refine x_aload_n 0 dX12_parseBlock_277 rfl ?_
  refine x_iload_n 1 dX12_parseBlock_278 rfl ?_
  refine x_iload 2 dX12_parseBlock_279 rfl ?_
  obtain ⟨g1, hq⟩ := hq
  obtain ⟨g2, g3, hq⟩ := hq
  refine x_callV (Yc := YX12_add) (as := [.int x1, .int x5]) (st := []) q3810 mvX12_add g1 rfl dX12_parseBlock_281 (xle (xal1 (rv_cat _) (xal1 rfl (xal1 rfl xal0))) (by decide)) (xfr g2) (xlo xsw0 (by decide) g3) (xKv hq (fun h4 hq e6 => ?_) (fun _ _ q _ => q))
  replace hq := hq e6
  refine x_aload_n 0 dX12_parseBlock_284 rfl ?_
  refine x_iconst (v := 3) dX12_parseBlock_285 (by decide) ?_
  refine x_aload_n 0 dX12_parseBlock_286 rfl ?_
  have t7 : tg h4 x0 = 13 := e6.tg g1 (by decide)
  obtain ⟨g8, g9, hq⟩ := hq
  refine x_callV (Yc := YX12_now) (as := []) (st := [.int 3, rv x0]) q3790 mvX12_now t7 rfl dX12_parseBlock_287 (xle (xal1 (rv_cat _) xal0) (by decide)) (xfr g8) (xlo (xsw1 rfl (xsw1 (rv_cat _) xsw0)) (by decide) g9) (xKi hq (fun x11 h10 hq e12 => ?_) (fun _ _ q _ => q))
  replace hq := hq e12
  have t13 : tg h10 x0 = 13 := e12.tg t7 (by decide)
  obtain ⟨g14, g15, hq⟩ := hq
  refine x_callV (Yc := YX12_node) (as := [.int 3, .int x11]) (st := []) q3798 mvX12_node t13 rfl dX12_parseBlock_290 (xle (xal1 (rv_cat _) (xal1 rfl (xal1 rfl xal0))) (by decide)) (xfr g14) (xlo xsw0 (by decide) g15) (xKi hq (fun x17 h16 hq e18 => ?_) (fun _ _ q _ => q))
  replace hq := hq e18
  refine x_istore (lv' := [(6, .int x17), (0, rv x0), (1, .int x1), (5, .int x5)]) dX12_parseBlock_293 (by decide) rfl ?_
  refine xP.pick (lv' := [(0, rv x0), (1, .int x1), (6, .int x17)]) [1, 2, 0] rfl ?_
  exact hq
set_option maxRecDepth 100000 in
def bX12_parseBlock_251 (G : xG) (fr lo : Nat) (x0 : Nat) (x1 : Int32) (x5 : Int32) (h : xH) (Q : Outcome → xH → Prop) : Prop := tg h x0 = 13 ∧ 1 ≤ fr ∧ 15 ≤ lo ∧ xRi G YX12_parseNamed (fr - 1) (lo - 15) [rv x0] h (fun x5 h4 => xext h h4 → 1 ≤ fr ∧ 14 ≤ lo ∧ xRv G YX12_add (fr - 1) (lo - 14) [rv x0, .int x5, .int x5] h4 (fun h10 => xext h4 h10 → 1 ≤ fr ∧ 13 ≤ lo ∧ xRi G YX12_must (fr - 1) (lo - 13) [rv x0, .int 67] h10 (fun x17 h16 => xext h10 h16 → 1 ≤ fr ∧ 13 ≤ lo ∧ xRi G YX12_sees (fr - 1) (lo - 13) [rv x0, .int 40] h16 (fun x23 h22 => xext h16 h22 → ((¬ x23 = 0 → lX12_parseBlock_251 G fr lo x0 x1 x5 h22 Q) ∧ (x23 = 0 → bX12_parseBlock_277 G fr lo x0 x1 x5 h22 Q))) (fun r h2 => Q (.threw r) h2)) (fun r h2 => Q (.threw r) h2)) (fun r h2 => Q (.threw r) h2)) (fun r h2 => Q (.threw r) h2)
set_option maxRecDepth 100000 in
theorem uX12_parseBlock_251 {G : xG} {fr lo : Nat} {x0 : Nat} {x1 : Int32} {x5 : Int32} {h : xH} {Q : Outcome → xH → Prop} (hq : bX12_parseBlock_251 G fr lo x0 x1 x5 h Q) : xP G YX12_parseBlock fr lo 251 [(0, rv x0), (1, .int x1), (5, .int x5)] [] h Q := by
  unfold bX12_parseBlock_251 at hq
  refine x_aload_n 0 dX12_parseBlock_251 rfl ?_
  refine x_iload 2 dX12_parseBlock_252 rfl ?_
  refine x_aload_n 0 dX12_parseBlock_254 rfl ?_
  obtain ⟨g1, hq⟩ := hq
  obtain ⟨g2, g3, hq⟩ := hq
  refine x_callV (Yc := YX12_parseNamed) (as := []) (st := [.int x5, rv x0]) q3846 mvX12_parseNamed g1 rfl dX12_parseBlock_255 (xle (xal1 (rv_cat _) xal0) (by decide)) (xfr g2) (xlo (xsw1 rfl (xsw1 (rv_cat _) xsw0)) (by decide) g3) (xKi hq (fun x5 h4 hq e6 => ?_) (fun _ _ q _ => q))
  replace hq := hq e6
  have t7 : tg h4 x0 = 13 := e6.tg g1 (by decide)
  obtain ⟨g8, g9, hq⟩ := hq
  refine x_callV (Yc := YX12_add) (as := [.int x5, .int x5]) (st := []) q3810 mvX12_add t7 rfl dX12_parseBlock_258 (xle (xal1 (rv_cat _) (xal1 rfl (xal1 rfl xal0))) (by decide)) (xfr g8) (xlo xsw0 (by decide) g9) (xKv hq (fun h10 hq e12 => ?_) (fun _ _ q _ => q))
  replace hq := hq e12
  refine x_aload_n 0 dX12_parseBlock_261 rfl ?_
  refine x_bipush (v := 67) dX12_parseBlock_262 (by decide) ?_
  have t13 : tg h10 x0 = 13 := e12.tg t7 (by decide)
  obtain ⟨g14, g15, hq⟩ := hq
  refine x_callV (Yc := YX12_must) (as := [.int 67]) (st := []) q3778 mvX12_must t13 rfl dX12_parseBlock_264 (xle (xal1 (rv_cat _) (xal1 rfl xal0)) (by decide)) (xfr g14) (xlo xsw0 (by decide) g15) (xKi hq (fun x17 h16 hq e18 => ?_) (fun _ _ q _ => q))
  replace hq := hq e18
  refine x_pop dX12_parseBlock_267 rfl ?_
  refine x_aload_n 0 dX12_parseBlock_268 rfl ?_
  refine x_bipush (v := 40) dX12_parseBlock_269 (by decide) ?_
  have t19 : tg h16 x0 = 13 := e18.tg t13 (by decide)
  obtain ⟨g20, g21, hq⟩ := hq
  refine x_callV (Yc := YX12_sees) (as := [.int 40]) (st := []) q3782 mvX12_sees t19 rfl dX12_parseBlock_271 (xle (xal1 (rv_cat _) (xal1 rfl xal0)) (by decide)) (xfr g20) (xlo xsw0 (by decide) g21) (xKi hq (fun x23 h22 hq e24 => ?_) (fun _ _ q _ => q))
  replace hq := hq e24
  refine x_if_ne (tgt := 251) dX12_parseBlock_274 (by decide) (fun c25 => ?_) (fun c25 => ?_)
  · replace hq := hq.1 c25
    exact hq
  · replace hq := hq.2 c25
    exact uX12_parseBlock_277 hq
set_option maxRecDepth 100000 in
def bX12_parseBlock_224 (G : xG) (fr lo : Nat) (x0 : Nat) (x1 : Int32) (x4 : Int32) (h : xH) (Q : Outcome → xH → Prop) : Prop := tg h x0 = 13 ∧ 1 ≤ fr ∧ 14 ≤ lo ∧ xRv G YX12_add (fr - 1) (lo - 14) [rv x0, .int x1, .int x4] h (fun h4 => xext h h4 → 1 ≤ fr ∧ 14 ≤ lo ∧ xRi G YX12_now (fr - 1) (lo - 14) [rv x0] h4 (fun x11 h10 => xext h4 h10 → 1 ≤ fr ∧ 15 ≤ lo ∧ xRi G YX12_node (fr - 1) (lo - 15) [rv x0, .int 3, .int x11] h10 (fun x17 h16 => xext h10 h16 → 1 ≤ fr ∧ 13 ≤ lo ∧ xRi G YX12_takes (fr - 1) (lo - 13) [rv x0, .int 33] h16 (fun x23 h22 => xext h16 h22 → ((x23 = 0 → bX12_parseBlock_277 G fr lo x0 x1 x17 h22 Q) ∧ (¬ x23 = 0 → lX12_parseBlock_251 G fr lo x0 x1 x17 h22 Q))) (fun r h2 => Q (.threw r) h2)) (fun r h2 => Q (.threw r) h2)) (fun r h2 => Q (.threw r) h2)) (fun r h2 => Q (.threw r) h2)
set_option maxRecDepth 100000 in
theorem uX12_parseBlock_224 {G : xG} {fr lo : Nat} {x0 : Nat} {x1 : Int32} {x4 : Int32} {h : xH} {Q : Outcome → xH → Prop} (hq : bX12_parseBlock_224 G fr lo x0 x1 x4 h Q) : xP G YX12_parseBlock fr lo 224 [(0, rv x0), (1, .int x1), (4, .int x4)] [] h Q := by
  unfold bX12_parseBlock_224 at hq
  refine x_aload_n 0 dX12_parseBlock_224 rfl ?_
  refine x_iload_n 1 dX12_parseBlock_225 rfl ?_
  refine x_iload 2 dX12_parseBlock_226 rfl ?_
  obtain ⟨g1, hq⟩ := hq
  obtain ⟨g2, g3, hq⟩ := hq
  refine x_callV (Yc := YX12_add) (as := [.int x1, .int x4]) (st := []) q3810 mvX12_add g1 rfl dX12_parseBlock_228 (xle (xal1 (rv_cat _) (xal1 rfl (xal1 rfl xal0))) (by decide)) (xfr g2) (xlo xsw0 (by decide) g3) (xKv hq (fun h4 hq e6 => ?_) (fun _ _ q _ => q))
  replace hq := hq e6
  refine x_aload_n 0 dX12_parseBlock_231 rfl ?_
  refine x_iconst (v := 3) dX12_parseBlock_232 (by decide) ?_
  refine x_aload_n 0 dX12_parseBlock_233 rfl ?_
  have t7 : tg h4 x0 = 13 := e6.tg g1 (by decide)
  obtain ⟨g8, g9, hq⟩ := hq
  refine x_callV (Yc := YX12_now) (as := []) (st := [.int 3, rv x0]) q3790 mvX12_now t7 rfl dX12_parseBlock_234 (xle (xal1 (rv_cat _) xal0) (by decide)) (xfr g8) (xlo (xsw1 rfl (xsw1 (rv_cat _) xsw0)) (by decide) g9) (xKi hq (fun x11 h10 hq e12 => ?_) (fun _ _ q _ => q))
  replace hq := hq e12
  have t13 : tg h10 x0 = 13 := e12.tg t7 (by decide)
  obtain ⟨g14, g15, hq⟩ := hq
  refine x_callV (Yc := YX12_node) (as := [.int 3, .int x11]) (st := []) q3798 mvX12_node t13 rfl dX12_parseBlock_237 (xle (xal1 (rv_cat _) (xal1 rfl (xal1 rfl xal0))) (by decide)) (xfr g14) (xlo xsw0 (by decide) g15) (xKi hq (fun x17 h16 hq e18 => ?_) (fun _ _ q _ => q))
  replace hq := hq e18
  refine x_istore (lv' := [(5, .int x17), (0, rv x0), (1, .int x1), (4, .int x4)]) dX12_parseBlock_240 (by decide) rfl ?_
  refine x_aload_n 1 dX12_parseBlock_242 rfl ?_
  refine x_bipush (v := 33) dX12_parseBlock_243 (by decide) ?_
  have t19 : tg h16 x0 = 13 := e18.tg t13 (by decide)
  obtain ⟨g20, g21, hq⟩ := hq
  refine x_callV (Yc := YX12_takes) (as := [.int 33]) (st := []) q3802 mvX12_takes t19 rfl dX12_parseBlock_245 (xle (xal1 (rv_cat _) (xal1 rfl xal0)) (by decide)) (xfr g20) (xlo xsw0 (by decide) g21) (xKi hq (fun x23 h22 hq e24 => ?_) (fun _ _ q _ => q))
  replace hq := hq e24
  refine x_if_eq (tgt := 277) dX12_parseBlock_248 (by decide) (fun c25 => ?_) (fun c25 => ?_)
  · replace hq := hq.1 c25
    refine xP.pick (lv' := [(0, rv x0), (1, .int x1), (5, .int x17)]) [1, 2, 0] rfl ?_
    exact uX12_parseBlock_277 hq
  · replace hq := hq.2 c25
    refine xP.pick (lv' := [(0, rv x0), (1, .int x1), (5, .int x17)]) [1, 2, 0] rfl ?_
    exact hq
set_option maxRecDepth 100000 in
def bX12_parseBlock_169 (G : xG) (fr lo : Nat) (x0 : Nat) (x1 : Int32) (x4 : Int32) (h : xH) (Q : Outcome → xH → Prop) : Prop := tg h x0 = 13 ∧ 1 ≤ fr ∧ 15 ≤ lo ∧ xRi G YX12_must (fr - 1) (lo - 15) [rv x0, .int 40] h (fun x5 h4 => xext h h4 → 1 ≤ fr ∧ 15 ≤ lo ∧ xRi G YX12_node (fr - 1) (lo - 15) [rv x0, .int 6, .int x5] h4 (fun x11 h10 => xext h4 h10 → 1 ≤ fr ∧ 13 ≤ lo ∧ xRi G YX12_must (fr - 1) (lo - 13) [rv x0, .int 54] h10 (fun x17 h16 => xext h10 h16 → 1 ≤ fr ∧ 15 ≤ lo ∧ xRi G YX12_parseType (fr - 1) (lo - 15) [rv x0] h16 (fun x23 h22 => xext h16 h22 → 1 ≤ fr ∧ 14 ≤ lo ∧ xRv G YX12_add (fr - 1) (lo - 14) [rv x0, .int x11, .int x23] h22 (fun h28 => xext h22 h28 → 1 ≤ fr ∧ 13 ≤ lo ∧ xRi G YX12_must (fr - 1) (lo - 13) [rv x0, .int 67] h28 (fun x35 h34 => xext h28 h34 → 1 ≤ fr ∧ 14 ≤ lo ∧ xRv G YX12_add (fr - 1) (lo - 14) [rv x0, .int x4, .int x11] h34 (fun h40 => xext h34 h40 → 1 ≤ fr ∧ 13 ≤ lo ∧ xRi G YX12_sees (fr - 1) (lo - 13) [rv x0, .int 40] h40 (fun x47 h46 => xext h40 h46 → ((¬ x47 = 0 → lX12_parseBlock_169 G fr lo x0 x1 x4 h46 Q) ∧ (x47 = 0 → bX12_parseBlock_224 G fr lo x0 x1 x4 h46 Q))) (fun r h2 => Q (.threw r) h2)) (fun r h2 => Q (.threw r) h2)) (fun r h2 => Q (.threw r) h2)) (fun r h2 => Q (.threw r) h2)) (fun r h2 => Q (.threw r) h2)) (fun r h2 => Q (.threw r) h2)) (fun r h2 => Q (.threw r) h2)) (fun r h2 => Q (.threw r) h2)
set_option maxRecDepth 100000 in
theorem uX12_parseBlock_169 {G : xG} {fr lo : Nat} {x0 : Nat} {x1 : Int32} {x4 : Int32} {h : xH} {Q : Outcome → xH → Prop} (hq : bX12_parseBlock_169 G fr lo x0 x1 x4 h Q) : xP G YX12_parseBlock fr lo 169 [(0, rv x0), (1, .int x1), (4, .int x4)] [] h Q := by
  unfold bX12_parseBlock_169 at hq
  refine x_aload_n 0 dX12_parseBlock_169 rfl ?_
  refine x_bipush (v := 6) dX12_parseBlock_170 (by decide) ?_
  refine x_aload_n 0 dX12_parseBlock_172 rfl ?_
  refine x_bipush (v := 40) dX12_parseBlock_173 (by decide) ?_
  obtain ⟨g1, hq⟩ := hq
  obtain ⟨g2, g3, hq⟩ := hq
  refine x_callV (Yc := YX12_must) (as := [.int 40]) (st := [.int 6, rv x0]) q3778 mvX12_must g1 rfl dX12_parseBlock_175 (xle (xal1 (rv_cat _) (xal1 rfl xal0)) (by decide)) (xfr g2) (xlo (xsw1 rfl (xsw1 (rv_cat _) xsw0)) (by decide) g3) (xKi hq (fun x5 h4 hq e6 => ?_) (fun _ _ q _ => q))
  replace hq := hq e6
  have t7 : tg h4 x0 = 13 := e6.tg g1 (by decide)
  obtain ⟨g8, g9, hq⟩ := hq
  refine x_callV (Yc := YX12_node) (as := [.int 6, .int x5]) (st := []) q3798 mvX12_node t7 rfl dX12_parseBlock_178 (xle (xal1 (rv_cat _) (xal1 rfl (xal1 rfl xal0))) (by decide)) (xfr g8) (xlo xsw0 (by decide) g9) (xKi hq (fun x11 h10 hq e12 => ?_) (fun _ _ q _ => q))
  replace hq := hq e12
  refine x_istore (lv' := [(5, .int x11), (0, rv x0), (1, .int x1), (4, .int x4)]) dX12_parseBlock_181 (by decide) rfl ?_
  refine x_aload_n 1 dX12_parseBlock_183 rfl ?_
  refine x_bipush (v := 54) dX12_parseBlock_184 (by decide) ?_
  have t13 : tg h10 x0 = 13 := e12.tg t7 (by decide)
  obtain ⟨g14, g15, hq⟩ := hq
  refine x_callV (Yc := YX12_must) (as := [.int 54]) (st := []) q3778 mvX12_must t13 rfl dX12_parseBlock_186 (xle (xal1 (rv_cat _) (xal1 rfl xal0)) (by decide)) (xfr g14) (xlo xsw0 (by decide) g15) (xKi hq (fun x17 h16 hq e18 => ?_) (fun _ _ q _ => q))
  replace hq := hq e18
  refine x_pop dX12_parseBlock_189 rfl ?_
  refine x_aload_n 1 dX12_parseBlock_190 rfl ?_
  refine x_iload 0 dX12_parseBlock_191 rfl ?_
  refine x_aload_n 1 dX12_parseBlock_193 rfl ?_
  have t19 : tg h16 x0 = 13 := e18.tg t13 (by decide)
  obtain ⟨g20, g21, hq⟩ := hq
  refine x_callV (Yc := YX12_parseType) (as := []) (st := [.int x11, rv x0]) q3826 mvX12_parseType t19 rfl dX12_parseBlock_194 (xle (xal1 (rv_cat _) xal0) (by decide)) (xfr g20) (xlo (xsw1 rfl (xsw1 (rv_cat _) xsw0)) (by decide) g21) (xKi hq (fun x23 h22 hq e24 => ?_) (fun _ _ q _ => q))
  replace hq := hq e24
  have t25 : tg h22 x0 = 13 := e24.tg t19 (by decide)
  obtain ⟨g26, g27, hq⟩ := hq
  refine x_callV (Yc := YX12_add) (as := [.int x11, .int x23]) (st := []) q3810 mvX12_add t25 rfl dX12_parseBlock_197 (xle (xal1 (rv_cat _) (xal1 rfl (xal1 rfl xal0))) (by decide)) (xfr g26) (xlo xsw0 (by decide) g27) (xKv hq (fun h28 hq e30 => ?_) (fun _ _ q _ => q))
  replace hq := hq e30
  refine x_aload_n 1 dX12_parseBlock_200 rfl ?_
  refine x_bipush (v := 67) dX12_parseBlock_201 (by decide) ?_
  have t31 : tg h28 x0 = 13 := e30.tg t25 (by decide)
  obtain ⟨g32, g33, hq⟩ := hq
  refine x_callV (Yc := YX12_must) (as := [.int 67]) (st := []) q3778 mvX12_must t31 rfl dX12_parseBlock_203 (xle (xal1 (rv_cat _) (xal1 rfl xal0)) (by decide)) (xfr g32) (xlo xsw0 (by decide) g33) (xKi hq (fun x35 h34 hq e36 => ?_) (fun _ _ q _ => q))
  replace hq := hq e36
  refine x_pop dX12_parseBlock_206 rfl ?_
  refine x_aload_n 1 dX12_parseBlock_207 rfl ?_
  refine x_iload 3 dX12_parseBlock_208 rfl ?_
  refine x_iload 0 dX12_parseBlock_210 rfl ?_
  have t37 : tg h34 x0 = 13 := e36.tg t31 (by decide)
  obtain ⟨g38, g39, hq⟩ := hq
  refine x_callV (Yc := YX12_add) (as := [.int x4, .int x11]) (st := []) q3810 mvX12_add t37 rfl dX12_parseBlock_212 (xle (xal1 (rv_cat _) (xal1 rfl (xal1 rfl xal0))) (by decide)) (xfr g38) (xlo xsw0 (by decide) g39) (xKv hq (fun h40 hq e42 => ?_) (fun _ _ q _ => q))
  replace hq := hq e42
  refine x_aload_n 1 dX12_parseBlock_215 rfl ?_
  refine x_bipush (v := 40) dX12_parseBlock_216 (by decide) ?_
  have t43 : tg h40 x0 = 13 := e42.tg t37 (by decide)
  obtain ⟨g44, g45, hq⟩ := hq
  refine x_callV (Yc := YX12_sees) (as := [.int 40]) (st := []) q3782 mvX12_sees t43 rfl dX12_parseBlock_218 (xle (xal1 (rv_cat _) (xal1 rfl xal0)) (by decide)) (xfr g44) (xlo xsw0 (by decide) g45) (xKi hq (fun x47 h46 hq e48 => ?_) (fun _ _ q _ => q))
  replace hq := hq e48
  refine x_if_ne (tgt := 169) dX12_parseBlock_221 (by decide) (fun c49 => ?_) (fun c49 => ?_)
  · replace hq := hq.1 c49
    refine xP.pick (lv' := [(0, rv x0), (1, .int x1), (4, .int x4)]) [1, 2, 3] rfl ?_
    exact hq
  · replace hq := hq.2 c49
    refine xP.pick (lv' := [(0, rv x0), (1, .int x1), (4, .int x4)]) [1, 2, 3] rfl ?_
    exact uX12_parseBlock_224 hq
set_option maxRecDepth 100000 in
def bX12_parseBlock_143 (G : xG) (fr lo : Nat) (x0 : Nat) (x1 : Int32) (x3 : Int32) (h : xH) (Q : Outcome → xH → Prop) : Prop := tg h x0 = 13 ∧ 1 ≤ fr ∧ 14 ≤ lo ∧ xRv G YX12_add (fr - 1) (lo - 14) [rv x0, .int x1, .int x3] h (fun h4 => xext h h4 → 1 ≤ fr ∧ 14 ≤ lo ∧ xRi G YX12_now (fr - 1) (lo - 14) [rv x0] h4 (fun x11 h10 => xext h4 h10 → 1 ≤ fr ∧ 15 ≤ lo ∧ xRi G YX12_node (fr - 1) (lo - 15) [rv x0, .int 3, .int x11] h10 (fun x17 h16 => xext h10 h16 → 1 ≤ fr ∧ 13 ≤ lo ∧ xRi G YX12_takes (fr - 1) (lo - 13) [rv x0, .int 31] h16 (fun x23 h22 => xext h16 h22 → ((x23 = 0 → bX12_parseBlock_224 G fr lo x0 x1 x17 h22 Q) ∧ (¬ x23 = 0 → lX12_parseBlock_169 G fr lo x0 x1 x17 h22 Q))) (fun r h2 => Q (.threw r) h2)) (fun r h2 => Q (.threw r) h2)) (fun r h2 => Q (.threw r) h2)) (fun r h2 => Q (.threw r) h2)
set_option maxRecDepth 100000 in
theorem uX12_parseBlock_143 {G : xG} {fr lo : Nat} {x0 : Nat} {x1 : Int32} {x3 : Int32} {h : xH} {Q : Outcome → xH → Prop} (hq : bX12_parseBlock_143 G fr lo x0 x1 x3 h Q) : xP G YX12_parseBlock fr lo 143 [(0, rv x0), (1, .int x1), (3, .int x3)] [] h Q := by
  unfold bX12_parseBlock_143 at hq
  refine x_aload_n 0 dX12_parseBlock_143 rfl ?_
  refine x_iload_n 1 dX12_parseBlock_144 rfl ?_
  refine x_iload_n 2 dX12_parseBlock_145 rfl ?_
  obtain ⟨g1, hq⟩ := hq
  obtain ⟨g2, g3, hq⟩ := hq
  refine x_callV (Yc := YX12_add) (as := [.int x1, .int x3]) (st := []) q3810 mvX12_add g1 rfl dX12_parseBlock_146 (xle (xal1 (rv_cat _) (xal1 rfl (xal1 rfl xal0))) (by decide)) (xfr g2) (xlo xsw0 (by decide) g3) (xKv hq (fun h4 hq e6 => ?_) (fun _ _ q _ => q))
  replace hq := hq e6
  refine x_aload_n 0 dX12_parseBlock_149 rfl ?_
  refine x_iconst (v := 3) dX12_parseBlock_150 (by decide) ?_
  refine x_aload_n 0 dX12_parseBlock_151 rfl ?_
  have t7 : tg h4 x0 = 13 := e6.tg g1 (by decide)
  obtain ⟨g8, g9, hq⟩ := hq
  refine x_callV (Yc := YX12_now) (as := []) (st := [.int 3, rv x0]) q3790 mvX12_now t7 rfl dX12_parseBlock_152 (xle (xal1 (rv_cat _) xal0) (by decide)) (xfr g8) (xlo (xsw1 rfl (xsw1 (rv_cat _) xsw0)) (by decide) g9) (xKi hq (fun x11 h10 hq e12 => ?_) (fun _ _ q _ => q))
  replace hq := hq e12
  have t13 : tg h10 x0 = 13 := e12.tg t7 (by decide)
  obtain ⟨g14, g15, hq⟩ := hq
  refine x_callV (Yc := YX12_node) (as := [.int 3, .int x11]) (st := []) q3798 mvX12_node t13 rfl dX12_parseBlock_155 (xle (xal1 (rv_cat _) (xal1 rfl (xal1 rfl xal0))) (by decide)) (xfr g14) (xlo xsw0 (by decide) g15) (xKi hq (fun x17 h16 hq e18 => ?_) (fun _ _ q _ => q))
  replace hq := hq e18
  refine x_istore (lv' := [(4, .int x17), (0, rv x0), (1, .int x1), (3, .int x3)]) dX12_parseBlock_158 (by decide) rfl ?_
  refine x_aload_n 1 dX12_parseBlock_160 rfl ?_
  refine x_bipush (v := 31) dX12_parseBlock_161 (by decide) ?_
  have t19 : tg h16 x0 = 13 := e18.tg t13 (by decide)
  obtain ⟨g20, g21, hq⟩ := hq
  refine x_callV (Yc := YX12_takes) (as := [.int 31]) (st := []) q3802 mvX12_takes t19 rfl dX12_parseBlock_163 (xle (xal1 (rv_cat _) (xal1 rfl xal0)) (by decide)) (xfr g20) (xlo xsw0 (by decide) g21) (xKi hq (fun x23 h22 hq e24 => ?_) (fun _ _ q _ => q))
  replace hq := hq e24
  refine x_if_eq (tgt := 224) dX12_parseBlock_166 (by decide) (fun c25 => ?_) (fun c25 => ?_)
  · replace hq := hq.1 c25
    refine xP.pick (lv' := [(0, rv x0), (1, .int x1), (4, .int x17)]) [1, 2, 0] rfl ?_
    exact uX12_parseBlock_224 hq
  · replace hq := hq.2 c25
    refine xP.pick (lv' := [(0, rv x0), (1, .int x1), (4, .int x17)]) [1, 2, 0] rfl ?_
    exact hq
set_option maxRecDepth 100000 in
def bX12_parseBlock_89 (G : xG) (fr lo : Nat) (x0 : Nat) (x1 : Int32) (x3 : Int32) (h : xH) (Q : Outcome → xH → Prop) : Prop := tg h x0 = 13 ∧ 1 ≤ fr ∧ 15 ≤ lo ∧ xRi G YX12_must (fr - 1) (lo - 15) [rv x0, .int 40] h (fun x5 h4 => xext h h4 → 1 ≤ fr ∧ 15 ≤ lo ∧ xRi G YX12_node (fr - 1) (lo - 15) [rv x0, .int 6, .int x5] h4 (fun x11 h10 => xext h4 h10 → 1 ≤ fr ∧ 13 ≤ lo ∧ xRi G YX12_must (fr - 1) (lo - 13) [rv x0, .int 54] h10 (fun x17 h16 => xext h10 h16 → 1 ≤ fr ∧ 15 ≤ lo ∧ xRi G YX12_parseConstant (fr - 1) (lo - 15) [rv x0] h16 (fun x23 h22 => xext h16 h22 → 1 ≤ fr ∧ 14 ≤ lo ∧ xRv G YX12_add (fr - 1) (lo - 14) [rv x0, .int x11, .int x23] h22 (fun h28 => xext h22 h28 → 1 ≤ fr ∧ 13 ≤ lo ∧ xRi G YX12_must (fr - 1) (lo - 13) [rv x0, .int 67] h28 (fun x35 h34 => xext h28 h34 → 1 ≤ fr ∧ 14 ≤ lo ∧ xRv G YX12_add (fr - 1) (lo - 14) [rv x0, .int x3, .int x11] h34 (fun h40 => xext h34 h40 → 1 ≤ fr ∧ 13 ≤ lo ∧ xRi G YX12_sees (fr - 1) (lo - 13) [rv x0, .int 40] h40 (fun x47 h46 => xext h40 h46 → ((¬ x47 = 0 → lX12_parseBlock_89 G fr lo x0 x1 x3 h46 Q) ∧ (x47 = 0 → bX12_parseBlock_143 G fr lo x0 x1 x3 h46 Q))) (fun r h2 => Q (.threw r) h2)) (fun r h2 => Q (.threw r) h2)) (fun r h2 => Q (.threw r) h2)) (fun r h2 => Q (.threw r) h2)) (fun r h2 => Q (.threw r) h2)) (fun r h2 => Q (.threw r) h2)) (fun r h2 => Q (.threw r) h2)) (fun r h2 => Q (.threw r) h2)
set_option maxRecDepth 100000 in
theorem uX12_parseBlock_89 {G : xG} {fr lo : Nat} {x0 : Nat} {x1 : Int32} {x3 : Int32} {h : xH} {Q : Outcome → xH → Prop} (hq : bX12_parseBlock_89 G fr lo x0 x1 x3 h Q) : xP G YX12_parseBlock fr lo 89 [(0, rv x0), (1, .int x1), (3, .int x3)] [] h Q := by
  unfold bX12_parseBlock_89 at hq
  refine x_aload_n 0 dX12_parseBlock_89 rfl ?_
  refine x_bipush (v := 6) dX12_parseBlock_90 (by decide) ?_
  refine x_aload_n 0 dX12_parseBlock_92 rfl ?_
  refine x_bipush (v := 40) dX12_parseBlock_93 (by decide) ?_
  obtain ⟨g1, hq⟩ := hq
  obtain ⟨g2, g3, hq⟩ := hq
  refine x_callV (Yc := YX12_must) (as := [.int 40]) (st := [.int 6, rv x0]) q3778 mvX12_must g1 rfl dX12_parseBlock_95 (xle (xal1 (rv_cat _) (xal1 rfl xal0)) (by decide)) (xfr g2) (xlo (xsw1 rfl (xsw1 (rv_cat _) xsw0)) (by decide) g3) (xKi hq (fun x5 h4 hq e6 => ?_) (fun _ _ q _ => q))
  replace hq := hq e6
  have t7 : tg h4 x0 = 13 := e6.tg g1 (by decide)
  obtain ⟨g8, g9, hq⟩ := hq
  refine x_callV (Yc := YX12_node) (as := [.int 6, .int x5]) (st := []) q3798 mvX12_node t7 rfl dX12_parseBlock_98 (xle (xal1 (rv_cat _) (xal1 rfl (xal1 rfl xal0))) (by decide)) (xfr g8) (xlo xsw0 (by decide) g9) (xKi hq (fun x11 h10 hq e12 => ?_) (fun _ _ q _ => q))
  replace hq := hq e12
  refine x_istore (lv' := [(4, .int x11), (0, rv x0), (1, .int x1), (3, .int x3)]) dX12_parseBlock_101 (by decide) rfl ?_
  refine x_aload_n 1 dX12_parseBlock_103 rfl ?_
  refine x_bipush (v := 54) dX12_parseBlock_104 (by decide) ?_
  have t13 : tg h10 x0 = 13 := e12.tg t7 (by decide)
  obtain ⟨g14, g15, hq⟩ := hq
  refine x_callV (Yc := YX12_must) (as := [.int 54]) (st := []) q3778 mvX12_must t13 rfl dX12_parseBlock_106 (xle (xal1 (rv_cat _) (xal1 rfl xal0)) (by decide)) (xfr g14) (xlo xsw0 (by decide) g15) (xKi hq (fun x17 h16 hq e18 => ?_) (fun _ _ q _ => q))
  replace hq := hq e18
  refine x_pop dX12_parseBlock_109 rfl ?_
  refine x_aload_n 1 dX12_parseBlock_110 rfl ?_
  refine x_iload 0 dX12_parseBlock_111 rfl ?_
  refine x_aload_n 1 dX12_parseBlock_113 rfl ?_
  have t19 : tg h16 x0 = 13 := e18.tg t13 (by decide)
  obtain ⟨g20, g21, hq⟩ := hq
  refine x_callV (Yc := YX12_parseConstant) (as := []) (st := [.int x11, rv x0]) q3822 mvX12_parseConstant t19 rfl dX12_parseBlock_114 (xle (xal1 (rv_cat _) xal0) (by decide)) (xfr g20) (xlo (xsw1 rfl (xsw1 (rv_cat _) xsw0)) (by decide) g21) (xKi hq (fun x23 h22 hq e24 => ?_) (fun _ _ q _ => q))
  replace hq := hq e24
  have t25 : tg h22 x0 = 13 := e24.tg t19 (by decide)
  obtain ⟨g26, g27, hq⟩ := hq
  refine x_callV (Yc := YX12_add) (as := [.int x11, .int x23]) (st := []) q3810 mvX12_add t25 rfl dX12_parseBlock_117 (xle (xal1 (rv_cat _) (xal1 rfl (xal1 rfl xal0))) (by decide)) (xfr g26) (xlo xsw0 (by decide) g27) (xKv hq (fun h28 hq e30 => ?_) (fun _ _ q _ => q))
  replace hq := hq e30
  refine x_aload_n 1 dX12_parseBlock_120 rfl ?_
  refine x_bipush (v := 67) dX12_parseBlock_121 (by decide) ?_
  have t31 : tg h28 x0 = 13 := e30.tg t25 (by decide)
  obtain ⟨g32, g33, hq⟩ := hq
  refine x_callV (Yc := YX12_must) (as := [.int 67]) (st := []) q3778 mvX12_must t31 rfl dX12_parseBlock_123 (xle (xal1 (rv_cat _) (xal1 rfl xal0)) (by decide)) (xfr g32) (xlo xsw0 (by decide) g33) (xKi hq (fun x35 h34 hq e36 => ?_) (fun _ _ q _ => q))
  replace hq := hq e36
  refine x_pop dX12_parseBlock_126 rfl ?_
  refine x_aload_n 1 dX12_parseBlock_127 rfl ?_
  refine x_iload_n 3 dX12_parseBlock_128 rfl ?_
  refine x_iload 0 dX12_parseBlock_129 rfl ?_
  have t37 : tg h34 x0 = 13 := e36.tg t31 (by decide)
  obtain ⟨g38, g39, hq⟩ := hq
  refine x_callV (Yc := YX12_add) (as := [.int x3, .int x11]) (st := []) q3810 mvX12_add t37 rfl dX12_parseBlock_131 (xle (xal1 (rv_cat _) (xal1 rfl (xal1 rfl xal0))) (by decide)) (xfr g38) (xlo xsw0 (by decide) g39) (xKv hq (fun h40 hq e42 => ?_) (fun _ _ q _ => q))
  replace hq := hq e42
  refine x_aload_n 1 dX12_parseBlock_134 rfl ?_
  refine x_bipush (v := 40) dX12_parseBlock_135 (by decide) ?_
  have t43 : tg h40 x0 = 13 := e42.tg t37 (by decide)
  obtain ⟨g44, g45, hq⟩ := hq
  refine x_callV (Yc := YX12_sees) (as := [.int 40]) (st := []) q3782 mvX12_sees t43 rfl dX12_parseBlock_137 (xle (xal1 (rv_cat _) (xal1 rfl xal0)) (by decide)) (xfr g44) (xlo xsw0 (by decide) g45) (xKi hq (fun x47 h46 hq e48 => ?_) (fun _ _ q _ => q))
  replace hq := hq e48
  refine x_if_ne (tgt := 89) dX12_parseBlock_140 (by decide) (fun c49 => ?_) (fun c49 => ?_)
  · replace hq := hq.1 c49
    refine xP.pick (lv' := [(0, rv x0), (1, .int x1), (3, .int x3)]) [1, 2, 3] rfl ?_
    exact hq
  · replace hq := hq.2 c49
    refine xP.pick (lv' := [(0, rv x0), (1, .int x1), (3, .int x3)]) [1, 2, 3] rfl ?_
    exact uX12_parseBlock_143 hq
set_option maxRecDepth 100000 in
def bX12_parseBlock_65 (G : xG) (fr lo : Nat) (x0 : Nat) (x1 : Int32) (x2 : Int32) (h : xH) (Q : Outcome → xH → Prop) : Prop := tg h x0 = 13 ∧ 1 ≤ fr ∧ 14 ≤ lo ∧ xRv G YX12_add (fr - 1) (lo - 14) [rv x0, .int x1, .int x2] h (fun h4 => xext h h4 → 1 ≤ fr ∧ 14 ≤ lo ∧ xRi G YX12_now (fr - 1) (lo - 14) [rv x0] h4 (fun x11 h10 => xext h4 h10 → 1 ≤ fr ∧ 15 ≤ lo ∧ xRi G YX12_node (fr - 1) (lo - 15) [rv x0, .int 3, .int x11] h10 (fun x17 h16 => xext h10 h16 → 1 ≤ fr ∧ 13 ≤ lo ∧ xRi G YX12_takes (fr - 1) (lo - 13) [rv x0, .int 5] h16 (fun x23 h22 => xext h16 h22 → ((x23 = 0 → bX12_parseBlock_143 G fr lo x0 x1 x17 h22 Q) ∧ (¬ x23 = 0 → lX12_parseBlock_89 G fr lo x0 x1 x17 h22 Q))) (fun r h2 => Q (.threw r) h2)) (fun r h2 => Q (.threw r) h2)) (fun r h2 => Q (.threw r) h2)) (fun r h2 => Q (.threw r) h2)
set_option maxRecDepth 100000 in
theorem uX12_parseBlock_65 {G : xG} {fr lo : Nat} {x0 : Nat} {x1 : Int32} {x2 : Int32} {h : xH} {Q : Outcome → xH → Prop} (hq : bX12_parseBlock_65 G fr lo x0 x1 x2 h Q) : xP G YX12_parseBlock fr lo 65 [(0, rv x0), (1, .int x1), (2, .int x2)] [] h Q := by
  unfold bX12_parseBlock_65 at hq
  refine x_aload_n 0 dX12_parseBlock_65 rfl ?_
  refine x_iload_n 1 dX12_parseBlock_66 rfl ?_
  refine x_iload_n 2 dX12_parseBlock_67 rfl ?_
  obtain ⟨g1, hq⟩ := hq
  obtain ⟨g2, g3, hq⟩ := hq
  refine x_callV (Yc := YX12_add) (as := [.int x1, .int x2]) (st := []) q3810 mvX12_add g1 rfl dX12_parseBlock_68 (xle (xal1 (rv_cat _) (xal1 rfl (xal1 rfl xal0))) (by decide)) (xfr g2) (xlo xsw0 (by decide) g3) (xKv hq (fun h4 hq e6 => ?_) (fun _ _ q _ => q))
  replace hq := hq e6
  refine x_aload_n 0 dX12_parseBlock_71 rfl ?_
  refine x_iconst (v := 3) dX12_parseBlock_72 (by decide) ?_
  refine x_aload_n 0 dX12_parseBlock_73 rfl ?_
  have t7 : tg h4 x0 = 13 := e6.tg g1 (by decide)
  obtain ⟨g8, g9, hq⟩ := hq
  refine x_callV (Yc := YX12_now) (as := []) (st := [.int 3, rv x0]) q3790 mvX12_now t7 rfl dX12_parseBlock_74 (xle (xal1 (rv_cat _) xal0) (by decide)) (xfr g8) (xlo (xsw1 rfl (xsw1 (rv_cat _) xsw0)) (by decide) g9) (xKi hq (fun x11 h10 hq e12 => ?_) (fun _ _ q _ => q))
  replace hq := hq e12
  have t13 : tg h10 x0 = 13 := e12.tg t7 (by decide)
  obtain ⟨g14, g15, hq⟩ := hq
  refine x_callV (Yc := YX12_node) (as := [.int 3, .int x11]) (st := []) q3798 mvX12_node t13 rfl dX12_parseBlock_77 (xle (xal1 (rv_cat _) (xal1 rfl (xal1 rfl xal0))) (by decide)) (xfr g14) (xlo xsw0 (by decide) g15) (xKi hq (fun x17 h16 hq e18 => ?_) (fun _ _ q _ => q))
  replace hq := hq e18
  refine x_istore_n (lv' := [(3, .int x17), (0, rv x0), (1, .int x1), (2, .int x2)]) dX12_parseBlock_80 (by decide) rfl ?_
  refine x_aload_n 1 dX12_parseBlock_81 rfl ?_
  refine x_iconst (v := 5) dX12_parseBlock_82 (by decide) ?_
  have t19 : tg h16 x0 = 13 := e18.tg t13 (by decide)
  obtain ⟨g20, g21, hq⟩ := hq
  refine x_callV (Yc := YX12_takes) (as := [.int 5]) (st := []) q3802 mvX12_takes t19 rfl dX12_parseBlock_83 (xle (xal1 (rv_cat _) (xal1 rfl xal0)) (by decide)) (xfr g20) (xlo xsw0 (by decide) g21) (xKi hq (fun x23 h22 hq e24 => ?_) (fun _ _ q _ => q))
  replace hq := hq e24
  refine x_if_eq (tgt := 143) dX12_parseBlock_86 (by decide) (fun c25 => ?_) (fun c25 => ?_)
  · replace hq := hq.1 c25
    refine xP.pick (lv' := [(0, rv x0), (1, .int x1), (3, .int x17)]) [1, 2, 0] rfl ?_
    exact uX12_parseBlock_143 hq
  · replace hq := hq.2 c25
    refine xP.pick (lv' := [(0, rv x0), (1, .int x1), (3, .int x17)]) [1, 2, 0] rfl ?_
    exact hq
set_option maxRecDepth 100000 in
def bX12_parseBlock_33 (G : xG) (fr lo : Nat) (x0 : Nat) (x1 : Int32) (x2 : Int32) (h : xH) (Q : Outcome → xH → Prop) : Prop := tg h x0 = 13 ∧ 1 ≤ fr ∧ 17 ≤ lo ∧ xRi G YX12_must (fr - 1) (lo - 17) [rv x0, .int 41] h (fun x5 h4 => xext h h4 → 1 ≤ fr ∧ 17 ≤ lo ∧ xRi G YX12_node (fr - 1) (lo - 17) [rv x0, .int 5, .int x5] h4 (fun x11 h10 => xext h4 h10 → 1 ≤ fr ∧ 14 ≤ lo ∧ xRv G YX12_add (fr - 1) (lo - 14) [rv x0, .int x2, .int x11] h10 (fun h16 => xext h10 h16 → 1 ≤ fr ∧ 13 ≤ lo ∧ xRi G YX12_takes (fr - 1) (lo - 13) [rv x0, .int 66] h16 (fun x23 h22 => xext h16 h22 → ((¬ x23 = 0 → lX12_parseBlock_33 G fr lo x0 x1 x2 h22 Q) ∧ (x23 = 0 → 1 ≤ fr ∧ 13 ≤ lo ∧ xRi G YX12_must (fr - 1) (lo - 13) [rv x0, .int 67] h22 (fun x30 h29 => xext h22 h29 → bX12_parseBlock_65 G fr lo x0 x1 x2 h29 Q) (fun r h2 => Q (.threw r) h2)))) (fun r h2 => Q (.threw r) h2)) (fun r h2 => Q (.threw r) h2)) (fun r h2 => Q (.threw r) h2)) (fun r h2 => Q (.threw r) h2)
set_option maxRecDepth 100000 in
theorem uX12_parseBlock_33 {G : xG} {fr lo : Nat} {x0 : Nat} {x1 : Int32} {x2 : Int32} {h : xH} {Q : Outcome → xH → Prop} (hq : bX12_parseBlock_33 G fr lo x0 x1 x2 h Q) : xP G YX12_parseBlock fr lo 33 [(0, rv x0), (1, .int x1), (2, .int x2)] [] h Q := by
  unfold bX12_parseBlock_33 at hq
  refine x_aload_n 0 dX12_parseBlock_33 rfl ?_
  refine x_iload_n 2 dX12_parseBlock_34 rfl ?_
  refine x_aload_n 0 dX12_parseBlock_35 rfl ?_
  refine x_iconst (v := 5) dX12_parseBlock_36 (by decide) ?_
  refine x_aload_n 0 dX12_parseBlock_37 rfl ?_
  refine x_bipush (v := 41) dX12_parseBlock_38 (by decide) ?_
  obtain ⟨g1, hq⟩ := hq
  obtain ⟨g2, g3, hq⟩ := hq
  refine x_callV (Yc := YX12_must) (as := [.int 41]) (st := [.int 5, rv x0, .int x2, rv x0]) q3778 mvX12_must g1 rfl dX12_parseBlock_40 (xle (xal1 (rv_cat _) (xal1 rfl xal0)) (by decide)) (xfr g2) (xlo (xsw1 rfl (xsw1 (rv_cat _) (xsw1 rfl (xsw1 (rv_cat _) xsw0)))) (by decide) g3) (xKi hq (fun x5 h4 hq e6 => ?_) (fun _ _ q _ => q))
  replace hq := hq e6
  have t7 : tg h4 x0 = 13 := e6.tg g1 (by decide)
  obtain ⟨g8, g9, hq⟩ := hq
  refine x_callV (Yc := YX12_node) (as := [.int 5, .int x5]) (st := [.int x2, rv x0]) q3798 mvX12_node t7 rfl dX12_parseBlock_43 (xle (xal1 (rv_cat _) (xal1 rfl (xal1 rfl xal0))) (by decide)) (xfr g8) (xlo (xsw1 rfl (xsw1 (rv_cat _) xsw0)) (by decide) g9) (xKi hq (fun x11 h10 hq e12 => ?_) (fun _ _ q _ => q))
  replace hq := hq e12
  have t13 : tg h10 x0 = 13 := e12.tg t7 (by decide)
  obtain ⟨g14, g15, hq⟩ := hq
  refine x_callV (Yc := YX12_add) (as := [.int x2, .int x11]) (st := []) q3810 mvX12_add t13 rfl dX12_parseBlock_46 (xle (xal1 (rv_cat _) (xal1 rfl (xal1 rfl xal0))) (by decide)) (xfr g14) (xlo xsw0 (by decide) g15) (xKv hq (fun h16 hq e18 => ?_) (fun _ _ q _ => q))
  replace hq := hq e18
  refine x_aload_n 0 dX12_parseBlock_49 rfl ?_
  refine x_bipush (v := 66) dX12_parseBlock_50 (by decide) ?_
  have t19 : tg h16 x0 = 13 := e18.tg t13 (by decide)
  obtain ⟨g20, g21, hq⟩ := hq
  refine x_callV (Yc := YX12_takes) (as := [.int 66]) (st := []) q3802 mvX12_takes t19 rfl dX12_parseBlock_52 (xle (xal1 (rv_cat _) (xal1 rfl xal0)) (by decide)) (xfr g20) (xlo xsw0 (by decide) g21) (xKi hq (fun x23 h22 hq e24 => ?_) (fun _ _ q _ => q))
  replace hq := hq e24
  refine x_if_ne (tgt := 33) dX12_parseBlock_55 (by decide) (fun c25 => ?_) (fun c25 => ?_)
  · replace hq := hq.1 c25
    exact hq
  · replace hq := hq.2 c25
    refine x_aload_n 0 dX12_parseBlock_58 rfl ?_
    refine x_bipush (v := 67) dX12_parseBlock_59 (by decide) ?_
    have t26 : tg h22 x0 = 13 := e24.tg t19 (by decide)
    obtain ⟨g27, g28, hq⟩ := hq
    refine x_callV (Yc := YX12_must) (as := [.int 67]) (st := []) q3778 mvX12_must t26 rfl dX12_parseBlock_61 (xle (xal1 (rv_cat _) (xal1 rfl xal0)) (by decide)) (xfr g27) (xlo xsw0 (by decide) g28) (xKi hq (fun x30 h29 hq e31 => ?_) (fun _ _ q _ => q))
    replace hq := hq e31
    refine x_pop dX12_parseBlock_64 rfl ?_
    exact uX12_parseBlock_65 hq
set_option maxRecDepth 100000 in
def bX12_parseBlock (G : xG) (fr lo : Nat) (x0 : Nat) (h : xH) (Q : Outcome → xH → Prop) : Prop := tg h x0 = 13 ∧ 1 ≤ fr ∧ 12 ≤ lo ∧ xRv G YX12_enter (fr - 1) (lo - 12) [rv x0] h (fun h4 => xext h h4 → 1 ≤ fr ∧ 14 ≤ lo ∧ xRi G YX12_now (fr - 1) (lo - 14) [rv x0] h4 (fun x11 h10 => xext h4 h10 → 1 ≤ fr ∧ 15 ≤ lo ∧ xRi G YX12_node (fr - 1) (lo - 15) [rv x0, .int 2, .int x11] h10 (fun x17 h16 => xext h10 h16 → 1 ≤ fr ∧ 14 ≤ lo ∧ xRi G YX12_now (fr - 1) (lo - 14) [rv x0] h16 (fun x23 h22 => xext h16 h22 → 1 ≤ fr ∧ 15 ≤ lo ∧ xRi G YX12_node (fr - 1) (lo - 15) [rv x0, .int 3, .int x23] h22 (fun x29 h28 => xext h22 h28 → 1 ≤ fr ∧ 13 ≤ lo ∧ xRi G YX12_takes (fr - 1) (lo - 13) [rv x0, .int 17] h28 (fun x35 h34 => xext h28 h34 → ((x35 = 0 → bX12_parseBlock_65 G fr lo x0 x17 x29 h34 Q) ∧ (¬ x35 = 0 → lX12_parseBlock_33 G fr lo x0 x17 x29 h34 Q))) (fun r h2 => Q (.threw r) h2)) (fun r h2 => Q (.threw r) h2)) (fun r h2 => Q (.threw r) h2)) (fun r h2 => Q (.threw r) h2)) (fun r h2 => Q (.threw r) h2)) (fun r h2 => Q (.threw r) h2)
set_option maxRecDepth 100000 in
theorem uX12_parseBlock {G : xG} {fr lo : Nat} {x0 : Nat} {h : xH} {Q : Outcome → xH → Prop} (hq : bX12_parseBlock G fr lo x0 h Q) : xP G YX12_parseBlock fr lo 0 [(0, rv x0)] [] h Q := by
  unfold bX12_parseBlock at hq
  refine x_aload_n 0 dX12_parseBlock_0 rfl ?_
  obtain ⟨g1, hq⟩ := hq
  obtain ⟨g2, g3, hq⟩ := hq
  refine x_callV (Yc := YX12_enter) (as := []) (st := []) q3818 mvX12_enter g1 rfl dX12_parseBlock_1 (xle (xal1 (rv_cat _) xal0) (by decide)) (xfr g2) (xlo xsw0 (by decide) g3) (xKv hq (fun h4 hq e6 => ?_) (fun _ _ q _ => q))
  replace hq := hq e6
  refine x_aload_n 0 dX12_parseBlock_4 rfl ?_
  refine x_iconst (v := 2) dX12_parseBlock_5 (by decide) ?_
  refine x_aload_n 0 dX12_parseBlock_6 rfl ?_
  have t7 : tg h4 x0 = 13 := e6.tg g1 (by decide)
  obtain ⟨g8, g9, hq⟩ := hq
  refine x_callV (Yc := YX12_now) (as := []) (st := [.int 2, rv x0]) q3790 mvX12_now t7 rfl dX12_parseBlock_7 (xle (xal1 (rv_cat _) xal0) (by decide)) (xfr g8) (xlo (xsw1 rfl (xsw1 (rv_cat _) xsw0)) (by decide) g9) (xKi hq (fun x11 h10 hq e12 => ?_) (fun _ _ q _ => q))
  replace hq := hq e12
  have t13 : tg h10 x0 = 13 := e12.tg t7 (by decide)
  obtain ⟨g14, g15, hq⟩ := hq
  refine x_callV (Yc := YX12_node) (as := [.int 2, .int x11]) (st := []) q3798 mvX12_node t13 rfl dX12_parseBlock_10 (xle (xal1 (rv_cat _) (xal1 rfl (xal1 rfl xal0))) (by decide)) (xfr g14) (xlo xsw0 (by decide) g15) (xKi hq (fun x17 h16 hq e18 => ?_) (fun _ _ q _ => q))
  replace hq := hq e18
  refine x_istore_n (lv' := [(1, .int x17), (0, rv x0)]) dX12_parseBlock_13 (by decide) (by first | rfl | (simp [rv_cat, Value.category]; done) | (simp [rv_cat, Value.category]; decide)) ?_
  refine x_aload_n 1 dX12_parseBlock_14 rfl ?_
  refine x_iconst (v := 3) dX12_parseBlock_15 (by decide) ?_
  refine x_aload_n 1 dX12_parseBlock_16 rfl ?_
  have t19 : tg h16 x0 = 13 := e18.tg t13 (by decide)
  obtain ⟨g20, g21, hq⟩ := hq
  refine x_callV (Yc := YX12_now) (as := []) (st := [.int 3, rv x0]) q3790 mvX12_now t19 rfl dX12_parseBlock_17 (xle (xal1 (rv_cat _) xal0) (by decide)) (xfr g20) (xlo (xsw1 rfl (xsw1 (rv_cat _) xsw0)) (by decide) g21) (xKi hq (fun x23 h22 hq e24 => ?_) (fun _ _ q _ => q))
  replace hq := hq e24
  have t25 : tg h22 x0 = 13 := e24.tg t19 (by decide)
  obtain ⟨g26, g27, hq⟩ := hq
  refine x_callV (Yc := YX12_node) (as := [.int 3, .int x23]) (st := []) q3798 mvX12_node t25 rfl dX12_parseBlock_20 (xle (xal1 (rv_cat _) (xal1 rfl (xal1 rfl xal0))) (by decide)) (xfr g26) (xlo xsw0 (by decide) g27) (xKi hq (fun x29 h28 hq e30 => ?_) (fun _ _ q _ => q))
  replace hq := hq e30
  refine x_istore_n (lv' := [(2, .int x29), (1, .int x17), (0, rv x0)]) dX12_parseBlock_23 (by decide) rfl ?_
  refine x_aload_n 2 dX12_parseBlock_24 rfl ?_
  refine x_bipush (v := 17) dX12_parseBlock_25 (by decide) ?_
  have t31 : tg h28 x0 = 13 := e30.tg t25 (by decide)
  obtain ⟨g32, g33, hq⟩ := hq
  refine x_callV (Yc := YX12_takes) (as := [.int 17]) (st := []) q3802 mvX12_takes t31 rfl dX12_parseBlock_27 (xle (xal1 (rv_cat _) (xal1 rfl xal0)) (by decide)) (xfr g32) (xlo xsw0 (by decide) g33) (xKi hq (fun x35 h34 hq e36 => ?_) (fun _ _ q _ => q))
  replace hq := hq e36
  refine x_if_eq (tgt := 65) dX12_parseBlock_30 (by decide) (fun c37 => ?_) (fun c37 => ?_)
  · replace hq := hq.1 c37
    refine xP.pick (lv' := [(0, rv x0), (1, .int x17), (2, .int x29)]) [2, 1, 0] rfl ?_
    exact uX12_parseBlock_65 hq
  · replace hq := hq.2 c37
    refine xP.pick (lv' := [(0, rv x0), (1, .int x17), (2, .int x29)]) [2, 1, 0] rfl ?_
    exact hq
theorem rX12_parseBlock {G : xG} {fr lo : Nat} {x0 : Nat} {h : xH} {Q : Outcome → xH → Prop} (hq : bX12_parseBlock G fr lo x0 h Q) : xR G YX12_parseBlock fr lo [rv x0] h Q := by
  show xP _ _ _ _ _ (lv_args 0 _) _ _ _
  rw [show lv_args 0 [rv x0] = [(0, rv x0)] from (xla1 (rv_cat _) xla0)]
  exact uX12_parseBlock hq
set_option maxRecDepth 100000 in
theorem dX12_enter_0 : decode cX12_enter 0 = .ok (.aload_n 0, 1) := by decide +kernel
set_option maxRecDepth 100000 in
theorem dX12_enter_1 : decode cX12_enter 1 = .ok (.getfield 451, 3) := by decide +kernel
set_option maxRecDepth 100000 in
theorem dX12_enter_4 : decode cX12_enter 4 = .ok (.bipush 40, 2) := by decide +kernel
set_option maxRecDepth 100000 in
theorem dX12_enter_6 : decode cX12_enter 6 = .ok (.if_icmp .ne 17, 3) := by decide +kernel
set_option maxRecDepth 100000 in
theorem dX12_enter_9 : decode cX12_enter 9 = .ok (.aload_n 0, 1) := by decide +kernel
set_option maxRecDepth 100000 in
theorem dX12_enter_10 : decode cX12_enter 10 = .ok (.iconst 3, 1) := by decide +kernel
set_option maxRecDepth 100000 in
theorem dX12_enter_11 : decode cX12_enter 11 = .ok (.aload_n 0, 1) := by decide +kernel
set_option maxRecDepth 100000 in
theorem dX12_enter_12 : decode cX12_enter 12 = .ok (.getfield 29, 3) := by decide +kernel
set_option maxRecDepth 100000 in
theorem dX12_enter_15 : decode cX12_enter 15 = .ok (.aload_n 0, 1) := by decide +kernel
set_option maxRecDepth 100000 in
theorem dX12_enter_16 : decode cX12_enter 16 = .ok (.invokevirtual 445, 3) := by decide +kernel
set_option maxRecDepth 100000 in
theorem dX12_enter_19 : decode cX12_enter 19 = .ok (.iaload, 1) := by decide +kernel
set_option maxRecDepth 100000 in
theorem dX12_enter_20 : decode cX12_enter 20 = .ok (.invokevirtual 276, 3) := by decide +kernel
set_option maxRecDepth 100000 in
theorem dX12_enter_23 : decode cX12_enter 23 = .ok (.aload_n 0, 1) := by decide +kernel
set_option maxRecDepth 100000 in
theorem dX12_enter_24 : decode cX12_enter 24 = .ok (.dup, 1) := by decide +kernel
set_option maxRecDepth 100000 in
theorem dX12_enter_25 : decode cX12_enter 25 = .ok (.getfield 451, 3) := by decide +kernel
set_option maxRecDepth 100000 in
theorem dX12_enter_28 : decode cX12_enter 28 = .ok (.iconst 1, 1) := by decide +kernel
set_option maxRecDepth 100000 in
theorem dX12_enter_29 : decode cX12_enter 29 = .ok (.iadd, 1) := by decide +kernel
set_option maxRecDepth 100000 in
theorem dX12_enter_30 : decode cX12_enter 30 = .ok (.putfield 451, 3) := by decide +kernel
set_option maxRecDepth 100000 in
theorem dX12_enter_33 : decode cX12_enter 33 = .ok (.return_, 1) := by decide +kernel
set_option maxRecDepth 100000 in
def bX12_enter_23 (G : xG) (fr lo : Nat) (x0 : Nat) (h : xH) (Q : Outcome → xH → Prop) : Prop := tg h x0 = 13 ∧ (∀ h2 : xH, h2 = sI h x0 3111 ((fI h x0 3111) + 1) → Q (.returned none) h2)
set_option maxRecDepth 100000 in
theorem uX12_enter_23 {G : xG} {fr lo : Nat} {x0 : Nat} {h : xH} {Q : Outcome → xH → Prop} (hq : bX12_enter_23 G fr lo x0 h Q) : xP G YX12_enter fr lo 23 [(0, rv x0)] [] h Q := by
  unfold bX12_enter_23 at hq
  refine x_aload_n 0 dX12_enter_23 rfl ?_
  refine x_dup dX12_enter_24 (rv_cat _) ?_
  obtain ⟨g1, hq⟩ := hq
  refine x_get (v := .int (fI h x0 3111)) fdX12_451 dX12_enter_25 g1 rfl ?_
  refine x_iconst (v := 1) dX12_enter_28 (by decide) ?_
  refine x_iadd dX12_enter_29 ?_
  obtain ⟨h2, e3⟩ : ∃ y, y = sI h x0 3111 ((fI h x0 3111) + 1) := ⟨_, rfl⟩
  replace hq := hq h2 e3
  refine x_putI fdX12_451 xty_I1 dX12_enter_30 g1 (Or.inl (by rw [g1]; rfl)) xnI rfl e3 ?_
  exact x_vret rfl dX12_enter_33 hq
set_option maxRecDepth 100000 in
def bX12_enter (G : xG) (fr lo : Nat) (x0 : Nat) (h : xH) (Q : Outcome → xH → Prop) : Prop := tg h x0 = 13 ∧ ((¬ (fI h x0 3111) = 40 → bX12_enter_23 G fr lo x0 h Q) ∧ ((fI h x0 3111) = 40 → 1 ≤ fr ∧ 15 ≤ lo ∧ xRi G YX12_now (fr - 1) (lo - 15) [rv x0] h (fun x6 h5 => xext h h5 → tg h5 (fR h x0 3083) = 100 ∧ vp_in x6 (ln h5 (fR h x0 3083)) ∧ 1 ≤ fr ∧ 14 ≤ lo ∧ xRv G YX12_stop (fr - 1) (lo - 14) [rv x0, .int 3, .int (aI h5 (fR h x0 3083) (Int32.toNatClampNeg x6))] h5 (fun h13 => xext h5 h13 → bX12_enter_23 G fr lo x0 h13 Q) (fun r h2 => Q (.threw r) h2)) (fun r h2 => Q (.threw r) h2)))
set_option maxRecDepth 100000 in
theorem uX12_enter {G : xG} {fr lo : Nat} {x0 : Nat} {h : xH} {Q : Outcome → xH → Prop} (hq : bX12_enter G fr lo x0 h Q) : xP G YX12_enter fr lo 0 [(0, rv x0)] [] h Q := by
  unfold bX12_enter at hq
  refine x_aload_n 0 dX12_enter_0 rfl ?_
  obtain ⟨g1, hq⟩ := hq
  refine x_get (v := .int (fI h x0 3111)) fdX12_451 dX12_enter_1 g1 rfl ?_
  refine x_bipush (v := 40) dX12_enter_4 (by decide) ?_
  refine x_icmp_ne (tgt := 23) dX12_enter_6 (by decide) (fun c2 => ?_) (fun c2 => ?_)
  · replace hq := hq.1 c2
    exact uX12_enter_23 hq
  · replace hq := hq.2 c2
    refine x_aload_n 0 dX12_enter_9 rfl ?_
    refine x_iconst (v := 3) dX12_enter_10 (by decide) ?_
    refine x_aload_n 0 dX12_enter_11 rfl ?_
    refine x_get (v := rv (fR h x0 3083)) fdX12_29 dX12_enter_12 g1 rfl ?_
    refine x_aload_n 0 dX12_enter_15 rfl ?_
    obtain ⟨g3, g4, hq⟩ := hq
    refine x_callV (Yc := YX12_now) (as := []) (st := [rv (fR h x0 3083), .int 3, rv x0]) q3790 mvX12_now g1 rfl dX12_enter_16 (xle (xal1 (rv_cat _) xal0) (by decide)) (xfr g3) (xlo (xsw1 (rv_cat _) (xsw1 rfl (xsw1 (rv_cat _) xsw0))) (by decide) g4) (xKi hq (fun x6 h5 hq e7 => ?_) (fun _ _ q _ => q))
    replace hq := hq e7
    obtain ⟨g8, hq⟩ := hq
    obtain ⟨i9, hq⟩ := hq
    refine x_iald 0 (Or.inl rfl) g8 i9 dX12_enter_19 ?_
    have t10 : tg h5 x0 = 13 := e7.tg g1 (by decide)
    obtain ⟨g11, g12, hq⟩ := hq
    refine x_callV (Yc := YX12_stop) (as := [.int 3, .int (aI h5 (fR h x0 3083) (Int32.toNatClampNeg x6))]) (st := []) q3729 mvX12_stop t10 rfl dX12_enter_20 (xle (xal1 (rv_cat _) (xal1 rfl (xal1 rfl xal0))) (by decide)) (xfr g11) (xlo xsw0 (by decide) g12) (xKv hq (fun h13 hq e15 => ?_) (fun _ _ q _ => q))
    replace hq := hq e15
    exact uX12_enter_23 hq
theorem rX12_enter {G : xG} {fr lo : Nat} {x0 : Nat} {h : xH} {Q : Outcome → xH → Prop} (hq : bX12_enter G fr lo x0 h Q) : xR G YX12_enter fr lo [rv x0] h Q := by
  show xP _ _ _ _ _ (lv_args 0 _) _ _ _
  rw [show lv_args 0 [rv x0] = [(0, rv x0)] from (xla1 (rv_cat _) xla0)]
  exact uX12_enter hq
set_option maxRecDepth 100000 in
theorem dX12_parseConstant_0 : decode cX12_parseConstant 0 = .ok (.aload_n 0, 1) := by decide +kernel
set_option maxRecDepth 100000 in
theorem dX12_parseConstant_1 : decode cX12_parseConstant 1 = .ok (.bipush 7, 2) := by decide +kernel
set_option maxRecDepth 100000 in
theorem dX12_parseConstant_3 : decode cX12_parseConstant 3 = .ok (.aload_n 0, 1) := by decide +kernel
set_option maxRecDepth 100000 in
theorem dX12_parseConstant_4 : decode cX12_parseConstant 4 = .ok (.invokevirtual 445, 3) := by decide +kernel
set_option maxRecDepth 100000 in
theorem dX12_parseConstant_7 : decode cX12_parseConstant 7 = .ok (.invokevirtual 454, 3) := by decide +kernel
set_option maxRecDepth 100000 in
theorem dX12_parseConstant_10 : decode cX12_parseConstant 10 = .ok (.istore_n 1, 1) := by decide +kernel
set_option maxRecDepth 100000 in
theorem dX12_parseConstant_11 : decode cX12_parseConstant 11 = .ok (.aload_n 0, 1) := by decide +kernel
set_option maxRecDepth 100000 in
theorem dX12_parseConstant_12 : decode cX12_parseConstant 12 = .ok (.bipush 43, 2) := by decide +kernel
set_option maxRecDepth 100000 in
theorem dX12_parseConstant_14 : decode cX12_parseConstant 14 = .ok (.invokevirtual 439, 3) := by decide +kernel
set_option maxRecDepth 100000 in
theorem dX12_parseConstant_17 : decode cX12_parseConstant 17 = .ok (.ifCond .eq 15, 3) := by decide +kernel
set_option maxRecDepth 100000 in
theorem dX12_parseConstant_20 : decode cX12_parseConstant 20 = .ok (.aload_n 0, 1) := by decide +kernel
set_option maxRecDepth 100000 in
theorem dX12_parseConstant_21 : decode cX12_parseConstant 21 = .ok (.getfield 82, 3) := by decide +kernel
set_option maxRecDepth 100000 in
theorem dX12_parseConstant_24 : decode cX12_parseConstant 24 = .ok (.iload_n 1, 1) := by decide +kernel
set_option maxRecDepth 100000 in
theorem dX12_parseConstant_25 : decode cX12_parseConstant 25 = .ok (.aload_n 0, 1) := by decide +kernel
set_option maxRecDepth 100000 in
theorem dX12_parseConstant_26 : decode cX12_parseConstant 26 = .ok (.invokevirtual 442, 3) := by decide +kernel
set_option maxRecDepth 100000 in
theorem dX12_parseConstant_29 : decode cX12_parseConstant 29 = .ok (.iastore, 1) := by decide +kernel
set_option maxRecDepth 100000 in
theorem dX12_parseConstant_30 : decode cX12_parseConstant 30 = .ok (.iload_n 1, 1) := by decide +kernel
set_option maxRecDepth 100000 in
theorem dX12_parseConstant_31 : decode cX12_parseConstant 31 = .ok (.ireturn, 1) := by decide +kernel
set_option maxRecDepth 100000 in
theorem dX12_parseConstant_32 : decode cX12_parseConstant 32 = .ok (.aload_n 0, 1) := by decide +kernel
set_option maxRecDepth 100000 in
theorem dX12_parseConstant_33 : decode cX12_parseConstant 33 = .ok (.bipush 50, 2) := by decide +kernel
set_option maxRecDepth 100000 in
theorem dX12_parseConstant_35 : decode cX12_parseConstant 35 = .ok (.invokevirtual 439, 3) := by decide +kernel
set_option maxRecDepth 100000 in
theorem dX12_parseConstant_38 : decode cX12_parseConstant 38 = .ok (.ifCond .ne 12, 3) := by decide +kernel
set_option maxRecDepth 100000 in
theorem dX12_parseConstant_41 : decode cX12_parseConstant 41 = .ok (.aload_n 0, 1) := by decide +kernel
set_option maxRecDepth 100000 in
theorem dX12_parseConstant_42 : decode cX12_parseConstant 42 = .ok (.bipush 51, 2) := by decide +kernel
set_option maxRecDepth 100000 in
theorem dX12_parseConstant_44 : decode cX12_parseConstant 44 = .ok (.invokevirtual 439, 3) := by decide +kernel
set_option maxRecDepth 100000 in
theorem dX12_parseConstant_47 : decode cX12_parseConstant 47 = .ok (.ifCond .eq 13, 3) := by decide +kernel
set_option maxRecDepth 100000 in
theorem dX12_parseConstant_50 : decode cX12_parseConstant 50 = .ok (.aload_n 0, 1) := by decide +kernel
set_option maxRecDepth 100000 in
theorem dX12_parseConstant_51 : decode cX12_parseConstant 51 = .ok (.getfield 85, 3) := by decide +kernel
set_option maxRecDepth 100000 in
theorem dX12_parseConstant_54 : decode cX12_parseConstant 54 = .ok (.iload_n 1, 1) := by decide +kernel
set_option maxRecDepth 100000 in
theorem dX12_parseConstant_55 : decode cX12_parseConstant 55 = .ok (.aload_n 0, 1) := by decide +kernel
set_option maxRecDepth 100000 in
theorem dX12_parseConstant_56 : decode cX12_parseConstant 56 = .ok (.invokevirtual 442, 3) := by decide +kernel
set_option maxRecDepth 100000 in
theorem dX12_parseConstant_59 : decode cX12_parseConstant 59 = .ok (.iastore, 1) := by decide +kernel
set_option maxRecDepth 100000 in
theorem dX12_parseConstant_60 : decode cX12_parseConstant 60 = .ok (.aload_n 0, 1) := by decide +kernel
set_option maxRecDepth 100000 in
theorem dX12_parseConstant_61 : decode cX12_parseConstant 61 = .ok (.bipush 41, 2) := by decide +kernel
set_option maxRecDepth 100000 in
theorem dX12_parseConstant_63 : decode cX12_parseConstant 63 = .ok (.invokevirtual 439, 3) := by decide +kernel
set_option maxRecDepth 100000 in
theorem dX12_parseConstant_66 : decode cX12_parseConstant 66 = .ok (.ifCond .ne 25, 3) := by decide +kernel
set_option maxRecDepth 100000 in
theorem dX12_parseConstant_69 : decode cX12_parseConstant 69 = .ok (.aload_n 0, 1) := by decide +kernel
set_option maxRecDepth 100000 in
theorem dX12_parseConstant_70 : decode cX12_parseConstant 70 = .ok (.bipush 42, 2) := by decide +kernel
set_option maxRecDepth 100000 in
theorem dX12_parseConstant_72 : decode cX12_parseConstant 72 = .ok (.invokevirtual 439, 3) := by decide +kernel
set_option maxRecDepth 100000 in
theorem dX12_parseConstant_75 : decode cX12_parseConstant 75 = .ok (.ifCond .ne 16, 3) := by decide +kernel
set_option maxRecDepth 100000 in
theorem dX12_parseConstant_78 : decode cX12_parseConstant 78 = .ok (.aload_n 0, 1) := by decide +kernel
set_option maxRecDepth 100000 in
theorem dX12_parseConstant_79 : decode cX12_parseConstant 79 = .ok (.bipush 40, 2) := by decide +kernel
set_option maxRecDepth 100000 in
theorem dX12_parseConstant_81 : decode cX12_parseConstant 81 = .ok (.invokevirtual 439, 3) := by decide +kernel
set_option maxRecDepth 100000 in
theorem dX12_parseConstant_84 : decode cX12_parseConstant 84 = .ok (.ifCond .ne 7, 3) := by decide +kernel
set_option maxRecDepth 100000 in
theorem dX12_parseConstant_87 : decode cX12_parseConstant 87 = .ok (.aload_n 0, 1) := by decide +kernel
set_option maxRecDepth 100000 in
theorem dX12_parseConstant_88 : decode cX12_parseConstant 88 = .ok (.invokevirtual 448, 3) := by decide +kernel
set_option maxRecDepth 100000 in
theorem dX12_parseConstant_91 : decode cX12_parseConstant 91 = .ok (.aload_n 0, 1) := by decide +kernel
set_option maxRecDepth 100000 in
theorem dX12_parseConstant_92 : decode cX12_parseConstant 92 = .ok (.getfield 82, 3) := by decide +kernel
set_option maxRecDepth 100000 in
theorem dX12_parseConstant_95 : decode cX12_parseConstant 95 = .ok (.iload_n 1, 1) := by decide +kernel
set_option maxRecDepth 100000 in
theorem dX12_parseConstant_96 : decode cX12_parseConstant 96 = .ok (.aload_n 0, 1) := by decide +kernel
set_option maxRecDepth 100000 in
theorem dX12_parseConstant_97 : decode cX12_parseConstant 97 = .ok (.invokevirtual 442, 3) := by decide +kernel
set_option maxRecDepth 100000 in
theorem dX12_parseConstant_100 : decode cX12_parseConstant 100 = .ok (.iastore, 1) := by decide +kernel
set_option maxRecDepth 100000 in
theorem dX12_parseConstant_101 : decode cX12_parseConstant 101 = .ok (.iload_n 1, 1) := by decide +kernel
set_option maxRecDepth 100000 in
theorem dX12_parseConstant_102 : decode cX12_parseConstant 102 = .ok (.ireturn, 1) := by decide +kernel
set_option maxRecDepth 100000 in
def bX12_parseConstant_91 (G : xG) (fr lo : Nat) (x0 : Nat) (x1 : Int32) (h : xH) (Q : Outcome → xH → Prop) : Prop := tg h x0 = 13 ∧ 1 ≤ fr ∧ 15 ≤ lo ∧ xRi G YX12_take (fr - 1) (lo - 15) [rv x0] h (fun x5 h4 => xext h h4 → tg h4 (fR h x0 3106) = 100 ∧ vp_in x1 (ln h4 (fR h x0 3106)) ∧ (∀ h9 : xH, h9 = tI h4 (fR h x0 3106) (Int32.toNatClampNeg x1) x5 → Q (.returned (some (.int x1))) h9)) (fun r h2 => Q (.threw r) h2)
set_option maxRecDepth 100000 in
theorem uX12_parseConstant_91 {G : xG} {fr lo : Nat} {x0 : Nat} {x1 : Int32} {h : xH} {Q : Outcome → xH → Prop} (hq : bX12_parseConstant_91 G fr lo x0 x1 h Q) : xP G YX12_parseConstant fr lo 91 [(0, rv x0), (1, .int x1)] [] h Q := by
  unfold bX12_parseConstant_91 at hq
  refine x_aload_n 0 dX12_parseConstant_91 rfl ?_
  obtain ⟨g1, hq⟩ := hq
  refine x_get (v := rv (fR h x0 3106)) fdX12_82 dX12_parseConstant_92 g1 rfl ?_
  refine x_iload_n 1 dX12_parseConstant_95 rfl ?_
  refine x_aload_n 0 dX12_parseConstant_96 rfl ?_
  obtain ⟨g2, g3, hq⟩ := hq
  refine x_callV (Yc := YX12_take) (as := []) (st := [.int x1, rv (fR h x0 3106)]) q3794 mvX12_take g1 rfl dX12_parseConstant_97 (xle (xal1 (rv_cat _) xal0) (by decide)) (xfr g2) (xlo (xsw1 rfl (xsw1 (rv_cat _) xsw0)) (by decide) g3) (xKi hq (fun x5 h4 hq e6 => ?_) (fun _ _ q _ => q))
  replace hq := hq e6
  obtain ⟨g7, hq⟩ := hq
  obtain ⟨i8, hq⟩ := hq
  obtain ⟨h9, e10⟩ : ∃ y, y = tI h4 (fR h x0 3106) (Int32.toNatClampNeg x1) x5 := ⟨_, rfl⟩
  replace hq := hq h9 e10
  refine x_iast' g7 i8 dX12_parseConstant_100 e10 ?_
  refine x_iload_n 1 dX12_parseConstant_101 rfl ?_
  exact x_iret rfl rfl dX12_parseConstant_102 hq
set_option maxRecDepth 100000 in
def bX12_parseConstant_60 (G : xG) (fr lo : Nat) (x0 : Nat) (x1 : Int32) (h : xH) (Q : Outcome → xH → Prop) : Prop := tg h x0 = 13 ∧ 1 ≤ fr ∧ 13 ≤ lo ∧ xRi G YX12_sees (fr - 1) (lo - 13) [rv x0, .int 41] h (fun x5 h4 => xext h h4 → ((¬ x5 = 0 → bX12_parseConstant_91 G fr lo x0 x1 h4 Q) ∧ (x5 = 0 → 1 ≤ fr ∧ 13 ≤ lo ∧ xRi G YX12_sees (fr - 1) (lo - 13) [rv x0, .int 42] h4 (fun x12 h11 => xext h4 h11 → ((¬ x12 = 0 → bX12_parseConstant_91 G fr lo x0 x1 h11 Q) ∧ (x12 = 0 → 1 ≤ fr ∧ 13 ≤ lo ∧ xRi G YX12_sees (fr - 1) (lo - 13) [rv x0, .int 40] h11 (fun x19 h18 => xext h11 h18 → ((¬ x19 = 0 → bX12_parseConstant_91 G fr lo x0 x1 h18 Q) ∧ (x19 = 0 → 1 ≤ fr ∧ 12 ≤ lo ∧ xRv G YX12_bad (fr - 1) (lo - 12) [rv x0] h18 (fun h25 => xext h18 h25 → bX12_parseConstant_91 G fr lo x0 x1 h25 Q) (fun r h2 => Q (.threw r) h2)))) (fun r h2 => Q (.threw r) h2)))) (fun r h2 => Q (.threw r) h2)))) (fun r h2 => Q (.threw r) h2)
set_option maxRecDepth 100000 in
theorem uX12_parseConstant_60 {G : xG} {fr lo : Nat} {x0 : Nat} {x1 : Int32} {h : xH} {Q : Outcome → xH → Prop} (hq : bX12_parseConstant_60 G fr lo x0 x1 h Q) : xP G YX12_parseConstant fr lo 60 [(0, rv x0), (1, .int x1)] [] h Q := by
  unfold bX12_parseConstant_60 at hq
  refine x_aload_n 0 dX12_parseConstant_60 rfl ?_
  refine x_bipush (v := 41) dX12_parseConstant_61 (by decide) ?_
  obtain ⟨g1, hq⟩ := hq
  obtain ⟨g2, g3, hq⟩ := hq
  refine x_callV (Yc := YX12_sees) (as := [.int 41]) (st := []) q3782 mvX12_sees g1 rfl dX12_parseConstant_63 (xle (xal1 (rv_cat _) (xal1 rfl xal0)) (by decide)) (xfr g2) (xlo xsw0 (by decide) g3) (xKi hq (fun x5 h4 hq e6 => ?_) (fun _ _ q _ => q))
  replace hq := hq e6
  refine x_if_ne (tgt := 91) dX12_parseConstant_66 (by decide) (fun c7 => ?_) (fun c7 => ?_)
  · replace hq := hq.1 c7
    exact uX12_parseConstant_91 hq
  · replace hq := hq.2 c7
    refine x_aload_n 0 dX12_parseConstant_69 rfl ?_
    refine x_bipush (v := 42) dX12_parseConstant_70 (by decide) ?_
    have t8 : tg h4 x0 = 13 := e6.tg g1 (by decide)
    obtain ⟨g9, g10, hq⟩ := hq
    refine x_callV (Yc := YX12_sees) (as := [.int 42]) (st := []) q3782 mvX12_sees t8 rfl dX12_parseConstant_72 (xle (xal1 (rv_cat _) (xal1 rfl xal0)) (by decide)) (xfr g9) (xlo xsw0 (by decide) g10) (xKi hq (fun x12 h11 hq e13 => ?_) (fun _ _ q _ => q))
    replace hq := hq e13
    refine x_if_ne (tgt := 91) dX12_parseConstant_75 (by decide) (fun c14 => ?_) (fun c14 => ?_)
    · replace hq := hq.1 c14
      exact uX12_parseConstant_91 hq
    · replace hq := hq.2 c14
      refine x_aload_n 0 dX12_parseConstant_78 rfl ?_
      refine x_bipush (v := 40) dX12_parseConstant_79 (by decide) ?_
      have t15 : tg h11 x0 = 13 := e13.tg t8 (by decide)
      obtain ⟨g16, g17, hq⟩ := hq
      refine x_callV (Yc := YX12_sees) (as := [.int 40]) (st := []) q3782 mvX12_sees t15 rfl dX12_parseConstant_81 (xle (xal1 (rv_cat _) (xal1 rfl xal0)) (by decide)) (xfr g16) (xlo xsw0 (by decide) g17) (xKi hq (fun x19 h18 hq e20 => ?_) (fun _ _ q _ => q))
      replace hq := hq e20
      refine x_if_ne (tgt := 91) dX12_parseConstant_84 (by decide) (fun c21 => ?_) (fun c21 => ?_)
      · replace hq := hq.1 c21
        exact uX12_parseConstant_91 hq
      · replace hq := hq.2 c21
        refine x_aload_n 0 dX12_parseConstant_87 rfl ?_
        have t22 : tg h18 x0 = 13 := e20.tg t15 (by decide)
        obtain ⟨g23, g24, hq⟩ := hq
        refine x_callV (Yc := YX12_bad) (as := []) (st := []) q3786 mvX12_bad t22 rfl dX12_parseConstant_88 (xle (xal1 (rv_cat _) xal0) (by decide)) (xfr g23) (xlo xsw0 (by decide) g24) (xKv hq (fun h25 hq e27 => ?_) (fun _ _ q _ => q))
        replace hq := hq e27
        exact uX12_parseConstant_91 hq
set_option maxRecDepth 100000 in
def bX12_parseConstant_50 (G : xG) (fr lo : Nat) (x0 : Nat) (x1 : Int32) (h : xH) (Q : Outcome → xH → Prop) : Prop := tg h x0 = 13 ∧ 1 ≤ fr ∧ 15 ≤ lo ∧ xRi G YX12_take (fr - 1) (lo - 15) [rv x0] h (fun x5 h4 => xext h h4 → tg h4 (fR h x0 3107) = 100 ∧ vp_in x1 (ln h4 (fR h x0 3107)) ∧ (∀ h9 : xH, h9 = tI h4 (fR h x0 3107) (Int32.toNatClampNeg x1) x5 → bX12_parseConstant_60 G fr lo x0 x1 h9 Q)) (fun r h2 => Q (.threw r) h2)
set_option maxRecDepth 100000 in
theorem uX12_parseConstant_50 {G : xG} {fr lo : Nat} {x0 : Nat} {x1 : Int32} {h : xH} {Q : Outcome → xH → Prop} (hq : bX12_parseConstant_50 G fr lo x0 x1 h Q) : xP G YX12_parseConstant fr lo 50 [(0, rv x0), (1, .int x1)] [] h Q := by
  unfold bX12_parseConstant_50 at hq
  refine x_aload_n 0 dX12_parseConstant_50 rfl ?_
  obtain ⟨g1, hq⟩ := hq
  refine x_get (v := rv (fR h x0 3107)) fdX12_85 dX12_parseConstant_51 g1 rfl ?_
  refine x_iload_n 1 dX12_parseConstant_54 rfl ?_
  refine x_aload_n 0 dX12_parseConstant_55 rfl ?_
  obtain ⟨g2, g3, hq⟩ := hq
  refine x_callV (Yc := YX12_take) (as := []) (st := [.int x1, rv (fR h x0 3107)]) q3794 mvX12_take g1 rfl dX12_parseConstant_56 (xle (xal1 (rv_cat _) xal0) (by decide)) (xfr g2) (xlo (xsw1 rfl (xsw1 (rv_cat _) xsw0)) (by decide) g3) (xKi hq (fun x5 h4 hq e6 => ?_) (fun _ _ q _ => q))
  replace hq := hq e6
  obtain ⟨g7, hq⟩ := hq
  obtain ⟨i8, hq⟩ := hq
  obtain ⟨h9, e10⟩ : ∃ y, y = tI h4 (fR h x0 3107) (Int32.toNatClampNeg x1) x5 := ⟨_, rfl⟩
  replace hq := hq h9 e10
  refine x_iast' g7 i8 dX12_parseConstant_59 e10 ?_
  exact uX12_parseConstant_60 hq
set_option maxRecDepth 100000 in
def bX12_parseConstant (G : xG) (fr lo : Nat) (x0 : Nat) (h : xH) (Q : Outcome → xH → Prop) : Prop := tg h x0 = 13 ∧ 1 ≤ fr ∧ 14 ≤ lo ∧ xRi G YX12_now (fr - 1) (lo - 14) [rv x0] h (fun x5 h4 => xext h h4 → 1 ≤ fr ∧ 15 ≤ lo ∧ xRi G YX12_node (fr - 1) (lo - 15) [rv x0, .int 7, .int x5] h4 (fun x11 h10 => xext h4 h10 → 1 ≤ fr ∧ 13 ≤ lo ∧ xRi G YX12_sees (fr - 1) (lo - 13) [rv x0, .int 43] h10 (fun x17 h16 => xext h10 h16 → ((x17 = 0 → 1 ≤ fr ∧ 13 ≤ lo ∧ xRi G YX12_sees (fr - 1) (lo - 13) [rv x0, .int 50] h16 (fun x24 h23 => xext h16 h23 → ((¬ x24 = 0 → bX12_parseConstant_50 G fr lo x0 x11 h23 Q) ∧ (x24 = 0 → 1 ≤ fr ∧ 13 ≤ lo ∧ xRi G YX12_sees (fr - 1) (lo - 13) [rv x0, .int 51] h23 (fun x31 h30 => xext h23 h30 → ((x31 = 0 → bX12_parseConstant_60 G fr lo x0 x11 h30 Q) ∧ (¬ x31 = 0 → bX12_parseConstant_50 G fr lo x0 x11 h30 Q))) (fun r h2 => Q (.threw r) h2)))) (fun r h2 => Q (.threw r) h2)) ∧ (¬ x17 = 0 → 1 ≤ fr ∧ 15 ≤ lo ∧ xRi G YX12_take (fr - 1) (lo - 15) [rv x0] h16 (fun x38 h37 => xext h16 h37 → tg h37 (fR h16 x0 3106) = 100 ∧ vp_in x11 (ln h37 (fR h16 x0 3106)) ∧ (∀ h42 : xH, h42 = tI h37 (fR h16 x0 3106) (Int32.toNatClampNeg x11) x38 → Q (.returned (some (.int x11))) h42)) (fun r h2 => Q (.threw r) h2)))) (fun r h2 => Q (.threw r) h2)) (fun r h2 => Q (.threw r) h2)) (fun r h2 => Q (.threw r) h2)
set_option maxRecDepth 100000 in
theorem uX12_parseConstant {G : xG} {fr lo : Nat} {x0 : Nat} {h : xH} {Q : Outcome → xH → Prop} (hq : bX12_parseConstant G fr lo x0 h Q) : xP G YX12_parseConstant fr lo 0 [(0, rv x0)] [] h Q := by
  unfold bX12_parseConstant at hq
  refine x_aload_n 0 dX12_parseConstant_0 rfl ?_
  refine x_bipush (v := 7) dX12_parseConstant_1 (by decide) ?_
  refine x_aload_n 0 dX12_parseConstant_3 rfl ?_
  obtain ⟨g1, hq⟩ := hq
  obtain ⟨g2, g3, hq⟩ := hq
  refine x_callV (Yc := YX12_now) (as := []) (st := [.int 7, rv x0]) q3790 mvX12_now g1 rfl dX12_parseConstant_4 (xle (xal1 (rv_cat _) xal0) (by decide)) (xfr g2) (xlo (xsw1 rfl (xsw1 (rv_cat _) xsw0)) (by decide) g3) (xKi hq (fun x5 h4 hq e6 => ?_) (fun _ _ q _ => q))
  replace hq := hq e6
  have t7 : tg h4 x0 = 13 := e6.tg g1 (by decide)
  obtain ⟨g8, g9, hq⟩ := hq
  refine x_callV (Yc := YX12_node) (as := [.int 7, .int x5]) (st := []) q3798 mvX12_node t7 rfl dX12_parseConstant_7 (xle (xal1 (rv_cat _) (xal1 rfl (xal1 rfl xal0))) (by decide)) (xfr g8) (xlo xsw0 (by decide) g9) (xKi hq (fun x11 h10 hq e12 => ?_) (fun _ _ q _ => q))
  replace hq := hq e12
  refine x_istore_n (lv' := [(1, .int x11), (0, rv x0)]) dX12_parseConstant_10 (by decide) (by first | rfl | (simp [rv_cat, Value.category]; done) | (simp [rv_cat, Value.category]; decide)) ?_
  refine x_aload_n 1 dX12_parseConstant_11 rfl ?_
  refine x_bipush (v := 43) dX12_parseConstant_12 (by decide) ?_
  have t13 : tg h10 x0 = 13 := e12.tg t7 (by decide)
  obtain ⟨g14, g15, hq⟩ := hq
  refine x_callV (Yc := YX12_sees) (as := [.int 43]) (st := []) q3782 mvX12_sees t13 rfl dX12_parseConstant_14 (xle (xal1 (rv_cat _) (xal1 rfl xal0)) (by decide)) (xfr g14) (xlo xsw0 (by decide) g15) (xKi hq (fun x17 h16 hq e18 => ?_) (fun _ _ q _ => q))
  replace hq := hq e18
  refine x_if_eq (tgt := 32) dX12_parseConstant_17 (by decide) (fun c19 => ?_) (fun c19 => ?_)
  · replace hq := hq.1 c19
    refine x_aload_n 1 dX12_parseConstant_32 rfl ?_
    refine x_bipush (v := 50) dX12_parseConstant_33 (by decide) ?_
    have t20 : tg h16 x0 = 13 := e18.tg t13 (by decide)
    obtain ⟨g21, g22, hq⟩ := hq
    refine x_callV (Yc := YX12_sees) (as := [.int 50]) (st := []) q3782 mvX12_sees t20 rfl dX12_parseConstant_35 (xle (xal1 (rv_cat _) (xal1 rfl xal0)) (by decide)) (xfr g21) (xlo xsw0 (by decide) g22) (xKi hq (fun x24 h23 hq e25 => ?_) (fun _ _ q _ => q))
    replace hq := hq e25
    refine x_if_ne (tgt := 50) dX12_parseConstant_38 (by decide) (fun c26 => ?_) (fun c26 => ?_)
    · replace hq := hq.1 c26
      refine xP.pick (lv' := [(0, rv x0), (1, .int x11)]) [1, 0] rfl ?_
      exact uX12_parseConstant_50 hq
    · replace hq := hq.2 c26
      refine x_aload_n 1 dX12_parseConstant_41 rfl ?_
      refine x_bipush (v := 51) dX12_parseConstant_42 (by decide) ?_
      have t27 : tg h23 x0 = 13 := e25.tg t20 (by decide)
      obtain ⟨g28, g29, hq⟩ := hq
      refine x_callV (Yc := YX12_sees) (as := [.int 51]) (st := []) q3782 mvX12_sees t27 rfl dX12_parseConstant_44 (xle (xal1 (rv_cat _) (xal1 rfl xal0)) (by decide)) (xfr g28) (xlo xsw0 (by decide) g29) (xKi hq (fun x31 h30 hq e32 => ?_) (fun _ _ q _ => q))
      replace hq := hq e32
      refine x_if_eq (tgt := 60) dX12_parseConstant_47 (by decide) (fun c33 => ?_) (fun c33 => ?_)
      · replace hq := hq.1 c33
        refine xP.pick (lv' := [(0, rv x0), (1, .int x11)]) [1, 0] rfl ?_
        exact uX12_parseConstant_60 hq
      · replace hq := hq.2 c33
        refine xP.pick (lv' := [(0, rv x0), (1, .int x11)]) [1, 0] rfl ?_
        exact uX12_parseConstant_50 hq
  · replace hq := hq.2 c19
    refine x_aload_n 1 dX12_parseConstant_20 rfl ?_
    have t34 : tg h16 x0 = 13 := e18.tg t13 (by decide)
    refine x_get (v := rv (fR h16 x0 3106)) fdX12_82 dX12_parseConstant_21 t34 rfl ?_
    refine x_iload_n 0 dX12_parseConstant_24 rfl ?_
    refine x_aload_n 1 dX12_parseConstant_25 rfl ?_
    obtain ⟨g35, g36, hq⟩ := hq
    refine x_callV (Yc := YX12_take) (as := []) (st := [.int x11, rv (fR h16 x0 3106)]) q3794 mvX12_take t34 rfl dX12_parseConstant_26 (xle (xal1 (rv_cat _) xal0) (by decide)) (xfr g35) (xlo (xsw1 rfl (xsw1 (rv_cat _) xsw0)) (by decide) g36) (xKi hq (fun x38 h37 hq e39 => ?_) (fun _ _ q _ => q))
    replace hq := hq e39
    obtain ⟨g40, hq⟩ := hq
    obtain ⟨i41, hq⟩ := hq
    obtain ⟨h42, e43⟩ : ∃ y, y = tI h37 (fR h16 x0 3106) (Int32.toNatClampNeg x11) x38 := ⟨_, rfl⟩
    replace hq := hq h42 e43
    refine x_iast' g40 i41 dX12_parseConstant_29 e43 ?_
    refine x_iload_n 0 dX12_parseConstant_30 rfl ?_
    exact x_iret rfl rfl dX12_parseConstant_31 hq
theorem rX12_parseConstant {G : xG} {fr lo : Nat} {x0 : Nat} {h : xH} {Q : Outcome → xH → Prop} (hq : bX12_parseConstant G fr lo x0 h Q) : xR G YX12_parseConstant fr lo [rv x0] h Q := by
  show xP _ _ _ _ _ (lv_args 0 _) _ _ _
  rw [show lv_args 0 [rv x0] = [(0, rv x0)] from (xla1 (rv_cat _) xla0)]
  exact uX12_parseConstant hq
set_option maxRecDepth 100000 in
theorem dX12_parseType_0 : decode cX12_parseType 0 = .ok (.aload_n 0, 1) := by decide +kernel
set_option maxRecDepth 100000 in
theorem dX12_parseType_1 : decode cX12_parseType 1 = .ok (.invokevirtual 472, 3) := by decide +kernel
set_option maxRecDepth 100000 in
theorem dX12_parseType_4 : decode cX12_parseType 4 = .ok (.aload_n 0, 1) := by decide +kernel
set_option maxRecDepth 100000 in
theorem dX12_parseType_5 : decode cX12_parseType 5 = .ok (.bipush 70, 2) := by decide +kernel
set_option maxRecDepth 100000 in
theorem dX12_parseType_7 : decode cX12_parseType 7 = .ok (.invokevirtual 439, 3) := by decide +kernel
set_option maxRecDepth 100000 in
theorem dX12_parseType_10 : decode cX12_parseType 10 = .ok (.ifCond .eq 33, 3) := by decide +kernel
set_option maxRecDepth 100000 in
theorem dX12_parseType_13 : decode cX12_parseType 13 = .ok (.aload_n 0, 1) := by decide +kernel
set_option maxRecDepth 100000 in
theorem dX12_parseType_14 : decode cX12_parseType 14 = .ok (.bipush 10, 2) := by decide +kernel
set_option maxRecDepth 100000 in
theorem dX12_parseType_16 : decode cX12_parseType 16 = .ok (.aload_n 0, 1) := by decide +kernel
set_option maxRecDepth 100000 in
theorem dX12_parseType_17 : decode cX12_parseType 17 = .ok (.invokevirtual 442, 3) := by decide +kernel
set_option maxRecDepth 100000 in
theorem dX12_parseType_20 : decode cX12_parseType 20 = .ok (.invokevirtual 454, 3) := by decide +kernel
set_option maxRecDepth 100000 in
theorem dX12_parseType_23 : decode cX12_parseType 23 = .ok (.istore_n 1, 1) := by decide +kernel
set_option maxRecDepth 100000 in
theorem dX12_parseType_24 : decode cX12_parseType 24 = .ok (.aload_n 0, 1) := by decide +kernel
set_option maxRecDepth 100000 in
theorem dX12_parseType_25 : decode cX12_parseType 25 = .ok (.iload_n 1, 1) := by decide +kernel
set_option maxRecDepth 100000 in
theorem dX12_parseType_26 : decode cX12_parseType 26 = .ok (.aload_n 0, 1) := by decide +kernel
set_option maxRecDepth 100000 in
theorem dX12_parseType_27 : decode cX12_parseType 27 = .ok (.iconst 4, 1) := by decide +kernel
set_option maxRecDepth 100000 in
theorem dX12_parseType_28 : decode cX12_parseType 28 = .ok (.aload_n 0, 1) := by decide +kernel
set_option maxRecDepth 100000 in
theorem dX12_parseType_29 : decode cX12_parseType 29 = .ok (.bipush 40, 2) := by decide +kernel
set_option maxRecDepth 100000 in
theorem dX12_parseType_31 : decode cX12_parseType 31 = .ok (.invokevirtual 457, 3) := by decide +kernel
set_option maxRecDepth 100000 in
theorem dX12_parseType_34 : decode cX12_parseType 34 = .ok (.invokevirtual 454, 3) := by decide +kernel
set_option maxRecDepth 100000 in
theorem dX12_parseType_37 : decode cX12_parseType 37 = .ok (.invokevirtual 460, 3) := by decide +kernel
set_option maxRecDepth 100000 in
theorem dX12_parseType_40 : decode cX12_parseType 40 = .ok (.goto 112, 3) := by decide +kernel
set_option maxRecDepth 100000 in
theorem dX12_parseType_43 : decode cX12_parseType 43 = .ok (.aload_n 0, 1) := by decide +kernel
set_option maxRecDepth 100000 in
theorem dX12_parseType_44 : decode cX12_parseType 44 = .ok (.bipush 23, 2) := by decide +kernel
set_option maxRecDepth 100000 in
theorem dX12_parseType_46 : decode cX12_parseType 46 = .ok (.invokevirtual 439, 3) := by decide +kernel
set_option maxRecDepth 100000 in
theorem dX12_parseType_49 : decode cX12_parseType 49 = .ok (.ifCond .eq 55, 3) := by decide +kernel
set_option maxRecDepth 100000 in
theorem dX12_parseType_52 : decode cX12_parseType 52 = .ok (.aload_n 0, 1) := by decide +kernel
set_option maxRecDepth 100000 in
theorem dX12_parseType_53 : decode cX12_parseType 53 = .ok (.invokevirtual 442, 3) := by decide +kernel
set_option maxRecDepth 100000 in
theorem dX12_parseType_56 : decode cX12_parseType 56 = .ok (.pop, 1) := by decide +kernel
set_option maxRecDepth 100000 in
theorem dX12_parseType_57 : decode cX12_parseType 57 = .ok (.aload_n 0, 1) := by decide +kernel
set_option maxRecDepth 100000 in
theorem dX12_parseType_58 : decode cX12_parseType 58 = .ok (.iconst 2, 1) := by decide +kernel
set_option maxRecDepth 100000 in
theorem dX12_parseType_59 : decode cX12_parseType 59 = .ok (.invokevirtual 439, 3) := by decide +kernel
set_option maxRecDepth 100000 in
theorem dX12_parseType_62 : decode cX12_parseType 62 = .ok (.ifCond .ne 34, 3) := by decide +kernel
set_option maxRecDepth 100000 in
theorem dX12_parseType_65 : decode cX12_parseType 65 = .ok (.aload_n 0, 1) := by decide +kernel
set_option maxRecDepth 100000 in
theorem dX12_parseType_66 : decode cX12_parseType 66 = .ok (.bipush 26, 2) := by decide +kernel
set_option maxRecDepth 100000 in
theorem dX12_parseType_68 : decode cX12_parseType 68 = .ok (.invokevirtual 439, 3) := by decide +kernel
set_option maxRecDepth 100000 in
theorem dX12_parseType_71 : decode cX12_parseType 71 = .ok (.ifCond .ne 25, 3) := by decide +kernel
set_option maxRecDepth 100000 in
theorem dX12_parseType_74 : decode cX12_parseType 74 = .ok (.aload_n 0, 1) := by decide +kernel
set_option maxRecDepth 100000 in
theorem dX12_parseType_75 : decode cX12_parseType 75 = .ok (.bipush 28, 2) := by decide +kernel
set_option maxRecDepth 100000 in
theorem dX12_parseType_77 : decode cX12_parseType 77 = .ok (.invokevirtual 439, 3) := by decide +kernel
set_option maxRecDepth 100000 in
theorem dX12_parseType_80 : decode cX12_parseType 80 = .ok (.ifCond .ne 16, 3) := by decide +kernel
set_option maxRecDepth 100000 in
theorem dX12_parseType_83 : decode cX12_parseType 83 = .ok (.aload_n 0, 1) := by decide +kernel
set_option maxRecDepth 100000 in
theorem dX12_parseType_84 : decode cX12_parseType 84 = .ok (.bipush 11, 2) := by decide +kernel
set_option maxRecDepth 100000 in
theorem dX12_parseType_86 : decode cX12_parseType 86 = .ok (.invokevirtual 439, 3) := by decide +kernel
set_option maxRecDepth 100000 in
theorem dX12_parseType_89 : decode cX12_parseType 89 = .ok (.ifCond .ne 7, 3) := by decide +kernel
set_option maxRecDepth 100000 in
theorem dX12_parseType_92 : decode cX12_parseType 92 = .ok (.aload_n 0, 1) := by decide +kernel
set_option maxRecDepth 100000 in
theorem dX12_parseType_93 : decode cX12_parseType 93 = .ok (.invokevirtual 448, 3) := by decide +kernel
set_option maxRecDepth 100000 in
theorem dX12_parseType_96 : decode cX12_parseType 96 = .ok (.aload_n 0, 1) := by decide +kernel
set_option maxRecDepth 100000 in
theorem dX12_parseType_97 : decode cX12_parseType 97 = .ok (.invokevirtual 490, 3) := by decide +kernel
set_option maxRecDepth 100000 in
theorem dX12_parseType_100 : decode cX12_parseType 100 = .ok (.istore_n 1, 1) := by decide +kernel
set_option maxRecDepth 100000 in
theorem dX12_parseType_101 : decode cX12_parseType 101 = .ok (.goto 51, 3) := by decide +kernel
set_option maxRecDepth 100000 in
theorem dX12_parseType_104 : decode cX12_parseType 104 = .ok (.aload_n 0, 1) := by decide +kernel
set_option maxRecDepth 100000 in
theorem dX12_parseType_105 : decode cX12_parseType 105 = .ok (.iconst 2, 1) := by decide +kernel
set_option maxRecDepth 100000 in
theorem dX12_parseType_106 : decode cX12_parseType 106 = .ok (.invokevirtual 439, 3) := by decide +kernel
set_option maxRecDepth 100000 in
theorem dX12_parseType_109 : decode cX12_parseType 109 = .ok (.ifCond .ne 30, 3) := by decide +kernel
set_option maxRecDepth 100000 in
theorem dX12_parseType_112 : decode cX12_parseType 112 = .ok (.aload_n 0, 1) := by decide +kernel
set_option maxRecDepth 100000 in
theorem dX12_parseType_113 : decode cX12_parseType 113 = .ok (.bipush 26, 2) := by decide +kernel
set_option maxRecDepth 100000 in
theorem dX12_parseType_115 : decode cX12_parseType 115 = .ok (.invokevirtual 439, 3) := by decide +kernel
set_option maxRecDepth 100000 in
theorem dX12_parseType_118 : decode cX12_parseType 118 = .ok (.ifCond .ne 21, 3) := by decide +kernel
set_option maxRecDepth 100000 in
theorem dX12_parseType_121 : decode cX12_parseType 121 = .ok (.aload_n 0, 1) := by decide +kernel
set_option maxRecDepth 100000 in
theorem dX12_parseType_122 : decode cX12_parseType 122 = .ok (.bipush 28, 2) := by decide +kernel
set_option maxRecDepth 100000 in
theorem dX12_parseType_124 : decode cX12_parseType 124 = .ok (.invokevirtual 439, 3) := by decide +kernel
set_option maxRecDepth 100000 in
theorem dX12_parseType_127 : decode cX12_parseType 127 = .ok (.ifCond .ne 12, 3) := by decide +kernel
set_option maxRecDepth 100000 in
theorem dX12_parseType_130 : decode cX12_parseType 130 = .ok (.aload_n 0, 1) := by decide +kernel
set_option maxRecDepth 100000 in
theorem dX12_parseType_131 : decode cX12_parseType 131 = .ok (.bipush 11, 2) := by decide +kernel
set_option maxRecDepth 100000 in
theorem dX12_parseType_133 : decode cX12_parseType 133 = .ok (.invokevirtual 439, 3) := by decide +kernel
set_option maxRecDepth 100000 in
theorem dX12_parseType_136 : decode cX12_parseType 136 = .ok (.ifCond .eq 11, 3) := by decide +kernel
set_option maxRecDepth 100000 in
theorem dX12_parseType_139 : decode cX12_parseType 139 = .ok (.aload_n 0, 1) := by decide +kernel
set_option maxRecDepth 100000 in
theorem dX12_parseType_140 : decode cX12_parseType 140 = .ok (.invokevirtual 490, 3) := by decide +kernel
set_option maxRecDepth 100000 in
theorem dX12_parseType_143 : decode cX12_parseType 143 = .ok (.istore_n 1, 1) := by decide +kernel
set_option maxRecDepth 100000 in
theorem dX12_parseType_144 : decode cX12_parseType 144 = .ok (.goto 8, 3) := by decide +kernel
set_option maxRecDepth 100000 in
theorem dX12_parseType_147 : decode cX12_parseType 147 = .ok (.aload_n 0, 1) := by decide +kernel
set_option maxRecDepth 100000 in
theorem dX12_parseType_148 : decode cX12_parseType 148 = .ok (.invokevirtual 493, 3) := by decide +kernel
set_option maxRecDepth 100000 in
theorem dX12_parseType_151 : decode cX12_parseType 151 = .ok (.istore_n 1, 1) := by decide +kernel
set_option maxRecDepth 100000 in
theorem dX12_parseType_152 : decode cX12_parseType 152 = .ok (.aload_n 0, 1) := by decide +kernel
set_option maxRecDepth 100000 in
theorem dX12_parseType_153 : decode cX12_parseType 153 = .ok (.dup, 1) := by decide +kernel
set_option maxRecDepth 100000 in
theorem dX12_parseType_154 : decode cX12_parseType 154 = .ok (.getfield 451, 3) := by decide +kernel
set_option maxRecDepth 100000 in
theorem dX12_parseType_157 : decode cX12_parseType 157 = .ok (.iconst 1, 1) := by decide +kernel
set_option maxRecDepth 100000 in
theorem dX12_parseType_158 : decode cX12_parseType 158 = .ok (.isub, 1) := by decide +kernel
set_option maxRecDepth 100000 in
theorem dX12_parseType_159 : decode cX12_parseType 159 = .ok (.putfield 451, 3) := by decide +kernel
set_option maxRecDepth 100000 in
theorem dX12_parseType_162 : decode cX12_parseType 162 = .ok (.iload_n 1, 1) := by decide +kernel
set_option maxRecDepth 100000 in
theorem dX12_parseType_163 : decode cX12_parseType 163 = .ok (.ireturn, 1) := by decide +kernel
set_option maxRecDepth 100000 in
def bX12_parseType_152 (G : xG) (fr lo : Nat) (x0 : Nat) (x1 : Int32) (h : xH) (Q : Outcome → xH → Prop) : Prop := tg h x0 = 13 ∧ (∀ h2 : xH, h2 = sI h x0 3111 ((fI h x0 3111) - 1) → Q (.returned (some (.int x1))) h2)
set_option maxRecDepth 100000 in
theorem uX12_parseType_152 {G : xG} {fr lo : Nat} {x0 : Nat} {x1 : Int32} {h : xH} {Q : Outcome → xH → Prop} (hq : bX12_parseType_152 G fr lo x0 x1 h Q) : xP G YX12_parseType fr lo 152 [(0, rv x0), (1, .int x1)] [] h Q := by
  unfold bX12_parseType_152 at hq
  refine x_aload_n 0 dX12_parseType_152 rfl ?_
  refine x_dup dX12_parseType_153 (rv_cat _) ?_
  obtain ⟨g1, hq⟩ := hq
  refine x_get (v := .int (fI h x0 3111)) fdX12_451 dX12_parseType_154 g1 rfl ?_
  refine x_iconst (v := 1) dX12_parseType_157 (by decide) ?_
  refine x_isub dX12_parseType_158 ?_
  obtain ⟨h2, e3⟩ : ∃ y, y = sI h x0 3111 ((fI h x0 3111) - 1) := ⟨_, rfl⟩
  replace hq := hq h2 e3
  refine x_putI fdX12_451 xty_I1 dX12_parseType_159 g1 (Or.inl (by rw [g1]; rfl)) xnI rfl e3 ?_
  refine x_iload_n 1 dX12_parseType_162 rfl ?_
  exact x_iret rfl rfl dX12_parseType_163 hq
set_option maxRecDepth 100000 in
def bX12_parseType_139 (G : xG) (fr lo : Nat) (x0 : Nat) (h : xH) (Q : Outcome → xH → Prop) : Prop := tg h x0 = 13 ∧ 1 ≤ fr ∧ 15 ≤ lo ∧ xRi G YX12_parseStructure (fr - 1) (lo - 15) [rv x0] h (fun x5 h4 => xext h h4 → bX12_parseType_152 G fr lo x0 x5 h4 Q) (fun r h2 => Q (.threw r) h2)
set_option maxRecDepth 100000 in
theorem uX12_parseType_139 {G : xG} {fr lo : Nat} {x0 : Nat} {h : xH} {Q : Outcome → xH → Prop} (hq : bX12_parseType_139 G fr lo x0 h Q) : xP G YX12_parseType fr lo 139 [(0, rv x0)] [] h Q := by
  unfold bX12_parseType_139 at hq
  refine x_aload_n 0 dX12_parseType_139 rfl ?_
  obtain ⟨g1, hq⟩ := hq
  obtain ⟨g2, g3, hq⟩ := hq
  refine x_callV (Yc := YX12_parseStructure) (as := []) (st := []) q3830 mvX12_parseStructure g1 rfl dX12_parseType_140 (xle (xal1 (rv_cat _) xal0) (by decide)) (xfr g2) (xlo xsw0 (by decide) g3) (xKi hq (fun x5 h4 hq e6 => ?_) (fun _ _ q _ => q))
  replace hq := hq e6
  refine x_istore_n (lv' := [(1, .int x5), (0, rv x0)]) dX12_parseType_143 (by decide) (by first | rfl | (simp [rv_cat, Value.category]; done) | (simp [rv_cat, Value.category]; decide)) ?_
  refine x_goto (tgt := 152) dX12_parseType_144 (by decide) ?_
  refine xP.pick (lv' := [(0, rv x0), (1, .int x5)]) [1, 0] rfl ?_
  exact uX12_parseType_152 hq
set_option maxRecDepth 100000 in
def bX12_parseType_96 (G : xG) (fr lo : Nat) (x0 : Nat) (h : xH) (Q : Outcome → xH → Prop) : Prop := tg h x0 = 13 ∧ 1 ≤ fr ∧ 15 ≤ lo ∧ xRi G YX12_parseStructure (fr - 1) (lo - 15) [rv x0] h (fun x5 h4 => xext h h4 → bX12_parseType_152 G fr lo x0 x5 h4 Q) (fun r h2 => Q (.threw r) h2)
set_option maxRecDepth 100000 in
theorem uX12_parseType_96 {G : xG} {fr lo : Nat} {x0 : Nat} {h : xH} {Q : Outcome → xH → Prop} (hq : bX12_parseType_96 G fr lo x0 h Q) : xP G YX12_parseType fr lo 96 [(0, rv x0)] [] h Q := by
  unfold bX12_parseType_96 at hq
  refine x_aload_n 0 dX12_parseType_96 rfl ?_
  obtain ⟨g1, hq⟩ := hq
  obtain ⟨g2, g3, hq⟩ := hq
  refine x_callV (Yc := YX12_parseStructure) (as := []) (st := []) q3830 mvX12_parseStructure g1 rfl dX12_parseType_97 (xle (xal1 (rv_cat _) xal0) (by decide)) (xfr g2) (xlo xsw0 (by decide) g3) (xKi hq (fun x5 h4 hq e6 => ?_) (fun _ _ q _ => q))
  replace hq := hq e6
  refine x_istore_n (lv' := [(1, .int x5), (0, rv x0)]) dX12_parseType_100 (by decide) (by first | rfl | (simp [rv_cat, Value.category]; done) | (simp [rv_cat, Value.category]; decide)) ?_
  refine x_goto (tgt := 152) dX12_parseType_101 (by decide) ?_
  refine xP.pick (lv' := [(0, rv x0), (1, .int x5)]) [1, 0] rfl ?_
  exact uX12_parseType_152 hq
set_option maxRecDepth 100000 in
def bX12_parseType (G : xG) (fr lo : Nat) (x0 : Nat) (h : xH) (Q : Outcome → xH → Prop) : Prop := tg h x0 = 13 ∧ 1 ≤ fr ∧ 12 ≤ lo ∧ xRv G YX12_enter (fr - 1) (lo - 12) [rv x0] h (fun h4 => xext h h4 → 1 ≤ fr ∧ 13 ≤ lo ∧ xRi G YX12_sees (fr - 1) (lo - 13) [rv x0, .int 70] h4 (fun x11 h10 => xext h4 h10 → ((x11 = 0 → 1 ≤ fr ∧ 13 ≤ lo ∧ xRi G YX12_sees (fr - 1) (lo - 13) [rv x0, .int 23] h10 (fun x18 h17 => xext h10 h17 → ((x18 = 0 → 1 ≤ fr ∧ 13 ≤ lo ∧ xRi G YX12_sees (fr - 1) (lo - 13) [rv x0, .int 2] h17 (fun x25 h24 => xext h17 h24 → ((¬ x25 = 0 → bX12_parseType_139 G fr lo x0 h24 Q) ∧ (x25 = 0 → 1 ≤ fr ∧ 13 ≤ lo ∧ xRi G YX12_sees (fr - 1) (lo - 13) [rv x0, .int 26] h24 (fun x32 h31 => xext h24 h31 → ((¬ x32 = 0 → bX12_parseType_139 G fr lo x0 h31 Q) ∧ (x32 = 0 → 1 ≤ fr ∧ 13 ≤ lo ∧ xRi G YX12_sees (fr - 1) (lo - 13) [rv x0, .int 28] h31 (fun x39 h38 => xext h31 h38 → ((¬ x39 = 0 → bX12_parseType_139 G fr lo x0 h38 Q) ∧ (x39 = 0 → 1 ≤ fr ∧ 13 ≤ lo ∧ xRi G YX12_sees (fr - 1) (lo - 13) [rv x0, .int 11] h38 (fun x46 h45 => xext h38 h45 → ((x46 = 0 → 1 ≤ fr ∧ 16 ≤ lo ∧ xRi G YX12_parseSimple (fr - 1) (lo - 16) [rv x0] h45 (fun x53 h52 => xext h45 h52 → bX12_parseType_152 G fr lo x0 x53 h52 Q) (fun r h2 => Q (.threw r) h2)) ∧ (¬ x46 = 0 → bX12_parseType_139 G fr lo x0 h45 Q))) (fun r h2 => Q (.threw r) h2)))) (fun r h2 => Q (.threw r) h2)))) (fun r h2 => Q (.threw r) h2)))) (fun r h2 => Q (.threw r) h2)) ∧ (¬ x18 = 0 → 1 ≤ fr ∧ 13 ≤ lo ∧ xRi G YX12_take (fr - 1) (lo - 13) [rv x0] h17 (fun x59 h58 => xext h17 h58 → 1 ≤ fr ∧ 13 ≤ lo ∧ xRi G YX12_sees (fr - 1) (lo - 13) [rv x0, .int 2] h58 (fun x65 h64 => xext h58 h64 → ((¬ x65 = 0 → bX12_parseType_96 G fr lo x0 h64 Q) ∧ (x65 = 0 → 1 ≤ fr ∧ 13 ≤ lo ∧ xRi G YX12_sees (fr - 1) (lo - 13) [rv x0, .int 26] h64 (fun x72 h71 => xext h64 h71 → ((¬ x72 = 0 → bX12_parseType_96 G fr lo x0 h71 Q) ∧ (x72 = 0 → 1 ≤ fr ∧ 13 ≤ lo ∧ xRi G YX12_sees (fr - 1) (lo - 13) [rv x0, .int 28] h71 (fun x79 h78 => xext h71 h78 → ((¬ x79 = 0 → bX12_parseType_96 G fr lo x0 h78 Q) ∧ (x79 = 0 → 1 ≤ fr ∧ 13 ≤ lo ∧ xRi G YX12_sees (fr - 1) (lo - 13) [rv x0, .int 11] h78 (fun x86 h85 => xext h78 h85 → ((¬ x86 = 0 → bX12_parseType_96 G fr lo x0 h85 Q) ∧ (x86 = 0 → 1 ≤ fr ∧ 12 ≤ lo ∧ xRv G YX12_bad (fr - 1) (lo - 12) [rv x0] h85 (fun h92 => xext h85 h92 → bX12_parseType_96 G fr lo x0 h92 Q) (fun r h2 => Q (.threw r) h2)))) (fun r h2 => Q (.threw r) h2)))) (fun r h2 => Q (.threw r) h2)))) (fun r h2 => Q (.threw r) h2)))) (fun r h2 => Q (.threw r) h2)) (fun r h2 => Q (.threw r) h2)))) (fun r h2 => Q (.threw r) h2)) ∧ (¬ x11 = 0 → 1 ≤ fr ∧ 15 ≤ lo ∧ xRi G YX12_take (fr - 1) (lo - 15) [rv x0] h10 (fun x99 h98 => xext h10 h98 → 1 ≤ fr ∧ 15 ≤ lo ∧ xRi G YX12_node (fr - 1) (lo - 15) [rv x0, .int 10, .int x99] h98 (fun x105 h104 => xext h98 h104 → 1 ≤ fr ∧ 17 ≤ lo ∧ xRi G YX12_must (fr - 1) (lo - 17) [rv x0, .int 40] h104 (fun x111 h110 => xext h104 h110 → 1 ≤ fr ∧ 17 ≤ lo ∧ xRi G YX12_node (fr - 1) (lo - 17) [rv x0, .int 4, .int x111] h110 (fun x117 h116 => xext h110 h116 → 1 ≤ fr ∧ 14 ≤ lo ∧ xRv G YX12_add (fr - 1) (lo - 14) [rv x0, .int x105, .int x117] h116 (fun h122 => xext h116 h122 → bX12_parseType_152 G fr lo x0 x105 h122 Q) (fun r h2 => Q (.threw r) h2)) (fun r h2 => Q (.threw r) h2)) (fun r h2 => Q (.threw r) h2)) (fun r h2 => Q (.threw r) h2)) (fun r h2 => Q (.threw r) h2)))) (fun r h2 => Q (.threw r) h2)) (fun r h2 => Q (.threw r) h2)
set_option maxRecDepth 100000 in
theorem uX12_parseType {G : xG} {fr lo : Nat} {x0 : Nat} {h : xH} {Q : Outcome → xH → Prop} (hq : bX12_parseType G fr lo x0 h Q) : xP G YX12_parseType fr lo 0 [(0, rv x0)] [] h Q := by
  unfold bX12_parseType at hq
  refine x_aload_n 0 dX12_parseType_0 rfl ?_
  obtain ⟨g1, hq⟩ := hq
  obtain ⟨g2, g3, hq⟩ := hq
  refine x_callV (Yc := YX12_enter) (as := []) (st := []) q3818 mvX12_enter g1 rfl dX12_parseType_1 (xle (xal1 (rv_cat _) xal0) (by decide)) (xfr g2) (xlo xsw0 (by decide) g3) (xKv hq (fun h4 hq e6 => ?_) (fun _ _ q _ => q))
  replace hq := hq e6
  refine x_aload_n 0 dX12_parseType_4 rfl ?_
  refine x_bipush (v := 70) dX12_parseType_5 (by decide) ?_
  have t7 : tg h4 x0 = 13 := e6.tg g1 (by decide)
  obtain ⟨g8, g9, hq⟩ := hq
  refine x_callV (Yc := YX12_sees) (as := [.int 70]) (st := []) q3782 mvX12_sees t7 rfl dX12_parseType_7 (xle (xal1 (rv_cat _) (xal1 rfl xal0)) (by decide)) (xfr g8) (xlo xsw0 (by decide) g9) (xKi hq (fun x11 h10 hq e12 => ?_) (fun _ _ q _ => q))
  replace hq := hq e12
  refine x_if_eq (tgt := 43) dX12_parseType_10 (by decide) (fun c13 => ?_) (fun c13 => ?_)
  · replace hq := hq.1 c13
    refine x_aload_n 0 dX12_parseType_43 rfl ?_
    refine x_bipush (v := 23) dX12_parseType_44 (by decide) ?_
    have t14 : tg h10 x0 = 13 := e12.tg t7 (by decide)
    obtain ⟨g15, g16, hq⟩ := hq
    refine x_callV (Yc := YX12_sees) (as := [.int 23]) (st := []) q3782 mvX12_sees t14 rfl dX12_parseType_46 (xle (xal1 (rv_cat _) (xal1 rfl xal0)) (by decide)) (xfr g15) (xlo xsw0 (by decide) g16) (xKi hq (fun x18 h17 hq e19 => ?_) (fun _ _ q _ => q))
    replace hq := hq e19
    refine x_if_eq (tgt := 104) dX12_parseType_49 (by decide) (fun c20 => ?_) (fun c20 => ?_)
    · replace hq := hq.1 c20
      refine x_aload_n 0 dX12_parseType_104 rfl ?_
      refine x_iconst (v := 2) dX12_parseType_105 (by decide) ?_
      have t21 : tg h17 x0 = 13 := e19.tg t14 (by decide)
      obtain ⟨g22, g23, hq⟩ := hq
      refine x_callV (Yc := YX12_sees) (as := [.int 2]) (st := []) q3782 mvX12_sees t21 rfl dX12_parseType_106 (xle (xal1 (rv_cat _) (xal1 rfl xal0)) (by decide)) (xfr g22) (xlo xsw0 (by decide) g23) (xKi hq (fun x25 h24 hq e26 => ?_) (fun _ _ q _ => q))
      replace hq := hq e26
      refine x_if_ne (tgt := 139) dX12_parseType_109 (by decide) (fun c27 => ?_) (fun c27 => ?_)
      · replace hq := hq.1 c27
        exact uX12_parseType_139 hq
      · replace hq := hq.2 c27
        refine x_aload_n 0 dX12_parseType_112 rfl ?_
        refine x_bipush (v := 26) dX12_parseType_113 (by decide) ?_
        have t28 : tg h24 x0 = 13 := e26.tg t21 (by decide)
        obtain ⟨g29, g30, hq⟩ := hq
        refine x_callV (Yc := YX12_sees) (as := [.int 26]) (st := []) q3782 mvX12_sees t28 rfl dX12_parseType_115 (xle (xal1 (rv_cat _) (xal1 rfl xal0)) (by decide)) (xfr g29) (xlo xsw0 (by decide) g30) (xKi hq (fun x32 h31 hq e33 => ?_) (fun _ _ q _ => q))
        replace hq := hq e33
        refine x_if_ne (tgt := 139) dX12_parseType_118 (by decide) (fun c34 => ?_) (fun c34 => ?_)
        · replace hq := hq.1 c34
          exact uX12_parseType_139 hq
        · replace hq := hq.2 c34
          refine x_aload_n 0 dX12_parseType_121 rfl ?_
          refine x_bipush (v := 28) dX12_parseType_122 (by decide) ?_
          have t35 : tg h31 x0 = 13 := e33.tg t28 (by decide)
          obtain ⟨g36, g37, hq⟩ := hq
          refine x_callV (Yc := YX12_sees) (as := [.int 28]) (st := []) q3782 mvX12_sees t35 rfl dX12_parseType_124 (xle (xal1 (rv_cat _) (xal1 rfl xal0)) (by decide)) (xfr g36) (xlo xsw0 (by decide) g37) (xKi hq (fun x39 h38 hq e40 => ?_) (fun _ _ q _ => q))
          replace hq := hq e40
          refine x_if_ne (tgt := 139) dX12_parseType_127 (by decide) (fun c41 => ?_) (fun c41 => ?_)
          · replace hq := hq.1 c41
            exact uX12_parseType_139 hq
          · replace hq := hq.2 c41
            refine x_aload_n 0 dX12_parseType_130 rfl ?_
            refine x_bipush (v := 11) dX12_parseType_131 (by decide) ?_
            have t42 : tg h38 x0 = 13 := e40.tg t35 (by decide)
            obtain ⟨g43, g44, hq⟩ := hq
            refine x_callV (Yc := YX12_sees) (as := [.int 11]) (st := []) q3782 mvX12_sees t42 rfl dX12_parseType_133 (xle (xal1 (rv_cat _) (xal1 rfl xal0)) (by decide)) (xfr g43) (xlo xsw0 (by decide) g44) (xKi hq (fun x46 h45 hq e47 => ?_) (fun _ _ q _ => q))
            replace hq := hq e47
            refine x_if_eq (tgt := 147) dX12_parseType_136 (by decide) (fun c48 => ?_) (fun c48 => ?_)
            · replace hq := hq.1 c48
              refine x_aload_n 0 dX12_parseType_147 rfl ?_
              have t49 : tg h45 x0 = 13 := e47.tg t42 (by decide)
              obtain ⟨g50, g51, hq⟩ := hq
              refine x_callV (Yc := YX12_parseSimple) (as := []) (st := []) q3834 mvX12_parseSimple t49 rfl dX12_parseType_148 (xle (xal1 (rv_cat _) xal0) (by decide)) (xfr g50) (xlo xsw0 (by decide) g51) (xKi hq (fun x53 h52 hq e54 => ?_) (fun _ _ q _ => q))
              replace hq := hq e54
              refine x_istore_n (lv' := [(1, .int x53), (0, rv x0)]) dX12_parseType_151 (by decide) (by first | rfl | (simp [rv_cat, Value.category]; done) | (simp [rv_cat, Value.category]; decide)) ?_
              refine xP.pick (lv' := [(0, rv x0), (1, .int x53)]) [1, 0] rfl ?_
              exact uX12_parseType_152 hq
            · replace hq := hq.2 c48
              exact uX12_parseType_139 hq
    · replace hq := hq.2 c20
      refine x_aload_n 0 dX12_parseType_52 rfl ?_
      have t55 : tg h17 x0 = 13 := e19.tg t14 (by decide)
      obtain ⟨g56, g57, hq⟩ := hq
      refine x_callV (Yc := YX12_take) (as := []) (st := []) q3794 mvX12_take t55 rfl dX12_parseType_53 (xle (xal1 (rv_cat _) xal0) (by decide)) (xfr g56) (xlo xsw0 (by decide) g57) (xKi hq (fun x59 h58 hq e60 => ?_) (fun _ _ q _ => q))
      replace hq := hq e60
      refine x_pop dX12_parseType_56 rfl ?_
      refine x_aload_n 0 dX12_parseType_57 rfl ?_
      refine x_iconst (v := 2) dX12_parseType_58 (by decide) ?_
      have t61 : tg h58 x0 = 13 := e60.tg t55 (by decide)
      obtain ⟨g62, g63, hq⟩ := hq
      refine x_callV (Yc := YX12_sees) (as := [.int 2]) (st := []) q3782 mvX12_sees t61 rfl dX12_parseType_59 (xle (xal1 (rv_cat _) (xal1 rfl xal0)) (by decide)) (xfr g62) (xlo xsw0 (by decide) g63) (xKi hq (fun x65 h64 hq e66 => ?_) (fun _ _ q _ => q))
      replace hq := hq e66
      refine x_if_ne (tgt := 96) dX12_parseType_62 (by decide) (fun c67 => ?_) (fun c67 => ?_)
      · replace hq := hq.1 c67
        exact uX12_parseType_96 hq
      · replace hq := hq.2 c67
        refine x_aload_n 0 dX12_parseType_65 rfl ?_
        refine x_bipush (v := 26) dX12_parseType_66 (by decide) ?_
        have t68 : tg h64 x0 = 13 := e66.tg t61 (by decide)
        obtain ⟨g69, g70, hq⟩ := hq
        refine x_callV (Yc := YX12_sees) (as := [.int 26]) (st := []) q3782 mvX12_sees t68 rfl dX12_parseType_68 (xle (xal1 (rv_cat _) (xal1 rfl xal0)) (by decide)) (xfr g69) (xlo xsw0 (by decide) g70) (xKi hq (fun x72 h71 hq e73 => ?_) (fun _ _ q _ => q))
        replace hq := hq e73
        refine x_if_ne (tgt := 96) dX12_parseType_71 (by decide) (fun c74 => ?_) (fun c74 => ?_)
        · replace hq := hq.1 c74
          exact uX12_parseType_96 hq
        · replace hq := hq.2 c74
          refine x_aload_n 0 dX12_parseType_74 rfl ?_
          refine x_bipush (v := 28) dX12_parseType_75 (by decide) ?_
          have t75 : tg h71 x0 = 13 := e73.tg t68 (by decide)
          obtain ⟨g76, g77, hq⟩ := hq
          refine x_callV (Yc := YX12_sees) (as := [.int 28]) (st := []) q3782 mvX12_sees t75 rfl dX12_parseType_77 (xle (xal1 (rv_cat _) (xal1 rfl xal0)) (by decide)) (xfr g76) (xlo xsw0 (by decide) g77) (xKi hq (fun x79 h78 hq e80 => ?_) (fun _ _ q _ => q))
          replace hq := hq e80
          refine x_if_ne (tgt := 96) dX12_parseType_80 (by decide) (fun c81 => ?_) (fun c81 => ?_)
          · replace hq := hq.1 c81
            exact uX12_parseType_96 hq
          · replace hq := hq.2 c81
            refine x_aload_n 0 dX12_parseType_83 rfl ?_
            refine x_bipush (v := 11) dX12_parseType_84 (by decide) ?_
            have t82 : tg h78 x0 = 13 := e80.tg t75 (by decide)
            obtain ⟨g83, g84, hq⟩ := hq
            refine x_callV (Yc := YX12_sees) (as := [.int 11]) (st := []) q3782 mvX12_sees t82 rfl dX12_parseType_86 (xle (xal1 (rv_cat _) (xal1 rfl xal0)) (by decide)) (xfr g83) (xlo xsw0 (by decide) g84) (xKi hq (fun x86 h85 hq e87 => ?_) (fun _ _ q _ => q))
            replace hq := hq e87
            refine x_if_ne (tgt := 96) dX12_parseType_89 (by decide) (fun c88 => ?_) (fun c88 => ?_)
            · replace hq := hq.1 c88
              exact uX12_parseType_96 hq
            · replace hq := hq.2 c88
              refine x_aload_n 0 dX12_parseType_92 rfl ?_
              have t89 : tg h85 x0 = 13 := e87.tg t82 (by decide)
              obtain ⟨g90, g91, hq⟩ := hq
              refine x_callV (Yc := YX12_bad) (as := []) (st := []) q3786 mvX12_bad t89 rfl dX12_parseType_93 (xle (xal1 (rv_cat _) xal0) (by decide)) (xfr g90) (xlo xsw0 (by decide) g91) (xKv hq (fun h92 hq e94 => ?_) (fun _ _ q _ => q))
              replace hq := hq e94
              exact uX12_parseType_96 hq
  · replace hq := hq.2 c13
    refine x_aload_n 0 dX12_parseType_13 rfl ?_
    refine x_bipush (v := 10) dX12_parseType_14 (by decide) ?_
    refine x_aload_n 0 dX12_parseType_16 rfl ?_
    have t95 : tg h10 x0 = 13 := e12.tg t7 (by decide)
    obtain ⟨g96, g97, hq⟩ := hq
    refine x_callV (Yc := YX12_take) (as := []) (st := [.int 10, rv x0]) q3794 mvX12_take t95 rfl dX12_parseType_17 (xle (xal1 (rv_cat _) xal0) (by decide)) (xfr g96) (xlo (xsw1 rfl (xsw1 (rv_cat _) xsw0)) (by decide) g97) (xKi hq (fun x99 h98 hq e100 => ?_) (fun _ _ q _ => q))
    replace hq := hq e100
    have t101 : tg h98 x0 = 13 := e100.tg t95 (by decide)
    obtain ⟨g102, g103, hq⟩ := hq
    refine x_callV (Yc := YX12_node) (as := [.int 10, .int x99]) (st := []) q3798 mvX12_node t101 rfl dX12_parseType_20 (xle (xal1 (rv_cat _) (xal1 rfl (xal1 rfl xal0))) (by decide)) (xfr g102) (xlo xsw0 (by decide) g103) (xKi hq (fun x105 h104 hq e106 => ?_) (fun _ _ q _ => q))
    replace hq := hq e106
    refine x_istore_n (lv' := [(1, .int x105), (0, rv x0)]) dX12_parseType_23 (by decide) (by first | rfl | (simp [rv_cat, Value.category]; done) | (simp [rv_cat, Value.category]; decide)) ?_
    refine x_aload_n 1 dX12_parseType_24 rfl ?_
    refine x_iload_n 0 dX12_parseType_25 rfl ?_
    refine x_aload_n 1 dX12_parseType_26 rfl ?_
    refine x_iconst (v := 4) dX12_parseType_27 (by decide) ?_
    refine x_aload_n 1 dX12_parseType_28 rfl ?_
    refine x_bipush (v := 40) dX12_parseType_29 (by decide) ?_
    have t107 : tg h104 x0 = 13 := e106.tg t101 (by decide)
    obtain ⟨g108, g109, hq⟩ := hq
    refine x_callV (Yc := YX12_must) (as := [.int 40]) (st := [.int 4, rv x0, .int x105, rv x0]) q3778 mvX12_must t107 rfl dX12_parseType_31 (xle (xal1 (rv_cat _) (xal1 rfl xal0)) (by decide)) (xfr g108) (xlo (xsw1 rfl (xsw1 (rv_cat _) (xsw1 rfl (xsw1 (rv_cat _) xsw0)))) (by decide) g109) (xKi hq (fun x111 h110 hq e112 => ?_) (fun _ _ q _ => q))
    replace hq := hq e112
    have t113 : tg h110 x0 = 13 := e112.tg t107 (by decide)
    obtain ⟨g114, g115, hq⟩ := hq
    refine x_callV (Yc := YX12_node) (as := [.int 4, .int x111]) (st := [.int x105, rv x0]) q3798 mvX12_node t113 rfl dX12_parseType_34 (xle (xal1 (rv_cat _) (xal1 rfl (xal1 rfl xal0))) (by decide)) (xfr g114) (xlo (xsw1 rfl (xsw1 (rv_cat _) xsw0)) (by decide) g115) (xKi hq (fun x117 h116 hq e118 => ?_) (fun _ _ q _ => q))
    replace hq := hq e118
    have t119 : tg h116 x0 = 13 := e118.tg t113 (by decide)
    obtain ⟨g120, g121, hq⟩ := hq
    refine x_callV (Yc := YX12_add) (as := [.int x105, .int x117]) (st := []) q3810 mvX12_add t119 rfl dX12_parseType_37 (xle (xal1 (rv_cat _) (xal1 rfl (xal1 rfl xal0))) (by decide)) (xfr g120) (xlo xsw0 (by decide) g121) (xKv hq (fun h122 hq e124 => ?_) (fun _ _ q _ => q))
    replace hq := hq e124
    refine x_goto (tgt := 152) dX12_parseType_40 (by decide) ?_
    refine xP.pick (lv' := [(0, rv x0), (1, .int x105)]) [1, 0] rfl ?_
    exact uX12_parseType_152 hq
theorem rX12_parseType {G : xG} {fr lo : Nat} {x0 : Nat} {h : xH} {Q : Outcome → xH → Prop} (hq : bX12_parseType G fr lo x0 h Q) : xR G YX12_parseType fr lo [rv x0] h Q := by
  show xP _ _ _ _ _ (lv_args 0 _) _ _ _
  rw [show lv_args 0 [rv x0] = [(0, rv x0)] from (xla1 (rv_cat _) xla0)]
  exact uX12_parseType hq
set_option maxRecDepth 100000 in
theorem dX12_parseStructure_0 : decode cX12_parseStructure 0 = .ok (.aload_n 0, 1) := by decide +kernel
set_option maxRecDepth 100000 in
theorem dX12_parseStructure_1 : decode cX12_parseStructure 1 = .ok (.getfield 26, 3) := by decide +kernel
set_option maxRecDepth 100000 in
theorem dX12_parseStructure_4 : decode cX12_parseStructure 4 = .ok (.aload_n 0, 1) := by decide +kernel
set_option maxRecDepth 100000 in
theorem dX12_parseStructure_5 : decode cX12_parseStructure 5 = .ok (.invokevirtual 445, 3) := by decide +kernel
set_option maxRecDepth 100000 in
theorem dX12_parseStructure_8 : decode cX12_parseStructure 8 = .ok (.iaload, 1) := by decide +kernel
set_option maxRecDepth 100000 in
theorem dX12_parseStructure_9 : decode cX12_parseStructure 9 = .ok (.istore_n 1, 1) := by decide +kernel
set_option maxRecDepth 100000 in
theorem dX12_parseStructure_10 : decode cX12_parseStructure 10 = .ok (.aload_n 0, 1) := by decide +kernel
set_option maxRecDepth 100000 in
theorem dX12_parseStructure_11 : decode cX12_parseStructure 11 = .ok (.iload_n 1, 1) := by decide +kernel
set_option maxRecDepth 100000 in
theorem dX12_parseStructure_12 : decode cX12_parseStructure 12 = .ok (.iconst 2, 1) := by decide +kernel
set_option maxRecDepth 100000 in
theorem dX12_parseStructure_13 : decode cX12_parseStructure 13 = .ok (.if_icmp .ne 8, 3) := by decide +kernel
set_option maxRecDepth 100000 in
theorem dX12_parseStructure_16 : decode cX12_parseStructure 16 = .ok (.bipush 11, 2) := by decide +kernel
set_option maxRecDepth 100000 in
theorem dX12_parseStructure_18 : decode cX12_parseStructure 18 = .ok (.goto 27, 3) := by decide +kernel
set_option maxRecDepth 100000 in
theorem dX12_parseStructure_21 : decode cX12_parseStructure 21 = .ok (.iload_n 1, 1) := by decide +kernel
set_option maxRecDepth 100000 in
theorem dX12_parseStructure_22 : decode cX12_parseStructure 22 = .ok (.bipush 26, 2) := by decide +kernel
set_option maxRecDepth 100000 in
theorem dX12_parseStructure_24 : decode cX12_parseStructure 24 = .ok (.if_icmp .ne 8, 3) := by decide +kernel
set_option maxRecDepth 100000 in
theorem dX12_parseStructure_27 : decode cX12_parseStructure 27 = .ok (.bipush 12, 2) := by decide +kernel
set_option maxRecDepth 100000 in
theorem dX12_parseStructure_29 : decode cX12_parseStructure 29 = .ok (.goto 16, 3) := by decide +kernel
set_option maxRecDepth 100000 in
theorem dX12_parseStructure_32 : decode cX12_parseStructure 32 = .ok (.iload_n 1, 1) := by decide +kernel
set_option maxRecDepth 100000 in
theorem dX12_parseStructure_33 : decode cX12_parseStructure 33 = .ok (.bipush 28, 2) := by decide +kernel
set_option maxRecDepth 100000 in
theorem dX12_parseStructure_35 : decode cX12_parseStructure 35 = .ok (.if_icmp .ne 8, 3) := by decide +kernel
set_option maxRecDepth 100000 in
theorem dX12_parseStructure_38 : decode cX12_parseStructure 38 = .ok (.bipush 13, 2) := by decide +kernel
set_option maxRecDepth 100000 in
theorem dX12_parseStructure_40 : decode cX12_parseStructure 40 = .ok (.goto 5, 3) := by decide +kernel
set_option maxRecDepth 100000 in
theorem dX12_parseStructure_43 : decode cX12_parseStructure 43 = .ok (.bipush 14, 2) := by decide +kernel
set_option maxRecDepth 100000 in
theorem dX12_parseStructure_45 : decode cX12_parseStructure 45 = .ok (.aload_n 0, 1) := by decide +kernel
set_option maxRecDepth 100000 in
theorem dX12_parseStructure_46 : decode cX12_parseStructure 46 = .ok (.invokevirtual 442, 3) := by decide +kernel
set_option maxRecDepth 100000 in
theorem dX12_parseStructure_49 : decode cX12_parseStructure 49 = .ok (.invokevirtual 454, 3) := by decide +kernel
set_option maxRecDepth 100000 in
theorem dX12_parseStructure_52 : decode cX12_parseStructure 52 = .ok (.istore_n 2, 1) := by decide +kernel
set_option maxRecDepth 100000 in
theorem dX12_parseStructure_53 : decode cX12_parseStructure 53 = .ok (.iload_n 1, 1) := by decide +kernel
set_option maxRecDepth 100000 in
theorem dX12_parseStructure_54 : decode cX12_parseStructure 54 = .ok (.iconst 2, 1) := by decide +kernel
set_option maxRecDepth 100000 in
theorem dX12_parseStructure_55 : decode cX12_parseStructure 55 = .ok (.if_icmp .ne 75, 3) := by decide +kernel
set_option maxRecDepth 100000 in
theorem dX12_parseStructure_58 : decode cX12_parseStructure 58 = .ok (.aload_n 0, 1) := by decide +kernel
set_option maxRecDepth 100000 in
theorem dX12_parseStructure_59 : decode cX12_parseStructure 59 = .ok (.bipush 62, 2) := by decide +kernel
set_option maxRecDepth 100000 in
theorem dX12_parseStructure_61 : decode cX12_parseStructure 61 = .ok (.invokevirtual 457, 3) := by decide +kernel
set_option maxRecDepth 100000 in
theorem dX12_parseStructure_64 : decode cX12_parseStructure 64 = .ok (.pop, 1) := by decide +kernel
set_option maxRecDepth 100000 in
theorem dX12_parseStructure_65 : decode cX12_parseStructure 65 = .ok (.aload_n 0, 1) := by decide +kernel
set_option maxRecDepth 100000 in
theorem dX12_parseStructure_66 : decode cX12_parseStructure 66 = .ok (.iconst 3, 1) := by decide +kernel
set_option maxRecDepth 100000 in
theorem dX12_parseStructure_67 : decode cX12_parseStructure 67 = .ok (.aload_n 0, 1) := by decide +kernel
set_option maxRecDepth 100000 in
theorem dX12_parseStructure_68 : decode cX12_parseStructure 68 = .ok (.invokevirtual 445, 3) := by decide +kernel
set_option maxRecDepth 100000 in
theorem dX12_parseStructure_71 : decode cX12_parseStructure 71 = .ok (.invokevirtual 454, 3) := by decide +kernel
set_option maxRecDepth 100000 in
theorem dX12_parseStructure_74 : decode cX12_parseStructure 74 = .ok (.istore_n 3, 1) := by decide +kernel
set_option maxRecDepth 100000 in
theorem dX12_parseStructure_75 : decode cX12_parseStructure 75 = .ok (.aload_n 0, 1) := by decide +kernel
set_option maxRecDepth 100000 in
theorem dX12_parseStructure_76 : decode cX12_parseStructure 76 = .ok (.iload_n 3, 1) := by decide +kernel
set_option maxRecDepth 100000 in
theorem dX12_parseStructure_77 : decode cX12_parseStructure 77 = .ok (.aload_n 0, 1) := by decide +kernel
set_option maxRecDepth 100000 in
theorem dX12_parseStructure_78 : decode cX12_parseStructure 78 = .ok (.invokevirtual 493, 3) := by decide +kernel
set_option maxRecDepth 100000 in
theorem dX12_parseStructure_81 : decode cX12_parseStructure 81 = .ok (.invokevirtual 460, 3) := by decide +kernel
set_option maxRecDepth 100000 in
theorem dX12_parseStructure_84 : decode cX12_parseStructure 84 = .ok (.aload_n 0, 1) := by decide +kernel
set_option maxRecDepth 100000 in
theorem dX12_parseStructure_85 : decode cX12_parseStructure 85 = .ok (.bipush 66, 2) := by decide +kernel
set_option maxRecDepth 100000 in
theorem dX12_parseStructure_87 : decode cX12_parseStructure 87 = .ok (.invokevirtual 463, 3) := by decide +kernel
set_option maxRecDepth 100000 in
theorem dX12_parseStructure_90 : decode cX12_parseStructure 90 = .ok (.ifCond .ne (-15), 3) := by decide +kernel
set_option maxRecDepth 100000 in
theorem dX12_parseStructure_93 : decode cX12_parseStructure 93 = .ok (.aload_n 0, 1) := by decide +kernel
set_option maxRecDepth 100000 in
theorem dX12_parseStructure_94 : decode cX12_parseStructure 94 = .ok (.bipush 63, 2) := by decide +kernel
set_option maxRecDepth 100000 in
theorem dX12_parseStructure_96 : decode cX12_parseStructure 96 = .ok (.invokevirtual 457, 3) := by decide +kernel
set_option maxRecDepth 100000 in
theorem dX12_parseStructure_99 : decode cX12_parseStructure 99 = .ok (.pop, 1) := by decide +kernel
set_option maxRecDepth 100000 in
theorem dX12_parseStructure_100 : decode cX12_parseStructure 100 = .ok (.aload_n 0, 1) := by decide +kernel
set_option maxRecDepth 100000 in
theorem dX12_parseStructure_101 : decode cX12_parseStructure 101 = .ok (.iload_n 2, 1) := by decide +kernel
set_option maxRecDepth 100000 in
theorem dX12_parseStructure_102 : decode cX12_parseStructure 102 = .ok (.iload_n 3, 1) := by decide +kernel
set_option maxRecDepth 100000 in
theorem dX12_parseStructure_103 : decode cX12_parseStructure 103 = .ok (.invokevirtual 460, 3) := by decide +kernel
set_option maxRecDepth 100000 in
theorem dX12_parseStructure_106 : decode cX12_parseStructure 106 = .ok (.aload_n 0, 1) := by decide +kernel
set_option maxRecDepth 100000 in
theorem dX12_parseStructure_107 : decode cX12_parseStructure 107 = .ok (.getfield 82, 3) := by decide +kernel
set_option maxRecDepth 100000 in
theorem dX12_parseStructure_110 : decode cX12_parseStructure 110 = .ok (.iload_n 2, 1) := by decide +kernel
set_option maxRecDepth 100000 in
theorem dX12_parseStructure_111 : decode cX12_parseStructure 111 = .ok (.aload_n 0, 1) := by decide +kernel
set_option maxRecDepth 100000 in
theorem dX12_parseStructure_112 : decode cX12_parseStructure 112 = .ok (.bipush 21, 2) := by decide +kernel
set_option maxRecDepth 100000 in
theorem dX12_parseStructure_114 : decode cX12_parseStructure 114 = .ok (.invokevirtual 457, 3) := by decide +kernel
set_option maxRecDepth 100000 in
theorem dX12_parseStructure_117 : decode cX12_parseStructure 117 = .ok (.iastore, 1) := by decide +kernel
set_option maxRecDepth 100000 in
theorem dX12_parseStructure_118 : decode cX12_parseStructure 118 = .ok (.aload_n 0, 1) := by decide +kernel
set_option maxRecDepth 100000 in
theorem dX12_parseStructure_119 : decode cX12_parseStructure 119 = .ok (.iload_n 2, 1) := by decide +kernel
set_option maxRecDepth 100000 in
theorem dX12_parseStructure_120 : decode cX12_parseStructure 120 = .ok (.aload_n 0, 1) := by decide +kernel
set_option maxRecDepth 100000 in
theorem dX12_parseStructure_121 : decode cX12_parseStructure 121 = .ok (.invokevirtual 478, 3) := by decide +kernel
set_option maxRecDepth 100000 in
theorem dX12_parseStructure_124 : decode cX12_parseStructure 124 = .ok (.invokevirtual 460, 3) := by decide +kernel
set_option maxRecDepth 100000 in
theorem dX12_parseStructure_127 : decode cX12_parseStructure 127 = .ok (.goto 69, 3) := by decide +kernel
set_option maxRecDepth 100000 in
theorem dX12_parseStructure_130 : decode cX12_parseStructure 130 = .ok (.iload_n 1, 1) := by decide +kernel
set_option maxRecDepth 100000 in
theorem dX12_parseStructure_131 : decode cX12_parseStructure 131 = .ok (.bipush 26, 2) := by decide +kernel
set_option maxRecDepth 100000 in
theorem dX12_parseStructure_133 : decode cX12_parseStructure 133 = .ok (.if_icmp .ne 22, 3) := by decide +kernel
set_option maxRecDepth 100000 in
theorem dX12_parseStructure_136 : decode cX12_parseStructure 136 = .ok (.aload_n 0, 1) := by decide +kernel
set_option maxRecDepth 100000 in
theorem dX12_parseStructure_137 : decode cX12_parseStructure 137 = .ok (.iload_n 2, 1) := by decide +kernel
set_option maxRecDepth 100000 in
theorem dX12_parseStructure_138 : decode cX12_parseStructure 138 = .ok (.aload_n 0, 1) := by decide +kernel
set_option maxRecDepth 100000 in
theorem dX12_parseStructure_139 : decode cX12_parseStructure 139 = .ok (.invokevirtual 496, 3) := by decide +kernel
set_option maxRecDepth 100000 in
theorem dX12_parseStructure_142 : decode cX12_parseStructure 142 = .ok (.invokevirtual 460, 3) := by decide +kernel
set_option maxRecDepth 100000 in
theorem dX12_parseStructure_145 : decode cX12_parseStructure 145 = .ok (.aload_n 0, 1) := by decide +kernel
set_option maxRecDepth 100000 in
theorem dX12_parseStructure_146 : decode cX12_parseStructure 146 = .ok (.bipush 10, 2) := by decide +kernel
set_option maxRecDepth 100000 in
theorem dX12_parseStructure_148 : decode cX12_parseStructure 148 = .ok (.invokevirtual 457, 3) := by decide +kernel
set_option maxRecDepth 100000 in
theorem dX12_parseStructure_151 : decode cX12_parseStructure 151 = .ok (.pop, 1) := by decide +kernel
set_option maxRecDepth 100000 in
theorem dX12_parseStructure_152 : decode cX12_parseStructure 152 = .ok (.goto 44, 3) := by decide +kernel
set_option maxRecDepth 100000 in
theorem dX12_parseStructure_155 : decode cX12_parseStructure 155 = .ok (.iload_n 1, 1) := by decide +kernel
set_option maxRecDepth 100000 in
theorem dX12_parseStructure_156 : decode cX12_parseStructure 156 = .ok (.bipush 28, 2) := by decide +kernel
set_option maxRecDepth 100000 in
theorem dX12_parseStructure_158 : decode cX12_parseStructure 158 = .ok (.if_icmp .ne 22, 3) := by decide +kernel
set_option maxRecDepth 100000 in
theorem dX12_parseStructure_161 : decode cX12_parseStructure 161 = .ok (.aload_n 0, 1) := by decide +kernel
set_option maxRecDepth 100000 in
theorem dX12_parseStructure_162 : decode cX12_parseStructure 162 = .ok (.bipush 21, 2) := by decide +kernel
set_option maxRecDepth 100000 in
theorem dX12_parseStructure_164 : decode cX12_parseStructure 164 = .ok (.invokevirtual 457, 3) := by decide +kernel
set_option maxRecDepth 100000 in
theorem dX12_parseStructure_167 : decode cX12_parseStructure 167 = .ok (.pop, 1) := by decide +kernel
set_option maxRecDepth 100000 in
theorem dX12_parseStructure_168 : decode cX12_parseStructure 168 = .ok (.aload_n 0, 1) := by decide +kernel
set_option maxRecDepth 100000 in
theorem dX12_parseStructure_169 : decode cX12_parseStructure 169 = .ok (.iload_n 2, 1) := by decide +kernel
set_option maxRecDepth 100000 in
theorem dX12_parseStructure_170 : decode cX12_parseStructure 170 = .ok (.aload_n 0, 1) := by decide +kernel
set_option maxRecDepth 100000 in
theorem dX12_parseStructure_171 : decode cX12_parseStructure 171 = .ok (.invokevirtual 493, 3) := by decide +kernel
set_option maxRecDepth 100000 in
theorem dX12_parseStructure_174 : decode cX12_parseStructure 174 = .ok (.invokevirtual 460, 3) := by decide +kernel
set_option maxRecDepth 100000 in
theorem dX12_parseStructure_177 : decode cX12_parseStructure 177 = .ok (.goto 19, 3) := by decide +kernel
set_option maxRecDepth 100000 in
theorem dX12_parseStructure_180 : decode cX12_parseStructure 180 = .ok (.aload_n 0, 1) := by decide +kernel
set_option maxRecDepth 100000 in
theorem dX12_parseStructure_181 : decode cX12_parseStructure 181 = .ok (.bipush 21, 2) := by decide +kernel
set_option maxRecDepth 100000 in
theorem dX12_parseStructure_183 : decode cX12_parseStructure 183 = .ok (.invokevirtual 457, 3) := by decide +kernel
set_option maxRecDepth 100000 in
theorem dX12_parseStructure_186 : decode cX12_parseStructure 186 = .ok (.pop, 1) := by decide +kernel
set_option maxRecDepth 100000 in
theorem dX12_parseStructure_187 : decode cX12_parseStructure 187 = .ok (.aload_n 0, 1) := by decide +kernel
set_option maxRecDepth 100000 in
theorem dX12_parseStructure_188 : decode cX12_parseStructure 188 = .ok (.iload_n 2, 1) := by decide +kernel
set_option maxRecDepth 100000 in
theorem dX12_parseStructure_189 : decode cX12_parseStructure 189 = .ok (.aload_n 0, 1) := by decide +kernel
set_option maxRecDepth 100000 in
theorem dX12_parseStructure_190 : decode cX12_parseStructure 190 = .ok (.invokevirtual 478, 3) := by decide +kernel
set_option maxRecDepth 100000 in
theorem dX12_parseStructure_193 : decode cX12_parseStructure 193 = .ok (.invokevirtual 460, 3) := by decide +kernel
set_option maxRecDepth 100000 in
theorem dX12_parseStructure_196 : decode cX12_parseStructure 196 = .ok (.iload_n 2, 1) := by decide +kernel
set_option maxRecDepth 100000 in
theorem dX12_parseStructure_197 : decode cX12_parseStructure 197 = .ok (.ireturn, 1) := by decide +kernel
def lX12_parseStructure_75 (G : xG) (fr lo : Nat) (x0 : Nat) (x2 : Int32) (x3 : Int32) (h : xH) (Q : Outcome → xH → Prop) : Prop := xP G YX12_parseStructure fr lo 75 [(0, rv x0), (2, .int x2), (3, .int x3)] [] h Q
set_option maxRecDepth 100000 in
def bX12_parseStructure_196 (G : xG) (fr lo : Nat) (x2 : Int32) (h : xH) (Q : Outcome → xH → Prop) : Prop := Q (.returned (some (.int x2))) h
set_option maxRecDepth 100000 in
theorem uX12_parseStructure_196 {G : xG} {fr lo : Nat} {x2 : Int32} {h : xH} {Q : Outcome → xH → Prop} (hq : bX12_parseStructure_196 G fr lo x2 h Q) : xP G YX12_parseStructure fr lo 196 [(2, .int x2)] [] h Q := by
  unfold bX12_parseStructure_196 at hq
  refine x_iload_n 0 dX12_parseStructure_196 rfl ?_
  exact x_iret rfl rfl dX12_parseStructure_197 hq
set_option maxRecDepth 100000 in
def bX12_parseStructure_75 (G : xG) (fr lo : Nat) (x0 : Nat) (x2 : Int32) (x3 : Int32) (h : xH) (Q : Outcome → xH → Prop) : Prop := tg h x0 = 13 ∧ 1 ≤ fr ∧ 18 ≤ lo ∧ xRi G YX12_parseSimple (fr - 1) (lo - 18) [rv x0] h (fun x5 h4 => xext h h4 → 1 ≤ fr ∧ 14 ≤ lo ∧ xRv G YX12_add (fr - 1) (lo - 14) [rv x0, .int x3, .int x5] h4 (fun h10 => xext h4 h10 → 1 ≤ fr ∧ 13 ≤ lo ∧ xRi G YX12_takes (fr - 1) (lo - 13) [rv x0, .int 66] h10 (fun x17 h16 => xext h10 h16 → ((¬ x17 = 0 → lX12_parseStructure_75 G fr lo x0 x2 x3 h16 Q) ∧ (x17 = 0 → 1 ≤ fr ∧ 13 ≤ lo ∧ xRi G YX12_must (fr - 1) (lo - 13) [rv x0, .int 63] h16 (fun x24 h23 => xext h16 h23 → 1 ≤ fr ∧ 14 ≤ lo ∧ xRv G YX12_add (fr - 1) (lo - 14) [rv x0, .int x2, .int x3] h23 (fun h29 => xext h23 h29 → 1 ≤ fr ∧ 15 ≤ lo ∧ xRi G YX12_must (fr - 1) (lo - 15) [rv x0, .int 21] h29 (fun x36 h35 => xext h29 h35 → tg h35 (fR h29 x0 3106) = 100 ∧ vp_in x2 (ln h35 (fR h29 x0 3106)) ∧ (∀ h40 : xH, h40 = tI h35 (fR h29 x0 3106) (Int32.toNatClampNeg x2) x36 → 1 ≤ fr ∧ 15 ≤ lo ∧ xRi G YX12_parseType (fr - 1) (lo - 15) [rv x0] h40 (fun x47 h46 => xext h40 h46 → 1 ≤ fr ∧ 14 ≤ lo ∧ xRv G YX12_add (fr - 1) (lo - 14) [rv x0, .int x2, .int x47] h46 (fun h52 => xext h46 h52 → bX12_parseStructure_196 G fr lo x2 h52 Q) (fun r h2 => Q (.threw r) h2)) (fun r h2 => Q (.threw r) h2))) (fun r h2 => Q (.threw r) h2)) (fun r h2 => Q (.threw r) h2)) (fun r h2 => Q (.threw r) h2)))) (fun r h2 => Q (.threw r) h2)) (fun r h2 => Q (.threw r) h2)) (fun r h2 => Q (.threw r) h2)
set_option maxRecDepth 100000 in
theorem uX12_parseStructure_75 {G : xG} {fr lo : Nat} {x0 : Nat} {x2 : Int32} {x3 : Int32} {h : xH} {Q : Outcome → xH → Prop} (hq : bX12_parseStructure_75 G fr lo x0 x2 x3 h Q) : xP G YX12_parseStructure fr lo 75 [(0, rv x0), (2, .int x2), (3, .int x3)] [] h Q := by
  unfold bX12_parseStructure_75 at hq
  refine x_aload_n 0 dX12_parseStructure_75 rfl ?_
  refine x_iload_n 2 dX12_parseStructure_76 rfl ?_
  refine x_aload_n 0 dX12_parseStructure_77 rfl ?_
  obtain ⟨g1, hq⟩ := hq
  obtain ⟨g2, g3, hq⟩ := hq
  refine x_callV (Yc := YX12_parseSimple) (as := []) (st := [.int x3, rv x0]) q3834 mvX12_parseSimple g1 rfl dX12_parseStructure_78 (xle (xal1 (rv_cat _) xal0) (by decide)) (xfr g2) (xlo (xsw1 rfl (xsw1 (rv_cat _) xsw0)) (by decide) g3) (xKi hq (fun x5 h4 hq e6 => ?_) (fun _ _ q _ => q))
  replace hq := hq e6
  have t7 : tg h4 x0 = 13 := e6.tg g1 (by decide)
  obtain ⟨g8, g9, hq⟩ := hq
  refine x_callV (Yc := YX12_add) (as := [.int x3, .int x5]) (st := []) q3810 mvX12_add t7 rfl dX12_parseStructure_81 (xle (xal1 (rv_cat _) (xal1 rfl (xal1 rfl xal0))) (by decide)) (xfr g8) (xlo xsw0 (by decide) g9) (xKv hq (fun h10 hq e12 => ?_) (fun _ _ q _ => q))
  replace hq := hq e12
  refine x_aload_n 0 dX12_parseStructure_84 rfl ?_
  refine x_bipush (v := 66) dX12_parseStructure_85 (by decide) ?_
  have t13 : tg h10 x0 = 13 := e12.tg t7 (by decide)
  obtain ⟨g14, g15, hq⟩ := hq
  refine x_callV (Yc := YX12_takes) (as := [.int 66]) (st := []) q3802 mvX12_takes t13 rfl dX12_parseStructure_87 (xle (xal1 (rv_cat _) (xal1 rfl xal0)) (by decide)) (xfr g14) (xlo xsw0 (by decide) g15) (xKi hq (fun x17 h16 hq e18 => ?_) (fun _ _ q _ => q))
  replace hq := hq e18
  refine x_if_ne (tgt := 75) dX12_parseStructure_90 (by decide) (fun c19 => ?_) (fun c19 => ?_)
  · replace hq := hq.1 c19
    exact hq
  · replace hq := hq.2 c19
    refine x_aload_n 0 dX12_parseStructure_93 rfl ?_
    refine x_bipush (v := 63) dX12_parseStructure_94 (by decide) ?_
    have t20 : tg h16 x0 = 13 := e18.tg t13 (by decide)
    obtain ⟨g21, g22, hq⟩ := hq
    refine x_callV (Yc := YX12_must) (as := [.int 63]) (st := []) q3778 mvX12_must t20 rfl dX12_parseStructure_96 (xle (xal1 (rv_cat _) (xal1 rfl xal0)) (by decide)) (xfr g21) (xlo xsw0 (by decide) g22) (xKi hq (fun x24 h23 hq e25 => ?_) (fun _ _ q _ => q))
    replace hq := hq e25
    refine x_pop dX12_parseStructure_99 rfl ?_
    refine x_aload_n 0 dX12_parseStructure_100 rfl ?_
    refine x_iload_n 1 dX12_parseStructure_101 rfl ?_
    refine x_iload_n 2 dX12_parseStructure_102 rfl ?_
    have t26 : tg h23 x0 = 13 := e25.tg t20 (by decide)
    obtain ⟨g27, g28, hq⟩ := hq
    refine x_callV (Yc := YX12_add) (as := [.int x2, .int x3]) (st := []) q3810 mvX12_add t26 rfl dX12_parseStructure_103 (xle (xal1 (rv_cat _) (xal1 rfl (xal1 rfl xal0))) (by decide)) (xfr g27) (xlo xsw0 (by decide) g28) (xKv hq (fun h29 hq e31 => ?_) (fun _ _ q _ => q))
    replace hq := hq e31
    refine x_aload_n 0 dX12_parseStructure_106 rfl ?_
    have t32 : tg h29 x0 = 13 := e31.tg t26 (by decide)
    refine x_get (v := rv (fR h29 x0 3106)) fdX12_82 dX12_parseStructure_107 t32 rfl ?_
    refine x_iload_n 1 dX12_parseStructure_110 rfl ?_
    refine x_aload_n 0 dX12_parseStructure_111 rfl ?_
    refine x_bipush (v := 21) dX12_parseStructure_112 (by decide) ?_
    obtain ⟨g33, g34, hq⟩ := hq
    refine x_callV (Yc := YX12_must) (as := [.int 21]) (st := [.int x2, rv (fR h29 x0 3106)]) q3778 mvX12_must t32 rfl dX12_parseStructure_114 (xle (xal1 (rv_cat _) (xal1 rfl xal0)) (by decide)) (xfr g33) (xlo (xsw1 rfl (xsw1 (rv_cat _) xsw0)) (by decide) g34) (xKi hq (fun x36 h35 hq e37 => ?_) (fun _ _ q _ => q))
    replace hq := hq e37
    obtain ⟨g38, hq⟩ := hq
    obtain ⟨i39, hq⟩ := hq
    obtain ⟨h40, e41⟩ : ∃ y, y = tI h35 (fR h29 x0 3106) (Int32.toNatClampNeg x2) x36 := ⟨_, rfl⟩
    replace hq := hq h40 e41
    refine x_iast' g38 i39 dX12_parseStructure_117 e41 ?_
    refine x_aload_n 0 dX12_parseStructure_118 rfl ?_
    refine x_iload_n 1 dX12_parseStructure_119 rfl ?_
    refine x_aload_n 0 dX12_parseStructure_120 rfl ?_
    have t42 : tg h35 x0 = 13 := e37.tg t32 (by decide)
    have t43 : tg h40 x0 = 13 := by rw [e41]; exact t42
    obtain ⟨g44, g45, hq⟩ := hq
    refine x_callV (Yc := YX12_parseType) (as := []) (st := [.int x2, rv x0]) q3826 mvX12_parseType t43 rfl dX12_parseStructure_121 (xle (xal1 (rv_cat _) xal0) (by decide)) (xfr g44) (xlo (xsw1 rfl (xsw1 (rv_cat _) xsw0)) (by decide) g45) (xKi hq (fun x47 h46 hq e48 => ?_) (fun _ _ q _ => q))
    replace hq := hq e48
    have t49 : tg h46 x0 = 13 := e48.tg t43 (by decide)
    obtain ⟨g50, g51, hq⟩ := hq
    refine x_callV (Yc := YX12_add) (as := [.int x2, .int x47]) (st := []) q3810 mvX12_add t49 rfl dX12_parseStructure_124 (xle (xal1 (rv_cat _) (xal1 rfl (xal1 rfl xal0))) (by decide)) (xfr g50) (xlo xsw0 (by decide) g51) (xKv hq (fun h52 hq e54 => ?_) (fun _ _ q _ => q))
    replace hq := hq e54
    refine x_goto (tgt := 196) dX12_parseStructure_127 (by decide) ?_
    refine xP.pick (lv' := [(2, .int x2)]) [1] rfl ?_
    exact uX12_parseStructure_196 hq
set_option maxRecDepth 100000 in
def bX12_parseStructure_45 (G : xG) (fr lo : Nat) (x0 : Nat) (x1 : Int32) (s0 : Int32) (s1 : Nat) (h : xH) (Q : Outcome → xH → Prop) : Prop := tg h x0 = 13 ∧ 1 ≤ fr ∧ 15 ≤ lo ∧ xRi G YX12_take (fr - 1) (lo - 15) [rv x0] h (fun x5 h4 => xext h h4 → tg h4 s1 = 13 ∧ 1 ≤ fr ∧ 15 ≤ lo ∧ xRi G YX12_node (fr - 1) (lo - 15) [rv s1, .int s0, .int x5] h4 (fun x11 h10 => xext h4 h10 → ((¬ x1 = 2 → ((¬ x1 = 26 → ((¬ x1 = 28 → 1 ≤ fr ∧ 13 ≤ lo ∧ xRi G YX12_must (fr - 1) (lo - 13) [rv x0, .int 21] h10 (fun x21 h20 => xext h10 h20 → 1 ≤ fr ∧ 15 ≤ lo ∧ xRi G YX12_parseType (fr - 1) (lo - 15) [rv x0] h20 (fun x27 h26 => xext h20 h26 → 1 ≤ fr ∧ 14 ≤ lo ∧ xRv G YX12_add (fr - 1) (lo - 14) [rv x0, .int x11, .int x27] h26 (fun h32 => xext h26 h32 → bX12_parseStructure_196 G fr lo x11 h32 Q) (fun r h2 => Q (.threw r) h2)) (fun r h2 => Q (.threw r) h2)) (fun r h2 => Q (.threw r) h2)) ∧ (x1 = 28 → 1 ≤ fr ∧ 13 ≤ lo ∧ xRi G YX12_must (fr - 1) (lo - 13) [rv x0, .int 21] h10 (fun x40 h39 => xext h10 h39 → 1 ≤ fr ∧ 18 ≤ lo ∧ xRi G YX12_parseSimple (fr - 1) (lo - 18) [rv x0] h39 (fun x46 h45 => xext h39 h45 → 1 ≤ fr ∧ 14 ≤ lo ∧ xRv G YX12_add (fr - 1) (lo - 14) [rv x0, .int x11, .int x46] h45 (fun h51 => xext h45 h51 → bX12_parseStructure_196 G fr lo x11 h51 Q) (fun r h2 => Q (.threw r) h2)) (fun r h2 => Q (.threw r) h2)) (fun r h2 => Q (.threw r) h2)))) ∧ (x1 = 26 → 1 ≤ fr ∧ 16 ≤ lo ∧ xRi G YX12_parseFields (fr - 1) (lo - 16) [rv x0] h10 (fun x59 h58 => xext h10 h58 → 1 ≤ fr ∧ 14 ≤ lo ∧ xRv G YX12_add (fr - 1) (lo - 14) [rv x0, .int x11, .int x59] h58 (fun h64 => xext h58 h64 → 1 ≤ fr ∧ 13 ≤ lo ∧ xRi G YX12_must (fr - 1) (lo - 13) [rv x0, .int 10] h64 (fun x71 h70 => xext h64 h70 → bX12_parseStructure_196 G fr lo x11 h70 Q) (fun r h2 => Q (.threw r) h2)) (fun r h2 => Q (.threw r) h2)) (fun r h2 => Q (.threw r) h2)))) ∧ (x1 = 2 → 1 ≤ fr ∧ 13 ≤ lo ∧ xRi G YX12_must (fr - 1) (lo - 13) [rv x0, .int 62] h10 (fun x78 h77 => xext h10 h77 → 1 ≤ fr ∧ 14 ≤ lo ∧ xRi G YX12_now (fr - 1) (lo - 14) [rv x0] h77 (fun x84 h83 => xext h77 h83 → 1 ≤ fr ∧ 15 ≤ lo ∧ xRi G YX12_node (fr - 1) (lo - 15) [rv x0, .int 3, .int x84] h83 (fun x90 h89 => xext h83 h89 → lX12_parseStructure_75 G fr lo x0 x11 x90 h89 Q) (fun r h2 => Q (.threw r) h2)) (fun r h2 => Q (.threw r) h2)) (fun r h2 => Q (.threw r) h2)))) (fun r h2 => Q (.threw r) h2)) (fun r h2 => Q (.threw r) h2)
set_option maxRecDepth 100000 in
theorem uX12_parseStructure_45 {G : xG} {fr lo : Nat} {x0 : Nat} {x1 : Int32} {s0 : Int32} {s1 : Nat} {h : xH} {Q : Outcome → xH → Prop} (hq : bX12_parseStructure_45 G fr lo x0 x1 s0 s1 h Q) : xP G YX12_parseStructure fr lo 45 [(0, rv x0), (1, .int x1)] [.int s0, rv s1] h Q := by
  unfold bX12_parseStructure_45 at hq
  refine x_aload_n 0 dX12_parseStructure_45 rfl ?_
  obtain ⟨g1, hq⟩ := hq
  obtain ⟨g2, g3, hq⟩ := hq
  refine x_callV (Yc := YX12_take) (as := []) (st := [.int s0, rv s1]) q3794 mvX12_take g1 rfl dX12_parseStructure_46 (xle (xal1 (rv_cat _) xal0) (by decide)) (xfr g2) (xlo (xsw1 rfl (xsw1 (rv_cat _) xsw0)) (by decide) g3) (xKi hq (fun x5 h4 hq e6 => ?_) (fun _ _ q _ => q))
  replace hq := hq e6
  obtain ⟨g7, hq⟩ := hq
  obtain ⟨g8, g9, hq⟩ := hq
  refine x_callV (Yc := YX12_node) (as := [.int s0, .int x5]) (st := []) q3798 mvX12_node g7 rfl dX12_parseStructure_49 (xle (xal1 (rv_cat _) (xal1 rfl (xal1 rfl xal0))) (by decide)) (xfr g8) (xlo xsw0 (by decide) g9) (xKi hq (fun x11 h10 hq e12 => ?_) (fun _ _ q _ => q))
  replace hq := hq e12
  refine x_istore_n (lv' := [(2, .int x11), (0, rv x0), (1, .int x1)]) dX12_parseStructure_52 (by decide) rfl ?_
  refine x_iload_n 2 dX12_parseStructure_53 rfl ?_
  refine x_iconst (v := 2) dX12_parseStructure_54 (by decide) ?_
  refine x_icmp_ne (tgt := 130) dX12_parseStructure_55 (by decide) (fun c13 => ?_) (fun c13 => ?_)
  · replace hq := hq.1 c13
    refine x_iload_n 2 dX12_parseStructure_130 rfl ?_
    refine x_bipush (v := 26) dX12_parseStructure_131 (by decide) ?_
    refine x_icmp_ne (tgt := 155) dX12_parseStructure_133 (by decide) (fun c14 => ?_) (fun c14 => ?_)
    · replace hq := hq.1 c14
      refine x_iload_n 2 dX12_parseStructure_155 rfl ?_
      refine x_bipush (v := 28) dX12_parseStructure_156 (by decide) ?_
      refine x_icmp_ne (tgt := 180) dX12_parseStructure_158 (by decide) (fun c15 => ?_) (fun c15 => ?_)
      · replace hq := hq.1 c15
        refine x_aload_n 1 dX12_parseStructure_180 rfl ?_
        refine x_bipush (v := 21) dX12_parseStructure_181 (by decide) ?_
        have t16 : tg h4 x0 = 13 := e6.tg g1 (by decide)
        have t17 : tg h10 x0 = 13 := e12.tg t16 (by decide)
        obtain ⟨g18, g19, hq⟩ := hq
        refine x_callV (Yc := YX12_must) (as := [.int 21]) (st := []) q3778 mvX12_must t17 rfl dX12_parseStructure_183 (xle (xal1 (rv_cat _) (xal1 rfl xal0)) (by decide)) (xfr g18) (xlo xsw0 (by decide) g19) (xKi hq (fun x21 h20 hq e22 => ?_) (fun _ _ q _ => q))
        replace hq := hq e22
        refine x_pop dX12_parseStructure_186 rfl ?_
        refine x_aload_n 1 dX12_parseStructure_187 rfl ?_
        refine x_iload_n 0 dX12_parseStructure_188 rfl ?_
        refine x_aload_n 1 dX12_parseStructure_189 rfl ?_
        have t23 : tg h20 x0 = 13 := e22.tg t17 (by decide)
        obtain ⟨g24, g25, hq⟩ := hq
        refine x_callV (Yc := YX12_parseType) (as := []) (st := [.int x11, rv x0]) q3826 mvX12_parseType t23 rfl dX12_parseStructure_190 (xle (xal1 (rv_cat _) xal0) (by decide)) (xfr g24) (xlo (xsw1 rfl (xsw1 (rv_cat _) xsw0)) (by decide) g25) (xKi hq (fun x27 h26 hq e28 => ?_) (fun _ _ q _ => q))
        replace hq := hq e28
        have t29 : tg h26 x0 = 13 := e28.tg t23 (by decide)
        obtain ⟨g30, g31, hq⟩ := hq
        refine x_callV (Yc := YX12_add) (as := [.int x11, .int x27]) (st := []) q3810 mvX12_add t29 rfl dX12_parseStructure_193 (xle (xal1 (rv_cat _) (xal1 rfl (xal1 rfl xal0))) (by decide)) (xfr g30) (xlo xsw0 (by decide) g31) (xKv hq (fun h32 hq e34 => ?_) (fun _ _ q _ => q))
        replace hq := hq e34
        refine xP.pick (lv' := [(2, .int x11)]) [0] rfl ?_
        exact uX12_parseStructure_196 hq
      · replace hq := hq.2 c15
        refine x_aload_n 1 dX12_parseStructure_161 rfl ?_
        refine x_bipush (v := 21) dX12_parseStructure_162 (by decide) ?_
        have t35 : tg h4 x0 = 13 := e6.tg g1 (by decide)
        have t36 : tg h10 x0 = 13 := e12.tg t35 (by decide)
        obtain ⟨g37, g38, hq⟩ := hq
        refine x_callV (Yc := YX12_must) (as := [.int 21]) (st := []) q3778 mvX12_must t36 rfl dX12_parseStructure_164 (xle (xal1 (rv_cat _) (xal1 rfl xal0)) (by decide)) (xfr g37) (xlo xsw0 (by decide) g38) (xKi hq (fun x40 h39 hq e41 => ?_) (fun _ _ q _ => q))
        replace hq := hq e41
        refine x_pop dX12_parseStructure_167 rfl ?_
        refine x_aload_n 1 dX12_parseStructure_168 rfl ?_
        refine x_iload_n 0 dX12_parseStructure_169 rfl ?_
        refine x_aload_n 1 dX12_parseStructure_170 rfl ?_
        have t42 : tg h39 x0 = 13 := e41.tg t36 (by decide)
        obtain ⟨g43, g44, hq⟩ := hq
        refine x_callV (Yc := YX12_parseSimple) (as := []) (st := [.int x11, rv x0]) q3834 mvX12_parseSimple t42 rfl dX12_parseStructure_171 (xle (xal1 (rv_cat _) xal0) (by decide)) (xfr g43) (xlo (xsw1 rfl (xsw1 (rv_cat _) xsw0)) (by decide) g44) (xKi hq (fun x46 h45 hq e47 => ?_) (fun _ _ q _ => q))
        replace hq := hq e47
        have t48 : tg h45 x0 = 13 := e47.tg t42 (by decide)
        obtain ⟨g49, g50, hq⟩ := hq
        refine x_callV (Yc := YX12_add) (as := [.int x11, .int x46]) (st := []) q3810 mvX12_add t48 rfl dX12_parseStructure_174 (xle (xal1 (rv_cat _) (xal1 rfl (xal1 rfl xal0))) (by decide)) (xfr g49) (xlo xsw0 (by decide) g50) (xKv hq (fun h51 hq e53 => ?_) (fun _ _ q _ => q))
        replace hq := hq e53
        refine x_goto (tgt := 196) dX12_parseStructure_177 (by decide) ?_
        refine xP.pick (lv' := [(2, .int x11)]) [0] rfl ?_
        exact uX12_parseStructure_196 hq
    · replace hq := hq.2 c14
      refine x_aload_n 1 dX12_parseStructure_136 rfl ?_
      refine x_iload_n 0 dX12_parseStructure_137 rfl ?_
      refine x_aload_n 1 dX12_parseStructure_138 rfl ?_
      have t54 : tg h4 x0 = 13 := e6.tg g1 (by decide)
      have t55 : tg h10 x0 = 13 := e12.tg t54 (by decide)
      obtain ⟨g56, g57, hq⟩ := hq
      refine x_callV (Yc := YX12_parseFields) (as := []) (st := [.int x11, rv x0]) q3842 mvX12_parseFields t55 rfl dX12_parseStructure_139 (xle (xal1 (rv_cat _) xal0) (by decide)) (xfr g56) (xlo (xsw1 rfl (xsw1 (rv_cat _) xsw0)) (by decide) g57) (xKi hq (fun x59 h58 hq e60 => ?_) (fun _ _ q _ => q))
      replace hq := hq e60
      have t61 : tg h58 x0 = 13 := e60.tg t55 (by decide)
      obtain ⟨g62, g63, hq⟩ := hq
      refine x_callV (Yc := YX12_add) (as := [.int x11, .int x59]) (st := []) q3810 mvX12_add t61 rfl dX12_parseStructure_142 (xle (xal1 (rv_cat _) (xal1 rfl (xal1 rfl xal0))) (by decide)) (xfr g62) (xlo xsw0 (by decide) g63) (xKv hq (fun h64 hq e66 => ?_) (fun _ _ q _ => q))
      replace hq := hq e66
      refine x_aload_n 1 dX12_parseStructure_145 rfl ?_
      refine x_bipush (v := 10) dX12_parseStructure_146 (by decide) ?_
      have t67 : tg h64 x0 = 13 := e66.tg t61 (by decide)
      obtain ⟨g68, g69, hq⟩ := hq
      refine x_callV (Yc := YX12_must) (as := [.int 10]) (st := []) q3778 mvX12_must t67 rfl dX12_parseStructure_148 (xle (xal1 (rv_cat _) (xal1 rfl xal0)) (by decide)) (xfr g68) (xlo xsw0 (by decide) g69) (xKi hq (fun x71 h70 hq e72 => ?_) (fun _ _ q _ => q))
      replace hq := hq e72
      refine x_pop dX12_parseStructure_151 rfl ?_
      refine x_goto (tgt := 196) dX12_parseStructure_152 (by decide) ?_
      refine xP.pick (lv' := [(2, .int x11)]) [0] rfl ?_
      exact uX12_parseStructure_196 hq
  · replace hq := hq.2 c13
    refine x_aload_n 1 dX12_parseStructure_58 rfl ?_
    refine x_bipush (v := 62) dX12_parseStructure_59 (by decide) ?_
    have t73 : tg h4 x0 = 13 := e6.tg g1 (by decide)
    have t74 : tg h10 x0 = 13 := e12.tg t73 (by decide)
    obtain ⟨g75, g76, hq⟩ := hq
    refine x_callV (Yc := YX12_must) (as := [.int 62]) (st := []) q3778 mvX12_must t74 rfl dX12_parseStructure_61 (xle (xal1 (rv_cat _) (xal1 rfl xal0)) (by decide)) (xfr g75) (xlo xsw0 (by decide) g76) (xKi hq (fun x78 h77 hq e79 => ?_) (fun _ _ q _ => q))
    replace hq := hq e79
    refine x_pop dX12_parseStructure_64 rfl ?_
    refine x_aload_n 1 dX12_parseStructure_65 rfl ?_
    refine x_iconst (v := 3) dX12_parseStructure_66 (by decide) ?_
    refine x_aload_n 1 dX12_parseStructure_67 rfl ?_
    have t80 : tg h77 x0 = 13 := e79.tg t74 (by decide)
    obtain ⟨g81, g82, hq⟩ := hq
    refine x_callV (Yc := YX12_now) (as := []) (st := [.int 3, rv x0]) q3790 mvX12_now t80 rfl dX12_parseStructure_68 (xle (xal1 (rv_cat _) xal0) (by decide)) (xfr g81) (xlo (xsw1 rfl (xsw1 (rv_cat _) xsw0)) (by decide) g82) (xKi hq (fun x84 h83 hq e85 => ?_) (fun _ _ q _ => q))
    replace hq := hq e85
    have t86 : tg h83 x0 = 13 := e85.tg t80 (by decide)
    obtain ⟨g87, g88, hq⟩ := hq
    refine x_callV (Yc := YX12_node) (as := [.int 3, .int x84]) (st := []) q3798 mvX12_node t86 rfl dX12_parseStructure_71 (xle (xal1 (rv_cat _) (xal1 rfl (xal1 rfl xal0))) (by decide)) (xfr g87) (xlo xsw0 (by decide) g88) (xKi hq (fun x90 h89 hq e91 => ?_) (fun _ _ q _ => q))
    replace hq := hq e91
    refine x_istore_n (lv' := [(3, .int x90), (2, .int x11), (0, rv x0), (1, .int x1)]) dX12_parseStructure_74 (by decide) rfl ?_
    refine xP.pick (lv' := [(0, rv x0), (2, .int x11), (3, .int x90)]) [2, 1, 0] rfl ?_
    exact hq
set_option maxRecDepth 100000 in
def bX12_parseStructure (G : xG) (fr lo : Nat) (x0 : Nat) (h : xH) (Q : Outcome → xH → Prop) : Prop := tg h x0 = 13 ∧ 1 ≤ fr ∧ 13 ≤ lo ∧ xRi G YX12_now (fr - 1) (lo - 13) [rv x0] h (fun x5 h4 => xext h h4 → tg h4 (fR h x0 3082) = 100 ∧ vp_in x5 (ln h4 (fR h x0 3082)) ∧ ((¬ (aI h4 (fR h x0 3082) (Int32.toNatClampNeg x5)) = 2 → ((¬ (aI h4 (fR h x0 3082) (Int32.toNatClampNeg x5)) = 26 → ((¬ (aI h4 (fR h x0 3082) (Int32.toNatClampNeg x5)) = 28 → bX12_parseStructure_45 G fr lo x0 (aI h4 (fR h x0 3082) (Int32.toNatClampNeg x5)) 14 x0 h4 Q) ∧ ((aI h4 (fR h x0 3082) (Int32.toNatClampNeg x5)) = 28 → bX12_parseStructure_45 G fr lo x0 (aI h4 (fR h x0 3082) (Int32.toNatClampNeg x5)) 13 x0 h4 Q))) ∧ ((aI h4 (fR h x0 3082) (Int32.toNatClampNeg x5)) = 26 → bX12_parseStructure_45 G fr lo x0 (aI h4 (fR h x0 3082) (Int32.toNatClampNeg x5)) 12 x0 h4 Q))) ∧ ((aI h4 (fR h x0 3082) (Int32.toNatClampNeg x5)) = 2 → bX12_parseStructure_45 G fr lo x0 (aI h4 (fR h x0 3082) (Int32.toNatClampNeg x5)) 11 x0 h4 Q))) (fun r h2 => Q (.threw r) h2)
set_option maxRecDepth 100000 in
theorem uX12_parseStructure {G : xG} {fr lo : Nat} {x0 : Nat} {h : xH} {Q : Outcome → xH → Prop} (hq : bX12_parseStructure G fr lo x0 h Q) : xP G YX12_parseStructure fr lo 0 [(0, rv x0)] [] h Q := by
  unfold bX12_parseStructure at hq
  refine x_aload_n 0 dX12_parseStructure_0 rfl ?_
  obtain ⟨g1, hq⟩ := hq
  refine x_get (v := rv (fR h x0 3082)) fdX12_26 dX12_parseStructure_1 g1 rfl ?_
  refine x_aload_n 0 dX12_parseStructure_4 rfl ?_
  obtain ⟨g2, g3, hq⟩ := hq
  refine x_callV (Yc := YX12_now) (as := []) (st := [rv (fR h x0 3082)]) q3790 mvX12_now g1 rfl dX12_parseStructure_5 (xle (xal1 (rv_cat _) xal0) (by decide)) (xfr g2) (xlo (xsw1 (rv_cat _) xsw0) (by decide) g3) (xKi hq (fun x5 h4 hq e6 => ?_) (fun _ _ q _ => q))
  replace hq := hq e6
  obtain ⟨g7, hq⟩ := hq
  obtain ⟨i8, hq⟩ := hq
  refine x_iald 0 (Or.inl rfl) g7 i8 dX12_parseStructure_8 ?_
  refine x_istore_n (lv' := [(1, .int (aI h4 (fR h x0 3082) (Int32.toNatClampNeg x5))), (0, rv x0)]) dX12_parseStructure_9 (by decide) (by first | rfl | (simp [rv_cat, Value.category]; done) | (simp [rv_cat, Value.category]; decide)) ?_
  refine x_aload_n 1 dX12_parseStructure_10 rfl ?_
  refine x_iload_n 0 dX12_parseStructure_11 rfl ?_
  refine x_iconst (v := 2) dX12_parseStructure_12 (by decide) ?_
  refine x_icmp_ne (tgt := 21) dX12_parseStructure_13 (by decide) (fun c9 => ?_) (fun c9 => ?_)
  · replace hq := hq.1 c9
    refine x_iload_n 0 dX12_parseStructure_21 rfl ?_
    refine x_bipush (v := 26) dX12_parseStructure_22 (by decide) ?_
    refine x_icmp_ne (tgt := 32) dX12_parseStructure_24 (by decide) (fun c10 => ?_) (fun c10 => ?_)
    · replace hq := hq.1 c10
      refine x_iload_n 0 dX12_parseStructure_32 rfl ?_
      refine x_bipush (v := 28) dX12_parseStructure_33 (by decide) ?_
      refine x_icmp_ne (tgt := 43) dX12_parseStructure_35 (by decide) (fun c11 => ?_) (fun c11 => ?_)
      · replace hq := hq.1 c11
        refine x_bipush (v := 14) dX12_parseStructure_43 (by decide) ?_
        refine xP.pick (lv' := [(0, rv x0), (1, .int (aI h4 (fR h x0 3082) (Int32.toNatClampNeg x5)))]) [1, 0] rfl ?_
        exact uX12_parseStructure_45 hq
      · replace hq := hq.2 c11
        refine x_bipush (v := 13) dX12_parseStructure_38 (by decide) ?_
        refine x_goto (tgt := 45) dX12_parseStructure_40 (by decide) ?_
        refine xP.pick (lv' := [(0, rv x0), (1, .int (aI h4 (fR h x0 3082) (Int32.toNatClampNeg x5)))]) [1, 0] rfl ?_
        exact uX12_parseStructure_45 hq
    · replace hq := hq.2 c10
      refine x_bipush (v := 12) dX12_parseStructure_27 (by decide) ?_
      refine x_goto (tgt := 45) dX12_parseStructure_29 (by decide) ?_
      refine xP.pick (lv' := [(0, rv x0), (1, .int (aI h4 (fR h x0 3082) (Int32.toNatClampNeg x5)))]) [1, 0] rfl ?_
      exact uX12_parseStructure_45 hq
  · replace hq := hq.2 c9
    refine x_bipush (v := 11) dX12_parseStructure_16 (by decide) ?_
    refine x_goto (tgt := 45) dX12_parseStructure_18 (by decide) ?_
    refine xP.pick (lv' := [(0, rv x0), (1, .int (aI h4 (fR h x0 3082) (Int32.toNatClampNeg x5)))]) [1, 0] rfl ?_
    exact uX12_parseStructure_45 hq
theorem rX12_parseStructure {G : xG} {fr lo : Nat} {x0 : Nat} {h : xH} {Q : Outcome → xH → Prop} (hq : bX12_parseStructure G fr lo x0 h Q) : xR G YX12_parseStructure fr lo [rv x0] h Q := by
  show xP _ _ _ _ _ (lv_args 0 _) _ _ _
  rw [show lv_args 0 [rv x0] = [(0, rv x0)] from (xla1 (rv_cat _) xla0)]
  exact uX12_parseStructure hq
set_option maxRecDepth 100000 in
theorem dX12_parseSimple_0 : decode cX12_parseSimple 0 = .ok (.aload_n 0, 1) := by decide +kernel
set_option maxRecDepth 100000 in
theorem dX12_parseSimple_1 : decode cX12_parseSimple 1 = .ok (.bipush 60, 2) := by decide +kernel
set_option maxRecDepth 100000 in
theorem dX12_parseSimple_3 : decode cX12_parseSimple 3 = .ok (.invokevirtual 439, 3) := by decide +kernel
set_option maxRecDepth 100000 in
theorem dX12_parseSimple_6 : decode cX12_parseSimple 6 = .ok (.ifCond .eq 32, 3) := by decide +kernel
set_option maxRecDepth 100000 in
theorem dX12_parseSimple_9 : decode cX12_parseSimple 9 = .ok (.aload_n 0, 1) := by decide +kernel
set_option maxRecDepth 100000 in
theorem dX12_parseSimple_10 : decode cX12_parseSimple 10 = .ok (.bipush 15, 2) := by decide +kernel
set_option maxRecDepth 100000 in
theorem dX12_parseSimple_12 : decode cX12_parseSimple 12 = .ok (.aload_n 0, 1) := by decide +kernel
set_option maxRecDepth 100000 in
theorem dX12_parseSimple_13 : decode cX12_parseSimple 13 = .ok (.invokevirtual 442, 3) := by decide +kernel
set_option maxRecDepth 100000 in
theorem dX12_parseSimple_16 : decode cX12_parseSimple 16 = .ok (.invokevirtual 454, 3) := by decide +kernel
set_option maxRecDepth 100000 in
theorem dX12_parseSimple_19 : decode cX12_parseSimple 19 = .ok (.istore_n 1, 1) := by decide +kernel
set_option maxRecDepth 100000 in
theorem dX12_parseSimple_20 : decode cX12_parseSimple 20 = .ok (.aload_n 0, 1) := by decide +kernel
set_option maxRecDepth 100000 in
theorem dX12_parseSimple_21 : decode cX12_parseSimple 21 = .ok (.iload_n 1, 1) := by decide +kernel
set_option maxRecDepth 100000 in
theorem dX12_parseSimple_22 : decode cX12_parseSimple 22 = .ok (.aload_n 0, 1) := by decide +kernel
set_option maxRecDepth 100000 in
theorem dX12_parseSimple_23 : decode cX12_parseSimple 23 = .ok (.invokevirtual 466, 3) := by decide +kernel
set_option maxRecDepth 100000 in
theorem dX12_parseSimple_26 : decode cX12_parseSimple 26 = .ok (.invokevirtual 460, 3) := by decide +kernel
set_option maxRecDepth 100000 in
theorem dX12_parseSimple_29 : decode cX12_parseSimple 29 = .ok (.aload_n 0, 1) := by decide +kernel
set_option maxRecDepth 100000 in
theorem dX12_parseSimple_30 : decode cX12_parseSimple 30 = .ok (.bipush 61, 2) := by decide +kernel
set_option maxRecDepth 100000 in
theorem dX12_parseSimple_32 : decode cX12_parseSimple 32 = .ok (.invokevirtual 457, 3) := by decide +kernel
set_option maxRecDepth 100000 in
theorem dX12_parseSimple_35 : decode cX12_parseSimple 35 = .ok (.pop, 1) := by decide +kernel
set_option maxRecDepth 100000 in
theorem dX12_parseSimple_36 : decode cX12_parseSimple 36 = .ok (.iload_n 1, 1) := by decide +kernel
set_option maxRecDepth 100000 in
theorem dX12_parseSimple_37 : decode cX12_parseSimple 37 = .ok (.ireturn, 1) := by decide +kernel
set_option maxRecDepth 100000 in
theorem dX12_parseSimple_38 : decode cX12_parseSimple 38 = .ok (.aload_n 0, 1) := by decide +kernel
set_option maxRecDepth 100000 in
theorem dX12_parseSimple_39 : decode cX12_parseSimple 39 = .ok (.invokevirtual 499, 3) := by decide +kernel
set_option maxRecDepth 100000 in
theorem dX12_parseSimple_42 : decode cX12_parseSimple 42 = .ok (.ifCond .ne 7, 3) := by decide +kernel
set_option maxRecDepth 100000 in
theorem dX12_parseSimple_45 : decode cX12_parseSimple 45 = .ok (.aload_n 0, 1) := by decide +kernel
set_option maxRecDepth 100000 in
theorem dX12_parseSimple_46 : decode cX12_parseSimple 46 = .ok (.invokevirtual 448, 3) := by decide +kernel
set_option maxRecDepth 100000 in
theorem dX12_parseSimple_49 : decode cX12_parseSimple 49 = .ok (.aload_n 0, 1) := by decide +kernel
set_option maxRecDepth 100000 in
theorem dX12_parseSimple_50 : decode cX12_parseSimple 50 = .ok (.invokevirtual 445, 3) := by decide +kernel
set_option maxRecDepth 100000 in
theorem dX12_parseSimple_53 : decode cX12_parseSimple 53 = .ok (.istore_n 1, 1) := by decide +kernel
set_option maxRecDepth 100000 in
theorem dX12_parseSimple_54 : decode cX12_parseSimple 54 = .ok (.aload_n 0, 1) := by decide +kernel
set_option maxRecDepth 100000 in
theorem dX12_parseSimple_55 : decode cX12_parseSimple 55 = .ok (.bipush 40, 2) := by decide +kernel
set_option maxRecDepth 100000 in
theorem dX12_parseSimple_57 : decode cX12_parseSimple 57 = .ok (.invokevirtual 439, 3) := by decide +kernel
set_option maxRecDepth 100000 in
theorem dX12_parseSimple_60 : decode cX12_parseSimple 60 = .ok (.istore_n 2, 1) := by decide +kernel
set_option maxRecDepth 100000 in
theorem dX12_parseSimple_61 : decode cX12_parseSimple 61 = .ok (.aload_n 0, 1) := by decide +kernel
set_option maxRecDepth 100000 in
theorem dX12_parseSimple_62 : decode cX12_parseSimple 62 = .ok (.invokevirtual 475, 3) := by decide +kernel
set_option maxRecDepth 100000 in
theorem dX12_parseSimple_65 : decode cX12_parseSimple 65 = .ok (.istore_n 3, 1) := by decide +kernel
set_option maxRecDepth 100000 in
theorem dX12_parseSimple_66 : decode cX12_parseSimple 66 = .ok (.iload_n 2, 1) := by decide +kernel
set_option maxRecDepth 100000 in
theorem dX12_parseSimple_67 : decode cX12_parseSimple 67 = .ok (.ifCond .eq 20, 3) := by decide +kernel
set_option maxRecDepth 100000 in
theorem dX12_parseSimple_70 : decode cX12_parseSimple 70 = .ok (.aload_n 0, 1) := by decide +kernel
set_option maxRecDepth 100000 in
theorem dX12_parseSimple_71 : decode cX12_parseSimple 71 = .ok (.bipush 69, 2) := by decide +kernel
set_option maxRecDepth 100000 in
theorem dX12_parseSimple_73 : decode cX12_parseSimple 73 = .ok (.invokevirtual 439, 3) := by decide +kernel
set_option maxRecDepth 100000 in
theorem dX12_parseSimple_76 : decode cX12_parseSimple 76 = .ok (.ifCond .ne 11, 3) := by decide +kernel
set_option maxRecDepth 100000 in
theorem dX12_parseSimple_79 : decode cX12_parseSimple 79 = .ok (.aload_n 0, 1) := by decide +kernel
set_option maxRecDepth 100000 in
theorem dX12_parseSimple_80 : decode cX12_parseSimple 80 = .ok (.bipush 17, 2) := by decide +kernel
set_option maxRecDepth 100000 in
theorem dX12_parseSimple_82 : decode cX12_parseSimple 82 = .ok (.iload_n 1, 1) := by decide +kernel
set_option maxRecDepth 100000 in
theorem dX12_parseSimple_83 : decode cX12_parseSimple 83 = .ok (.invokevirtual 454, 3) := by decide +kernel
set_option maxRecDepth 100000 in
theorem dX12_parseSimple_86 : decode cX12_parseSimple 86 = .ok (.ireturn, 1) := by decide +kernel
set_option maxRecDepth 100000 in
theorem dX12_parseSimple_87 : decode cX12_parseSimple 87 = .ok (.aload_n 0, 1) := by decide +kernel
set_option maxRecDepth 100000 in
theorem dX12_parseSimple_88 : decode cX12_parseSimple 88 = .ok (.bipush 16, 2) := by decide +kernel
set_option maxRecDepth 100000 in
theorem dX12_parseSimple_90 : decode cX12_parseSimple 90 = .ok (.iload_n 1, 1) := by decide +kernel
set_option maxRecDepth 100000 in
theorem dX12_parseSimple_91 : decode cX12_parseSimple 91 = .ok (.invokevirtual 454, 3) := by decide +kernel
set_option maxRecDepth 100000 in
theorem dX12_parseSimple_94 : decode cX12_parseSimple 94 = .ok (.istore 4, 2) := by decide +kernel
set_option maxRecDepth 100000 in
theorem dX12_parseSimple_96 : decode cX12_parseSimple 96 = .ok (.aload_n 0, 1) := by decide +kernel
set_option maxRecDepth 100000 in
theorem dX12_parseSimple_97 : decode cX12_parseSimple 97 = .ok (.getfield 82, 3) := by decide +kernel
set_option maxRecDepth 100000 in
theorem dX12_parseSimple_100 : decode cX12_parseSimple 100 = .ok (.iload 4, 2) := by decide +kernel
set_option maxRecDepth 100000 in
theorem dX12_parseSimple_102 : decode cX12_parseSimple 102 = .ok (.aload_n 0, 1) := by decide +kernel
set_option maxRecDepth 100000 in
theorem dX12_parseSimple_103 : decode cX12_parseSimple 103 = .ok (.bipush 69, 2) := by decide +kernel
set_option maxRecDepth 100000 in
theorem dX12_parseSimple_105 : decode cX12_parseSimple 105 = .ok (.invokevirtual 457, 3) := by decide +kernel
set_option maxRecDepth 100000 in
theorem dX12_parseSimple_108 : decode cX12_parseSimple 108 = .ok (.iastore, 1) := by decide +kernel
set_option maxRecDepth 100000 in
theorem dX12_parseSimple_109 : decode cX12_parseSimple 109 = .ok (.aload_n 0, 1) := by decide +kernel
set_option maxRecDepth 100000 in
theorem dX12_parseSimple_110 : decode cX12_parseSimple 110 = .ok (.iload 4, 2) := by decide +kernel
set_option maxRecDepth 100000 in
theorem dX12_parseSimple_112 : decode cX12_parseSimple 112 = .ok (.iload_n 3, 1) := by decide +kernel
set_option maxRecDepth 100000 in
theorem dX12_parseSimple_113 : decode cX12_parseSimple 113 = .ok (.invokevirtual 460, 3) := by decide +kernel
set_option maxRecDepth 100000 in
theorem dX12_parseSimple_116 : decode cX12_parseSimple 116 = .ok (.aload_n 0, 1) := by decide +kernel
set_option maxRecDepth 100000 in
theorem dX12_parseSimple_117 : decode cX12_parseSimple 117 = .ok (.iload 4, 2) := by decide +kernel
set_option maxRecDepth 100000 in
theorem dX12_parseSimple_119 : decode cX12_parseSimple 119 = .ok (.aload_n 0, 1) := by decide +kernel
set_option maxRecDepth 100000 in
theorem dX12_parseSimple_120 : decode cX12_parseSimple 120 = .ok (.invokevirtual 475, 3) := by decide +kernel
set_option maxRecDepth 100000 in
theorem dX12_parseSimple_123 : decode cX12_parseSimple 123 = .ok (.invokevirtual 460, 3) := by decide +kernel
set_option maxRecDepth 100000 in
theorem dX12_parseSimple_126 : decode cX12_parseSimple 126 = .ok (.iload 4, 2) := by decide +kernel
set_option maxRecDepth 100000 in
theorem dX12_parseSimple_128 : decode cX12_parseSimple 128 = .ok (.ireturn, 1) := by decide +kernel
set_option maxRecDepth 100000 in
def bX12_parseSimple_87 (G : xG) (fr lo : Nat) (x0 : Nat) (x1 : Int32) (x3 : Int32) (h : xH) (Q : Outcome → xH → Prop) : Prop := tg h x0 = 13 ∧ 1 ≤ fr ∧ 15 ≤ lo ∧ xRi G YX12_node (fr - 1) (lo - 15) [rv x0, .int 16, .int x1] h (fun x5 h4 => xext h h4 → 1 ≤ fr ∧ 15 ≤ lo ∧ xRi G YX12_must (fr - 1) (lo - 15) [rv x0, .int 69] h4 (fun x11 h10 => xext h4 h10 → tg h10 (fR h4 x0 3106) = 100 ∧ vp_in x5 (ln h10 (fR h4 x0 3106)) ∧ (∀ h15 : xH, h15 = tI h10 (fR h4 x0 3106) (Int32.toNatClampNeg x5) x11 → 1 ≤ fr ∧ 14 ≤ lo ∧ xRv G YX12_add (fr - 1) (lo - 14) [rv x0, .int x5, .int x3] h15 (fun h21 => xext h15 h21 → 1 ≤ fr ∧ 15 ≤ lo ∧ xRi G YX12_parseConstant (fr - 1) (lo - 15) [rv x0] h21 (fun x28 h27 => xext h21 h27 → 1 ≤ fr ∧ 14 ≤ lo ∧ xRv G YX12_add (fr - 1) (lo - 14) [rv x0, .int x5, .int x28] h27 (fun h33 => xext h27 h33 → Q (.returned (some (.int x5))) h33) (fun r h2 => Q (.threw r) h2)) (fun r h2 => Q (.threw r) h2)) (fun r h2 => Q (.threw r) h2))) (fun r h2 => Q (.threw r) h2)) (fun r h2 => Q (.threw r) h2)
set_option maxRecDepth 100000 in
theorem uX12_parseSimple_87 {G : xG} {fr lo : Nat} {x0 : Nat} {x1 : Int32} {x3 : Int32} {h : xH} {Q : Outcome → xH → Prop} (hq : bX12_parseSimple_87 G fr lo x0 x1 x3 h Q) : xP G YX12_parseSimple fr lo 87 [(0, rv x0), (1, .int x1), (3, .int x3)] [] h Q := by
  unfold bX12_parseSimple_87 at hq
  refine x_aload_n 0 dX12_parseSimple_87 rfl ?_
  refine x_bipush (v := 16) dX12_parseSimple_88 (by decide) ?_
  refine x_iload_n 1 dX12_parseSimple_90 rfl ?_
  obtain ⟨g1, hq⟩ := hq
  obtain ⟨g2, g3, hq⟩ := hq
  refine x_callV (Yc := YX12_node) (as := [.int 16, .int x1]) (st := []) q3798 mvX12_node g1 rfl dX12_parseSimple_91 (xle (xal1 (rv_cat _) (xal1 rfl (xal1 rfl xal0))) (by decide)) (xfr g2) (xlo xsw0 (by decide) g3) (xKi hq (fun x5 h4 hq e6 => ?_) (fun _ _ q _ => q))
  replace hq := hq e6
  refine x_istore (lv' := [(4, .int x5), (0, rv x0), (1, .int x1), (3, .int x3)]) dX12_parseSimple_94 (by decide) rfl ?_
  refine x_aload_n 1 dX12_parseSimple_96 rfl ?_
  have t7 : tg h4 x0 = 13 := e6.tg g1 (by decide)
  refine x_get (v := rv (fR h4 x0 3106)) fdX12_82 dX12_parseSimple_97 t7 rfl ?_
  refine x_iload 0 dX12_parseSimple_100 rfl ?_
  refine x_aload_n 1 dX12_parseSimple_102 rfl ?_
  refine x_bipush (v := 69) dX12_parseSimple_103 (by decide) ?_
  obtain ⟨g8, g9, hq⟩ := hq
  refine x_callV (Yc := YX12_must) (as := [.int 69]) (st := [.int x5, rv (fR h4 x0 3106)]) q3778 mvX12_must t7 rfl dX12_parseSimple_105 (xle (xal1 (rv_cat _) (xal1 rfl xal0)) (by decide)) (xfr g8) (xlo (xsw1 rfl (xsw1 (rv_cat _) xsw0)) (by decide) g9) (xKi hq (fun x11 h10 hq e12 => ?_) (fun _ _ q _ => q))
  replace hq := hq e12
  obtain ⟨g13, hq⟩ := hq
  obtain ⟨i14, hq⟩ := hq
  obtain ⟨h15, e16⟩ : ∃ y, y = tI h10 (fR h4 x0 3106) (Int32.toNatClampNeg x5) x11 := ⟨_, rfl⟩
  replace hq := hq h15 e16
  refine x_iast' g13 i14 dX12_parseSimple_108 e16 ?_
  refine x_aload_n 1 dX12_parseSimple_109 rfl ?_
  refine x_iload 0 dX12_parseSimple_110 rfl ?_
  refine x_iload_n 3 dX12_parseSimple_112 rfl ?_
  have t17 : tg h10 x0 = 13 := e12.tg t7 (by decide)
  have t18 : tg h15 x0 = 13 := by rw [e16]; exact t17
  obtain ⟨g19, g20, hq⟩ := hq
  refine x_callV (Yc := YX12_add) (as := [.int x5, .int x3]) (st := []) q3810 mvX12_add t18 rfl dX12_parseSimple_113 (xle (xal1 (rv_cat _) (xal1 rfl (xal1 rfl xal0))) (by decide)) (xfr g19) (xlo xsw0 (by decide) g20) (xKv hq (fun h21 hq e23 => ?_) (fun _ _ q _ => q))
  replace hq := hq e23
  refine x_aload_n 1 dX12_parseSimple_116 rfl ?_
  refine x_iload 0 dX12_parseSimple_117 rfl ?_
  refine x_aload_n 1 dX12_parseSimple_119 rfl ?_
  have t24 : tg h21 x0 = 13 := e23.tg t18 (by decide)
  obtain ⟨g25, g26, hq⟩ := hq
  refine x_callV (Yc := YX12_parseConstant) (as := []) (st := [.int x5, rv x0]) q3822 mvX12_parseConstant t24 rfl dX12_parseSimple_120 (xle (xal1 (rv_cat _) xal0) (by decide)) (xfr g25) (xlo (xsw1 rfl (xsw1 (rv_cat _) xsw0)) (by decide) g26) (xKi hq (fun x28 h27 hq e29 => ?_) (fun _ _ q _ => q))
  replace hq := hq e29
  have t30 : tg h27 x0 = 13 := e29.tg t24 (by decide)
  obtain ⟨g31, g32, hq⟩ := hq
  refine x_callV (Yc := YX12_add) (as := [.int x5, .int x28]) (st := []) q3810 mvX12_add t30 rfl dX12_parseSimple_123 (xle (xal1 (rv_cat _) (xal1 rfl (xal1 rfl xal0))) (by decide)) (xfr g31) (xlo xsw0 (by decide) g32) (xKv hq (fun h33 hq e35 => ?_) (fun _ _ q _ => q))
  replace hq := hq e35
  refine x_iload 0 dX12_parseSimple_126 rfl ?_
  exact x_iret rfl rfl dX12_parseSimple_128 hq
set_option maxRecDepth 100000 in
def bX12_parseSimple_49 (G : xG) (fr lo : Nat) (x0 : Nat) (h : xH) (Q : Outcome → xH → Prop) : Prop := tg h x0 = 13 ∧ 1 ≤ fr ∧ 12 ≤ lo ∧ xRi G YX12_now (fr - 1) (lo - 12) [rv x0] h (fun x5 h4 => xext h h4 → 1 ≤ fr ∧ 13 ≤ lo ∧ xRi G YX12_sees (fr - 1) (lo - 13) [rv x0, .int 40] h4 (fun x11 h10 => xext h4 h10 → 1 ≤ fr ∧ 13 ≤ lo ∧ xRi G YX12_parseConstant (fr - 1) (lo - 13) [rv x0] h10 (fun x17 h16 => xext h10 h16 → ((x11 = 0 → bX12_parseSimple_87 G fr lo x0 x5 x17 h16 Q) ∧ (¬ x11 = 0 → 1 ≤ fr ∧ 13 ≤ lo ∧ xRi G YX12_sees (fr - 1) (lo - 13) [rv x0, .int 69] h16 (fun x24 h23 => xext h16 h23 → ((¬ x24 = 0 → bX12_parseSimple_87 G fr lo x0 x5 x17 h23 Q) ∧ (x24 = 0 → 1 ≤ fr ∧ 15 ≤ lo ∧ xRi G YX12_node (fr - 1) (lo - 15) [rv x0, .int 17, .int x5] h23 (fun x31 h30 => xext h23 h30 → Q (.returned (some (.int x31))) h30) (fun r h2 => Q (.threw r) h2)))) (fun r h2 => Q (.threw r) h2)))) (fun r h2 => Q (.threw r) h2)) (fun r h2 => Q (.threw r) h2)) (fun r h2 => Q (.threw r) h2)
set_option maxRecDepth 100000 in
theorem uX12_parseSimple_49 {G : xG} {fr lo : Nat} {x0 : Nat} {h : xH} {Q : Outcome → xH → Prop} (hq : bX12_parseSimple_49 G fr lo x0 h Q) : xP G YX12_parseSimple fr lo 49 [(0, rv x0)] [] h Q := by
  unfold bX12_parseSimple_49 at hq
  refine x_aload_n 0 dX12_parseSimple_49 rfl ?_
  obtain ⟨g1, hq⟩ := hq
  obtain ⟨g2, g3, hq⟩ := hq
  refine x_callV (Yc := YX12_now) (as := []) (st := []) q3790 mvX12_now g1 rfl dX12_parseSimple_50 (xle (xal1 (rv_cat _) xal0) (by decide)) (xfr g2) (xlo xsw0 (by decide) g3) (xKi hq (fun x5 h4 hq e6 => ?_) (fun _ _ q _ => q))
  replace hq := hq e6
  refine x_istore_n (lv' := [(1, .int x5), (0, rv x0)]) dX12_parseSimple_53 (by decide) (by first | rfl | (simp [rv_cat, Value.category]; done) | (simp [rv_cat, Value.category]; decide)) ?_
  refine x_aload_n 1 dX12_parseSimple_54 rfl ?_
  refine x_bipush (v := 40) dX12_parseSimple_55 (by decide) ?_
  have t7 : tg h4 x0 = 13 := e6.tg g1 (by decide)
  obtain ⟨g8, g9, hq⟩ := hq
  refine x_callV (Yc := YX12_sees) (as := [.int 40]) (st := []) q3782 mvX12_sees t7 rfl dX12_parseSimple_57 (xle (xal1 (rv_cat _) (xal1 rfl xal0)) (by decide)) (xfr g8) (xlo xsw0 (by decide) g9) (xKi hq (fun x11 h10 hq e12 => ?_) (fun _ _ q _ => q))
  replace hq := hq e12
  refine x_istore_n (lv' := [(2, .int x11), (1, .int x5), (0, rv x0)]) dX12_parseSimple_60 (by decide) rfl ?_
  refine x_aload_n 2 dX12_parseSimple_61 rfl ?_
  have t13 : tg h10 x0 = 13 := e12.tg t7 (by decide)
  obtain ⟨g14, g15, hq⟩ := hq
  refine x_callV (Yc := YX12_parseConstant) (as := []) (st := []) q3822 mvX12_parseConstant t13 rfl dX12_parseSimple_62 (xle (xal1 (rv_cat _) xal0) (by decide)) (xfr g14) (xlo xsw0 (by decide) g15) (xKi hq (fun x17 h16 hq e18 => ?_) (fun _ _ q _ => q))
  replace hq := hq e18
  refine x_istore_n (lv' := [(3, .int x17), (2, .int x11), (1, .int x5), (0, rv x0)]) dX12_parseSimple_65 (by decide) rfl ?_
  refine x_iload_n 1 dX12_parseSimple_66 rfl ?_
  refine x_if_eq (tgt := 87) dX12_parseSimple_67 (by decide) (fun c19 => ?_) (fun c19 => ?_)
  · replace hq := hq.1 c19
    refine xP.pick (lv' := [(0, rv x0), (1, .int x5), (3, .int x17)]) [3, 2, 0] rfl ?_
    exact uX12_parseSimple_87 hq
  · replace hq := hq.2 c19
    refine x_aload_n 3 dX12_parseSimple_70 rfl ?_
    refine x_bipush (v := 69) dX12_parseSimple_71 (by decide) ?_
    have t20 : tg h16 x0 = 13 := e18.tg t13 (by decide)
    obtain ⟨g21, g22, hq⟩ := hq
    refine x_callV (Yc := YX12_sees) (as := [.int 69]) (st := []) q3782 mvX12_sees t20 rfl dX12_parseSimple_73 (xle (xal1 (rv_cat _) (xal1 rfl xal0)) (by decide)) (xfr g21) (xlo xsw0 (by decide) g22) (xKi hq (fun x24 h23 hq e25 => ?_) (fun _ _ q _ => q))
    replace hq := hq e25
    refine x_if_ne (tgt := 87) dX12_parseSimple_76 (by decide) (fun c26 => ?_) (fun c26 => ?_)
    · replace hq := hq.1 c26
      refine xP.pick (lv' := [(0, rv x0), (1, .int x5), (3, .int x17)]) [3, 2, 0] rfl ?_
      exact uX12_parseSimple_87 hq
    · replace hq := hq.2 c26
      refine x_aload_n 3 dX12_parseSimple_79 rfl ?_
      refine x_bipush (v := 17) dX12_parseSimple_80 (by decide) ?_
      refine x_iload_n 2 dX12_parseSimple_82 rfl ?_
      have t27 : tg h23 x0 = 13 := e25.tg t20 (by decide)
      obtain ⟨g28, g29, hq⟩ := hq
      refine x_callV (Yc := YX12_node) (as := [.int 17, .int x5]) (st := []) q3798 mvX12_node t27 rfl dX12_parseSimple_83 (xle (xal1 (rv_cat _) (xal1 rfl (xal1 rfl xal0))) (by decide)) (xfr g28) (xlo xsw0 (by decide) g29) (xKi hq (fun x31 h30 hq e32 => ?_) (fun _ _ q _ => q))
      replace hq := hq e32
      exact x_iret rfl rfl dX12_parseSimple_86 hq
set_option maxRecDepth 100000 in
def bX12_parseSimple (G : xG) (fr lo : Nat) (x0 : Nat) (h : xH) (Q : Outcome → xH → Prop) : Prop := tg h x0 = 13 ∧ 1 ≤ fr ∧ 13 ≤ lo ∧ xRi G YX12_sees (fr - 1) (lo - 13) [rv x0, .int 60] h (fun x5 h4 => xext h h4 → ((x5 = 0 → 1 ≤ fr ∧ 12 ≤ lo ∧ xRi G YX12_beginsConstant (fr - 1) (lo - 12) [rv x0] h4 (fun x12 h11 => xext h4 h11 → ((¬ x12 = 0 → bX12_parseSimple_49 G fr lo x0 h11 Q) ∧ (x12 = 0 → 1 ≤ fr ∧ 12 ≤ lo ∧ xRv G YX12_bad (fr - 1) (lo - 12) [rv x0] h11 (fun h18 => xext h11 h18 → bX12_parseSimple_49 G fr lo x0 h18 Q) (fun r h2 => Q (.threw r) h2)))) (fun r h2 => Q (.threw r) h2)) ∧ (¬ x5 = 0 → 1 ≤ fr ∧ 15 ≤ lo ∧ xRi G YX12_take (fr - 1) (lo - 15) [rv x0] h4 (fun x25 h24 => xext h4 h24 → 1 ≤ fr ∧ 15 ≤ lo ∧ xRi G YX12_node (fr - 1) (lo - 15) [rv x0, .int 15, .int x25] h24 (fun x31 h30 => xext h24 h30 → 1 ≤ fr ∧ 16 ≤ lo ∧ xRi G YX12_parseNames (fr - 1) (lo - 16) [rv x0] h30 (fun x37 h36 => xext h30 h36 → 1 ≤ fr ∧ 14 ≤ lo ∧ xRv G YX12_add (fr - 1) (lo - 14) [rv x0, .int x31, .int x37] h36 (fun h42 => xext h36 h42 → 1 ≤ fr ∧ 13 ≤ lo ∧ xRi G YX12_must (fr - 1) (lo - 13) [rv x0, .int 61] h42 (fun x49 h48 => xext h42 h48 → Q (.returned (some (.int x31))) h48) (fun r h2 => Q (.threw r) h2)) (fun r h2 => Q (.threw r) h2)) (fun r h2 => Q (.threw r) h2)) (fun r h2 => Q (.threw r) h2)) (fun r h2 => Q (.threw r) h2)))) (fun r h2 => Q (.threw r) h2)
set_option maxRecDepth 100000 in
theorem uX12_parseSimple {G : xG} {fr lo : Nat} {x0 : Nat} {h : xH} {Q : Outcome → xH → Prop} (hq : bX12_parseSimple G fr lo x0 h Q) : xP G YX12_parseSimple fr lo 0 [(0, rv x0)] [] h Q := by
  unfold bX12_parseSimple at hq
  refine x_aload_n 0 dX12_parseSimple_0 rfl ?_
  refine x_bipush (v := 60) dX12_parseSimple_1 (by decide) ?_
  obtain ⟨g1, hq⟩ := hq
  obtain ⟨g2, g3, hq⟩ := hq
  refine x_callV (Yc := YX12_sees) (as := [.int 60]) (st := []) q3782 mvX12_sees g1 rfl dX12_parseSimple_3 (xle (xal1 (rv_cat _) (xal1 rfl xal0)) (by decide)) (xfr g2) (xlo xsw0 (by decide) g3) (xKi hq (fun x5 h4 hq e6 => ?_) (fun _ _ q _ => q))
  replace hq := hq e6
  refine x_if_eq (tgt := 38) dX12_parseSimple_6 (by decide) (fun c7 => ?_) (fun c7 => ?_)
  · replace hq := hq.1 c7
    refine x_aload_n 0 dX12_parseSimple_38 rfl ?_
    have t8 : tg h4 x0 = 13 := e6.tg g1 (by decide)
    obtain ⟨g9, g10, hq⟩ := hq
    refine x_callV (Yc := YX12_beginsConstant) (as := []) (st := []) q3838 mvX12_beginsConstant t8 rfl dX12_parseSimple_39 (xle (xal1 (rv_cat _) xal0) (by decide)) (xfr g9) (xlo xsw0 (by decide) g10) (xKi hq (fun x12 h11 hq e13 => ?_) (fun _ _ q _ => q))
    replace hq := hq e13
    refine x_if_ne (tgt := 49) dX12_parseSimple_42 (by decide) (fun c14 => ?_) (fun c14 => ?_)
    · replace hq := hq.1 c14
      exact uX12_parseSimple_49 hq
    · replace hq := hq.2 c14
      refine x_aload_n 0 dX12_parseSimple_45 rfl ?_
      have t15 : tg h11 x0 = 13 := e13.tg t8 (by decide)
      obtain ⟨g16, g17, hq⟩ := hq
      refine x_callV (Yc := YX12_bad) (as := []) (st := []) q3786 mvX12_bad t15 rfl dX12_parseSimple_46 (xle (xal1 (rv_cat _) xal0) (by decide)) (xfr g16) (xlo xsw0 (by decide) g17) (xKv hq (fun h18 hq e20 => ?_) (fun _ _ q _ => q))
      replace hq := hq e20
      exact uX12_parseSimple_49 hq
  · replace hq := hq.2 c7
    refine x_aload_n 0 dX12_parseSimple_9 rfl ?_
    refine x_bipush (v := 15) dX12_parseSimple_10 (by decide) ?_
    refine x_aload_n 0 dX12_parseSimple_12 rfl ?_
    have t21 : tg h4 x0 = 13 := e6.tg g1 (by decide)
    obtain ⟨g22, g23, hq⟩ := hq
    refine x_callV (Yc := YX12_take) (as := []) (st := [.int 15, rv x0]) q3794 mvX12_take t21 rfl dX12_parseSimple_13 (xle (xal1 (rv_cat _) xal0) (by decide)) (xfr g22) (xlo (xsw1 rfl (xsw1 (rv_cat _) xsw0)) (by decide) g23) (xKi hq (fun x25 h24 hq e26 => ?_) (fun _ _ q _ => q))
    replace hq := hq e26
    have t27 : tg h24 x0 = 13 := e26.tg t21 (by decide)
    obtain ⟨g28, g29, hq⟩ := hq
    refine x_callV (Yc := YX12_node) (as := [.int 15, .int x25]) (st := []) q3798 mvX12_node t27 rfl dX12_parseSimple_16 (xle (xal1 (rv_cat _) (xal1 rfl (xal1 rfl xal0))) (by decide)) (xfr g28) (xlo xsw0 (by decide) g29) (xKi hq (fun x31 h30 hq e32 => ?_) (fun _ _ q _ => q))
    replace hq := hq e32
    refine x_istore_n (lv' := [(1, .int x31), (0, rv x0)]) dX12_parseSimple_19 (by decide) (by first | rfl | (simp [rv_cat, Value.category]; done) | (simp [rv_cat, Value.category]; decide)) ?_
    refine x_aload_n 1 dX12_parseSimple_20 rfl ?_
    refine x_iload_n 0 dX12_parseSimple_21 rfl ?_
    refine x_aload_n 1 dX12_parseSimple_22 rfl ?_
    have t33 : tg h30 x0 = 13 := e32.tg t27 (by decide)
    obtain ⟨g34, g35, hq⟩ := hq
    refine x_callV (Yc := YX12_parseNames) (as := []) (st := [.int x31, rv x0]) q3806 mvX12_parseNames t33 rfl dX12_parseSimple_23 (xle (xal1 (rv_cat _) xal0) (by decide)) (xfr g34) (xlo (xsw1 rfl (xsw1 (rv_cat _) xsw0)) (by decide) g35) (xKi hq (fun x37 h36 hq e38 => ?_) (fun _ _ q _ => q))
    replace hq := hq e38
    have t39 : tg h36 x0 = 13 := e38.tg t33 (by decide)
    obtain ⟨g40, g41, hq⟩ := hq
    refine x_callV (Yc := YX12_add) (as := [.int x31, .int x37]) (st := []) q3810 mvX12_add t39 rfl dX12_parseSimple_26 (xle (xal1 (rv_cat _) (xal1 rfl (xal1 rfl xal0))) (by decide)) (xfr g40) (xlo xsw0 (by decide) g41) (xKv hq (fun h42 hq e44 => ?_) (fun _ _ q _ => q))
    replace hq := hq e44
    refine x_aload_n 1 dX12_parseSimple_29 rfl ?_
    refine x_bipush (v := 61) dX12_parseSimple_30 (by decide) ?_
    have t45 : tg h42 x0 = 13 := e44.tg t39 (by decide)
    obtain ⟨g46, g47, hq⟩ := hq
    refine x_callV (Yc := YX12_must) (as := [.int 61]) (st := []) q3778 mvX12_must t45 rfl dX12_parseSimple_32 (xle (xal1 (rv_cat _) (xal1 rfl xal0)) (by decide)) (xfr g46) (xlo xsw0 (by decide) g47) (xKi hq (fun x49 h48 hq e50 => ?_) (fun _ _ q _ => q))
    replace hq := hq e50
    refine x_pop dX12_parseSimple_35 rfl ?_
    refine x_iload_n 0 dX12_parseSimple_36 rfl ?_
    exact x_iret rfl rfl dX12_parseSimple_37 hq
theorem rX12_parseSimple {G : xG} {fr lo : Nat} {x0 : Nat} {h : xH} {Q : Outcome → xH → Prop} (hq : bX12_parseSimple G fr lo x0 h Q) : xR G YX12_parseSimple fr lo [rv x0] h Q := by
  show xP _ _ _ _ _ (lv_args 0 _) _ _ _
  rw [show lv_args 0 [rv x0] = [(0, rv x0)] from (xla1 (rv_cat _) xla0)]
  exact uX12_parseSimple hq
set_option maxRecDepth 100000 in
theorem dX12_beginsConstant_0 : decode cX12_beginsConstant 0 = .ok (.aload_n 0, 1) := by decide +kernel
set_option maxRecDepth 100000 in
theorem dX12_beginsConstant_1 : decode cX12_beginsConstant 1 = .ok (.bipush 43, 2) := by decide +kernel
set_option maxRecDepth 100000 in
theorem dX12_beginsConstant_3 : decode cX12_beginsConstant 3 = .ok (.invokevirtual 439, 3) := by decide +kernel
set_option maxRecDepth 100000 in
theorem dX12_beginsConstant_6 : decode cX12_beginsConstant 6 = .ok (.ifCond .ne 48, 3) := by decide +kernel
set_option maxRecDepth 100000 in
theorem dX12_beginsConstant_9 : decode cX12_beginsConstant 9 = .ok (.aload_n 0, 1) := by decide +kernel
set_option maxRecDepth 100000 in
theorem dX12_beginsConstant_10 : decode cX12_beginsConstant 10 = .ok (.bipush 50, 2) := by decide +kernel
set_option maxRecDepth 100000 in
theorem dX12_beginsConstant_12 : decode cX12_beginsConstant 12 = .ok (.invokevirtual 439, 3) := by decide +kernel
set_option maxRecDepth 100000 in
theorem dX12_beginsConstant_15 : decode cX12_beginsConstant 15 = .ok (.ifCond .ne 39, 3) := by decide +kernel
set_option maxRecDepth 100000 in
theorem dX12_beginsConstant_18 : decode cX12_beginsConstant 18 = .ok (.aload_n 0, 1) := by decide +kernel
set_option maxRecDepth 100000 in
theorem dX12_beginsConstant_19 : decode cX12_beginsConstant 19 = .ok (.bipush 51, 2) := by decide +kernel
set_option maxRecDepth 100000 in
theorem dX12_beginsConstant_21 : decode cX12_beginsConstant 21 = .ok (.invokevirtual 439, 3) := by decide +kernel
set_option maxRecDepth 100000 in
theorem dX12_beginsConstant_24 : decode cX12_beginsConstant 24 = .ok (.ifCond .ne 30, 3) := by decide +kernel
set_option maxRecDepth 100000 in
theorem dX12_beginsConstant_27 : decode cX12_beginsConstant 27 = .ok (.aload_n 0, 1) := by decide +kernel
set_option maxRecDepth 100000 in
theorem dX12_beginsConstant_28 : decode cX12_beginsConstant 28 = .ok (.bipush 41, 2) := by decide +kernel
set_option maxRecDepth 100000 in
theorem dX12_beginsConstant_30 : decode cX12_beginsConstant 30 = .ok (.invokevirtual 439, 3) := by decide +kernel
set_option maxRecDepth 100000 in
theorem dX12_beginsConstant_33 : decode cX12_beginsConstant 33 = .ok (.ifCond .ne 21, 3) := by decide +kernel
set_option maxRecDepth 100000 in
theorem dX12_beginsConstant_36 : decode cX12_beginsConstant 36 = .ok (.aload_n 0, 1) := by decide +kernel
set_option maxRecDepth 100000 in
theorem dX12_beginsConstant_37 : decode cX12_beginsConstant 37 = .ok (.bipush 42, 2) := by decide +kernel
set_option maxRecDepth 100000 in
theorem dX12_beginsConstant_39 : decode cX12_beginsConstant 39 = .ok (.invokevirtual 439, 3) := by decide +kernel
set_option maxRecDepth 100000 in
theorem dX12_beginsConstant_42 : decode cX12_beginsConstant 42 = .ok (.ifCond .ne 12, 3) := by decide +kernel
set_option maxRecDepth 100000 in
theorem dX12_beginsConstant_45 : decode cX12_beginsConstant 45 = .ok (.aload_n 0, 1) := by decide +kernel
set_option maxRecDepth 100000 in
theorem dX12_beginsConstant_46 : decode cX12_beginsConstant 46 = .ok (.bipush 40, 2) := by decide +kernel
set_option maxRecDepth 100000 in
theorem dX12_beginsConstant_48 : decode cX12_beginsConstant 48 = .ok (.invokevirtual 439, 3) := by decide +kernel
set_option maxRecDepth 100000 in
theorem dX12_beginsConstant_51 : decode cX12_beginsConstant 51 = .ok (.ifCond .eq 7, 3) := by decide +kernel
set_option maxRecDepth 100000 in
theorem dX12_beginsConstant_54 : decode cX12_beginsConstant 54 = .ok (.iconst 1, 1) := by decide +kernel
set_option maxRecDepth 100000 in
theorem dX12_beginsConstant_55 : decode cX12_beginsConstant 55 = .ok (.goto 4, 3) := by decide +kernel
set_option maxRecDepth 100000 in
theorem dX12_beginsConstant_58 : decode cX12_beginsConstant 58 = .ok (.iconst 0, 1) := by decide +kernel
set_option maxRecDepth 100000 in
theorem dX12_beginsConstant_59 : decode cX12_beginsConstant 59 = .ok (.ireturn, 1) := by decide +kernel
set_option maxRecDepth 100000 in
def bX12_beginsConstant_59 (G : xG) (fr lo : Nat) (s0 : Int32) (h : xH) (Q : Outcome → xH → Prop) : Prop := xbz s0 ∧ Q (.returned (some (.int s0))) h
set_option maxRecDepth 100000 in
theorem uX12_beginsConstant_59 {G : xG} {fr lo : Nat} {s0 : Int32} {h : xH} {Q : Outcome → xH → Prop} (hq : bX12_beginsConstant_59 G fr lo s0 h Q) : xP G YX12_beginsConstant fr lo 59 [] [.int s0] h Q := by
  unfold bX12_beginsConstant_59 at hq
  obtain ⟨g1, hq⟩ := hq
  exact x_iret rfl (xnZ g1) dX12_beginsConstant_59 hq
set_option maxRecDepth 100000 in
def bX12_beginsConstant_54 (G : xG) (fr lo : Nat) (h : xH) (Q : Outcome → xH → Prop) : Prop := bX12_beginsConstant_59 G fr lo 1 h Q
set_option maxRecDepth 100000 in
theorem uX12_beginsConstant_54 {G : xG} {fr lo : Nat} {h : xH} {Q : Outcome → xH → Prop} (hq : bX12_beginsConstant_54 G fr lo h Q) : xP G YX12_beginsConstant fr lo 54 [] [] h Q := by
  unfold bX12_beginsConstant_54 at hq
  refine x_iconst (v := 1) dX12_beginsConstant_54 (by decide) ?_
  refine x_goto (tgt := 59) dX12_beginsConstant_55 (by decide) ?_
  exact uX12_beginsConstant_59 hq
set_option maxRecDepth 100000 in
def bX12_beginsConstant (G : xG) (fr lo : Nat) (x0 : Nat) (h : xH) (Q : Outcome → xH → Prop) : Prop := tg h x0 = 13 ∧ 1 ≤ fr ∧ 13 ≤ lo ∧ xRi G YX12_sees (fr - 1) (lo - 13) [rv x0, .int 43] h (fun x5 h4 => xext h h4 → ((¬ x5 = 0 → bX12_beginsConstant_54 G fr lo h4 Q) ∧ (x5 = 0 → 1 ≤ fr ∧ 13 ≤ lo ∧ xRi G YX12_sees (fr - 1) (lo - 13) [rv x0, .int 50] h4 (fun x12 h11 => xext h4 h11 → ((¬ x12 = 0 → bX12_beginsConstant_54 G fr lo h11 Q) ∧ (x12 = 0 → 1 ≤ fr ∧ 13 ≤ lo ∧ xRi G YX12_sees (fr - 1) (lo - 13) [rv x0, .int 51] h11 (fun x19 h18 => xext h11 h18 → ((¬ x19 = 0 → bX12_beginsConstant_54 G fr lo h18 Q) ∧ (x19 = 0 → 1 ≤ fr ∧ 13 ≤ lo ∧ xRi G YX12_sees (fr - 1) (lo - 13) [rv x0, .int 41] h18 (fun x26 h25 => xext h18 h25 → ((¬ x26 = 0 → bX12_beginsConstant_54 G fr lo h25 Q) ∧ (x26 = 0 → 1 ≤ fr ∧ 13 ≤ lo ∧ xRi G YX12_sees (fr - 1) (lo - 13) [rv x0, .int 42] h25 (fun x33 h32 => xext h25 h32 → ((¬ x33 = 0 → bX12_beginsConstant_54 G fr lo h32 Q) ∧ (x33 = 0 → 1 ≤ fr ∧ 13 ≤ lo ∧ xRi G YX12_sees (fr - 1) (lo - 13) [rv x0, .int 40] h32 (fun x40 h39 => xext h32 h39 → ((x40 = 0 → bX12_beginsConstant_59 G fr lo 0 h39 Q) ∧ (¬ x40 = 0 → bX12_beginsConstant_54 G fr lo h39 Q))) (fun r h2 => Q (.threw r) h2)))) (fun r h2 => Q (.threw r) h2)))) (fun r h2 => Q (.threw r) h2)))) (fun r h2 => Q (.threw r) h2)))) (fun r h2 => Q (.threw r) h2)))) (fun r h2 => Q (.threw r) h2)
set_option maxRecDepth 100000 in
theorem uX12_beginsConstant {G : xG} {fr lo : Nat} {x0 : Nat} {h : xH} {Q : Outcome → xH → Prop} (hq : bX12_beginsConstant G fr lo x0 h Q) : xP G YX12_beginsConstant fr lo 0 [(0, rv x0)] [] h Q := by
  unfold bX12_beginsConstant at hq
  refine x_aload_n 0 dX12_beginsConstant_0 rfl ?_
  refine x_bipush (v := 43) dX12_beginsConstant_1 (by decide) ?_
  obtain ⟨g1, hq⟩ := hq
  obtain ⟨g2, g3, hq⟩ := hq
  refine x_callV (Yc := YX12_sees) (as := [.int 43]) (st := []) q3782 mvX12_sees g1 rfl dX12_beginsConstant_3 (xle (xal1 (rv_cat _) (xal1 rfl xal0)) (by decide)) (xfr g2) (xlo xsw0 (by decide) g3) (xKi hq (fun x5 h4 hq e6 => ?_) (fun _ _ q _ => q))
  replace hq := hq e6
  refine x_if_ne (tgt := 54) dX12_beginsConstant_6 (by decide) (fun c7 => ?_) (fun c7 => ?_)
  · replace hq := hq.1 c7
    refine xP.pick (lv' := []) [] rfl ?_
    exact uX12_beginsConstant_54 hq
  · replace hq := hq.2 c7
    refine x_aload_n 0 dX12_beginsConstant_9 rfl ?_
    refine x_bipush (v := 50) dX12_beginsConstant_10 (by decide) ?_
    have t8 : tg h4 x0 = 13 := e6.tg g1 (by decide)
    obtain ⟨g9, g10, hq⟩ := hq
    refine x_callV (Yc := YX12_sees) (as := [.int 50]) (st := []) q3782 mvX12_sees t8 rfl dX12_beginsConstant_12 (xle (xal1 (rv_cat _) (xal1 rfl xal0)) (by decide)) (xfr g9) (xlo xsw0 (by decide) g10) (xKi hq (fun x12 h11 hq e13 => ?_) (fun _ _ q _ => q))
    replace hq := hq e13
    refine x_if_ne (tgt := 54) dX12_beginsConstant_15 (by decide) (fun c14 => ?_) (fun c14 => ?_)
    · replace hq := hq.1 c14
      refine xP.pick (lv' := []) [] rfl ?_
      exact uX12_beginsConstant_54 hq
    · replace hq := hq.2 c14
      refine x_aload_n 0 dX12_beginsConstant_18 rfl ?_
      refine x_bipush (v := 51) dX12_beginsConstant_19 (by decide) ?_
      have t15 : tg h11 x0 = 13 := e13.tg t8 (by decide)
      obtain ⟨g16, g17, hq⟩ := hq
      refine x_callV (Yc := YX12_sees) (as := [.int 51]) (st := []) q3782 mvX12_sees t15 rfl dX12_beginsConstant_21 (xle (xal1 (rv_cat _) (xal1 rfl xal0)) (by decide)) (xfr g16) (xlo xsw0 (by decide) g17) (xKi hq (fun x19 h18 hq e20 => ?_) (fun _ _ q _ => q))
      replace hq := hq e20
      refine x_if_ne (tgt := 54) dX12_beginsConstant_24 (by decide) (fun c21 => ?_) (fun c21 => ?_)
      · replace hq := hq.1 c21
        refine xP.pick (lv' := []) [] rfl ?_
        exact uX12_beginsConstant_54 hq
      · replace hq := hq.2 c21
        refine x_aload_n 0 dX12_beginsConstant_27 rfl ?_
        refine x_bipush (v := 41) dX12_beginsConstant_28 (by decide) ?_
        have t22 : tg h18 x0 = 13 := e20.tg t15 (by decide)
        obtain ⟨g23, g24, hq⟩ := hq
        refine x_callV (Yc := YX12_sees) (as := [.int 41]) (st := []) q3782 mvX12_sees t22 rfl dX12_beginsConstant_30 (xle (xal1 (rv_cat _) (xal1 rfl xal0)) (by decide)) (xfr g23) (xlo xsw0 (by decide) g24) (xKi hq (fun x26 h25 hq e27 => ?_) (fun _ _ q _ => q))
        replace hq := hq e27
        refine x_if_ne (tgt := 54) dX12_beginsConstant_33 (by decide) (fun c28 => ?_) (fun c28 => ?_)
        · replace hq := hq.1 c28
          refine xP.pick (lv' := []) [] rfl ?_
          exact uX12_beginsConstant_54 hq
        · replace hq := hq.2 c28
          refine x_aload_n 0 dX12_beginsConstant_36 rfl ?_
          refine x_bipush (v := 42) dX12_beginsConstant_37 (by decide) ?_
          have t29 : tg h25 x0 = 13 := e27.tg t22 (by decide)
          obtain ⟨g30, g31, hq⟩ := hq
          refine x_callV (Yc := YX12_sees) (as := [.int 42]) (st := []) q3782 mvX12_sees t29 rfl dX12_beginsConstant_39 (xle (xal1 (rv_cat _) (xal1 rfl xal0)) (by decide)) (xfr g30) (xlo xsw0 (by decide) g31) (xKi hq (fun x33 h32 hq e34 => ?_) (fun _ _ q _ => q))
          replace hq := hq e34
          refine x_if_ne (tgt := 54) dX12_beginsConstant_42 (by decide) (fun c35 => ?_) (fun c35 => ?_)
          · replace hq := hq.1 c35
            refine xP.pick (lv' := []) [] rfl ?_
            exact uX12_beginsConstant_54 hq
          · replace hq := hq.2 c35
            refine x_aload_n 0 dX12_beginsConstant_45 rfl ?_
            refine x_bipush (v := 40) dX12_beginsConstant_46 (by decide) ?_
            have t36 : tg h32 x0 = 13 := e34.tg t29 (by decide)
            obtain ⟨g37, g38, hq⟩ := hq
            refine x_callV (Yc := YX12_sees) (as := [.int 40]) (st := []) q3782 mvX12_sees t36 rfl dX12_beginsConstant_48 (xle (xal1 (rv_cat _) (xal1 rfl xal0)) (by decide)) (xfr g37) (xlo xsw0 (by decide) g38) (xKi hq (fun x40 h39 hq e41 => ?_) (fun _ _ q _ => q))
            replace hq := hq e41
            refine x_if_eq (tgt := 58) dX12_beginsConstant_51 (by decide) (fun c42 => ?_) (fun c42 => ?_)
            · replace hq := hq.1 c42
              refine x_iconst (v := 0) dX12_beginsConstant_58 (by decide) ?_
              refine xP.pick (lv' := []) [] rfl ?_
              exact uX12_beginsConstant_59 hq
            · replace hq := hq.2 c42
              refine xP.pick (lv' := []) [] rfl ?_
              exact uX12_beginsConstant_54 hq
theorem rX12_beginsConstant {G : xG} {fr lo : Nat} {x0 : Nat} {h : xH} {Q : Outcome → xH → Prop} (hq : bX12_beginsConstant G fr lo x0 h Q) : xR G YX12_beginsConstant fr lo [rv x0] h Q := by
  show xP _ _ _ _ _ (lv_args 0 _) _ _ _
  rw [show lv_args 0 [rv x0] = [(0, rv x0)] from (xla1 (rv_cat _) xla0)]
  exact uX12_beginsConstant hq
set_option maxRecDepth 100000 in
theorem dX12_parseFields_0 : decode cX12_parseFields 0 = .ok (.aload_n 0, 1) := by decide +kernel
set_option maxRecDepth 100000 in
theorem dX12_parseFields_1 : decode cX12_parseFields 1 = .ok (.invokevirtual 472, 3) := by decide +kernel
set_option maxRecDepth 100000 in
theorem dX12_parseFields_4 : decode cX12_parseFields 4 = .ok (.aload_n 0, 1) := by decide +kernel
set_option maxRecDepth 100000 in
theorem dX12_parseFields_5 : decode cX12_parseFields 5 = .ok (.bipush 18, 2) := by decide +kernel
set_option maxRecDepth 100000 in
theorem dX12_parseFields_7 : decode cX12_parseFields 7 = .ok (.aload_n 0, 1) := by decide +kernel
set_option maxRecDepth 100000 in
theorem dX12_parseFields_8 : decode cX12_parseFields 8 = .ok (.invokevirtual 445, 3) := by decide +kernel
set_option maxRecDepth 100000 in
theorem dX12_parseFields_11 : decode cX12_parseFields 11 = .ok (.invokevirtual 454, 3) := by decide +kernel
set_option maxRecDepth 100000 in
theorem dX12_parseFields_14 : decode cX12_parseFields 14 = .ok (.istore_n 1, 1) := by decide +kernel
set_option maxRecDepth 100000 in
theorem dX12_parseFields_15 : decode cX12_parseFields 15 = .ok (.iconst 0, 1) := by decide +kernel
set_option maxRecDepth 100000 in
theorem dX12_parseFields_16 : decode cX12_parseFields 16 = .ok (.istore_n 2, 1) := by decide +kernel
set_option maxRecDepth 100000 in
theorem dX12_parseFields_17 : decode cX12_parseFields 17 = .ok (.aload_n 0, 1) := by decide +kernel
set_option maxRecDepth 100000 in
theorem dX12_parseFields_18 : decode cX12_parseFields 18 = .ok (.bipush 40, 2) := by decide +kernel
set_option maxRecDepth 100000 in
theorem dX12_parseFields_20 : decode cX12_parseFields 20 = .ok (.invokevirtual 439, 3) := by decide +kernel
set_option maxRecDepth 100000 in
theorem dX12_parseFields_23 : decode cX12_parseFields 23 = .ok (.ifCond .eq 19, 3) := by decide +kernel
set_option maxRecDepth 100000 in
theorem dX12_parseFields_26 : decode cX12_parseFields 26 = .ok (.iload_n 2, 1) := by decide +kernel
set_option maxRecDepth 100000 in
theorem dX12_parseFields_27 : decode cX12_parseFields 27 = .ok (.ifCond .ne 15, 3) := by decide +kernel
set_option maxRecDepth 100000 in
theorem dX12_parseFields_30 : decode cX12_parseFields 30 = .ok (.aload_n 0, 1) := by decide +kernel
set_option maxRecDepth 100000 in
theorem dX12_parseFields_31 : decode cX12_parseFields 31 = .ok (.iload_n 1, 1) := by decide +kernel
set_option maxRecDepth 100000 in
theorem dX12_parseFields_32 : decode cX12_parseFields 32 = .ok (.aload_n 0, 1) := by decide +kernel
set_option maxRecDepth 100000 in
theorem dX12_parseFields_33 : decode cX12_parseFields 33 = .ok (.invokevirtual 481, 3) := by decide +kernel
set_option maxRecDepth 100000 in
theorem dX12_parseFields_36 : decode cX12_parseFields 36 = .ok (.invokevirtual 460, 3) := by decide +kernel
set_option maxRecDepth 100000 in
theorem dX12_parseFields_39 : decode cX12_parseFields 39 = .ok (.goto 26, 3) := by decide +kernel
set_option maxRecDepth 100000 in
theorem dX12_parseFields_42 : decode cX12_parseFields 42 = .ok (.aload_n 0, 1) := by decide +kernel
set_option maxRecDepth 100000 in
theorem dX12_parseFields_43 : decode cX12_parseFields 43 = .ok (.iconst 4, 1) := by decide +kernel
set_option maxRecDepth 100000 in
theorem dX12_parseFields_44 : decode cX12_parseFields 44 = .ok (.invokevirtual 439, 3) := by decide +kernel
set_option maxRecDepth 100000 in
theorem dX12_parseFields_47 : decode cX12_parseFields 47 = .ok (.ifCond .eq 18, 3) := by decide +kernel
set_option maxRecDepth 100000 in
theorem dX12_parseFields_50 : decode cX12_parseFields 50 = .ok (.iload_n 2, 1) := by decide +kernel
set_option maxRecDepth 100000 in
theorem dX12_parseFields_51 : decode cX12_parseFields 51 = .ok (.ifCond .ne 14, 3) := by decide +kernel
set_option maxRecDepth 100000 in
theorem dX12_parseFields_54 : decode cX12_parseFields 54 = .ok (.aload_n 0, 1) := by decide +kernel
set_option maxRecDepth 100000 in
theorem dX12_parseFields_55 : decode cX12_parseFields 55 = .ok (.iload_n 1, 1) := by decide +kernel
set_option maxRecDepth 100000 in
theorem dX12_parseFields_56 : decode cX12_parseFields 56 = .ok (.aload_n 0, 1) := by decide +kernel
set_option maxRecDepth 100000 in
theorem dX12_parseFields_57 : decode cX12_parseFields 57 = .ok (.invokevirtual 503, 3) := by decide +kernel
set_option maxRecDepth 100000 in
theorem dX12_parseFields_60 : decode cX12_parseFields 60 = .ok (.invokevirtual 460, 3) := by decide +kernel
set_option maxRecDepth 100000 in
theorem dX12_parseFields_63 : decode cX12_parseFields 63 = .ok (.iconst 1, 1) := by decide +kernel
set_option maxRecDepth 100000 in
theorem dX12_parseFields_64 : decode cX12_parseFields 64 = .ok (.istore_n 2, 1) := by decide +kernel
set_option maxRecDepth 100000 in
theorem dX12_parseFields_65 : decode cX12_parseFields 65 = .ok (.aload_n 0, 1) := by decide +kernel
set_option maxRecDepth 100000 in
theorem dX12_parseFields_66 : decode cX12_parseFields 66 = .ok (.bipush 67, 2) := by decide +kernel
set_option maxRecDepth 100000 in
theorem dX12_parseFields_68 : decode cX12_parseFields 68 = .ok (.invokevirtual 463, 3) := by decide +kernel
set_option maxRecDepth 100000 in
theorem dX12_parseFields_71 : decode cX12_parseFields 71 = .ok (.ifCond .ne (-54), 3) := by decide +kernel
set_option maxRecDepth 100000 in
theorem dX12_parseFields_74 : decode cX12_parseFields 74 = .ok (.aload_n 0, 1) := by decide +kernel
set_option maxRecDepth 100000 in
theorem dX12_parseFields_75 : decode cX12_parseFields 75 = .ok (.dup, 1) := by decide +kernel
set_option maxRecDepth 100000 in
theorem dX12_parseFields_76 : decode cX12_parseFields 76 = .ok (.getfield 451, 3) := by decide +kernel
set_option maxRecDepth 100000 in
theorem dX12_parseFields_79 : decode cX12_parseFields 79 = .ok (.iconst 1, 1) := by decide +kernel
set_option maxRecDepth 100000 in
theorem dX12_parseFields_80 : decode cX12_parseFields 80 = .ok (.isub, 1) := by decide +kernel
set_option maxRecDepth 100000 in
theorem dX12_parseFields_81 : decode cX12_parseFields 81 = .ok (.putfield 451, 3) := by decide +kernel
set_option maxRecDepth 100000 in
theorem dX12_parseFields_84 : decode cX12_parseFields 84 = .ok (.iload_n 1, 1) := by decide +kernel
set_option maxRecDepth 100000 in
theorem dX12_parseFields_85 : decode cX12_parseFields 85 = .ok (.ireturn, 1) := by decide +kernel
def lX12_parseFields_17 (G : xG) (fr lo : Nat) (x0 : Nat) (x1 : Int32) (x2 : Int32) (h : xH) (Q : Outcome → xH → Prop) : Prop := xP G YX12_parseFields fr lo 17 [(0, rv x0), (1, .int x1), (2, .int x2)] [] h Q
set_option maxRecDepth 100000 in
def bX12_parseFields_65 (G : xG) (fr lo : Nat) (x0 : Nat) (x1 : Int32) (x2 : Int32) (h : xH) (Q : Outcome → xH → Prop) : Prop := tg h x0 = 13 ∧ 1 ≤ fr ∧ 13 ≤ lo ∧ xRi G YX12_takes (fr - 1) (lo - 13) [rv x0, .int 67] h (fun x5 h4 => xext h h4 → ((¬ x5 = 0 → lX12_parseFields_17 G fr lo x0 x1 x2 h4 Q) ∧ (x5 = 0 → (∀ h9 : xH, h9 = sI h4 x0 3111 ((fI h4 x0 3111) - 1) → Q (.returned (some (.int x1))) h9)))) (fun r h2 => Q (.threw r) h2)
set_option maxRecDepth 100000 in
theorem uX12_parseFields_65 {G : xG} {fr lo : Nat} {x0 : Nat} {x1 : Int32} {x2 : Int32} {h : xH} {Q : Outcome → xH → Prop} (hq : bX12_parseFields_65 G fr lo x0 x1 x2 h Q) : xP G YX12_parseFields fr lo 65 [(0, rv x0), (1, .int x1), (2, .int x2)] [] h Q := by
  unfold bX12_parseFields_65 at hq
  refine x_aload_n 0 dX12_parseFields_65 rfl ?_
  refine x_bipush (v := 67) dX12_parseFields_66 (by decide) ?_
  obtain ⟨g1, hq⟩ := hq
  obtain ⟨g2, g3, hq⟩ := hq
  refine x_callV (Yc := YX12_takes) (as := [.int 67]) (st := []) q3802 mvX12_takes g1 rfl dX12_parseFields_68 (xle (xal1 (rv_cat _) (xal1 rfl xal0)) (by decide)) (xfr g2) (xlo xsw0 (by decide) g3) (xKi hq (fun x5 h4 hq e6 => ?_) (fun _ _ q _ => q))
  replace hq := hq e6
  refine x_if_ne (tgt := 17) dX12_parseFields_71 (by decide) (fun c7 => ?_) (fun c7 => ?_)
  · replace hq := hq.1 c7
    exact hq
  · replace hq := hq.2 c7
    refine x_aload_n 0 dX12_parseFields_74 rfl ?_
    refine x_dup dX12_parseFields_75 (rv_cat _) ?_
    have t8 : tg h4 x0 = 13 := e6.tg g1 (by decide)
    refine x_get (v := .int (fI h4 x0 3111)) fdX12_451 dX12_parseFields_76 t8 rfl ?_
    refine x_iconst (v := 1) dX12_parseFields_79 (by decide) ?_
    refine x_isub dX12_parseFields_80 ?_
    obtain ⟨h9, e10⟩ : ∃ y, y = sI h4 x0 3111 ((fI h4 x0 3111) - 1) := ⟨_, rfl⟩
    replace hq := hq h9 e10
    refine x_putI fdX12_451 xty_I1 dX12_parseFields_81 t8 (Or.inl (by rw [t8]; rfl)) xnI rfl e10 ?_
    refine x_iload_n 1 dX12_parseFields_84 rfl ?_
    exact x_iret rfl rfl dX12_parseFields_85 hq
set_option maxRecDepth 100000 in
def bX12_parseFields_42 (G : xG) (fr lo : Nat) (x0 : Nat) (x1 : Int32) (x2 : Int32) (h : xH) (Q : Outcome → xH → Prop) : Prop := tg h x0 = 13 ∧ 1 ≤ fr ∧ 13 ≤ lo ∧ xRi G YX12_sees (fr - 1) (lo - 13) [rv x0, .int 4] h (fun x5 h4 => xext h h4 → ((x5 = 0 → bX12_parseFields_65 G fr lo x0 x1 x2 h4 Q) ∧ (¬ x5 = 0 → ((¬ x2 = 0 → bX12_parseFields_65 G fr lo x0 x1 x2 h4 Q) ∧ (x2 = 0 → 1 ≤ fr ∧ 18 ≤ lo ∧ xRi G YX12_parseVariants (fr - 1) (lo - 18) [rv x0] h4 (fun x13 h12 => xext h4 h12 → 1 ≤ fr ∧ 14 ≤ lo ∧ xRv G YX12_add (fr - 1) (lo - 14) [rv x0, .int x1, .int x13] h12 (fun h18 => xext h12 h18 → bX12_parseFields_65 G fr lo x0 x1 1 h18 Q) (fun r h2 => Q (.threw r) h2)) (fun r h2 => Q (.threw r) h2)))))) (fun r h2 => Q (.threw r) h2)
set_option maxRecDepth 100000 in
theorem uX12_parseFields_42 {G : xG} {fr lo : Nat} {x0 : Nat} {x1 : Int32} {x2 : Int32} {h : xH} {Q : Outcome → xH → Prop} (hq : bX12_parseFields_42 G fr lo x0 x1 x2 h Q) : xP G YX12_parseFields fr lo 42 [(0, rv x0), (1, .int x1), (2, .int x2)] [] h Q := by
  unfold bX12_parseFields_42 at hq
  refine x_aload_n 0 dX12_parseFields_42 rfl ?_
  refine x_iconst (v := 4) dX12_parseFields_43 (by decide) ?_
  obtain ⟨g1, hq⟩ := hq
  obtain ⟨g2, g3, hq⟩ := hq
  refine x_callV (Yc := YX12_sees) (as := [.int 4]) (st := []) q3782 mvX12_sees g1 rfl dX12_parseFields_44 (xle (xal1 (rv_cat _) (xal1 rfl xal0)) (by decide)) (xfr g2) (xlo xsw0 (by decide) g3) (xKi hq (fun x5 h4 hq e6 => ?_) (fun _ _ q _ => q))
  replace hq := hq e6
  refine x_if_eq (tgt := 65) dX12_parseFields_47 (by decide) (fun c7 => ?_) (fun c7 => ?_)
  · replace hq := hq.1 c7
    exact uX12_parseFields_65 hq
  · replace hq := hq.2 c7
    refine x_iload_n 2 dX12_parseFields_50 rfl ?_
    refine x_if_ne (tgt := 65) dX12_parseFields_51 (by decide) (fun c8 => ?_) (fun c8 => ?_)
    · replace hq := hq.1 c8
      exact uX12_parseFields_65 hq
    · replace hq := hq.2 c8
      refine x_aload_n 0 dX12_parseFields_54 rfl ?_
      refine x_iload_n 1 dX12_parseFields_55 rfl ?_
      refine x_aload_n 0 dX12_parseFields_56 rfl ?_
      have t9 : tg h4 x0 = 13 := e6.tg g1 (by decide)
      obtain ⟨g10, g11, hq⟩ := hq
      refine x_callV (Yc := YX12_parseVariants) (as := []) (st := [.int x1, rv x0]) q3850 mvX12_parseVariants t9 rfl dX12_parseFields_57 (xle (xal1 (rv_cat _) xal0) (by decide)) (xfr g10) (xlo (xsw1 rfl (xsw1 (rv_cat _) xsw0)) (by decide) g11) (xKi hq (fun x13 h12 hq e14 => ?_) (fun _ _ q _ => q))
      replace hq := hq e14
      have t15 : tg h12 x0 = 13 := e14.tg t9 (by decide)
      obtain ⟨g16, g17, hq⟩ := hq
      refine x_callV (Yc := YX12_add) (as := [.int x1, .int x13]) (st := []) q3810 mvX12_add t15 rfl dX12_parseFields_60 (xle (xal1 (rv_cat _) (xal1 rfl (xal1 rfl xal0))) (by decide)) (xfr g16) (xlo xsw0 (by decide) g17) (xKv hq (fun h18 hq e20 => ?_) (fun _ _ q _ => q))
      replace hq := hq e20
      refine x_iconst (v := 1) dX12_parseFields_63 (by decide) ?_
      refine x_istore_n (lv' := [(2, .int 1), (0, rv x0), (1, .int x1)]) dX12_parseFields_64 (by decide) rfl ?_
      refine xP.pick (lv' := [(0, rv x0), (1, .int x1), (2, .int 1)]) [1, 2, 0] rfl ?_
      exact uX12_parseFields_65 hq
set_option maxRecDepth 100000 in
def bX12_parseFields_17 (G : xG) (fr lo : Nat) (x0 : Nat) (x1 : Int32) (x2 : Int32) (h : xH) (Q : Outcome → xH → Prop) : Prop := tg h x0 = 13 ∧ 1 ≤ fr ∧ 13 ≤ lo ∧ xRi G YX12_sees (fr - 1) (lo - 13) [rv x0, .int 40] h (fun x5 h4 => xext h h4 → ((x5 = 0 → bX12_parseFields_42 G fr lo x0 x1 x2 h4 Q) ∧ (¬ x5 = 0 → ((¬ x2 = 0 → bX12_parseFields_42 G fr lo x0 x1 x2 h4 Q) ∧ (x2 = 0 → 1 ≤ fr ∧ 15 ≤ lo ∧ xRi G YX12_parseNamed (fr - 1) (lo - 15) [rv x0] h4 (fun x13 h12 => xext h4 h12 → 1 ≤ fr ∧ 14 ≤ lo ∧ xRv G YX12_add (fr - 1) (lo - 14) [rv x0, .int x1, .int x13] h12 (fun h18 => xext h12 h18 → bX12_parseFields_65 G fr lo x0 x1 x2 h18 Q) (fun r h2 => Q (.threw r) h2)) (fun r h2 => Q (.threw r) h2)))))) (fun r h2 => Q (.threw r) h2)
set_option maxRecDepth 100000 in
theorem uX12_parseFields_17 {G : xG} {fr lo : Nat} {x0 : Nat} {x1 : Int32} {x2 : Int32} {h : xH} {Q : Outcome → xH → Prop} (hq : bX12_parseFields_17 G fr lo x0 x1 x2 h Q) : xP G YX12_parseFields fr lo 17 [(0, rv x0), (1, .int x1), (2, .int x2)] [] h Q := by
  unfold bX12_parseFields_17 at hq
  refine x_aload_n 0 dX12_parseFields_17 rfl ?_
  refine x_bipush (v := 40) dX12_parseFields_18 (by decide) ?_
  obtain ⟨g1, hq⟩ := hq
  obtain ⟨g2, g3, hq⟩ := hq
  refine x_callV (Yc := YX12_sees) (as := [.int 40]) (st := []) q3782 mvX12_sees g1 rfl dX12_parseFields_20 (xle (xal1 (rv_cat _) (xal1 rfl xal0)) (by decide)) (xfr g2) (xlo xsw0 (by decide) g3) (xKi hq (fun x5 h4 hq e6 => ?_) (fun _ _ q _ => q))
  replace hq := hq e6
  refine x_if_eq (tgt := 42) dX12_parseFields_23 (by decide) (fun c7 => ?_) (fun c7 => ?_)
  · replace hq := hq.1 c7
    exact uX12_parseFields_42 hq
  · replace hq := hq.2 c7
    refine x_iload_n 2 dX12_parseFields_26 rfl ?_
    refine x_if_ne (tgt := 42) dX12_parseFields_27 (by decide) (fun c8 => ?_) (fun c8 => ?_)
    · replace hq := hq.1 c8
      exact uX12_parseFields_42 hq
    · replace hq := hq.2 c8
      refine x_aload_n 0 dX12_parseFields_30 rfl ?_
      refine x_iload_n 1 dX12_parseFields_31 rfl ?_
      refine x_aload_n 0 dX12_parseFields_32 rfl ?_
      have t9 : tg h4 x0 = 13 := e6.tg g1 (by decide)
      obtain ⟨g10, g11, hq⟩ := hq
      refine x_callV (Yc := YX12_parseNamed) (as := []) (st := [.int x1, rv x0]) q3846 mvX12_parseNamed t9 rfl dX12_parseFields_33 (xle (xal1 (rv_cat _) xal0) (by decide)) (xfr g10) (xlo (xsw1 rfl (xsw1 (rv_cat _) xsw0)) (by decide) g11) (xKi hq (fun x13 h12 hq e14 => ?_) (fun _ _ q _ => q))
      replace hq := hq e14
      have t15 : tg h12 x0 = 13 := e14.tg t9 (by decide)
      obtain ⟨g16, g17, hq⟩ := hq
      refine x_callV (Yc := YX12_add) (as := [.int x1, .int x13]) (st := []) q3810 mvX12_add t15 rfl dX12_parseFields_36 (xle (xal1 (rv_cat _) (xal1 rfl (xal1 rfl xal0))) (by decide)) (xfr g16) (xlo xsw0 (by decide) g17) (xKv hq (fun h18 hq e20 => ?_) (fun _ _ q _ => q))
      replace hq := hq e20
      refine x_goto (tgt := 65) dX12_parseFields_39 (by decide) ?_
      exact uX12_parseFields_65 hq
set_option maxRecDepth 100000 in
def bX12_parseFields (G : xG) (fr lo : Nat) (x0 : Nat) (h : xH) (Q : Outcome → xH → Prop) : Prop := tg h x0 = 13 ∧ 1 ≤ fr ∧ 12 ≤ lo ∧ xRv G YX12_enter (fr - 1) (lo - 12) [rv x0] h (fun h4 => xext h h4 → 1 ≤ fr ∧ 14 ≤ lo ∧ xRi G YX12_now (fr - 1) (lo - 14) [rv x0] h4 (fun x11 h10 => xext h4 h10 → 1 ≤ fr ∧ 15 ≤ lo ∧ xRi G YX12_node (fr - 1) (lo - 15) [rv x0, .int 18, .int x11] h10 (fun x17 h16 => xext h10 h16 → lX12_parseFields_17 G fr lo x0 x17 0 h16 Q) (fun r h2 => Q (.threw r) h2)) (fun r h2 => Q (.threw r) h2)) (fun r h2 => Q (.threw r) h2)
set_option maxRecDepth 100000 in
theorem uX12_parseFields {G : xG} {fr lo : Nat} {x0 : Nat} {h : xH} {Q : Outcome → xH → Prop} (hq : bX12_parseFields G fr lo x0 h Q) : xP G YX12_parseFields fr lo 0 [(0, rv x0)] [] h Q := by
  unfold bX12_parseFields at hq
  refine x_aload_n 0 dX12_parseFields_0 rfl ?_
  obtain ⟨g1, hq⟩ := hq
  obtain ⟨g2, g3, hq⟩ := hq
  refine x_callV (Yc := YX12_enter) (as := []) (st := []) q3818 mvX12_enter g1 rfl dX12_parseFields_1 (xle (xal1 (rv_cat _) xal0) (by decide)) (xfr g2) (xlo xsw0 (by decide) g3) (xKv hq (fun h4 hq e6 => ?_) (fun _ _ q _ => q))
  replace hq := hq e6
  refine x_aload_n 0 dX12_parseFields_4 rfl ?_
  refine x_bipush (v := 18) dX12_parseFields_5 (by decide) ?_
  refine x_aload_n 0 dX12_parseFields_7 rfl ?_
  have t7 : tg h4 x0 = 13 := e6.tg g1 (by decide)
  obtain ⟨g8, g9, hq⟩ := hq
  refine x_callV (Yc := YX12_now) (as := []) (st := [.int 18, rv x0]) q3790 mvX12_now t7 rfl dX12_parseFields_8 (xle (xal1 (rv_cat _) xal0) (by decide)) (xfr g8) (xlo (xsw1 rfl (xsw1 (rv_cat _) xsw0)) (by decide) g9) (xKi hq (fun x11 h10 hq e12 => ?_) (fun _ _ q _ => q))
  replace hq := hq e12
  have t13 : tg h10 x0 = 13 := e12.tg t7 (by decide)
  obtain ⟨g14, g15, hq⟩ := hq
  refine x_callV (Yc := YX12_node) (as := [.int 18, .int x11]) (st := []) q3798 mvX12_node t13 rfl dX12_parseFields_11 (xle (xal1 (rv_cat _) (xal1 rfl (xal1 rfl xal0))) (by decide)) (xfr g14) (xlo xsw0 (by decide) g15) (xKi hq (fun x17 h16 hq e18 => ?_) (fun _ _ q _ => q))
  replace hq := hq e18
  refine x_istore_n (lv' := [(1, .int x17), (0, rv x0)]) dX12_parseFields_14 (by decide) (by first | rfl | (simp [rv_cat, Value.category]; done) | (simp [rv_cat, Value.category]; decide)) ?_
  refine x_iconst (v := 0) dX12_parseFields_15 (by decide) ?_
  refine x_istore_n (lv' := [(2, .int 0), (1, .int x17), (0, rv x0)]) dX12_parseFields_16 (by decide) rfl ?_
  refine xP.pick (lv' := [(0, rv x0), (1, .int x17), (2, .int 0)]) [2, 1, 0] rfl ?_
  exact hq
theorem rX12_parseFields {G : xG} {fr lo : Nat} {x0 : Nat} {h : xH} {Q : Outcome → xH → Prop} (hq : bX12_parseFields G fr lo x0 h Q) : xR G YX12_parseFields fr lo [rv x0] h Q := by
  show xP _ _ _ _ _ (lv_args 0 _) _ _ _
  rw [show lv_args 0 [rv x0] = [(0, rv x0)] from (xla1 (rv_cat _) xla0)]
  exact uX12_parseFields hq
set_option maxRecDepth 100000 in
theorem dX12_parseNamed_0 : decode cX12_parseNamed 0 = .ok (.aload_n 0, 1) := by decide +kernel
set_option maxRecDepth 100000 in
theorem dX12_parseNamed_1 : decode cX12_parseNamed 1 = .ok (.bipush 6, 2) := by decide +kernel
set_option maxRecDepth 100000 in
theorem dX12_parseNamed_3 : decode cX12_parseNamed 3 = .ok (.aload_n 0, 1) := by decide +kernel
set_option maxRecDepth 100000 in
theorem dX12_parseNamed_4 : decode cX12_parseNamed 4 = .ok (.invokevirtual 445, 3) := by decide +kernel
set_option maxRecDepth 100000 in
theorem dX12_parseNamed_7 : decode cX12_parseNamed 7 = .ok (.invokevirtual 454, 3) := by decide +kernel
set_option maxRecDepth 100000 in
theorem dX12_parseNamed_10 : decode cX12_parseNamed 10 = .ok (.istore_n 1, 1) := by decide +kernel
set_option maxRecDepth 100000 in
theorem dX12_parseNamed_11 : decode cX12_parseNamed 11 = .ok (.aload_n 0, 1) := by decide +kernel
set_option maxRecDepth 100000 in
theorem dX12_parseNamed_12 : decode cX12_parseNamed 12 = .ok (.iload_n 1, 1) := by decide +kernel
set_option maxRecDepth 100000 in
theorem dX12_parseNamed_13 : decode cX12_parseNamed 13 = .ok (.aload_n 0, 1) := by decide +kernel
set_option maxRecDepth 100000 in
theorem dX12_parseNamed_14 : decode cX12_parseNamed 14 = .ok (.invokevirtual 466, 3) := by decide +kernel
set_option maxRecDepth 100000 in
theorem dX12_parseNamed_17 : decode cX12_parseNamed 17 = .ok (.invokevirtual 460, 3) := by decide +kernel
set_option maxRecDepth 100000 in
theorem dX12_parseNamed_20 : decode cX12_parseNamed 20 = .ok (.aload_n 0, 1) := by decide +kernel
set_option maxRecDepth 100000 in
theorem dX12_parseNamed_21 : decode cX12_parseNamed 21 = .ok (.getfield 82, 3) := by decide +kernel
set_option maxRecDepth 100000 in
theorem dX12_parseNamed_24 : decode cX12_parseNamed 24 = .ok (.iload_n 1, 1) := by decide +kernel
set_option maxRecDepth 100000 in
theorem dX12_parseNamed_25 : decode cX12_parseNamed 25 = .ok (.aload_n 0, 1) := by decide +kernel
set_option maxRecDepth 100000 in
theorem dX12_parseNamed_26 : decode cX12_parseNamed 26 = .ok (.bipush 68, 2) := by decide +kernel
set_option maxRecDepth 100000 in
theorem dX12_parseNamed_28 : decode cX12_parseNamed 28 = .ok (.invokevirtual 457, 3) := by decide +kernel
set_option maxRecDepth 100000 in
theorem dX12_parseNamed_31 : decode cX12_parseNamed 31 = .ok (.iastore, 1) := by decide +kernel
set_option maxRecDepth 100000 in
theorem dX12_parseNamed_32 : decode cX12_parseNamed 32 = .ok (.aload_n 0, 1) := by decide +kernel
set_option maxRecDepth 100000 in
theorem dX12_parseNamed_33 : decode cX12_parseNamed 33 = .ok (.iload_n 1, 1) := by decide +kernel
set_option maxRecDepth 100000 in
theorem dX12_parseNamed_34 : decode cX12_parseNamed 34 = .ok (.aload_n 0, 1) := by decide +kernel
set_option maxRecDepth 100000 in
theorem dX12_parseNamed_35 : decode cX12_parseNamed 35 = .ok (.invokevirtual 478, 3) := by decide +kernel
set_option maxRecDepth 100000 in
theorem dX12_parseNamed_38 : decode cX12_parseNamed 38 = .ok (.invokevirtual 460, 3) := by decide +kernel
set_option maxRecDepth 100000 in
theorem dX12_parseNamed_41 : decode cX12_parseNamed 41 = .ok (.iload_n 1, 1) := by decide +kernel
set_option maxRecDepth 100000 in
theorem dX12_parseNamed_42 : decode cX12_parseNamed 42 = .ok (.ireturn, 1) := by decide +kernel
set_option maxRecDepth 100000 in
def bX12_parseNamed (G : xG) (fr lo : Nat) (x0 : Nat) (h : xH) (Q : Outcome → xH → Prop) : Prop := tg h x0 = 13 ∧ 1 ≤ fr ∧ 14 ≤ lo ∧ xRi G YX12_now (fr - 1) (lo - 14) [rv x0] h (fun x5 h4 => xext h h4 → 1 ≤ fr ∧ 15 ≤ lo ∧ xRi G YX12_node (fr - 1) (lo - 15) [rv x0, .int 6, .int x5] h4 (fun x11 h10 => xext h4 h10 → 1 ≤ fr ∧ 16 ≤ lo ∧ xRi G YX12_parseNames (fr - 1) (lo - 16) [rv x0] h10 (fun x17 h16 => xext h10 h16 → 1 ≤ fr ∧ 14 ≤ lo ∧ xRv G YX12_add (fr - 1) (lo - 14) [rv x0, .int x11, .int x17] h16 (fun h22 => xext h16 h22 → 1 ≤ fr ∧ 15 ≤ lo ∧ xRi G YX12_must (fr - 1) (lo - 15) [rv x0, .int 68] h22 (fun x29 h28 => xext h22 h28 → tg h28 (fR h22 x0 3106) = 100 ∧ vp_in x11 (ln h28 (fR h22 x0 3106)) ∧ (∀ h33 : xH, h33 = tI h28 (fR h22 x0 3106) (Int32.toNatClampNeg x11) x29 → 1 ≤ fr ∧ 15 ≤ lo ∧ xRi G YX12_parseType (fr - 1) (lo - 15) [rv x0] h33 (fun x40 h39 => xext h33 h39 → 1 ≤ fr ∧ 14 ≤ lo ∧ xRv G YX12_add (fr - 1) (lo - 14) [rv x0, .int x11, .int x40] h39 (fun h45 => xext h39 h45 → Q (.returned (some (.int x11))) h45) (fun r h2 => Q (.threw r) h2)) (fun r h2 => Q (.threw r) h2))) (fun r h2 => Q (.threw r) h2)) (fun r h2 => Q (.threw r) h2)) (fun r h2 => Q (.threw r) h2)) (fun r h2 => Q (.threw r) h2)) (fun r h2 => Q (.threw r) h2)
set_option maxRecDepth 100000 in
theorem uX12_parseNamed {G : xG} {fr lo : Nat} {x0 : Nat} {h : xH} {Q : Outcome → xH → Prop} (hq : bX12_parseNamed G fr lo x0 h Q) : xP G YX12_parseNamed fr lo 0 [(0, rv x0)] [] h Q := by
  unfold bX12_parseNamed at hq
  refine x_aload_n 0 dX12_parseNamed_0 rfl ?_
  refine x_bipush (v := 6) dX12_parseNamed_1 (by decide) ?_
  refine x_aload_n 0 dX12_parseNamed_3 rfl ?_
  obtain ⟨g1, hq⟩ := hq
  obtain ⟨g2, g3, hq⟩ := hq
  refine x_callV (Yc := YX12_now) (as := []) (st := [.int 6, rv x0]) q3790 mvX12_now g1 rfl dX12_parseNamed_4 (xle (xal1 (rv_cat _) xal0) (by decide)) (xfr g2) (xlo (xsw1 rfl (xsw1 (rv_cat _) xsw0)) (by decide) g3) (xKi hq (fun x5 h4 hq e6 => ?_) (fun _ _ q _ => q))
  replace hq := hq e6
  have t7 : tg h4 x0 = 13 := e6.tg g1 (by decide)
  obtain ⟨g8, g9, hq⟩ := hq
  refine x_callV (Yc := YX12_node) (as := [.int 6, .int x5]) (st := []) q3798 mvX12_node t7 rfl dX12_parseNamed_7 (xle (xal1 (rv_cat _) (xal1 rfl (xal1 rfl xal0))) (by decide)) (xfr g8) (xlo xsw0 (by decide) g9) (xKi hq (fun x11 h10 hq e12 => ?_) (fun _ _ q _ => q))
  replace hq := hq e12
  refine x_istore_n (lv' := [(1, .int x11), (0, rv x0)]) dX12_parseNamed_10 (by decide) (by first | rfl | (simp [rv_cat, Value.category]; done) | (simp [rv_cat, Value.category]; decide)) ?_
  refine x_aload_n 1 dX12_parseNamed_11 rfl ?_
  refine x_iload_n 0 dX12_parseNamed_12 rfl ?_
  refine x_aload_n 1 dX12_parseNamed_13 rfl ?_
  have t13 : tg h10 x0 = 13 := e12.tg t7 (by decide)
  obtain ⟨g14, g15, hq⟩ := hq
  refine x_callV (Yc := YX12_parseNames) (as := []) (st := [.int x11, rv x0]) q3806 mvX12_parseNames t13 rfl dX12_parseNamed_14 (xle (xal1 (rv_cat _) xal0) (by decide)) (xfr g14) (xlo (xsw1 rfl (xsw1 (rv_cat _) xsw0)) (by decide) g15) (xKi hq (fun x17 h16 hq e18 => ?_) (fun _ _ q _ => q))
  replace hq := hq e18
  have t19 : tg h16 x0 = 13 := e18.tg t13 (by decide)
  obtain ⟨g20, g21, hq⟩ := hq
  refine x_callV (Yc := YX12_add) (as := [.int x11, .int x17]) (st := []) q3810 mvX12_add t19 rfl dX12_parseNamed_17 (xle (xal1 (rv_cat _) (xal1 rfl (xal1 rfl xal0))) (by decide)) (xfr g20) (xlo xsw0 (by decide) g21) (xKv hq (fun h22 hq e24 => ?_) (fun _ _ q _ => q))
  replace hq := hq e24
  refine x_aload_n 1 dX12_parseNamed_20 rfl ?_
  have t25 : tg h22 x0 = 13 := e24.tg t19 (by decide)
  refine x_get (v := rv (fR h22 x0 3106)) fdX12_82 dX12_parseNamed_21 t25 rfl ?_
  refine x_iload_n 0 dX12_parseNamed_24 rfl ?_
  refine x_aload_n 1 dX12_parseNamed_25 rfl ?_
  refine x_bipush (v := 68) dX12_parseNamed_26 (by decide) ?_
  obtain ⟨g26, g27, hq⟩ := hq
  refine x_callV (Yc := YX12_must) (as := [.int 68]) (st := [.int x11, rv (fR h22 x0 3106)]) q3778 mvX12_must t25 rfl dX12_parseNamed_28 (xle (xal1 (rv_cat _) (xal1 rfl xal0)) (by decide)) (xfr g26) (xlo (xsw1 rfl (xsw1 (rv_cat _) xsw0)) (by decide) g27) (xKi hq (fun x29 h28 hq e30 => ?_) (fun _ _ q _ => q))
  replace hq := hq e30
  obtain ⟨g31, hq⟩ := hq
  obtain ⟨i32, hq⟩ := hq
  obtain ⟨h33, e34⟩ : ∃ y, y = tI h28 (fR h22 x0 3106) (Int32.toNatClampNeg x11) x29 := ⟨_, rfl⟩
  replace hq := hq h33 e34
  refine x_iast' g31 i32 dX12_parseNamed_31 e34 ?_
  refine x_aload_n 1 dX12_parseNamed_32 rfl ?_
  refine x_iload_n 0 dX12_parseNamed_33 rfl ?_
  refine x_aload_n 1 dX12_parseNamed_34 rfl ?_
  have t35 : tg h28 x0 = 13 := e30.tg t25 (by decide)
  have t36 : tg h33 x0 = 13 := by rw [e34]; exact t35
  obtain ⟨g37, g38, hq⟩ := hq
  refine x_callV (Yc := YX12_parseType) (as := []) (st := [.int x11, rv x0]) q3826 mvX12_parseType t36 rfl dX12_parseNamed_35 (xle (xal1 (rv_cat _) xal0) (by decide)) (xfr g37) (xlo (xsw1 rfl (xsw1 (rv_cat _) xsw0)) (by decide) g38) (xKi hq (fun x40 h39 hq e41 => ?_) (fun _ _ q _ => q))
  replace hq := hq e41
  have t42 : tg h39 x0 = 13 := e41.tg t36 (by decide)
  obtain ⟨g43, g44, hq⟩ := hq
  refine x_callV (Yc := YX12_add) (as := [.int x11, .int x40]) (st := []) q3810 mvX12_add t42 rfl dX12_parseNamed_38 (xle (xal1 (rv_cat _) (xal1 rfl (xal1 rfl xal0))) (by decide)) (xfr g43) (xlo xsw0 (by decide) g44) (xKv hq (fun h45 hq e47 => ?_) (fun _ _ q _ => q))
  replace hq := hq e47
  refine x_iload_n 0 dX12_parseNamed_41 rfl ?_
  exact x_iret rfl rfl dX12_parseNamed_42 hq
theorem rX12_parseNamed {G : xG} {fr lo : Nat} {x0 : Nat} {h : xH} {Q : Outcome → xH → Prop} (hq : bX12_parseNamed G fr lo x0 h Q) : xR G YX12_parseNamed fr lo [rv x0] h Q := by
  show xP _ _ _ _ _ (lv_args 0 _) _ _ _
  rw [show lv_args 0 [rv x0] = [(0, rv x0)] from (xla1 (rv_cat _) xla0)]
  exact uX12_parseNamed hq
set_option maxRecDepth 100000 in
theorem dX12_parseVariants_0 : decode cX12_parseVariants 0 = .ok (.aload_n 0, 1) := by decide +kernel
set_option maxRecDepth 100000 in
theorem dX12_parseVariants_1 : decode cX12_parseVariants 1 = .ok (.bipush 19, 2) := by decide +kernel
set_option maxRecDepth 100000 in
theorem dX12_parseVariants_3 : decode cX12_parseVariants 3 = .ok (.aload_n 0, 1) := by decide +kernel
set_option maxRecDepth 100000 in
theorem dX12_parseVariants_4 : decode cX12_parseVariants 4 = .ok (.invokevirtual 442, 3) := by decide +kernel
set_option maxRecDepth 100000 in
theorem dX12_parseVariants_7 : decode cX12_parseVariants 7 = .ok (.invokevirtual 454, 3) := by decide +kernel
set_option maxRecDepth 100000 in
theorem dX12_parseVariants_10 : decode cX12_parseVariants 10 = .ok (.istore_n 1, 1) := by decide +kernel
set_option maxRecDepth 100000 in
theorem dX12_parseVariants_11 : decode cX12_parseVariants 11 = .ok (.aload_n 0, 1) := by decide +kernel
set_option maxRecDepth 100000 in
theorem dX12_parseVariants_12 : decode cX12_parseVariants 12 = .ok (.bipush 40, 2) := by decide +kernel
set_option maxRecDepth 100000 in
theorem dX12_parseVariants_14 : decode cX12_parseVariants 14 = .ok (.invokevirtual 457, 3) := by decide +kernel
set_option maxRecDepth 100000 in
theorem dX12_parseVariants_17 : decode cX12_parseVariants 17 = .ok (.istore_n 2, 1) := by decide +kernel
set_option maxRecDepth 100000 in
theorem dX12_parseVariants_18 : decode cX12_parseVariants 18 = .ok (.aload_n 0, 1) := by decide +kernel
set_option maxRecDepth 100000 in
theorem dX12_parseVariants_19 : decode cX12_parseVariants 19 = .ok (.bipush 68, 2) := by decide +kernel
set_option maxRecDepth 100000 in
theorem dX12_parseVariants_21 : decode cX12_parseVariants 21 = .ok (.invokevirtual 463, 3) := by decide +kernel
set_option maxRecDepth 100000 in
theorem dX12_parseVariants_24 : decode cX12_parseVariants 24 = .ok (.ifCond .eq 17, 3) := by decide +kernel
set_option maxRecDepth 100000 in
theorem dX12_parseVariants_27 : decode cX12_parseVariants 27 = .ok (.aload_n 0, 1) := by decide +kernel
set_option maxRecDepth 100000 in
theorem dX12_parseVariants_28 : decode cX12_parseVariants 28 = .ok (.getfield 82, 3) := by decide +kernel
set_option maxRecDepth 100000 in
theorem dX12_parseVariants_31 : decode cX12_parseVariants 31 = .ok (.iload_n 1, 1) := by decide +kernel
set_option maxRecDepth 100000 in
theorem dX12_parseVariants_32 : decode cX12_parseVariants 32 = .ok (.iload_n 2, 1) := by decide +kernel
set_option maxRecDepth 100000 in
theorem dX12_parseVariants_33 : decode cX12_parseVariants 33 = .ok (.iastore, 1) := by decide +kernel
set_option maxRecDepth 100000 in
theorem dX12_parseVariants_34 : decode cX12_parseVariants 34 = .ok (.aload_n 0, 1) := by decide +kernel
set_option maxRecDepth 100000 in
theorem dX12_parseVariants_35 : decode cX12_parseVariants 35 = .ok (.bipush 40, 2) := by decide +kernel
set_option maxRecDepth 100000 in
theorem dX12_parseVariants_37 : decode cX12_parseVariants 37 = .ok (.invokevirtual 457, 3) := by decide +kernel
set_option maxRecDepth 100000 in
theorem dX12_parseVariants_40 : decode cX12_parseVariants 40 = .ok (.istore_n 2, 1) := by decide +kernel
set_option maxRecDepth 100000 in
theorem dX12_parseVariants_41 : decode cX12_parseVariants 41 = .ok (.aload_n 0, 1) := by decide +kernel
set_option maxRecDepth 100000 in
theorem dX12_parseVariants_42 : decode cX12_parseVariants 42 = .ok (.iload_n 1, 1) := by decide +kernel
set_option maxRecDepth 100000 in
theorem dX12_parseVariants_43 : decode cX12_parseVariants 43 = .ok (.aload_n 0, 1) := by decide +kernel
set_option maxRecDepth 100000 in
theorem dX12_parseVariants_44 : decode cX12_parseVariants 44 = .ok (.iconst 4, 1) := by decide +kernel
set_option maxRecDepth 100000 in
theorem dX12_parseVariants_45 : decode cX12_parseVariants 45 = .ok (.iload_n 2, 1) := by decide +kernel
set_option maxRecDepth 100000 in
theorem dX12_parseVariants_46 : decode cX12_parseVariants 46 = .ok (.invokevirtual 454, 3) := by decide +kernel
set_option maxRecDepth 100000 in
theorem dX12_parseVariants_49 : decode cX12_parseVariants 49 = .ok (.invokevirtual 460, 3) := by decide +kernel
set_option maxRecDepth 100000 in
theorem dX12_parseVariants_52 : decode cX12_parseVariants 52 = .ok (.aload_n 0, 1) := by decide +kernel
set_option maxRecDepth 100000 in
theorem dX12_parseVariants_53 : decode cX12_parseVariants 53 = .ok (.bipush 21, 2) := by decide +kernel
set_option maxRecDepth 100000 in
theorem dX12_parseVariants_55 : decode cX12_parseVariants 55 = .ok (.invokevirtual 457, 3) := by decide +kernel
set_option maxRecDepth 100000 in
theorem dX12_parseVariants_58 : decode cX12_parseVariants 58 = .ok (.pop, 1) := by decide +kernel
set_option maxRecDepth 100000 in
theorem dX12_parseVariants_59 : decode cX12_parseVariants 59 = .ok (.aload_n 0, 1) := by decide +kernel
set_option maxRecDepth 100000 in
theorem dX12_parseVariants_60 : decode cX12_parseVariants 60 = .ok (.invokevirtual 499, 3) := by decide +kernel
set_option maxRecDepth 100000 in
theorem dX12_parseVariants_63 : decode cX12_parseVariants 63 = .ok (.ifCond .eq 87, 3) := by decide +kernel
set_option maxRecDepth 100000 in
theorem dX12_parseVariants_66 : decode cX12_parseVariants 66 = .ok (.aload_n 0, 1) := by decide +kernel
set_option maxRecDepth 100000 in
theorem dX12_parseVariants_67 : decode cX12_parseVariants 67 = .ok (.bipush 20, 2) := by decide +kernel
set_option maxRecDepth 100000 in
theorem dX12_parseVariants_69 : decode cX12_parseVariants 69 = .ok (.aload_n 0, 1) := by decide +kernel
set_option maxRecDepth 100000 in
theorem dX12_parseVariants_70 : decode cX12_parseVariants 70 = .ok (.invokevirtual 445, 3) := by decide +kernel
set_option maxRecDepth 100000 in
theorem dX12_parseVariants_73 : decode cX12_parseVariants 73 = .ok (.invokevirtual 454, 3) := by decide +kernel
set_option maxRecDepth 100000 in
theorem dX12_parseVariants_76 : decode cX12_parseVariants 76 = .ok (.istore_n 3, 1) := by decide +kernel
set_option maxRecDepth 100000 in
theorem dX12_parseVariants_77 : decode cX12_parseVariants 77 = .ok (.aload_n 0, 1) := by decide +kernel
set_option maxRecDepth 100000 in
theorem dX12_parseVariants_78 : decode cX12_parseVariants 78 = .ok (.iconst 3, 1) := by decide +kernel
set_option maxRecDepth 100000 in
theorem dX12_parseVariants_79 : decode cX12_parseVariants 79 = .ok (.aload_n 0, 1) := by decide +kernel
set_option maxRecDepth 100000 in
theorem dX12_parseVariants_80 : decode cX12_parseVariants 80 = .ok (.invokevirtual 445, 3) := by decide +kernel
set_option maxRecDepth 100000 in
theorem dX12_parseVariants_83 : decode cX12_parseVariants 83 = .ok (.invokevirtual 454, 3) := by decide +kernel
set_option maxRecDepth 100000 in
theorem dX12_parseVariants_86 : decode cX12_parseVariants 86 = .ok (.istore 4, 2) := by decide +kernel
set_option maxRecDepth 100000 in
theorem dX12_parseVariants_88 : decode cX12_parseVariants 88 = .ok (.aload_n 0, 1) := by decide +kernel
set_option maxRecDepth 100000 in
theorem dX12_parseVariants_89 : decode cX12_parseVariants 89 = .ok (.iload 4, 2) := by decide +kernel
set_option maxRecDepth 100000 in
theorem dX12_parseVariants_91 : decode cX12_parseVariants 91 = .ok (.aload_n 0, 1) := by decide +kernel
set_option maxRecDepth 100000 in
theorem dX12_parseVariants_92 : decode cX12_parseVariants 92 = .ok (.invokevirtual 475, 3) := by decide +kernel
set_option maxRecDepth 100000 in
theorem dX12_parseVariants_95 : decode cX12_parseVariants 95 = .ok (.invokevirtual 460, 3) := by decide +kernel
set_option maxRecDepth 100000 in
theorem dX12_parseVariants_98 : decode cX12_parseVariants 98 = .ok (.aload_n 0, 1) := by decide +kernel
set_option maxRecDepth 100000 in
theorem dX12_parseVariants_99 : decode cX12_parseVariants 99 = .ok (.bipush 66, 2) := by decide +kernel
set_option maxRecDepth 100000 in
theorem dX12_parseVariants_101 : decode cX12_parseVariants 101 = .ok (.invokevirtual 463, 3) := by decide +kernel
set_option maxRecDepth 100000 in
theorem dX12_parseVariants_104 : decode cX12_parseVariants 104 = .ok (.ifCond .ne (-16), 3) := by decide +kernel
set_option maxRecDepth 100000 in
theorem dX12_parseVariants_107 : decode cX12_parseVariants 107 = .ok (.aload_n 0, 1) := by decide +kernel
set_option maxRecDepth 100000 in
theorem dX12_parseVariants_108 : decode cX12_parseVariants 108 = .ok (.iload_n 3, 1) := by decide +kernel
set_option maxRecDepth 100000 in
theorem dX12_parseVariants_109 : decode cX12_parseVariants 109 = .ok (.iload 4, 2) := by decide +kernel
set_option maxRecDepth 100000 in
theorem dX12_parseVariants_111 : decode cX12_parseVariants 111 = .ok (.invokevirtual 460, 3) := by decide +kernel
set_option maxRecDepth 100000 in
theorem dX12_parseVariants_114 : decode cX12_parseVariants 114 = .ok (.aload_n 0, 1) := by decide +kernel
set_option maxRecDepth 100000 in
theorem dX12_parseVariants_115 : decode cX12_parseVariants 115 = .ok (.bipush 68, 2) := by decide +kernel
set_option maxRecDepth 100000 in
theorem dX12_parseVariants_117 : decode cX12_parseVariants 117 = .ok (.invokevirtual 457, 3) := by decide +kernel
set_option maxRecDepth 100000 in
theorem dX12_parseVariants_120 : decode cX12_parseVariants 120 = .ok (.pop, 1) := by decide +kernel
set_option maxRecDepth 100000 in
theorem dX12_parseVariants_121 : decode cX12_parseVariants 121 = .ok (.aload_n 0, 1) := by decide +kernel
set_option maxRecDepth 100000 in
theorem dX12_parseVariants_122 : decode cX12_parseVariants 122 = .ok (.bipush 60, 2) := by decide +kernel
set_option maxRecDepth 100000 in
theorem dX12_parseVariants_124 : decode cX12_parseVariants 124 = .ok (.invokevirtual 457, 3) := by decide +kernel
set_option maxRecDepth 100000 in
theorem dX12_parseVariants_127 : decode cX12_parseVariants 127 = .ok (.pop, 1) := by decide +kernel
set_option maxRecDepth 100000 in
theorem dX12_parseVariants_128 : decode cX12_parseVariants 128 = .ok (.aload_n 0, 1) := by decide +kernel
set_option maxRecDepth 100000 in
theorem dX12_parseVariants_129 : decode cX12_parseVariants 129 = .ok (.iload_n 3, 1) := by decide +kernel
set_option maxRecDepth 100000 in
theorem dX12_parseVariants_130 : decode cX12_parseVariants 130 = .ok (.aload_n 0, 1) := by decide +kernel
set_option maxRecDepth 100000 in
theorem dX12_parseVariants_131 : decode cX12_parseVariants 131 = .ok (.invokevirtual 496, 3) := by decide +kernel
set_option maxRecDepth 100000 in
theorem dX12_parseVariants_134 : decode cX12_parseVariants 134 = .ok (.invokevirtual 460, 3) := by decide +kernel
set_option maxRecDepth 100000 in
theorem dX12_parseVariants_137 : decode cX12_parseVariants 137 = .ok (.aload_n 0, 1) := by decide +kernel
set_option maxRecDepth 100000 in
theorem dX12_parseVariants_138 : decode cX12_parseVariants 138 = .ok (.bipush 61, 2) := by decide +kernel
set_option maxRecDepth 100000 in
theorem dX12_parseVariants_140 : decode cX12_parseVariants 140 = .ok (.invokevirtual 457, 3) := by decide +kernel
set_option maxRecDepth 100000 in
theorem dX12_parseVariants_143 : decode cX12_parseVariants 143 = .ok (.pop, 1) := by decide +kernel
set_option maxRecDepth 100000 in
theorem dX12_parseVariants_144 : decode cX12_parseVariants 144 = .ok (.aload_n 0, 1) := by decide +kernel
set_option maxRecDepth 100000 in
theorem dX12_parseVariants_145 : decode cX12_parseVariants 145 = .ok (.iload_n 1, 1) := by decide +kernel
set_option maxRecDepth 100000 in
theorem dX12_parseVariants_146 : decode cX12_parseVariants 146 = .ok (.iload_n 3, 1) := by decide +kernel
set_option maxRecDepth 100000 in
theorem dX12_parseVariants_147 : decode cX12_parseVariants 147 = .ok (.invokevirtual 460, 3) := by decide +kernel
set_option maxRecDepth 100000 in
theorem dX12_parseVariants_150 : decode cX12_parseVariants 150 = .ok (.aload_n 0, 1) := by decide +kernel
set_option maxRecDepth 100000 in
theorem dX12_parseVariants_151 : decode cX12_parseVariants 151 = .ok (.bipush 67, 2) := by decide +kernel
set_option maxRecDepth 100000 in
theorem dX12_parseVariants_153 : decode cX12_parseVariants 153 = .ok (.invokevirtual 463, 3) := by decide +kernel
set_option maxRecDepth 100000 in
theorem dX12_parseVariants_156 : decode cX12_parseVariants 156 = .ok (.ifCond .ne (-97), 3) := by decide +kernel
set_option maxRecDepth 100000 in
theorem dX12_parseVariants_159 : decode cX12_parseVariants 159 = .ok (.iload_n 1, 1) := by decide +kernel
set_option maxRecDepth 100000 in
theorem dX12_parseVariants_160 : decode cX12_parseVariants 160 = .ok (.ireturn, 1) := by decide +kernel
def lX12_parseVariants_59 (G : xG) (fr lo : Nat) (x0 : Nat) (x1 : Int32) (h : xH) (Q : Outcome → xH → Prop) : Prop := xP G YX12_parseVariants fr lo 59 [(0, rv x0), (1, .int x1)] [] h Q
def lX12_parseVariants_88 (G : xG) (fr lo : Nat) (x0 : Nat) (x1 : Int32) (x3 : Int32) (x4 : Int32) (h : xH) (Q : Outcome → xH → Prop) : Prop := xP G YX12_parseVariants fr lo 88 [(0, rv x0), (1, .int x1), (3, .int x3), (4, .int x4)] [] h Q
set_option maxRecDepth 100000 in
def bX12_parseVariants_150 (G : xG) (fr lo : Nat) (x0 : Nat) (x1 : Int32) (h : xH) (Q : Outcome → xH → Prop) : Prop := tg h x0 = 13 ∧ 1 ≤ fr ∧ 13 ≤ lo ∧ xRi G YX12_takes (fr - 1) (lo - 13) [rv x0, .int 67] h (fun x5 h4 => xext h h4 → ((¬ x5 = 0 → lX12_parseVariants_59 G fr lo x0 x1 h4 Q) ∧ (x5 = 0 → Q (.returned (some (.int x1))) h4))) (fun r h2 => Q (.threw r) h2)
set_option maxRecDepth 100000 in
theorem uX12_parseVariants_150 {G : xG} {fr lo : Nat} {x0 : Nat} {x1 : Int32} {h : xH} {Q : Outcome → xH → Prop} (hq : bX12_parseVariants_150 G fr lo x0 x1 h Q) : xP G YX12_parseVariants fr lo 150 [(0, rv x0), (1, .int x1)] [] h Q := by
  unfold bX12_parseVariants_150 at hq
  refine x_aload_n 0 dX12_parseVariants_150 rfl ?_
  refine x_bipush (v := 67) dX12_parseVariants_151 (by decide) ?_
  obtain ⟨g1, hq⟩ := hq
  obtain ⟨g2, g3, hq⟩ := hq
  refine x_callV (Yc := YX12_takes) (as := [.int 67]) (st := []) q3802 mvX12_takes g1 rfl dX12_parseVariants_153 (xle (xal1 (rv_cat _) (xal1 rfl xal0)) (by decide)) (xfr g2) (xlo xsw0 (by decide) g3) (xKi hq (fun x5 h4 hq e6 => ?_) (fun _ _ q _ => q))
  replace hq := hq e6
  refine x_if_ne (tgt := 59) dX12_parseVariants_156 (by decide) (fun c7 => ?_) (fun c7 => ?_)
  · replace hq := hq.1 c7
    exact hq
  · replace hq := hq.2 c7
    refine x_iload_n 1 dX12_parseVariants_159 rfl ?_
    exact x_iret rfl rfl dX12_parseVariants_160 hq
set_option maxRecDepth 100000 in
def bX12_parseVariants_88 (G : xG) (fr lo : Nat) (x0 : Nat) (x1 : Int32) (x3 : Int32) (x4 : Int32) (h : xH) (Q : Outcome → xH → Prop) : Prop := tg h x0 = 13 ∧ 1 ≤ fr ∧ 15 ≤ lo ∧ xRi G YX12_parseConstant (fr - 1) (lo - 15) [rv x0] h (fun x5 h4 => xext h h4 → 1 ≤ fr ∧ 14 ≤ lo ∧ xRv G YX12_add (fr - 1) (lo - 14) [rv x0, .int x4, .int x5] h4 (fun h10 => xext h4 h10 → 1 ≤ fr ∧ 13 ≤ lo ∧ xRi G YX12_takes (fr - 1) (lo - 13) [rv x0, .int 66] h10 (fun x17 h16 => xext h10 h16 → ((¬ x17 = 0 → lX12_parseVariants_88 G fr lo x0 x1 x3 x4 h16 Q) ∧ (x17 = 0 → 1 ≤ fr ∧ 14 ≤ lo ∧ xRv G YX12_add (fr - 1) (lo - 14) [rv x0, .int x3, .int x4] h16 (fun h23 => xext h16 h23 → 1 ≤ fr ∧ 13 ≤ lo ∧ xRi G YX12_must (fr - 1) (lo - 13) [rv x0, .int 68] h23 (fun x30 h29 => xext h23 h29 → 1 ≤ fr ∧ 13 ≤ lo ∧ xRi G YX12_must (fr - 1) (lo - 13) [rv x0, .int 60] h29 (fun x36 h35 => xext h29 h35 → 1 ≤ fr ∧ 16 ≤ lo ∧ xRi G YX12_parseFields (fr - 1) (lo - 16) [rv x0] h35 (fun x42 h41 => xext h35 h41 → 1 ≤ fr ∧ 14 ≤ lo ∧ xRv G YX12_add (fr - 1) (lo - 14) [rv x0, .int x3, .int x42] h41 (fun h47 => xext h41 h47 → 1 ≤ fr ∧ 13 ≤ lo ∧ xRi G YX12_must (fr - 1) (lo - 13) [rv x0, .int 61] h47 (fun x54 h53 => xext h47 h53 → 1 ≤ fr ∧ 14 ≤ lo ∧ xRv G YX12_add (fr - 1) (lo - 14) [rv x0, .int x1, .int x3] h53 (fun h59 => xext h53 h59 → bX12_parseVariants_150 G fr lo x0 x1 h59 Q) (fun r h2 => Q (.threw r) h2)) (fun r h2 => Q (.threw r) h2)) (fun r h2 => Q (.threw r) h2)) (fun r h2 => Q (.threw r) h2)) (fun r h2 => Q (.threw r) h2)) (fun r h2 => Q (.threw r) h2)) (fun r h2 => Q (.threw r) h2)))) (fun r h2 => Q (.threw r) h2)) (fun r h2 => Q (.threw r) h2)) (fun r h2 => Q (.threw r) h2)
set_option maxRecDepth 100000 in
theorem uX12_parseVariants_88 {G : xG} {fr lo : Nat} {x0 : Nat} {x1 : Int32} {x3 : Int32} {x4 : Int32} {h : xH} {Q : Outcome → xH → Prop} (hq : bX12_parseVariants_88 G fr lo x0 x1 x3 x4 h Q) : xP G YX12_parseVariants fr lo 88 [(0, rv x0), (1, .int x1), (3, .int x3), (4, .int x4)] [] h Q := by
  unfold bX12_parseVariants_88 at hq
  refine x_aload_n 0 dX12_parseVariants_88 rfl ?_
  refine x_iload 3 dX12_parseVariants_89 rfl ?_
  refine x_aload_n 0 dX12_parseVariants_91 rfl ?_
  obtain ⟨g1, hq⟩ := hq
  obtain ⟨g2, g3, hq⟩ := hq
  refine x_callV (Yc := YX12_parseConstant) (as := []) (st := [.int x4, rv x0]) q3822 mvX12_parseConstant g1 rfl dX12_parseVariants_92 (xle (xal1 (rv_cat _) xal0) (by decide)) (xfr g2) (xlo (xsw1 rfl (xsw1 (rv_cat _) xsw0)) (by decide) g3) (xKi hq (fun x5 h4 hq e6 => ?_) (fun _ _ q _ => q))
  replace hq := hq e6
  have t7 : tg h4 x0 = 13 := e6.tg g1 (by decide)
  obtain ⟨g8, g9, hq⟩ := hq
  refine x_callV (Yc := YX12_add) (as := [.int x4, .int x5]) (st := []) q3810 mvX12_add t7 rfl dX12_parseVariants_95 (xle (xal1 (rv_cat _) (xal1 rfl (xal1 rfl xal0))) (by decide)) (xfr g8) (xlo xsw0 (by decide) g9) (xKv hq (fun h10 hq e12 => ?_) (fun _ _ q _ => q))
  replace hq := hq e12
  refine x_aload_n 0 dX12_parseVariants_98 rfl ?_
  refine x_bipush (v := 66) dX12_parseVariants_99 (by decide) ?_
  have t13 : tg h10 x0 = 13 := e12.tg t7 (by decide)
  obtain ⟨g14, g15, hq⟩ := hq
  refine x_callV (Yc := YX12_takes) (as := [.int 66]) (st := []) q3802 mvX12_takes t13 rfl dX12_parseVariants_101 (xle (xal1 (rv_cat _) (xal1 rfl xal0)) (by decide)) (xfr g14) (xlo xsw0 (by decide) g15) (xKi hq (fun x17 h16 hq e18 => ?_) (fun _ _ q _ => q))
  replace hq := hq e18
  refine x_if_ne (tgt := 88) dX12_parseVariants_104 (by decide) (fun c19 => ?_) (fun c19 => ?_)
  · replace hq := hq.1 c19
    exact hq
  · replace hq := hq.2 c19
    refine x_aload_n 0 dX12_parseVariants_107 rfl ?_
    refine x_iload_n 2 dX12_parseVariants_108 rfl ?_
    refine x_iload 3 dX12_parseVariants_109 rfl ?_
    have t20 : tg h16 x0 = 13 := e18.tg t13 (by decide)
    obtain ⟨g21, g22, hq⟩ := hq
    refine x_callV (Yc := YX12_add) (as := [.int x3, .int x4]) (st := []) q3810 mvX12_add t20 rfl dX12_parseVariants_111 (xle (xal1 (rv_cat _) (xal1 rfl (xal1 rfl xal0))) (by decide)) (xfr g21) (xlo xsw0 (by decide) g22) (xKv hq (fun h23 hq e25 => ?_) (fun _ _ q _ => q))
    replace hq := hq e25
    refine x_aload_n 0 dX12_parseVariants_114 rfl ?_
    refine x_bipush (v := 68) dX12_parseVariants_115 (by decide) ?_
    have t26 : tg h23 x0 = 13 := e25.tg t20 (by decide)
    obtain ⟨g27, g28, hq⟩ := hq
    refine x_callV (Yc := YX12_must) (as := [.int 68]) (st := []) q3778 mvX12_must t26 rfl dX12_parseVariants_117 (xle (xal1 (rv_cat _) (xal1 rfl xal0)) (by decide)) (xfr g27) (xlo xsw0 (by decide) g28) (xKi hq (fun x30 h29 hq e31 => ?_) (fun _ _ q _ => q))
    replace hq := hq e31
    refine x_pop dX12_parseVariants_120 rfl ?_
    refine x_aload_n 0 dX12_parseVariants_121 rfl ?_
    refine x_bipush (v := 60) dX12_parseVariants_122 (by decide) ?_
    have t32 : tg h29 x0 = 13 := e31.tg t26 (by decide)
    obtain ⟨g33, g34, hq⟩ := hq
    refine x_callV (Yc := YX12_must) (as := [.int 60]) (st := []) q3778 mvX12_must t32 rfl dX12_parseVariants_124 (xle (xal1 (rv_cat _) (xal1 rfl xal0)) (by decide)) (xfr g33) (xlo xsw0 (by decide) g34) (xKi hq (fun x36 h35 hq e37 => ?_) (fun _ _ q _ => q))
    replace hq := hq e37
    refine x_pop dX12_parseVariants_127 rfl ?_
    refine x_aload_n 0 dX12_parseVariants_128 rfl ?_
    refine x_iload_n 2 dX12_parseVariants_129 rfl ?_
    refine x_aload_n 0 dX12_parseVariants_130 rfl ?_
    have t38 : tg h35 x0 = 13 := e37.tg t32 (by decide)
    obtain ⟨g39, g40, hq⟩ := hq
    refine x_callV (Yc := YX12_parseFields) (as := []) (st := [.int x3, rv x0]) q3842 mvX12_parseFields t38 rfl dX12_parseVariants_131 (xle (xal1 (rv_cat _) xal0) (by decide)) (xfr g39) (xlo (xsw1 rfl (xsw1 (rv_cat _) xsw0)) (by decide) g40) (xKi hq (fun x42 h41 hq e43 => ?_) (fun _ _ q _ => q))
    replace hq := hq e43
    have t44 : tg h41 x0 = 13 := e43.tg t38 (by decide)
    obtain ⟨g45, g46, hq⟩ := hq
    refine x_callV (Yc := YX12_add) (as := [.int x3, .int x42]) (st := []) q3810 mvX12_add t44 rfl dX12_parseVariants_134 (xle (xal1 (rv_cat _) (xal1 rfl (xal1 rfl xal0))) (by decide)) (xfr g45) (xlo xsw0 (by decide) g46) (xKv hq (fun h47 hq e49 => ?_) (fun _ _ q _ => q))
    replace hq := hq e49
    refine x_aload_n 0 dX12_parseVariants_137 rfl ?_
    refine x_bipush (v := 61) dX12_parseVariants_138 (by decide) ?_
    have t50 : tg h47 x0 = 13 := e49.tg t44 (by decide)
    obtain ⟨g51, g52, hq⟩ := hq
    refine x_callV (Yc := YX12_must) (as := [.int 61]) (st := []) q3778 mvX12_must t50 rfl dX12_parseVariants_140 (xle (xal1 (rv_cat _) (xal1 rfl xal0)) (by decide)) (xfr g51) (xlo xsw0 (by decide) g52) (xKi hq (fun x54 h53 hq e55 => ?_) (fun _ _ q _ => q))
    replace hq := hq e55
    refine x_pop dX12_parseVariants_143 rfl ?_
    refine x_aload_n 0 dX12_parseVariants_144 rfl ?_
    refine x_iload_n 1 dX12_parseVariants_145 rfl ?_
    refine x_iload_n 2 dX12_parseVariants_146 rfl ?_
    have t56 : tg h53 x0 = 13 := e55.tg t50 (by decide)
    obtain ⟨g57, g58, hq⟩ := hq
    refine x_callV (Yc := YX12_add) (as := [.int x1, .int x3]) (st := []) q3810 mvX12_add t56 rfl dX12_parseVariants_147 (xle (xal1 (rv_cat _) (xal1 rfl (xal1 rfl xal0))) (by decide)) (xfr g57) (xlo xsw0 (by decide) g58) (xKv hq (fun h59 hq e61 => ?_) (fun _ _ q _ => q))
    replace hq := hq e61
    refine xP.pick (lv' := [(0, rv x0), (1, .int x1)]) [0, 1] rfl ?_
    exact uX12_parseVariants_150 hq
set_option maxRecDepth 100000 in
def bX12_parseVariants_59 (G : xG) (fr lo : Nat) (x0 : Nat) (x1 : Int32) (h : xH) (Q : Outcome → xH → Prop) : Prop := tg h x0 = 13 ∧ 1 ≤ fr ∧ 12 ≤ lo ∧ xRi G YX12_beginsConstant (fr - 1) (lo - 12) [rv x0] h (fun x5 h4 => xext h h4 → ((x5 = 0 → bX12_parseVariants_150 G fr lo x0 x1 h4 Q) ∧ (¬ x5 = 0 → 1 ≤ fr ∧ 14 ≤ lo ∧ xRi G YX12_now (fr - 1) (lo - 14) [rv x0] h4 (fun x12 h11 => xext h4 h11 → 1 ≤ fr ∧ 15 ≤ lo ∧ xRi G YX12_node (fr - 1) (lo - 15) [rv x0, .int 20, .int x12] h11 (fun x18 h17 => xext h11 h17 → 1 ≤ fr ∧ 14 ≤ lo ∧ xRi G YX12_now (fr - 1) (lo - 14) [rv x0] h17 (fun x24 h23 => xext h17 h23 → 1 ≤ fr ∧ 15 ≤ lo ∧ xRi G YX12_node (fr - 1) (lo - 15) [rv x0, .int 3, .int x24] h23 (fun x30 h29 => xext h23 h29 → lX12_parseVariants_88 G fr lo x0 x1 x18 x30 h29 Q) (fun r h2 => Q (.threw r) h2)) (fun r h2 => Q (.threw r) h2)) (fun r h2 => Q (.threw r) h2)) (fun r h2 => Q (.threw r) h2)))) (fun r h2 => Q (.threw r) h2)
set_option maxRecDepth 100000 in
theorem uX12_parseVariants_59 {G : xG} {fr lo : Nat} {x0 : Nat} {x1 : Int32} {h : xH} {Q : Outcome → xH → Prop} (hq : bX12_parseVariants_59 G fr lo x0 x1 h Q) : xP G YX12_parseVariants fr lo 59 [(0, rv x0), (1, .int x1)] [] h Q := by
  unfold bX12_parseVariants_59 at hq
  refine x_aload_n 0 dX12_parseVariants_59 rfl ?_
  obtain ⟨g1, hq⟩ := hq
  obtain ⟨g2, g3, hq⟩ := hq
  refine x_callV (Yc := YX12_beginsConstant) (as := []) (st := []) q3838 mvX12_beginsConstant g1 rfl dX12_parseVariants_60 (xle (xal1 (rv_cat _) xal0) (by decide)) (xfr g2) (xlo xsw0 (by decide) g3) (xKi hq (fun x5 h4 hq e6 => ?_) (fun _ _ q _ => q))
  replace hq := hq e6
  refine x_if_eq (tgt := 150) dX12_parseVariants_63 (by decide) (fun c7 => ?_) (fun c7 => ?_)
  · replace hq := hq.1 c7
    exact uX12_parseVariants_150 hq
  · replace hq := hq.2 c7
    refine x_aload_n 0 dX12_parseVariants_66 rfl ?_
    refine x_bipush (v := 20) dX12_parseVariants_67 (by decide) ?_
    refine x_aload_n 0 dX12_parseVariants_69 rfl ?_
    have t8 : tg h4 x0 = 13 := e6.tg g1 (by decide)
    obtain ⟨g9, g10, hq⟩ := hq
    refine x_callV (Yc := YX12_now) (as := []) (st := [.int 20, rv x0]) q3790 mvX12_now t8 rfl dX12_parseVariants_70 (xle (xal1 (rv_cat _) xal0) (by decide)) (xfr g9) (xlo (xsw1 rfl (xsw1 (rv_cat _) xsw0)) (by decide) g10) (xKi hq (fun x12 h11 hq e13 => ?_) (fun _ _ q _ => q))
    replace hq := hq e13
    have t14 : tg h11 x0 = 13 := e13.tg t8 (by decide)
    obtain ⟨g15, g16, hq⟩ := hq
    refine x_callV (Yc := YX12_node) (as := [.int 20, .int x12]) (st := []) q3798 mvX12_node t14 rfl dX12_parseVariants_73 (xle (xal1 (rv_cat _) (xal1 rfl (xal1 rfl xal0))) (by decide)) (xfr g15) (xlo xsw0 (by decide) g16) (xKi hq (fun x18 h17 hq e19 => ?_) (fun _ _ q _ => q))
    replace hq := hq e19
    refine x_istore_n (lv' := [(3, .int x18), (0, rv x0), (1, .int x1)]) dX12_parseVariants_76 (by decide) rfl ?_
    refine x_aload_n 1 dX12_parseVariants_77 rfl ?_
    refine x_iconst (v := 3) dX12_parseVariants_78 (by decide) ?_
    refine x_aload_n 1 dX12_parseVariants_79 rfl ?_
    have t20 : tg h17 x0 = 13 := e19.tg t14 (by decide)
    obtain ⟨g21, g22, hq⟩ := hq
    refine x_callV (Yc := YX12_now) (as := []) (st := [.int 3, rv x0]) q3790 mvX12_now t20 rfl dX12_parseVariants_80 (xle (xal1 (rv_cat _) xal0) (by decide)) (xfr g21) (xlo (xsw1 rfl (xsw1 (rv_cat _) xsw0)) (by decide) g22) (xKi hq (fun x24 h23 hq e25 => ?_) (fun _ _ q _ => q))
    replace hq := hq e25
    have t26 : tg h23 x0 = 13 := e25.tg t20 (by decide)
    obtain ⟨g27, g28, hq⟩ := hq
    refine x_callV (Yc := YX12_node) (as := [.int 3, .int x24]) (st := []) q3798 mvX12_node t26 rfl dX12_parseVariants_83 (xle (xal1 (rv_cat _) (xal1 rfl (xal1 rfl xal0))) (by decide)) (xfr g27) (xlo xsw0 (by decide) g28) (xKi hq (fun x30 h29 hq e31 => ?_) (fun _ _ q _ => q))
    replace hq := hq e31
    refine x_istore (lv' := [(4, .int x30), (3, .int x18), (0, rv x0), (1, .int x1)]) dX12_parseVariants_86 (by decide) rfl ?_
    refine xP.pick (lv' := [(0, rv x0), (1, .int x1), (3, .int x18), (4, .int x30)]) [2, 3, 1, 0] rfl ?_
    exact hq
set_option maxRecDepth 100000 in
def bX12_parseVariants_41 (G : xG) (fr lo : Nat) (x0 : Nat) (x1 : Int32) (x2 : Int32) (h : xH) (Q : Outcome → xH → Prop) : Prop := tg h x0 = 13 ∧ 1 ≤ fr ∧ 17 ≤ lo ∧ xRi G YX12_node (fr - 1) (lo - 17) [rv x0, .int 4, .int x2] h (fun x5 h4 => xext h h4 → 1 ≤ fr ∧ 14 ≤ lo ∧ xRv G YX12_add (fr - 1) (lo - 14) [rv x0, .int x1, .int x5] h4 (fun h10 => xext h4 h10 → 1 ≤ fr ∧ 13 ≤ lo ∧ xRi G YX12_must (fr - 1) (lo - 13) [rv x0, .int 21] h10 (fun x17 h16 => xext h10 h16 → lX12_parseVariants_59 G fr lo x0 x1 h16 Q) (fun r h2 => Q (.threw r) h2)) (fun r h2 => Q (.threw r) h2)) (fun r h2 => Q (.threw r) h2)
set_option maxRecDepth 100000 in
theorem uX12_parseVariants_41 {G : xG} {fr lo : Nat} {x0 : Nat} {x1 : Int32} {x2 : Int32} {h : xH} {Q : Outcome → xH → Prop} (hq : bX12_parseVariants_41 G fr lo x0 x1 x2 h Q) : xP G YX12_parseVariants fr lo 41 [(0, rv x0), (1, .int x1), (2, .int x2)] [] h Q := by
  unfold bX12_parseVariants_41 at hq
  refine x_aload_n 0 dX12_parseVariants_41 rfl ?_
  refine x_iload_n 1 dX12_parseVariants_42 rfl ?_
  refine x_aload_n 0 dX12_parseVariants_43 rfl ?_
  refine x_iconst (v := 4) dX12_parseVariants_44 (by decide) ?_
  refine x_iload_n 2 dX12_parseVariants_45 rfl ?_
  obtain ⟨g1, hq⟩ := hq
  obtain ⟨g2, g3, hq⟩ := hq
  refine x_callV (Yc := YX12_node) (as := [.int 4, .int x2]) (st := [.int x1, rv x0]) q3798 mvX12_node g1 rfl dX12_parseVariants_46 (xle (xal1 (rv_cat _) (xal1 rfl (xal1 rfl xal0))) (by decide)) (xfr g2) (xlo (xsw1 rfl (xsw1 (rv_cat _) xsw0)) (by decide) g3) (xKi hq (fun x5 h4 hq e6 => ?_) (fun _ _ q _ => q))
  replace hq := hq e6
  have t7 : tg h4 x0 = 13 := e6.tg g1 (by decide)
  obtain ⟨g8, g9, hq⟩ := hq
  refine x_callV (Yc := YX12_add) (as := [.int x1, .int x5]) (st := []) q3810 mvX12_add t7 rfl dX12_parseVariants_49 (xle (xal1 (rv_cat _) (xal1 rfl (xal1 rfl xal0))) (by decide)) (xfr g8) (xlo xsw0 (by decide) g9) (xKv hq (fun h10 hq e12 => ?_) (fun _ _ q _ => q))
  replace hq := hq e12
  refine x_aload_n 0 dX12_parseVariants_52 rfl ?_
  refine x_bipush (v := 21) dX12_parseVariants_53 (by decide) ?_
  have t13 : tg h10 x0 = 13 := e12.tg t7 (by decide)
  obtain ⟨g14, g15, hq⟩ := hq
  refine x_callV (Yc := YX12_must) (as := [.int 21]) (st := []) q3778 mvX12_must t13 rfl dX12_parseVariants_55 (xle (xal1 (rv_cat _) (xal1 rfl xal0)) (by decide)) (xfr g14) (xlo xsw0 (by decide) g15) (xKi hq (fun x17 h16 hq e18 => ?_) (fun _ _ q _ => q))
  replace hq := hq e18
  refine x_pop dX12_parseVariants_58 rfl ?_
  refine xP.pick (lv' := [(0, rv x0), (1, .int x1)]) [0, 1] rfl ?_
  exact hq
set_option maxRecDepth 100000 in
def bX12_parseVariants (G : xG) (fr lo : Nat) (x0 : Nat) (h : xH) (Q : Outcome → xH → Prop) : Prop := tg h x0 = 13 ∧ 1 ≤ fr ∧ 15 ≤ lo ∧ xRi G YX12_take (fr - 1) (lo - 15) [rv x0] h (fun x5 h4 => xext h h4 → 1 ≤ fr ∧ 15 ≤ lo ∧ xRi G YX12_node (fr - 1) (lo - 15) [rv x0, .int 19, .int x5] h4 (fun x11 h10 => xext h4 h10 → 1 ≤ fr ∧ 13 ≤ lo ∧ xRi G YX12_must (fr - 1) (lo - 13) [rv x0, .int 40] h10 (fun x17 h16 => xext h10 h16 → 1 ≤ fr ∧ 13 ≤ lo ∧ xRi G YX12_takes (fr - 1) (lo - 13) [rv x0, .int 68] h16 (fun x23 h22 => xext h16 h22 → ((x23 = 0 → bX12_parseVariants_41 G fr lo x0 x11 x17 h22 Q) ∧ (¬ x23 = 0 → tg h22 (fR h22 x0 3106) = 100 ∧ vp_in x11 (ln h22 (fR h22 x0 3106)) ∧ (∀ h29 : xH, h29 = tI h22 (fR h22 x0 3106) (Int32.toNatClampNeg x11) x17 → 1 ≤ fr ∧ 13 ≤ lo ∧ xRi G YX12_must (fr - 1) (lo - 13) [rv x0, .int 40] h29 (fun x35 h34 => xext h29 h34 → bX12_parseVariants_41 G fr lo x0 x11 x35 h34 Q) (fun r h2 => Q (.threw r) h2))))) (fun r h2 => Q (.threw r) h2)) (fun r h2 => Q (.threw r) h2)) (fun r h2 => Q (.threw r) h2)) (fun r h2 => Q (.threw r) h2)
set_option maxRecDepth 100000 in
theorem uX12_parseVariants {G : xG} {fr lo : Nat} {x0 : Nat} {h : xH} {Q : Outcome → xH → Prop} (hq : bX12_parseVariants G fr lo x0 h Q) : xP G YX12_parseVariants fr lo 0 [(0, rv x0)] [] h Q := by
  unfold bX12_parseVariants at hq
  refine x_aload_n 0 dX12_parseVariants_0 rfl ?_
  refine x_bipush (v := 19) dX12_parseVariants_1 (by decide) ?_
  refine x_aload_n 0 dX12_parseVariants_3 rfl ?_
  obtain ⟨g1, hq⟩ := hq
  obtain ⟨g2, g3, hq⟩ := hq
  refine x_callV (Yc := YX12_take) (as := []) (st := [.int 19, rv x0]) q3794 mvX12_take g1 rfl dX12_parseVariants_4 (xle (xal1 (rv_cat _) xal0) (by decide)) (xfr g2) (xlo (xsw1 rfl (xsw1 (rv_cat _) xsw0)) (by decide) g3) (xKi hq (fun x5 h4 hq e6 => ?_) (fun _ _ q _ => q))
  replace hq := hq e6
  have t7 : tg h4 x0 = 13 := e6.tg g1 (by decide)
  obtain ⟨g8, g9, hq⟩ := hq
  refine x_callV (Yc := YX12_node) (as := [.int 19, .int x5]) (st := []) q3798 mvX12_node t7 rfl dX12_parseVariants_7 (xle (xal1 (rv_cat _) (xal1 rfl (xal1 rfl xal0))) (by decide)) (xfr g8) (xlo xsw0 (by decide) g9) (xKi hq (fun x11 h10 hq e12 => ?_) (fun _ _ q _ => q))
  replace hq := hq e12
  refine x_istore_n (lv' := [(1, .int x11), (0, rv x0)]) dX12_parseVariants_10 (by decide) (by first | rfl | (simp [rv_cat, Value.category]; done) | (simp [rv_cat, Value.category]; decide)) ?_
  refine x_aload_n 1 dX12_parseVariants_11 rfl ?_
  refine x_bipush (v := 40) dX12_parseVariants_12 (by decide) ?_
  have t13 : tg h10 x0 = 13 := e12.tg t7 (by decide)
  obtain ⟨g14, g15, hq⟩ := hq
  refine x_callV (Yc := YX12_must) (as := [.int 40]) (st := []) q3778 mvX12_must t13 rfl dX12_parseVariants_14 (xle (xal1 (rv_cat _) (xal1 rfl xal0)) (by decide)) (xfr g14) (xlo xsw0 (by decide) g15) (xKi hq (fun x17 h16 hq e18 => ?_) (fun _ _ q _ => q))
  replace hq := hq e18
  refine x_istore_n (lv' := [(2, .int x17), (1, .int x11), (0, rv x0)]) dX12_parseVariants_17 (by decide) rfl ?_
  refine x_aload_n 2 dX12_parseVariants_18 rfl ?_
  refine x_bipush (v := 68) dX12_parseVariants_19 (by decide) ?_
  have t19 : tg h16 x0 = 13 := e18.tg t13 (by decide)
  obtain ⟨g20, g21, hq⟩ := hq
  refine x_callV (Yc := YX12_takes) (as := [.int 68]) (st := []) q3802 mvX12_takes t19 rfl dX12_parseVariants_21 (xle (xal1 (rv_cat _) (xal1 rfl xal0)) (by decide)) (xfr g20) (xlo xsw0 (by decide) g21) (xKi hq (fun x23 h22 hq e24 => ?_) (fun _ _ q _ => q))
  replace hq := hq e24
  refine x_if_eq (tgt := 41) dX12_parseVariants_24 (by decide) (fun c25 => ?_) (fun c25 => ?_)
  · replace hq := hq.1 c25
    refine xP.pick (lv' := [(0, rv x0), (1, .int x11), (2, .int x17)]) [2, 1, 0] rfl ?_
    exact uX12_parseVariants_41 hq
  · replace hq := hq.2 c25
    refine x_aload_n 2 dX12_parseVariants_27 rfl ?_
    have t26 : tg h22 x0 = 13 := e24.tg t19 (by decide)
    refine x_get (v := rv (fR h22 x0 3106)) fdX12_82 dX12_parseVariants_28 t26 rfl ?_
    refine x_iload_n 1 dX12_parseVariants_31 rfl ?_
    refine x_iload_n 0 dX12_parseVariants_32 rfl ?_
    obtain ⟨g27, hq⟩ := hq
    obtain ⟨i28, hq⟩ := hq
    obtain ⟨h29, e30⟩ : ∃ y, y = tI h22 (fR h22 x0 3106) (Int32.toNatClampNeg x11) x17 := ⟨_, rfl⟩
    replace hq := hq h29 e30
    refine x_iast' g27 i28 dX12_parseVariants_33 e30 ?_
    refine x_aload_n 2 dX12_parseVariants_34 rfl ?_
    refine x_bipush (v := 40) dX12_parseVariants_35 (by decide) ?_
    have t31 : tg h29 x0 = 13 := by rw [e30]; exact t26
    obtain ⟨g32, g33, hq⟩ := hq
    refine x_callV (Yc := YX12_must) (as := [.int 40]) (st := []) q3778 mvX12_must t31 rfl dX12_parseVariants_37 (xle (xal1 (rv_cat _) (xal1 rfl xal0)) (by decide)) (xfr g32) (xlo xsw0 (by decide) g33) (xKi hq (fun x35 h34 hq e36 => ?_) (fun _ _ q _ => q))
    replace hq := hq e36
    refine x_istore_n (lv' := [(2, .int x35), (1, .int x11), (0, rv x0)]) dX12_parseVariants_40 (by decide) rfl ?_
    refine xP.pick (lv' := [(0, rv x0), (1, .int x11), (2, .int x35)]) [2, 1, 0] rfl ?_
    exact uX12_parseVariants_41 hq
theorem rX12_parseVariants {G : xG} {fr lo : Nat} {x0 : Nat} {h : xH} {Q : Outcome → xH → Prop} (hq : bX12_parseVariants G fr lo x0 h Q) : xR G YX12_parseVariants fr lo [rv x0] h Q := by
  show xP _ _ _ _ _ (lv_args 0 _) _ _ _
  rw [show lv_args 0 [rv x0] = [(0, rv x0)] from (xla1 (rv_cat _) xla0)]
  exact uX12_parseVariants hq
set_option maxRecDepth 100000 in
theorem dX12_parseRoutine_0 : decode cX12_parseRoutine 0 = .ok (.aload_n 0, 1) := by decide +kernel
set_option maxRecDepth 100000 in
theorem dX12_parseRoutine_1 : decode cX12_parseRoutine 1 = .ok (.bipush 13, 2) := by decide +kernel
set_option maxRecDepth 100000 in
theorem dX12_parseRoutine_3 : decode cX12_parseRoutine 3 = .ok (.invokevirtual 439, 3) := by decide +kernel
set_option maxRecDepth 100000 in
theorem dX12_parseRoutine_6 : decode cX12_parseRoutine 6 = .ok (.istore_n 1, 1) := by decide +kernel
set_option maxRecDepth 100000 in
theorem dX12_parseRoutine_7 : decode cX12_parseRoutine 7 = .ok (.aload_n 0, 1) := by decide +kernel
set_option maxRecDepth 100000 in
theorem dX12_parseRoutine_8 : decode cX12_parseRoutine 8 = .ok (.invokevirtual 442, 3) := by decide +kernel
set_option maxRecDepth 100000 in
theorem dX12_parseRoutine_11 : decode cX12_parseRoutine 11 = .ok (.pop, 1) := by decide +kernel
set_option maxRecDepth 100000 in
theorem dX12_parseRoutine_12 : decode cX12_parseRoutine 12 = .ok (.aload_n 0, 1) := by decide +kernel
set_option maxRecDepth 100000 in
theorem dX12_parseRoutine_13 : decode cX12_parseRoutine 13 = .ok (.bipush 21, 2) := by decide +kernel
set_option maxRecDepth 100000 in
theorem dX12_parseRoutine_15 : decode cX12_parseRoutine 15 = .ok (.aload_n 0, 1) := by decide +kernel
set_option maxRecDepth 100000 in
theorem dX12_parseRoutine_16 : decode cX12_parseRoutine 16 = .ok (.bipush 40, 2) := by decide +kernel
set_option maxRecDepth 100000 in
theorem dX12_parseRoutine_18 : decode cX12_parseRoutine 18 = .ok (.invokevirtual 457, 3) := by decide +kernel
set_option maxRecDepth 100000 in
theorem dX12_parseRoutine_21 : decode cX12_parseRoutine 21 = .ok (.invokevirtual 454, 3) := by decide +kernel
set_option maxRecDepth 100000 in
theorem dX12_parseRoutine_24 : decode cX12_parseRoutine 24 = .ok (.istore_n 2, 1) := by decide +kernel
set_option maxRecDepth 100000 in
theorem dX12_parseRoutine_25 : decode cX12_parseRoutine 25 = .ok (.aload_n 0, 1) := by decide +kernel
set_option maxRecDepth 100000 in
theorem dX12_parseRoutine_26 : decode cX12_parseRoutine 26 = .ok (.getfield 82, 3) := by decide +kernel
set_option maxRecDepth 100000 in
theorem dX12_parseRoutine_29 : decode cX12_parseRoutine 29 = .ok (.iload_n 2, 1) := by decide +kernel
set_option maxRecDepth 100000 in
theorem dX12_parseRoutine_30 : decode cX12_parseRoutine 30 = .ok (.iload_n 1, 1) := by decide +kernel
set_option maxRecDepth 100000 in
theorem dX12_parseRoutine_31 : decode cX12_parseRoutine 31 = .ok (.ifCond .eq 7, 3) := by decide +kernel
set_option maxRecDepth 100000 in
theorem dX12_parseRoutine_34 : decode cX12_parseRoutine 34 = .ok (.iconst 1, 1) := by decide +kernel
set_option maxRecDepth 100000 in
theorem dX12_parseRoutine_35 : decode cX12_parseRoutine 35 = .ok (.goto 4, 3) := by decide +kernel
set_option maxRecDepth 100000 in
theorem dX12_parseRoutine_38 : decode cX12_parseRoutine 38 = .ok (.iconst 0, 1) := by decide +kernel
set_option maxRecDepth 100000 in
theorem dX12_parseRoutine_39 : decode cX12_parseRoutine 39 = .ok (.iastore, 1) := by decide +kernel
set_option maxRecDepth 100000 in
theorem dX12_parseRoutine_40 : decode cX12_parseRoutine 40 = .ok (.aload_n 0, 1) := by decide +kernel
set_option maxRecDepth 100000 in
theorem dX12_parseRoutine_41 : decode cX12_parseRoutine 41 = .ok (.iload_n 2, 1) := by decide +kernel
set_option maxRecDepth 100000 in
theorem dX12_parseRoutine_42 : decode cX12_parseRoutine 42 = .ok (.aload_n 0, 1) := by decide +kernel
set_option maxRecDepth 100000 in
theorem dX12_parseRoutine_43 : decode cX12_parseRoutine 43 = .ok (.invokevirtual 506, 3) := by decide +kernel
set_option maxRecDepth 100000 in
theorem dX12_parseRoutine_46 : decode cX12_parseRoutine 46 = .ok (.invokevirtual 460, 3) := by decide +kernel
set_option maxRecDepth 100000 in
theorem dX12_parseRoutine_49 : decode cX12_parseRoutine 49 = .ok (.iload_n 1, 1) := by decide +kernel
set_option maxRecDepth 100000 in
theorem dX12_parseRoutine_50 : decode cX12_parseRoutine 50 = .ok (.ifCond .eq 31, 3) := by decide +kernel
set_option maxRecDepth 100000 in
theorem dX12_parseRoutine_53 : decode cX12_parseRoutine 53 = .ok (.aload_n 0, 1) := by decide +kernel
set_option maxRecDepth 100000 in
theorem dX12_parseRoutine_54 : decode cX12_parseRoutine 54 = .ok (.bipush 68, 2) := by decide +kernel
set_option maxRecDepth 100000 in
theorem dX12_parseRoutine_56 : decode cX12_parseRoutine 56 = .ok (.invokevirtual 463, 3) := by decide +kernel
set_option maxRecDepth 100000 in
theorem dX12_parseRoutine_59 : decode cX12_parseRoutine 59 = .ok (.ifCond .eq 22, 3) := by decide +kernel
set_option maxRecDepth 100000 in
theorem dX12_parseRoutine_62 : decode cX12_parseRoutine 62 = .ok (.aload_n 0, 1) := by decide +kernel
set_option maxRecDepth 100000 in
theorem dX12_parseRoutine_63 : decode cX12_parseRoutine 63 = .ok (.iload_n 2, 1) := by decide +kernel
set_option maxRecDepth 100000 in
theorem dX12_parseRoutine_64 : decode cX12_parseRoutine 64 = .ok (.aload_n 0, 1) := by decide +kernel
set_option maxRecDepth 100000 in
theorem dX12_parseRoutine_65 : decode cX12_parseRoutine 65 = .ok (.iconst 4, 1) := by decide +kernel
set_option maxRecDepth 100000 in
theorem dX12_parseRoutine_66 : decode cX12_parseRoutine 66 = .ok (.aload_n 0, 1) := by decide +kernel
set_option maxRecDepth 100000 in
theorem dX12_parseRoutine_67 : decode cX12_parseRoutine 67 = .ok (.bipush 40, 2) := by decide +kernel
set_option maxRecDepth 100000 in
theorem dX12_parseRoutine_69 : decode cX12_parseRoutine 69 = .ok (.invokevirtual 457, 3) := by decide +kernel
set_option maxRecDepth 100000 in
theorem dX12_parseRoutine_72 : decode cX12_parseRoutine 72 = .ok (.invokevirtual 454, 3) := by decide +kernel
set_option maxRecDepth 100000 in
theorem dX12_parseRoutine_75 : decode cX12_parseRoutine 75 = .ok (.invokevirtual 460, 3) := by decide +kernel
set_option maxRecDepth 100000 in
theorem dX12_parseRoutine_78 : decode cX12_parseRoutine 78 = .ok (.goto 18, 3) := by decide +kernel
set_option maxRecDepth 100000 in
theorem dX12_parseRoutine_81 : decode cX12_parseRoutine 81 = .ok (.aload_n 0, 1) := by decide +kernel
set_option maxRecDepth 100000 in
theorem dX12_parseRoutine_82 : decode cX12_parseRoutine 82 = .ok (.iload_n 2, 1) := by decide +kernel
set_option maxRecDepth 100000 in
theorem dX12_parseRoutine_83 : decode cX12_parseRoutine 83 = .ok (.aload_n 0, 1) := by decide +kernel
set_option maxRecDepth 100000 in
theorem dX12_parseRoutine_84 : decode cX12_parseRoutine 84 = .ok (.bipush 8, 2) := by decide +kernel
set_option maxRecDepth 100000 in
theorem dX12_parseRoutine_86 : decode cX12_parseRoutine 86 = .ok (.aload_n 0, 1) := by decide +kernel
set_option maxRecDepth 100000 in
theorem dX12_parseRoutine_87 : decode cX12_parseRoutine 87 = .ok (.invokevirtual 445, 3) := by decide +kernel
set_option maxRecDepth 100000 in
theorem dX12_parseRoutine_90 : decode cX12_parseRoutine 90 = .ok (.invokevirtual 454, 3) := by decide +kernel
set_option maxRecDepth 100000 in
theorem dX12_parseRoutine_93 : decode cX12_parseRoutine 93 = .ok (.invokevirtual 460, 3) := by decide +kernel
set_option maxRecDepth 100000 in
theorem dX12_parseRoutine_96 : decode cX12_parseRoutine 96 = .ok (.aload_n 0, 1) := by decide +kernel
set_option maxRecDepth 100000 in
theorem dX12_parseRoutine_97 : decode cX12_parseRoutine 97 = .ok (.bipush 67, 2) := by decide +kernel
set_option maxRecDepth 100000 in
theorem dX12_parseRoutine_99 : decode cX12_parseRoutine 99 = .ok (.invokevirtual 457, 3) := by decide +kernel
set_option maxRecDepth 100000 in
theorem dX12_parseRoutine_102 : decode cX12_parseRoutine 102 = .ok (.pop, 1) := by decide +kernel
set_option maxRecDepth 100000 in
theorem dX12_parseRoutine_103 : decode cX12_parseRoutine 103 = .ok (.aload_n 0, 1) := by decide +kernel
set_option maxRecDepth 100000 in
theorem dX12_parseRoutine_104 : decode cX12_parseRoutine 104 = .ok (.bipush 40, 2) := by decide +kernel
set_option maxRecDepth 100000 in
theorem dX12_parseRoutine_106 : decode cX12_parseRoutine 106 = .ok (.invokevirtual 439, 3) := by decide +kernel
set_option maxRecDepth 100000 in
theorem dX12_parseRoutine_109 : decode cX12_parseRoutine 109 = .ok (.ifCond .eq 37, 3) := by decide +kernel
set_option maxRecDepth 100000 in
theorem dX12_parseRoutine_112 : decode cX12_parseRoutine 112 = .ok (.aload_n 0, 1) := by decide +kernel
set_option maxRecDepth 100000 in
theorem dX12_parseRoutine_113 : decode cX12_parseRoutine 113 = .ok (.getfield 32, 3) := by decide +kernel
set_option maxRecDepth 100000 in
theorem dX12_parseRoutine_116 : decode cX12_parseRoutine 116 = .ok (.aload_n 0, 1) := by decide +kernel
set_option maxRecDepth 100000 in
theorem dX12_parseRoutine_117 : decode cX12_parseRoutine 117 = .ok (.invokevirtual 445, 3) := by decide +kernel
set_option maxRecDepth 100000 in
theorem dX12_parseRoutine_120 : decode cX12_parseRoutine 120 = .ok (.iaload, 1) := by decide +kernel
set_option maxRecDepth 100000 in
theorem dX12_parseRoutine_121 : decode cX12_parseRoutine 121 = .ok (.aload_n 0, 1) := by decide +kernel
set_option maxRecDepth 100000 in
theorem dX12_parseRoutine_122 : decode cX12_parseRoutine 122 = .ok (.getfield 509, 3) := by decide +kernel
set_option maxRecDepth 100000 in
theorem dX12_parseRoutine_125 : decode cX12_parseRoutine 125 = .ok (.if_icmp .ne 21, 3) := by decide +kernel
set_option maxRecDepth 100000 in
theorem dX12_parseRoutine_128 : decode cX12_parseRoutine 128 = .ok (.aload_n 0, 1) := by decide +kernel
set_option maxRecDepth 100000 in
theorem dX12_parseRoutine_129 : decode cX12_parseRoutine 129 = .ok (.iload_n 2, 1) := by decide +kernel
set_option maxRecDepth 100000 in
theorem dX12_parseRoutine_130 : decode cX12_parseRoutine 130 = .ok (.aload_n 0, 1) := by decide +kernel
set_option maxRecDepth 100000 in
theorem dX12_parseRoutine_131 : decode cX12_parseRoutine 131 = .ok (.bipush 9, 2) := by decide +kernel
set_option maxRecDepth 100000 in
theorem dX12_parseRoutine_133 : decode cX12_parseRoutine 133 = .ok (.aload_n 0, 1) := by decide +kernel
set_option maxRecDepth 100000 in
theorem dX12_parseRoutine_134 : decode cX12_parseRoutine 134 = .ok (.invokevirtual 442, 3) := by decide +kernel
set_option maxRecDepth 100000 in
theorem dX12_parseRoutine_137 : decode cX12_parseRoutine 137 = .ok (.invokevirtual 454, 3) := by decide +kernel
set_option maxRecDepth 100000 in
theorem dX12_parseRoutine_140 : decode cX12_parseRoutine 140 = .ok (.invokevirtual 460, 3) := by decide +kernel
set_option maxRecDepth 100000 in
theorem dX12_parseRoutine_143 : decode cX12_parseRoutine 143 = .ok (.goto 12, 3) := by decide +kernel
set_option maxRecDepth 100000 in
theorem dX12_parseRoutine_146 : decode cX12_parseRoutine 146 = .ok (.aload_n 0, 1) := by decide +kernel
set_option maxRecDepth 100000 in
theorem dX12_parseRoutine_147 : decode cX12_parseRoutine 147 = .ok (.iload_n 2, 1) := by decide +kernel
set_option maxRecDepth 100000 in
theorem dX12_parseRoutine_148 : decode cX12_parseRoutine 148 = .ok (.aload_n 0, 1) := by decide +kernel
set_option maxRecDepth 100000 in
theorem dX12_parseRoutine_149 : decode cX12_parseRoutine 149 = .ok (.invokevirtual 469, 3) := by decide +kernel
set_option maxRecDepth 100000 in
theorem dX12_parseRoutine_152 : decode cX12_parseRoutine 152 = .ok (.invokevirtual 460, 3) := by decide +kernel
set_option maxRecDepth 100000 in
theorem dX12_parseRoutine_155 : decode cX12_parseRoutine 155 = .ok (.iload_n 2, 1) := by decide +kernel
set_option maxRecDepth 100000 in
theorem dX12_parseRoutine_156 : decode cX12_parseRoutine 156 = .ok (.ireturn, 1) := by decide +kernel
set_option maxRecDepth 100000 in
def bX12_parseRoutine_155 (G : xG) (fr lo : Nat) (x2 : Int32) (h : xH) (Q : Outcome → xH → Prop) : Prop := Q (.returned (some (.int x2))) h
set_option maxRecDepth 100000 in
theorem uX12_parseRoutine_155 {G : xG} {fr lo : Nat} {x2 : Int32} {h : xH} {Q : Outcome → xH → Prop} (hq : bX12_parseRoutine_155 G fr lo x2 h Q) : xP G YX12_parseRoutine fr lo 155 [(2, .int x2)] [] h Q := by
  unfold bX12_parseRoutine_155 at hq
  refine x_iload_n 0 dX12_parseRoutine_155 rfl ?_
  exact x_iret rfl rfl dX12_parseRoutine_156 hq
set_option maxRecDepth 100000 in
def bX12_parseRoutine_146 (G : xG) (fr lo : Nat) (x0 : Nat) (x2 : Int32) (h : xH) (Q : Outcome → xH → Prop) : Prop := tg h x0 = 13 ∧ 1 ≤ fr ∧ 21 ≤ lo ∧ xRi G YX12_parseBlock (fr - 1) (lo - 21) [rv x0] h (fun x5 h4 => xext h h4 → 1 ≤ fr ∧ 14 ≤ lo ∧ xRv G YX12_add (fr - 1) (lo - 14) [rv x0, .int x2, .int x5] h4 (fun h10 => xext h4 h10 → bX12_parseRoutine_155 G fr lo x2 h10 Q) (fun r h2 => Q (.threw r) h2)) (fun r h2 => Q (.threw r) h2)
set_option maxRecDepth 100000 in
theorem uX12_parseRoutine_146 {G : xG} {fr lo : Nat} {x0 : Nat} {x2 : Int32} {h : xH} {Q : Outcome → xH → Prop} (hq : bX12_parseRoutine_146 G fr lo x0 x2 h Q) : xP G YX12_parseRoutine fr lo 146 [(0, rv x0), (2, .int x2)] [] h Q := by
  unfold bX12_parseRoutine_146 at hq
  refine x_aload_n 0 dX12_parseRoutine_146 rfl ?_
  refine x_iload_n 1 dX12_parseRoutine_147 rfl ?_
  refine x_aload_n 0 dX12_parseRoutine_148 rfl ?_
  obtain ⟨g1, hq⟩ := hq
  obtain ⟨g2, g3, hq⟩ := hq
  refine x_callV (Yc := YX12_parseBlock) (as := []) (st := [.int x2, rv x0]) q3814 mvX12_parseBlock g1 rfl dX12_parseRoutine_149 (xle (xal1 (rv_cat _) xal0) (by decide)) (xfr g2) (xlo (xsw1 rfl (xsw1 (rv_cat _) xsw0)) (by decide) g3) (xKi hq (fun x5 h4 hq e6 => ?_) (fun _ _ q _ => q))
  replace hq := hq e6
  have t7 : tg h4 x0 = 13 := e6.tg g1 (by decide)
  obtain ⟨g8, g9, hq⟩ := hq
  refine x_callV (Yc := YX12_add) (as := [.int x2, .int x5]) (st := []) q3810 mvX12_add t7 rfl dX12_parseRoutine_152 (xle (xal1 (rv_cat _) (xal1 rfl (xal1 rfl xal0))) (by decide)) (xfr g8) (xlo xsw0 (by decide) g9) (xKv hq (fun h10 hq e12 => ?_) (fun _ _ q _ => q))
  replace hq := hq e12
  refine xP.pick (lv' := [(2, .int x2)]) [1] rfl ?_
  exact uX12_parseRoutine_155 hq
set_option maxRecDepth 100000 in
def bX12_parseRoutine_96 (G : xG) (fr lo : Nat) (x0 : Nat) (x2 : Int32) (h : xH) (Q : Outcome → xH → Prop) : Prop := tg h x0 = 13 ∧ 1 ≤ fr ∧ 13 ≤ lo ∧ xRi G YX12_must (fr - 1) (lo - 13) [rv x0, .int 67] h (fun x5 h4 => xext h h4 → 1 ≤ fr ∧ 13 ≤ lo ∧ xRi G YX12_sees (fr - 1) (lo - 13) [rv x0, .int 40] h4 (fun x11 h10 => xext h4 h10 → ((x11 = 0 → bX12_parseRoutine_146 G fr lo x0 x2 h10 Q) ∧ (¬ x11 = 0 → 1 ≤ fr ∧ 13 ≤ lo ∧ xRi G YX12_now (fr - 1) (lo - 13) [rv x0] h10 (fun x18 h17 => xext h10 h17 → tg h17 (fR h10 x0 3084) = 100 ∧ vp_in x18 (ln h17 (fR h10 x0 3084)) ∧ ((¬ (aI h17 (fR h10 x0 3084) (Int32.toNatClampNeg x18)) = (fI h17 x0 3112) → bX12_parseRoutine_146 G fr lo x0 x2 h17 Q) ∧ ((aI h17 (fR h10 x0 3084) (Int32.toNatClampNeg x18)) = (fI h17 x0 3112) → 1 ≤ fr ∧ 17 ≤ lo ∧ xRi G YX12_take (fr - 1) (lo - 17) [rv x0] h17 (fun x27 h26 => xext h17 h26 → 1 ≤ fr ∧ 17 ≤ lo ∧ xRi G YX12_node (fr - 1) (lo - 17) [rv x0, .int 9, .int x27] h26 (fun x33 h32 => xext h26 h32 → 1 ≤ fr ∧ 14 ≤ lo ∧ xRv G YX12_add (fr - 1) (lo - 14) [rv x0, .int x2, .int x33] h32 (fun h38 => xext h32 h38 → bX12_parseRoutine_155 G fr lo x2 h38 Q) (fun r h2 => Q (.threw r) h2)) (fun r h2 => Q (.threw r) h2)) (fun r h2 => Q (.threw r) h2)))) (fun r h2 => Q (.threw r) h2)))) (fun r h2 => Q (.threw r) h2)) (fun r h2 => Q (.threw r) h2)
set_option maxRecDepth 100000 in
theorem uX12_parseRoutine_96 {G : xG} {fr lo : Nat} {x0 : Nat} {x2 : Int32} {h : xH} {Q : Outcome → xH → Prop} (hq : bX12_parseRoutine_96 G fr lo x0 x2 h Q) : xP G YX12_parseRoutine fr lo 96 [(0, rv x0), (2, .int x2)] [] h Q := by
  unfold bX12_parseRoutine_96 at hq
  refine x_aload_n 0 dX12_parseRoutine_96 rfl ?_
  refine x_bipush (v := 67) dX12_parseRoutine_97 (by decide) ?_
  obtain ⟨g1, hq⟩ := hq
  obtain ⟨g2, g3, hq⟩ := hq
  refine x_callV (Yc := YX12_must) (as := [.int 67]) (st := []) q3778 mvX12_must g1 rfl dX12_parseRoutine_99 (xle (xal1 (rv_cat _) (xal1 rfl xal0)) (by decide)) (xfr g2) (xlo xsw0 (by decide) g3) (xKi hq (fun x5 h4 hq e6 => ?_) (fun _ _ q _ => q))
  replace hq := hq e6
  refine x_pop dX12_parseRoutine_102 rfl ?_
  refine x_aload_n 0 dX12_parseRoutine_103 rfl ?_
  refine x_bipush (v := 40) dX12_parseRoutine_104 (by decide) ?_
  have t7 : tg h4 x0 = 13 := e6.tg g1 (by decide)
  obtain ⟨g8, g9, hq⟩ := hq
  refine x_callV (Yc := YX12_sees) (as := [.int 40]) (st := []) q3782 mvX12_sees t7 rfl dX12_parseRoutine_106 (xle (xal1 (rv_cat _) (xal1 rfl xal0)) (by decide)) (xfr g8) (xlo xsw0 (by decide) g9) (xKi hq (fun x11 h10 hq e12 => ?_) (fun _ _ q _ => q))
  replace hq := hq e12
  refine x_if_eq (tgt := 146) dX12_parseRoutine_109 (by decide) (fun c13 => ?_) (fun c13 => ?_)
  · replace hq := hq.1 c13
    exact uX12_parseRoutine_146 hq
  · replace hq := hq.2 c13
    refine x_aload_n 0 dX12_parseRoutine_112 rfl ?_
    have t14 : tg h10 x0 = 13 := e12.tg t7 (by decide)
    refine x_get (v := rv (fR h10 x0 3084)) fdX12_32 dX12_parseRoutine_113 t14 rfl ?_
    refine x_aload_n 0 dX12_parseRoutine_116 rfl ?_
    obtain ⟨g15, g16, hq⟩ := hq
    refine x_callV (Yc := YX12_now) (as := []) (st := [rv (fR h10 x0 3084)]) q3790 mvX12_now t14 rfl dX12_parseRoutine_117 (xle (xal1 (rv_cat _) xal0) (by decide)) (xfr g15) (xlo (xsw1 (rv_cat _) xsw0) (by decide) g16) (xKi hq (fun x18 h17 hq e19 => ?_) (fun _ _ q _ => q))
    replace hq := hq e19
    obtain ⟨g20, hq⟩ := hq
    obtain ⟨i21, hq⟩ := hq
    refine x_iald 0 (Or.inl rfl) g20 i21 dX12_parseRoutine_120 ?_
    refine x_aload_n 0 dX12_parseRoutine_121 rfl ?_
    have t22 : tg h17 x0 = 13 := e19.tg t14 (by decide)
    refine x_get (v := .int (fI h17 x0 3112)) fdX12_509 dX12_parseRoutine_122 t22 rfl ?_
    refine x_icmp_ne (tgt := 146) dX12_parseRoutine_125 (by decide) (fun c23 => ?_) (fun c23 => ?_)
    · replace hq := hq.1 c23
      exact uX12_parseRoutine_146 hq
    · replace hq := hq.2 c23
      refine x_aload_n 0 dX12_parseRoutine_128 rfl ?_
      refine x_iload_n 1 dX12_parseRoutine_129 rfl ?_
      refine x_aload_n 0 dX12_parseRoutine_130 rfl ?_
      refine x_bipush (v := 9) dX12_parseRoutine_131 (by decide) ?_
      refine x_aload_n 0 dX12_parseRoutine_133 rfl ?_
      obtain ⟨g24, g25, hq⟩ := hq
      refine x_callV (Yc := YX12_take) (as := []) (st := [.int 9, rv x0, .int x2, rv x0]) q3794 mvX12_take t22 rfl dX12_parseRoutine_134 (xle (xal1 (rv_cat _) xal0) (by decide)) (xfr g24) (xlo (xsw1 rfl (xsw1 (rv_cat _) (xsw1 rfl (xsw1 (rv_cat _) xsw0)))) (by decide) g25) (xKi hq (fun x27 h26 hq e28 => ?_) (fun _ _ q _ => q))
      replace hq := hq e28
      have t29 : tg h26 x0 = 13 := e28.tg t22 (by decide)
      obtain ⟨g30, g31, hq⟩ := hq
      refine x_callV (Yc := YX12_node) (as := [.int 9, .int x27]) (st := [.int x2, rv x0]) q3798 mvX12_node t29 rfl dX12_parseRoutine_137 (xle (xal1 (rv_cat _) (xal1 rfl (xal1 rfl xal0))) (by decide)) (xfr g30) (xlo (xsw1 rfl (xsw1 (rv_cat _) xsw0)) (by decide) g31) (xKi hq (fun x33 h32 hq e34 => ?_) (fun _ _ q _ => q))
      replace hq := hq e34
      have t35 : tg h32 x0 = 13 := e34.tg t29 (by decide)
      obtain ⟨g36, g37, hq⟩ := hq
      refine x_callV (Yc := YX12_add) (as := [.int x2, .int x33]) (st := []) q3810 mvX12_add t35 rfl dX12_parseRoutine_140 (xle (xal1 (rv_cat _) (xal1 rfl (xal1 rfl xal0))) (by decide)) (xfr g36) (xlo xsw0 (by decide) g37) (xKv hq (fun h38 hq e40 => ?_) (fun _ _ q _ => q))
      replace hq := hq e40
      refine x_goto (tgt := 155) dX12_parseRoutine_143 (by decide) ?_
      refine xP.pick (lv' := [(2, .int x2)]) [1] rfl ?_
      exact uX12_parseRoutine_155 hq
set_option maxRecDepth 100000 in
def bX12_parseRoutine_81 (G : xG) (fr lo : Nat) (x0 : Nat) (x2 : Int32) (h : xH) (Q : Outcome → xH → Prop) : Prop := tg h x0 = 13 ∧ 1 ≤ fr ∧ 16 ≤ lo ∧ xRi G YX12_now (fr - 1) (lo - 16) [rv x0] h (fun x5 h4 => xext h h4 → 1 ≤ fr ∧ 17 ≤ lo ∧ xRi G YX12_node (fr - 1) (lo - 17) [rv x0, .int 8, .int x5] h4 (fun x11 h10 => xext h4 h10 → 1 ≤ fr ∧ 14 ≤ lo ∧ xRv G YX12_add (fr - 1) (lo - 14) [rv x0, .int x2, .int x11] h10 (fun h16 => xext h10 h16 → bX12_parseRoutine_96 G fr lo x0 x2 h16 Q) (fun r h2 => Q (.threw r) h2)) (fun r h2 => Q (.threw r) h2)) (fun r h2 => Q (.threw r) h2)
set_option maxRecDepth 100000 in
theorem uX12_parseRoutine_81 {G : xG} {fr lo : Nat} {x0 : Nat} {x2 : Int32} {h : xH} {Q : Outcome → xH → Prop} (hq : bX12_parseRoutine_81 G fr lo x0 x2 h Q) : xP G YX12_parseRoutine fr lo 81 [(0, rv x0), (2, .int x2)] [] h Q := by
  unfold bX12_parseRoutine_81 at hq
  refine x_aload_n 0 dX12_parseRoutine_81 rfl ?_
  refine x_iload_n 1 dX12_parseRoutine_82 rfl ?_
  refine x_aload_n 0 dX12_parseRoutine_83 rfl ?_
  refine x_bipush (v := 8) dX12_parseRoutine_84 (by decide) ?_
  refine x_aload_n 0 dX12_parseRoutine_86 rfl ?_
  obtain ⟨g1, hq⟩ := hq
  obtain ⟨g2, g3, hq⟩ := hq
  refine x_callV (Yc := YX12_now) (as := []) (st := [.int 8, rv x0, .int x2, rv x0]) q3790 mvX12_now g1 rfl dX12_parseRoutine_87 (xle (xal1 (rv_cat _) xal0) (by decide)) (xfr g2) (xlo (xsw1 rfl (xsw1 (rv_cat _) (xsw1 rfl (xsw1 (rv_cat _) xsw0)))) (by decide) g3) (xKi hq (fun x5 h4 hq e6 => ?_) (fun _ _ q _ => q))
  replace hq := hq e6
  have t7 : tg h4 x0 = 13 := e6.tg g1 (by decide)
  obtain ⟨g8, g9, hq⟩ := hq
  refine x_callV (Yc := YX12_node) (as := [.int 8, .int x5]) (st := [.int x2, rv x0]) q3798 mvX12_node t7 rfl dX12_parseRoutine_90 (xle (xal1 (rv_cat _) (xal1 rfl (xal1 rfl xal0))) (by decide)) (xfr g8) (xlo (xsw1 rfl (xsw1 (rv_cat _) xsw0)) (by decide) g9) (xKi hq (fun x11 h10 hq e12 => ?_) (fun _ _ q _ => q))
  replace hq := hq e12
  have t13 : tg h10 x0 = 13 := e12.tg t7 (by decide)
  obtain ⟨g14, g15, hq⟩ := hq
  refine x_callV (Yc := YX12_add) (as := [.int x2, .int x11]) (st := []) q3810 mvX12_add t13 rfl dX12_parseRoutine_93 (xle (xal1 (rv_cat _) (xal1 rfl (xal1 rfl xal0))) (by decide)) (xfr g14) (xlo xsw0 (by decide) g15) (xKv hq (fun h16 hq e18 => ?_) (fun _ _ q _ => q))
  replace hq := hq e18
  exact uX12_parseRoutine_96 hq
set_option maxRecDepth 100000 in
def bX12_parseRoutine_39 (G : xG) (fr lo : Nat) (x0 : Nat) (x1 : Int32) (x2 : Int32) (s0 : Int32) (s1 : Int32) (s2 : Nat) (h : xH) (Q : Outcome → xH → Prop) : Prop := tg h s2 = 100 ∧ vp_in s1 (ln h s2) ∧ (∀ h3 : xH, h3 = tI h s2 (Int32.toNatClampNeg s1) s0 → tg h3 x0 = 13 ∧ 1 ≤ fr ∧ 15 ≤ lo ∧ xRi G YX12_parseParams (fr - 1) (lo - 15) [rv x0] h3 (fun x9 h8 => xext h3 h8 → 1 ≤ fr ∧ 14 ≤ lo ∧ xRv G YX12_add (fr - 1) (lo - 14) [rv x0, .int x2, .int x9] h8 (fun h14 => xext h8 h14 → ((x1 = 0 → bX12_parseRoutine_81 G fr lo x0 x2 h14 Q) ∧ (¬ x1 = 0 → 1 ≤ fr ∧ 13 ≤ lo ∧ xRi G YX12_takes (fr - 1) (lo - 13) [rv x0, .int 68] h14 (fun x22 h21 => xext h14 h21 → ((x22 = 0 → bX12_parseRoutine_81 G fr lo x0 x2 h21 Q) ∧ (¬ x22 = 0 → 1 ≤ fr ∧ 17 ≤ lo ∧ xRi G YX12_must (fr - 1) (lo - 17) [rv x0, .int 40] h21 (fun x29 h28 => xext h21 h28 → 1 ≤ fr ∧ 17 ≤ lo ∧ xRi G YX12_node (fr - 1) (lo - 17) [rv x0, .int 4, .int x29] h28 (fun x35 h34 => xext h28 h34 → 1 ≤ fr ∧ 14 ≤ lo ∧ xRv G YX12_add (fr - 1) (lo - 14) [rv x0, .int x2, .int x35] h34 (fun h40 => xext h34 h40 → bX12_parseRoutine_96 G fr lo x0 x2 h40 Q) (fun r h2 => Q (.threw r) h2)) (fun r h2 => Q (.threw r) h2)) (fun r h2 => Q (.threw r) h2)))) (fun r h2 => Q (.threw r) h2)))) (fun r h2 => Q (.threw r) h2)) (fun r h2 => Q (.threw r) h2))
set_option maxRecDepth 100000 in
theorem uX12_parseRoutine_39 {G : xG} {fr lo : Nat} {x0 : Nat} {x1 : Int32} {x2 : Int32} {s0 : Int32} {s1 : Int32} {s2 : Nat} {h : xH} {Q : Outcome → xH → Prop} (hq : bX12_parseRoutine_39 G fr lo x0 x1 x2 s0 s1 s2 h Q) : xP G YX12_parseRoutine fr lo 39 [(0, rv x0), (1, .int x1), (2, .int x2)] [.int s0, .int s1, rv s2] h Q := by
  unfold bX12_parseRoutine_39 at hq
  obtain ⟨g1, hq⟩ := hq
  obtain ⟨i2, hq⟩ := hq
  obtain ⟨h3, e4⟩ : ∃ y, y = tI h s2 (Int32.toNatClampNeg s1) s0 := ⟨_, rfl⟩
  replace hq := hq h3 e4
  refine x_iast' g1 i2 dX12_parseRoutine_39 e4 ?_
  refine x_aload_n 0 dX12_parseRoutine_40 rfl ?_
  refine x_iload_n 2 dX12_parseRoutine_41 rfl ?_
  refine x_aload_n 0 dX12_parseRoutine_42 rfl ?_
  obtain ⟨g5, hq⟩ := hq
  obtain ⟨g6, g7, hq⟩ := hq
  refine x_callV (Yc := YX12_parseParams) (as := []) (st := [.int x2, rv x0]) q3858 mvX12_parseParams g5 rfl dX12_parseRoutine_43 (xle (xal1 (rv_cat _) xal0) (by decide)) (xfr g6) (xlo (xsw1 rfl (xsw1 (rv_cat _) xsw0)) (by decide) g7) (xKi hq (fun x9 h8 hq e10 => ?_) (fun _ _ q _ => q))
  replace hq := hq e10
  have t11 : tg h8 x0 = 13 := e10.tg g5 (by decide)
  obtain ⟨g12, g13, hq⟩ := hq
  refine x_callV (Yc := YX12_add) (as := [.int x2, .int x9]) (st := []) q3810 mvX12_add t11 rfl dX12_parseRoutine_46 (xle (xal1 (rv_cat _) (xal1 rfl (xal1 rfl xal0))) (by decide)) (xfr g12) (xlo xsw0 (by decide) g13) (xKv hq (fun h14 hq e16 => ?_) (fun _ _ q _ => q))
  replace hq := hq e16
  refine x_iload_n 1 dX12_parseRoutine_49 rfl ?_
  refine x_if_eq (tgt := 81) dX12_parseRoutine_50 (by decide) (fun c17 => ?_) (fun c17 => ?_)
  · replace hq := hq.1 c17
    refine xP.pick (lv' := [(0, rv x0), (2, .int x2)]) [0, 2] rfl ?_
    exact uX12_parseRoutine_81 hq
  · replace hq := hq.2 c17
    refine x_aload_n 0 dX12_parseRoutine_53 rfl ?_
    refine x_bipush (v := 68) dX12_parseRoutine_54 (by decide) ?_
    have t18 : tg h14 x0 = 13 := e16.tg t11 (by decide)
    obtain ⟨g19, g20, hq⟩ := hq
    refine x_callV (Yc := YX12_takes) (as := [.int 68]) (st := []) q3802 mvX12_takes t18 rfl dX12_parseRoutine_56 (xle (xal1 (rv_cat _) (xal1 rfl xal0)) (by decide)) (xfr g19) (xlo xsw0 (by decide) g20) (xKi hq (fun x22 h21 hq e23 => ?_) (fun _ _ q _ => q))
    replace hq := hq e23
    refine x_if_eq (tgt := 81) dX12_parseRoutine_59 (by decide) (fun c24 => ?_) (fun c24 => ?_)
    · replace hq := hq.1 c24
      refine xP.pick (lv' := [(0, rv x0), (2, .int x2)]) [0, 2] rfl ?_
      exact uX12_parseRoutine_81 hq
    · replace hq := hq.2 c24
      refine x_aload_n 0 dX12_parseRoutine_62 rfl ?_
      refine x_iload_n 2 dX12_parseRoutine_63 rfl ?_
      refine x_aload_n 0 dX12_parseRoutine_64 rfl ?_
      refine x_iconst (v := 4) dX12_parseRoutine_65 (by decide) ?_
      refine x_aload_n 0 dX12_parseRoutine_66 rfl ?_
      refine x_bipush (v := 40) dX12_parseRoutine_67 (by decide) ?_
      have t25 : tg h21 x0 = 13 := e23.tg t18 (by decide)
      obtain ⟨g26, g27, hq⟩ := hq
      refine x_callV (Yc := YX12_must) (as := [.int 40]) (st := [.int 4, rv x0, .int x2, rv x0]) q3778 mvX12_must t25 rfl dX12_parseRoutine_69 (xle (xal1 (rv_cat _) (xal1 rfl xal0)) (by decide)) (xfr g26) (xlo (xsw1 rfl (xsw1 (rv_cat _) (xsw1 rfl (xsw1 (rv_cat _) xsw0)))) (by decide) g27) (xKi hq (fun x29 h28 hq e30 => ?_) (fun _ _ q _ => q))
      replace hq := hq e30
      have t31 : tg h28 x0 = 13 := e30.tg t25 (by decide)
      obtain ⟨g32, g33, hq⟩ := hq
      refine x_callV (Yc := YX12_node) (as := [.int 4, .int x29]) (st := [.int x2, rv x0]) q3798 mvX12_node t31 rfl dX12_parseRoutine_72 (xle (xal1 (rv_cat _) (xal1 rfl (xal1 rfl xal0))) (by decide)) (xfr g32) (xlo (xsw1 rfl (xsw1 (rv_cat _) xsw0)) (by decide) g33) (xKi hq (fun x35 h34 hq e36 => ?_) (fun _ _ q _ => q))
      replace hq := hq e36
      have t37 : tg h34 x0 = 13 := e36.tg t31 (by decide)
      obtain ⟨g38, g39, hq⟩ := hq
      refine x_callV (Yc := YX12_add) (as := [.int x2, .int x35]) (st := []) q3810 mvX12_add t37 rfl dX12_parseRoutine_75 (xle (xal1 (rv_cat _) (xal1 rfl (xal1 rfl xal0))) (by decide)) (xfr g38) (xlo xsw0 (by decide) g39) (xKv hq (fun h40 hq e42 => ?_) (fun _ _ q _ => q))
      replace hq := hq e42
      refine x_goto (tgt := 96) dX12_parseRoutine_78 (by decide) ?_
      refine xP.pick (lv' := [(0, rv x0), (2, .int x2)]) [0, 2] rfl ?_
      exact uX12_parseRoutine_96 hq
set_option maxRecDepth 100000 in
def bX12_parseRoutine (G : xG) (fr lo : Nat) (x0 : Nat) (h : xH) (Q : Outcome → xH → Prop) : Prop := tg h x0 = 13 ∧ 1 ≤ fr ∧ 13 ≤ lo ∧ xRi G YX12_sees (fr - 1) (lo - 13) [rv x0, .int 13] h (fun x5 h4 => xext h h4 → 1 ≤ fr ∧ 13 ≤ lo ∧ xRi G YX12_take (fr - 1) (lo - 13) [rv x0] h4 (fun x11 h10 => xext h4 h10 → 1 ≤ fr ∧ 15 ≤ lo ∧ xRi G YX12_must (fr - 1) (lo - 15) [rv x0, .int 40] h10 (fun x17 h16 => xext h10 h16 → 1 ≤ fr ∧ 15 ≤ lo ∧ xRi G YX12_node (fr - 1) (lo - 15) [rv x0, .int 21, .int x17] h16 (fun x23 h22 => xext h16 h22 → ((x5 = 0 → bX12_parseRoutine_39 G fr lo x0 x5 x23 0 x23 (fR h22 x0 3106) h22 Q) ∧ (¬ x5 = 0 → bX12_parseRoutine_39 G fr lo x0 x5 x23 1 x23 (fR h22 x0 3106) h22 Q))) (fun r h2 => Q (.threw r) h2)) (fun r h2 => Q (.threw r) h2)) (fun r h2 => Q (.threw r) h2)) (fun r h2 => Q (.threw r) h2)
set_option maxRecDepth 100000 in
theorem uX12_parseRoutine {G : xG} {fr lo : Nat} {x0 : Nat} {h : xH} {Q : Outcome → xH → Prop} (hq : bX12_parseRoutine G fr lo x0 h Q) : xP G YX12_parseRoutine fr lo 0 [(0, rv x0)] [] h Q := by
  unfold bX12_parseRoutine at hq
  refine x_aload_n 0 dX12_parseRoutine_0 rfl ?_
  refine x_bipush (v := 13) dX12_parseRoutine_1 (by decide) ?_
  obtain ⟨g1, hq⟩ := hq
  obtain ⟨g2, g3, hq⟩ := hq
  refine x_callV (Yc := YX12_sees) (as := [.int 13]) (st := []) q3782 mvX12_sees g1 rfl dX12_parseRoutine_3 (xle (xal1 (rv_cat _) (xal1 rfl xal0)) (by decide)) (xfr g2) (xlo xsw0 (by decide) g3) (xKi hq (fun x5 h4 hq e6 => ?_) (fun _ _ q _ => q))
  replace hq := hq e6
  refine x_istore_n (lv' := [(1, .int x5), (0, rv x0)]) dX12_parseRoutine_6 (by decide) (by first | rfl | (simp [rv_cat, Value.category]; done) | (simp [rv_cat, Value.category]; decide)) ?_
  refine x_aload_n 1 dX12_parseRoutine_7 rfl ?_
  have t7 : tg h4 x0 = 13 := e6.tg g1 (by decide)
  obtain ⟨g8, g9, hq⟩ := hq
  refine x_callV (Yc := YX12_take) (as := []) (st := []) q3794 mvX12_take t7 rfl dX12_parseRoutine_8 (xle (xal1 (rv_cat _) xal0) (by decide)) (xfr g8) (xlo xsw0 (by decide) g9) (xKi hq (fun x11 h10 hq e12 => ?_) (fun _ _ q _ => q))
  replace hq := hq e12
  refine x_pop dX12_parseRoutine_11 rfl ?_
  refine x_aload_n 1 dX12_parseRoutine_12 rfl ?_
  refine x_bipush (v := 21) dX12_parseRoutine_13 (by decide) ?_
  refine x_aload_n 1 dX12_parseRoutine_15 rfl ?_
  refine x_bipush (v := 40) dX12_parseRoutine_16 (by decide) ?_
  have t13 : tg h10 x0 = 13 := e12.tg t7 (by decide)
  obtain ⟨g14, g15, hq⟩ := hq
  refine x_callV (Yc := YX12_must) (as := [.int 40]) (st := [.int 21, rv x0]) q3778 mvX12_must t13 rfl dX12_parseRoutine_18 (xle (xal1 (rv_cat _) (xal1 rfl xal0)) (by decide)) (xfr g14) (xlo (xsw1 rfl (xsw1 (rv_cat _) xsw0)) (by decide) g15) (xKi hq (fun x17 h16 hq e18 => ?_) (fun _ _ q _ => q))
  replace hq := hq e18
  have t19 : tg h16 x0 = 13 := e18.tg t13 (by decide)
  obtain ⟨g20, g21, hq⟩ := hq
  refine x_callV (Yc := YX12_node) (as := [.int 21, .int x17]) (st := []) q3798 mvX12_node t19 rfl dX12_parseRoutine_21 (xle (xal1 (rv_cat _) (xal1 rfl (xal1 rfl xal0))) (by decide)) (xfr g20) (xlo xsw0 (by decide) g21) (xKi hq (fun x23 h22 hq e24 => ?_) (fun _ _ q _ => q))
  replace hq := hq e24
  refine x_istore_n (lv' := [(2, .int x23), (1, .int x5), (0, rv x0)]) dX12_parseRoutine_24 (by decide) rfl ?_
  refine x_aload_n 2 dX12_parseRoutine_25 rfl ?_
  have t25 : tg h22 x0 = 13 := e24.tg t19 (by decide)
  refine x_get (v := rv (fR h22 x0 3106)) fdX12_82 dX12_parseRoutine_26 t25 rfl ?_
  refine x_iload_n 0 dX12_parseRoutine_29 rfl ?_
  refine x_iload_n 1 dX12_parseRoutine_30 rfl ?_
  refine x_if_eq (tgt := 38) dX12_parseRoutine_31 (by decide) (fun c26 => ?_) (fun c26 => ?_)
  · replace hq := hq.1 c26
    refine x_iconst (v := 0) dX12_parseRoutine_38 (by decide) ?_
    refine xP.pick (lv' := [(0, rv x0), (1, .int x5), (2, .int x23)]) [2, 1, 0] rfl ?_
    exact uX12_parseRoutine_39 hq
  · replace hq := hq.2 c26
    refine x_iconst (v := 1) dX12_parseRoutine_34 (by decide) ?_
    refine x_goto (tgt := 39) dX12_parseRoutine_35 (by decide) ?_
    refine xP.pick (lv' := [(0, rv x0), (1, .int x5), (2, .int x23)]) [2, 1, 0] rfl ?_
    exact uX12_parseRoutine_39 hq
theorem rX12_parseRoutine {G : xG} {fr lo : Nat} {x0 : Nat} {h : xH} {Q : Outcome → xH → Prop} (hq : bX12_parseRoutine G fr lo x0 h Q) : xR G YX12_parseRoutine fr lo [rv x0] h Q := by
  show xP _ _ _ _ _ (lv_args 0 _) _ _ _
  rw [show lv_args 0 [rv x0] = [(0, rv x0)] from (xla1 (rv_cat _) xla0)]
  exact uX12_parseRoutine hq
set_option maxRecDepth 100000 in
theorem dX12_parseParams_0 : decode cX12_parseParams 0 = .ok (.aload_n 0, 1) := by decide +kernel
set_option maxRecDepth 100000 in
theorem dX12_parseParams_1 : decode cX12_parseParams 1 = .ok (.bipush 22, 2) := by decide +kernel
set_option maxRecDepth 100000 in
theorem dX12_parseParams_3 : decode cX12_parseParams 3 = .ok (.aload_n 0, 1) := by decide +kernel
set_option maxRecDepth 100000 in
theorem dX12_parseParams_4 : decode cX12_parseParams 4 = .ok (.invokevirtual 445, 3) := by decide +kernel
set_option maxRecDepth 100000 in
theorem dX12_parseParams_7 : decode cX12_parseParams 7 = .ok (.invokevirtual 454, 3) := by decide +kernel
set_option maxRecDepth 100000 in
theorem dX12_parseParams_10 : decode cX12_parseParams 10 = .ok (.istore_n 1, 1) := by decide +kernel
set_option maxRecDepth 100000 in
theorem dX12_parseParams_11 : decode cX12_parseParams 11 = .ok (.aload_n 0, 1) := by decide +kernel
set_option maxRecDepth 100000 in
theorem dX12_parseParams_12 : decode cX12_parseParams 12 = .ok (.getfield 82, 3) := by decide +kernel
set_option maxRecDepth 100000 in
theorem dX12_parseParams_15 : decode cX12_parseParams 15 = .ok (.iload_n 1, 1) := by decide +kernel
set_option maxRecDepth 100000 in
theorem dX12_parseParams_16 : decode cX12_parseParams 16 = .ok (.iconst 0, 1) := by decide +kernel
set_option maxRecDepth 100000 in
theorem dX12_parseParams_17 : decode cX12_parseParams 17 = .ok (.iastore, 1) := by decide +kernel
set_option maxRecDepth 100000 in
theorem dX12_parseParams_18 : decode cX12_parseParams 18 = .ok (.aload_n 0, 1) := by decide +kernel
set_option maxRecDepth 100000 in
theorem dX12_parseParams_19 : decode cX12_parseParams 19 = .ok (.bipush 60, 2) := by decide +kernel
set_option maxRecDepth 100000 in
theorem dX12_parseParams_21 : decode cX12_parseParams 21 = .ok (.invokevirtual 439, 3) := by decide +kernel
set_option maxRecDepth 100000 in
theorem dX12_parseParams_24 : decode cX12_parseParams 24 = .ok (.ifCond .ne 5, 3) := by decide +kernel
set_option maxRecDepth 100000 in
theorem dX12_parseParams_27 : decode cX12_parseParams 27 = .ok (.iload_n 1, 1) := by decide +kernel
set_option maxRecDepth 100000 in
theorem dX12_parseParams_28 : decode cX12_parseParams 28 = .ok (.ireturn, 1) := by decide +kernel
set_option maxRecDepth 100000 in
theorem dX12_parseParams_29 : decode cX12_parseParams 29 = .ok (.aload_n 0, 1) := by decide +kernel
set_option maxRecDepth 100000 in
theorem dX12_parseParams_30 : decode cX12_parseParams 30 = .ok (.invokevirtual 472, 3) := by decide +kernel
set_option maxRecDepth 100000 in
theorem dX12_parseParams_33 : decode cX12_parseParams 33 = .ok (.aload_n 0, 1) := by decide +kernel
set_option maxRecDepth 100000 in
theorem dX12_parseParams_34 : decode cX12_parseParams 34 = .ok (.invokevirtual 442, 3) := by decide +kernel
set_option maxRecDepth 100000 in
theorem dX12_parseParams_37 : decode cX12_parseParams 37 = .ok (.pop, 1) := by decide +kernel
set_option maxRecDepth 100000 in
theorem dX12_parseParams_38 : decode cX12_parseParams 38 = .ok (.aload_n 0, 1) := by decide +kernel
set_option maxRecDepth 100000 in
theorem dX12_parseParams_39 : decode cX12_parseParams 39 = .ok (.getfield 82, 3) := by decide +kernel
set_option maxRecDepth 100000 in
theorem dX12_parseParams_42 : decode cX12_parseParams 42 = .ok (.iload_n 1, 1) := by decide +kernel
set_option maxRecDepth 100000 in
theorem dX12_parseParams_43 : decode cX12_parseParams 43 = .ok (.iconst 1, 1) := by decide +kernel
set_option maxRecDepth 100000 in
theorem dX12_parseParams_44 : decode cX12_parseParams 44 = .ok (.iastore, 1) := by decide +kernel
set_option maxRecDepth 100000 in
theorem dX12_parseParams_45 : decode cX12_parseParams 45 = .ok (.aload_n 0, 1) := by decide +kernel
set_option maxRecDepth 100000 in
theorem dX12_parseParams_46 : decode cX12_parseParams 46 = .ok (.iload_n 1, 1) := by decide +kernel
set_option maxRecDepth 100000 in
theorem dX12_parseParams_47 : decode cX12_parseParams 47 = .ok (.aload_n 0, 1) := by decide +kernel
set_option maxRecDepth 100000 in
theorem dX12_parseParams_48 : decode cX12_parseParams 48 = .ok (.invokevirtual 512, 3) := by decide +kernel
set_option maxRecDepth 100000 in
theorem dX12_parseParams_51 : decode cX12_parseParams 51 = .ok (.invokevirtual 460, 3) := by decide +kernel
set_option maxRecDepth 100000 in
theorem dX12_parseParams_54 : decode cX12_parseParams 54 = .ok (.aload_n 0, 1) := by decide +kernel
set_option maxRecDepth 100000 in
theorem dX12_parseParams_55 : decode cX12_parseParams 55 = .ok (.bipush 67, 2) := by decide +kernel
set_option maxRecDepth 100000 in
theorem dX12_parseParams_57 : decode cX12_parseParams 57 = .ok (.invokevirtual 463, 3) := by decide +kernel
set_option maxRecDepth 100000 in
theorem dX12_parseParams_60 : decode cX12_parseParams 60 = .ok (.ifCond .ne (-15), 3) := by decide +kernel
set_option maxRecDepth 100000 in
theorem dX12_parseParams_63 : decode cX12_parseParams 63 = .ok (.aload_n 0, 1) := by decide +kernel
set_option maxRecDepth 100000 in
theorem dX12_parseParams_64 : decode cX12_parseParams 64 = .ok (.bipush 61, 2) := by decide +kernel
set_option maxRecDepth 100000 in
theorem dX12_parseParams_66 : decode cX12_parseParams 66 = .ok (.invokevirtual 457, 3) := by decide +kernel
set_option maxRecDepth 100000 in
theorem dX12_parseParams_69 : decode cX12_parseParams 69 = .ok (.pop, 1) := by decide +kernel
set_option maxRecDepth 100000 in
theorem dX12_parseParams_70 : decode cX12_parseParams 70 = .ok (.aload_n 0, 1) := by decide +kernel
set_option maxRecDepth 100000 in
theorem dX12_parseParams_71 : decode cX12_parseParams 71 = .ok (.dup, 1) := by decide +kernel
set_option maxRecDepth 100000 in
theorem dX12_parseParams_72 : decode cX12_parseParams 72 = .ok (.getfield 451, 3) := by decide +kernel
set_option maxRecDepth 100000 in
theorem dX12_parseParams_75 : decode cX12_parseParams 75 = .ok (.iconst 1, 1) := by decide +kernel
set_option maxRecDepth 100000 in
theorem dX12_parseParams_76 : decode cX12_parseParams 76 = .ok (.isub, 1) := by decide +kernel
set_option maxRecDepth 100000 in
theorem dX12_parseParams_77 : decode cX12_parseParams 77 = .ok (.putfield 451, 3) := by decide +kernel
set_option maxRecDepth 100000 in
theorem dX12_parseParams_80 : decode cX12_parseParams 80 = .ok (.iload_n 1, 1) := by decide +kernel
set_option maxRecDepth 100000 in
theorem dX12_parseParams_81 : decode cX12_parseParams 81 = .ok (.ireturn, 1) := by decide +kernel
def lX12_parseParams_45 (G : xG) (fr lo : Nat) (x0 : Nat) (x1 : Int32) (h : xH) (Q : Outcome → xH → Prop) : Prop := xP G YX12_parseParams fr lo 45 [(0, rv x0), (1, .int x1)] [] h Q
set_option maxRecDepth 100000 in
def bX12_parseParams_45 (G : xG) (fr lo : Nat) (x0 : Nat) (x1 : Int32) (h : xH) (Q : Outcome → xH → Prop) : Prop := tg h x0 = 13 ∧ 1 ≤ fr ∧ 15 ≤ lo ∧ xRi G YX12_parseGroup (fr - 1) (lo - 15) [rv x0] h (fun x5 h4 => xext h h4 → 1 ≤ fr ∧ 14 ≤ lo ∧ xRv G YX12_add (fr - 1) (lo - 14) [rv x0, .int x1, .int x5] h4 (fun h10 => xext h4 h10 → 1 ≤ fr ∧ 13 ≤ lo ∧ xRi G YX12_takes (fr - 1) (lo - 13) [rv x0, .int 67] h10 (fun x17 h16 => xext h10 h16 → ((¬ x17 = 0 → lX12_parseParams_45 G fr lo x0 x1 h16 Q) ∧ (x17 = 0 → 1 ≤ fr ∧ 13 ≤ lo ∧ xRi G YX12_must (fr - 1) (lo - 13) [rv x0, .int 61] h16 (fun x24 h23 => xext h16 h23 → (∀ h27 : xH, h27 = sI h23 x0 3111 ((fI h23 x0 3111) - 1) → Q (.returned (some (.int x1))) h27)) (fun r h2 => Q (.threw r) h2)))) (fun r h2 => Q (.threw r) h2)) (fun r h2 => Q (.threw r) h2)) (fun r h2 => Q (.threw r) h2)
set_option maxRecDepth 100000 in
theorem uX12_parseParams_45 {G : xG} {fr lo : Nat} {x0 : Nat} {x1 : Int32} {h : xH} {Q : Outcome → xH → Prop} (hq : bX12_parseParams_45 G fr lo x0 x1 h Q) : xP G YX12_parseParams fr lo 45 [(0, rv x0), (1, .int x1)] [] h Q := by
  unfold bX12_parseParams_45 at hq
  refine x_aload_n 0 dX12_parseParams_45 rfl ?_
  refine x_iload_n 1 dX12_parseParams_46 rfl ?_
  refine x_aload_n 0 dX12_parseParams_47 rfl ?_
  obtain ⟨g1, hq⟩ := hq
  obtain ⟨g2, g3, hq⟩ := hq
  refine x_callV (Yc := YX12_parseGroup) (as := []) (st := [.int x1, rv x0]) q3862 mvX12_parseGroup g1 rfl dX12_parseParams_48 (xle (xal1 (rv_cat _) xal0) (by decide)) (xfr g2) (xlo (xsw1 rfl (xsw1 (rv_cat _) xsw0)) (by decide) g3) (xKi hq (fun x5 h4 hq e6 => ?_) (fun _ _ q _ => q))
  replace hq := hq e6
  have t7 : tg h4 x0 = 13 := e6.tg g1 (by decide)
  obtain ⟨g8, g9, hq⟩ := hq
  refine x_callV (Yc := YX12_add) (as := [.int x1, .int x5]) (st := []) q3810 mvX12_add t7 rfl dX12_parseParams_51 (xle (xal1 (rv_cat _) (xal1 rfl (xal1 rfl xal0))) (by decide)) (xfr g8) (xlo xsw0 (by decide) g9) (xKv hq (fun h10 hq e12 => ?_) (fun _ _ q _ => q))
  replace hq := hq e12
  refine x_aload_n 0 dX12_parseParams_54 rfl ?_
  refine x_bipush (v := 67) dX12_parseParams_55 (by decide) ?_
  have t13 : tg h10 x0 = 13 := e12.tg t7 (by decide)
  obtain ⟨g14, g15, hq⟩ := hq
  refine x_callV (Yc := YX12_takes) (as := [.int 67]) (st := []) q3802 mvX12_takes t13 rfl dX12_parseParams_57 (xle (xal1 (rv_cat _) (xal1 rfl xal0)) (by decide)) (xfr g14) (xlo xsw0 (by decide) g15) (xKi hq (fun x17 h16 hq e18 => ?_) (fun _ _ q _ => q))
  replace hq := hq e18
  refine x_if_ne (tgt := 45) dX12_parseParams_60 (by decide) (fun c19 => ?_) (fun c19 => ?_)
  · replace hq := hq.1 c19
    exact hq
  · replace hq := hq.2 c19
    refine x_aload_n 0 dX12_parseParams_63 rfl ?_
    refine x_bipush (v := 61) dX12_parseParams_64 (by decide) ?_
    have t20 : tg h16 x0 = 13 := e18.tg t13 (by decide)
    obtain ⟨g21, g22, hq⟩ := hq
    refine x_callV (Yc := YX12_must) (as := [.int 61]) (st := []) q3778 mvX12_must t20 rfl dX12_parseParams_66 (xle (xal1 (rv_cat _) (xal1 rfl xal0)) (by decide)) (xfr g21) (xlo xsw0 (by decide) g22) (xKi hq (fun x24 h23 hq e25 => ?_) (fun _ _ q _ => q))
    replace hq := hq e25
    refine x_pop dX12_parseParams_69 rfl ?_
    refine x_aload_n 0 dX12_parseParams_70 rfl ?_
    refine x_dup dX12_parseParams_71 (rv_cat _) ?_
    have t26 : tg h23 x0 = 13 := e25.tg t20 (by decide)
    refine x_get (v := .int (fI h23 x0 3111)) fdX12_451 dX12_parseParams_72 t26 rfl ?_
    refine x_iconst (v := 1) dX12_parseParams_75 (by decide) ?_
    refine x_isub dX12_parseParams_76 ?_
    obtain ⟨h27, e28⟩ : ∃ y, y = sI h23 x0 3111 ((fI h23 x0 3111) - 1) := ⟨_, rfl⟩
    replace hq := hq h27 e28
    refine x_putI fdX12_451 xty_I1 dX12_parseParams_77 t26 (Or.inl (by rw [t26]; rfl)) xnI rfl e28 ?_
    refine x_iload_n 1 dX12_parseParams_80 rfl ?_
    exact x_iret rfl rfl dX12_parseParams_81 hq
set_option maxRecDepth 100000 in
def bX12_parseParams (G : xG) (fr lo : Nat) (x0 : Nat) (h : xH) (Q : Outcome → xH → Prop) : Prop := tg h x0 = 13 ∧ 1 ≤ fr ∧ 14 ≤ lo ∧ xRi G YX12_now (fr - 1) (lo - 14) [rv x0] h (fun x5 h4 => xext h h4 → 1 ≤ fr ∧ 15 ≤ lo ∧ xRi G YX12_node (fr - 1) (lo - 15) [rv x0, .int 22, .int x5] h4 (fun x11 h10 => xext h4 h10 → tg h10 (fR h10 x0 3106) = 100 ∧ vp_in x11 (ln h10 (fR h10 x0 3106)) ∧ (∀ h16 : xH, h16 = tI h10 (fR h10 x0 3106) (Int32.toNatClampNeg x11) 0 → 1 ≤ fr ∧ 13 ≤ lo ∧ xRi G YX12_sees (fr - 1) (lo - 13) [rv x0, .int 60] h16 (fun x22 h21 => xext h16 h21 → ((¬ x22 = 0 → 1 ≤ fr ∧ 12 ≤ lo ∧ xRv G YX12_enter (fr - 1) (lo - 12) [rv x0] h21 (fun h28 => xext h21 h28 → 1 ≤ fr ∧ 13 ≤ lo ∧ xRi G YX12_take (fr - 1) (lo - 13) [rv x0] h28 (fun x35 h34 => xext h28 h34 → tg h34 (fR h34 x0 3106) = 100 ∧ vp_in x11 (ln h34 (fR h34 x0 3106)) ∧ (∀ h40 : xH, h40 = tI h34 (fR h34 x0 3106) (Int32.toNatClampNeg x11) 1 → lX12_parseParams_45 G fr lo x0 x11 h40 Q)) (fun r h2 => Q (.threw r) h2)) (fun r h2 => Q (.threw r) h2)) ∧ (x22 = 0 → Q (.returned (some (.int x11))) h21))) (fun r h2 => Q (.threw r) h2))) (fun r h2 => Q (.threw r) h2)) (fun r h2 => Q (.threw r) h2)
set_option maxRecDepth 100000 in
theorem uX12_parseParams {G : xG} {fr lo : Nat} {x0 : Nat} {h : xH} {Q : Outcome → xH → Prop} (hq : bX12_parseParams G fr lo x0 h Q) : xP G YX12_parseParams fr lo 0 [(0, rv x0)] [] h Q := by
  unfold bX12_parseParams at hq
  refine x_aload_n 0 dX12_parseParams_0 rfl ?_
  refine x_bipush (v := 22) dX12_parseParams_1 (by decide) ?_
  refine x_aload_n 0 dX12_parseParams_3 rfl ?_
  obtain ⟨g1, hq⟩ := hq
  obtain ⟨g2, g3, hq⟩ := hq
  refine x_callV (Yc := YX12_now) (as := []) (st := [.int 22, rv x0]) q3790 mvX12_now g1 rfl dX12_parseParams_4 (xle (xal1 (rv_cat _) xal0) (by decide)) (xfr g2) (xlo (xsw1 rfl (xsw1 (rv_cat _) xsw0)) (by decide) g3) (xKi hq (fun x5 h4 hq e6 => ?_) (fun _ _ q _ => q))
  replace hq := hq e6
  have t7 : tg h4 x0 = 13 := e6.tg g1 (by decide)
  obtain ⟨g8, g9, hq⟩ := hq
  refine x_callV (Yc := YX12_node) (as := [.int 22, .int x5]) (st := []) q3798 mvX12_node t7 rfl dX12_parseParams_7 (xle (xal1 (rv_cat _) (xal1 rfl (xal1 rfl xal0))) (by decide)) (xfr g8) (xlo xsw0 (by decide) g9) (xKi hq (fun x11 h10 hq e12 => ?_) (fun _ _ q _ => q))
  replace hq := hq e12
  refine x_istore_n (lv' := [(1, .int x11), (0, rv x0)]) dX12_parseParams_10 (by decide) (by first | rfl | (simp [rv_cat, Value.category]; done) | (simp [rv_cat, Value.category]; decide)) ?_
  refine x_aload_n 1 dX12_parseParams_11 rfl ?_
  have t13 : tg h10 x0 = 13 := e12.tg t7 (by decide)
  refine x_get (v := rv (fR h10 x0 3106)) fdX12_82 dX12_parseParams_12 t13 rfl ?_
  refine x_iload_n 0 dX12_parseParams_15 rfl ?_
  refine x_iconst (v := 0) dX12_parseParams_16 (by decide) ?_
  obtain ⟨g14, hq⟩ := hq
  obtain ⟨i15, hq⟩ := hq
  obtain ⟨h16, e17⟩ : ∃ y, y = tI h10 (fR h10 x0 3106) (Int32.toNatClampNeg x11) 0 := ⟨_, rfl⟩
  replace hq := hq h16 e17
  refine x_iast' g14 i15 dX12_parseParams_17 e17 ?_
  refine x_aload_n 1 dX12_parseParams_18 rfl ?_
  refine x_bipush (v := 60) dX12_parseParams_19 (by decide) ?_
  have t18 : tg h16 x0 = 13 := by rw [e17]; exact t13
  obtain ⟨g19, g20, hq⟩ := hq
  refine x_callV (Yc := YX12_sees) (as := [.int 60]) (st := []) q3782 mvX12_sees t18 rfl dX12_parseParams_21 (xle (xal1 (rv_cat _) (xal1 rfl xal0)) (by decide)) (xfr g19) (xlo xsw0 (by decide) g20) (xKi hq (fun x22 h21 hq e23 => ?_) (fun _ _ q _ => q))
  replace hq := hq e23
  refine x_if_ne (tgt := 29) dX12_parseParams_24 (by decide) (fun c24 => ?_) (fun c24 => ?_)
  · replace hq := hq.1 c24
    refine x_aload_n 1 dX12_parseParams_29 rfl ?_
    have t25 : tg h21 x0 = 13 := e23.tg t18 (by decide)
    obtain ⟨g26, g27, hq⟩ := hq
    refine x_callV (Yc := YX12_enter) (as := []) (st := []) q3818 mvX12_enter t25 rfl dX12_parseParams_30 (xle (xal1 (rv_cat _) xal0) (by decide)) (xfr g26) (xlo xsw0 (by decide) g27) (xKv hq (fun h28 hq e30 => ?_) (fun _ _ q _ => q))
    replace hq := hq e30
    refine x_aload_n 1 dX12_parseParams_33 rfl ?_
    have t31 : tg h28 x0 = 13 := e30.tg t25 (by decide)
    obtain ⟨g32, g33, hq⟩ := hq
    refine x_callV (Yc := YX12_take) (as := []) (st := []) q3794 mvX12_take t31 rfl dX12_parseParams_34 (xle (xal1 (rv_cat _) xal0) (by decide)) (xfr g32) (xlo xsw0 (by decide) g33) (xKi hq (fun x35 h34 hq e36 => ?_) (fun _ _ q _ => q))
    replace hq := hq e36
    refine x_pop dX12_parseParams_37 rfl ?_
    refine x_aload_n 1 dX12_parseParams_38 rfl ?_
    have t37 : tg h34 x0 = 13 := e36.tg t31 (by decide)
    refine x_get (v := rv (fR h34 x0 3106)) fdX12_82 dX12_parseParams_39 t37 rfl ?_
    refine x_iload_n 0 dX12_parseParams_42 rfl ?_
    refine x_iconst (v := 1) dX12_parseParams_43 (by decide) ?_
    obtain ⟨g38, hq⟩ := hq
    obtain ⟨i39, hq⟩ := hq
    obtain ⟨h40, e41⟩ : ∃ y, y = tI h34 (fR h34 x0 3106) (Int32.toNatClampNeg x11) 1 := ⟨_, rfl⟩
    replace hq := hq h40 e41
    refine x_iast' g38 i39 dX12_parseParams_44 e41 ?_
    refine xP.pick (lv' := [(0, rv x0), (1, .int x11)]) [1, 0] rfl ?_
    exact hq
  · replace hq := hq.2 c24
    refine x_iload_n 0 dX12_parseParams_27 rfl ?_
    exact x_iret rfl rfl dX12_parseParams_28 hq
theorem rX12_parseParams {G : xG} {fr lo : Nat} {x0 : Nat} {h : xH} {Q : Outcome → xH → Prop} (hq : bX12_parseParams G fr lo x0 h Q) : xR G YX12_parseParams fr lo [rv x0] h Q := by
  show xP _ _ _ _ _ (lv_args 0 _) _ _ _
  rw [show lv_args 0 [rv x0] = [(0, rv x0)] from (xla1 (rv_cat _) xla0)]
  exact uX12_parseParams hq
set_option maxRecDepth 100000 in
theorem dX12_parseGroup_0 : decode cX12_parseGroup 0 = .ok (.aload_n 0, 1) := by decide +kernel
set_option maxRecDepth 100000 in
theorem dX12_parseGroup_1 : decode cX12_parseGroup 1 = .ok (.bipush 23, 2) := by decide +kernel
set_option maxRecDepth 100000 in
theorem dX12_parseGroup_3 : decode cX12_parseGroup 3 = .ok (.aload_n 0, 1) := by decide +kernel
set_option maxRecDepth 100000 in
theorem dX12_parseGroup_4 : decode cX12_parseGroup 4 = .ok (.invokevirtual 445, 3) := by decide +kernel
set_option maxRecDepth 100000 in
theorem dX12_parseGroup_7 : decode cX12_parseGroup 7 = .ok (.invokevirtual 454, 3) := by decide +kernel
set_option maxRecDepth 100000 in
theorem dX12_parseGroup_10 : decode cX12_parseGroup 10 = .ok (.istore_n 1, 1) := by decide +kernel
set_option maxRecDepth 100000 in
theorem dX12_parseGroup_11 : decode cX12_parseGroup 11 = .ok (.aload_n 0, 1) := by decide +kernel
set_option maxRecDepth 100000 in
theorem dX12_parseGroup_12 : decode cX12_parseGroup 12 = .ok (.bipush 24, 2) := by decide +kernel
set_option maxRecDepth 100000 in
theorem dX12_parseGroup_14 : decode cX12_parseGroup 14 = .ok (.invokevirtual 439, 3) := by decide +kernel
set_option maxRecDepth 100000 in
theorem dX12_parseGroup_17 : decode cX12_parseGroup 17 = .ok (.ifCond .ne 12, 3) := by decide +kernel
set_option maxRecDepth 100000 in
theorem dX12_parseGroup_20 : decode cX12_parseGroup 20 = .ok (.aload_n 0, 1) := by decide +kernel
set_option maxRecDepth 100000 in
theorem dX12_parseGroup_21 : decode cX12_parseGroup 21 = .ok (.bipush 13, 2) := by decide +kernel
set_option maxRecDepth 100000 in
theorem dX12_parseGroup_23 : decode cX12_parseGroup 23 = .ok (.invokevirtual 439, 3) := by decide +kernel
set_option maxRecDepth 100000 in
theorem dX12_parseGroup_26 : decode cX12_parseGroup 26 = .ok (.ifCond .eq 102, 3) := by decide +kernel
set_option maxRecDepth 100000 in
theorem dX12_parseGroup_29 : decode cX12_parseGroup 29 = .ok (.aload_n 0, 1) := by decide +kernel
set_option maxRecDepth 100000 in
theorem dX12_parseGroup_30 : decode cX12_parseGroup 30 = .ok (.getfield 82, 3) := by decide +kernel
set_option maxRecDepth 100000 in
theorem dX12_parseGroup_33 : decode cX12_parseGroup 33 = .ok (.iload_n 1, 1) := by decide +kernel
set_option maxRecDepth 100000 in
theorem dX12_parseGroup_34 : decode cX12_parseGroup 34 = .ok (.aload_n 0, 1) := by decide +kernel
set_option maxRecDepth 100000 in
theorem dX12_parseGroup_35 : decode cX12_parseGroup 35 = .ok (.bipush 13, 2) := by decide +kernel
set_option maxRecDepth 100000 in
theorem dX12_parseGroup_37 : decode cX12_parseGroup 37 = .ok (.invokevirtual 439, 3) := by decide +kernel
set_option maxRecDepth 100000 in
theorem dX12_parseGroup_40 : decode cX12_parseGroup 40 = .ok (.ifCond .eq 7, 3) := by decide +kernel
set_option maxRecDepth 100000 in
theorem dX12_parseGroup_43 : decode cX12_parseGroup 43 = .ok (.iconst 3, 1) := by decide +kernel
set_option maxRecDepth 100000 in
theorem dX12_parseGroup_44 : decode cX12_parseGroup 44 = .ok (.goto 4, 3) := by decide +kernel
set_option maxRecDepth 100000 in
theorem dX12_parseGroup_47 : decode cX12_parseGroup 47 = .ok (.iconst 2, 1) := by decide +kernel
set_option maxRecDepth 100000 in
theorem dX12_parseGroup_48 : decode cX12_parseGroup 48 = .ok (.iastore, 1) := by decide +kernel
set_option maxRecDepth 100000 in
theorem dX12_parseGroup_49 : decode cX12_parseGroup 49 = .ok (.aload_n 0, 1) := by decide +kernel
set_option maxRecDepth 100000 in
theorem dX12_parseGroup_50 : decode cX12_parseGroup 50 = .ok (.invokevirtual 442, 3) := by decide +kernel
set_option maxRecDepth 100000 in
theorem dX12_parseGroup_53 : decode cX12_parseGroup 53 = .ok (.pop, 1) := by decide +kernel
set_option maxRecDepth 100000 in
theorem dX12_parseGroup_54 : decode cX12_parseGroup 54 = .ok (.aload_n 0, 1) := by decide +kernel
set_option maxRecDepth 100000 in
theorem dX12_parseGroup_55 : decode cX12_parseGroup 55 = .ok (.getfield 70, 3) := by decide +kernel
set_option maxRecDepth 100000 in
theorem dX12_parseGroup_58 : decode cX12_parseGroup 58 = .ok (.iload_n 1, 1) := by decide +kernel
set_option maxRecDepth 100000 in
theorem dX12_parseGroup_59 : decode cX12_parseGroup 59 = .ok (.aload_n 0, 1) := by decide +kernel
set_option maxRecDepth 100000 in
theorem dX12_parseGroup_60 : decode cX12_parseGroup 60 = .ok (.bipush 40, 2) := by decide +kernel
set_option maxRecDepth 100000 in
theorem dX12_parseGroup_62 : decode cX12_parseGroup 62 = .ok (.invokevirtual 457, 3) := by decide +kernel
set_option maxRecDepth 100000 in
theorem dX12_parseGroup_65 : decode cX12_parseGroup 65 = .ok (.iastore, 1) := by decide +kernel
set_option maxRecDepth 100000 in
theorem dX12_parseGroup_66 : decode cX12_parseGroup 66 = .ok (.aload_n 0, 1) := by decide +kernel
set_option maxRecDepth 100000 in
theorem dX12_parseGroup_67 : decode cX12_parseGroup 67 = .ok (.iload_n 1, 1) := by decide +kernel
set_option maxRecDepth 100000 in
theorem dX12_parseGroup_68 : decode cX12_parseGroup 68 = .ok (.aload_n 0, 1) := by decide +kernel
set_option maxRecDepth 100000 in
theorem dX12_parseGroup_69 : decode cX12_parseGroup 69 = .ok (.invokevirtual 506, 3) := by decide +kernel
set_option maxRecDepth 100000 in
theorem dX12_parseGroup_72 : decode cX12_parseGroup 72 = .ok (.invokevirtual 460, 3) := by decide +kernel
set_option maxRecDepth 100000 in
theorem dX12_parseGroup_75 : decode cX12_parseGroup 75 = .ok (.aload_n 0, 1) := by decide +kernel
set_option maxRecDepth 100000 in
theorem dX12_parseGroup_76 : decode cX12_parseGroup 76 = .ok (.getfield 82, 3) := by decide +kernel
set_option maxRecDepth 100000 in
theorem dX12_parseGroup_79 : decode cX12_parseGroup 79 = .ok (.iload_n 1, 1) := by decide +kernel
set_option maxRecDepth 100000 in
theorem dX12_parseGroup_80 : decode cX12_parseGroup 80 = .ok (.iaload, 1) := by decide +kernel
set_option maxRecDepth 100000 in
theorem dX12_parseGroup_81 : decode cX12_parseGroup 81 = .ok (.iconst 3, 1) := by decide +kernel
set_option maxRecDepth 100000 in
theorem dX12_parseGroup_82 : decode cX12_parseGroup 82 = .ok (.if_icmp .ne 29, 3) := by decide +kernel
set_option maxRecDepth 100000 in
theorem dX12_parseGroup_85 : decode cX12_parseGroup 85 = .ok (.aload_n 0, 1) := by decide +kernel
set_option maxRecDepth 100000 in
theorem dX12_parseGroup_86 : decode cX12_parseGroup 86 = .ok (.bipush 68, 2) := by decide +kernel
set_option maxRecDepth 100000 in
theorem dX12_parseGroup_88 : decode cX12_parseGroup 88 = .ok (.invokevirtual 457, 3) := by decide +kernel
set_option maxRecDepth 100000 in
theorem dX12_parseGroup_91 : decode cX12_parseGroup 91 = .ok (.pop, 1) := by decide +kernel
set_option maxRecDepth 100000 in
theorem dX12_parseGroup_92 : decode cX12_parseGroup 92 = .ok (.aload_n 0, 1) := by decide +kernel
set_option maxRecDepth 100000 in
theorem dX12_parseGroup_93 : decode cX12_parseGroup 93 = .ok (.iload_n 1, 1) := by decide +kernel
set_option maxRecDepth 100000 in
theorem dX12_parseGroup_94 : decode cX12_parseGroup 94 = .ok (.aload_n 0, 1) := by decide +kernel
set_option maxRecDepth 100000 in
theorem dX12_parseGroup_95 : decode cX12_parseGroup 95 = .ok (.iconst 4, 1) := by decide +kernel
set_option maxRecDepth 100000 in
theorem dX12_parseGroup_96 : decode cX12_parseGroup 96 = .ok (.aload_n 0, 1) := by decide +kernel
set_option maxRecDepth 100000 in
theorem dX12_parseGroup_97 : decode cX12_parseGroup 97 = .ok (.bipush 40, 2) := by decide +kernel
set_option maxRecDepth 100000 in
theorem dX12_parseGroup_99 : decode cX12_parseGroup 99 = .ok (.invokevirtual 457, 3) := by decide +kernel
set_option maxRecDepth 100000 in
theorem dX12_parseGroup_102 : decode cX12_parseGroup 102 = .ok (.invokevirtual 454, 3) := by decide +kernel
set_option maxRecDepth 100000 in
theorem dX12_parseGroup_105 : decode cX12_parseGroup 105 = .ok (.invokevirtual 460, 3) := by decide +kernel
set_option maxRecDepth 100000 in
theorem dX12_parseGroup_108 : decode cX12_parseGroup 108 = .ok (.goto 18, 3) := by decide +kernel
set_option maxRecDepth 100000 in
theorem dX12_parseGroup_111 : decode cX12_parseGroup 111 = .ok (.aload_n 0, 1) := by decide +kernel
set_option maxRecDepth 100000 in
theorem dX12_parseGroup_112 : decode cX12_parseGroup 112 = .ok (.iload_n 1, 1) := by decide +kernel
set_option maxRecDepth 100000 in
theorem dX12_parseGroup_113 : decode cX12_parseGroup 113 = .ok (.aload_n 0, 1) := by decide +kernel
set_option maxRecDepth 100000 in
theorem dX12_parseGroup_114 : decode cX12_parseGroup 114 = .ok (.bipush 8, 2) := by decide +kernel
set_option maxRecDepth 100000 in
theorem dX12_parseGroup_116 : decode cX12_parseGroup 116 = .ok (.aload_n 0, 1) := by decide +kernel
set_option maxRecDepth 100000 in
theorem dX12_parseGroup_117 : decode cX12_parseGroup 117 = .ok (.invokevirtual 445, 3) := by decide +kernel
set_option maxRecDepth 100000 in
theorem dX12_parseGroup_120 : decode cX12_parseGroup 120 = .ok (.invokevirtual 454, 3) := by decide +kernel
set_option maxRecDepth 100000 in
theorem dX12_parseGroup_123 : decode cX12_parseGroup 123 = .ok (.invokevirtual 460, 3) := by decide +kernel
set_option maxRecDepth 100000 in
theorem dX12_parseGroup_126 : decode cX12_parseGroup 126 = .ok (.iload_n 1, 1) := by decide +kernel
set_option maxRecDepth 100000 in
theorem dX12_parseGroup_127 : decode cX12_parseGroup 127 = .ok (.ireturn, 1) := by decide +kernel
set_option maxRecDepth 100000 in
theorem dX12_parseGroup_128 : decode cX12_parseGroup 128 = .ok (.aload_n 0, 1) := by decide +kernel
set_option maxRecDepth 100000 in
theorem dX12_parseGroup_129 : decode cX12_parseGroup 129 = .ok (.getfield 82, 3) := by decide +kernel
set_option maxRecDepth 100000 in
theorem dX12_parseGroup_132 : decode cX12_parseGroup 132 = .ok (.iload_n 1, 1) := by decide +kernel
set_option maxRecDepth 100000 in
theorem dX12_parseGroup_133 : decode cX12_parseGroup 133 = .ok (.aload_n 0, 1) := by decide +kernel
set_option maxRecDepth 100000 in
theorem dX12_parseGroup_134 : decode cX12_parseGroup 134 = .ok (.bipush 33, 2) := by decide +kernel
set_option maxRecDepth 100000 in
theorem dX12_parseGroup_136 : decode cX12_parseGroup 136 = .ok (.invokevirtual 463, 3) := by decide +kernel
set_option maxRecDepth 100000 in
theorem dX12_parseGroup_139 : decode cX12_parseGroup 139 = .ok (.ifCond .eq 7, 3) := by decide +kernel
set_option maxRecDepth 100000 in
theorem dX12_parseGroup_142 : decode cX12_parseGroup 142 = .ok (.iconst 1, 1) := by decide +kernel
set_option maxRecDepth 100000 in
theorem dX12_parseGroup_143 : decode cX12_parseGroup 143 = .ok (.goto 4, 3) := by decide +kernel
set_option maxRecDepth 100000 in
theorem dX12_parseGroup_146 : decode cX12_parseGroup 146 = .ok (.iconst 0, 1) := by decide +kernel
set_option maxRecDepth 100000 in
theorem dX12_parseGroup_147 : decode cX12_parseGroup 147 = .ok (.iastore, 1) := by decide +kernel
set_option maxRecDepth 100000 in
theorem dX12_parseGroup_148 : decode cX12_parseGroup 148 = .ok (.aload_n 0, 1) := by decide +kernel
set_option maxRecDepth 100000 in
theorem dX12_parseGroup_149 : decode cX12_parseGroup 149 = .ok (.iload_n 1, 1) := by decide +kernel
set_option maxRecDepth 100000 in
theorem dX12_parseGroup_150 : decode cX12_parseGroup 150 = .ok (.aload_n 0, 1) := by decide +kernel
set_option maxRecDepth 100000 in
theorem dX12_parseGroup_151 : decode cX12_parseGroup 151 = .ok (.invokevirtual 466, 3) := by decide +kernel
set_option maxRecDepth 100000 in
theorem dX12_parseGroup_154 : decode cX12_parseGroup 154 = .ok (.invokevirtual 460, 3) := by decide +kernel
set_option maxRecDepth 100000 in
theorem dX12_parseGroup_157 : decode cX12_parseGroup 157 = .ok (.aload_n 0, 1) := by decide +kernel
set_option maxRecDepth 100000 in
theorem dX12_parseGroup_158 : decode cX12_parseGroup 158 = .ok (.bipush 68, 2) := by decide +kernel
set_option maxRecDepth 100000 in
theorem dX12_parseGroup_160 : decode cX12_parseGroup 160 = .ok (.invokevirtual 457, 3) := by decide +kernel
set_option maxRecDepth 100000 in
theorem dX12_parseGroup_163 : decode cX12_parseGroup 163 = .ok (.pop, 1) := by decide +kernel
set_option maxRecDepth 100000 in
theorem dX12_parseGroup_164 : decode cX12_parseGroup 164 = .ok (.aload_n 0, 1) := by decide +kernel
set_option maxRecDepth 100000 in
theorem dX12_parseGroup_165 : decode cX12_parseGroup 165 = .ok (.iload_n 1, 1) := by decide +kernel
set_option maxRecDepth 100000 in
theorem dX12_parseGroup_166 : decode cX12_parseGroup 166 = .ok (.aload_n 0, 1) := by decide +kernel
set_option maxRecDepth 100000 in
theorem dX12_parseGroup_167 : decode cX12_parseGroup 167 = .ok (.iconst 4, 1) := by decide +kernel
set_option maxRecDepth 100000 in
theorem dX12_parseGroup_168 : decode cX12_parseGroup 168 = .ok (.aload_n 0, 1) := by decide +kernel
set_option maxRecDepth 100000 in
theorem dX12_parseGroup_169 : decode cX12_parseGroup 169 = .ok (.bipush 40, 2) := by decide +kernel
set_option maxRecDepth 100000 in
theorem dX12_parseGroup_171 : decode cX12_parseGroup 171 = .ok (.invokevirtual 457, 3) := by decide +kernel
set_option maxRecDepth 100000 in
theorem dX12_parseGroup_174 : decode cX12_parseGroup 174 = .ok (.invokevirtual 454, 3) := by decide +kernel
set_option maxRecDepth 100000 in
theorem dX12_parseGroup_177 : decode cX12_parseGroup 177 = .ok (.invokevirtual 460, 3) := by decide +kernel
set_option maxRecDepth 100000 in
theorem dX12_parseGroup_180 : decode cX12_parseGroup 180 = .ok (.iload_n 1, 1) := by decide +kernel
set_option maxRecDepth 100000 in
theorem dX12_parseGroup_181 : decode cX12_parseGroup 181 = .ok (.ireturn, 1) := by decide +kernel
set_option maxRecDepth 100000 in
def bX12_parseGroup_147 (G : xG) (fr lo : Nat) (x0 : Nat) (x1 : Int32) (s0 : Int32) (s1 : Int32) (s2 : Nat) (h : xH) (Q : Outcome → xH → Prop) : Prop := tg h s2 = 100 ∧ vp_in s1 (ln h s2) ∧ (∀ h3 : xH, h3 = tI h s2 (Int32.toNatClampNeg s1) s0 → tg h3 x0 = 13 ∧ 1 ≤ fr ∧ 16 ≤ lo ∧ xRi G YX12_parseNames (fr - 1) (lo - 16) [rv x0] h3 (fun x9 h8 => xext h3 h8 → 1 ≤ fr ∧ 14 ≤ lo ∧ xRv G YX12_add (fr - 1) (lo - 14) [rv x0, .int x1, .int x9] h8 (fun h14 => xext h8 h14 → 1 ≤ fr ∧ 13 ≤ lo ∧ xRi G YX12_must (fr - 1) (lo - 13) [rv x0, .int 68] h14 (fun x21 h20 => xext h14 h20 → 1 ≤ fr ∧ 17 ≤ lo ∧ xRi G YX12_must (fr - 1) (lo - 17) [rv x0, .int 40] h20 (fun x27 h26 => xext h20 h26 → 1 ≤ fr ∧ 17 ≤ lo ∧ xRi G YX12_node (fr - 1) (lo - 17) [rv x0, .int 4, .int x27] h26 (fun x33 h32 => xext h26 h32 → 1 ≤ fr ∧ 14 ≤ lo ∧ xRv G YX12_add (fr - 1) (lo - 14) [rv x0, .int x1, .int x33] h32 (fun h38 => xext h32 h38 → Q (.returned (some (.int x1))) h38) (fun r h2 => Q (.threw r) h2)) (fun r h2 => Q (.threw r) h2)) (fun r h2 => Q (.threw r) h2)) (fun r h2 => Q (.threw r) h2)) (fun r h2 => Q (.threw r) h2)) (fun r h2 => Q (.threw r) h2))
set_option maxRecDepth 100000 in
theorem uX12_parseGroup_147 {G : xG} {fr lo : Nat} {x0 : Nat} {x1 : Int32} {s0 : Int32} {s1 : Int32} {s2 : Nat} {h : xH} {Q : Outcome → xH → Prop} (hq : bX12_parseGroup_147 G fr lo x0 x1 s0 s1 s2 h Q) : xP G YX12_parseGroup fr lo 147 [(0, rv x0), (1, .int x1)] [.int s0, .int s1, rv s2] h Q := by
  unfold bX12_parseGroup_147 at hq
  obtain ⟨g1, hq⟩ := hq
  obtain ⟨i2, hq⟩ := hq
  obtain ⟨h3, e4⟩ : ∃ y, y = tI h s2 (Int32.toNatClampNeg s1) s0 := ⟨_, rfl⟩
  replace hq := hq h3 e4
  refine x_iast' g1 i2 dX12_parseGroup_147 e4 ?_
  refine x_aload_n 0 dX12_parseGroup_148 rfl ?_
  refine x_iload_n 1 dX12_parseGroup_149 rfl ?_
  refine x_aload_n 0 dX12_parseGroup_150 rfl ?_
  obtain ⟨g5, hq⟩ := hq
  obtain ⟨g6, g7, hq⟩ := hq
  refine x_callV (Yc := YX12_parseNames) (as := []) (st := [.int x1, rv x0]) q3806 mvX12_parseNames g5 rfl dX12_parseGroup_151 (xle (xal1 (rv_cat _) xal0) (by decide)) (xfr g6) (xlo (xsw1 rfl (xsw1 (rv_cat _) xsw0)) (by decide) g7) (xKi hq (fun x9 h8 hq e10 => ?_) (fun _ _ q _ => q))
  replace hq := hq e10
  have t11 : tg h8 x0 = 13 := e10.tg g5 (by decide)
  obtain ⟨g12, g13, hq⟩ := hq
  refine x_callV (Yc := YX12_add) (as := [.int x1, .int x9]) (st := []) q3810 mvX12_add t11 rfl dX12_parseGroup_154 (xle (xal1 (rv_cat _) (xal1 rfl (xal1 rfl xal0))) (by decide)) (xfr g12) (xlo xsw0 (by decide) g13) (xKv hq (fun h14 hq e16 => ?_) (fun _ _ q _ => q))
  replace hq := hq e16
  refine x_aload_n 0 dX12_parseGroup_157 rfl ?_
  refine x_bipush (v := 68) dX12_parseGroup_158 (by decide) ?_
  have t17 : tg h14 x0 = 13 := e16.tg t11 (by decide)
  obtain ⟨g18, g19, hq⟩ := hq
  refine x_callV (Yc := YX12_must) (as := [.int 68]) (st := []) q3778 mvX12_must t17 rfl dX12_parseGroup_160 (xle (xal1 (rv_cat _) (xal1 rfl xal0)) (by decide)) (xfr g18) (xlo xsw0 (by decide) g19) (xKi hq (fun x21 h20 hq e22 => ?_) (fun _ _ q _ => q))
  replace hq := hq e22
  refine x_pop dX12_parseGroup_163 rfl ?_
  refine x_aload_n 0 dX12_parseGroup_164 rfl ?_
  refine x_iload_n 1 dX12_parseGroup_165 rfl ?_
  refine x_aload_n 0 dX12_parseGroup_166 rfl ?_
  refine x_iconst (v := 4) dX12_parseGroup_167 (by decide) ?_
  refine x_aload_n 0 dX12_parseGroup_168 rfl ?_
  refine x_bipush (v := 40) dX12_parseGroup_169 (by decide) ?_
  have t23 : tg h20 x0 = 13 := e22.tg t17 (by decide)
  obtain ⟨g24, g25, hq⟩ := hq
  refine x_callV (Yc := YX12_must) (as := [.int 40]) (st := [.int 4, rv x0, .int x1, rv x0]) q3778 mvX12_must t23 rfl dX12_parseGroup_171 (xle (xal1 (rv_cat _) (xal1 rfl xal0)) (by decide)) (xfr g24) (xlo (xsw1 rfl (xsw1 (rv_cat _) (xsw1 rfl (xsw1 (rv_cat _) xsw0)))) (by decide) g25) (xKi hq (fun x27 h26 hq e28 => ?_) (fun _ _ q _ => q))
  replace hq := hq e28
  have t29 : tg h26 x0 = 13 := e28.tg t23 (by decide)
  obtain ⟨g30, g31, hq⟩ := hq
  refine x_callV (Yc := YX12_node) (as := [.int 4, .int x27]) (st := [.int x1, rv x0]) q3798 mvX12_node t29 rfl dX12_parseGroup_174 (xle (xal1 (rv_cat _) (xal1 rfl (xal1 rfl xal0))) (by decide)) (xfr g30) (xlo (xsw1 rfl (xsw1 (rv_cat _) xsw0)) (by decide) g31) (xKi hq (fun x33 h32 hq e34 => ?_) (fun _ _ q _ => q))
  replace hq := hq e34
  have t35 : tg h32 x0 = 13 := e34.tg t29 (by decide)
  obtain ⟨g36, g37, hq⟩ := hq
  refine x_callV (Yc := YX12_add) (as := [.int x1, .int x33]) (st := []) q3810 mvX12_add t35 rfl dX12_parseGroup_177 (xle (xal1 (rv_cat _) (xal1 rfl (xal1 rfl xal0))) (by decide)) (xfr g36) (xlo xsw0 (by decide) g37) (xKv hq (fun h38 hq e40 => ?_) (fun _ _ q _ => q))
  replace hq := hq e40
  refine x_iload_n 1 dX12_parseGroup_180 rfl ?_
  exact x_iret rfl rfl dX12_parseGroup_181 hq
set_option maxRecDepth 100000 in
def bX12_parseGroup_126 (G : xG) (fr lo : Nat) (x1 : Int32) (h : xH) (Q : Outcome → xH → Prop) : Prop := Q (.returned (some (.int x1))) h
set_option maxRecDepth 100000 in
theorem uX12_parseGroup_126 {G : xG} {fr lo : Nat} {x1 : Int32} {h : xH} {Q : Outcome → xH → Prop} (hq : bX12_parseGroup_126 G fr lo x1 h Q) : xP G YX12_parseGroup fr lo 126 [(1, .int x1)] [] h Q := by
  unfold bX12_parseGroup_126 at hq
  refine x_iload_n 0 dX12_parseGroup_126 rfl ?_
  exact x_iret rfl rfl dX12_parseGroup_127 hq
set_option maxRecDepth 100000 in
def bX12_parseGroup_48 (G : xG) (fr lo : Nat) (x0 : Nat) (x1 : Int32) (s0 : Int32) (s1 : Int32) (s2 : Nat) (h : xH) (Q : Outcome → xH → Prop) : Prop := tg h s2 = 100 ∧ vp_in s1 (ln h s2) ∧ (∀ h3 : xH, h3 = tI h s2 (Int32.toNatClampNeg s1) s0 → tg h3 x0 = 13 ∧ 1 ≤ fr ∧ 13 ≤ lo ∧ xRi G YX12_take (fr - 1) (lo - 13) [rv x0] h3 (fun x9 h8 => xext h3 h8 → 1 ≤ fr ∧ 15 ≤ lo ∧ xRi G YX12_must (fr - 1) (lo - 15) [rv x0, .int 40] h8 (fun x15 h14 => xext h8 h14 → tg h14 (fR h8 x0 3102) = 100 ∧ vp_in x1 (ln h14 (fR h8 x0 3102)) ∧ (∀ h19 : xH, h19 = tI h14 (fR h8 x0 3102) (Int32.toNatClampNeg x1) x15 → 1 ≤ fr ∧ 15 ≤ lo ∧ xRi G YX12_parseParams (fr - 1) (lo - 15) [rv x0] h19 (fun x26 h25 => xext h19 h25 → 1 ≤ fr ∧ 14 ≤ lo ∧ xRv G YX12_add (fr - 1) (lo - 14) [rv x0, .int x1, .int x26] h25 (fun h31 => xext h25 h31 → tg h31 (fR h31 x0 3106) = 100 ∧ vp_in x1 (ln h31 (fR h31 x0 3106)) ∧ ((¬ (aI h31 (fR h31 x0 3106) (Int32.toNatClampNeg x1)) = 3 → 1 ≤ fr ∧ 16 ≤ lo ∧ xRi G YX12_now (fr - 1) (lo - 16) [rv x0] h31 (fun x41 h40 => xext h31 h40 → 1 ≤ fr ∧ 17 ≤ lo ∧ xRi G YX12_node (fr - 1) (lo - 17) [rv x0, .int 8, .int x41] h40 (fun x47 h46 => xext h40 h46 → 1 ≤ fr ∧ 14 ≤ lo ∧ xRv G YX12_add (fr - 1) (lo - 14) [rv x0, .int x1, .int x47] h46 (fun h52 => xext h46 h52 → bX12_parseGroup_126 G fr lo x1 h52 Q) (fun r h2 => Q (.threw r) h2)) (fun r h2 => Q (.threw r) h2)) (fun r h2 => Q (.threw r) h2)) ∧ ((aI h31 (fR h31 x0 3106) (Int32.toNatClampNeg x1)) = 3 → 1 ≤ fr ∧ 13 ≤ lo ∧ xRi G YX12_must (fr - 1) (lo - 13) [rv x0, .int 68] h31 (fun x58 h57 => xext h31 h57 → 1 ≤ fr ∧ 17 ≤ lo ∧ xRi G YX12_must (fr - 1) (lo - 17) [rv x0, .int 40] h57 (fun x64 h63 => xext h57 h63 → 1 ≤ fr ∧ 17 ≤ lo ∧ xRi G YX12_node (fr - 1) (lo - 17) [rv x0, .int 4, .int x64] h63 (fun x70 h69 => xext h63 h69 → 1 ≤ fr ∧ 14 ≤ lo ∧ xRv G YX12_add (fr - 1) (lo - 14) [rv x0, .int x1, .int x70] h69 (fun h75 => xext h69 h75 → bX12_parseGroup_126 G fr lo x1 h75 Q) (fun r h2 => Q (.threw r) h2)) (fun r h2 => Q (.threw r) h2)) (fun r h2 => Q (.threw r) h2)) (fun r h2 => Q (.threw r) h2)))) (fun r h2 => Q (.threw r) h2)) (fun r h2 => Q (.threw r) h2))) (fun r h2 => Q (.threw r) h2)) (fun r h2 => Q (.threw r) h2))
set_option maxRecDepth 100000 in
theorem uX12_parseGroup_48 {G : xG} {fr lo : Nat} {x0 : Nat} {x1 : Int32} {s0 : Int32} {s1 : Int32} {s2 : Nat} {h : xH} {Q : Outcome → xH → Prop} (hq : bX12_parseGroup_48 G fr lo x0 x1 s0 s1 s2 h Q) : xP G YX12_parseGroup fr lo 48 [(0, rv x0), (1, .int x1)] [.int s0, .int s1, rv s2] h Q := by
  unfold bX12_parseGroup_48 at hq
  obtain ⟨g1, hq⟩ := hq
  obtain ⟨i2, hq⟩ := hq
  obtain ⟨h3, e4⟩ : ∃ y, y = tI h s2 (Int32.toNatClampNeg s1) s0 := ⟨_, rfl⟩
  replace hq := hq h3 e4
  refine x_iast' g1 i2 dX12_parseGroup_48 e4 ?_
  refine x_aload_n 0 dX12_parseGroup_49 rfl ?_
  obtain ⟨g5, hq⟩ := hq
  obtain ⟨g6, g7, hq⟩ := hq
  refine x_callV (Yc := YX12_take) (as := []) (st := []) q3794 mvX12_take g5 rfl dX12_parseGroup_50 (xle (xal1 (rv_cat _) xal0) (by decide)) (xfr g6) (xlo xsw0 (by decide) g7) (xKi hq (fun x9 h8 hq e10 => ?_) (fun _ _ q _ => q))
  replace hq := hq e10
  refine x_pop dX12_parseGroup_53 rfl ?_
  refine x_aload_n 0 dX12_parseGroup_54 rfl ?_
  have t11 : tg h8 x0 = 13 := e10.tg g5 (by decide)
  refine x_get (v := rv (fR h8 x0 3102)) fdX12_70 dX12_parseGroup_55 t11 rfl ?_
  refine x_iload_n 1 dX12_parseGroup_58 rfl ?_
  refine x_aload_n 0 dX12_parseGroup_59 rfl ?_
  refine x_bipush (v := 40) dX12_parseGroup_60 (by decide) ?_
  obtain ⟨g12, g13, hq⟩ := hq
  refine x_callV (Yc := YX12_must) (as := [.int 40]) (st := [.int x1, rv (fR h8 x0 3102)]) q3778 mvX12_must t11 rfl dX12_parseGroup_62 (xle (xal1 (rv_cat _) (xal1 rfl xal0)) (by decide)) (xfr g12) (xlo (xsw1 rfl (xsw1 (rv_cat _) xsw0)) (by decide) g13) (xKi hq (fun x15 h14 hq e16 => ?_) (fun _ _ q _ => q))
  replace hq := hq e16
  obtain ⟨g17, hq⟩ := hq
  obtain ⟨i18, hq⟩ := hq
  obtain ⟨h19, e20⟩ : ∃ y, y = tI h14 (fR h8 x0 3102) (Int32.toNatClampNeg x1) x15 := ⟨_, rfl⟩
  replace hq := hq h19 e20
  refine x_iast' g17 i18 dX12_parseGroup_65 e20 ?_
  refine x_aload_n 0 dX12_parseGroup_66 rfl ?_
  refine x_iload_n 1 dX12_parseGroup_67 rfl ?_
  refine x_aload_n 0 dX12_parseGroup_68 rfl ?_
  have t21 : tg h14 x0 = 13 := e16.tg t11 (by decide)
  have t22 : tg h19 x0 = 13 := by rw [e20]; exact t21
  obtain ⟨g23, g24, hq⟩ := hq
  refine x_callV (Yc := YX12_parseParams) (as := []) (st := [.int x1, rv x0]) q3858 mvX12_parseParams t22 rfl dX12_parseGroup_69 (xle (xal1 (rv_cat _) xal0) (by decide)) (xfr g23) (xlo (xsw1 rfl (xsw1 (rv_cat _) xsw0)) (by decide) g24) (xKi hq (fun x26 h25 hq e27 => ?_) (fun _ _ q _ => q))
  replace hq := hq e27
  have t28 : tg h25 x0 = 13 := e27.tg t22 (by decide)
  obtain ⟨g29, g30, hq⟩ := hq
  refine x_callV (Yc := YX12_add) (as := [.int x1, .int x26]) (st := []) q3810 mvX12_add t28 rfl dX12_parseGroup_72 (xle (xal1 (rv_cat _) (xal1 rfl (xal1 rfl xal0))) (by decide)) (xfr g29) (xlo xsw0 (by decide) g30) (xKv hq (fun h31 hq e33 => ?_) (fun _ _ q _ => q))
  replace hq := hq e33
  refine x_aload_n 0 dX12_parseGroup_75 rfl ?_
  have t34 : tg h31 x0 = 13 := e33.tg t28 (by decide)
  refine x_get (v := rv (fR h31 x0 3106)) fdX12_82 dX12_parseGroup_76 t34 rfl ?_
  refine x_iload_n 1 dX12_parseGroup_79 rfl ?_
  obtain ⟨g35, hq⟩ := hq
  obtain ⟨i36, hq⟩ := hq
  refine x_iald 0 (Or.inl rfl) g35 i36 dX12_parseGroup_80 ?_
  refine x_iconst (v := 3) dX12_parseGroup_81 (by decide) ?_
  refine x_icmp_ne (tgt := 111) dX12_parseGroup_82 (by decide) (fun c37 => ?_) (fun c37 => ?_)
  · replace hq := hq.1 c37
    refine x_aload_n 0 dX12_parseGroup_111 rfl ?_
    refine x_iload_n 1 dX12_parseGroup_112 rfl ?_
    refine x_aload_n 0 dX12_parseGroup_113 rfl ?_
    refine x_bipush (v := 8) dX12_parseGroup_114 (by decide) ?_
    refine x_aload_n 0 dX12_parseGroup_116 rfl ?_
    obtain ⟨g38, g39, hq⟩ := hq
    refine x_callV (Yc := YX12_now) (as := []) (st := [.int 8, rv x0, .int x1, rv x0]) q3790 mvX12_now t34 rfl dX12_parseGroup_117 (xle (xal1 (rv_cat _) xal0) (by decide)) (xfr g38) (xlo (xsw1 rfl (xsw1 (rv_cat _) (xsw1 rfl (xsw1 (rv_cat _) xsw0)))) (by decide) g39) (xKi hq (fun x41 h40 hq e42 => ?_) (fun _ _ q _ => q))
    replace hq := hq e42
    have t43 : tg h40 x0 = 13 := e42.tg t34 (by decide)
    obtain ⟨g44, g45, hq⟩ := hq
    refine x_callV (Yc := YX12_node) (as := [.int 8, .int x41]) (st := [.int x1, rv x0]) q3798 mvX12_node t43 rfl dX12_parseGroup_120 (xle (xal1 (rv_cat _) (xal1 rfl (xal1 rfl xal0))) (by decide)) (xfr g44) (xlo (xsw1 rfl (xsw1 (rv_cat _) xsw0)) (by decide) g45) (xKi hq (fun x47 h46 hq e48 => ?_) (fun _ _ q _ => q))
    replace hq := hq e48
    have t49 : tg h46 x0 = 13 := e48.tg t43 (by decide)
    obtain ⟨g50, g51, hq⟩ := hq
    refine x_callV (Yc := YX12_add) (as := [.int x1, .int x47]) (st := []) q3810 mvX12_add t49 rfl dX12_parseGroup_123 (xle (xal1 (rv_cat _) (xal1 rfl (xal1 rfl xal0))) (by decide)) (xfr g50) (xlo xsw0 (by decide) g51) (xKv hq (fun h52 hq e54 => ?_) (fun _ _ q _ => q))
    replace hq := hq e54
    refine xP.pick (lv' := [(1, .int x1)]) [1] rfl ?_
    exact uX12_parseGroup_126 hq
  · replace hq := hq.2 c37
    refine x_aload_n 0 dX12_parseGroup_85 rfl ?_
    refine x_bipush (v := 68) dX12_parseGroup_86 (by decide) ?_
    obtain ⟨g55, g56, hq⟩ := hq
    refine x_callV (Yc := YX12_must) (as := [.int 68]) (st := []) q3778 mvX12_must t34 rfl dX12_parseGroup_88 (xle (xal1 (rv_cat _) (xal1 rfl xal0)) (by decide)) (xfr g55) (xlo xsw0 (by decide) g56) (xKi hq (fun x58 h57 hq e59 => ?_) (fun _ _ q _ => q))
    replace hq := hq e59
    refine x_pop dX12_parseGroup_91 rfl ?_
    refine x_aload_n 0 dX12_parseGroup_92 rfl ?_
    refine x_iload_n 1 dX12_parseGroup_93 rfl ?_
    refine x_aload_n 0 dX12_parseGroup_94 rfl ?_
    refine x_iconst (v := 4) dX12_parseGroup_95 (by decide) ?_
    refine x_aload_n 0 dX12_parseGroup_96 rfl ?_
    refine x_bipush (v := 40) dX12_parseGroup_97 (by decide) ?_
    have t60 : tg h57 x0 = 13 := e59.tg t34 (by decide)
    obtain ⟨g61, g62, hq⟩ := hq
    refine x_callV (Yc := YX12_must) (as := [.int 40]) (st := [.int 4, rv x0, .int x1, rv x0]) q3778 mvX12_must t60 rfl dX12_parseGroup_99 (xle (xal1 (rv_cat _) (xal1 rfl xal0)) (by decide)) (xfr g61) (xlo (xsw1 rfl (xsw1 (rv_cat _) (xsw1 rfl (xsw1 (rv_cat _) xsw0)))) (by decide) g62) (xKi hq (fun x64 h63 hq e65 => ?_) (fun _ _ q _ => q))
    replace hq := hq e65
    have t66 : tg h63 x0 = 13 := e65.tg t60 (by decide)
    obtain ⟨g67, g68, hq⟩ := hq
    refine x_callV (Yc := YX12_node) (as := [.int 4, .int x64]) (st := [.int x1, rv x0]) q3798 mvX12_node t66 rfl dX12_parseGroup_102 (xle (xal1 (rv_cat _) (xal1 rfl (xal1 rfl xal0))) (by decide)) (xfr g67) (xlo (xsw1 rfl (xsw1 (rv_cat _) xsw0)) (by decide) g68) (xKi hq (fun x70 h69 hq e71 => ?_) (fun _ _ q _ => q))
    replace hq := hq e71
    have t72 : tg h69 x0 = 13 := e71.tg t66 (by decide)
    obtain ⟨g73, g74, hq⟩ := hq
    refine x_callV (Yc := YX12_add) (as := [.int x1, .int x70]) (st := []) q3810 mvX12_add t72 rfl dX12_parseGroup_105 (xle (xal1 (rv_cat _) (xal1 rfl (xal1 rfl xal0))) (by decide)) (xfr g73) (xlo xsw0 (by decide) g74) (xKv hq (fun h75 hq e77 => ?_) (fun _ _ q _ => q))
    replace hq := hq e77
    refine x_goto (tgt := 126) dX12_parseGroup_108 (by decide) ?_
    refine xP.pick (lv' := [(1, .int x1)]) [1] rfl ?_
    exact uX12_parseGroup_126 hq
set_option maxRecDepth 100000 in
def bX12_parseGroup_29 (G : xG) (fr lo : Nat) (x0 : Nat) (x1 : Int32) (h : xH) (Q : Outcome → xH → Prop) : Prop := tg h x0 = 13 ∧ 1 ≤ fr ∧ 15 ≤ lo ∧ xRi G YX12_sees (fr - 1) (lo - 15) [rv x0, .int 13] h (fun x5 h4 => xext h h4 → ((x5 = 0 → bX12_parseGroup_48 G fr lo x0 x1 2 x1 (fR h x0 3106) h4 Q) ∧ (¬ x5 = 0 → bX12_parseGroup_48 G fr lo x0 x1 3 x1 (fR h x0 3106) h4 Q))) (fun r h2 => Q (.threw r) h2)
set_option maxRecDepth 100000 in
theorem uX12_parseGroup_29 {G : xG} {fr lo : Nat} {x0 : Nat} {x1 : Int32} {h : xH} {Q : Outcome → xH → Prop} (hq : bX12_parseGroup_29 G fr lo x0 x1 h Q) : xP G YX12_parseGroup fr lo 29 [(0, rv x0), (1, .int x1)] [] h Q := by
  unfold bX12_parseGroup_29 at hq
  refine x_aload_n 0 dX12_parseGroup_29 rfl ?_
  obtain ⟨g1, hq⟩ := hq
  refine x_get (v := rv (fR h x0 3106)) fdX12_82 dX12_parseGroup_30 g1 rfl ?_
  refine x_iload_n 1 dX12_parseGroup_33 rfl ?_
  refine x_aload_n 0 dX12_parseGroup_34 rfl ?_
  refine x_bipush (v := 13) dX12_parseGroup_35 (by decide) ?_
  obtain ⟨g2, g3, hq⟩ := hq
  refine x_callV (Yc := YX12_sees) (as := [.int 13]) (st := [.int x1, rv (fR h x0 3106)]) q3782 mvX12_sees g1 rfl dX12_parseGroup_37 (xle (xal1 (rv_cat _) (xal1 rfl xal0)) (by decide)) (xfr g2) (xlo (xsw1 rfl (xsw1 (rv_cat _) xsw0)) (by decide) g3) (xKi hq (fun x5 h4 hq e6 => ?_) (fun _ _ q _ => q))
  replace hq := hq e6
  refine x_if_eq (tgt := 47) dX12_parseGroup_40 (by decide) (fun c7 => ?_) (fun c7 => ?_)
  · replace hq := hq.1 c7
    refine x_iconst (v := 2) dX12_parseGroup_47 (by decide) ?_
    exact uX12_parseGroup_48 hq
  · replace hq := hq.2 c7
    refine x_iconst (v := 3) dX12_parseGroup_43 (by decide) ?_
    refine x_goto (tgt := 48) dX12_parseGroup_44 (by decide) ?_
    exact uX12_parseGroup_48 hq
set_option maxRecDepth 100000 in
def bX12_parseGroup (G : xG) (fr lo : Nat) (x0 : Nat) (h : xH) (Q : Outcome → xH → Prop) : Prop := tg h x0 = 13 ∧ 1 ≤ fr ∧ 14 ≤ lo ∧ xRi G YX12_now (fr - 1) (lo - 14) [rv x0] h (fun x5 h4 => xext h h4 → 1 ≤ fr ∧ 15 ≤ lo ∧ xRi G YX12_node (fr - 1) (lo - 15) [rv x0, .int 23, .int x5] h4 (fun x11 h10 => xext h4 h10 → 1 ≤ fr ∧ 13 ≤ lo ∧ xRi G YX12_sees (fr - 1) (lo - 13) [rv x0, .int 24] h10 (fun x17 h16 => xext h10 h16 → ((¬ x17 = 0 → bX12_parseGroup_29 G fr lo x0 x11 h16 Q) ∧ (x17 = 0 → 1 ≤ fr ∧ 13 ≤ lo ∧ xRi G YX12_sees (fr - 1) (lo - 13) [rv x0, .int 13] h16 (fun x24 h23 => xext h16 h23 → ((x24 = 0 → 1 ≤ fr ∧ 15 ≤ lo ∧ xRi G YX12_takes (fr - 1) (lo - 15) [rv x0, .int 33] h23 (fun x31 h30 => xext h23 h30 → ((x31 = 0 → bX12_parseGroup_147 G fr lo x0 x11 0 x11 (fR h23 x0 3106) h30 Q) ∧ (¬ x31 = 0 → bX12_parseGroup_147 G fr lo x0 x11 1 x11 (fR h23 x0 3106) h30 Q))) (fun r h2 => Q (.threw r) h2)) ∧ (¬ x24 = 0 → bX12_parseGroup_29 G fr lo x0 x11 h23 Q))) (fun r h2 => Q (.threw r) h2)))) (fun r h2 => Q (.threw r) h2)) (fun r h2 => Q (.threw r) h2)) (fun r h2 => Q (.threw r) h2)
set_option maxRecDepth 100000 in
theorem uX12_parseGroup {G : xG} {fr lo : Nat} {x0 : Nat} {h : xH} {Q : Outcome → xH → Prop} (hq : bX12_parseGroup G fr lo x0 h Q) : xP G YX12_parseGroup fr lo 0 [(0, rv x0)] [] h Q := by
  unfold bX12_parseGroup at hq
  refine x_aload_n 0 dX12_parseGroup_0 rfl ?_
  refine x_bipush (v := 23) dX12_parseGroup_1 (by decide) ?_
  refine x_aload_n 0 dX12_parseGroup_3 rfl ?_
  obtain ⟨g1, hq⟩ := hq
  obtain ⟨g2, g3, hq⟩ := hq
  refine x_callV (Yc := YX12_now) (as := []) (st := [.int 23, rv x0]) q3790 mvX12_now g1 rfl dX12_parseGroup_4 (xle (xal1 (rv_cat _) xal0) (by decide)) (xfr g2) (xlo (xsw1 rfl (xsw1 (rv_cat _) xsw0)) (by decide) g3) (xKi hq (fun x5 h4 hq e6 => ?_) (fun _ _ q _ => q))
  replace hq := hq e6
  have t7 : tg h4 x0 = 13 := e6.tg g1 (by decide)
  obtain ⟨g8, g9, hq⟩ := hq
  refine x_callV (Yc := YX12_node) (as := [.int 23, .int x5]) (st := []) q3798 mvX12_node t7 rfl dX12_parseGroup_7 (xle (xal1 (rv_cat _) (xal1 rfl (xal1 rfl xal0))) (by decide)) (xfr g8) (xlo xsw0 (by decide) g9) (xKi hq (fun x11 h10 hq e12 => ?_) (fun _ _ q _ => q))
  replace hq := hq e12
  refine x_istore_n (lv' := [(1, .int x11), (0, rv x0)]) dX12_parseGroup_10 (by decide) (by first | rfl | (simp [rv_cat, Value.category]; done) | (simp [rv_cat, Value.category]; decide)) ?_
  refine x_aload_n 1 dX12_parseGroup_11 rfl ?_
  refine x_bipush (v := 24) dX12_parseGroup_12 (by decide) ?_
  have t13 : tg h10 x0 = 13 := e12.tg t7 (by decide)
  obtain ⟨g14, g15, hq⟩ := hq
  refine x_callV (Yc := YX12_sees) (as := [.int 24]) (st := []) q3782 mvX12_sees t13 rfl dX12_parseGroup_14 (xle (xal1 (rv_cat _) (xal1 rfl xal0)) (by decide)) (xfr g14) (xlo xsw0 (by decide) g15) (xKi hq (fun x17 h16 hq e18 => ?_) (fun _ _ q _ => q))
  replace hq := hq e18
  refine x_if_ne (tgt := 29) dX12_parseGroup_17 (by decide) (fun c19 => ?_) (fun c19 => ?_)
  · replace hq := hq.1 c19
    refine xP.pick (lv' := [(0, rv x0), (1, .int x11)]) [1, 0] rfl ?_
    exact uX12_parseGroup_29 hq
  · replace hq := hq.2 c19
    refine x_aload_n 1 dX12_parseGroup_20 rfl ?_
    refine x_bipush (v := 13) dX12_parseGroup_21 (by decide) ?_
    have t20 : tg h16 x0 = 13 := e18.tg t13 (by decide)
    obtain ⟨g21, g22, hq⟩ := hq
    refine x_callV (Yc := YX12_sees) (as := [.int 13]) (st := []) q3782 mvX12_sees t20 rfl dX12_parseGroup_23 (xle (xal1 (rv_cat _) (xal1 rfl xal0)) (by decide)) (xfr g21) (xlo xsw0 (by decide) g22) (xKi hq (fun x24 h23 hq e25 => ?_) (fun _ _ q _ => q))
    replace hq := hq e25
    refine x_if_eq (tgt := 128) dX12_parseGroup_26 (by decide) (fun c26 => ?_) (fun c26 => ?_)
    · replace hq := hq.1 c26
      refine x_aload_n 1 dX12_parseGroup_128 rfl ?_
      have t27 : tg h23 x0 = 13 := e25.tg t20 (by decide)
      refine x_get (v := rv (fR h23 x0 3106)) fdX12_82 dX12_parseGroup_129 t27 rfl ?_
      refine x_iload_n 0 dX12_parseGroup_132 rfl ?_
      refine x_aload_n 1 dX12_parseGroup_133 rfl ?_
      refine x_bipush (v := 33) dX12_parseGroup_134 (by decide) ?_
      obtain ⟨g28, g29, hq⟩ := hq
      refine x_callV (Yc := YX12_takes) (as := [.int 33]) (st := [.int x11, rv (fR h23 x0 3106)]) q3802 mvX12_takes t27 rfl dX12_parseGroup_136 (xle (xal1 (rv_cat _) (xal1 rfl xal0)) (by decide)) (xfr g28) (xlo (xsw1 rfl (xsw1 (rv_cat _) xsw0)) (by decide) g29) (xKi hq (fun x31 h30 hq e32 => ?_) (fun _ _ q _ => q))
      replace hq := hq e32
      refine x_if_eq (tgt := 146) dX12_parseGroup_139 (by decide) (fun c33 => ?_) (fun c33 => ?_)
      · replace hq := hq.1 c33
        refine x_iconst (v := 0) dX12_parseGroup_146 (by decide) ?_
        refine xP.pick (lv' := [(0, rv x0), (1, .int x11)]) [1, 0] rfl ?_
        exact uX12_parseGroup_147 hq
      · replace hq := hq.2 c33
        refine x_iconst (v := 1) dX12_parseGroup_142 (by decide) ?_
        refine x_goto (tgt := 147) dX12_parseGroup_143 (by decide) ?_
        refine xP.pick (lv' := [(0, rv x0), (1, .int x11)]) [1, 0] rfl ?_
        exact uX12_parseGroup_147 hq
    · replace hq := hq.2 c26
      refine xP.pick (lv' := [(0, rv x0), (1, .int x11)]) [1, 0] rfl ?_
      exact uX12_parseGroup_29 hq
theorem rX12_parseGroup {G : xG} {fr lo : Nat} {x0 : Nat} {h : xH} {Q : Outcome → xH → Prop} (hq : bX12_parseGroup G fr lo x0 h Q) : xR G YX12_parseGroup fr lo [rv x0] h Q := by
  show xP _ _ _ _ _ (lv_args 0 _) _ _ _
  rw [show lv_args 0 [rv x0] = [(0, rv x0)] from (xla1 (rv_cat _) xla0)]
  exact uX12_parseGroup hq
set_option maxRecDepth 100000 in
theorem dX12_parseRow_0 : decode cX12_parseRow 0 = .ok (.aload_n 0, 1) := by decide +kernel
set_option maxRecDepth 100000 in
theorem dX12_parseRow_1 : decode cX12_parseRow 1 = .ok (.iload_n 1, 1) := by decide +kernel
set_option maxRecDepth 100000 in
theorem dX12_parseRow_2 : decode cX12_parseRow 2 = .ok (.aload_n 0, 1) := by decide +kernel
set_option maxRecDepth 100000 in
theorem dX12_parseRow_3 : decode cX12_parseRow 3 = .ok (.invokevirtual 515, 3) := by decide +kernel
set_option maxRecDepth 100000 in
theorem dX12_parseRow_6 : decode cX12_parseRow 6 = .ok (.invokevirtual 460, 3) := by decide +kernel
set_option maxRecDepth 100000 in
theorem dX12_parseRow_9 : decode cX12_parseRow 9 = .ok (.aload_n 0, 1) := by decide +kernel
set_option maxRecDepth 100000 in
theorem dX12_parseRow_10 : decode cX12_parseRow 10 = .ok (.bipush 67, 2) := by decide +kernel
set_option maxRecDepth 100000 in
theorem dX12_parseRow_12 : decode cX12_parseRow 12 = .ok (.invokevirtual 463, 3) := by decide +kernel
set_option maxRecDepth 100000 in
theorem dX12_parseRow_15 : decode cX12_parseRow 15 = .ok (.ifCond .ne (-15), 3) := by decide +kernel
set_option maxRecDepth 100000 in
theorem dX12_parseRow_18 : decode cX12_parseRow 18 = .ok (.return_, 1) := by decide +kernel
def lX12_parseRow_0 (G : xG) (fr lo : Nat) (x0 : Nat) (x1 : Int32) (h : xH) (Q : Outcome → xH → Prop) : Prop := xP G YX12_parseRow fr lo 0 [(0, rv x0), (1, .int x1)] [] h Q
set_option maxRecDepth 100000 in
def bX12_parseRow_0 (G : xG) (fr lo : Nat) (x0 : Nat) (x1 : Int32) (h : xH) (Q : Outcome → xH → Prop) : Prop := tg h x0 = 13 ∧ 1 ≤ fr ∧ 18 ≤ lo ∧ xRi G YX12_parseStatement (fr - 1) (lo - 18) [rv x0] h (fun x5 h4 => xext h h4 → 1 ≤ fr ∧ 14 ≤ lo ∧ xRv G YX12_add (fr - 1) (lo - 14) [rv x0, .int x1, .int x5] h4 (fun h10 => xext h4 h10 → 1 ≤ fr ∧ 13 ≤ lo ∧ xRi G YX12_takes (fr - 1) (lo - 13) [rv x0, .int 67] h10 (fun x17 h16 => xext h10 h16 → ((¬ x17 = 0 → lX12_parseRow_0 G fr lo x0 x1 h16 Q) ∧ (x17 = 0 → Q (.returned none) h16))) (fun r h2 => Q (.threw r) h2)) (fun r h2 => Q (.threw r) h2)) (fun r h2 => Q (.threw r) h2)
set_option maxRecDepth 100000 in
theorem uX12_parseRow_0 {G : xG} {fr lo : Nat} {x0 : Nat} {x1 : Int32} {h : xH} {Q : Outcome → xH → Prop} (hq : bX12_parseRow_0 G fr lo x0 x1 h Q) : xP G YX12_parseRow fr lo 0 [(0, rv x0), (1, .int x1)] [] h Q := by
  unfold bX12_parseRow_0 at hq
  refine x_aload_n 0 dX12_parseRow_0 rfl ?_
  refine x_iload_n 1 dX12_parseRow_1 rfl ?_
  refine x_aload_n 0 dX12_parseRow_2 rfl ?_
  obtain ⟨g1, hq⟩ := hq
  obtain ⟨g2, g3, hq⟩ := hq
  refine x_callV (Yc := YX12_parseStatement) (as := []) (st := [.int x1, rv x0]) q3870 mvX12_parseStatement g1 rfl dX12_parseRow_3 (xle (xal1 (rv_cat _) xal0) (by decide)) (xfr g2) (xlo (xsw1 rfl (xsw1 (rv_cat _) xsw0)) (by decide) g3) (xKi hq (fun x5 h4 hq e6 => ?_) (fun _ _ q _ => q))
  replace hq := hq e6
  have t7 : tg h4 x0 = 13 := e6.tg g1 (by decide)
  obtain ⟨g8, g9, hq⟩ := hq
  refine x_callV (Yc := YX12_add) (as := [.int x1, .int x5]) (st := []) q3810 mvX12_add t7 rfl dX12_parseRow_6 (xle (xal1 (rv_cat _) (xal1 rfl (xal1 rfl xal0))) (by decide)) (xfr g8) (xlo xsw0 (by decide) g9) (xKv hq (fun h10 hq e12 => ?_) (fun _ _ q _ => q))
  replace hq := hq e12
  refine x_aload_n 0 dX12_parseRow_9 rfl ?_
  refine x_bipush (v := 67) dX12_parseRow_10 (by decide) ?_
  have t13 : tg h10 x0 = 13 := e12.tg t7 (by decide)
  obtain ⟨g14, g15, hq⟩ := hq
  refine x_callV (Yc := YX12_takes) (as := [.int 67]) (st := []) q3802 mvX12_takes t13 rfl dX12_parseRow_12 (xle (xal1 (rv_cat _) (xal1 rfl xal0)) (by decide)) (xfr g14) (xlo xsw0 (by decide) g15) (xKi hq (fun x17 h16 hq e18 => ?_) (fun _ _ q _ => q))
  replace hq := hq e18
  refine x_if_ne (tgt := 0) dX12_parseRow_15 (by decide) (fun c19 => ?_) (fun c19 => ?_)
  · replace hq := hq.1 c19
    exact hq
  · replace hq := hq.2 c19
    exact x_vret rfl dX12_parseRow_18 hq
def bX12_parseRow (G : xG) (fr lo : Nat) (x0 : Nat) (x1 : Int32) (h : xH) (Q : Outcome → xH → Prop) : Prop := bX12_parseRow_0 G fr lo x0 x1 h Q
theorem uX12_parseRow {G : xG} {fr lo : Nat} {x0 : Nat} {x1 : Int32} {h : xH} {Q : Outcome → xH → Prop} (hq : bX12_parseRow G fr lo x0 x1 h Q) : xP G YX12_parseRow fr lo 0 [(0, rv x0), (1, .int x1)] [] h Q :=
  xP.pick (lv' := [(0, rv x0), (1, .int x1)]) [0, 1] rfl (uX12_parseRow_0 hq)
theorem rX12_parseRow {G : xG} {fr lo : Nat} {x0 : Nat} {x1 : Int32} {h : xH} {Q : Outcome → xH → Prop} (hq : bX12_parseRow G fr lo x0 x1 h Q) : xR G YX12_parseRow fr lo [rv x0, .int x1] h Q := by
  show xP _ _ _ _ _ (lv_args 0 _) _ _ _
  rw [show lv_args 0 [rv x0, .int x1] = [(0, rv x0), (1, .int x1)] from (xla1 (rv_cat _) (xla1 rfl xla0))]
  exact uX12_parseRow hq
