/-! java/lang/Math, walked (1) -/
set_option maxRecDepth 100000 in
theorem dJ10_max_0 : decode cJ10_max 0 = .ok (.iload_n 0, 1) := by decide +kernel
set_option maxRecDepth 100000 in
theorem dJ10_max_1 : decode cJ10_max 1 = .ok (.iload_n 1, 1) := by decide +kernel
set_option maxRecDepth 100000 in
theorem dJ10_max_2 : decode cJ10_max 2 = .ok (.if_icmp .lt 7, 3) := by decide +kernel
set_option maxRecDepth 100000 in
theorem dJ10_max_5 : decode cJ10_max 5 = .ok (.iload_n 0, 1) := by decide +kernel
set_option maxRecDepth 100000 in
theorem dJ10_max_6 : decode cJ10_max 6 = .ok (.goto 4, 3) := by decide +kernel
set_option maxRecDepth 100000 in
theorem dJ10_max_9 : decode cJ10_max 9 = .ok (.iload_n 1, 1) := by decide +kernel
set_option maxRecDepth 100000 in
theorem dJ10_max_10 : decode cJ10_max 10 = .ok (.ireturn, 1) := by decide +kernel
set_option maxRecDepth 100000 in
def bJ10_max_10 (G : xG) (fr lo : Nat) (s0 : Int32) (h : xH) (Q : Outcome → xH → Prop) : Prop := Q (.returned (some (.int s0))) h
set_option maxRecDepth 100000 in
theorem uJ10_max_10 {G : xG} {fr lo : Nat} {s0 : Int32} {h : xH} {Q : Outcome → xH → Prop} (hq : bJ10_max_10 G fr lo s0 h Q) : xP G YJ10_max fr lo 10 [] [.int s0] h Q := by
  unfold bJ10_max_10 at hq
  exact x_iret rfl rfl dJ10_max_10 hq
set_option maxRecDepth 100000 in
def bJ10_max (G : xG) (fr lo : Nat) (x0 : Int32) (x1 : Int32) (h : xH) (Q : Outcome → xH → Prop) : Prop := ((x0 < x1 → bJ10_max_10 G fr lo x1 h Q) ∧ (¬ x0 < x1 → bJ10_max_10 G fr lo x0 h Q))
set_option maxRecDepth 100000 in
theorem uJ10_max {G : xG} {fr lo : Nat} {x0 : Int32} {x1 : Int32} {h : xH} {Q : Outcome → xH → Prop} (hq : bJ10_max G fr lo x0 x1 h Q) : xP G YJ10_max fr lo 0 [(0, .int x0), (1, .int x1)] [] h Q := by
  unfold bJ10_max at hq
  refine x_iload_n 0 dJ10_max_0 rfl ?_
  refine x_iload_n 1 dJ10_max_1 rfl ?_
  refine x_icmp_lt (tgt := 9) dJ10_max_2 (by decide) (fun c1 => ?_) (fun c1 => ?_)
  · replace hq := hq.1 c1
    refine x_iload_n 1 dJ10_max_9 rfl ?_
    refine xP.pick (lv' := []) [] rfl ?_
    exact uJ10_max_10 hq
  · replace hq := hq.2 c1
    refine x_iload_n 0 dJ10_max_5 rfl ?_
    refine x_goto (tgt := 10) dJ10_max_6 (by decide) ?_
    refine xP.pick (lv' := []) [] rfl ?_
    exact uJ10_max_10 hq
theorem rJ10_max {G : xG} {fr lo : Nat} {x0 : Int32} {x1 : Int32} {h : xH} {Q : Outcome → xH → Prop} (hq : bJ10_max G fr lo x0 x1 h Q) : xR G YJ10_max fr lo [.int x0, .int x1] h Q := by
  show xP _ _ _ _ _ (lv_args 0 _) _ _ _
  rw [show lv_args 0 [.int x0, .int x1] = [(0, .int x0), (1, .int x1)] from (xla1 rfl (xla1 rfl xla0))]
  exact uJ10_max hq
set_option maxRecDepth 100000 in
theorem dJ10_min_0 : decode cJ10_min 0 = .ok (.iload_n 0, 1) := by decide +kernel
set_option maxRecDepth 100000 in
theorem dJ10_min_1 : decode cJ10_min 1 = .ok (.iload_n 1, 1) := by decide +kernel
set_option maxRecDepth 100000 in
theorem dJ10_min_2 : decode cJ10_min 2 = .ok (.if_icmp .gt 7, 3) := by decide +kernel
set_option maxRecDepth 100000 in
theorem dJ10_min_5 : decode cJ10_min 5 = .ok (.iload_n 0, 1) := by decide +kernel
set_option maxRecDepth 100000 in
theorem dJ10_min_6 : decode cJ10_min 6 = .ok (.goto 4, 3) := by decide +kernel
set_option maxRecDepth 100000 in
theorem dJ10_min_9 : decode cJ10_min 9 = .ok (.iload_n 1, 1) := by decide +kernel
set_option maxRecDepth 100000 in
theorem dJ10_min_10 : decode cJ10_min 10 = .ok (.ireturn, 1) := by decide +kernel
set_option maxRecDepth 100000 in
def bJ10_min_10 (G : xG) (fr lo : Nat) (s0 : Int32) (h : xH) (Q : Outcome → xH → Prop) : Prop := Q (.returned (some (.int s0))) h
set_option maxRecDepth 100000 in
theorem uJ10_min_10 {G : xG} {fr lo : Nat} {s0 : Int32} {h : xH} {Q : Outcome → xH → Prop} (hq : bJ10_min_10 G fr lo s0 h Q) : xP G YJ10_min fr lo 10 [] [.int s0] h Q := by
  unfold bJ10_min_10 at hq
  exact x_iret rfl rfl dJ10_min_10 hq
set_option maxRecDepth 100000 in
def bJ10_min (G : xG) (fr lo : Nat) (x0 : Int32) (x1 : Int32) (h : xH) (Q : Outcome → xH → Prop) : Prop := ((x1 < x0 → bJ10_min_10 G fr lo x1 h Q) ∧ (¬ x1 < x0 → bJ10_min_10 G fr lo x0 h Q))
set_option maxRecDepth 100000 in
theorem uJ10_min {G : xG} {fr lo : Nat} {x0 : Int32} {x1 : Int32} {h : xH} {Q : Outcome → xH → Prop} (hq : bJ10_min G fr lo x0 x1 h Q) : xP G YJ10_min fr lo 0 [(0, .int x0), (1, .int x1)] [] h Q := by
  unfold bJ10_min at hq
  refine x_iload_n 0 dJ10_min_0 rfl ?_
  refine x_iload_n 1 dJ10_min_1 rfl ?_
  refine x_icmp_gt (tgt := 9) dJ10_min_2 (by decide) (fun c1 => ?_) (fun c1 => ?_)
  · replace hq := hq.1 c1
    refine x_iload_n 1 dJ10_min_9 rfl ?_
    refine xP.pick (lv' := []) [] rfl ?_
    exact uJ10_min_10 hq
  · replace hq := hq.2 c1
    refine x_iload_n 0 dJ10_min_5 rfl ?_
    refine x_goto (tgt := 10) dJ10_min_6 (by decide) ?_
    refine xP.pick (lv' := []) [] rfl ?_
    exact uJ10_min_10 hq
theorem rJ10_min {G : xG} {fr lo : Nat} {x0 : Int32} {x1 : Int32} {h : xH} {Q : Outcome → xH → Prop} (hq : bJ10_min G fr lo x0 x1 h Q) : xR G YJ10_min fr lo [.int x0, .int x1] h Q := by
  show xP _ _ _ _ _ (lv_args 0 _) _ _ _
  rw [show lv_args 0 [.int x0, .int x1] = [(0, .int x0), (1, .int x1)] from (xla1 rfl (xla1 rfl xla0))]
  exact uJ10_min hq
set_option maxRecDepth 100000 in
theorem dJ10_sqrt_0 : decode cJ10_sqrt 0 = .ok (.dload_n 0, 1) := by decide +kernel
set_option maxRecDepth 100000 in
theorem dJ10_sqrt_1 : decode cJ10_sqrt 1 = .ok (.invokestatic 43, 3) := by decide +kernel
set_option maxRecDepth 100000 in
theorem dJ10_sqrt_4 : decode cJ10_sqrt 4 = .ok (.dreturn, 1) := by decide +kernel
set_option maxRecDepth 100000 in
def bJ10_sqrt (G : xG) (fr lo : Nat) (x0 : UInt64) (h : xH) (Q : Outcome → xH → Prop) : Prop := 1 ≤ fr ∧ 13 ≤ lo ∧ xRd G YJ17_sqrt (fr - 1) (lo - 13) [.double x0] h (fun x4 h3 => xext h h3 → Q (.returned (some (.double x4))) h3) (fun r h2 => Q (.threw r) h2)
set_option maxRecDepth 100000 in
theorem uJ10_sqrt {G : xG} {fr lo : Nat} {x0 : UInt64} {h : xH} {Q : Outcome → xH → Prop} (hq : bJ10_sqrt G fr lo x0 h Q) : xP G YJ10_sqrt fr lo 0 [(0, .double x0)] [] h Q := by
  unfold bJ10_sqrt at hq
  refine x_dload_n 0 dJ10_sqrt_0 rfl ?_
  obtain ⟨g1, g2, hq⟩ := hq
  refine x_callS (Yc := YJ17_sqrt) (as := [.double x0]) (st := []) q3033 msJ17_sqrt rfl dJ10_sqrt_1 (xle (xal2 rfl xal0) (by decide)) (xfr g1) (xlo xsw0 (by decide) g2) (xKd hq (fun x4 h3 hq e5 => ?_) (fun _ _ q _ => q))
  replace hq := hq e5
  exact x_dret rfl dJ10_sqrt_4 hq
theorem rJ10_sqrt {G : xG} {fr lo : Nat} {x0 : UInt64} {h : xH} {Q : Outcome → xH → Prop} (hq : bJ10_sqrt G fr lo x0 h Q) : xR G YJ10_sqrt fr lo [.double x0] h Q := by
  show xP _ _ _ _ _ (lv_args 0 _) _ _ _
  rw [show lv_args 0 [.double x0] = [(0, .double x0)] from (xla2 rfl xla0)]
  exact uJ10_sqrt hq
set_option maxRecDepth 100000 in
theorem dJ10_min_2_0 : decode cJ10_min_2 0 = .ok (.lload_n 0, 1) := by decide +kernel
set_option maxRecDepth 100000 in
theorem dJ10_min_2_1 : decode cJ10_min_2 1 = .ok (.lload_n 2, 1) := by decide +kernel
set_option maxRecDepth 100000 in
theorem dJ10_min_2_2 : decode cJ10_min_2 2 = .ok (.lcmp, 1) := by decide +kernel
set_option maxRecDepth 100000 in
theorem dJ10_min_2_3 : decode cJ10_min_2 3 = .ok (.ifCond .gt 7, 3) := by decide +kernel
set_option maxRecDepth 100000 in
theorem dJ10_min_2_6 : decode cJ10_min_2 6 = .ok (.lload_n 0, 1) := by decide +kernel
set_option maxRecDepth 100000 in
theorem dJ10_min_2_7 : decode cJ10_min_2 7 = .ok (.goto 4, 3) := by decide +kernel
set_option maxRecDepth 100000 in
theorem dJ10_min_2_10 : decode cJ10_min_2 10 = .ok (.lload_n 2, 1) := by decide +kernel
set_option maxRecDepth 100000 in
theorem dJ10_min_2_11 : decode cJ10_min_2 11 = .ok (.lreturn, 1) := by decide +kernel
set_option maxRecDepth 100000 in
def bJ10_min_2_11 (G : xG) (fr lo : Nat) (s0 : Int64) (h : xH) (Q : Outcome → xH → Prop) : Prop := Q (.returned (some (.long s0))) h
set_option maxRecDepth 100000 in
theorem uJ10_min_2_11 {G : xG} {fr lo : Nat} {s0 : Int64} {h : xH} {Q : Outcome → xH → Prop} (hq : bJ10_min_2_11 G fr lo s0 h Q) : xP G YJ10_min_2 fr lo 11 [] [.long s0] h Q := by
  unfold bJ10_min_2_11 at hq
  exact x_lret rfl dJ10_min_2_11 hq
set_option maxRecDepth 100000 in
def bJ10_min_2 (G : xG) (fr lo : Nat) (x0 : Int64) (x2 : Int64) (h : xH) (Q : Outcome → xH → Prop) : Prop := ((0 < (lg_cmp x0 x2) → bJ10_min_2_11 G fr lo x2 h Q) ∧ (¬ 0 < (lg_cmp x0 x2) → bJ10_min_2_11 G fr lo x0 h Q))
set_option maxRecDepth 100000 in
theorem uJ10_min_2 {G : xG} {fr lo : Nat} {x0 : Int64} {x2 : Int64} {h : xH} {Q : Outcome → xH → Prop} (hq : bJ10_min_2 G fr lo x0 x2 h Q) : xP G YJ10_min_2 fr lo 0 [(0, .long x0), (2, .long x2)] [] h Q := by
  unfold bJ10_min_2 at hq
  refine x_lload_n 0 dJ10_min_2_0 rfl ?_
  refine x_lload_n 1 dJ10_min_2_1 rfl ?_
  refine x_lcmp dJ10_min_2_2 ?_
  refine x_if_gt (tgt := 10) dJ10_min_2_3 (by decide) (fun c1 => ?_) (fun c1 => ?_)
  · replace hq := hq.1 c1
    refine x_lload_n 1 dJ10_min_2_10 rfl ?_
    refine xP.pick (lv' := []) [] rfl ?_
    exact uJ10_min_2_11 hq
  · replace hq := hq.2 c1
    refine x_lload_n 0 dJ10_min_2_6 rfl ?_
    refine x_goto (tgt := 11) dJ10_min_2_7 (by decide) ?_
    refine xP.pick (lv' := []) [] rfl ?_
    exact uJ10_min_2_11 hq
theorem rJ10_min_2 {G : xG} {fr lo : Nat} {x0 : Int64} {x2 : Int64} {h : xH} {Q : Outcome → xH → Prop} (hq : bJ10_min_2 G fr lo x0 x2 h Q) : xR G YJ10_min_2 fr lo [.long x0, .long x2] h Q := by
  show xP _ _ _ _ _ (lv_args 0 _) _ _ _
  rw [show lv_args 0 [.long x0, .long x2] = [(0, .long x0), (2, .long x2)] from (xla2 rfl (xla2 rfl xla0))]
  exact uJ10_min_2 hq
set_option maxRecDepth 100000 in
theorem dJ10_abs_0 : decode cJ10_abs 0 = .ok (.lload_n 0, 1) := by decide +kernel
set_option maxRecDepth 100000 in
theorem dJ10_abs_1 : decode cJ10_abs 1 = .ok (.lconst 0, 1) := by decide +kernel
set_option maxRecDepth 100000 in
theorem dJ10_abs_2 : decode cJ10_abs 2 = .ok (.lcmp, 1) := by decide +kernel
set_option maxRecDepth 100000 in
theorem dJ10_abs_3 : decode cJ10_abs 3 = .ok (.ifCond .ge 8, 3) := by decide +kernel
set_option maxRecDepth 100000 in
theorem dJ10_abs_6 : decode cJ10_abs 6 = .ok (.lload_n 0, 1) := by decide +kernel
set_option maxRecDepth 100000 in
theorem dJ10_abs_7 : decode cJ10_abs 7 = .ok (.lneg, 1) := by decide +kernel
set_option maxRecDepth 100000 in
theorem dJ10_abs_8 : decode cJ10_abs 8 = .ok (.goto 4, 3) := by decide +kernel
set_option maxRecDepth 100000 in
theorem dJ10_abs_11 : decode cJ10_abs 11 = .ok (.lload_n 0, 1) := by decide +kernel
set_option maxRecDepth 100000 in
theorem dJ10_abs_12 : decode cJ10_abs 12 = .ok (.lreturn, 1) := by decide +kernel
set_option maxRecDepth 100000 in
def bJ10_abs_12 (G : xG) (fr lo : Nat) (s0 : Int64) (h : xH) (Q : Outcome → xH → Prop) : Prop := Q (.returned (some (.long s0))) h
set_option maxRecDepth 100000 in
theorem uJ10_abs_12 {G : xG} {fr lo : Nat} {s0 : Int64} {h : xH} {Q : Outcome → xH → Prop} (hq : bJ10_abs_12 G fr lo s0 h Q) : xP G YJ10_abs fr lo 12 [] [.long s0] h Q := by
  unfold bJ10_abs_12 at hq
  exact x_lret rfl dJ10_abs_12 hq
set_option maxRecDepth 100000 in
def bJ10_abs (G : xG) (fr lo : Nat) (x0 : Int64) (h : xH) (Q : Outcome → xH → Prop) : Prop := ((0 ≤ (lg_cmp x0 0) → bJ10_abs_12 G fr lo x0 h Q) ∧ (¬ 0 ≤ (lg_cmp x0 0) → bJ10_abs_12 G fr lo (-x0) h Q))
set_option maxRecDepth 100000 in
theorem uJ10_abs {G : xG} {fr lo : Nat} {x0 : Int64} {h : xH} {Q : Outcome → xH → Prop} (hq : bJ10_abs G fr lo x0 h Q) : xP G YJ10_abs fr lo 0 [(0, .long x0)] [] h Q := by
  unfold bJ10_abs at hq
  refine x_lload_n 0 dJ10_abs_0 rfl ?_
  refine x_lconst (v := 0) dJ10_abs_1 (by decide) ?_
  refine x_lcmp dJ10_abs_2 ?_
  refine x_if_ge (tgt := 11) dJ10_abs_3 (by decide) (fun c1 => ?_) (fun c1 => ?_)
  · replace hq := hq.1 c1
    refine x_lload_n 0 dJ10_abs_11 rfl ?_
    refine xP.pick (lv' := []) [] rfl ?_
    exact uJ10_abs_12 hq
  · replace hq := hq.2 c1
    refine x_lload_n 0 dJ10_abs_6 rfl ?_
    refine x_lneg dJ10_abs_7 ?_
    refine x_goto (tgt := 12) dJ10_abs_8 (by decide) ?_
    refine xP.pick (lv' := []) [] rfl ?_
    exact uJ10_abs_12 hq
theorem rJ10_abs {G : xG} {fr lo : Nat} {x0 : Int64} {h : xH} {Q : Outcome → xH → Prop} (hq : bJ10_abs G fr lo x0 h Q) : xR G YJ10_abs fr lo [.long x0] h Q := by
  show xP _ _ _ _ _ (lv_args 0 _) _ _ _
  rw [show lv_args 0 [.long x0] = [(0, .long x0)] from (xla2 rfl xla0)]
  exact uJ10_abs hq
set_option maxRecDepth 100000 in
theorem dJ10_max_2_0 : decode cJ10_max_2 0 = .ok (.lload_n 0, 1) := by decide +kernel
set_option maxRecDepth 100000 in
theorem dJ10_max_2_1 : decode cJ10_max_2 1 = .ok (.lload_n 2, 1) := by decide +kernel
set_option maxRecDepth 100000 in
theorem dJ10_max_2_2 : decode cJ10_max_2 2 = .ok (.lcmp, 1) := by decide +kernel
set_option maxRecDepth 100000 in
theorem dJ10_max_2_3 : decode cJ10_max_2 3 = .ok (.ifCond .lt 7, 3) := by decide +kernel
set_option maxRecDepth 100000 in
theorem dJ10_max_2_6 : decode cJ10_max_2 6 = .ok (.lload_n 0, 1) := by decide +kernel
set_option maxRecDepth 100000 in
theorem dJ10_max_2_7 : decode cJ10_max_2 7 = .ok (.goto 4, 3) := by decide +kernel
set_option maxRecDepth 100000 in
theorem dJ10_max_2_10 : decode cJ10_max_2 10 = .ok (.lload_n 2, 1) := by decide +kernel
set_option maxRecDepth 100000 in
theorem dJ10_max_2_11 : decode cJ10_max_2 11 = .ok (.lreturn, 1) := by decide +kernel
set_option maxRecDepth 100000 in
def bJ10_max_2_11 (G : xG) (fr lo : Nat) (s0 : Int64) (h : xH) (Q : Outcome → xH → Prop) : Prop := Q (.returned (some (.long s0))) h
set_option maxRecDepth 100000 in
theorem uJ10_max_2_11 {G : xG} {fr lo : Nat} {s0 : Int64} {h : xH} {Q : Outcome → xH → Prop} (hq : bJ10_max_2_11 G fr lo s0 h Q) : xP G YJ10_max_2 fr lo 11 [] [.long s0] h Q := by
  unfold bJ10_max_2_11 at hq
  exact x_lret rfl dJ10_max_2_11 hq
set_option maxRecDepth 100000 in
def bJ10_max_2 (G : xG) (fr lo : Nat) (x0 : Int64) (x2 : Int64) (h : xH) (Q : Outcome → xH → Prop) : Prop := (((lg_cmp x0 x2) < 0 → bJ10_max_2_11 G fr lo x2 h Q) ∧ (¬ (lg_cmp x0 x2) < 0 → bJ10_max_2_11 G fr lo x0 h Q))
set_option maxRecDepth 100000 in
theorem uJ10_max_2 {G : xG} {fr lo : Nat} {x0 : Int64} {x2 : Int64} {h : xH} {Q : Outcome → xH → Prop} (hq : bJ10_max_2 G fr lo x0 x2 h Q) : xP G YJ10_max_2 fr lo 0 [(0, .long x0), (2, .long x2)] [] h Q := by
  unfold bJ10_max_2 at hq
  refine x_lload_n 0 dJ10_max_2_0 rfl ?_
  refine x_lload_n 1 dJ10_max_2_1 rfl ?_
  refine x_lcmp dJ10_max_2_2 ?_
  refine x_if_lt (tgt := 10) dJ10_max_2_3 (by decide) (fun c1 => ?_) (fun c1 => ?_)
  · replace hq := hq.1 c1
    refine x_lload_n 1 dJ10_max_2_10 rfl ?_
    refine xP.pick (lv' := []) [] rfl ?_
    exact uJ10_max_2_11 hq
  · replace hq := hq.2 c1
    refine x_lload_n 0 dJ10_max_2_6 rfl ?_
    refine x_goto (tgt := 11) dJ10_max_2_7 (by decide) ?_
    refine xP.pick (lv' := []) [] rfl ?_
    exact uJ10_max_2_11 hq
theorem rJ10_max_2 {G : xG} {fr lo : Nat} {x0 : Int64} {x2 : Int64} {h : xH} {Q : Outcome → xH → Prop} (hq : bJ10_max_2 G fr lo x0 x2 h Q) : xR G YJ10_max_2 fr lo [.long x0, .long x2] h Q := by
  show xP _ _ _ _ _ (lv_args 0 _) _ _ _
  rw [show lv_args 0 [.long x0, .long x2] = [(0, .long x0), (2, .long x2)] from (xla2 rfl (xla2 rfl xla0))]
  exact uJ10_max_2 hq
