/-! java/lang/Double, walked (1) -/
set_option maxRecDepth 100000 in
theorem dJ20_doubleToLongBits_0 : decode cJ20_doubleToLongBits 0 = .ok (.dload_n 0, 1) := by decide +kernel
set_option maxRecDepth 100000 in
theorem dJ20_doubleToLongBits_1 : decode cJ20_doubleToLongBits 1 = .ok (.invokestatic 122, 3) := by decide +kernel
set_option maxRecDepth 100000 in
theorem dJ20_doubleToLongBits_4 : decode cJ20_doubleToLongBits 4 = .ok (.ifCond .ne 8, 3) := by decide +kernel
set_option maxRecDepth 100000 in
theorem dJ20_doubleToLongBits_7 : decode cJ20_doubleToLongBits 7 = .ok (.dload_n 0, 1) := by decide +kernel
set_option maxRecDepth 100000 in
theorem dJ20_doubleToLongBits_8 : decode cJ20_doubleToLongBits 8 = .ok (.invokestatic 134, 3) := by decide +kernel
set_option maxRecDepth 100000 in
theorem dJ20_doubleToLongBits_11 : decode cJ20_doubleToLongBits 11 = .ok (.lreturn, 1) := by decide +kernel
set_option maxRecDepth 100000 in
theorem dJ20_doubleToLongBits_12 : decode cJ20_doubleToLongBits 12 = .ok (.ldc2_w 137, 3) := by decide +kernel
set_option maxRecDepth 100000 in
theorem dJ20_doubleToLongBits_15 : decode cJ20_doubleToLongBits 15 = .ok (.lreturn, 1) := by decide +kernel
set_option maxRecDepth 100000 in
def bJ20_doubleToLongBits (G : xG) (fr lo : Nat) (x0 : UInt64) (h : xH) (Q : Outcome → xH → Prop) : Prop := 1 ≤ fr ∧ 13 ≤ lo ∧ xRi G YJ20_isNaN (fr - 1) (lo - 13) [.double x0] h (fun x4 h3 => xext h h3 → ((¬ x4 = 0 → Q (.returned (some (.long 9221120237041090560))) h3) ∧ (x4 = 0 → 1 ≤ fr ∧ 15 ≤ lo ∧ Q (.returned (some (.long (UInt64.toInt64 x0)))) h3))) (fun r h2 => Q (.threw r) h2)
set_option maxRecDepth 100000 in
theorem uJ20_doubleToLongBits {G : xG} {fr lo : Nat} {x0 : UInt64} {h : xH} {Q : Outcome → xH → Prop} (hq : bJ20_doubleToLongBits G fr lo x0 h Q) : xP G YJ20_doubleToLongBits fr lo 0 [(0, .double x0)] [] h Q := by
  unfold bJ20_doubleToLongBits at hq
  refine x_dload_n 0 dJ20_doubleToLongBits_0 rfl ?_
  obtain ⟨g1, g2, hq⟩ := hq
  refine x_callS (Yc := YJ20_isNaN) (as := [.double x0]) (st := []) q4582 msJ20_isNaN rfl dJ20_doubleToLongBits_1 (xle (xal2 rfl xal0) (by decide)) (xfr g1) (xlo xsw0 (by decide) g2) (xKi hq (fun x4 h3 hq e5 => ?_) (fun _ _ q _ => q))
  replace hq := hq e5
  refine x_if_ne (tgt := 12) dJ20_doubleToLongBits_4 (by decide) (fun c6 => ?_) (fun c6 => ?_)
  · replace hq := hq.1 c6
    refine x_ldc2 (v := 9221120237041090560) q4586 dJ20_doubleToLongBits_12 ?_
    exact x_lret rfl dJ20_doubleToLongBits_15 hq
  · replace hq := hq.2 c6
    refine x_dload_n 0 dJ20_doubleToLongBits_7 rfl ?_
    obtain ⟨g7, g8, hq⟩ := hq
    refine x_d2lb q4585 q3045 q3044 q429 dJ20_doubleToLongBits_8 g7 (by simp only [List.map_cons, List.map_nil, List.sum_cons, List.sum_nil, rv_cat, Value.category]; omega) ?_
    exact x_lret rfl dJ20_doubleToLongBits_11 hq
theorem rJ20_doubleToLongBits {G : xG} {fr lo : Nat} {x0 : UInt64} {h : xH} {Q : Outcome → xH → Prop} (hq : bJ20_doubleToLongBits G fr lo x0 h Q) : xR G YJ20_doubleToLongBits fr lo [.double x0] h Q := by
  show xP _ _ _ _ _ (lv_args 0 _) _ _ _
  rw [show lv_args 0 [.double x0] = [(0, .double x0)] from (xla2 rfl xla0)]
  exact uJ20_doubleToLongBits hq
set_option maxRecDepth 100000 in
theorem dJ20_isNaN_0 : decode cJ20_isNaN 0 = .ok (.dload_n 0, 1) := by decide +kernel
set_option maxRecDepth 100000 in
theorem dJ20_isNaN_1 : decode cJ20_isNaN 1 = .ok (.dload_n 0, 1) := by decide +kernel
set_option maxRecDepth 100000 in
theorem dJ20_isNaN_2 : decode cJ20_isNaN 2 = .ok (.dcmp .l, 1) := by decide +kernel
set_option maxRecDepth 100000 in
theorem dJ20_isNaN_3 : decode cJ20_isNaN 3 = .ok (.ifCond .eq 7, 3) := by decide +kernel
set_option maxRecDepth 100000 in
theorem dJ20_isNaN_6 : decode cJ20_isNaN 6 = .ok (.iconst 1, 1) := by decide +kernel
set_option maxRecDepth 100000 in
theorem dJ20_isNaN_7 : decode cJ20_isNaN 7 = .ok (.goto 4, 3) := by decide +kernel
set_option maxRecDepth 100000 in
theorem dJ20_isNaN_10 : decode cJ20_isNaN 10 = .ok (.iconst 0, 1) := by decide +kernel
set_option maxRecDepth 100000 in
theorem dJ20_isNaN_11 : decode cJ20_isNaN 11 = .ok (.ireturn, 1) := by decide +kernel
set_option maxRecDepth 100000 in
def bJ20_isNaN_11 (G : xG) (fr lo : Nat) (s0 : Int32) (h : xH) (Q : Outcome → xH → Prop) : Prop := xbz s0 ∧ Q (.returned (some (.int s0))) h
set_option maxRecDepth 100000 in
theorem uJ20_isNaN_11 {G : xG} {fr lo : Nat} {s0 : Int32} {h : xH} {Q : Outcome → xH → Prop} (hq : bJ20_isNaN_11 G fr lo s0 h Q) : xP G YJ20_isNaN fr lo 11 [] [.int s0] h Q := by
  unfold bJ20_isNaN_11 at hq
  obtain ⟨g1, hq⟩ := hq
  exact x_iret rfl (xnZ g1) dJ20_isNaN_11 hq
set_option maxRecDepth 100000 in
def bJ20_isNaN (G : xG) (fr lo : Nat) (x0 : UInt64) (h : xH) (Q : Outcome → xH → Prop) : Prop := (((Op.cmpValue (FP.dcmp x0 x0) .l) = 0 → bJ20_isNaN_11 G fr lo 0 h Q) ∧ (¬ (Op.cmpValue (FP.dcmp x0 x0) .l) = 0 → bJ20_isNaN_11 G fr lo 1 h Q))
set_option maxRecDepth 100000 in
theorem uJ20_isNaN {G : xG} {fr lo : Nat} {x0 : UInt64} {h : xH} {Q : Outcome → xH → Prop} (hq : bJ20_isNaN G fr lo x0 h Q) : xP G YJ20_isNaN fr lo 0 [(0, .double x0)] [] h Q := by
  unfold bJ20_isNaN at hq
  refine x_dload_n 0 dJ20_isNaN_0 rfl ?_
  refine x_dload_n 0 dJ20_isNaN_1 rfl ?_
  refine x_dcmp dJ20_isNaN_2 ?_
  refine x_if_eq (tgt := 10) dJ20_isNaN_3 (by decide) (fun c1 => ?_) (fun c1 => ?_)
  · replace hq := hq.1 c1
    refine x_iconst (v := 0) dJ20_isNaN_10 (by decide) ?_
    refine xP.pick (lv' := []) [] rfl ?_
    exact uJ20_isNaN_11 hq
  · replace hq := hq.2 c1
    refine x_iconst (v := 1) dJ20_isNaN_6 (by decide) ?_
    refine x_goto (tgt := 11) dJ20_isNaN_7 (by decide) ?_
    refine xP.pick (lv' := []) [] rfl ?_
    exact uJ20_isNaN_11 hq
theorem rJ20_isNaN {G : xG} {fr lo : Nat} {x0 : UInt64} {h : xH} {Q : Outcome → xH → Prop} (hq : bJ20_isNaN G fr lo x0 h Q) : xR G YJ20_isNaN fr lo [.double x0] h Q := by
  show xP _ _ _ _ _ (lv_args 0 _) _ _ _
  rw [show lv_args 0 [.double x0] = [(0, .double x0)] from (xla2 rfl xla0)]
  exact uJ20_isNaN hq
