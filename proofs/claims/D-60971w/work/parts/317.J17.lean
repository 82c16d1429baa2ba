/-! java/lang/StrictMath, walked (1) -/
set_option maxRecDepth 100000 in
theorem dJ17_sqrt_0 : decode cJ17_sqrt 0 = .ok (.dload_n 0, 1) := by decide +kernel
set_option maxRecDepth 100000 in
theorem dJ17_sqrt_1 : decode cJ17_sqrt 1 = .ok (.invokestatic 47, 3) := by decide +kernel
set_option maxRecDepth 100000 in
theorem dJ17_sqrt_4 : decode cJ17_sqrt 4 = .ok (.dreturn, 1) := by decide +kernel
set_option maxRecDepth 100000 in
def bJ17_sqrt (G : xG) (fr lo : Nat) (x0 : UInt64) (h : xH) (Q : Outcome → xH → Prop) : Prop := 1 ≤ fr ∧ 27 ≤ lo ∧ xRd G YJ18_compute (fr - 1) (lo - 27) [.double x0] h (fun x4 h3 => xext h h3 → Q (.returned (some (.double x4))) h3) (fun r h2 => Q (.threw r) h2)
set_option maxRecDepth 100000 in
theorem uJ17_sqrt {G : xG} {fr lo : Nat} {x0 : UInt64} {h : xH} {Q : Outcome → xH → Prop} (hq : bJ17_sqrt G fr lo x0 h Q) : xP G YJ17_sqrt fr lo 0 [(0, .double x0)] [] h Q := by
  unfold bJ17_sqrt at hq
  refine x_dload_n 0 dJ17_sqrt_0 rfl ?_
  obtain ⟨g1, g2, hq⟩ := hq
  refine x_callS (Yc := YJ18_compute) (as := [.double x0]) (st := []) q3036 msJ18_compute rfl dJ17_sqrt_1 (xle (xal2 rfl xal0) (by decide)) (xfr g1) (xlo xsw0 (by decide) g2) (xKd hq (fun x4 h3 hq e5 => ?_) (fun _ _ q _ => q))
  replace hq := hq e5
  exact x_dret rfl dJ17_sqrt_4 hq
theorem rJ17_sqrt {G : xG} {fr lo : Nat} {x0 : UInt64} {h : xH} {Q : Outcome → xH → Prop} (hq : bJ17_sqrt G fr lo x0 h Q) : xR G YJ17_sqrt fr lo [.double x0] h Q := by
  show xP _ _ _ _ _ (lv_args 0 _) _ _ _
  rw [show lv_args 0 [.double x0] = [(0, .double x0)] from (xla2 rfl xla0)]
  exact uJ17_sqrt hq
