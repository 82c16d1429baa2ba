/-! java/util/Objects, walked (1) -/
set_option maxRecDepth 100000 in
theorem dJ16_checkIndex_0 : decode cJ16_checkIndex 0 = .ok (.iload_n 0, 1) := by decide +kernel
set_option maxRecDepth 100000 in
theorem dJ16_checkIndex_1 : decode cJ16_checkIndex 1 = .ok (.iload_n 1, 1) := by decide +kernel
set_option maxRecDepth 100000 in
theorem dJ16_checkIndex_2 : decode cJ16_checkIndex 2 = .ok (.aconst_null, 1) := by decide +kernel
set_option maxRecDepth 100000 in
theorem dJ16_checkIndex_3 : decode cJ16_checkIndex 3 = .ok (.invokestatic 105, 3) := by decide +kernel
set_option maxRecDepth 100000 in
theorem dJ16_checkIndex_6 : decode cJ16_checkIndex 6 = .ok (.ireturn, 1) := by decide +kernel
set_option maxRecDepth 100000 in
def bJ16_checkIndex (G : xG) (fr lo : Nat) (x0 : Int32) (x1 : Int32) (h : xH) (Q : Outcome → xH → Prop) : Prop := 1 ≤ fr ∧ 14 ≤ lo ∧ xRi G YJ8_checkIndex (fr - 1) (lo - 14) [.int x0, .int x1, rv 0] h (fun x4 h3 => xext h h3 → Q (.returned (some (.int x4))) h3) (fun r h2 => Q (.threw r) h2)
set_option maxRecDepth 100000 in
theorem uJ16_checkIndex {G : xG} {fr lo : Nat} {x0 : Int32} {x1 : Int32} {h : xH} {Q : Outcome → xH → Prop} (hq : bJ16_checkIndex G fr lo x0 x1 h Q) : xP G YJ16_checkIndex fr lo 0 [(0, .int x0), (1, .int x1)] [] h Q := by
  unfold bJ16_checkIndex at hq
  refine x_iload_n 0 dJ16_checkIndex_0 rfl ?_
  refine x_iload_n 1 dJ16_checkIndex_1 rfl ?_
  refine x_null dJ16_checkIndex_2 ?_
  obtain ⟨g1, g2, hq⟩ := hq
  refine x_callS (Yc := YJ8_checkIndex) (as := [.int x0, .int x1, rv 0]) (st := []) q2122 msJ8_checkIndex rfl dJ16_checkIndex_3 (xle (xal1 rfl (xal1 rfl (xal1 (rv_cat _) xal0))) (by decide)) (xfr g1) (xlo xsw0 (by decide) g2) (xKi hq (fun x4 h3 hq e5 => ?_) (fun _ _ q _ => q))
  replace hq := hq e5
  exact x_iret rfl rfl dJ16_checkIndex_6 hq
theorem rJ16_checkIndex {G : xG} {fr lo : Nat} {x0 : Int32} {x1 : Int32} {h : xH} {Q : Outcome → xH → Prop} (hq : bJ16_checkIndex G fr lo x0 x1 h Q) : xR G YJ16_checkIndex fr lo [.int x0, .int x1] h Q := by
  show xP _ _ _ _ _ (lv_args 0 _) _ _ _
  rw [show lv_args 0 [.int x0, .int x1] = [(0, .int x0), (1, .int x1)] from (xla1 rfl (xla1 rfl xla0))]
  exact uJ16_checkIndex hq
