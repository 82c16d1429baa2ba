/-! java/lang/FdLibm, walked (1) -/
set_option maxRecDepth 100000 in
theorem dJ19___HI_0 : decode cJ19___HI 0 = .ok (.dload_n 0, 1) := by decide +kernel
set_option maxRecDepth 100000 in
theorem dJ19___HI_1 : decode cJ19___HI 1 = .ok (.invokestatic 16, 3) := by decide +kernel
set_option maxRecDepth 100000 in
theorem dJ19___HI_4 : decode cJ19___HI 4 = .ok (.lstore_n 2, 1) := by decide +kernel
set_option maxRecDepth 100000 in
theorem dJ19___HI_5 : decode cJ19___HI 5 = .ok (.lload_n 2, 1) := by decide +kernel
set_option maxRecDepth 100000 in
theorem dJ19___HI_6 : decode cJ19___HI 6 = .ok (.bipush 32, 2) := by decide +kernel
set_option maxRecDepth 100000 in
theorem dJ19___HI_8 : decode cJ19___HI 8 = .ok (.lshr, 1) := by decide +kernel
set_option maxRecDepth 100000 in
theorem dJ19___HI_9 : decode cJ19___HI 9 = .ok (.l2i, 1) := by decide +kernel
set_option maxRecDepth 100000 in
theorem dJ19___HI_10 : decode cJ19___HI 10 = .ok (.ireturn, 1) := by decide +kernel
set_option maxRecDepth 100000 in
def bJ19___HI (G : xG) (fr lo : Nat) (x0 : UInt64) (h : xH) (Q : Outcome → xH → Prop) : Prop := 1 ≤ fr ∧ 15 ≤ lo ∧ Q (.returned (some (.int (Int64.toInt32 ((UInt64.toInt64 x0) >>> (Int32.toInt64 32 &&& 63)))))) h
set_option maxRecDepth 100000 in
theorem uJ19___HI {G : xG} {fr lo : Nat} {x0 : UInt64} {h : xH} {Q : Outcome → xH → Prop} (hq : bJ19___HI G fr lo x0 h Q) : xP G YJ19___HI fr lo 0 [(0, .double x0)] [] h Q := by
  unfold bJ19___HI at hq
  refine x_dload_n 0 dJ19___HI_0 rfl ?_
  obtain ⟨g1, g2, hq⟩ := hq
  refine x_d2lb q3043 q3045 q3044 q429 dJ19___HI_1 g1 (by simp only [List.map_cons, List.map_nil, List.sum_cons, List.sum_nil, rv_cat, Value.category]; omega) ?_
  refine x_lstore_n (lv' := [(2, .long (UInt64.toInt64 x0)), (0, .double x0)]) dJ19___HI_4 (by decide) rfl ?_
  refine x_lload_n 0 dJ19___HI_5 rfl ?_
  refine x_bipush (v := 32) dJ19___HI_6 (by decide) ?_
  refine x_lshr dJ19___HI_8 ?_
  refine x_l2i dJ19___HI_9 ?_
  exact x_iret rfl rfl dJ19___HI_10 hq
theorem rJ19___HI {G : xG} {fr lo : Nat} {x0 : UInt64} {h : xH} {Q : Outcome → xH → Prop} (hq : bJ19___HI G fr lo x0 h Q) : xR G YJ19___HI fr lo [.double x0] h Q := by
  show xP _ _ _ _ _ (lv_args 0 _) _ _ _
  rw [show lv_args 0 [.double x0] = [(0, .double x0)] from (xla2 rfl xla0)]
  exact uJ19___HI hq
set_option maxRecDepth 100000 in
theorem dJ19___LO_0 : decode cJ19___LO 0 = .ok (.dload_n 0, 1) := by decide +kernel
set_option maxRecDepth 100000 in
theorem dJ19___LO_1 : decode cJ19___LO 1 = .ok (.invokestatic 16, 3) := by decide +kernel
set_option maxRecDepth 100000 in
theorem dJ19___LO_4 : decode cJ19___LO 4 = .ok (.lstore_n 2, 1) := by decide +kernel
set_option maxRecDepth 100000 in
theorem dJ19___LO_5 : decode cJ19___LO 5 = .ok (.lload_n 2, 1) := by decide +kernel
set_option maxRecDepth 100000 in
theorem dJ19___LO_6 : decode cJ19___LO 6 = .ok (.l2i, 1) := by decide +kernel
set_option maxRecDepth 100000 in
theorem dJ19___LO_7 : decode cJ19___LO 7 = .ok (.ireturn, 1) := by decide +kernel
set_option maxRecDepth 100000 in
def bJ19___LO (G : xG) (fr lo : Nat) (x0 : UInt64) (h : xH) (Q : Outcome → xH → Prop) : Prop := 1 ≤ fr ∧ 15 ≤ lo ∧ Q (.returned (some (.int (Int64.toInt32 (UInt64.toInt64 x0))))) h
set_option maxRecDepth 100000 in
theorem uJ19___LO {G : xG} {fr lo : Nat} {x0 : UInt64} {h : xH} {Q : Outcome → xH → Prop} (hq : bJ19___LO G fr lo x0 h Q) : xP G YJ19___LO fr lo 0 [(0, .double x0)] [] h Q := by
  unfold bJ19___LO at hq
  refine x_dload_n 0 dJ19___LO_0 rfl ?_
  obtain ⟨g1, g2, hq⟩ := hq
  refine x_d2lb q3043 q3045 q3044 q429 dJ19___LO_1 g1 (by simp only [List.map_cons, List.map_nil, List.sum_cons, List.sum_nil, rv_cat, Value.category]; omega) ?_
  refine x_lstore_n (lv' := [(2, .long (UInt64.toInt64 x0)), (0, .double x0)]) dJ19___LO_4 (by decide) rfl ?_
  refine x_lload_n 0 dJ19___LO_5 rfl ?_
  refine x_l2i dJ19___LO_6 ?_
  exact x_iret rfl rfl dJ19___LO_7 hq
theorem rJ19___LO {G : xG} {fr lo : Nat} {x0 : UInt64} {h : xH} {Q : Outcome → xH → Prop} (hq : bJ19___LO G fr lo x0 h Q) : xR G YJ19___LO fr lo [.double x0] h Q := by
  show xP _ _ _ _ _ (lv_args 0 _) _ _ _
  rw [show lv_args 0 [.double x0] = [(0, .double x0)] from (xla2 rfl xla0)]
  exact uJ19___LO hq
set_option maxRecDepth 100000 in
theorem dJ19___HI_LO_0 : decode cJ19___HI_LO 0 = .ok (.iload_n 0, 1) := by decide +kernel
set_option maxRecDepth 100000 in
theorem dJ19___HI_LO_1 : decode cJ19___HI_LO 1 = .ok (.i2l, 1) := by decide +kernel
set_option maxRecDepth 100000 in
theorem dJ19___HI_LO_2 : decode cJ19___HI_LO 2 = .ok (.bipush 32, 2) := by decide +kernel
set_option maxRecDepth 100000 in
theorem dJ19___HI_LO_4 : decode cJ19___HI_LO 4 = .ok (.lshl, 1) := by decide +kernel
set_option maxRecDepth 100000 in
theorem dJ19___HI_LO_5 : decode cJ19___HI_LO 5 = .ok (.iload_n 1, 1) := by decide +kernel
set_option maxRecDepth 100000 in
theorem dJ19___HI_LO_6 : decode cJ19___HI_LO 6 = .ok (.i2l, 1) := by decide +kernel
set_option maxRecDepth 100000 in
theorem dJ19___HI_LO_7 : decode cJ19___HI_LO 7 = .ok (.ldc2_w 22, 3) := by decide +kernel
set_option maxRecDepth 100000 in
theorem dJ19___HI_LO_10 : decode cJ19___HI_LO 10 = .ok (.land, 1) := by decide +kernel
set_option maxRecDepth 100000 in
theorem dJ19___HI_LO_11 : decode cJ19___HI_LO 11 = .ok (.lor, 1) := by decide +kernel
set_option maxRecDepth 100000 in
theorem dJ19___HI_LO_12 : decode cJ19___HI_LO 12 = .ok (.invokestatic 24, 3) := by decide +kernel
set_option maxRecDepth 100000 in
theorem dJ19___HI_LO_15 : decode cJ19___HI_LO 15 = .ok (.dreturn, 1) := by decide +kernel
set_option maxRecDepth 100000 in
def bJ19___HI_LO (G : xG) (fr lo : Nat) (x0 : Int32) (x1 : Int32) (h : xH) (Q : Outcome → xH → Prop) : Prop := vn_snl2d (((Int32.toInt64 x0) <<< (Int32.toInt64 32 &&& 63)) ||| ((Int32.toInt64 x1) &&& 4294967295)) = false ∧ 1 ≤ fr ∧ 15 ≤ lo ∧ Q (.returned (some (.double (Int64.toUInt64 (((Int32.toInt64 x0) <<< (Int32.toInt64 32 &&& 63)) ||| ((Int32.toInt64 x1) &&& 4294967295)))))) h
set_option maxRecDepth 100000 in
theorem uJ19___HI_LO {G : xG} {fr lo : Nat} {x0 : Int32} {x1 : Int32} {h : xH} {Q : Outcome → xH → Prop} (hq : bJ19___HI_LO G fr lo x0 x1 h Q) : xP G YJ19___HI_LO fr lo 0 [(0, .int x0), (1, .int x1)] [] h Q := by
  unfold bJ19___HI_LO at hq
  refine x_iload_n 0 dJ19___HI_LO_0 rfl ?_
  refine x_i2l dJ19___HI_LO_1 ?_
  refine x_bipush (v := 32) dJ19___HI_LO_2 (by decide) ?_
  refine x_lshl dJ19___HI_LO_4 ?_
  refine x_iload_n 1 dJ19___HI_LO_5 rfl ?_
  refine x_i2l dJ19___HI_LO_6 ?_
  refine x_ldc2 (v := 4294967295) q3064 dJ19___HI_LO_7 ?_
  refine x_land dJ19___HI_LO_10 ?_
  refine x_lor dJ19___HI_LO_11 ?_
  obtain ⟨g1, hq⟩ := hq
  obtain ⟨g2, g3, hq⟩ := hq
  refine x_l2db q3065 q3067 q3066 q429 g1 dJ19___HI_LO_12 g2 (by simp only [List.map_cons, List.map_nil, List.sum_cons, List.sum_nil, rv_cat, Value.category]; omega) ?_
  exact x_dret rfl dJ19___HI_LO_15 hq
theorem rJ19___HI_LO {G : xG} {fr lo : Nat} {x0 : Int32} {x1 : Int32} {h : xH} {Q : Outcome → xH → Prop} (hq : bJ19___HI_LO G fr lo x0 x1 h Q) : xR G YJ19___HI_LO fr lo [.int x0, .int x1] h Q := by
  show xP _ _ _ _ _ (lv_args 0 _) _ _ _
  rw [show lv_args 0 [.int x0, .int x1] = [(0, .int x0), (1, .int x1)] from (xla1 rfl (xla1 rfl xla0))]
  exact uJ19___HI_LO hq
