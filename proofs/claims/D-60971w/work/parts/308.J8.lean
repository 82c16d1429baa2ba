/-! jdk/internal/util/Preconditions, walked (1) -/
set_option maxRecDepth 100000 in
theorem dJ8_checkIndex_0 : decode cJ8_checkIndex 0 = .ok (.iload_n 0, 1) := by decide +kernel
set_option maxRecDepth 100000 in
theorem dJ8_checkIndex_1 : decode cJ8_checkIndex 1 = .ok (.ifCond .lt 8, 3) := by decide +kernel
set_option maxRecDepth 100000 in
theorem dJ8_checkIndex_4 : decode cJ8_checkIndex 4 = .ok (.iload_n 0, 1) := by decide +kernel
set_option maxRecDepth 100000 in
theorem dJ8_checkIndex_5 : decode cJ8_checkIndex 5 = .ok (.iload_n 1, 1) := by decide +kernel
set_option maxRecDepth 100000 in
theorem dJ8_checkIndex_6 : decode cJ8_checkIndex 6 = .ok (.if_icmp .lt 10, 3) := by decide +kernel
set_option maxRecDepth 100000 in
theorem dJ8_checkIndex_9 : decode cJ8_checkIndex 9 = .ok (.aload_n 2, 1) := by decide +kernel
set_option maxRecDepth 100000 in
theorem dJ8_checkIndex_10 : decode cJ8_checkIndex 10 = .ok (.iload_n 0, 1) := by decide +kernel
set_option maxRecDepth 100000 in
theorem dJ8_checkIndex_11 : decode cJ8_checkIndex 11 = .ok (.iload_n 1, 1) := by decide +kernel
set_option maxRecDepth 100000 in
theorem dJ8_checkIndex_12 : decode cJ8_checkIndex 12 = .ok (.invokestatic 95, 3) := by decide +kernel
set_option maxRecDepth 100000 in
theorem dJ8_checkIndex_15 : decode cJ8_checkIndex 15 = .ok (.athrow, 1) := by decide +kernel
set_option maxRecDepth 100000 in
theorem dJ8_checkIndex_16 : decode cJ8_checkIndex 16 = .ok (.iload_n 0, 1) := by decide +kernel
set_option maxRecDepth 100000 in
theorem dJ8_checkIndex_17 : decode cJ8_checkIndex 17 = .ok (.ireturn, 1) := by decide +kernel
set_option maxRecDepth 100000 in
def bJ8_checkIndex_9 (G : xG) (fr lo : Nat) (x0 : Int32) (x1 : Int32) (x2 : Nat) (h : xH) (Q : Outcome → xH → Prop) : Prop := False
set_option maxRecDepth 100000 in
theorem uJ8_checkIndex_9 {G : xG} {fr lo : Nat} {x0 : Int32} {x1 : Int32} {x2 : Nat} {h : xH} {Q : Outcome → xH → Prop} (hq : bJ8_checkIndex_9 G fr lo x0 x1 x2 h Q) : xP G YJ8_checkIndex fr lo 9 [(0, .int x0), (1, .int x1), (2, rv x2)] [] h Q := by
  unfold bJ8_checkIndex_9 at hq
  exact hq.elim
set_option maxRecDepth 100000 in
def bJ8_checkIndex (G : xG) (fr lo : Nat) (x0 : Int32) (x1 : Int32) (x2 : Nat) (h : xH) (Q : Outcome → xH → Prop) : Prop := ((x0 < 0 → bJ8_checkIndex_9 G fr lo x0 x1 x2 h Q) ∧ (¬ x0 < 0 → ((x0 < x1 → Q (.returned (some (.int x0))) h) ∧ (¬ x0 < x1 → bJ8_checkIndex_9 G fr lo x0 x1 x2 h Q))))
set_option maxRecDepth 100000 in
theorem uJ8_checkIndex {G : xG} {fr lo : Nat} {x0 : Int32} {x1 : Int32} {x2 : Nat} {h : xH} {Q : Outcome → xH → Prop} (hq : bJ8_checkIndex G fr lo x0 x1 x2 h Q) : xP G YJ8_checkIndex fr lo 0 [(0, .int x0), (1, .int x1), (2, rv x2)] [] h Q := by
  unfold bJ8_checkIndex at hq
  refine x_iload_n 0 dJ8_checkIndex_0 rfl ?_
  refine x_if_lt (tgt := 9) dJ8_checkIndex_1 (by decide) (fun c1 => ?_) (fun c1 => ?_)
  · replace hq := hq.1 c1
    exact uJ8_checkIndex_9 hq
  · replace hq := hq.2 c1
    refine x_iload_n 0 dJ8_checkIndex_4 rfl ?_
    refine x_iload_n 1 dJ8_checkIndex_5 rfl ?_
    refine x_icmp_lt (tgt := 16) dJ8_checkIndex_6 (by decide) (fun c2 => ?_) (fun c2 => ?_)
    · replace hq := hq.1 c2
      refine x_iload_n 0 dJ8_checkIndex_16 rfl ?_
      exact x_iret rfl rfl dJ8_checkIndex_17 hq
    · replace hq := hq.2 c2
      exact uJ8_checkIndex_9 hq
theorem rJ8_checkIndex {G : xG} {fr lo : Nat} {x0 : Int32} {x1 : Int32} {x2 : Nat} {h : xH} {Q : Outcome → xH → Prop} (hq : bJ8_checkIndex G fr lo x0 x1 x2 h Q) : xR G YJ8_checkIndex fr lo [.int x0, .int x1, rv x2] h Q := by
  show xP _ _ _ _ _ (lv_args 0 _) _ _ _
  rw [show lv_args 0 [.int x0, .int x1, rv x2] = [(0, .int x0), (1, .int x1), (2, rv x2)] from (xla1 rfl (xla1 rfl (xla1 (rv_cat _) xla0)))]
  exact uJ8_checkIndex hq
set_option maxRecDepth 100000 in
theorem dJ8_checkFromIndexSize_0 : decode cJ8_checkFromIndexSize 0 = .ok (.iload_n 2, 1) := by decide +kernel
set_option maxRecDepth 100000 in
theorem dJ8_checkFromIndexSize_1 : decode cJ8_checkFromIndexSize 1 = .ok (.iload_n 0, 1) := by decide +kernel
set_option maxRecDepth 100000 in
theorem dJ8_checkFromIndexSize_2 : decode cJ8_checkFromIndexSize 2 = .ok (.ior, 1) := by decide +kernel
set_option maxRecDepth 100000 in
theorem dJ8_checkFromIndexSize_3 : decode cJ8_checkFromIndexSize 3 = .ok (.iload_n 1, 1) := by decide +kernel
set_option maxRecDepth 100000 in
theorem dJ8_checkFromIndexSize_4 : decode cJ8_checkFromIndexSize 4 = .ok (.ior, 1) := by decide +kernel
set_option maxRecDepth 100000 in
theorem dJ8_checkFromIndexSize_5 : decode cJ8_checkFromIndexSize 5 = .ok (.ifCond .lt 10, 3) := by decide +kernel
set_option maxRecDepth 100000 in
theorem dJ8_checkFromIndexSize_8 : decode cJ8_checkFromIndexSize 8 = .ok (.iload_n 1, 1) := by decide +kernel
set_option maxRecDepth 100000 in
theorem dJ8_checkFromIndexSize_9 : decode cJ8_checkFromIndexSize 9 = .ok (.iload_n 2, 1) := by decide +kernel
set_option maxRecDepth 100000 in
theorem dJ8_checkFromIndexSize_10 : decode cJ8_checkFromIndexSize 10 = .ok (.iload_n 0, 1) := by decide +kernel
set_option maxRecDepth 100000 in
theorem dJ8_checkFromIndexSize_11 : decode cJ8_checkFromIndexSize 11 = .ok (.isub, 1) := by decide +kernel
set_option maxRecDepth 100000 in
theorem dJ8_checkFromIndexSize_12 : decode cJ8_checkFromIndexSize 12 = .ok (.if_icmp .le 11, 3) := by decide +kernel
set_option maxRecDepth 100000 in
theorem dJ8_checkFromIndexSize_15 : decode cJ8_checkFromIndexSize 15 = .ok (.aload_n 3, 1) := by decide +kernel
set_option maxRecDepth 100000 in
theorem dJ8_checkFromIndexSize_16 : decode cJ8_checkFromIndexSize 16 = .ok (.iload_n 0, 1) := by decide +kernel
set_option maxRecDepth 100000 in
theorem dJ8_checkFromIndexSize_17 : decode cJ8_checkFromIndexSize 17 = .ok (.iload_n 1, 1) := by decide +kernel
set_option maxRecDepth 100000 in
theorem dJ8_checkFromIndexSize_18 : decode cJ8_checkFromIndexSize 18 = .ok (.iload_n 2, 1) := by decide +kernel
set_option maxRecDepth 100000 in
theorem dJ8_checkFromIndexSize_19 : decode cJ8_checkFromIndexSize 19 = .ok (.invokestatic 103, 3) := by decide +kernel
set_option maxRecDepth 100000 in
theorem dJ8_checkFromIndexSize_22 : decode cJ8_checkFromIndexSize 22 = .ok (.athrow, 1) := by decide +kernel
set_option maxRecDepth 100000 in
theorem dJ8_checkFromIndexSize_23 : decode cJ8_checkFromIndexSize 23 = .ok (.iload_n 0, 1) := by decide +kernel
set_option maxRecDepth 100000 in
theorem dJ8_checkFromIndexSize_24 : decode cJ8_checkFromIndexSize 24 = .ok (.ireturn, 1) := by decide +kernel
set_option maxRecDepth 100000 in
def bJ8_checkFromIndexSize_15 (G : xG) (fr lo : Nat) (x0 : Int32) (x1 : Int32) (x2 : Int32) (x3 : Nat) (h : xH) (Q : Outcome → xH → Prop) : Prop := False
set_option maxRecDepth 100000 in
theorem uJ8_checkFromIndexSize_15 {G : xG} {fr lo : Nat} {x0 : Int32} {x1 : Int32} {x2 : Int32} {x3 : Nat} {h : xH} {Q : Outcome → xH → Prop} (hq : bJ8_checkFromIndexSize_15 G fr lo x0 x1 x2 x3 h Q) : xP G YJ8_checkFromIndexSize fr lo 15 [(0, .int x0), (1, .int x1), (2, .int x2), (3, rv x3)] [] h Q := by
  unfold bJ8_checkFromIndexSize_15 at hq
  exact hq.elim
set_option maxRecDepth 100000 in
def bJ8_checkFromIndexSize (G : xG) (fr lo : Nat) (x0 : Int32) (x1 : Int32) (x2 : Int32) (x3 : Nat) (h : xH) (Q : Outcome → xH → Prop) : Prop := ((((x2 ||| x0) ||| x1) < 0 → bJ8_checkFromIndexSize_15 G fr lo x0 x1 x2 x3 h Q) ∧ (¬ ((x2 ||| x0) ||| x1) < 0 → ((x1 ≤ (x2 - x0) → Q (.returned (some (.int x0))) h) ∧ (¬ x1 ≤ (x2 - x0) → bJ8_checkFromIndexSize_15 G fr lo x0 x1 x2 x3 h Q))))
set_option maxRecDepth 100000 in
theorem uJ8_checkFromIndexSize {G : xG} {fr lo : Nat} {x0 : Int32} {x1 : Int32} {x2 : Int32} {x3 : Nat} {h : xH} {Q : Outcome → xH → Prop} (hq : bJ8_checkFromIndexSize G fr lo x0 x1 x2 x3 h Q) : xP G YJ8_checkFromIndexSize fr lo 0 [(0, .int x0), (1, .int x1), (2, .int x2), (3, rv x3)] [] h Q := by
  unfold bJ8_checkFromIndexSize at hq
  refine x_iload_n 2 dJ8_checkFromIndexSize_0 rfl ?_
  refine x_iload_n 0 dJ8_checkFromIndexSize_1 rfl ?_
  refine x_ior dJ8_checkFromIndexSize_2 ?_
  refine x_iload_n 1 dJ8_checkFromIndexSize_3 rfl ?_
  refine x_ior dJ8_checkFromIndexSize_4 ?_
  refine x_if_lt (tgt := 15) dJ8_checkFromIndexSize_5 (by decide) (fun c1 => ?_) (fun c1 => ?_)
  · replace hq := hq.1 c1
    exact uJ8_checkFromIndexSize_15 hq
  · replace hq := hq.2 c1
    refine x_iload_n 1 dJ8_checkFromIndexSize_8 rfl ?_
    refine x_iload_n 2 dJ8_checkFromIndexSize_9 rfl ?_
    refine x_iload_n 0 dJ8_checkFromIndexSize_10 rfl ?_
    refine x_isub dJ8_checkFromIndexSize_11 ?_
    refine x_icmp_le (tgt := 23) dJ8_checkFromIndexSize_12 (by decide) (fun c2 => ?_) (fun c2 => ?_)
    · replace hq := hq.1 c2
      refine x_iload_n 0 dJ8_checkFromIndexSize_23 rfl ?_
      exact x_iret rfl rfl dJ8_checkFromIndexSize_24 hq
    · replace hq := hq.2 c2
      exact uJ8_checkFromIndexSize_15 hq
theorem rJ8_checkFromIndexSize {G : xG} {fr lo : Nat} {x0 : Int32} {x1 : Int32} {x2 : Int32} {x3 : Nat} {h : xH} {Q : Outcome → xH → Prop} (hq : bJ8_checkFromIndexSize G fr lo x0 x1 x2 x3 h Q) : xR G YJ8_checkFromIndexSize fr lo [.int x0, .int x1, .int x2, rv x3] h Q := by
  show xP _ _ _ _ _ (lv_args 0 _) _ _ _
  rw [show lv_args 0 [.int x0, .int x1, .int x2, rv x3] = [(0, .int x0), (1, .int x1), (2, .int x2), (3, rv x3)] from (xla1 rfl (xla1 rfl (xla1 rfl (xla1 (rv_cat _) xla0))))]
  exact uJ8_checkFromIndexSize hq
