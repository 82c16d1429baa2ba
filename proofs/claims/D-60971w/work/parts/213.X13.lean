/-! PascalHouseModel$Type, walked (1) -/
set_option maxRecDepth 100000 in
theorem dX13_init_0 : decode cX13_init 0 = .ok (.aload_n 0, 1) := by decide +kernel
set_option maxRecDepth 100000 in
theorem dX13_init_1 : decode cX13_init 1 = .ok (.invokespecial 3, 3) := by decide +kernel
set_option maxRecDepth 100000 in
theorem dX13_init_4 : decode cX13_init 4 = .ok (.aload_n 0, 1) := by decide +kernel
set_option maxRecDepth 100000 in
theorem dX13_init_5 : decode cX13_init 5 = .ok (.lconst 1, 1) := by decide +kernel
set_option maxRecDepth 100000 in
theorem dX13_init_6 : decode cX13_init 6 = .ok (.putfield 9, 3) := by decide +kernel
set_option maxRecDepth 100000 in
theorem dX13_init_9 : decode cX13_init 9 = .ok (.aload_n 0, 1) := by decide +kernel
set_option maxRecDepth 100000 in
theorem dX13_init_10 : decode cX13_init 10 = .ok (.iload_n 1, 1) := by decide +kernel
set_option maxRecDepth 100000 in
theorem dX13_init_11 : decode cX13_init 11 = .ok (.putfield 15, 3) := by decide +kernel
set_option maxRecDepth 100000 in
theorem dX13_init_14 : decode cX13_init 14 = .ok (.return_, 1) := by decide +kernel
set_option maxRecDepth 100000 in
def bX13_init (G : xG) (fr lo : Nat) (x0 : Nat) (x1 : Int32) (h : xH) (Q : Outcome → xH → Prop) : Prop := tg h x0 = 14 ∧ 1 ≤ fr ∧ 12 ≤ lo ∧ (∀ h4 : xH, h4 = sJ h x0 3334 1 → (∀ h7 : xH, h7 = sI h4 x0 3328 x1 → Q (.returned none) h7))
set_option maxRecDepth 100000 in
theorem uX13_init {G : xG} {fr lo : Nat} {x0 : Nat} {x1 : Int32} {h : xH} {Q : Outcome → xH → Prop} (hq : bX13_init G fr lo x0 x1 h Q) : xP G YX13_init fr lo 0 [(0, rv x0), (1, .int x1)] [] h Q := by
  unfold bX13_init at hq
  refine x_aload_n 0 dX13_init_0 rfl ?_
  obtain ⟨g1, hq⟩ := hq
  obtain ⟨g2, g3, hq⟩ := hq
  refine x_objInit (by rw [g1]; decide) q3212 q438 q439 dX13_init_1 g2 (by simp only [List.map_cons, List.map_nil, List.sum_cons, List.sum_nil, rv_cat, Value.category]; omega) ?_
  refine x_aload_n 0 dX13_init_4 rfl ?_
  refine x_lconst (v := 1) dX13_init_5 (by decide) ?_
  obtain ⟨h4, e5⟩ : ∃ y, y = sJ h x0 3334 1 := ⟨_, rfl⟩
  replace hq := hq h4 e5
  refine x_putJ fdX13_9 dX13_init_6 g1 (Or.inl (by rw [g1]; rfl)) rfl e5 ?_
  refine x_aload_n 0 dX13_init_9 rfl ?_
  refine x_iload_n 1 dX13_init_10 rfl ?_
  have t6 : tg h4 x0 = 14 := by rw [e5]; exact g1
  obtain ⟨h7, e8⟩ : ∃ y, y = sI h4 x0 3328 x1 := ⟨_, rfl⟩
  replace hq := hq h7 e8
  refine x_putFI fdX13_15 owX13_init_0 xty_I1 dX13_init_11 t6 (Or.inl (by rw [t6]; rfl)) xnI rfl e8 ?_
  exact x_vret rfl dX13_init_14 hq
theorem rX13_init {G : xG} {fr lo : Nat} {x0 : Nat} {x1 : Int32} {h : xH} {Q : Outcome → xH → Prop} (hq : bX13_init G fr lo x0 x1 h Q) : xR G YX13_init fr lo [rv x0, .int x1] h Q := by
  show xP _ _ _ _ _ (lv_args 0 _) _ _ _
  rw [show lv_args 0 [rv x0, .int x1] = [(0, rv x0), (1, .int x1)] from (xla1 (rv_cat _) (xla1 rfl xla0))]
  exact uX13_init hq
set_option maxRecDepth 100000 in
theorem dX13_isNumber_0 : decode cX13_isNumber 0 = .ok (.aload_n 0, 1) := by decide +kernel
set_option maxRecDepth 100000 in
theorem dX13_isNumber_1 : decode cX13_isNumber 1 = .ok (.invokevirtual 23, 3) := by decide +kernel
set_option maxRecDepth 100000 in
theorem dX13_isNumber_4 : decode cX13_isNumber 4 = .ok (.getfield 15, 3) := by decide +kernel
set_option maxRecDepth 100000 in
theorem dX13_isNumber_7 : decode cX13_isNumber 7 = .ok (.iconst 1, 1) := by decide +kernel
set_option maxRecDepth 100000 in
theorem dX13_isNumber_8 : decode cX13_isNumber 8 = .ok (.if_icmp .eq 11, 3) := by decide +kernel
set_option maxRecDepth 100000 in
theorem dX13_isNumber_11 : decode cX13_isNumber 11 = .ok (.aload_n 0, 1) := by decide +kernel
set_option maxRecDepth 100000 in
theorem dX13_isNumber_12 : decode cX13_isNumber 12 = .ok (.getfield 15, 3) := by decide +kernel
set_option maxRecDepth 100000 in
theorem dX13_isNumber_15 : decode cX13_isNumber 15 = .ok (.iconst 2, 1) := by decide +kernel
set_option maxRecDepth 100000 in
theorem dX13_isNumber_16 : decode cX13_isNumber 16 = .ok (.if_icmp .ne 7, 3) := by decide +kernel
set_option maxRecDepth 100000 in
theorem dX13_isNumber_19 : decode cX13_isNumber 19 = .ok (.iconst 1, 1) := by decide +kernel
set_option maxRecDepth 100000 in
theorem dX13_isNumber_20 : decode cX13_isNumber 20 = .ok (.goto 4, 3) := by decide +kernel
set_option maxRecDepth 100000 in
theorem dX13_isNumber_23 : decode cX13_isNumber 23 = .ok (.iconst 0, 1) := by decide +kernel
set_option maxRecDepth 100000 in
theorem dX13_isNumber_24 : decode cX13_isNumber 24 = .ok (.ireturn, 1) := by decide +kernel
set_option maxRecDepth 100000 in
def bX13_isNumber_24 (G : xG) (fr lo : Nat) (s0 : Int32) (h : xH) (Q : Outcome → xH → Prop) : Prop := xbz s0 ∧ Q (.returned (some (.int s0))) h
set_option maxRecDepth 100000 in
theorem uX13_isNumber_24 {G : xG} {fr lo : Nat} {s0 : Int32} {h : xH} {Q : Outcome → xH → Prop} (hq : bX13_isNumber_24 G fr lo s0 h Q) : xP G YX13_isNumber fr lo 24 [] [.int s0] h Q := by
  unfold bX13_isNumber_24 at hq
  obtain ⟨g1, hq⟩ := hq
  exact x_iret rfl (xnZ g1) dX13_isNumber_24 hq
set_option maxRecDepth 100000 in
def bX13_isNumber_19 (G : xG) (fr lo : Nat) (h : xH) (Q : Outcome → xH → Prop) : Prop := bX13_isNumber_24 G fr lo 1 h Q
set_option maxRecDepth 100000 in
theorem uX13_isNumber_19 {G : xG} {fr lo : Nat} {h : xH} {Q : Outcome → xH → Prop} (hq : bX13_isNumber_19 G fr lo h Q) : xP G YX13_isNumber fr lo 19 [] [] h Q := by
  unfold bX13_isNumber_19 at hq
  refine x_iconst (v := 1) dX13_isNumber_19 (by decide) ?_
  refine x_goto (tgt := 24) dX13_isNumber_20 (by decide) ?_
  exact uX13_isNumber_24 hq
set_option maxRecDepth 100000 in
def bX13_isNumber (G : xG) (fr lo : Nat) (x0 : Nat) (h : xH) (Q : Outcome → xH → Prop) : Prop := tg h x0 = 14 ∧ 1 ≤ fr ∧ 12 ≤ lo ∧ xRr G YX13_own (fr - 1) (lo - 12) [rv x0] h (fun x5 h4 => xext h h4 → tg h4 x5 = 14 ∧ (((fI h4 x5 3328) = 1 → bX13_isNumber_19 G fr lo h4 Q) ∧ (¬ (fI h4 x5 3328) = 1 → ((¬ (fI h4 x0 3328) = 2 → bX13_isNumber_24 G fr lo 0 h4 Q) ∧ ((fI h4 x0 3328) = 2 → bX13_isNumber_19 G fr lo h4 Q))))) (fun r h2 => Q (.threw r) h2)
set_option maxRecDepth 100000 in
theorem uX13_isNumber {G : xG} {fr lo : Nat} {x0 : Nat} {h : xH} {Q : Outcome → xH → Prop} (hq : bX13_isNumber G fr lo x0 h Q) : xP G YX13_isNumber fr lo 0 [(0, rv x0)] [] h Q := by
  unfold bX13_isNumber at hq
  refine x_aload_n 0 dX13_isNumber_0 rfl ?_
  obtain ⟨g1, hq⟩ := hq
  obtain ⟨g2, g3, hq⟩ := hq
  refine x_callV (Yc := YX13_own) (as := []) (st := []) q4169 mvX13_own g1 rfl dX13_isNumber_1 (xle (xal1 (rv_cat _) xal0) (by decide)) (xfr g2) (xlo xsw0 (by decide) g3) (xKr hq (fun x5 h4 hq e6 => ?_) (fun _ _ q _ => q))
  replace hq := hq e6
  obtain ⟨g7, hq⟩ := hq
  refine x_get (v := .int (fI h4 x5 3328)) fdX13_15 dX13_isNumber_4 g7 rfl ?_
  refine x_iconst (v := 1) dX13_isNumber_7 (by decide) ?_
  refine x_icmp_eq (tgt := 19) dX13_isNumber_8 (by decide) (fun c8 => ?_) (fun c8 => ?_)
  · replace hq := hq.1 c8
    refine xP.pick (lv' := []) [] rfl ?_
    exact uX13_isNumber_19 hq
  · replace hq := hq.2 c8
    refine x_aload_n 0 dX13_isNumber_11 rfl ?_
    have t9 : tg h4 x0 = 14 := e6.tg g1 (by decide)
    refine x_get (v := .int (fI h4 x0 3328)) fdX13_15 dX13_isNumber_12 t9 rfl ?_
    refine x_iconst (v := 2) dX13_isNumber_15 (by decide) ?_
    refine x_icmp_ne (tgt := 23) dX13_isNumber_16 (by decide) (fun c10 => ?_) (fun c10 => ?_)
    · replace hq := hq.1 c10
      refine x_iconst (v := 0) dX13_isNumber_23 (by decide) ?_
      refine xP.pick (lv' := []) [] rfl ?_
      exact uX13_isNumber_24 hq
    · replace hq := hq.2 c10
      refine xP.pick (lv' := []) [] rfl ?_
      exact uX13_isNumber_19 hq
theorem rX13_isNumber {G : xG} {fr lo : Nat} {x0 : Nat} {h : xH} {Q : Outcome → xH → Prop} (hq : bX13_isNumber G fr lo x0 h Q) : xR G YX13_isNumber fr lo [rv x0] h Q := by
  show xP _ _ _ _ _ (lv_args 0 _) _ _ _
  rw [show lv_args 0 [rv x0] = [(0, rv x0)] from (xla1 (rv_cat _) xla0)]
  exact uX13_isNumber hq
set_option maxRecDepth 100000 in
theorem dX13_own_0 : decode cX13_own 0 = .ok (.aload_n 0, 1) := by decide +kernel
set_option maxRecDepth 100000 in
theorem dX13_own_1 : decode cX13_own 1 = .ok (.getfield 15, 3) := by decide +kernel
set_option maxRecDepth 100000 in
theorem dX13_own_4 : decode cX13_own 4 = .ok (.bipush 6, 2) := by decide +kernel
set_option maxRecDepth 100000 in
theorem dX13_own_6 : decode cX13_own 6 = .ok (.if_icmp .ne 10, 3) := by decide +kernel
set_option maxRecDepth 100000 in
theorem dX13_own_9 : decode cX13_own 9 = .ok (.aload_n 0, 1) := by decide +kernel
set_option maxRecDepth 100000 in
theorem dX13_own_10 : decode cX13_own 10 = .ok (.getfield 19, 3) := by decide +kernel
set_option maxRecDepth 100000 in
theorem dX13_own_13 : decode cX13_own 13 = .ok (.goto 4, 3) := by decide +kernel
set_option maxRecDepth 100000 in
theorem dX13_own_16 : decode cX13_own 16 = .ok (.aload_n 0, 1) := by decide +kernel
set_option maxRecDepth 100000 in
theorem dX13_own_17 : decode cX13_own 17 = .ok (.areturn, 1) := by decide +kernel
set_option maxRecDepth 100000 in
def bX13_own_17 (G : xG) (fr lo : Nat) (s0 : Nat) (h : xH) (Q : Outcome → xH → Prop) : Prop := Q (.returned (some (rv s0))) h
set_option maxRecDepth 100000 in
theorem uX13_own_17 {G : xG} {fr lo : Nat} {s0 : Nat} {h : xH} {Q : Outcome → xH → Prop} (hq : bX13_own_17 G fr lo s0 h Q) : xP G YX13_own fr lo 17 [] [rv s0] h Q := by
  unfold bX13_own_17 at hq
  exact x_aret rfl xty_O dX13_own_17 hq
set_option maxRecDepth 100000 in
def bX13_own (G : xG) (fr lo : Nat) (x0 : Nat) (h : xH) (Q : Outcome → xH → Prop) : Prop := tg h x0 = 14 ∧ ((¬ (fI h x0 3328) = 6 → bX13_own_17 G fr lo x0 h Q) ∧ ((fI h x0 3328) = 6 → bX13_own_17 G fr lo (fR h x0 3331) h Q))
set_option maxRecDepth 100000 in
theorem uX13_own {G : xG} {fr lo : Nat} {x0 : Nat} {h : xH} {Q : Outcome → xH → Prop} (hq : bX13_own G fr lo x0 h Q) : xP G YX13_own fr lo 0 [(0, rv x0)] [] h Q := by
  unfold bX13_own at hq
  refine x_aload_n 0 dX13_own_0 rfl ?_
  obtain ⟨g1, hq⟩ := hq
  refine x_get (v := .int (fI h x0 3328)) fdX13_15 dX13_own_1 g1 rfl ?_
  refine x_bipush (v := 6) dX13_own_4 (by decide) ?_
  refine x_icmp_ne (tgt := 16) dX13_own_6 (by decide) (fun c2 => ?_) (fun c2 => ?_)
  · replace hq := hq.1 c2
    refine x_aload_n 0 dX13_own_16 rfl ?_
    refine xP.pick (lv' := []) [] rfl ?_
    exact uX13_own_17 hq
  · replace hq := hq.2 c2
    refine x_aload_n 0 dX13_own_9 rfl ?_
    refine x_get (v := rv (fR h x0 3331)) fdX13_19 dX13_own_10 g1 rfl ?_
    refine x_goto (tgt := 17) dX13_own_13 (by decide) ?_
    refine xP.pick (lv' := []) [] rfl ?_
    exact uX13_own_17 hq
theorem rX13_own {G : xG} {fr lo : Nat} {x0 : Nat} {h : xH} {Q : Outcome → xH → Prop} (hq : bX13_own G fr lo x0 h Q) : xR G YX13_own fr lo [rv x0] h Q := by
  show xP _ _ _ _ _ (lv_args 0 _) _ _ _
  rw [show lv_args 0 [rv x0] = [(0, rv x0)] from (xla1 (rv_cat _) xla0)]
  exact uX13_own hq
set_option maxRecDepth 100000 in
theorem dX13_isOrdinal_0 : decode cX13_isOrdinal 0 = .ok (.aload_n 0, 1) := by decide +kernel
set_option maxRecDepth 100000 in
theorem dX13_isOrdinal_1 : decode cX13_isOrdinal 1 = .ok (.getfield 15, 3) := by decide +kernel
set_option maxRecDepth 100000 in
theorem dX13_isOrdinal_4 : decode cX13_isOrdinal 4 = .ok (.iconst 1, 1) := by decide +kernel
set_option maxRecDepth 100000 in
theorem dX13_isOrdinal_5 : decode cX13_isOrdinal 5 = .ok (.if_icmp .eq 20, 3) := by decide +kernel
set_option maxRecDepth 100000 in
theorem dX13_isOrdinal_8 : decode cX13_isOrdinal 8 = .ok (.aload_n 0, 1) := by decide +kernel
set_option maxRecDepth 100000 in
theorem dX13_isOrdinal_9 : decode cX13_isOrdinal 9 = .ok (.getfield 15, 3) := by decide +kernel
set_option maxRecDepth 100000 in
theorem dX13_isOrdinal_12 : decode cX13_isOrdinal 12 = .ok (.iconst 3, 1) := by decide +kernel
set_option maxRecDepth 100000 in
theorem dX13_isOrdinal_13 : decode cX13_isOrdinal 13 = .ok (.if_icmp .lt 16, 3) := by decide +kernel
set_option maxRecDepth 100000 in
theorem dX13_isOrdinal_16 : decode cX13_isOrdinal 16 = .ok (.aload_n 0, 1) := by decide +kernel
set_option maxRecDepth 100000 in
theorem dX13_isOrdinal_17 : decode cX13_isOrdinal 17 = .ok (.getfield 15, 3) := by decide +kernel
set_option maxRecDepth 100000 in
theorem dX13_isOrdinal_20 : decode cX13_isOrdinal 20 = .ok (.bipush 6, 2) := by decide +kernel
set_option maxRecDepth 100000 in
theorem dX13_isOrdinal_22 : decode cX13_isOrdinal 22 = .ok (.if_icmp .gt 7, 3) := by decide +kernel
set_option maxRecDepth 100000 in
theorem dX13_isOrdinal_25 : decode cX13_isOrdinal 25 = .ok (.iconst 1, 1) := by decide +kernel
set_option maxRecDepth 100000 in
theorem dX13_isOrdinal_26 : decode cX13_isOrdinal 26 = .ok (.goto 4, 3) := by decide +kernel
set_option maxRecDepth 100000 in
theorem dX13_isOrdinal_29 : decode cX13_isOrdinal 29 = .ok (.iconst 0, 1) := by decide +kernel
set_option maxRecDepth 100000 in
theorem dX13_isOrdinal_30 : decode cX13_isOrdinal 30 = .ok (.ireturn, 1) := by decide +kernel
set_option maxRecDepth 100000 in
def bX13_isOrdinal_30 (G : xG) (fr lo : Nat) (s0 : Int32) (h : xH) (Q : Outcome → xH → Prop) : Prop := xbz s0 ∧ Q (.returned (some (.int s0))) h
set_option maxRecDepth 100000 in
theorem uX13_isOrdinal_30 {G : xG} {fr lo : Nat} {s0 : Int32} {h : xH} {Q : Outcome → xH → Prop} (hq : bX13_isOrdinal_30 G fr lo s0 h Q) : xP G YX13_isOrdinal fr lo 30 [] [.int s0] h Q := by
  unfold bX13_isOrdinal_30 at hq
  obtain ⟨g1, hq⟩ := hq
  exact x_iret rfl (xnZ g1) dX13_isOrdinal_30 hq
set_option maxRecDepth 100000 in
def bX13_isOrdinal_29 (G : xG) (fr lo : Nat) (h : xH) (Q : Outcome → xH → Prop) : Prop := bX13_isOrdinal_30 G fr lo 0 h Q
set_option maxRecDepth 100000 in
theorem uX13_isOrdinal_29 {G : xG} {fr lo : Nat} {h : xH} {Q : Outcome → xH → Prop} (hq : bX13_isOrdinal_29 G fr lo h Q) : xP G YX13_isOrdinal fr lo 29 [] [] h Q := by
  unfold bX13_isOrdinal_29 at hq
  refine x_iconst (v := 0) dX13_isOrdinal_29 (by decide) ?_
  exact uX13_isOrdinal_30 hq
set_option maxRecDepth 100000 in
def bX13_isOrdinal_25 (G : xG) (fr lo : Nat) (h : xH) (Q : Outcome → xH → Prop) : Prop := bX13_isOrdinal_30 G fr lo 1 h Q
set_option maxRecDepth 100000 in
theorem uX13_isOrdinal_25 {G : xG} {fr lo : Nat} {h : xH} {Q : Outcome → xH → Prop} (hq : bX13_isOrdinal_25 G fr lo h Q) : xP G YX13_isOrdinal fr lo 25 [] [] h Q := by
  unfold bX13_isOrdinal_25 at hq
  refine x_iconst (v := 1) dX13_isOrdinal_25 (by decide) ?_
  refine x_goto (tgt := 30) dX13_isOrdinal_26 (by decide) ?_
  exact uX13_isOrdinal_30 hq
set_option maxRecDepth 100000 in
def bX13_isOrdinal (G : xG) (fr lo : Nat) (x0 : Nat) (h : xH) (Q : Outcome → xH → Prop) : Prop := tg h x0 = 14 ∧ (((fI h x0 3328) = 1 → bX13_isOrdinal_25 G fr lo h Q) ∧ (¬ (fI h x0 3328) = 1 → (((fI h x0 3328) < 3 → bX13_isOrdinal_29 G fr lo h Q) ∧ (¬ (fI h x0 3328) < 3 → ((6 < (fI h x0 3328) → bX13_isOrdinal_29 G fr lo h Q) ∧ (¬ 6 < (fI h x0 3328) → bX13_isOrdinal_25 G fr lo h Q))))))
set_option maxRecDepth 100000 in
theorem uX13_isOrdinal {G : xG} {fr lo : Nat} {x0 : Nat} {h : xH} {Q : Outcome → xH → Prop} (hq : bX13_isOrdinal G fr lo x0 h Q) : xP G YX13_isOrdinal fr lo 0 [(0, rv x0)] [] h Q := by
  unfold bX13_isOrdinal at hq
  refine x_aload_n 0 dX13_isOrdinal_0 rfl ?_
  obtain ⟨g1, hq⟩ := hq
  refine x_get (v := .int (fI h x0 3328)) fdX13_15 dX13_isOrdinal_1 g1 rfl ?_
  refine x_iconst (v := 1) dX13_isOrdinal_4 (by decide) ?_
  refine x_icmp_eq (tgt := 25) dX13_isOrdinal_5 (by decide) (fun c2 => ?_) (fun c2 => ?_)
  · replace hq := hq.1 c2
    refine xP.pick (lv' := []) [] rfl ?_
    exact uX13_isOrdinal_25 hq
  · replace hq := hq.2 c2
    refine x_aload_n 0 dX13_isOrdinal_8 rfl ?_
    refine x_get (v := .int (fI h x0 3328)) fdX13_15 dX13_isOrdinal_9 g1 rfl ?_
    refine x_iconst (v := 3) dX13_isOrdinal_12 (by decide) ?_
    refine x_icmp_lt (tgt := 29) dX13_isOrdinal_13 (by decide) (fun c3 => ?_) (fun c3 => ?_)
    · replace hq := hq.1 c3
      refine xP.pick (lv' := []) [] rfl ?_
      exact uX13_isOrdinal_29 hq
    · replace hq := hq.2 c3
      refine x_aload_n 0 dX13_isOrdinal_16 rfl ?_
      refine x_get (v := .int (fI h x0 3328)) fdX13_15 dX13_isOrdinal_17 g1 rfl ?_
      refine x_bipush (v := 6) dX13_isOrdinal_20 (by decide) ?_
      refine x_icmp_gt (tgt := 29) dX13_isOrdinal_22 (by decide) (fun c4 => ?_) (fun c4 => ?_)
      · replace hq := hq.1 c4
        refine xP.pick (lv' := []) [] rfl ?_
        exact uX13_isOrdinal_29 hq
      · replace hq := hq.2 c4
        refine xP.pick (lv' := []) [] rfl ?_
        exact uX13_isOrdinal_25 hq
theorem rX13_isOrdinal {G : xG} {fr lo : Nat} {x0 : Nat} {h : xH} {Q : Outcome → xH → Prop} (hq : bX13_isOrdinal G fr lo x0 h Q) : xR G YX13_isOrdinal fr lo [rv x0] h Q := by
  show xP _ _ _ _ _ (lv_args 0 _) _ _ _
  rw [show lv_args 0 [rv x0] = [(0, rv x0)] from (xla1 (rv_cat _) xla0)]
  exact uX13_isOrdinal hq
set_option maxRecDepth 100000 in
theorem dX13_values_0 : decode cX13_values 0 = .ok (.aload_n 0, 1) := by decide +kernel
set_option maxRecDepth 100000 in
theorem dX13_values_1 : decode cX13_values 1 = .ok (.getfield 30, 3) := by decide +kernel
set_option maxRecDepth 100000 in
theorem dX13_values_4 : decode cX13_values 4 = .ok (.i2l, 1) := by decide +kernel
set_option maxRecDepth 100000 in
theorem dX13_values_5 : decode cX13_values 5 = .ok (.aload_n 0, 1) := by decide +kernel
set_option maxRecDepth 100000 in
theorem dX13_values_6 : decode cX13_values 6 = .ok (.getfield 36, 3) := by decide +kernel
set_option maxRecDepth 100000 in
theorem dX13_values_9 : decode cX13_values 9 = .ok (.i2l, 1) := by decide +kernel
set_option maxRecDepth 100000 in
theorem dX13_values_10 : decode cX13_values 10 = .ok (.lsub, 1) := by decide +kernel
set_option maxRecDepth 100000 in
theorem dX13_values_11 : decode cX13_values 11 = .ok (.lconst 1, 1) := by decide +kernel
set_option maxRecDepth 100000 in
theorem dX13_values_12 : decode cX13_values 12 = .ok (.ladd, 1) := by decide +kernel
set_option maxRecDepth 100000 in
theorem dX13_values_13 : decode cX13_values 13 = .ok (.lreturn, 1) := by decide +kernel
set_option maxRecDepth 100000 in
def bX13_values (G : xG) (fr lo : Nat) (x0 : Nat) (h : xH) (Q : Outcome → xH → Prop) : Prop := tg h x0 = 14 ∧ Q (.returned (some (.long (((Int32.toInt64 (fI h x0 3330)) - (Int32.toInt64 (fI h x0 3329))) + 1)))) h
set_option maxRecDepth 100000 in
theorem uX13_values {G : xG} {fr lo : Nat} {x0 : Nat} {h : xH} {Q : Outcome → xH → Prop} (hq : bX13_values G fr lo x0 h Q) : xP G YX13_values fr lo 0 [(0, rv x0)] [] h Q := by
  unfold bX13_values at hq
  refine x_aload_n 0 dX13_values_0 rfl ?_
  obtain ⟨g1, hq⟩ := hq
  refine x_get (v := .int (fI h x0 3330)) fdX13_30 dX13_values_1 g1 rfl ?_
  refine x_i2l dX13_values_4 ?_
  refine x_aload_n 0 dX13_values_5 rfl ?_
  refine x_get (v := .int (fI h x0 3329)) fdX13_36 dX13_values_6 g1 rfl ?_
  refine x_i2l dX13_values_9 ?_
  refine x_lsub dX13_values_10 ?_
  refine x_lconst (v := 1) dX13_values_11 (by decide) ?_
  refine x_ladd dX13_values_12 ?_
  exact x_lret rfl dX13_values_13 hq
theorem rX13_values {G : xG} {fr lo : Nat} {x0 : Nat} {h : xH} {Q : Outcome → xH → Prop} (hq : bX13_values G fr lo x0 h Q) : xR G YX13_values fr lo [rv x0] h Q := by
  show xP _ _ _ _ _ (lv_args 0 _) _ _ _
  rw [show lv_args 0 [rv x0] = [(0, rv x0)] from (xla1 (rv_cat _) xla0)]
  exact uX13_values hq
set_option maxRecDepth 100000 in
theorem dX13_isText_0 : decode cX13_isText 0 = .ok (.aload_n 0, 1) := by decide +kernel
set_option maxRecDepth 100000 in
theorem dX13_isText_1 : decode cX13_isText 1 = .ok (.getfield 15, 3) := by decide +kernel
set_option maxRecDepth 100000 in
theorem dX13_isText_4 : decode cX13_isText 4 = .ok (.bipush 10, 2) := by decide +kernel
set_option maxRecDepth 100000 in
theorem dX13_isText_6 : decode cX13_isText 6 = .ok (.if_icmp .ne 18, 3) := by decide +kernel
set_option maxRecDepth 100000 in
theorem dX13_isText_9 : decode cX13_isText 9 = .ok (.aload_n 0, 1) := by decide +kernel
set_option maxRecDepth 100000 in
theorem dX13_isText_10 : decode cX13_isText 10 = .ok (.getfield 27, 3) := by decide +kernel
set_option maxRecDepth 100000 in
theorem dX13_isText_13 : decode cX13_isText 13 = .ok (.getfield 15, 3) := by decide +kernel
set_option maxRecDepth 100000 in
theorem dX13_isText_16 : decode cX13_isText 16 = .ok (.iconst 4, 1) := by decide +kernel
set_option maxRecDepth 100000 in
theorem dX13_isText_17 : decode cX13_isText 17 = .ok (.if_icmp .ne 7, 3) := by decide +kernel
set_option maxRecDepth 100000 in
theorem dX13_isText_20 : decode cX13_isText 20 = .ok (.iconst 1, 1) := by decide +kernel
set_option maxRecDepth 100000 in
theorem dX13_isText_21 : decode cX13_isText 21 = .ok (.goto 4, 3) := by decide +kernel
set_option maxRecDepth 100000 in
theorem dX13_isText_24 : decode cX13_isText 24 = .ok (.iconst 0, 1) := by decide +kernel
set_option maxRecDepth 100000 in
theorem dX13_isText_25 : decode cX13_isText 25 = .ok (.ireturn, 1) := by decide +kernel
set_option maxRecDepth 100000 in
def bX13_isText_25 (G : xG) (fr lo : Nat) (s0 : Int32) (h : xH) (Q : Outcome → xH → Prop) : Prop := xbz s0 ∧ Q (.returned (some (.int s0))) h
set_option maxRecDepth 100000 in
theorem uX13_isText_25 {G : xG} {fr lo : Nat} {s0 : Int32} {h : xH} {Q : Outcome → xH → Prop} (hq : bX13_isText_25 G fr lo s0 h Q) : xP G YX13_isText fr lo 25 [] [.int s0] h Q := by
  unfold bX13_isText_25 at hq
  obtain ⟨g1, hq⟩ := hq
  exact x_iret rfl (xnZ g1) dX13_isText_25 hq
set_option maxRecDepth 100000 in
def bX13_isText_24 (G : xG) (fr lo : Nat) (h : xH) (Q : Outcome → xH → Prop) : Prop := bX13_isText_25 G fr lo 0 h Q
set_option maxRecDepth 100000 in
theorem uX13_isText_24 {G : xG} {fr lo : Nat} {h : xH} {Q : Outcome → xH → Prop} (hq : bX13_isText_24 G fr lo h Q) : xP G YX13_isText fr lo 24 [] [] h Q := by
  unfold bX13_isText_24 at hq
  refine x_iconst (v := 0) dX13_isText_24 (by decide) ?_
  exact uX13_isText_25 hq
set_option maxRecDepth 100000 in
def bX13_isText (G : xG) (fr lo : Nat) (x0 : Nat) (h : xH) (Q : Outcome → xH → Prop) : Prop := tg h x0 = 14 ∧ ((¬ (fI h x0 3328) = 10 → bX13_isText_24 G fr lo h Q) ∧ ((fI h x0 3328) = 10 → tg h (fR h x0 3333) = 14 ∧ ((¬ (fI h (fR h x0 3333) 3328) = 4 → bX13_isText_24 G fr lo h Q) ∧ ((fI h (fR h x0 3333) 3328) = 4 → bX13_isText_25 G fr lo 1 h Q))))
set_option maxRecDepth 100000 in
theorem uX13_isText {G : xG} {fr lo : Nat} {x0 : Nat} {h : xH} {Q : Outcome → xH → Prop} (hq : bX13_isText G fr lo x0 h Q) : xP G YX13_isText fr lo 0 [(0, rv x0)] [] h Q := by
  unfold bX13_isText at hq
  refine x_aload_n 0 dX13_isText_0 rfl ?_
  obtain ⟨g1, hq⟩ := hq
  refine x_get (v := .int (fI h x0 3328)) fdX13_15 dX13_isText_1 g1 rfl ?_
  refine x_bipush (v := 10) dX13_isText_4 (by decide) ?_
  refine x_icmp_ne (tgt := 24) dX13_isText_6 (by decide) (fun c2 => ?_) (fun c2 => ?_)
  · replace hq := hq.1 c2
    refine xP.pick (lv' := []) [] rfl ?_
    exact uX13_isText_24 hq
  · replace hq := hq.2 c2
    refine x_aload_n 0 dX13_isText_9 rfl ?_
    refine x_get (v := rv (fR h x0 3333)) fdX13_27 dX13_isText_10 g1 rfl ?_
    obtain ⟨g3, hq⟩ := hq
    refine x_get (v := .int (fI h (fR h x0 3333) 3328)) fdX13_15 dX13_isText_13 g3 rfl ?_
    refine x_iconst (v := 4) dX13_isText_16 (by decide) ?_
    refine x_icmp_ne (tgt := 24) dX13_isText_17 (by decide) (fun c4 => ?_) (fun c4 => ?_)
    · replace hq := hq.1 c4
      refine xP.pick (lv' := []) [] rfl ?_
      exact uX13_isText_24 hq
    · replace hq := hq.2 c4
      refine x_iconst (v := 1) dX13_isText_20 (by decide) ?_
      refine x_goto (tgt := 25) dX13_isText_21 (by decide) ?_
      refine xP.pick (lv' := []) [] rfl ?_
      exact uX13_isText_25 hq
theorem rX13_isText {G : xG} {fr lo : Nat} {x0 : Nat} {h : xH} {Q : Outcome → xH → Prop} (hq : bX13_isText G fr lo x0 h Q) : xR G YX13_isText fr lo [rv x0] h Q := by
  show xP _ _ _ _ _ (lv_args 0 _) _ _ _
  rw [show lv_args 0 [rv x0] = [(0, rv x0)] from (xla1 (rv_cat _) xla0)]
  exact uX13_isText hq
set_option maxRecDepth 100000 in
theorem dX13_characters_0 : decode cX13_characters 0 = .ok (.aload_n 0, 1) := by decide +kernel
set_option maxRecDepth 100000 in
theorem dX13_characters_1 : decode cX13_characters 1 = .ok (.getfield 15, 3) := by decide +kernel
set_option maxRecDepth 100000 in
theorem dX13_characters_4 : decode cX13_characters 4 = .ok (.bipush 13, 2) := by decide +kernel
set_option maxRecDepth 100000 in
theorem dX13_characters_6 : decode cX13_characters 6 = .ok (.if_icmp .ne 8, 3) := by decide +kernel
set_option maxRecDepth 100000 in
theorem dX13_characters_9 : decode cX13_characters 9 = .ok (.aload_n 0, 1) := by decide +kernel
set_option maxRecDepth 100000 in
theorem dX13_characters_10 : decode cX13_characters 10 = .ok (.getfield 30, 3) := by decide +kernel
set_option maxRecDepth 100000 in
theorem dX13_characters_13 : decode cX13_characters 13 = .ok (.ireturn, 1) := by decide +kernel
set_option maxRecDepth 100000 in
theorem dX13_characters_14 : decode cX13_characters 14 = .ok (.aload_n 0, 1) := by decide +kernel
set_option maxRecDepth 100000 in
theorem dX13_characters_15 : decode cX13_characters 15 = .ok (.getfield 15, 3) := by decide +kernel
set_option maxRecDepth 100000 in
theorem dX13_characters_18 : decode cX13_characters 18 = .ok (.bipush 7, 2) := by decide +kernel
set_option maxRecDepth 100000 in
theorem dX13_characters_20 : decode cX13_characters 20 = .ok (.if_icmp .ne 66, 3) := by decide +kernel
set_option maxRecDepth 100000 in
theorem dX13_characters_23 : decode cX13_characters 23 = .ok (.aload_n 0, 1) := by decide +kernel
set_option maxRecDepth 100000 in
theorem dX13_characters_24 : decode cX13_characters 24 = .ok (.getfield 33, 3) := by decide +kernel
set_option maxRecDepth 100000 in
theorem dX13_characters_27 : decode cX13_characters 27 = .ok (.getfield 15, 3) := by decide +kernel
set_option maxRecDepth 100000 in
theorem dX13_characters_30 : decode cX13_characters 30 = .ok (.bipush 6, 2) := by decide +kernel
set_option maxRecDepth 100000 in
theorem dX13_characters_32 : decode cX13_characters 32 = .ok (.if_icmp .ne 54, 3) := by decide +kernel
set_option maxRecDepth 100000 in
theorem dX13_characters_35 : decode cX13_characters 35 = .ok (.aload_n 0, 1) := by decide +kernel
set_option maxRecDepth 100000 in
theorem dX13_characters_36 : decode cX13_characters 36 = .ok (.getfield 33, 3) := by decide +kernel
set_option maxRecDepth 100000 in
theorem dX13_characters_39 : decode cX13_characters 39 = .ok (.getfield 19, 3) := by decide +kernel
set_option maxRecDepth 100000 in
theorem dX13_characters_42 : decode cX13_characters 42 = .ok (.getfield 15, 3) := by decide +kernel
set_option maxRecDepth 100000 in
theorem dX13_characters_45 : decode cX13_characters 45 = .ok (.iconst 1, 1) := by decide +kernel
set_option maxRecDepth 100000 in
theorem dX13_characters_46 : decode cX13_characters 46 = .ok (.if_icmp .ne 40, 3) := by decide +kernel
set_option maxRecDepth 100000 in
theorem dX13_characters_49 : decode cX13_characters 49 = .ok (.aload_n 0, 1) := by decide +kernel
set_option maxRecDepth 100000 in
theorem dX13_characters_50 : decode cX13_characters 50 = .ok (.getfield 33, 3) := by decide +kernel
set_option maxRecDepth 100000 in
theorem dX13_characters_53 : decode cX13_characters 53 = .ok (.getfield 36, 3) := by decide +kernel
set_option maxRecDepth 100000 in
theorem dX13_characters_56 : decode cX13_characters 56 = .ok (.iconst 1, 1) := by decide +kernel
set_option maxRecDepth 100000 in
theorem dX13_characters_57 : decode cX13_characters 57 = .ok (.if_icmp .ne 29, 3) := by decide +kernel
set_option maxRecDepth 100000 in
theorem dX13_characters_60 : decode cX13_characters 60 = .ok (.aload_n 0, 1) := by decide +kernel
set_option maxRecDepth 100000 in
theorem dX13_characters_61 : decode cX13_characters 61 = .ok (.getfield 33, 3) := by decide +kernel
set_option maxRecDepth 100000 in
theorem dX13_characters_64 : decode cX13_characters 64 = .ok (.getfield 30, 3) := by decide +kernel
set_option maxRecDepth 100000 in
theorem dX13_characters_67 : decode cX13_characters 67 = .ok (.iconst 1, 1) := by decide +kernel
set_option maxRecDepth 100000 in
theorem dX13_characters_68 : decode cX13_characters 68 = .ok (.if_icmp .le 18, 3) := by decide +kernel
set_option maxRecDepth 100000 in
theorem dX13_characters_71 : decode cX13_characters 71 = .ok (.aload_n 0, 1) := by decide +kernel
set_option maxRecDepth 100000 in
theorem dX13_characters_72 : decode cX13_characters 72 = .ok (.getfield 27, 3) := by decide +kernel
set_option maxRecDepth 100000 in
theorem dX13_characters_75 : decode cX13_characters 75 = .ok (.getfield 15, 3) := by decide +kernel
set_option maxRecDepth 100000 in
theorem dX13_characters_78 : decode cX13_characters 78 = .ok (.iconst 4, 1) := by decide +kernel
set_option maxRecDepth 100000 in
theorem dX13_characters_79 : decode cX13_characters 79 = .ok (.if_icmp .ne 7, 3) := by decide +kernel
set_option maxRecDepth 100000 in
theorem dX13_characters_82 : decode cX13_characters 82 = .ok (.iconst 1, 1) := by decide +kernel
set_option maxRecDepth 100000 in
theorem dX13_characters_83 : decode cX13_characters 83 = .ok (.goto 4, 3) := by decide +kernel
set_option maxRecDepth 100000 in
theorem dX13_characters_86 : decode cX13_characters 86 = .ok (.iconst 0, 1) := by decide +kernel
set_option maxRecDepth 100000 in
theorem dX13_characters_87 : decode cX13_characters 87 = .ok (.istore_n 1, 1) := by decide +kernel
set_option maxRecDepth 100000 in
theorem dX13_characters_88 : decode cX13_characters 88 = .ok (.iload_n 1, 1) := by decide +kernel
set_option maxRecDepth 100000 in
theorem dX13_characters_89 : decode cX13_characters 89 = .ok (.ifCond .eq 13, 3) := by decide +kernel
set_option maxRecDepth 100000 in
theorem dX13_characters_92 : decode cX13_characters 92 = .ok (.aload_n 0, 1) := by decide +kernel
set_option maxRecDepth 100000 in
theorem dX13_characters_93 : decode cX13_characters 93 = .ok (.getfield 33, 3) := by decide +kernel
set_option maxRecDepth 100000 in
theorem dX13_characters_96 : decode cX13_characters 96 = .ok (.getfield 30, 3) := by decide +kernel
set_option maxRecDepth 100000 in
theorem dX13_characters_99 : decode cX13_characters 99 = .ok (.goto 4, 3) := by decide +kernel
set_option maxRecDepth 100000 in
theorem dX13_characters_102 : decode cX13_characters 102 = .ok (.iconst 0, 1) := by decide +kernel
set_option maxRecDepth 100000 in
theorem dX13_characters_103 : decode cX13_characters 103 = .ok (.ireturn, 1) := by decide +kernel
set_option maxRecDepth 100000 in
def bX13_characters_103 (G : xG) (fr lo : Nat) (s0 : Int32) (h : xH) (Q : Outcome → xH → Prop) : Prop := Q (.returned (some (.int s0))) h
set_option maxRecDepth 100000 in
theorem uX13_characters_103 {G : xG} {fr lo : Nat} {s0 : Int32} {h : xH} {Q : Outcome → xH → Prop} (hq : bX13_characters_103 G fr lo s0 h Q) : xP G YX13_characters fr lo 103 [] [.int s0] h Q := by
  unfold bX13_characters_103 at hq
  exact x_iret rfl rfl dX13_characters_103 hq
set_option maxRecDepth 100000 in
def bX13_characters_87 (G : xG) (fr lo : Nat) (x0 : Nat) (s0 : Int32) (h : xH) (Q : Outcome → xH → Prop) : Prop := ((s0 = 0 → bX13_characters_103 G fr lo 0 h Q) ∧ (¬ s0 = 0 → tg h x0 = 14 ∧ tg h (fR h x0 3332) = 14 ∧ bX13_characters_103 G fr lo (fI h (fR h x0 3332) 3330) h Q))
set_option maxRecDepth 100000 in
theorem uX13_characters_87 {G : xG} {fr lo : Nat} {x0 : Nat} {s0 : Int32} {h : xH} {Q : Outcome → xH → Prop} (hq : bX13_characters_87 G fr lo x0 s0 h Q) : xP G YX13_characters fr lo 87 [(0, rv x0)] [.int s0] h Q := by
  unfold bX13_characters_87 at hq
  refine x_istore_n (lv' := [(1, .int s0), (0, rv x0)]) dX13_characters_87 (by decide) (by first | rfl | (simp [rv_cat, Value.category]; done) | (simp [rv_cat, Value.category]; decide)) ?_
  refine x_iload_n 0 dX13_characters_88 rfl ?_
  refine x_if_eq (tgt := 102) dX13_characters_89 (by decide) (fun c1 => ?_) (fun c1 => ?_)
  · replace hq := hq.1 c1
    refine x_iconst (v := 0) dX13_characters_102 (by decide) ?_
    refine xP.pick (lv' := []) [] rfl ?_
    exact uX13_characters_103 hq
  · replace hq := hq.2 c1
    refine x_aload_n 1 dX13_characters_92 rfl ?_
    obtain ⟨g2, hq⟩ := hq
    refine x_get (v := rv (fR h x0 3332)) fdX13_33 dX13_characters_93 g2 rfl ?_
    obtain ⟨g3, hq⟩ := hq
    refine x_get (v := .int (fI h (fR h x0 3332) 3330)) fdX13_30 dX13_characters_96 g3 rfl ?_
    refine x_goto (tgt := 103) dX13_characters_99 (by decide) ?_
    refine xP.pick (lv' := []) [] rfl ?_
    exact uX13_characters_103 hq
set_option maxRecDepth 100000 in
def bX13_characters_86 (G : xG) (fr lo : Nat) (x0 : Nat) (h : xH) (Q : Outcome → xH → Prop) : Prop := bX13_characters_87 G fr lo x0 0 h Q
set_option maxRecDepth 100000 in
theorem uX13_characters_86 {G : xG} {fr lo : Nat} {x0 : Nat} {h : xH} {Q : Outcome → xH → Prop} (hq : bX13_characters_86 G fr lo x0 h Q) : xP G YX13_characters fr lo 86 [(0, rv x0)] [] h Q := by
  unfold bX13_characters_86 at hq
  refine x_iconst (v := 0) dX13_characters_86 (by decide) ?_
  exact uX13_characters_87 hq
set_option maxRecDepth 100000 in
def bX13_characters (G : xG) (fr lo : Nat) (x0 : Nat) (h : xH) (Q : Outcome → xH → Prop) : Prop := tg h x0 = 14 ∧ ((¬ (fI h x0 3328) = 13 → ((¬ (fI h x0 3328) = 7 → bX13_characters_86 G fr lo x0 h Q) ∧ ((fI h x0 3328) = 7 → tg h (fR h x0 3332) = 14 ∧ ((¬ (fI h (fR h x0 3332) 3328) = 6 → bX13_characters_86 G fr lo x0 h Q) ∧ ((fI h (fR h x0 3332) 3328) = 6 → tg h (fR h (fR h x0 3332) 3331) = 14 ∧ ((¬ (fI h (fR h (fR h x0 3332) 3331) 3328) = 1 → bX13_characters_86 G fr lo x0 h Q) ∧ ((fI h (fR h (fR h x0 3332) 3331) 3328) = 1 → ((¬ (fI h (fR h x0 3332) 3329) = 1 → bX13_characters_86 G fr lo x0 h Q) ∧ ((fI h (fR h x0 3332) 3329) = 1 → (((fI h (fR h x0 3332) 3330) ≤ 1 → bX13_characters_86 G fr lo x0 h Q) ∧ (¬ (fI h (fR h x0 3332) 3330) ≤ 1 → tg h (fR h x0 3333) = 14 ∧ ((¬ (fI h (fR h x0 3333) 3328) = 4 → bX13_characters_86 G fr lo x0 h Q) ∧ ((fI h (fR h x0 3333) 3328) = 4 → bX13_characters_87 G fr lo x0 1 h Q))))))))))))) ∧ ((fI h x0 3328) = 13 → Q (.returned (some (.int (fI h x0 3330)))) h))
set_option maxRecDepth 100000 in
theorem uX13_characters {G : xG} {fr lo : Nat} {x0 : Nat} {h : xH} {Q : Outcome → xH → Prop} (hq : bX13_characters G fr lo x0 h Q) : xP G YX13_characters fr lo 0 [(0, rv x0)] [] h Q := by
  unfold bX13_characters at hq
  refine x_aload_n 0 dX13_characters_0 rfl ?_
  obtain ⟨g1, hq⟩ := hq
  refine x_get (v := .int (fI h x0 3328)) fdX13_15 dX13_characters_1 g1 rfl ?_
  refine x_bipush (v := 13) dX13_characters_4 (by decide) ?_
  refine x_icmp_ne (tgt := 14) dX13_characters_6 (by decide) (fun c2 => ?_) (fun c2 => ?_)
  · replace hq := hq.1 c2
    refine x_aload_n 0 dX13_characters_14 rfl ?_
    refine x_get (v := .int (fI h x0 3328)) fdX13_15 dX13_characters_15 g1 rfl ?_
    refine x_bipush (v := 7) dX13_characters_18 (by decide) ?_
    refine x_icmp_ne (tgt := 86) dX13_characters_20 (by decide) (fun c3 => ?_) (fun c3 => ?_)
    · replace hq := hq.1 c3
      exact uX13_characters_86 hq
    · replace hq := hq.2 c3
      refine x_aload_n 0 dX13_characters_23 rfl ?_
      refine x_get (v := rv (fR h x0 3332)) fdX13_33 dX13_characters_24 g1 rfl ?_
      obtain ⟨g4, hq⟩ := hq
      refine x_get (v := .int (fI h (fR h x0 3332) 3328)) fdX13_15 dX13_characters_27 g4 rfl ?_
      refine x_bipush (v := 6) dX13_characters_30 (by decide) ?_
      refine x_icmp_ne (tgt := 86) dX13_characters_32 (by decide) (fun c5 => ?_) (fun c5 => ?_)
      · replace hq := hq.1 c5
        exact uX13_characters_86 hq
      · replace hq := hq.2 c5
        refine x_aload_n 0 dX13_characters_35 rfl ?_
        refine x_get (v := rv (fR h x0 3332)) fdX13_33 dX13_characters_36 g1 rfl ?_
        refine x_get (v := rv (fR h (fR h x0 3332) 3331)) fdX13_19 dX13_characters_39 g4 rfl ?_
        obtain ⟨g6, hq⟩ := hq
        refine x_get (v := .int (fI h (fR h (fR h x0 3332) 3331) 3328)) fdX13_15 dX13_characters_42 g6 rfl ?_
        refine x_iconst (v := 1) dX13_characters_45 (by decide) ?_
        refine x_icmp_ne (tgt := 86) dX13_characters_46 (by decide) (fun c7 => ?_) (fun c7 => ?_)
        · replace hq := hq.1 c7
          exact uX13_characters_86 hq
        · replace hq := hq.2 c7
          refine x_aload_n 0 dX13_characters_49 rfl ?_
          refine x_get (v := rv (fR h x0 3332)) fdX13_33 dX13_characters_50 g1 rfl ?_
          refine x_get (v := .int (fI h (fR h x0 3332) 3329)) fdX13_36 dX13_characters_53 g4 rfl ?_
          refine x_iconst (v := 1) dX13_characters_56 (by decide) ?_
          refine x_icmp_ne (tgt := 86) dX13_characters_57 (by decide) (fun c8 => ?_) (fun c8 => ?_)
          · replace hq := hq.1 c8
            exact uX13_characters_86 hq
          · replace hq := hq.2 c8
            refine x_aload_n 0 dX13_characters_60 rfl ?_
            refine x_get (v := rv (fR h x0 3332)) fdX13_33 dX13_characters_61 g1 rfl ?_
            refine x_get (v := .int (fI h (fR h x0 3332) 3330)) fdX13_30 dX13_characters_64 g4 rfl ?_
            refine x_iconst (v := 1) dX13_characters_67 (by decide) ?_
            refine x_icmp_le (tgt := 86) dX13_characters_68 (by decide) (fun c9 => ?_) (fun c9 => ?_)
            · replace hq := hq.1 c9
              exact uX13_characters_86 hq
            · replace hq := hq.2 c9
              refine x_aload_n 0 dX13_characters_71 rfl ?_
              refine x_get (v := rv (fR h x0 3333)) fdX13_27 dX13_characters_72 g1 rfl ?_
              obtain ⟨g10, hq⟩ := hq
              refine x_get (v := .int (fI h (fR h x0 3333) 3328)) fdX13_15 dX13_characters_75 g10 rfl ?_
              refine x_iconst (v := 4) dX13_characters_78 (by decide) ?_
              refine x_icmp_ne (tgt := 86) dX13_characters_79 (by decide) (fun c11 => ?_) (fun c11 => ?_)
              · replace hq := hq.1 c11
                exact uX13_characters_86 hq
              · replace hq := hq.2 c11
                refine x_iconst (v := 1) dX13_characters_82 (by decide) ?_
                refine x_goto (tgt := 87) dX13_characters_83 (by decide) ?_
                exact uX13_characters_87 hq
  · replace hq := hq.2 c2
    refine x_aload_n 0 dX13_characters_9 rfl ?_
    refine x_get (v := .int (fI h x0 3330)) fdX13_30 dX13_characters_10 g1 rfl ?_
    exact x_iret rfl rfl dX13_characters_13 hq
theorem rX13_characters {G : xG} {fr lo : Nat} {x0 : Nat} {h : xH} {Q : Outcome → xH → Prop} (hq : bX13_characters G fr lo x0 h Q) : xR G YX13_characters fr lo [rv x0] h Q := by
  show xP _ _ _ _ _ (lv_args 0 _) _ _ _
  rw [show lv_args 0 [rv x0] = [(0, rv x0)] from (xla1 (rv_cat _) xla0)]
  exact uX13_characters hq
set_option maxRecDepth 100000 in
theorem dX13_isKept_0 : decode cX13_isKept 0 = .ok (.aload_n 0, 1) := by decide +kernel
set_option maxRecDepth 100000 in
theorem dX13_isKept_1 : decode cX13_isKept 1 = .ok (.getfield 15, 3) := by decide +kernel
set_option maxRecDepth 100000 in
theorem dX13_isKept_4 : decode cX13_isKept 4 = .ok (.bipush 7, 2) := by decide +kernel
set_option maxRecDepth 100000 in
theorem dX13_isKept_6 : decode cX13_isKept 6 = .ok (.if_icmp .eq 12, 3) := by decide +kernel
set_option maxRecDepth 100000 in
theorem dX13_isKept_9 : decode cX13_isKept 9 = .ok (.aload_n 0, 1) := by decide +kernel
set_option maxRecDepth 100000 in
theorem dX13_isKept_10 : decode cX13_isKept 10 = .ok (.getfield 15, 3) := by decide +kernel
set_option maxRecDepth 100000 in
theorem dX13_isKept_13 : decode cX13_isKept 13 = .ok (.bipush 8, 2) := by decide +kernel
set_option maxRecDepth 100000 in
theorem dX13_isKept_15 : decode cX13_isKept 15 = .ok (.if_icmp .ne 7, 3) := by decide +kernel
set_option maxRecDepth 100000 in
theorem dX13_isKept_18 : decode cX13_isKept 18 = .ok (.iconst 1, 1) := by decide +kernel
set_option maxRecDepth 100000 in
theorem dX13_isKept_19 : decode cX13_isKept 19 = .ok (.goto 4, 3) := by decide +kernel
set_option maxRecDepth 100000 in
theorem dX13_isKept_22 : decode cX13_isKept 22 = .ok (.iconst 0, 1) := by decide +kernel
set_option maxRecDepth 100000 in
theorem dX13_isKept_23 : decode cX13_isKept 23 = .ok (.ireturn, 1) := by decide +kernel
set_option maxRecDepth 100000 in
def bX13_isKept_23 (G : xG) (fr lo : Nat) (s0 : Int32) (h : xH) (Q : Outcome → xH → Prop) : Prop := xbz s0 ∧ Q (.returned (some (.int s0))) h
set_option maxRecDepth 100000 in
theorem uX13_isKept_23 {G : xG} {fr lo : Nat} {s0 : Int32} {h : xH} {Q : Outcome → xH → Prop} (hq : bX13_isKept_23 G fr lo s0 h Q) : xP G YX13_isKept fr lo 23 [] [.int s0] h Q := by
  unfold bX13_isKept_23 at hq
  obtain ⟨g1, hq⟩ := hq
  exact x_iret rfl (xnZ g1) dX13_isKept_23 hq
set_option maxRecDepth 100000 in
def bX13_isKept_18 (G : xG) (fr lo : Nat) (h : xH) (Q : Outcome → xH → Prop) : Prop := bX13_isKept_23 G fr lo 1 h Q
set_option maxRecDepth 100000 in
theorem uX13_isKept_18 {G : xG} {fr lo : Nat} {h : xH} {Q : Outcome → xH → Prop} (hq : bX13_isKept_18 G fr lo h Q) : xP G YX13_isKept fr lo 18 [] [] h Q := by
  unfold bX13_isKept_18 at hq
  refine x_iconst (v := 1) dX13_isKept_18 (by decide) ?_
  refine x_goto (tgt := 23) dX13_isKept_19 (by decide) ?_
  exact uX13_isKept_23 hq
set_option maxRecDepth 100000 in
def bX13_isKept (G : xG) (fr lo : Nat) (x0 : Nat) (h : xH) (Q : Outcome → xH → Prop) : Prop := tg h x0 = 14 ∧ (((fI h x0 3328) = 7 → bX13_isKept_18 G fr lo h Q) ∧ (¬ (fI h x0 3328) = 7 → ((¬ (fI h x0 3328) = 8 → bX13_isKept_23 G fr lo 0 h Q) ∧ ((fI h x0 3328) = 8 → bX13_isKept_18 G fr lo h Q))))
set_option maxRecDepth 100000 in
theorem uX13_isKept {G : xG} {fr lo : Nat} {x0 : Nat} {h : xH} {Q : Outcome → xH → Prop} (hq : bX13_isKept G fr lo x0 h Q) : xP G YX13_isKept fr lo 0 [(0, rv x0)] [] h Q := by
  unfold bX13_isKept at hq
  refine x_aload_n 0 dX13_isKept_0 rfl ?_
  obtain ⟨g1, hq⟩ := hq
  refine x_get (v := .int (fI h x0 3328)) fdX13_15 dX13_isKept_1 g1 rfl ?_
  refine x_bipush (v := 7) dX13_isKept_4 (by decide) ?_
  refine x_icmp_eq (tgt := 18) dX13_isKept_6 (by decide) (fun c2 => ?_) (fun c2 => ?_)
  · replace hq := hq.1 c2
    refine xP.pick (lv' := []) [] rfl ?_
    exact uX13_isKept_18 hq
  · replace hq := hq.2 c2
    refine x_aload_n 0 dX13_isKept_9 rfl ?_
    refine x_get (v := .int (fI h x0 3328)) fdX13_15 dX13_isKept_10 g1 rfl ?_
    refine x_bipush (v := 8) dX13_isKept_13 (by decide) ?_
    refine x_icmp_ne (tgt := 22) dX13_isKept_15 (by decide) (fun c3 => ?_) (fun c3 => ?_)
    · replace hq := hq.1 c3
      refine x_iconst (v := 0) dX13_isKept_22 (by decide) ?_
      refine xP.pick (lv' := []) [] rfl ?_
      exact uX13_isKept_23 hq
    · replace hq := hq.2 c3
      refine xP.pick (lv' := []) [] rfl ?_
      exact uX13_isKept_18 hq
theorem rX13_isKept {G : xG} {fr lo : Nat} {x0 : Nat} {h : xH} {Q : Outcome → xH → Prop} (hq : bX13_isKept G fr lo x0 h Q) : xR G YX13_isKept fr lo [rv x0] h Q := by
  show xP _ _ _ _ _ (lv_args 0 _) _ _ _
  rw [show lv_args 0 [rv x0] = [(0, rv x0)] from (xla1 (rv_cat _) xla0)]
  exact uX13_isKept hq
