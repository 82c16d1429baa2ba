/-! java/lang/StringBuilder, walked (1) -/
set_option maxRecDepth 100000 in
theorem dJ4_init_0 : decode cJ4_init 0 = .ok (.aload_n 0, 1) := by decide +kernel
set_option maxRecDepth 100000 in
theorem dJ4_init_1 : decode cJ4_init 1 = .ok (.iload_n 1, 1) := by decide +kernel
set_option maxRecDepth 100000 in
theorem dJ4_init_2 : decode cJ4_init 2 = .ok (.invokespecial 1, 3) := by decide +kernel
set_option maxRecDepth 100000 in
theorem dJ4_init_5 : decode cJ4_init 5 = .ok (.return_, 1) := by decide +kernel
set_option maxRecDepth 100000 in
def bJ4_init (G : xG) (fr lo : Nat) (x0 : Nat) (x1 : Int32) (h : xH) (Q : Outcome → xH → Prop) : Prop := tg h x0 = 30 ∧ 1 ≤ fr ∧ 13 ≤ lo ∧ xRv G YJ3_init (fr - 1) (lo - 13) [rv x0, .int x1] h (fun h4 => xext h h4 → Q (.returned none) h4) (fun r h2 => Q (.threw r) h2)
set_option maxRecDepth 100000 in
theorem uJ4_init {G : xG} {fr lo : Nat} {x0 : Nat} {x1 : Int32} {h : xH} {Q : Outcome → xH → Prop} (hq : bJ4_init G fr lo x0 x1 h Q) : xP G YJ4_init fr lo 0 [(0, rv x0), (1, .int x1)] [] h Q := by
  unfold bJ4_init at hq
  refine x_aload_n 0 dJ4_init_0 rfl ?_
  refine x_iload_n 1 dJ4_init_1 rfl ?_
  obtain ⟨g1, hq⟩ := hq
  obtain ⟨g2, g3, hq⟩ := hq
  refine x_callI (Yc := YJ3_init) (as := [.int x1]) (st := []) q614 miJ3_init (by rw [g1]; decide) rfl dJ4_init_2 (xle (xal1 (rv_cat _) (xal1 rfl xal0)) (by decide)) (xfr g2) (xlo xsw0 (by decide) g3) (xKv hq (fun h4 hq e6 => ?_) (fun _ _ q _ => q))
  replace hq := hq e6
  exact x_vret rfl dJ4_init_5 hq
theorem rJ4_init {G : xG} {fr lo : Nat} {x0 : Nat} {x1 : Int32} {h : xH} {Q : Outcome → xH → Prop} (hq : bJ4_init G fr lo x0 x1 h Q) : xR G YJ4_init fr lo [rv x0, .int x1] h Q := by
  show xP _ _ _ _ _ (lv_args 0 _) _ _ _
  rw [show lv_args 0 [rv x0, .int x1] = [(0, rv x0), (1, .int x1)] from (xla1 (rv_cat _) (xla1 rfl xla0))]
  exact uJ4_init hq
set_option maxRecDepth 100000 in
theorem dJ4_append_0 : decode cJ4_append 0 = .ok (.aload_n 0, 1) := by decide +kernel
set_option maxRecDepth 100000 in
theorem dJ4_append_1 : decode cJ4_append 1 = .ok (.iload_n 1, 1) := by decide +kernel
set_option maxRecDepth 100000 in
theorem dJ4_append_2 : decode cJ4_append 2 = .ok (.invokespecial 50, 3) := by decide +kernel
set_option maxRecDepth 100000 in
theorem dJ4_append_5 : decode cJ4_append 5 = .ok (.pop, 1) := by decide +kernel
set_option maxRecDepth 100000 in
theorem dJ4_append_6 : decode cJ4_append 6 = .ok (.aload_n 0, 1) := by decide +kernel
set_option maxRecDepth 100000 in
theorem dJ4_append_7 : decode cJ4_append 7 = .ok (.areturn, 1) := by decide +kernel
set_option maxRecDepth 100000 in
def bJ4_append (G : xG) (fr lo : Nat) (x0 : Nat) (x1 : Int32) (h : xH) (Q : Outcome → xH → Prop) : Prop := tg h x0 = 30 ∧ 1 ≤ fr ∧ 13 ≤ lo ∧ xRr G YJ3_append (fr - 1) (lo - 13) [rv x0, .int x1] h (fun x5 h4 => xext h h4 → Q (.returned (some (rv x0))) h4) (fun r h2 => Q (.threw r) h2)
set_option maxRecDepth 100000 in
theorem uJ4_append {G : xG} {fr lo : Nat} {x0 : Nat} {x1 : Int32} {h : xH} {Q : Outcome → xH → Prop} (hq : bJ4_append G fr lo x0 x1 h Q) : xP G YJ4_append fr lo 0 [(0, rv x0), (1, .int x1)] [] h Q := by
  unfold bJ4_append at hq
  refine x_aload_n 0 dJ4_append_0 rfl ?_
  refine x_iload_n 1 dJ4_append_1 rfl ?_
  obtain ⟨g1, hq⟩ := hq
  obtain ⟨g2, g3, hq⟩ := hq
  refine x_callU (Yc := YJ3_append) (as := [.int x1]) (st := []) q831 muJ4_J3_append g1 rfl dJ4_append_2 (xle (xal1 (rv_cat _) (xal1 rfl xal0)) (by decide)) (xfr g2) (xlo xsw0 (by decide) g3) (xKr hq (fun x5 h4 hq e6 => ?_) (fun _ _ q _ => q))
  replace hq := hq e6
  refine x_pop dJ4_append_5 (rv_cat _) ?_
  refine x_aload_n 0 dJ4_append_6 rfl ?_
  exact x_aret rfl xty_O dJ4_append_7 hq
theorem rJ4_append {G : xG} {fr lo : Nat} {x0 : Nat} {x1 : Int32} {h : xH} {Q : Outcome → xH → Prop} (hq : bJ4_append G fr lo x0 x1 h Q) : xR G YJ4_append fr lo [rv x0, .int x1] h Q := by
  show xP _ _ _ _ _ (lv_args 0 _) _ _ _
  rw [show lv_args 0 [rv x0, .int x1] = [(0, rv x0), (1, .int x1)] from (xla1 (rv_cat _) (xla1 rfl xla0))]
  exact uJ4_append hq
set_option maxRecDepth 100000 in
theorem dJ4_toString_0 : decode cJ4_toString 0 = .ok (.new 18, 3) := by decide +kernel
set_option maxRecDepth 100000 in
theorem dJ4_toString_3 : decode cJ4_toString 3 = .ok (.dup, 1) := by decide +kernel
set_option maxRecDepth 100000 in
theorem dJ4_toString_4 : decode cJ4_toString 4 = .ok (.aload_n 0, 1) := by decide +kernel
set_option maxRecDepth 100000 in
theorem dJ4_toString_5 : decode cJ4_toString 5 = .ok (.invokespecial 137, 3) := by decide +kernel
set_option maxRecDepth 100000 in
theorem dJ4_toString_8 : decode cJ4_toString 8 = .ok (.areturn, 1) := by decide +kernel
set_option maxRecDepth 100000 in
def bJ4_toString (G : xG) (fr lo : Nat) (x0 : Nat) (h : xH) (Q : Outcome → xH → Prop) : Prop := nx h + 1 ≤ xGN G ∧ us h + 4 ≤ xGU G ∧ (∀ (a3 : Nat) (h4 : xH), a3 = nx h + 1 → h4 = nO h 31 4 → xfresh h a3 → 1 ≤ fr ∧ 14 ≤ lo ∧ xRv G YJ5_init (fr - 1) (lo - 14) [rv a3, rv x0] h4 (fun h11 => xext h4 h11 → Q (.returned (some (rv a3))) h11) (fun r h2 => Q (.threw r) h2))
set_option maxRecDepth 100000 in
theorem uJ4_toString {G : xG} {fr lo : Nat} {x0 : Nat} {h : xH} {Q : Outcome → xH → Prop} (hq : bJ4_toString G fr lo x0 h Q) : xP G YJ4_toString fr lo 0 [(0, rv x0)] [] h Q := by
  unfold bJ4_toString at hq
  obtain ⟨g1, g2, hq⟩ := hq
  obtain ⟨a3, e5⟩ : ∃ y, y = nx h + 1 := ⟨_, rfl⟩
  obtain ⟨h4, e6⟩ : ∃ y, y = nO h 31 4 := ⟨_, rfl⟩
  refine x_new' cdJ4_18 dJ4_toString_0 g1 g2 e5 e6 (fun f7 => ?_)
  replace hq := hq a3 h4 e5 e6 f7
  have t8 : tg h4 a3 = 31 := by rw [e6, e5]; exact tg_nO
  refine x_dup dJ4_toString_3 (rv_cat _) ?_
  refine x_aload_n 0 dJ4_toString_4 rfl ?_
  obtain ⟨g9, g10, hq⟩ := hq
  refine x_callI (Yc := YJ5_init) (as := [rv x0]) (st := [rv a3]) q910 miJ5_init (by rw [t8]; decide) rfl dJ4_toString_5 (xle (xal1 (rv_cat _) (xal1 (rv_cat _) xal0)) (by decide)) (xfr g9) (xlo (xsw1 (rv_cat _) xsw0) (by decide) g10) (xKv hq (fun h11 hq e13 => ?_) (fun _ _ q _ => q))
  replace hq := hq e13
  exact x_aret rfl xty_O dJ4_toString_8 hq
theorem rJ4_toString {G : xG} {fr lo : Nat} {x0 : Nat} {h : xH} {Q : Outcome → xH → Prop} (hq : bJ4_toString G fr lo x0 h Q) : xR G YJ4_toString fr lo [rv x0] h Q := by
  show xP _ _ _ _ _ (lv_args 0 _) _ _ _
  rw [show lv_args 0 [rv x0] = [(0, rv x0)] from (xla1 (rv_cat _) xla0)]
  exact uJ4_toString hq
set_option maxRecDepth 100000 in
theorem dJ4_length_0 : decode cJ4_length 0 = .ok (.aload_n 0, 1) := by decide +kernel
set_option maxRecDepth 100000 in
theorem dJ4_length_1 : decode cJ4_length 1 = .ok (.invokespecial 343, 3) := by decide +kernel
set_option maxRecDepth 100000 in
theorem dJ4_length_4 : decode cJ4_length 4 = .ok (.ireturn, 1) := by decide +kernel
set_option maxRecDepth 100000 in
def bJ4_length (G : xG) (fr lo : Nat) (x0 : Nat) (h : xH) (Q : Outcome → xH → Prop) : Prop := tg h x0 = 30 ∧ 1 ≤ fr ∧ 12 ≤ lo ∧ xRi G YJ3_length (fr - 1) (lo - 12) [rv x0] h (fun x5 h4 => xext h h4 → Q (.returned (some (.int x5))) h4) (fun r h2 => Q (.threw r) h2)
set_option maxRecDepth 100000 in
theorem uJ4_length {G : xG} {fr lo : Nat} {x0 : Nat} {h : xH} {Q : Outcome → xH → Prop} (hq : bJ4_length G fr lo x0 h Q) : xP G YJ4_length fr lo 0 [(0, rv x0)] [] h Q := by
  unfold bJ4_length at hq
  refine x_aload_n 0 dJ4_length_0 rfl ?_
  obtain ⟨g1, hq⟩ := hq
  obtain ⟨g2, g3, hq⟩ := hq
  refine x_callU (Yc := YJ3_length) (as := []) (st := []) q928 muJ4_J3_length g1 rfl dJ4_length_1 (xle (xal1 (rv_cat _) xal0) (by decide)) (xfr g2) (xlo xsw0 (by decide) g3) (xKi hq (fun x5 h4 hq e6 => ?_) (fun _ _ q _ => q))
  replace hq := hq e6
  exact x_iret rfl rfl dJ4_length_4 hq
theorem rJ4_length {G : xG} {fr lo : Nat} {x0 : Nat} {h : xH} {Q : Outcome → xH → Prop} (hq : bJ4_length G fr lo x0 h Q) : xR G YJ4_length fr lo [rv x0] h Q := by
  show xP _ _ _ _ _ (lv_args 0 _) _ _ _
  rw [show lv_args 0 [rv x0] = [(0, rv x0)] from (xla1 (rv_cat _) xla0)]
  exact uJ4_length hq
set_option maxRecDepth 100000 in
theorem dJ4_setLength_0 : decode cJ4_setLength 0 = .ok (.aload_n 0, 1) := by decide +kernel
set_option maxRecDepth 100000 in
theorem dJ4_setLength_1 : decode cJ4_setLength 1 = .ok (.iload_n 1, 1) := by decide +kernel
set_option maxRecDepth 100000 in
theorem dJ4_setLength_2 : decode cJ4_setLength 2 = .ok (.invokespecial 333, 3) := by decide +kernel
set_option maxRecDepth 100000 in
theorem dJ4_setLength_5 : decode cJ4_setLength 5 = .ok (.return_, 1) := by decide +kernel
set_option maxRecDepth 100000 in
def bJ4_setLength (G : xG) (fr lo : Nat) (x0 : Nat) (x1 : Int32) (h : xH) (Q : Outcome → xH → Prop) : Prop := tg h x0 = 30 ∧ 1 ≤ fr ∧ 13 ≤ lo ∧ xRv G YJ3_setLength (fr - 1) (lo - 13) [rv x0, .int x1] h (fun h4 => xext h h4 → Q (.returned none) h4) (fun r h2 => Q (.threw r) h2)
set_option maxRecDepth 100000 in
theorem uJ4_setLength {G : xG} {fr lo : Nat} {x0 : Nat} {x1 : Int32} {h : xH} {Q : Outcome → xH → Prop} (hq : bJ4_setLength G fr lo x0 x1 h Q) : xP G YJ4_setLength fr lo 0 [(0, rv x0), (1, .int x1)] [] h Q := by
  unfold bJ4_setLength at hq
  refine x_aload_n 0 dJ4_setLength_0 rfl ?_
  refine x_iload_n 1 dJ4_setLength_1 rfl ?_
  obtain ⟨g1, hq⟩ := hq
  obtain ⟨g2, g3, hq⟩ := hq
  refine x_callU (Yc := YJ3_setLength) (as := [.int x1]) (st := []) q1078 muJ4_J3_setLength g1 rfl dJ4_setLength_2 (xle (xal1 (rv_cat _) (xal1 rfl xal0)) (by decide)) (xfr g2) (xlo xsw0 (by decide) g3) (xKv hq (fun h4 hq e6 => ?_) (fun _ _ q _ => q))
  replace hq := hq e6
  exact x_vret rfl dJ4_setLength_5 hq
theorem rJ4_setLength {G : xG} {fr lo : Nat} {x0 : Nat} {x1 : Int32} {h : xH} {Q : Outcome → xH → Prop} (hq : bJ4_setLength G fr lo x0 x1 h Q) : xR G YJ4_setLength fr lo [rv x0, .int x1] h Q := by
  show xP _ _ _ _ _ (lv_args 0 _) _ _ _
  rw [show lv_args 0 [rv x0, .int x1] = [(0, rv x0), (1, .int x1)] from (xla1 (rv_cat _) (xla1 rfl xla0))]
  exact uJ4_setLength hq
