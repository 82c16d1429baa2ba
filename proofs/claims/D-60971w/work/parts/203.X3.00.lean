/-! PascalHouse$Parser, walked (1) -/
set_option maxRecDepth 100000 in
theorem dX3_init_0 : decode cX3_init 0 = .ok (.aload_n 0, 1) := by decide +kernel
set_option maxRecDepth 100000 in
theorem dX3_init_1 : decode cX3_init 1 = .ok (.invokespecial 3, 3) := by decide +kernel
set_option maxRecDepth 100000 in
theorem dX3_init_4 : decode cX3_init 4 = .ok (.aload_n 0, 1) := by decide +kernel
set_option maxRecDepth 100000 in
theorem dX3_init_5 : decode cX3_init 5 = .ok (.aload_n 1, 1) := by decide +kernel
set_option maxRecDepth 100000 in
theorem dX3_init_6 : decode cX3_init 6 = .ok (.putfield 9, 3) := by decide +kernel
set_option maxRecDepth 100000 in
theorem dX3_init_9 : decode cX3_init 9 = .ok (.aload_n 0, 1) := by decide +kernel
set_option maxRecDepth 100000 in
theorem dX3_init_10 : decode cX3_init 10 = .ok (.aload_n 2, 1) := by decide +kernel
set_option maxRecDepth 100000 in
theorem dX3_init_11 : decode cX3_init 11 = .ok (.putfield 15, 3) := by decide +kernel
set_option maxRecDepth 100000 in
theorem dX3_init_14 : decode cX3_init 14 = .ok (.return_, 1) := by decide +kernel
set_option maxRecDepth 100000 in
def bX3_init (G : xG) (fr lo : Nat) (x0 : Nat) (x1 : Nat) (x2 : Nat) (h : xH) (Q : Outcome → xH → Prop) : Prop := tg h x0 = 4 ∧ 1 ≤ fr ∧ 12 ≤ lo ∧ (∀ h4 : xH, h4 = sR h x0 768 x1 → (∀ h7 : xH, h7 = sR h4 x0 769 x2 → Q (.returned none) h7))
set_option maxRecDepth 100000 in
theorem uX3_init {G : xG} {fr lo : Nat} {x0 : Nat} {x1 : Nat} {x2 : Nat} {h : xH} {Q : Outcome → xH → Prop} (hq : bX3_init G fr lo x0 x1 x2 h Q) : xP G YX3_init fr lo 0 [(0, rv x0), (1, rv x1), (2, rv x2)] [] h Q := by
  unfold bX3_init at hq
  refine x_aload_n 0 dX3_init_0 rfl ?_
  obtain ⟨g1, hq⟩ := hq
  obtain ⟨g2, g3, hq⟩ := hq
  refine x_objInit (by rw [g1]; decide) q663 q438 q439 dX3_init_1 g2 (by simp only [List.map_cons, List.map_nil, List.sum_cons, List.sum_nil, rv_cat, Value.category]; omega) ?_
  refine x_aload_n 0 dX3_init_4 rfl ?_
  refine x_aload_n 1 dX3_init_5 rfl ?_
  obtain ⟨h4, e5⟩ : ∃ y, y = sR h x0 768 x1 := ⟨_, rfl⟩
  replace hq := hq h4 e5
  refine x_putFR fdX3_9 owX3_init_0 xty_O dX3_init_6 g1 (Or.inl (by rw [g1]; rfl)) rfl e5 ?_
  refine x_aload_n 0 dX3_init_9 rfl ?_
  refine x_aload_n 2 dX3_init_10 rfl ?_
  have t6 : tg h4 x0 = 4 := by rw [e5]; exact g1
  obtain ⟨h7, e8⟩ : ∃ y, y = sR h4 x0 769 x2 := ⟨_, rfl⟩
  replace hq := hq h7 e8
  refine x_putFR fdX3_15 owX3_init_1 xty_O dX3_init_11 t6 (Or.inl (by rw [t6]; rfl)) rfl e8 ?_
  exact x_vret rfl dX3_init_14 hq
theorem rX3_init {G : xG} {fr lo : Nat} {x0 : Nat} {x1 : Nat} {x2 : Nat} {h : xH} {Q : Outcome → xH → Prop} (hq : bX3_init G fr lo x0 x1 x2 h Q) : xR G YX3_init fr lo [rv x0, rv x1, rv x2] h Q := by
  show xP _ _ _ _ _ (lv_args 0 _) _ _ _
  rw [show lv_args 0 [rv x0, rv x1, rv x2] = [(0, rv x0), (1, rv x1), (2, rv x2)] from (xla1 (rv_cat _) (xla1 (rv_cat _) (xla1 (rv_cat _) xla0)))]
  exact uX3_init hq
set_option maxRecDepth 100000 in
theorem dX3_program_0 : decode cX3_program 0 = .ok (.aload_n 0, 1) := by decide +kernel
set_option maxRecDepth 100000 in
theorem dX3_program_1 : decode cX3_program 1 = .ok (.getfield 9, 3) := by decide +kernel
set_option maxRecDepth 100000 in
theorem dX3_program_4 : decode cX3_program 4 = .ok (.iload_n 1, 1) := by decide +kernel
set_option maxRecDepth 100000 in
theorem dX3_program_5 : decode cX3_program 5 = .ok (.invokevirtual 93, 3) := by decide +kernel
set_option maxRecDepth 100000 in
theorem dX3_program_8 : decode cX3_program 8 = .ok (.aload_n 0, 1) := by decide +kernel
set_option maxRecDepth 100000 in
theorem dX3_program_9 : decode cX3_program 9 = .ok (.iconst 0, 1) := by decide +kernel
set_option maxRecDepth 100000 in
theorem dX3_program_10 : decode cX3_program 10 = .ok (.putfield 29, 3) := by decide +kernel
set_option maxRecDepth 100000 in
theorem dX3_program_13 : decode cX3_program 13 = .ok (.aload_n 0, 1) := by decide +kernel
set_option maxRecDepth 100000 in
theorem dX3_program_14 : decode cX3_program 14 = .ok (.iconst 0, 1) := by decide +kernel
set_option maxRecDepth 100000 in
theorem dX3_program_15 : decode cX3_program 15 = .ok (.putfield 68, 3) := by decide +kernel
set_option maxRecDepth 100000 in
theorem dX3_program_18 : decode cX3_program 18 = .ok (.aload_n 0, 1) := by decide +kernel
set_option maxRecDepth 100000 in
theorem dX3_program_19 : decode cX3_program 19 = .ok (.invokevirtual 57, 3) := by decide +kernel
set_option maxRecDepth 100000 in
theorem dX3_program_22 : decode cX3_program 22 = .ok (.aload_n 0, 1) := by decide +kernel
set_option maxRecDepth 100000 in
theorem dX3_program_23 : decode cX3_program 23 = .ok (.ldc 97, 2) := by decide +kernel
set_option maxRecDepth 100000 in
theorem dX3_program_25 : decode cX3_program 25 = .ok (.invokevirtual 99, 3) := by decide +kernel
set_option maxRecDepth 100000 in
theorem dX3_program_28 : decode cX3_program 28 = .ok (.pop, 1) := by decide +kernel
set_option maxRecDepth 100000 in
theorem dX3_program_29 : decode cX3_program 29 = .ok (.new 71, 3) := by decide +kernel
set_option maxRecDepth 100000 in
theorem dX3_program_32 : decode cX3_program 32 = .ok (.dup, 1) := by decide +kernel
set_option maxRecDepth 100000 in
theorem dX3_program_33 : decode cX3_program 33 = .ok (.bipush 66, 2) := by decide +kernel
set_option maxRecDepth 100000 in
theorem dX3_program_35 : decode cX3_program 35 = .ok (.aload_n 0, 1) := by decide +kernel
set_option maxRecDepth 100000 in
theorem dX3_program_36 : decode cX3_program 36 = .ok (.getstatic 43, 3) := by decide +kernel
set_option maxRecDepth 100000 in
theorem dX3_program_39 : decode cX3_program 39 = .ok (.invokevirtual 73, 3) := by decide +kernel
set_option maxRecDepth 100000 in
theorem dX3_program_42 : decode cX3_program 42 = .ok (.invokespecial 77, 3) := by decide +kernel
set_option maxRecDepth 100000 in
theorem dX3_program_45 : decode cX3_program 45 = .ok (.astore_n 2, 1) := by decide +kernel
set_option maxRecDepth 100000 in
theorem dX3_program_46 : decode cX3_program 46 = .ok (.new 71, 3) := by decide +kernel
set_option maxRecDepth 100000 in
theorem dX3_program_49 : decode cX3_program 49 = .ok (.dup, 1) := by decide +kernel
set_option maxRecDepth 100000 in
theorem dX3_program_50 : decode cX3_program 50 = .ok (.iconst 0, 1) := by decide +kernel
set_option maxRecDepth 100000 in
theorem dX3_program_51 : decode cX3_program 51 = .ok (.aload_n 2, 1) := by decide +kernel
set_option maxRecDepth 100000 in
theorem dX3_program_52 : decode cX3_program 52 = .ok (.getfield 103, 3) := by decide +kernel
set_option maxRecDepth 100000 in
theorem dX3_program_55 : decode cX3_program 55 = .ok (.invokespecial 77, 3) := by decide +kernel
set_option maxRecDepth 100000 in
theorem dX3_program_58 : decode cX3_program 58 = .ok (.astore_n 3, 1) := by decide +kernel
set_option maxRecDepth 100000 in
theorem dX3_program_59 : decode cX3_program 59 = .ok (.aload_n 0, 1) := by decide +kernel
set_option maxRecDepth 100000 in
theorem dX3_program_60 : decode cX3_program 60 = .ok (.ldc 105, 2) := by decide +kernel
set_option maxRecDepth 100000 in
theorem dX3_program_62 : decode cX3_program 62 = .ok (.invokevirtual 90, 3) := by decide +kernel
set_option maxRecDepth 100000 in
theorem dX3_program_65 : decode cX3_program 65 = .ok (.ifCond .eq 15, 3) := by decide +kernel
set_option maxRecDepth 100000 in
theorem dX3_program_68 : decode cX3_program 68 = .ok (.aload_n 0, 1) := by decide +kernel
set_option maxRecDepth 100000 in
theorem dX3_program_69 : decode cX3_program 69 = .ok (.aload_n 3, 1) := by decide +kernel
set_option maxRecDepth 100000 in
theorem dX3_program_70 : decode cX3_program 70 = .ok (.invokevirtual 107, 3) := by decide +kernel
set_option maxRecDepth 100000 in
theorem dX3_program_73 : decode cX3_program 73 = .ok (.aload_n 0, 1) := by decide +kernel
set_option maxRecDepth 100000 in
theorem dX3_program_74 : decode cX3_program 74 = .ok (.ldc 111, 2) := by decide +kernel
set_option maxRecDepth 100000 in
theorem dX3_program_76 : decode cX3_program 76 = .ok (.invokevirtual 99, 3) := by decide +kernel
set_option maxRecDepth 100000 in
theorem dX3_program_79 : decode cX3_program 79 = .ok (.pop, 1) := by decide +kernel
set_option maxRecDepth 100000 in
theorem dX3_program_80 : decode cX3_program 80 = .ok (.aload_n 0, 1) := by decide +kernel
set_option maxRecDepth 100000 in
theorem dX3_program_81 : decode cX3_program 81 = .ok (.ldc 113, 2) := by decide +kernel
set_option maxRecDepth 100000 in
theorem dX3_program_83 : decode cX3_program 83 = .ok (.invokevirtual 99, 3) := by decide +kernel
set_option maxRecDepth 100000 in
theorem dX3_program_86 : decode cX3_program 86 = .ok (.pop, 1) := by decide +kernel
set_option maxRecDepth 100000 in
theorem dX3_program_87 : decode cX3_program 87 = .ok (.aload_n 2, 1) := by decide +kernel
set_option maxRecDepth 100000 in
theorem dX3_program_88 : decode cX3_program 88 = .ok (.aload_n 3, 1) := by decide +kernel
set_option maxRecDepth 100000 in
theorem dX3_program_89 : decode cX3_program 89 = .ok (.invokevirtual 84, 3) := by decide +kernel
set_option maxRecDepth 100000 in
theorem dX3_program_92 : decode cX3_program 92 = .ok (.aload_n 0, 1) := by decide +kernel
set_option maxRecDepth 100000 in
theorem dX3_program_93 : decode cX3_program 93 = .ok (.invokevirtual 115, 3) := by decide +kernel
set_option maxRecDepth 100000 in
theorem dX3_program_96 : decode cX3_program 96 = .ok (.invokevirtual 84, 3) := by decide +kernel
set_option maxRecDepth 100000 in
theorem dX3_program_99 : decode cX3_program 99 = .ok (.pop, 1) := by decide +kernel
set_option maxRecDepth 100000 in
theorem dX3_program_100 : decode cX3_program 100 = .ok (.aload_n 0, 1) := by decide +kernel
set_option maxRecDepth 100000 in
theorem dX3_program_101 : decode cX3_program 101 = .ok (.ldc 118, 2) := by decide +kernel
set_option maxRecDepth 100000 in
theorem dX3_program_103 : decode cX3_program 103 = .ok (.invokevirtual 99, 3) := by decide +kernel
set_option maxRecDepth 100000 in
theorem dX3_program_106 : decode cX3_program 106 = .ok (.pop, 1) := by decide +kernel
set_option maxRecDepth 100000 in
theorem dX3_program_107 : decode cX3_program 107 = .ok (.aload_n 0, 1) := by decide +kernel
set_option maxRecDepth 100000 in
theorem dX3_program_108 : decode cX3_program 108 = .ok (.getfield 25, 3) := by decide +kernel
set_option maxRecDepth 100000 in
theorem dX3_program_111 : decode cX3_program 111 = .ok (.getfield 39, 3) := by decide +kernel
set_option maxRecDepth 100000 in
theorem dX3_program_114 : decode cX3_program 114 = .ok (.getstatic 120, 3) := by decide +kernel
set_option maxRecDepth 100000 in
theorem dX3_program_117 : decode cX3_program 117 = .ok (.if_acmp .eq 8, 3) := by decide +kernel
set_option maxRecDepth 100000 in
theorem dX3_program_120 : decode cX3_program 120 = .ok (.aload_n 0, 1) := by decide +kernel
set_option maxRecDepth 100000 in
theorem dX3_program_121 : decode cX3_program 121 = .ok (.invokevirtual 61, 3) := by decide +kernel
set_option maxRecDepth 100000 in
theorem dX3_program_124 : decode cX3_program 124 = .ok (.athrow, 1) := by decide +kernel
set_option maxRecDepth 100000 in
theorem dX3_program_125 : decode cX3_program 125 = .ok (.aload_n 2, 1) := by decide +kernel
set_option maxRecDepth 100000 in
theorem dX3_program_126 : decode cX3_program 126 = .ok (.areturn, 1) := by decide +kernel
set_option maxRecDepth 100000 in
def bX3_program_80 (G : xG) (fr lo : Nat) (x0 : Nat) (x2 : Nat) (x3 : Nat) (h : xH) (Q : Outcome → xH → Prop) : Prop := tg h x0 = 4 ∧ 1 ≤ fr ∧ 13 ≤ lo ∧ xRr G YX3_need (fr - 1) (lo - 13) [rv x0, rv (tx G 64)] h (fun x5 h4 => xext h h4 → tg h4 x2 = 16 ∧ 1 ≤ fr ∧ 13 ≤ lo ∧ xRr G YX15_add (fr - 1) (lo - 13) [rv x2, rv x3] h4 (fun x11 h10 => xext h4 h10 → 1 ≤ fr ∧ 16 ≤ lo ∧ xRr G YX3_block (fr - 1) (lo - 16) [rv x0] h10 (fun x18 h17 => xext h10 h17 → tg h17 x11 = 16 ∧ 1 ≤ fr ∧ 13 ≤ lo ∧ xRr G YX15_add (fr - 1) (lo - 13) [rv x11, rv x18] h17 (fun x24 h23 => xext h17 h23 → 1 ≤ fr ∧ 13 ≤ lo ∧ xRr G YX3_need (fr - 1) (lo - 13) [rv x0, rv (tx G 62)] h23 (fun x31 h30 => xext h23 h30 → tg h30 (fR h30 x0 770) = 15 ∧ (((fR h30 (fR h30 x0 770) 3584) = (xGS G 5) → Q (.returned (some (rv x2))) h30) ∧ (¬ (fR h30 (fR h30 x0 770) 3584) = (xGS G 5) → 1 ≤ fr ∧ 12 ≤ lo ∧ xRr G YX3_wrong (fr - 1) (lo - 12) [rv x0] h30 (fun x39 h38 => xext h30 h38 → (∃ r41, x39 = r41 + 1 ∧ Q (.threw r41) h38)) (fun r h2 => Q (.threw r) h2)))) (fun r h2 => Q (.threw r) h2)) (fun r h2 => Q (.threw r) h2)) (fun r h2 => Q (.threw r) h2)) (fun r h2 => Q (.threw r) h2)) (fun r h2 => Q (.threw r) h2)
set_option maxRecDepth 100000 in
theorem uX3_program_80 {G : xG} {fr lo : Nat} {x0 : Nat} {x2 : Nat} {x3 : Nat} {h : xH} {Q : Outcome → xH → Prop} (hq : bX3_program_80 G fr lo x0 x2 x3 h Q) : xP G YX3_program fr lo 80 [(0, rv x0), (2, rv x2), (3, rv x3)] [] h Q := by
  unfold bX3_program_80 at hq
  refine x_aload_n 0 dX3_program_80 rfl ?_
  refine x_ldcS (n := 64) 71 srX3_113 dX3_program_81 ?_
  obtain ⟨g1, hq⟩ := hq
  obtain ⟨g2, g3, hq⟩ := hq
  refine x_callV (Yc := YX3_need) (as := [rv (tx G 64)]) (st := []) q1719 mvX3_need g1 rfl dX3_program_83 (xle (xal1 (rv_cat _) (xal1 (rv_cat _) xal0)) (by decide)) (xfr g2) (xlo xsw0 (by decide) g3) (xKr hq (fun x5 h4 hq e6 => ?_) (fun _ _ q _ => q))
  replace hq := hq e6
  refine x_pop dX3_program_86 (rv_cat _) ?_
  refine x_aload_n 1 dX3_program_87 rfl ?_
  refine x_aload_n 2 dX3_program_88 rfl ?_
  obtain ⟨g7, hq⟩ := hq
  obtain ⟨g8, g9, hq⟩ := hq
  refine x_callV (Yc := YX15_add) (as := [rv x3]) (st := []) q1795 mvX15_add g7 rfl dX3_program_89 (xle (xal1 (rv_cat _) (xal1 (rv_cat _) xal0)) (by decide)) (xfr g8) (xlo xsw0 (by decide) g9) (xKr hq (fun x11 h10 hq e12 => ?_) (fun _ _ q _ => q))
  replace hq := hq e12
  refine x_aload_n 0 dX3_program_92 rfl ?_
  have t13 : tg h4 x0 = 4 := e6.tg g1 (by decide)
  have t14 : tg h10 x0 = 4 := e12.tg t13 (by decide)
  obtain ⟨g15, g16, hq⟩ := hq
  refine x_callV (Yc := YX3_block) (as := []) (st := [rv x11]) q1802 mvX3_block t14 rfl dX3_program_93 (xle (xal1 (rv_cat _) xal0) (by decide)) (xfr g15) (xlo (xsw1 (rv_cat _) xsw0) (by decide) g16) (xKr hq (fun x18 h17 hq e19 => ?_) (fun _ _ q _ => q))
  replace hq := hq e19
  obtain ⟨g20, hq⟩ := hq
  obtain ⟨g21, g22, hq⟩ := hq
  refine x_callV (Yc := YX15_add) (as := [rv x18]) (st := []) q1795 mvX15_add g20 rfl dX3_program_96 (xle (xal1 (rv_cat _) (xal1 (rv_cat _) xal0)) (by decide)) (xfr g21) (xlo xsw0 (by decide) g22) (xKr hq (fun x24 h23 hq e25 => ?_) (fun _ _ q _ => q))
  replace hq := hq e25
  refine x_pop dX3_program_99 (rv_cat _) ?_
  refine x_aload_n 0 dX3_program_100 rfl ?_
  refine x_ldcS (n := 62) 96 srX3_118 dX3_program_101 ?_
  have t26 : tg h17 x0 = 4 := e19.tg t14 (by decide)
  have t27 : tg h23 x0 = 4 := e25.tg t26 (by decide)
  obtain ⟨g28, g29, hq⟩ := hq
  refine x_callV (Yc := YX3_need) (as := [rv (tx G 62)]) (st := []) q1719 mvX3_need t27 rfl dX3_program_103 (xle (xal1 (rv_cat _) (xal1 (rv_cat _) xal0)) (by decide)) (xfr g28) (xlo xsw0 (by decide) g29) (xKr hq (fun x31 h30 hq e32 => ?_) (fun _ _ q _ => q))
  replace hq := hq e32
  refine x_pop dX3_program_106 (rv_cat _) ?_
  refine x_aload_n 0 dX3_program_107 rfl ?_
  have t33 : tg h30 x0 = 4 := e32.tg t27 (by decide)
  refine x_get (v := rv (fR h30 x0 770)) fdX3_25 dX3_program_108 t33 rfl ?_
  obtain ⟨g34, hq⟩ := hq
  refine x_getN (v := rv (fR h30 (fR h30 x0 770) 3584)) gfX3_39 dX3_program_111 g34 rfl ?_
  refine x_gets (v := rv (xGS G 5)) 5 rfl q2002 (by simp [xsv]) dX3_program_114 ?_
  refine x_acmp_eq (tgt := 125) dX3_program_117 (by decide) (fun c35 => ?_) (fun c35 => ?_)
  · replace hq := hq.1 c35
    refine x_aload_n 1 dX3_program_125 rfl ?_
    exact x_aret rfl xty_O dX3_program_126 hq
  · replace hq := hq.2 c35
    refine x_aload_n 0 dX3_program_120 rfl ?_
    obtain ⟨g36, g37, hq⟩ := hq
    refine x_callV (Yc := YX3_wrong) (as := []) (st := []) q1733 mvX3_wrong t33 rfl dX3_program_121 (xle (xal1 (rv_cat _) xal0) (by decide)) (xfr g36) (xlo xsw0 (by decide) g37) (xKr hq (fun x39 h38 hq e40 => ?_) (fun _ _ q _ => q))
    replace hq := hq e40
    obtain ⟨r41, g42, hq⟩ := hq
    rw [g42]
    exact x_athrow dX3_program_124 hq
set_option maxRecDepth 100000 in
def bX3_program (G : xG) (fr lo : Nat) (x0 : Nat) (x1 : Int32) (h : xH) (Q : Outcome → xH → Prop) : Prop := tg h x0 = 4 ∧ tg h (fR h x0 768) = 5 ∧ 1 ≤ fr ∧ 13 ≤ lo ∧ xRv G YX4_begin (fr - 1) (lo - 13) [rv (fR h x0 768), .int x1] h (fun h5 => xext h h5 → (∀ h9 : xH, h9 = sI h5 x0 771 0 → (∀ h12 : xH, h12 = sI h9 x0 772 0 → 1 ≤ fr ∧ 12 ≤ lo ∧ xRv G YX3_step (fr - 1) (lo - 12) [rv x0] h12 (fun h17 => xext h12 h17 → 1 ≤ fr ∧ 13 ≤ lo ∧ xRr G YX3_need (fr - 1) (lo - 13) [rv x0, rv (tx G 24)] h17 (fun x24 h23 => xext h17 h23 → nx h23 + 1 ≤ xGN G ∧ us h23 + 6 ≤ xGU G ∧ (∀ (a28 : Nat) (h29 : xH), a28 = nx h23 + 1 → h29 = nO h23 16 6 → xfresh h23 a28 → 1 ≤ fr ∧ 16 ≤ lo ∧ xRr G YX3_needSort (fr - 1) (lo - 16) [rv x0, rv (xGS G 1)] h29 (fun x39 h38 => xext h29 h38 → 1 ≤ fr ∧ 15 ≤ lo ∧ xRv G YX15_init (fr - 1) (lo - 15) [rv a28, .int 66, rv x39] h38 (fun h44 => xext h38 h44 → nx h44 + 1 ≤ xGN G ∧ us h44 + 6 ≤ xGU G ∧ (∀ (a49 : Nat) (h50 : xH), a49 = nx h44 + 1 → h50 = nO h44 16 6 → xfresh h44 a49 → 1 ≤ fr ∧ 15 ≤ lo ∧ xRv G YX15_init (fr - 1) (lo - 15) [rv a49, .int 0, rv (fR h50 a28 3841)] h50 (fun h59 => xext h50 h59 → 1 ≤ fr ∧ 13 ≤ lo ∧ xRi G YX3_has (fr - 1) (lo - 13) [rv x0, rv (tx G 60)] h59 (fun x69 h68 => xext h59 h68 → ((x69 = 0 → bX3_program_80 G fr lo x0 a28 a49 h68 Q) ∧ (¬ x69 = 0 → 1 ≤ fr ∧ 13 ≤ lo ∧ xRv G YX3_names (fr - 1) (lo - 13) [rv x0, rv a49] h68 (fun h75 => xext h68 h75 → 1 ≤ fr ∧ 13 ≤ lo ∧ xRr G YX3_need (fr - 1) (lo - 13) [rv x0, rv (tx G 61)] h75 (fun x82 h81 => xext h75 h81 → bX3_program_80 G fr lo x0 a28 a49 h81 Q) (fun r h2 => Q (.threw r) h2)) (fun r h2 => Q (.threw r) h2)))) (fun r h2 => Q (.threw r) h2)) (fun r h2 => Q (.threw r) h2))) (fun r h2 => Q (.threw r) h2)) (fun r h2 => Q (.threw r) h2))) (fun r h2 => Q (.threw r) h2)) (fun r h2 => Q (.threw r) h2)))) (fun r h2 => Q (.threw r) h2)
set_option maxRecDepth 100000 in
theorem uX3_program {G : xG} {fr lo : Nat} {x0 : Nat} {x1 : Int32} {h : xH} {Q : Outcome → xH → Prop} (hq : bX3_program G fr lo x0 x1 h Q) : xP G YX3_program fr lo 0 [(0, rv x0), (1, .int x1)] [] h Q := by
  unfold bX3_program at hq
  refine x_aload_n 0 dX3_program_0 rfl ?_
  obtain ⟨g1, hq⟩ := hq
  refine x_get (v := rv (fR h x0 768)) fdX3_9 dX3_program_1 g1 rfl ?_
  refine x_iload_n 1 dX3_program_4 rfl ?_
  obtain ⟨g2, hq⟩ := hq
  obtain ⟨g3, g4, hq⟩ := hq
  refine x_callV (Yc := YX4_begin) (as := [.int x1]) (st := []) q1564 mvX4_begin g2 rfl dX3_program_5 (xle (xal1 (rv_cat _) (xal1 rfl xal0)) (by decide)) (xfr g3) (xlo xsw0 (by decide) g4) (xKv hq (fun h5 hq e7 => ?_) (fun _ _ q _ => q))
  replace hq := hq e7
  refine x_aload_n 0 dX3_program_8 rfl ?_
  refine x_iconst (v := 0) dX3_program_9 (by decide) ?_
  have t8 : tg h5 x0 = 4 := e7.tg g1 (by decide)
  obtain ⟨h9, e10⟩ : ∃ y, y = sI h5 x0 771 0 := ⟨_, rfl⟩
  replace hq := hq h9 e10
  refine x_putI fdX3_29 xty_I1 dX3_program_10 t8 (Or.inl (by rw [t8]; rfl)) xnI rfl e10 ?_
  refine x_aload_n 0 dX3_program_13 rfl ?_
  refine x_iconst (v := 0) dX3_program_14 (by decide) ?_
  have t11 : tg h9 x0 = 4 := by rw [e10]; exact t8
  obtain ⟨h12, e13⟩ : ∃ y, y = sI h9 x0 772 0 := ⟨_, rfl⟩
  replace hq := hq h12 e13
  refine x_putI fdX3_68 xty_I1 dX3_program_15 t11 (Or.inl (by rw [t11]; rfl)) xnI rfl e13 ?_
  refine x_aload_n 0 dX3_program_18 rfl ?_
  have t14 : tg h12 x0 = 4 := by rw [e13]; exact t11
  obtain ⟨g15, g16, hq⟩ := hq
  refine x_callV (Yc := YX3_step) (as := []) (st := []) q1568 mvX3_step t14 rfl dX3_program_19 (xle (xal1 (rv_cat _) xal0) (by decide)) (xfr g15) (xlo xsw0 (by decide) g16) (xKv hq (fun h17 hq e19 => ?_) (fun _ _ q _ => q))
  replace hq := hq e19
  refine x_aload_n 0 dX3_program_22 rfl ?_
  refine x_ldcS (n := 24) 67 srX3_97 dX3_program_23 ?_
  have t20 : tg h17 x0 = 4 := e19.tg t14 (by decide)
  obtain ⟨g21, g22, hq⟩ := hq
  refine x_callV (Yc := YX3_need) (as := [rv (tx G 24)]) (st := []) q1719 mvX3_need t20 rfl dX3_program_25 (xle (xal1 (rv_cat _) (xal1 (rv_cat _) xal0)) (by decide)) (xfr g21) (xlo xsw0 (by decide) g22) (xKr hq (fun x24 h23 hq e25 => ?_) (fun _ _ q _ => q))
  replace hq := hq e25
  refine x_pop dX3_program_28 (rv_cat _) ?_
  obtain ⟨g26, g27, hq⟩ := hq
  obtain ⟨a28, e30⟩ : ∃ y, y = nx h23 + 1 := ⟨_, rfl⟩
  obtain ⟨h29, e31⟩ : ∃ y, y = nO h23 16 6 := ⟨_, rfl⟩
  refine x_new' cdX3_71 dX3_program_29 g26 g27 e30 e31 (fun f32 => ?_)
  replace hq := hq a28 h29 e30 e31 f32
  have t33 : tg h29 a28 = 16 := by rw [e31, e30]; exact tg_nO
  refine x_dup dX3_program_32 (rv_cat _) ?_
  refine x_bipush (v := 66) dX3_program_33 (by decide) ?_
  refine x_aload_n 0 dX3_program_35 rfl ?_
  refine x_gets (v := rv (xGS G 1)) 1 rfl q1744 (by simp [xsv]) dX3_program_36 ?_
  have t34 : tg h23 x0 = 4 := e25.tg t20 (by decide)
  have t35 : tg h29 x0 = 4 := by rw [e31]; exact tg_nO_ne e30 f32 t34 (by decide)
  obtain ⟨g36, g37, hq⟩ := hq
  refine x_callV (Yc := YX3_needSort) (as := [rv (xGS G 1)]) (st := [.int 66, rv a28, rv a28]) q1745 mvX3_needSort t35 rfl dX3_program_39 (xle (xal1 (rv_cat _) (xal1 (rv_cat _) xal0)) (by decide)) (xfr g36) (xlo (xsw1 rfl (xsw1 (rv_cat _) (xsw1 (rv_cat _) xsw0))) (by decide) g37) (xKr hq (fun x39 h38 hq e40 => ?_) (fun _ _ q _ => q))
  replace hq := hq e40
  have t41 : tg h38 a28 = 16 := e40.tg t33 (by decide)
  obtain ⟨g42, g43, hq⟩ := hq
  refine x_callI (Yc := YX15_init) (as := [.int 66, rv x39]) (st := [rv a28]) q1749 miX15_init (by rw [t41]; decide) rfl dX3_program_42 (xle (xal1 (rv_cat _) (xal1 rfl (xal1 (rv_cat _) xal0))) (by decide)) (xfr g42) (xlo (xsw1 (rv_cat _) xsw0) (by decide) g43) (xKv hq (fun h44 hq e46 => ?_) (fun _ _ q _ => q))
  replace hq := hq e46
  refine x_astore_n (lv' := [(2, rv a28), (0, rv x0), (1, .int x1)]) dX3_program_45 (by decide) rfl ?_
  obtain ⟨g47, g48, hq⟩ := hq
  obtain ⟨a49, e51⟩ : ∃ y, y = nx h44 + 1 := ⟨_, rfl⟩
  obtain ⟨h50, e52⟩ : ∃ y, y = nO h44 16 6 := ⟨_, rfl⟩
  refine x_new' cdX3_71 dX3_program_46 g47 g48 e51 e52 (fun f53 => ?_)
  replace hq := hq a49 h50 e51 e52 f53
  have t54 : tg h50 a49 = 16 := by rw [e52, e51]; exact tg_nO
  refine x_dup dX3_program_49 (rv_cat _) ?_
  refine x_iconst (v := 0) dX3_program_50 (by decide) ?_
  refine x_aload_n 0 dX3_program_51 rfl ?_
  have t55 : tg h44 a28 = 16 := e46.tg t41 (by decide)
  have t56 : tg h50 a28 = 16 := by rw [e52]; exact tg_nO_ne e51 f53 t55 (by decide)
  refine x_getN (v := rv (fR h50 a28 3841)) gfX3_103 dX3_program_52 t56 rfl ?_
  obtain ⟨g57, g58, hq⟩ := hq
  refine x_callI (Yc := YX15_init) (as := [.int 0, rv (fR h50 a28 3841)]) (st := [rv a49]) q1749 miX15_init (by rw [t54]; decide) rfl dX3_program_55 (xle (xal1 (rv_cat _) (xal1 rfl (xal1 (rv_cat _) xal0))) (by decide)) (xfr g57) (xlo (xsw1 (rv_cat _) xsw0) (by decide) g58) (xKv hq (fun h59 hq e61 => ?_) (fun _ _ q _ => q))
  replace hq := hq e61
  refine x_astore_n (lv' := [(3, rv a49), (2, rv a28), (0, rv x0), (1, .int x1)]) dX3_program_58 (by decide) (by first | rfl | (simp [rv_cat, Value.category]; done) | (simp [rv_cat, Value.category]; decide)) ?_
  refine x_aload_n 2 dX3_program_59 rfl ?_
  refine x_ldcS (n := 60) 68 srX3_105 dX3_program_60 ?_
  have t62 : tg h38 x0 = 4 := e40.tg t35 (by decide)
  have t63 : tg h44 x0 = 4 := e46.tg t62 (by decide)
  have t64 : tg h50 x0 = 4 := by rw [e52]; exact tg_nO_ne e51 f53 t63 (by decide)
  have t65 : tg h59 x0 = 4 := e61.tg t64 (by decide)
  obtain ⟨g66, g67, hq⟩ := hq
  refine x_callV (Yc := YX3_has) (as := [rv (tx G 60)]) (st := []) q1783 mvX3_has t65 rfl dX3_program_62 (xle (xal1 (rv_cat _) (xal1 (rv_cat _) xal0)) (by decide)) (xfr g66) (xlo xsw0 (by decide) g67) (xKi hq (fun x69 h68 hq e70 => ?_) (fun _ _ q _ => q))
  replace hq := hq e70
  refine x_if_eq (tgt := 80) dX3_program_65 (by decide) (fun c71 => ?_) (fun c71 => ?_)
  · replace hq := hq.1 c71
    refine xP.pick (lv' := [(0, rv x0), (2, rv a28), (3, rv a49)]) [2, 1, 0] rfl ?_
    exact uX3_program_80 hq
  · replace hq := hq.2 c71
    refine x_aload_n 2 dX3_program_68 rfl ?_
    refine x_aload_n 0 dX3_program_69 rfl ?_
    have t72 : tg h68 x0 = 4 := e70.tg t65 (by decide)
    obtain ⟨g73, g74, hq⟩ := hq
    refine x_callV (Yc := YX3_names) (as := [rv a49]) (st := []) q1787 mvX3_names t72 rfl dX3_program_70 (xle (xal1 (rv_cat _) (xal1 (rv_cat _) xal0)) (by decide)) (xfr g73) (xlo xsw0 (by decide) g74) (xKv hq (fun h75 hq e77 => ?_) (fun _ _ q _ => q))
    replace hq := hq e77
    refine x_aload_n 2 dX3_program_73 rfl ?_
    refine x_ldcS (n := 61) 70 srX3_111 dX3_program_74 ?_
    have t78 : tg h75 x0 = 4 := e77.tg t72 (by decide)
    obtain ⟨g79, g80, hq⟩ := hq
    refine x_callV (Yc := YX3_need) (as := [rv (tx G 61)]) (st := []) q1719 mvX3_need t78 rfl dX3_program_76 (xle (xal1 (rv_cat _) (xal1 (rv_cat _) xal0)) (by decide)) (xfr g79) (xlo xsw0 (by decide) g80) (xKr hq (fun x82 h81 hq e83 => ?_) (fun _ _ q _ => q))
    replace hq := hq e83
    refine x_pop dX3_program_79 (rv_cat _) ?_
    refine xP.pick (lv' := [(0, rv x0), (2, rv a28), (3, rv a49)]) [2, 1, 0] rfl ?_
    exact uX3_program_80 hq
theorem rX3_program {G : xG} {fr lo : Nat} {x0 : Nat} {x1 : Int32} {h : xH} {Q : Outcome → xH → Prop} (hq : bX3_program G fr lo x0 x1 h Q) : xR G YX3_program fr lo [rv x0, .int x1] h Q := by
  show xP _ _ _ _ _ (lv_args 0 _) _ _ _
  rw [show lv_args 0 [rv x0, .int x1] = [(0, rv x0), (1, .int x1)] from (xla1 (rv_cat _) (xla1 rfl xla0))]
  exact uX3_program hq
set_option maxRecDepth 100000 in
theorem dX3_step_0 : decode cX3_step 0 = .ok (.aload_n 0, 1) := by decide +kernel
set_option maxRecDepth 100000 in
theorem dX3_step_1 : decode cX3_step 1 = .ok (.aload_n 0, 1) := by decide +kernel
set_option maxRecDepth 100000 in
theorem dX3_step_2 : decode cX3_step 2 = .ok (.getfield 9, 3) := by decide +kernel
set_option maxRecDepth 100000 in
theorem dX3_step_5 : decode cX3_step 5 = .ok (.invokevirtual 19, 3) := by decide +kernel
set_option maxRecDepth 100000 in
theorem dX3_step_8 : decode cX3_step 8 = .ok (.putfield 25, 3) := by decide +kernel
set_option maxRecDepth 100000 in
theorem dX3_step_11 : decode cX3_step 11 = .ok (.aload_n 0, 1) := by decide +kernel
set_option maxRecDepth 100000 in
theorem dX3_step_12 : decode cX3_step 12 = .ok (.dup, 1) := by decide +kernel
set_option maxRecDepth 100000 in
theorem dX3_step_13 : decode cX3_step 13 = .ok (.getfield 29, 3) := by decide +kernel
set_option maxRecDepth 100000 in
theorem dX3_step_16 : decode cX3_step 16 = .ok (.iconst 1, 1) := by decide +kernel
set_option maxRecDepth 100000 in
theorem dX3_step_17 : decode cX3_step 17 = .ok (.iadd, 1) := by decide +kernel
set_option maxRecDepth 100000 in
theorem dX3_step_18 : decode cX3_step 18 = .ok (.putfield 29, 3) := by decide +kernel
set_option maxRecDepth 100000 in
theorem dX3_step_21 : decode cX3_step 21 = .ok (.return_, 1) := by decide +kernel
set_option maxRecDepth 100000 in
def bX3_step (G : xG) (fr lo : Nat) (x0 : Nat) (h : xH) (Q : Outcome → xH → Prop) : Prop := tg h x0 = 4 ∧ tg h (fR h x0 768) = 5 ∧ 1 ≤ fr ∧ 14 ≤ lo ∧ xRr G YX4_next (fr - 1) (lo - 14) [rv (fR h x0 768)] h (fun x6 h5 => xext h h5 → (∀ h9 : xH, h9 = sR h5 x0 770 x6 → (∀ h12 : xH, h12 = sI h9 x0 771 ((fI h9 x0 771) + 1) → Q (.returned none) h12))) (fun r h2 => Q (.threw r) h2)
set_option maxRecDepth 100000 in
theorem uX3_step {G : xG} {fr lo : Nat} {x0 : Nat} {h : xH} {Q : Outcome → xH → Prop} (hq : bX3_step G fr lo x0 h Q) : xP G YX3_step fr lo 0 [(0, rv x0)] [] h Q := by
  unfold bX3_step at hq
  refine x_aload_n 0 dX3_step_0 rfl ?_
  refine x_aload_n 0 dX3_step_1 rfl ?_
  obtain ⟨g1, hq⟩ := hq
  refine x_get (v := rv (fR h x0 768)) fdX3_9 dX3_step_2 g1 rfl ?_
  obtain ⟨g2, hq⟩ := hq
  obtain ⟨g3, g4, hq⟩ := hq
  refine x_callV (Yc := YX4_next) (as := []) (st := [rv x0]) q1572 mvX4_next g2 rfl dX3_step_5 (xle (xal1 (rv_cat _) xal0) (by decide)) (xfr g3) (xlo (xsw1 (rv_cat _) xsw0) (by decide) g4) (xKr hq (fun x6 h5 hq e7 => ?_) (fun _ _ q _ => q))
  replace hq := hq e7
  have t8 : tg h5 x0 = 4 := e7.tg g1 (by decide)
  obtain ⟨h9, e10⟩ : ∃ y, y = sR h5 x0 770 x6 := ⟨_, rfl⟩
  replace hq := hq h9 e10
  refine x_putR fdX3_25 xty_O dX3_step_8 t8 (Or.inl (by rw [t8]; rfl)) rfl e10 ?_
  refine x_aload_n 0 dX3_step_11 rfl ?_
  refine x_dup dX3_step_12 (rv_cat _) ?_
  have t11 : tg h9 x0 = 4 := by rw [e10]; exact t8
  refine x_get (v := .int (fI h9 x0 771)) fdX3_29 dX3_step_13 t11 rfl ?_
  refine x_iconst (v := 1) dX3_step_16 (by decide) ?_
  refine x_iadd dX3_step_17 ?_
  obtain ⟨h12, e13⟩ : ∃ y, y = sI h9 x0 771 ((fI h9 x0 771) + 1) := ⟨_, rfl⟩
  replace hq := hq h12 e13
  refine x_putI fdX3_29 xty_I1 dX3_step_18 t11 (Or.inl (by rw [t11]; rfl)) xnI rfl e13 ?_
  exact x_vret rfl dX3_step_21 hq
theorem rX3_step {G : xG} {fr lo : Nat} {x0 : Nat} {h : xH} {Q : Outcome → xH → Prop} (hq : bX3_step G fr lo x0 h Q) : xR G YX3_step fr lo [rv x0] h Q := by
  show xP _ _ _ _ _ (lv_args 0 _) _ _ _
  rw [show lv_args 0 [rv x0] = [(0, rv x0)] from (xla1 (rv_cat _) xla0)]
  exact uX3_step hq
set_option maxRecDepth 100000 in
theorem dX3_need_0 : decode cX3_need 0 = .ok (.aload_n 0, 1) := by decide +kernel
set_option maxRecDepth 100000 in
theorem dX3_need_1 : decode cX3_need 1 = .ok (.aload_n 1, 1) := by decide +kernel
set_option maxRecDepth 100000 in
theorem dX3_need_2 : decode cX3_need 2 = .ok (.invokevirtual 60, 3) := by decide +kernel
set_option maxRecDepth 100000 in
theorem dX3_need_5 : decode cX3_need 5 = .ok (.ifCond .ne 8, 3) := by decide +kernel
set_option maxRecDepth 100000 in
theorem dX3_need_8 : decode cX3_need 8 = .ok (.aload_n 0, 1) := by decide +kernel
set_option maxRecDepth 100000 in
theorem dX3_need_9 : decode cX3_need 9 = .ok (.invokevirtual 61, 3) := by decide +kernel
set_option maxRecDepth 100000 in
theorem dX3_need_12 : decode cX3_need 12 = .ok (.athrow, 1) := by decide +kernel
set_option maxRecDepth 100000 in
theorem dX3_need_13 : decode cX3_need 13 = .ok (.aload_n 0, 1) := by decide +kernel
set_option maxRecDepth 100000 in
theorem dX3_need_14 : decode cX3_need 14 = .ok (.invokevirtual 65, 3) := by decide +kernel
set_option maxRecDepth 100000 in
theorem dX3_need_17 : decode cX3_need 17 = .ok (.areturn, 1) := by decide +kernel
set_option maxRecDepth 100000 in
def bX3_need (G : xG) (fr lo : Nat) (x0 : Nat) (x1 : Nat) (h : xH) (Q : Outcome → xH → Prop) : Prop := tg h x0 = 4 ∧ 1 ≤ fr ∧ 13 ≤ lo ∧ xRi G YX3_is (fr - 1) (lo - 13) [rv x0, rv x1] h (fun x5 h4 => xext h h4 → ((¬ x5 = 0 → 1 ≤ fr ∧ 13 ≤ lo ∧ xRr G YX3_take (fr - 1) (lo - 13) [rv x0] h4 (fun x12 h11 => xext h4 h11 → Q (.returned (some (rv x12))) h11) (fun r h2 => Q (.threw r) h2)) ∧ (x5 = 0 → 1 ≤ fr ∧ 12 ≤ lo ∧ xRr G YX3_wrong (fr - 1) (lo - 12) [rv x0] h4 (fun x18 h17 => xext h4 h17 → (∃ r20, x18 = r20 + 1 ∧ Q (.threw r20) h17)) (fun r h2 => Q (.threw r) h2)))) (fun r h2 => Q (.threw r) h2)
set_option maxRecDepth 100000 in
theorem uX3_need {G : xG} {fr lo : Nat} {x0 : Nat} {x1 : Nat} {h : xH} {Q : Outcome → xH → Prop} (hq : bX3_need G fr lo x0 x1 h Q) : xP G YX3_need fr lo 0 [(0, rv x0), (1, rv x1)] [] h Q := by
  unfold bX3_need at hq
  refine x_aload_n 0 dX3_need_0 rfl ?_
  refine x_aload_n 1 dX3_need_1 rfl ?_
  obtain ⟨g1, hq⟩ := hq
  obtain ⟨g2, g3, hq⟩ := hq
  refine x_callV (Yc := YX3_is) (as := [rv x1]) (st := []) q1723 mvX3_is g1 rfl dX3_need_2 (xle (xal1 (rv_cat _) (xal1 (rv_cat _) xal0)) (by decide)) (xfr g2) (xlo xsw0 (by decide) g3) (xKi hq (fun x5 h4 hq e6 => ?_) (fun _ _ q _ => q))
  replace hq := hq e6
  refine x_if_ne (tgt := 13) dX3_need_5 (by decide) (fun c7 => ?_) (fun c7 => ?_)
  · replace hq := hq.1 c7
    refine x_aload_n 0 dX3_need_13 rfl ?_
    have t8 : tg h4 x0 = 4 := e6.tg g1 (by decide)
    obtain ⟨g9, g10, hq⟩ := hq
    refine x_callV (Yc := YX3_take) (as := []) (st := []) q1738 mvX3_take t8 rfl dX3_need_14 (xle (xal1 (rv_cat _) xal0) (by decide)) (xfr g9) (xlo xsw0 (by decide) g10) (xKr hq (fun x12 h11 hq e13 => ?_) (fun _ _ q _ => q))
    replace hq := hq e13
    exact x_aret rfl xty_O dX3_need_17 hq
  · replace hq := hq.2 c7
    refine x_aload_n 0 dX3_need_8 rfl ?_
    have t14 : tg h4 x0 = 4 := e6.tg g1 (by decide)
    obtain ⟨g15, g16, hq⟩ := hq
    refine x_callV (Yc := YX3_wrong) (as := []) (st := []) q1733 mvX3_wrong t14 rfl dX3_need_9 (xle (xal1 (rv_cat _) xal0) (by decide)) (xfr g15) (xlo xsw0 (by decide) g16) (xKr hq (fun x18 h17 hq e19 => ?_) (fun _ _ q _ => q))
    replace hq := hq e19
    obtain ⟨r20, g21, hq⟩ := hq
    rw [g21]
    exact x_athrow dX3_need_12 hq
theorem rX3_need {G : xG} {fr lo : Nat} {x0 : Nat} {x1 : Nat} {h : xH} {Q : Outcome → xH → Prop} (hq : bX3_need G fr lo x0 x1 h Q) : xR G YX3_need fr lo [rv x0, rv x1] h Q := by
  show xP _ _ _ _ _ (lv_args 0 _) _ _ _
  rw [show lv_args 0 [rv x0, rv x1] = [(0, rv x0), (1, rv x1)] from (xla1 (rv_cat _) (xla1 (rv_cat _) xla0))]
  exact uX3_need hq
set_option maxRecDepth 100000 in
theorem dX3_is_0 : decode cX3_is 0 = .ok (.aload_n 0, 1) := by decide +kernel
set_option maxRecDepth 100000 in
theorem dX3_is_1 : decode cX3_is 1 = .ok (.getfield 25, 3) := by decide +kernel
set_option maxRecDepth 100000 in
theorem dX3_is_4 : decode cX3_is 4 = .ok (.aload_n 1, 1) := by decide +kernel
set_option maxRecDepth 100000 in
theorem dX3_is_5 : decode cX3_is 5 = .ok (.invokevirtual 33, 3) := by decide +kernel
set_option maxRecDepth 100000 in
theorem dX3_is_8 : decode cX3_is 8 = .ok (.ireturn, 1) := by decide +kernel
set_option maxRecDepth 100000 in
def bX3_is (G : xG) (fr lo : Nat) (x0 : Nat) (x1 : Nat) (h : xH) (Q : Outcome → xH → Prop) : Prop := tg h x0 = 4 ∧ tg h (fR h x0 770) = 15 ∧ 1 ≤ fr ∧ 13 ≤ lo ∧ xRi G YX14_is (fr - 1) (lo - 13) [rv (fR h x0 770), rv x1] h (fun x6 h5 => xext h h5 → xbz x6 ∧ Q (.returned (some (.int x6))) h5) (fun r h2 => Q (.threw r) h2)
set_option maxRecDepth 100000 in
theorem uX3_is {G : xG} {fr lo : Nat} {x0 : Nat} {x1 : Nat} {h : xH} {Q : Outcome → xH → Prop} (hq : bX3_is G fr lo x0 x1 h Q) : xP G YX3_is fr lo 0 [(0, rv x0), (1, rv x1)] [] h Q := by
  unfold bX3_is at hq
  refine x_aload_n 0 dX3_is_0 rfl ?_
  obtain ⟨g1, hq⟩ := hq
  refine x_get (v := rv (fR h x0 770)) fdX3_25 dX3_is_1 g1 rfl ?_
  refine x_aload_n 1 dX3_is_4 rfl ?_
  obtain ⟨g2, hq⟩ := hq
  obtain ⟨g3, g4, hq⟩ := hq
  refine x_callV (Yc := YX14_is) (as := [rv x1]) (st := []) q1727 mvX14_is g2 rfl dX3_is_5 (xle (xal1 (rv_cat _) (xal1 (rv_cat _) xal0)) (by decide)) (xfr g3) (xlo xsw0 (by decide) g4) (xKi hq (fun x6 h5 hq e7 => ?_) (fun _ _ q _ => q))
  replace hq := hq e7
  obtain ⟨g8, hq⟩ := hq
  exact x_iret rfl (xnZ g8) dX3_is_8 hq
theorem rX3_is {G : xG} {fr lo : Nat} {x0 : Nat} {x1 : Nat} {h : xH} {Q : Outcome → xH → Prop} (hq : bX3_is G fr lo x0 x1 h Q) : xR G YX3_is fr lo [rv x0, rv x1] h Q := by
  show xP _ _ _ _ _ (lv_args 0 _) _ _ _
  rw [show lv_args 0 [rv x0, rv x1] = [(0, rv x0), (1, rv x1)] from (xla1 (rv_cat _) (xla1 (rv_cat _) xla0))]
  exact uX3_is hq
set_option maxRecDepth 100000 in
theorem dX3_wrong_0 : decode cX3_wrong 0 = .ok (.aload_n 0, 1) := by decide +kernel
set_option maxRecDepth 100000 in
theorem dX3_wrong_1 : decode cX3_wrong 1 = .ok (.getfield 15, 3) := by decide +kernel
set_option maxRecDepth 100000 in
theorem dX3_wrong_4 : decode cX3_wrong 4 = .ok (.iconst 2, 1) := by decide +kernel
set_option maxRecDepth 100000 in
theorem dX3_wrong_5 : decode cX3_wrong 5 = .ok (.aload_n 0, 1) := by decide +kernel
set_option maxRecDepth 100000 in
theorem dX3_wrong_6 : decode cX3_wrong 6 = .ok (.getfield 25, 3) := by decide +kernel
set_option maxRecDepth 100000 in
theorem dX3_wrong_9 : decode cX3_wrong 9 = .ok (.getfield 48, 3) := by decide +kernel
set_option maxRecDepth 100000 in
theorem dX3_wrong_12 : decode cX3_wrong 12 = .ok (.invokevirtual 51, 3) := by decide +kernel
set_option maxRecDepth 100000 in
theorem dX3_wrong_15 : decode cX3_wrong 15 = .ok (.areturn, 1) := by decide +kernel
set_option maxRecDepth 100000 in
def bX3_wrong (G : xG) (fr lo : Nat) (x0 : Nat) (h : xH) (Q : Outcome → xH → Prop) : Prop := tg h x0 = 4 ∧ tg h (fR h x0 770) = 15 ∧ tg h (fR h x0 769) = 2 ∧ 1 ≤ fr ∧ 14 ≤ lo ∧ xRr G YX1_at (fr - 1) (lo - 14) [rv (fR h x0 769), .int 2, .int (fI h (fR h x0 770) 3586)] h (fun x7 h6 => xext h h6 → Q (.returned (some (rv x7))) h6) (fun r h2 => Q (.threw r) h2)
set_option maxRecDepth 100000 in
theorem uX3_wrong {G : xG} {fr lo : Nat} {x0 : Nat} {h : xH} {Q : Outcome → xH → Prop} (hq : bX3_wrong G fr lo x0 h Q) : xP G YX3_wrong fr lo 0 [(0, rv x0)] [] h Q := by
  unfold bX3_wrong at hq
  refine x_aload_n 0 dX3_wrong_0 rfl ?_
  obtain ⟨g1, hq⟩ := hq
  refine x_get (v := rv (fR h x0 769)) fdX3_15 dX3_wrong_1 g1 rfl ?_
  refine x_iconst (v := 2) dX3_wrong_4 (by decide) ?_
  refine x_aload_n 0 dX3_wrong_5 rfl ?_
  refine x_get (v := rv (fR h x0 770)) fdX3_25 dX3_wrong_6 g1 rfl ?_
  obtain ⟨g2, hq⟩ := hq
  refine x_getN (v := .int (fI h (fR h x0 770) 3586)) gfX3_48 dX3_wrong_9 g2 rfl ?_
  obtain ⟨g3, hq⟩ := hq
  obtain ⟨g4, g5, hq⟩ := hq
  refine x_callV (Yc := YX1_at) (as := [.int 2, .int (fI h (fR h x0 770) 3586)]) (st := []) q1737 mvX1_at g3 rfl dX3_wrong_12 (xle (xal1 (rv_cat _) (xal1 rfl (xal1 rfl xal0))) (by decide)) (xfr g4) (xlo xsw0 (by decide) g5) (xKr hq (fun x7 h6 hq e8 => ?_) (fun _ _ q _ => q))
  replace hq := hq e8
  exact x_aret rfl xty_O dX3_wrong_15 hq
theorem rX3_wrong {G : xG} {fr lo : Nat} {x0 : Nat} {h : xH} {Q : Outcome → xH → Prop} (hq : bX3_wrong G fr lo x0 h Q) : xR G YX3_wrong fr lo [rv x0] h Q := by
  show xP _ _ _ _ _ (lv_args 0 _) _ _ _
  rw [show lv_args 0 [rv x0] = [(0, rv x0)] from (xla1 (rv_cat _) xla0)]
  exact uX3_wrong hq
set_option maxRecDepth 100000 in
theorem dX3_take_0 : decode cX3_take 0 = .ok (.aload_n 0, 1) := by decide +kernel
set_option maxRecDepth 100000 in
theorem dX3_take_1 : decode cX3_take 1 = .ok (.getfield 25, 3) := by decide +kernel
set_option maxRecDepth 100000 in
theorem dX3_take_4 : decode cX3_take 4 = .ok (.astore_n 1, 1) := by decide +kernel
set_option maxRecDepth 100000 in
theorem dX3_take_5 : decode cX3_take 5 = .ok (.aload_n 0, 1) := by decide +kernel
set_option maxRecDepth 100000 in
theorem dX3_take_6 : decode cX3_take 6 = .ok (.invokevirtual 57, 3) := by decide +kernel
set_option maxRecDepth 100000 in
theorem dX3_take_9 : decode cX3_take 9 = .ok (.aload_n 1, 1) := by decide +kernel
set_option maxRecDepth 100000 in
theorem dX3_take_10 : decode cX3_take 10 = .ok (.areturn, 1) := by decide +kernel
set_option maxRecDepth 100000 in
def bX3_take (G : xG) (fr lo : Nat) (x0 : Nat) (h : xH) (Q : Outcome → xH → Prop) : Prop := tg h x0 = 4 ∧ 1 ≤ fr ∧ 12 ≤ lo ∧ xRv G YX3_step (fr - 1) (lo - 12) [rv x0] h (fun h4 => xext h h4 → Q (.returned (some (rv (fR h x0 770)))) h4) (fun r h2 => Q (.threw r) h2)
set_option maxRecDepth 100000 in
theorem uX3_take {G : xG} {fr lo : Nat} {x0 : Nat} {h : xH} {Q : Outcome → xH → Prop} (hq : bX3_take G fr lo x0 h Q) : xP G YX3_take fr lo 0 [(0, rv x0)] [] h Q := by
  unfold bX3_take at hq
  refine x_aload_n 0 dX3_take_0 rfl ?_
  obtain ⟨g1, hq⟩ := hq
  refine x_get (v := rv (fR h x0 770)) fdX3_25 dX3_take_1 g1 rfl ?_
  refine x_astore_n (lv' := [(1, rv (fR h x0 770)), (0, rv x0)]) dX3_take_4 (by decide) (by first | rfl | (simp [rv_cat, Value.category]; done) | (simp [rv_cat, Value.category]; decide)) ?_
  refine x_aload_n 1 dX3_take_5 rfl ?_
  obtain ⟨g2, g3, hq⟩ := hq
  refine x_callV (Yc := YX3_step) (as := []) (st := []) q1568 mvX3_step g1 rfl dX3_take_6 (xle (xal1 (rv_cat _) xal0) (by decide)) (xfr g2) (xlo xsw0 (by decide) g3) (xKv hq (fun h4 hq e6 => ?_) (fun _ _ q _ => q))
  replace hq := hq e6
  refine x_aload_n 0 dX3_take_9 rfl ?_
  exact x_aret rfl xty_O dX3_take_10 hq
theorem rX3_take {G : xG} {fr lo : Nat} {x0 : Nat} {h : xH} {Q : Outcome → xH → Prop} (hq : bX3_take G fr lo x0 h Q) : xR G YX3_take fr lo [rv x0] h Q := by
  show xP _ _ _ _ _ (lv_args 0 _) _ _ _
  rw [show lv_args 0 [rv x0] = [(0, rv x0)] from (xla1 (rv_cat _) xla0)]
  exact uX3_take hq
set_option maxRecDepth 100000 in
theorem dX3_needSort_0 : decode cX3_needSort 0 = .ok (.aload_n 0, 1) := by decide +kernel
set_option maxRecDepth 100000 in
theorem dX3_needSort_1 : decode cX3_needSort 1 = .ok (.getfield 25, 3) := by decide +kernel
set_option maxRecDepth 100000 in
theorem dX3_needSort_4 : decode cX3_needSort 4 = .ok (.getfield 39, 3) := by decide +kernel
set_option maxRecDepth 100000 in
theorem dX3_needSort_7 : decode cX3_needSort 7 = .ok (.aload_n 1, 1) := by decide +kernel
set_option maxRecDepth 100000 in
theorem dX3_needSort_8 : decode cX3_needSort 8 = .ok (.if_acmp .eq 8, 3) := by decide +kernel
set_option maxRecDepth 100000 in
theorem dX3_needSort_11 : decode cX3_needSort 11 = .ok (.aload_n 0, 1) := by decide +kernel
set_option maxRecDepth 100000 in
theorem dX3_needSort_12 : decode cX3_needSort 12 = .ok (.invokevirtual 61, 3) := by decide +kernel
set_option maxRecDepth 100000 in
theorem dX3_needSort_15 : decode cX3_needSort 15 = .ok (.athrow, 1) := by decide +kernel
set_option maxRecDepth 100000 in
theorem dX3_needSort_16 : decode cX3_needSort 16 = .ok (.aload_n 0, 1) := by decide +kernel
set_option maxRecDepth 100000 in
theorem dX3_needSort_17 : decode cX3_needSort 17 = .ok (.invokevirtual 65, 3) := by decide +kernel
set_option maxRecDepth 100000 in
theorem dX3_needSort_20 : decode cX3_needSort 20 = .ok (.areturn, 1) := by decide +kernel
set_option maxRecDepth 100000 in
def bX3_needSort (G : xG) (fr lo : Nat) (x0 : Nat) (x1 : Nat) (h : xH) (Q : Outcome → xH → Prop) : Prop := tg h x0 = 4 ∧ tg h (fR h x0 770) = 15 ∧ (((fR h (fR h x0 770) 3584) = x1 → 1 ≤ fr ∧ 13 ≤ lo ∧ xRr G YX3_take (fr - 1) (lo - 13) [rv x0] h (fun x7 h6 => xext h h6 → Q (.returned (some (rv x7))) h6) (fun r h2 => Q (.threw r) h2)) ∧ (¬ (fR h (fR h x0 770) 3584) = x1 → 1 ≤ fr ∧ 12 ≤ lo ∧ xRr G YX3_wrong (fr - 1) (lo - 12) [rv x0] h (fun x12 h11 => xext h h11 → (∃ r14, x12 = r14 + 1 ∧ Q (.threw r14) h11)) (fun r h2 => Q (.threw r) h2)))
set_option maxRecDepth 100000 in
theorem uX3_needSort {G : xG} {fr lo : Nat} {x0 : Nat} {x1 : Nat} {h : xH} {Q : Outcome → xH → Prop} (hq : bX3_needSort G fr lo x0 x1 h Q) : xP G YX3_needSort fr lo 0 [(0, rv x0), (1, rv x1)] [] h Q := by
  unfold bX3_needSort at hq
  refine x_aload_n 0 dX3_needSort_0 rfl ?_
  obtain ⟨g1, hq⟩ := hq
  refine x_get (v := rv (fR h x0 770)) fdX3_25 dX3_needSort_1 g1 rfl ?_
  obtain ⟨g2, hq⟩ := hq
  refine x_getN (v := rv (fR h (fR h x0 770) 3584)) gfX3_39 dX3_needSort_4 g2 rfl ?_
  refine x_aload_n 1 dX3_needSort_7 rfl ?_
  refine x_acmp_eq (tgt := 16) dX3_needSort_8 (by decide) (fun c3 => ?_) (fun c3 => ?_)
  · replace hq := hq.1 c3
    refine x_aload_n 0 dX3_needSort_16 rfl ?_
    obtain ⟨g4, g5, hq⟩ := hq
    refine x_callV (Yc := YX3_take) (as := []) (st := []) q1738 mvX3_take g1 rfl dX3_needSort_17 (xle (xal1 (rv_cat _) xal0) (by decide)) (xfr g4) (xlo xsw0 (by decide) g5) (xKr hq (fun x7 h6 hq e8 => ?_) (fun _ _ q _ => q))
    replace hq := hq e8
    exact x_aret rfl xty_O dX3_needSort_20 hq
  · replace hq := hq.2 c3
    refine x_aload_n 0 dX3_needSort_11 rfl ?_
    obtain ⟨g9, g10, hq⟩ := hq
    refine x_callV (Yc := YX3_wrong) (as := []) (st := []) q1733 mvX3_wrong g1 rfl dX3_needSort_12 (xle (xal1 (rv_cat _) xal0) (by decide)) (xfr g9) (xlo xsw0 (by decide) g10) (xKr hq (fun x12 h11 hq e13 => ?_) (fun _ _ q _ => q))
    replace hq := hq e13
    obtain ⟨r14, g15, hq⟩ := hq
    rw [g15]
    exact x_athrow dX3_needSort_15 hq
theorem rX3_needSort {G : xG} {fr lo : Nat} {x0 : Nat} {x1 : Nat} {h : xH} {Q : Outcome → xH → Prop} (hq : bX3_needSort G fr lo x0 x1 h Q) : xR G YX3_needSort fr lo [rv x0, rv x1] h Q := by
  show xP _ _ _ _ _ (lv_args 0 _) _ _ _
  rw [show lv_args 0 [rv x0, rv x1] = [(0, rv x0), (1, rv x1)] from (xla1 (rv_cat _) (xla1 (rv_cat _) xla0))]
  exact uX3_needSort hq
set_option maxRecDepth 100000 in
theorem dX3_has_0 : decode cX3_has 0 = .ok (.aload_n 0, 1) := by decide +kernel
set_option maxRecDepth 100000 in
theorem dX3_has_1 : decode cX3_has 1 = .ok (.aload_n 1, 1) := by decide +kernel
set_option maxRecDepth 100000 in
theorem dX3_has_2 : decode cX3_has 2 = .ok (.invokevirtual 60, 3) := by decide +kernel
set_option maxRecDepth 100000 in
theorem dX3_has_5 : decode cX3_has 5 = .ok (.ifCond .ne 5, 3) := by decide +kernel
set_option maxRecDepth 100000 in
theorem dX3_has_8 : decode cX3_has 8 = .ok (.iconst 0, 1) := by decide +kernel
set_option maxRecDepth 100000 in
theorem dX3_has_9 : decode cX3_has 9 = .ok (.ireturn, 1) := by decide +kernel
set_option maxRecDepth 100000 in
theorem dX3_has_10 : decode cX3_has 10 = .ok (.aload_n 0, 1) := by decide +kernel
set_option maxRecDepth 100000 in
theorem dX3_has_11 : decode cX3_has 11 = .ok (.invokevirtual 57, 3) := by decide +kernel
set_option maxRecDepth 100000 in
theorem dX3_has_14 : decode cX3_has 14 = .ok (.iconst 1, 1) := by decide +kernel
set_option maxRecDepth 100000 in
theorem dX3_has_15 : decode cX3_has 15 = .ok (.ireturn, 1) := by decide +kernel
set_option maxRecDepth 100000 in
def bX3_has (G : xG) (fr lo : Nat) (x0 : Nat) (x1 : Nat) (h : xH) (Q : Outcome → xH → Prop) : Prop := tg h x0 = 4 ∧ 1 ≤ fr ∧ 13 ≤ lo ∧ xRi G YX3_is (fr - 1) (lo - 13) [rv x0, rv x1] h (fun x5 h4 => xext h h4 → ((¬ x5 = 0 → 1 ≤ fr ∧ 12 ≤ lo ∧ xRv G YX3_step (fr - 1) (lo - 12) [rv x0] h4 (fun h11 => xext h4 h11 → Q (.returned (some (.int 1))) h11) (fun r h2 => Q (.threw r) h2)) ∧ (x5 = 0 → Q (.returned (some (.int 0))) h4))) (fun r h2 => Q (.threw r) h2)
set_option maxRecDepth 100000 in
theorem uX3_has {G : xG} {fr lo : Nat} {x0 : Nat} {x1 : Nat} {h : xH} {Q : Outcome → xH → Prop} (hq : bX3_has G fr lo x0 x1 h Q) : xP G YX3_has fr lo 0 [(0, rv x0), (1, rv x1)] [] h Q := by
  unfold bX3_has at hq
  refine x_aload_n 0 dX3_has_0 rfl ?_
  refine x_aload_n 1 dX3_has_1 rfl ?_
  obtain ⟨g1, hq⟩ := hq
  obtain ⟨g2, g3, hq⟩ := hq
  refine x_callV (Yc := YX3_is) (as := [rv x1]) (st := []) q1723 mvX3_is g1 rfl dX3_has_2 (xle (xal1 (rv_cat _) (xal1 (rv_cat _) xal0)) (by decide)) (xfr g2) (xlo xsw0 (by decide) g3) (xKi hq (fun x5 h4 hq e6 => ?_) (fun _ _ q _ => q))
  replace hq := hq e6
  refine x_if_ne (tgt := 10) dX3_has_5 (by decide) (fun c7 => ?_) (fun c7 => ?_)
  · replace hq := hq.1 c7
    refine x_aload_n 0 dX3_has_10 rfl ?_
    have t8 : tg h4 x0 = 4 := e6.tg g1 (by decide)
    obtain ⟨g9, g10, hq⟩ := hq
    refine x_callV (Yc := YX3_step) (as := []) (st := []) q1568 mvX3_step t8 rfl dX3_has_11 (xle (xal1 (rv_cat _) xal0) (by decide)) (xfr g9) (xlo xsw0 (by decide) g10) (xKv hq (fun h11 hq e13 => ?_) (fun _ _ q _ => q))
    replace hq := hq e13
    refine x_iconst (v := 1) dX3_has_14 (by decide) ?_
    exact x_iret rfl rfl dX3_has_15 hq
  · replace hq := hq.2 c7
    refine x_iconst (v := 0) dX3_has_8 (by decide) ?_
    exact x_iret rfl rfl dX3_has_9 hq
theorem rX3_has {G : xG} {fr lo : Nat} {x0 : Nat} {x1 : Nat} {h : xH} {Q : Outcome → xH → Prop} (hq : bX3_has G fr lo x0 x1 h Q) : xR G YX3_has fr lo [rv x0, rv x1] h Q := by
  show xP _ _ _ _ _ (lv_args 0 _) _ _ _
  rw [show lv_args 0 [rv x0, rv x1] = [(0, rv x0), (1, rv x1)] from (xla1 (rv_cat _) (xla1 (rv_cat _) xla0))]
  exact uX3_has hq
set_option maxRecDepth 100000 in
theorem dX3_names_0 : decode cX3_names 0 = .ok (.aload_n 1, 1) := by decide +kernel
set_option maxRecDepth 100000 in
theorem dX3_names_1 : decode cX3_names 1 = .ok (.aload_n 0, 1) := by decide +kernel
set_option maxRecDepth 100000 in
theorem dX3_names_2 : decode cX3_names 2 = .ok (.invokevirtual 80, 3) := by decide +kernel
set_option maxRecDepth 100000 in
theorem dX3_names_5 : decode cX3_names 5 = .ok (.invokevirtual 84, 3) := by decide +kernel
set_option maxRecDepth 100000 in
theorem dX3_names_8 : decode cX3_names 8 = .ok (.pop, 1) := by decide +kernel
set_option maxRecDepth 100000 in
theorem dX3_names_9 : decode cX3_names 9 = .ok (.aload_n 0, 1) := by decide +kernel
set_option maxRecDepth 100000 in
theorem dX3_names_10 : decode cX3_names 10 = .ok (.ldc 88, 2) := by decide +kernel
set_option maxRecDepth 100000 in
theorem dX3_names_12 : decode cX3_names 12 = .ok (.invokevirtual 90, 3) := by decide +kernel
set_option maxRecDepth 100000 in
theorem dX3_names_15 : decode cX3_names 15 = .ok (.ifCond .eq 15, 3) := by decide +kernel
set_option maxRecDepth 100000 in
theorem dX3_names_18 : decode cX3_names 18 = .ok (.aload_n 1, 1) := by decide +kernel
set_option maxRecDepth 100000 in
theorem dX3_names_19 : decode cX3_names 19 = .ok (.aload_n 0, 1) := by decide +kernel
set_option maxRecDepth 100000 in
theorem dX3_names_20 : decode cX3_names 20 = .ok (.invokevirtual 80, 3) := by decide +kernel
set_option maxRecDepth 100000 in
theorem dX3_names_23 : decode cX3_names 23 = .ok (.invokevirtual 84, 3) := by decide +kernel
set_option maxRecDepth 100000 in
theorem dX3_names_26 : decode cX3_names 26 = .ok (.pop, 1) := by decide +kernel
set_option maxRecDepth 100000 in
theorem dX3_names_27 : decode cX3_names 27 = .ok (.goto (-18), 3) := by decide +kernel
set_option maxRecDepth 100000 in
theorem dX3_names_30 : decode cX3_names 30 = .ok (.return_, 1) := by decide +kernel
def lX3_names_9 (G : xG) (fr lo : Nat) (x0 : Nat) (x1 : Nat) (h : xH) (Q : Outcome → xH → Prop) : Prop := xP G YX3_names fr lo 9 [(0, rv x0), (1, rv x1)] [] h Q
set_option maxRecDepth 100000 in
def bX3_names_9 (G : xG) (fr lo : Nat) (x0 : Nat) (x1 : Nat) (h : xH) (Q : Outcome → xH → Prop) : Prop := tg h x0 = 4 ∧ 1 ≤ fr ∧ 13 ≤ lo ∧ xRi G YX3_has (fr - 1) (lo - 13) [rv x0, rv (tx G 63)] h (fun x5 h4 => xext h h4 → ((x5 = 0 → Q (.returned none) h4) ∧ (¬ x5 = 0 → 1 ≤ fr ∧ 13 ≤ lo ∧ xRr G YX3_name (fr - 1) (lo - 13) [rv x0] h4 (fun x12 h11 => xext h4 h11 → tg h11 x1 = 16 ∧ 1 ≤ fr ∧ 13 ≤ lo ∧ xRr G YX15_add (fr - 1) (lo - 13) [rv x1, rv x12] h11 (fun x18 h17 => xext h11 h17 → lX3_names_9 G fr lo x0 x1 h17 Q) (fun r h2 => Q (.threw r) h2)) (fun r h2 => Q (.threw r) h2)))) (fun r h2 => Q (.threw r) h2)
set_option maxRecDepth 100000 in
theorem uX3_names_9 {G : xG} {fr lo : Nat} {x0 : Nat} {x1 : Nat} {h : xH} {Q : Outcome → xH → Prop} (hq : bX3_names_9 G fr lo x0 x1 h Q) : xP G YX3_names fr lo 9 [(0, rv x0), (1, rv x1)] [] h Q := by
  unfold bX3_names_9 at hq
  refine x_aload_n 0 dX3_names_9 rfl ?_
  refine x_ldcS (n := 63) 69 srX3_88 dX3_names_10 ?_
  obtain ⟨g1, hq⟩ := hq
  obtain ⟨g2, g3, hq⟩ := hq
  refine x_callV (Yc := YX3_has) (as := [rv (tx G 63)]) (st := []) q1783 mvX3_has g1 rfl dX3_names_12 (xle (xal1 (rv_cat _) (xal1 (rv_cat _) xal0)) (by decide)) (xfr g2) (xlo xsw0 (by decide) g3) (xKi hq (fun x5 h4 hq e6 => ?_) (fun _ _ q _ => q))
  replace hq := hq e6
  refine x_if_eq (tgt := 30) dX3_names_15 (by decide) (fun c7 => ?_) (fun c7 => ?_)
  · replace hq := hq.1 c7
    exact x_vret rfl dX3_names_30 hq
  · replace hq := hq.2 c7
    refine x_aload_n 1 dX3_names_18 rfl ?_
    refine x_aload_n 0 dX3_names_19 rfl ?_
    have t8 : tg h4 x0 = 4 := e6.tg g1 (by decide)
    obtain ⟨g9, g10, hq⟩ := hq
    refine x_callV (Yc := YX3_name) (as := []) (st := [rv x1]) q1791 mvX3_name t8 rfl dX3_names_20 (xle (xal1 (rv_cat _) xal0) (by decide)) (xfr g9) (xlo (xsw1 (rv_cat _) xsw0) (by decide) g10) (xKr hq (fun x12 h11 hq e13 => ?_) (fun _ _ q _ => q))
    replace hq := hq e13
    obtain ⟨g14, hq⟩ := hq
    obtain ⟨g15, g16, hq⟩ := hq
    refine x_callV (Yc := YX15_add) (as := [rv x12]) (st := []) q1795 mvX15_add g14 rfl dX3_names_23 (xle (xal1 (rv_cat _) (xal1 (rv_cat _) xal0)) (by decide)) (xfr g15) (xlo xsw0 (by decide) g16) (xKr hq (fun x18 h17 hq e19 => ?_) (fun _ _ q _ => q))
    replace hq := hq e19
    refine x_pop dX3_names_26 (rv_cat _) ?_
    refine x_goto (tgt := 9) dX3_names_27 (by decide) ?_
    exact hq
set_option maxRecDepth 100000 in
def bX3_names (G : xG) (fr lo : Nat) (x0 : Nat) (x1 : Nat) (h : xH) (Q : Outcome → xH → Prop) : Prop := tg h x0 = 4 ∧ 1 ≤ fr ∧ 13 ≤ lo ∧ xRr G YX3_name (fr - 1) (lo - 13) [rv x0] h (fun x5 h4 => xext h h4 → tg h4 x1 = 16 ∧ 1 ≤ fr ∧ 13 ≤ lo ∧ xRr G YX15_add (fr - 1) (lo - 13) [rv x1, rv x5] h4 (fun x11 h10 => xext h4 h10 → lX3_names_9 G fr lo x0 x1 h10 Q) (fun r h2 => Q (.threw r) h2)) (fun r h2 => Q (.threw r) h2)
set_option maxRecDepth 100000 in
theorem uX3_names {G : xG} {fr lo : Nat} {x0 : Nat} {x1 : Nat} {h : xH} {Q : Outcome → xH → Prop} (hq : bX3_names G fr lo x0 x1 h Q) : xP G YX3_names fr lo 0 [(0, rv x0), (1, rv x1)] [] h Q := by
  unfold bX3_names at hq
  refine x_aload_n 1 dX3_names_0 rfl ?_
  refine x_aload_n 0 dX3_names_1 rfl ?_
  obtain ⟨g1, hq⟩ := hq
  obtain ⟨g2, g3, hq⟩ := hq
  refine x_callV (Yc := YX3_name) (as := []) (st := [rv x1]) q1791 mvX3_name g1 rfl dX3_names_2 (xle (xal1 (rv_cat _) xal0) (by decide)) (xfr g2) (xlo (xsw1 (rv_cat _) xsw0) (by decide) g3) (xKr hq (fun x5 h4 hq e6 => ?_) (fun _ _ q _ => q))
  replace hq := hq e6
  obtain ⟨g7, hq⟩ := hq
  obtain ⟨g8, g9, hq⟩ := hq
  refine x_callV (Yc := YX15_add) (as := [rv x5]) (st := []) q1795 mvX15_add g7 rfl dX3_names_5 (xle (xal1 (rv_cat _) (xal1 (rv_cat _) xal0)) (by decide)) (xfr g8) (xlo xsw0 (by decide) g9) (xKr hq (fun x11 h10 hq e12 => ?_) (fun _ _ q _ => q))
  replace hq := hq e12
  refine x_pop dX3_names_8 (rv_cat _) ?_
  exact hq
theorem rX3_names {G : xG} {fr lo : Nat} {x0 : Nat} {x1 : Nat} {h : xH} {Q : Outcome → xH → Prop} (hq : bX3_names G fr lo x0 x1 h Q) : xR G YX3_names fr lo [rv x0, rv x1] h Q := by
  show xP _ _ _ _ _ (lv_args 0 _) _ _ _
  rw [show lv_args 0 [rv x0, rv x1] = [(0, rv x0), (1, rv x1)] from (xla1 (rv_cat _) (xla1 (rv_cat _) xla0))]
  exact uX3_names hq
set_option maxRecDepth 100000 in
theorem dX3_name_0 : decode cX3_name 0 = .ok (.new 71, 3) := by decide +kernel
set_option maxRecDepth 100000 in
theorem dX3_name_3 : decode cX3_name 3 = .ok (.dup, 1) := by decide +kernel
set_option maxRecDepth 100000 in
theorem dX3_name_4 : decode cX3_name 4 = .ok (.iconst 1, 1) := by decide +kernel
set_option maxRecDepth 100000 in
theorem dX3_name_5 : decode cX3_name 5 = .ok (.aload_n 0, 1) := by decide +kernel
set_option maxRecDepth 100000 in
theorem dX3_name_6 : decode cX3_name 6 = .ok (.getstatic 43, 3) := by decide +kernel
set_option maxRecDepth 100000 in
theorem dX3_name_9 : decode cX3_name 9 = .ok (.invokevirtual 73, 3) := by decide +kernel
set_option maxRecDepth 100000 in
theorem dX3_name_12 : decode cX3_name 12 = .ok (.invokespecial 77, 3) := by decide +kernel
set_option maxRecDepth 100000 in
theorem dX3_name_15 : decode cX3_name 15 = .ok (.areturn, 1) := by decide +kernel
set_option maxRecDepth 100000 in
def bX3_name (G : xG) (fr lo : Nat) (x0 : Nat) (h : xH) (Q : Outcome → xH → Prop) : Prop := nx h + 1 ≤ xGN G ∧ us h + 6 ≤ xGU G ∧ (∀ (a3 : Nat) (h4 : xH), a3 = nx h + 1 → h4 = nO h 16 6 → xfresh h a3 → tg h4 x0 = 4 ∧ 1 ≤ fr ∧ 16 ≤ lo ∧ xRr G YX3_needSort (fr - 1) (lo - 16) [rv x0, rv (xGS G 1)] h4 (fun x13 h12 => xext h4 h12 → 1 ≤ fr ∧ 15 ≤ lo ∧ xRv G YX15_init (fr - 1) (lo - 15) [rv a3, .int 1, rv x13] h12 (fun h18 => xext h12 h18 → Q (.returned (some (rv a3))) h18) (fun r h2 => Q (.threw r) h2)) (fun r h2 => Q (.threw r) h2))
set_option maxRecDepth 100000 in
theorem uX3_name {G : xG} {fr lo : Nat} {x0 : Nat} {h : xH} {Q : Outcome → xH → Prop} (hq : bX3_name G fr lo x0 h Q) : xP G YX3_name fr lo 0 [(0, rv x0)] [] h Q := by
  unfold bX3_name at hq
  obtain ⟨g1, g2, hq⟩ := hq
  obtain ⟨a3, e5⟩ : ∃ y, y = nx h + 1 := ⟨_, rfl⟩
  obtain ⟨h4, e6⟩ : ∃ y, y = nO h 16 6 := ⟨_, rfl⟩
  refine x_new' cdX3_71 dX3_name_0 g1 g2 e5 e6 (fun f7 => ?_)
  replace hq := hq a3 h4 e5 e6 f7
  have t8 : tg h4 a3 = 16 := by rw [e6, e5]; exact tg_nO
  refine x_dup dX3_name_3 (rv_cat _) ?_
  refine x_iconst (v := 1) dX3_name_4 (by decide) ?_
  refine x_aload_n 0 dX3_name_5 rfl ?_
  refine x_gets (v := rv (xGS G 1)) 1 rfl q1744 (by simp [xsv]) dX3_name_6 ?_
  obtain ⟨g9, hq⟩ := hq
  obtain ⟨g10, g11, hq⟩ := hq
  refine x_callV (Yc := YX3_needSort) (as := [rv (xGS G 1)]) (st := [.int 1, rv a3, rv a3]) q1745 mvX3_needSort g9 rfl dX3_name_9 (xle (xal1 (rv_cat _) (xal1 (rv_cat _) xal0)) (by decide)) (xfr g10) (xlo (xsw1 rfl (xsw1 (rv_cat _) (xsw1 (rv_cat _) xsw0))) (by decide) g11) (xKr hq (fun x13 h12 hq e14 => ?_) (fun _ _ q _ => q))
  replace hq := hq e14
  have t15 : tg h12 a3 = 16 := e14.tg t8 (by decide)
  obtain ⟨g16, g17, hq⟩ := hq
  refine x_callI (Yc := YX15_init) (as := [.int 1, rv x13]) (st := [rv a3]) q1749 miX15_init (by rw [t15]; decide) rfl dX3_name_12 (xle (xal1 (rv_cat _) (xal1 rfl (xal1 (rv_cat _) xal0))) (by decide)) (xfr g16) (xlo (xsw1 (rv_cat _) xsw0) (by decide) g17) (xKv hq (fun h18 hq e20 => ?_) (fun _ _ q _ => q))
  replace hq := hq e20
  exact x_aret rfl xty_O dX3_name_15 hq
theorem rX3_name {G : xG} {fr lo : Nat} {x0 : Nat} {h : xH} {Q : Outcome → xH → Prop} (hq : bX3_name G fr lo x0 h Q) : xR G YX3_name fr lo [rv x0] h Q := by
  show xP _ _ _ _ _ (lv_args 0 _) _ _ _
  rw [show lv_args 0 [rv x0] = [(0, rv x0)] from (xla1 (rv_cat _) xla0)]
  exact uX3_name hq
set_option maxRecDepth 100000 in
theorem dX3_block_0 : decode cX3_block 0 = .ok (.aload_n 0, 1) := by decide +kernel
set_option maxRecDepth 100000 in
theorem dX3_block_1 : decode cX3_block 1 = .ok (.invokevirtual 123, 3) := by decide +kernel
set_option maxRecDepth 100000 in
theorem dX3_block_4 : decode cX3_block 4 = .ok (.new 71, 3) := by decide +kernel
set_option maxRecDepth 100000 in
theorem dX3_block_7 : decode cX3_block 7 = .ok (.dup, 1) := by decide +kernel
set_option maxRecDepth 100000 in
theorem dX3_block_8 : decode cX3_block 8 = .ok (.bipush 23, 2) := by decide +kernel
set_option maxRecDepth 100000 in
theorem dX3_block_10 : decode cX3_block 10 = .ok (.aload_n 0, 1) := by decide +kernel
set_option maxRecDepth 100000 in
theorem dX3_block_11 : decode cX3_block 11 = .ok (.getfield 25, 3) := by decide +kernel
set_option maxRecDepth 100000 in
theorem dX3_block_14 : decode cX3_block 14 = .ok (.invokespecial 77, 3) := by decide +kernel
set_option maxRecDepth 100000 in
theorem dX3_block_17 : decode cX3_block 17 = .ok (.astore_n 1, 1) := by decide +kernel
set_option maxRecDepth 100000 in
theorem dX3_block_18 : decode cX3_block 18 = .ok (.new 71, 3) := by decide +kernel
set_option maxRecDepth 100000 in
theorem dX3_block_21 : decode cX3_block 21 = .ok (.dup, 1) := by decide +kernel
set_option maxRecDepth 100000 in
theorem dX3_block_22 : decode cX3_block 22 = .ok (.iconst 0, 1) := by decide +kernel
set_option maxRecDepth 100000 in
theorem dX3_block_23 : decode cX3_block 23 = .ok (.aload_n 0, 1) := by decide +kernel
set_option maxRecDepth 100000 in
theorem dX3_block_24 : decode cX3_block 24 = .ok (.getfield 25, 3) := by decide +kernel
set_option maxRecDepth 100000 in
theorem dX3_block_27 : decode cX3_block 27 = .ok (.invokespecial 77, 3) := by decide +kernel
set_option maxRecDepth 100000 in
theorem dX3_block_30 : decode cX3_block 30 = .ok (.astore_n 2, 1) := by decide +kernel
set_option maxRecDepth 100000 in
theorem dX3_block_31 : decode cX3_block 31 = .ok (.aload_n 0, 1) := by decide +kernel
set_option maxRecDepth 100000 in
theorem dX3_block_32 : decode cX3_block 32 = .ok (.ldc 126, 2) := by decide +kernel
set_option maxRecDepth 100000 in
theorem dX3_block_34 : decode cX3_block 34 = .ok (.invokevirtual 90, 3) := by decide +kernel
set_option maxRecDepth 100000 in
theorem dX3_block_37 : decode cX3_block 37 = .ok (.ifCond .eq 40, 3) := by decide +kernel
set_option maxRecDepth 100000 in
theorem dX3_block_40 : decode cX3_block 40 = .ok (.aload_n 2, 1) := by decide +kernel
set_option maxRecDepth 100000 in
theorem dX3_block_41 : decode cX3_block 41 = .ok (.new 71, 3) := by decide +kernel
set_option maxRecDepth 100000 in
theorem dX3_block_44 : decode cX3_block 44 = .ok (.dup, 1) := by decide +kernel
set_option maxRecDepth 100000 in
theorem dX3_block_45 : decode cX3_block 45 = .ok (.bipush 26, 2) := by decide +kernel
set_option maxRecDepth 100000 in
theorem dX3_block_47 : decode cX3_block 47 = .ok (.aload_n 0, 1) := by decide +kernel
set_option maxRecDepth 100000 in
theorem dX3_block_48 : decode cX3_block 48 = .ok (.getstatic 128, 3) := by decide +kernel
set_option maxRecDepth 100000 in
theorem dX3_block_51 : decode cX3_block 51 = .ok (.invokevirtual 73, 3) := by decide +kernel
set_option maxRecDepth 100000 in
theorem dX3_block_54 : decode cX3_block 54 = .ok (.invokespecial 77, 3) := by decide +kernel
set_option maxRecDepth 100000 in
theorem dX3_block_57 : decode cX3_block 57 = .ok (.invokevirtual 84, 3) := by decide +kernel
set_option maxRecDepth 100000 in
theorem dX3_block_60 : decode cX3_block 60 = .ok (.pop, 1) := by decide +kernel
set_option maxRecDepth 100000 in
theorem dX3_block_61 : decode cX3_block 61 = .ok (.aload_n 0, 1) := by decide +kernel
set_option maxRecDepth 100000 in
theorem dX3_block_62 : decode cX3_block 62 = .ok (.ldc 88, 2) := by decide +kernel
set_option maxRecDepth 100000 in
theorem dX3_block_64 : decode cX3_block 64 = .ok (.invokevirtual 90, 3) := by decide +kernel
set_option maxRecDepth 100000 in
theorem dX3_block_67 : decode cX3_block 67 = .ok (.ifCond .ne (-27), 3) := by decide +kernel
set_option maxRecDepth 100000 in
theorem dX3_block_70 : decode cX3_block 70 = .ok (.aload_n 0, 1) := by decide +kernel
set_option maxRecDepth 100000 in
theorem dX3_block_71 : decode cX3_block 71 = .ok (.ldc 113, 2) := by decide +kernel
set_option maxRecDepth 100000 in
theorem dX3_block_73 : decode cX3_block 73 = .ok (.invokevirtual 99, 3) := by decide +kernel
set_option maxRecDepth 100000 in
theorem dX3_block_76 : decode cX3_block 76 = .ok (.pop, 1) := by decide +kernel
set_option maxRecDepth 100000 in
theorem dX3_block_77 : decode cX3_block 77 = .ok (.aload_n 1, 1) := by decide +kernel
set_option maxRecDepth 100000 in
theorem dX3_block_78 : decode cX3_block 78 = .ok (.aload_n 2, 1) := by decide +kernel
set_option maxRecDepth 100000 in
theorem dX3_block_79 : decode cX3_block 79 = .ok (.invokevirtual 84, 3) := by decide +kernel
set_option maxRecDepth 100000 in
theorem dX3_block_82 : decode cX3_block 82 = .ok (.aload_n 0, 1) := by decide +kernel
set_option maxRecDepth 100000 in
theorem dX3_block_83 : decode cX3_block 83 = .ok (.invokevirtual 131, 3) := by decide +kernel
set_option maxRecDepth 100000 in
theorem dX3_block_86 : decode cX3_block 86 = .ok (.invokevirtual 84, 3) := by decide +kernel
set_option maxRecDepth 100000 in
theorem dX3_block_89 : decode cX3_block 89 = .ok (.aload_n 0, 1) := by decide +kernel
set_option maxRecDepth 100000 in
theorem dX3_block_90 : decode cX3_block 90 = .ok (.invokevirtual 134, 3) := by decide +kernel
set_option maxRecDepth 100000 in
theorem dX3_block_93 : decode cX3_block 93 = .ok (.invokevirtual 84, 3) := by decide +kernel
set_option maxRecDepth 100000 in
theorem dX3_block_96 : decode cX3_block 96 = .ok (.aload_n 0, 1) := by decide +kernel
set_option maxRecDepth 100000 in
theorem dX3_block_97 : decode cX3_block 97 = .ok (.invokevirtual 137, 3) := by decide +kernel
set_option maxRecDepth 100000 in
theorem dX3_block_100 : decode cX3_block 100 = .ok (.invokevirtual 84, 3) := by decide +kernel
set_option maxRecDepth 100000 in
theorem dX3_block_103 : decode cX3_block 103 = .ok (.pop, 1) := by decide +kernel
set_option maxRecDepth 100000 in
theorem dX3_block_104 : decode cX3_block 104 = .ok (.new 71, 3) := by decide +kernel
set_option maxRecDepth 100000 in
theorem dX3_block_107 : decode cX3_block 107 = .ok (.dup, 1) := by decide +kernel
set_option maxRecDepth 100000 in
theorem dX3_block_108 : decode cX3_block 108 = .ok (.iconst 0, 1) := by decide +kernel
set_option maxRecDepth 100000 in
theorem dX3_block_109 : decode cX3_block 109 = .ok (.aload_n 0, 1) := by decide +kernel
set_option maxRecDepth 100000 in
theorem dX3_block_110 : decode cX3_block 110 = .ok (.getfield 25, 3) := by decide +kernel
set_option maxRecDepth 100000 in
theorem dX3_block_113 : decode cX3_block 113 = .ok (.invokespecial 77, 3) := by decide +kernel
set_option maxRecDepth 100000 in
theorem dX3_block_116 : decode cX3_block 116 = .ok (.astore_n 3, 1) := by decide +kernel
set_option maxRecDepth 100000 in
theorem dX3_block_117 : decode cX3_block 117 = .ok (.aload_n 0, 1) := by decide +kernel
set_option maxRecDepth 100000 in
theorem dX3_block_118 : decode cX3_block 118 = .ok (.ldc 140, 2) := by decide +kernel
set_option maxRecDepth 100000 in
theorem dX3_block_120 : decode cX3_block 120 = .ok (.invokevirtual 60, 3) := by decide +kernel
set_option maxRecDepth 100000 in
theorem dX3_block_123 : decode cX3_block 123 = .ok (.ifCond .ne 12, 3) := by decide +kernel
set_option maxRecDepth 100000 in
theorem dX3_block_126 : decode cX3_block 126 = .ok (.aload_n 0, 1) := by decide +kernel
set_option maxRecDepth 100000 in
theorem dX3_block_127 : decode cX3_block 127 = .ok (.ldc 142, 2) := by decide +kernel
set_option maxRecDepth 100000 in
theorem dX3_block_129 : decode cX3_block 129 = .ok (.invokevirtual 60, 3) := by decide +kernel
set_option maxRecDepth 100000 in
theorem dX3_block_132 : decode cX3_block 132 = .ok (.ifCond .eq 22, 3) := by decide +kernel
set_option maxRecDepth 100000 in
theorem dX3_block_135 : decode cX3_block 135 = .ok (.aload_n 3, 1) := by decide +kernel
set_option maxRecDepth 100000 in
theorem dX3_block_136 : decode cX3_block 136 = .ok (.aload_n 0, 1) := by decide +kernel
set_option maxRecDepth 100000 in
theorem dX3_block_137 : decode cX3_block 137 = .ok (.invokevirtual 144, 3) := by decide +kernel
set_option maxRecDepth 100000 in
theorem dX3_block_140 : decode cX3_block 140 = .ok (.invokevirtual 84, 3) := by decide +kernel
set_option maxRecDepth 100000 in
theorem dX3_block_143 : decode cX3_block 143 = .ok (.pop, 1) := by decide +kernel
set_option maxRecDepth 100000 in
theorem dX3_block_144 : decode cX3_block 144 = .ok (.aload_n 0, 1) := by decide +kernel
set_option maxRecDepth 100000 in
theorem dX3_block_145 : decode cX3_block 145 = .ok (.ldc 113, 2) := by decide +kernel
set_option maxRecDepth 100000 in
theorem dX3_block_147 : decode cX3_block 147 = .ok (.invokevirtual 99, 3) := by decide +kernel
set_option maxRecDepth 100000 in
theorem dX3_block_150 : decode cX3_block 150 = .ok (.pop, 1) := by decide +kernel
set_option maxRecDepth 100000 in
theorem dX3_block_151 : decode cX3_block 151 = .ok (.goto (-34), 3) := by decide +kernel
set_option maxRecDepth 100000 in
theorem dX3_block_154 : decode cX3_block 154 = .ok (.aload_n 1, 1) := by decide +kernel
set_option maxRecDepth 100000 in
theorem dX3_block_155 : decode cX3_block 155 = .ok (.aload_n 3, 1) := by decide +kernel
set_option maxRecDepth 100000 in
theorem dX3_block_156 : decode cX3_block 156 = .ok (.invokevirtual 84, 3) := by decide +kernel
set_option maxRecDepth 100000 in
theorem dX3_block_159 : decode cX3_block 159 = .ok (.aload_n 0, 1) := by decide +kernel
set_option maxRecDepth 100000 in
theorem dX3_block_160 : decode cX3_block 160 = .ok (.invokevirtual 147, 3) := by decide +kernel
set_option maxRecDepth 100000 in
theorem dX3_block_163 : decode cX3_block 163 = .ok (.invokevirtual 84, 3) := by decide +kernel
set_option maxRecDepth 100000 in
theorem dX3_block_166 : decode cX3_block 166 = .ok (.pop, 1) := by decide +kernel
set_option maxRecDepth 100000 in
theorem dX3_block_167 : decode cX3_block 167 = .ok (.aload_n 0, 1) := by decide +kernel
set_option maxRecDepth 100000 in
theorem dX3_block_168 : decode cX3_block 168 = .ok (.dup, 1) := by decide +kernel
set_option maxRecDepth 100000 in
theorem dX3_block_169 : decode cX3_block 169 = .ok (.getfield 68, 3) := by decide +kernel
set_option maxRecDepth 100000 in
theorem dX3_block_172 : decode cX3_block 172 = .ok (.iconst 1, 1) := by decide +kernel
set_option maxRecDepth 100000 in
theorem dX3_block_173 : decode cX3_block 173 = .ok (.isub, 1) := by decide +kernel
set_option maxRecDepth 100000 in
theorem dX3_block_174 : decode cX3_block 174 = .ok (.putfield 68, 3) := by decide +kernel
set_option maxRecDepth 100000 in
theorem dX3_block_177 : decode cX3_block 177 = .ok (.aload_n 1, 1) := by decide +kernel
set_option maxRecDepth 100000 in
theorem dX3_block_178 : decode cX3_block 178 = .ok (.areturn, 1) := by decide +kernel
def lX3_block_40 (G : xG) (fr lo : Nat) (x0 : Nat) (x1 : Nat) (x2 : Nat) (h : xH) (Q : Outcome → xH → Prop) : Prop := xP G YX3_block fr lo 40 [(0, rv x0), (1, rv x1), (2, rv x2)] [] h Q
def lX3_block_117 (G : xG) (fr lo : Nat) (x0 : Nat) (x1 : Nat) (x3 : Nat) (h : xH) (Q : Outcome → xH → Prop) : Prop := xP G YX3_block fr lo 117 [(0, rv x0), (1, rv x1), (3, rv x3)] [] h Q
set_option maxRecDepth 100000 in
def bX3_block_135 (G : xG) (fr lo : Nat) (x0 : Nat) (x1 : Nat) (x3 : Nat) (h : xH) (Q : Outcome → xH → Prop) : Prop := tg h x0 = 4 ∧ 1 ≤ fr ∧ 15 ≤ lo ∧ xRr G YX3_routine (fr - 1) (lo - 15) [rv x0] h (fun x5 h4 => xext h h4 → tg h4 x3 = 16 ∧ 1 ≤ fr ∧ 13 ≤ lo ∧ xRr G YX15_add (fr - 1) (lo - 13) [rv x3, rv x5] h4 (fun x11 h10 => xext h4 h10 → 1 ≤ fr ∧ 13 ≤ lo ∧ xRr G YX3_need (fr - 1) (lo - 13) [rv x0, rv (tx G 64)] h10 (fun x18 h17 => xext h10 h17 → lX3_block_117 G fr lo x0 x1 x3 h17 Q) (fun r h2 => Q (.threw r) h2)) (fun r h2 => Q (.threw r) h2)) (fun r h2 => Q (.threw r) h2)
set_option maxRecDepth 100000 in
theorem uX3_block_135 {G : xG} {fr lo : Nat} {x0 : Nat} {x1 : Nat} {x3 : Nat} {h : xH} {Q : Outcome → xH → Prop} (hq : bX3_block_135 G fr lo x0 x1 x3 h Q) : xP G YX3_block fr lo 135 [(0, rv x0), (1, rv x1), (3, rv x3)] [] h Q := by
  unfold bX3_block_135 at hq
  refine x_aload_n 2 dX3_block_135 rfl ?_
  refine x_aload_n 0 dX3_block_136 rfl ?_
  obtain ⟨g1, hq⟩ := hq
  obtain ⟨g2, g3, hq⟩ := hq
  refine x_callV (Yc := YX3_routine) (as := []) (st := [rv x3]) q1887 mvX3_routine g1 rfl dX3_block_137 (xle (xal1 (rv_cat _) xal0) (by decide)) (xfr g2) (xlo (xsw1 (rv_cat _) xsw0) (by decide) g3) (xKr hq (fun x5 h4 hq e6 => ?_) (fun _ _ q _ => q))
  replace hq := hq e6
  obtain ⟨g7, hq⟩ := hq
  obtain ⟨g8, g9, hq⟩ := hq
  refine x_callV (Yc := YX15_add) (as := [rv x5]) (st := []) q1795 mvX15_add g7 rfl dX3_block_140 (xle (xal1 (rv_cat _) (xal1 (rv_cat _) xal0)) (by decide)) (xfr g8) (xlo xsw0 (by decide) g9) (xKr hq (fun x11 h10 hq e12 => ?_) (fun _ _ q _ => q))
  replace hq := hq e12
  refine x_pop dX3_block_143 (rv_cat _) ?_
  refine x_aload_n 0 dX3_block_144 rfl ?_
  refine x_ldcS (n := 64) 71 srX3_113 dX3_block_145 ?_
  have t13 : tg h4 x0 = 4 := e6.tg g1 (by decide)
  have t14 : tg h10 x0 = 4 := e12.tg t13 (by decide)
  obtain ⟨g15, g16, hq⟩ := hq
  refine x_callV (Yc := YX3_need) (as := [rv (tx G 64)]) (st := []) q1719 mvX3_need t14 rfl dX3_block_147 (xle (xal1 (rv_cat _) (xal1 (rv_cat _) xal0)) (by decide)) (xfr g15) (xlo xsw0 (by decide) g16) (xKr hq (fun x18 h17 hq e19 => ?_) (fun _ _ q _ => q))
  replace hq := hq e19
  refine x_pop dX3_block_150 (rv_cat _) ?_
  refine x_goto (tgt := 117) dX3_block_151 (by decide) ?_
  exact hq
set_option maxRecDepth 100000 in
def bX3_block_117 (G : xG) (fr lo : Nat) (x0 : Nat) (x1 : Nat) (x3 : Nat) (h : xH) (Q : Outcome → xH → Prop) : Prop := tg h x0 = 4 ∧ 1 ≤ fr ∧ 13 ≤ lo ∧ xRi G YX3_is (fr - 1) (lo - 13) [rv x0, rv (tx G 23)] h (fun x5 h4 => xext h h4 → ((¬ x5 = 0 → bX3_block_135 G fr lo x0 x1 x3 h4 Q) ∧ (x5 = 0 → 1 ≤ fr ∧ 13 ≤ lo ∧ xRi G YX3_is (fr - 1) (lo - 13) [rv x0, rv (tx G 12)] h4 (fun x12 h11 => xext h4 h11 → ((x12 = 0 → tg h11 x1 = 16 ∧ 1 ≤ fr ∧ 13 ≤ lo ∧ xRr G YX15_add (fr - 1) (lo - 13) [rv x1, rv x3] h11 (fun x19 h18 => xext h11 h18 → 1 ≤ fr ∧ 14 ≤ lo ∧ xRr G YX3_compound (fr - 1) (lo - 14) [rv x0] h18 (fun x26 h25 => xext h18 h25 → tg h25 x19 = 16 ∧ 1 ≤ fr ∧ 13 ≤ lo ∧ xRr G YX15_add (fr - 1) (lo - 13) [rv x19, rv x26] h25 (fun x32 h31 => xext h25 h31 → (∀ h36 : xH, h36 = sI h31 x0 772 ((fI h31 x0 772) - 1) → Q (.returned (some (rv x1))) h36)) (fun r h2 => Q (.threw r) h2)) (fun r h2 => Q (.threw r) h2)) (fun r h2 => Q (.threw r) h2)) ∧ (¬ x12 = 0 → bX3_block_135 G fr lo x0 x1 x3 h11 Q))) (fun r h2 => Q (.threw r) h2)))) (fun r h2 => Q (.threw r) h2)
set_option maxRecDepth 100000 in
theorem uX3_block_117 {G : xG} {fr lo : Nat} {x0 : Nat} {x1 : Nat} {x3 : Nat} {h : xH} {Q : Outcome → xH → Prop} (hq : bX3_block_117 G fr lo x0 x1 x3 h Q) : xP G YX3_block fr lo 117 [(0, rv x0), (1, rv x1), (3, rv x3)] [] h Q := by
  unfold bX3_block_117 at hq
  refine x_aload_n 0 dX3_block_117 rfl ?_
  refine x_ldcS (n := 23) 92 srX3_140 dX3_block_118 ?_
  obtain ⟨g1, hq⟩ := hq
  obtain ⟨g2, g3, hq⟩ := hq
  refine x_callV (Yc := YX3_is) (as := [rv (tx G 23)]) (st := []) q1723 mvX3_is g1 rfl dX3_block_120 (xle (xal1 (rv_cat _) (xal1 (rv_cat _) xal0)) (by decide)) (xfr g2) (xlo xsw0 (by decide) g3) (xKi hq (fun x5 h4 hq e6 => ?_) (fun _ _ q _ => q))
  replace hq := hq e6
  refine x_if_ne (tgt := 135) dX3_block_123 (by decide) (fun c7 => ?_) (fun c7 => ?_)
  · replace hq := hq.1 c7
    exact uX3_block_135 hq
  · replace hq := hq.2 c7
    refine x_aload_n 0 dX3_block_126 rfl ?_
    refine x_ldcS (n := 12) 93 srX3_142 dX3_block_127 ?_
    have t8 : tg h4 x0 = 4 := e6.tg g1 (by decide)
    obtain ⟨g9, g10, hq⟩ := hq
    refine x_callV (Yc := YX3_is) (as := [rv (tx G 12)]) (st := []) q1723 mvX3_is t8 rfl dX3_block_129 (xle (xal1 (rv_cat _) (xal1 (rv_cat _) xal0)) (by decide)) (xfr g9) (xlo xsw0 (by decide) g10) (xKi hq (fun x12 h11 hq e13 => ?_) (fun _ _ q _ => q))
    replace hq := hq e13
    refine x_if_eq (tgt := 154) dX3_block_132 (by decide) (fun c14 => ?_) (fun c14 => ?_)
    · replace hq := hq.1 c14
      refine x_aload_n 1 dX3_block_154 rfl ?_
      refine x_aload_n 2 dX3_block_155 rfl ?_
      obtain ⟨g15, hq⟩ := hq
      obtain ⟨g16, g17, hq⟩ := hq
      refine x_callV (Yc := YX15_add) (as := [rv x3]) (st := []) q1795 mvX15_add g15 rfl dX3_block_156 (xle (xal1 (rv_cat _) (xal1 (rv_cat _) xal0)) (by decide)) (xfr g16) (xlo xsw0 (by decide) g17) (xKr hq (fun x19 h18 hq e20 => ?_) (fun _ _ q _ => q))
      replace hq := hq e20
      refine x_aload_n 0 dX3_block_159 rfl ?_
      have t21 : tg h11 x0 = 4 := e13.tg t8 (by decide)
      have t22 : tg h18 x0 = 4 := e20.tg t21 (by decide)
      obtain ⟨g23, g24, hq⟩ := hq
      refine x_callV (Yc := YX3_compound) (as := []) (st := [rv x19]) q1901 mvX3_compound t22 rfl dX3_block_160 (xle (xal1 (rv_cat _) xal0) (by decide)) (xfr g23) (xlo (xsw1 (rv_cat _) xsw0) (by decide) g24) (xKr hq (fun x26 h25 hq e27 => ?_) (fun _ _ q _ => q))
      replace hq := hq e27
      obtain ⟨g28, hq⟩ := hq
      obtain ⟨g29, g30, hq⟩ := hq
      refine x_callV (Yc := YX15_add) (as := [rv x26]) (st := []) q1795 mvX15_add g28 rfl dX3_block_163 (xle (xal1 (rv_cat _) (xal1 (rv_cat _) xal0)) (by decide)) (xfr g29) (xlo xsw0 (by decide) g30) (xKr hq (fun x32 h31 hq e33 => ?_) (fun _ _ q _ => q))
      replace hq := hq e33
      refine x_pop dX3_block_166 (rv_cat _) ?_
      refine x_aload_n 0 dX3_block_167 rfl ?_
      refine x_dup dX3_block_168 (rv_cat _) ?_
      have t34 : tg h25 x0 = 4 := e27.tg t22 (by decide)
      have t35 : tg h31 x0 = 4 := e33.tg t34 (by decide)
      refine x_get (v := .int (fI h31 x0 772)) fdX3_68 dX3_block_169 t35 rfl ?_
      refine x_iconst (v := 1) dX3_block_172 (by decide) ?_
      refine x_isub dX3_block_173 ?_
      obtain ⟨h36, e37⟩ : ∃ y, y = sI h31 x0 772 ((fI h31 x0 772) - 1) := ⟨_, rfl⟩
      replace hq := hq h36 e37
      refine x_putI fdX3_68 xty_I1 dX3_block_174 t35 (Or.inl (by rw [t35]; rfl)) xnI rfl e37 ?_
      refine x_aload_n 1 dX3_block_177 rfl ?_
      exact x_aret rfl xty_O dX3_block_178 hq
    · replace hq := hq.2 c14
      exact uX3_block_135 hq
set_option maxRecDepth 100000 in
def bX3_block_77 (G : xG) (fr lo : Nat) (x0 : Nat) (x1 : Nat) (x2 : Nat) (h : xH) (Q : Outcome → xH → Prop) : Prop := tg h x1 = 16 ∧ 1 ≤ fr ∧ 13 ≤ lo ∧ xRr G YX15_add (fr - 1) (lo - 13) [rv x1, rv x2] h (fun x5 h4 => xext h h4 → tg h4 x0 = 4 ∧ 1 ≤ fr ∧ 15 ≤ lo ∧ xRr G YX3_constants (fr - 1) (lo - 15) [rv x0] h4 (fun x11 h10 => xext h4 h10 → tg h10 x5 = 16 ∧ 1 ≤ fr ∧ 13 ≤ lo ∧ xRr G YX15_add (fr - 1) (lo - 13) [rv x5, rv x11] h10 (fun x17 h16 => xext h10 h16 → 1 ≤ fr ∧ 15 ≤ lo ∧ xRr G YX3_types (fr - 1) (lo - 15) [rv x0] h16 (fun x24 h23 => xext h16 h23 → tg h23 x17 = 16 ∧ 1 ≤ fr ∧ 13 ≤ lo ∧ xRr G YX15_add (fr - 1) (lo - 13) [rv x17, rv x24] h23 (fun x30 h29 => xext h23 h29 → 1 ≤ fr ∧ 14 ≤ lo ∧ xRr G YX3_variables (fr - 1) (lo - 14) [rv x0] h29 (fun x37 h36 => xext h29 h36 → tg h36 x30 = 16 ∧ 1 ≤ fr ∧ 13 ≤ lo ∧ xRr G YX15_add (fr - 1) (lo - 13) [rv x30, rv x37] h36 (fun x43 h42 => xext h36 h42 → nx h42 + 1 ≤ xGN G ∧ us h42 + 6 ≤ xGU G ∧ (∀ (a47 : Nat) (h48 : xH), a47 = nx h42 + 1 → h48 = nO h42 16 6 → xfresh h42 a47 → 1 ≤ fr ∧ 15 ≤ lo ∧ xRv G YX15_init (fr - 1) (lo - 15) [rv a47, .int 0, rv (fR h48 x0 770)] h48 (fun h58 => xext h48 h58 → lX3_block_117 G fr lo x0 x1 a47 h58 Q) (fun r h2 => Q (.threw r) h2))) (fun r h2 => Q (.threw r) h2)) (fun r h2 => Q (.threw r) h2)) (fun r h2 => Q (.threw r) h2)) (fun r h2 => Q (.threw r) h2)) (fun r h2 => Q (.threw r) h2)) (fun r h2 => Q (.threw r) h2)) (fun r h2 => Q (.threw r) h2)
set_option maxRecDepth 100000 in
theorem uX3_block_77 {G : xG} {fr lo : Nat} {x0 : Nat} {x1 : Nat} {x2 : Nat} {h : xH} {Q : Outcome → xH → Prop} (hq : bX3_block_77 G fr lo x0 x1 x2 h Q) : xP G YX3_block fr lo 77 [(0, rv x0), (1, rv x1), (2, rv x2)] [] h Q := by
  unfold bX3_block_77 at hq
  refine x_aload_n 1 dX3_block_77 rfl ?_
  refine x_aload_n 2 dX3_block_78 rfl ?_
  obtain ⟨g1, hq⟩ := hq
  obtain ⟨g2, g3, hq⟩ := hq
  refine x_callV (Yc := YX15_add) (as := [rv x2]) (st := []) q1795 mvX15_add g1 rfl dX3_block_79 (xle (xal1 (rv_cat _) (xal1 (rv_cat _) xal0)) (by decide)) (xfr g2) (xlo xsw0 (by decide) g3) (xKr hq (fun x5 h4 hq e6 => ?_) (fun _ _ q _ => q))
  replace hq := hq e6
  refine x_aload_n 0 dX3_block_82 rfl ?_
  obtain ⟨g7, hq⟩ := hq
  obtain ⟨g8, g9, hq⟩ := hq
  refine x_callV (Yc := YX3_constants) (as := []) (st := [rv x5]) q1812 mvX3_constants g7 rfl dX3_block_83 (xle (xal1 (rv_cat _) xal0) (by decide)) (xfr g8) (xlo (xsw1 (rv_cat _) xsw0) (by decide) g9) (xKr hq (fun x11 h10 hq e12 => ?_) (fun _ _ q _ => q))
  replace hq := hq e12
  obtain ⟨g13, hq⟩ := hq
  obtain ⟨g14, g15, hq⟩ := hq
  refine x_callV (Yc := YX15_add) (as := [rv x11]) (st := []) q1795 mvX15_add g13 rfl dX3_block_86 (xle (xal1 (rv_cat _) (xal1 (rv_cat _) xal0)) (by decide)) (xfr g14) (xlo xsw0 (by decide) g15) (xKr hq (fun x17 h16 hq e18 => ?_) (fun _ _ q _ => q))
  replace hq := hq e18
  refine x_aload_n 0 dX3_block_89 rfl ?_
  have t19 : tg h10 x0 = 4 := e12.tg g7 (by decide)
  have t20 : tg h16 x0 = 4 := e18.tg t19 (by decide)
  obtain ⟨g21, g22, hq⟩ := hq
  refine x_callV (Yc := YX3_types) (as := []) (st := [rv x17]) q1830 mvX3_types t20 rfl dX3_block_90 (xle (xal1 (rv_cat _) xal0) (by decide)) (xfr g21) (xlo (xsw1 (rv_cat _) xsw0) (by decide) g22) (xKr hq (fun x24 h23 hq e25 => ?_) (fun _ _ q _ => q))
  replace hq := hq e25
  obtain ⟨g26, hq⟩ := hq
  obtain ⟨g27, g28, hq⟩ := hq
  refine x_callV (Yc := YX15_add) (as := [rv x24]) (st := []) q1795 mvX15_add g26 rfl dX3_block_93 (xle (xal1 (rv_cat _) (xal1 (rv_cat _) xal0)) (by decide)) (xfr g27) (xlo xsw0 (by decide) g28) (xKr hq (fun x30 h29 hq e31 => ?_) (fun _ _ q _ => q))
  replace hq := hq e31
  refine x_aload_n 0 dX3_block_96 rfl ?_
  have t32 : tg h23 x0 = 4 := e25.tg t20 (by decide)
  have t33 : tg h29 x0 = 4 := e31.tg t32 (by decide)
  obtain ⟨g34, g35, hq⟩ := hq
  refine x_callV (Yc := YX3_variables) (as := []) (st := [rv x30]) q1880 mvX3_variables t33 rfl dX3_block_97 (xle (xal1 (rv_cat _) xal0) (by decide)) (xfr g34) (xlo (xsw1 (rv_cat _) xsw0) (by decide) g35) (xKr hq (fun x37 h36 hq e38 => ?_) (fun _ _ q _ => q))
  replace hq := hq e38
  obtain ⟨g39, hq⟩ := hq
  obtain ⟨g40, g41, hq⟩ := hq
  refine x_callV (Yc := YX15_add) (as := [rv x37]) (st := []) q1795 mvX15_add g39 rfl dX3_block_100 (xle (xal1 (rv_cat _) (xal1 (rv_cat _) xal0)) (by decide)) (xfr g40) (xlo xsw0 (by decide) g41) (xKr hq (fun x43 h42 hq e44 => ?_) (fun _ _ q _ => q))
  replace hq := hq e44
  refine x_pop dX3_block_103 (rv_cat _) ?_
  obtain ⟨g45, g46, hq⟩ := hq
  obtain ⟨a47, e49⟩ : ∃ y, y = nx h42 + 1 := ⟨_, rfl⟩
  obtain ⟨h48, e50⟩ : ∃ y, y = nO h42 16 6 := ⟨_, rfl⟩
  refine x_new' cdX3_71 dX3_block_104 g45 g46 e49 e50 (fun f51 => ?_)
  replace hq := hq a47 h48 e49 e50 f51
  have t52 : tg h48 a47 = 16 := by rw [e50, e49]; exact tg_nO
  refine x_dup dX3_block_107 (rv_cat _) ?_
  refine x_iconst (v := 0) dX3_block_108 (by decide) ?_
  refine x_aload_n 0 dX3_block_109 rfl ?_
  have t53 : tg h36 x0 = 4 := e38.tg t33 (by decide)
  have t54 : tg h42 x0 = 4 := e44.tg t53 (by decide)
  have t55 : tg h48 x0 = 4 := by rw [e50]; exact tg_nO_ne e49 f51 t54 (by decide)
  refine x_get (v := rv (fR h48 x0 770)) fdX3_25 dX3_block_110 t55 rfl ?_
  obtain ⟨g56, g57, hq⟩ := hq
  refine x_callI (Yc := YX15_init) (as := [.int 0, rv (fR h48 x0 770)]) (st := [rv a47]) q1749 miX15_init (by rw [t52]; decide) rfl dX3_block_113 (xle (xal1 (rv_cat _) (xal1 rfl (xal1 (rv_cat _) xal0))) (by decide)) (xfr g56) (xlo (xsw1 (rv_cat _) xsw0) (by decide) g57) (xKv hq (fun h58 hq e60 => ?_) (fun _ _ q _ => q))
  replace hq := hq e60
  refine x_astore_n (lv' := [(3, rv a47), (0, rv x0), (1, rv x1), (2, rv x2)]) dX3_block_116 (by decide) (by first | rfl | (simp [rv_cat, Value.category]; done) | (simp [rv_cat, Value.category]; decide)) ?_
  refine xP.pick (lv' := [(0, rv x0), (1, rv x1), (3, rv a47)]) [1, 2, 0] rfl ?_
  exact hq
set_option maxRecDepth 100000 in
def bX3_block_40 (G : xG) (fr lo : Nat) (x0 : Nat) (x1 : Nat) (x2 : Nat) (h : xH) (Q : Outcome → xH → Prop) : Prop := nx h + 1 ≤ xGN G ∧ us h + 6 ≤ xGU G ∧ (∀ (a3 : Nat) (h4 : xH), a3 = nx h + 1 → h4 = nO h 16 6 → xfresh h a3 → tg h4 x0 = 4 ∧ 1 ≤ fr ∧ 17 ≤ lo ∧ xRr G YX3_needSort (fr - 1) (lo - 17) [rv x0, rv (xGS G 2)] h4 (fun x13 h12 => xext h4 h12 → 1 ≤ fr ∧ 16 ≤ lo ∧ xRv G YX15_init (fr - 1) (lo - 16) [rv a3, .int 26, rv x13] h12 (fun h18 => xext h12 h18 → tg h18 x2 = 16 ∧ 1 ≤ fr ∧ 13 ≤ lo ∧ xRr G YX15_add (fr - 1) (lo - 13) [rv x2, rv a3] h18 (fun x25 h24 => xext h18 h24 → 1 ≤ fr ∧ 13 ≤ lo ∧ xRi G YX3_has (fr - 1) (lo - 13) [rv x0, rv (tx G 63)] h24 (fun x33 h32 => xext h24 h32 → ((¬ x33 = 0 → lX3_block_40 G fr lo x0 x1 x2 h32 Q) ∧ (x33 = 0 → 1 ≤ fr ∧ 13 ≤ lo ∧ xRr G YX3_need (fr - 1) (lo - 13) [rv x0, rv (tx G 64)] h32 (fun x40 h39 => xext h32 h39 → bX3_block_77 G fr lo x0 x1 x2 h39 Q) (fun r h2 => Q (.threw r) h2)))) (fun r h2 => Q (.threw r) h2)) (fun r h2 => Q (.threw r) h2)) (fun r h2 => Q (.threw r) h2)) (fun r h2 => Q (.threw r) h2))
set_option maxRecDepth 100000 in
theorem uX3_block_40 {G : xG} {fr lo : Nat} {x0 : Nat} {x1 : Nat} {x2 : Nat} {h : xH} {Q : Outcome → xH → Prop} (hq : bX3_block_40 G fr lo x0 x1 x2 h Q) : xP G YX3_block fr lo 40 [(0, rv x0), (1, rv x1), (2, rv x2)] [] h Q := by
  unfold bX3_block_40 at hq
  refine x_aload_n 2 dX3_block_40 rfl ?_
  obtain ⟨g1, g2, hq⟩ := hq
  obtain ⟨a3, e5⟩ : ∃ y, y = nx h + 1 := ⟨_, rfl⟩
  obtain ⟨h4, e6⟩ : ∃ y, y = nO h 16 6 := ⟨_, rfl⟩
  refine x_new' cdX3_71 dX3_block_41 g1 g2 e5 e6 (fun f7 => ?_)
  replace hq := hq a3 h4 e5 e6 f7
  have t8 : tg h4 a3 = 16 := by rw [e6, e5]; exact tg_nO
  refine x_dup dX3_block_44 (rv_cat _) ?_
  refine x_bipush (v := 26) dX3_block_45 (by decide) ?_
  refine x_aload_n 0 dX3_block_47 rfl ?_
  refine x_gets (v := rv (xGS G 2)) 2 rfl q1811 (by simp [xsv]) dX3_block_48 ?_
  obtain ⟨g9, hq⟩ := hq
  obtain ⟨g10, g11, hq⟩ := hq
  refine x_callV (Yc := YX3_needSort) (as := [rv (xGS G 2)]) (st := [.int 26, rv a3, rv a3, rv x2]) q1745 mvX3_needSort g9 rfl dX3_block_51 (xle (xal1 (rv_cat _) (xal1 (rv_cat _) xal0)) (by decide)) (xfr g10) (xlo (xsw1 rfl (xsw1 (rv_cat _) (xsw1 (rv_cat _) (xsw1 (rv_cat _) xsw0)))) (by decide) g11) (xKr hq (fun x13 h12 hq e14 => ?_) (fun _ _ q _ => q))
  replace hq := hq e14
  have t15 : tg h12 a3 = 16 := e14.tg t8 (by decide)
  obtain ⟨g16, g17, hq⟩ := hq
  refine x_callI (Yc := YX15_init) (as := [.int 26, rv x13]) (st := [rv a3, rv x2]) q1749 miX15_init (by rw [t15]; decide) rfl dX3_block_54 (xle (xal1 (rv_cat _) (xal1 rfl (xal1 (rv_cat _) xal0))) (by decide)) (xfr g16) (xlo (xsw1 (rv_cat _) (xsw1 (rv_cat _) xsw0)) (by decide) g17) (xKv hq (fun h18 hq e20 => ?_) (fun _ _ q _ => q))
  replace hq := hq e20
  obtain ⟨g21, hq⟩ := hq
  obtain ⟨g22, g23, hq⟩ := hq
  refine x_callV (Yc := YX15_add) (as := [rv a3]) (st := []) q1795 mvX15_add g21 rfl dX3_block_57 (xle (xal1 (rv_cat _) (xal1 (rv_cat _) xal0)) (by decide)) (xfr g22) (xlo xsw0 (by decide) g23) (xKr hq (fun x25 h24 hq e26 => ?_) (fun _ _ q _ => q))
  replace hq := hq e26
  refine x_pop dX3_block_60 (rv_cat _) ?_
  refine x_aload_n 0 dX3_block_61 rfl ?_
  refine x_ldcS (n := 63) 69 srX3_88 dX3_block_62 ?_
  have t27 : tg h12 x0 = 4 := e14.tg g9 (by decide)
  have t28 : tg h18 x0 = 4 := e20.tg t27 (by decide)
  have t29 : tg h24 x0 = 4 := e26.tg t28 (by decide)
  obtain ⟨g30, g31, hq⟩ := hq
  refine x_callV (Yc := YX3_has) (as := [rv (tx G 63)]) (st := []) q1783 mvX3_has t29 rfl dX3_block_64 (xle (xal1 (rv_cat _) (xal1 (rv_cat _) xal0)) (by decide)) (xfr g30) (xlo xsw0 (by decide) g31) (xKi hq (fun x33 h32 hq e34 => ?_) (fun _ _ q _ => q))
  replace hq := hq e34
  refine x_if_ne (tgt := 40) dX3_block_67 (by decide) (fun c35 => ?_) (fun c35 => ?_)
  · replace hq := hq.1 c35
    exact hq
  · replace hq := hq.2 c35
    refine x_aload_n 0 dX3_block_70 rfl ?_
    refine x_ldcS (n := 64) 71 srX3_113 dX3_block_71 ?_
    have t36 : tg h32 x0 = 4 := e34.tg t29 (by decide)
    obtain ⟨g37, g38, hq⟩ := hq
    refine x_callV (Yc := YX3_need) (as := [rv (tx G 64)]) (st := []) q1719 mvX3_need t36 rfl dX3_block_73 (xle (xal1 (rv_cat _) (xal1 (rv_cat _) xal0)) (by decide)) (xfr g37) (xlo xsw0 (by decide) g38) (xKr hq (fun x40 h39 hq e41 => ?_) (fun _ _ q _ => q))
    replace hq := hq e41
    refine x_pop dX3_block_76 (rv_cat _) ?_
    exact uX3_block_77 hq
set_option maxRecDepth 100000 in
def bX3_block (G : xG) (fr lo : Nat) (x0 : Nat) (h : xH) (Q : Outcome → xH → Prop) : Prop := tg h x0 = 4 ∧ 1 ≤ fr ∧ 12 ≤ lo ∧ xRv G YX3_deeper (fr - 1) (lo - 12) [rv x0] h (fun h4 => xext h h4 → nx h4 + 1 ≤ xGN G ∧ us h4 + 6 ≤ xGU G ∧ (∀ (a9 : Nat) (h10 : xH), a9 = nx h4 + 1 → h10 = nO h4 16 6 → xfresh h4 a9 → 1 ≤ fr ∧ 15 ≤ lo ∧ xRv G YX15_init (fr - 1) (lo - 15) [rv a9, .int 23, rv (fR h10 x0 770)] h10 (fun h19 => xext h10 h19 → nx h19 + 1 ≤ xGN G ∧ us h19 + 6 ≤ xGU G ∧ (∀ (a24 : Nat) (h25 : xH), a24 = nx h19 + 1 → h25 = nO h19 16 6 → xfresh h19 a24 → 1 ≤ fr ∧ 15 ≤ lo ∧ xRv G YX15_init (fr - 1) (lo - 15) [rv a24, .int 0, rv (fR h25 x0 770)] h25 (fun h34 => xext h25 h34 → 1 ≤ fr ∧ 13 ≤ lo ∧ xRi G YX3_has (fr - 1) (lo - 13) [rv x0, rv (tx G 16)] h34 (fun x41 h40 => xext h34 h40 → ((x41 = 0 → bX3_block_77 G fr lo x0 a9 a24 h40 Q) ∧ (¬ x41 = 0 → lX3_block_40 G fr lo x0 a9 a24 h40 Q))) (fun r h2 => Q (.threw r) h2)) (fun r h2 => Q (.threw r) h2))) (fun r h2 => Q (.threw r) h2))) (fun r h2 => Q (.threw r) h2)
set_option maxRecDepth 100000 in
theorem uX3_block {G : xG} {fr lo : Nat} {x0 : Nat} {h : xH} {Q : Outcome → xH → Prop} (hq : bX3_block G fr lo x0 h Q) : xP G YX3_block fr lo 0 [(0, rv x0)] [] h Q := by
  unfold bX3_block at hq
  refine x_aload_n 0 dX3_block_0 rfl ?_
  obtain ⟨g1, hq⟩ := hq
  obtain ⟨g2, g3, hq⟩ := hq
  refine x_callV (Yc := YX3_deeper) (as := []) (st := []) q1806 mvX3_deeper g1 rfl dX3_block_1 (xle (xal1 (rv_cat _) xal0) (by decide)) (xfr g2) (xlo xsw0 (by decide) g3) (xKv hq (fun h4 hq e6 => ?_) (fun _ _ q _ => q))
  replace hq := hq e6
  obtain ⟨g7, g8, hq⟩ := hq
  obtain ⟨a9, e11⟩ : ∃ y, y = nx h4 + 1 := ⟨_, rfl⟩
  obtain ⟨h10, e12⟩ : ∃ y, y = nO h4 16 6 := ⟨_, rfl⟩
  refine x_new' cdX3_71 dX3_block_4 g7 g8 e11 e12 (fun f13 => ?_)
  replace hq := hq a9 h10 e11 e12 f13
  have t14 : tg h10 a9 = 16 := by rw [e12, e11]; exact tg_nO
  refine x_dup dX3_block_7 (rv_cat _) ?_
  refine x_bipush (v := 23) dX3_block_8 (by decide) ?_
  refine x_aload_n 0 dX3_block_10 rfl ?_
  have t15 : tg h4 x0 = 4 := e6.tg g1 (by decide)
  have t16 : tg h10 x0 = 4 := by rw [e12]; exact tg_nO_ne e11 f13 t15 (by decide)
  refine x_get (v := rv (fR h10 x0 770)) fdX3_25 dX3_block_11 t16 rfl ?_
  obtain ⟨g17, g18, hq⟩ := hq
  refine x_callI (Yc := YX15_init) (as := [.int 23, rv (fR h10 x0 770)]) (st := [rv a9]) q1749 miX15_init (by rw [t14]; decide) rfl dX3_block_14 (xle (xal1 (rv_cat _) (xal1 rfl (xal1 (rv_cat _) xal0))) (by decide)) (xfr g17) (xlo (xsw1 (rv_cat _) xsw0) (by decide) g18) (xKv hq (fun h19 hq e21 => ?_) (fun _ _ q _ => q))
  replace hq := hq e21
  refine x_astore_n (lv' := [(1, rv a9), (0, rv x0)]) dX3_block_17 (by decide) (by first | rfl | (simp [rv_cat, Value.category]; done) | (simp [rv_cat, Value.category]; decide)) ?_
  obtain ⟨g22, g23, hq⟩ := hq
  obtain ⟨a24, e26⟩ : ∃ y, y = nx h19 + 1 := ⟨_, rfl⟩
  obtain ⟨h25, e27⟩ : ∃ y, y = nO h19 16 6 := ⟨_, rfl⟩
  refine x_new' cdX3_71 dX3_block_18 g22 g23 e26 e27 (fun f28 => ?_)
  replace hq := hq a24 h25 e26 e27 f28
  have t29 : tg h25 a24 = 16 := by rw [e27, e26]; exact tg_nO
  refine x_dup dX3_block_21 (rv_cat _) ?_
  refine x_iconst (v := 0) dX3_block_22 (by decide) ?_
  refine x_aload_n 1 dX3_block_23 rfl ?_
  have t30 : tg h19 x0 = 4 := e21.tg t16 (by decide)
  have t31 : tg h25 x0 = 4 := by rw [e27]; exact tg_nO_ne e26 f28 t30 (by decide)
  refine x_get (v := rv (fR h25 x0 770)) fdX3_25 dX3_block_24 t31 rfl ?_
  obtain ⟨g32, g33, hq⟩ := hq
  refine x_callI (Yc := YX15_init) (as := [.int 0, rv (fR h25 x0 770)]) (st := [rv a24]) q1749 miX15_init (by rw [t29]; decide) rfl dX3_block_27 (xle (xal1 (rv_cat _) (xal1 rfl (xal1 (rv_cat _) xal0))) (by decide)) (xfr g32) (xlo (xsw1 (rv_cat _) xsw0) (by decide) g33) (xKv hq (fun h34 hq e36 => ?_) (fun _ _ q _ => q))
  replace hq := hq e36
  refine x_astore_n (lv' := [(2, rv a24), (1, rv a9), (0, rv x0)]) dX3_block_30 (by decide) (by first | rfl | (simp [rv_cat, Value.category]; done) | (simp [rv_cat, Value.category]; decide)) ?_
  refine x_aload_n 2 dX3_block_31 rfl ?_
  refine x_ldcS (n := 16) 72 srX3_126 dX3_block_32 ?_
  have t37 : tg h34 x0 = 4 := e36.tg t31 (by decide)
  obtain ⟨g38, g39, hq⟩ := hq
  refine x_callV (Yc := YX3_has) (as := [rv (tx G 16)]) (st := []) q1783 mvX3_has t37 rfl dX3_block_34 (xle (xal1 (rv_cat _) (xal1 (rv_cat _) xal0)) (by decide)) (xfr g38) (xlo xsw0 (by decide) g39) (xKi hq (fun x41 h40 hq e42 => ?_) (fun _ _ q _ => q))
  replace hq := hq e42
  refine x_if_eq (tgt := 77) dX3_block_37 (by decide) (fun c43 => ?_) (fun c43 => ?_)
  · replace hq := hq.1 c43
    refine xP.pick (lv' := [(0, rv x0), (1, rv a9), (2, rv a24)]) [2, 1, 0] rfl ?_
    exact uX3_block_77 hq
  · replace hq := hq.2 c43
    refine xP.pick (lv' := [(0, rv x0), (1, rv a9), (2, rv a24)]) [2, 1, 0] rfl ?_
    exact hq
theorem rX3_block {G : xG} {fr lo : Nat} {x0 : Nat} {h : xH} {Q : Outcome → xH → Prop} (hq : bX3_block G fr lo x0 h Q) : xR G YX3_block fr lo [rv x0] h Q := by
  show xP _ _ _ _ _ (lv_args 0 _) _ _ _
  rw [show lv_args 0 [rv x0] = [(0, rv x0)] from (xla1 (rv_cat _) xla0)]
  exact uX3_block hq
set_option maxRecDepth 100000 in
theorem dX3_deeper_0 : decode cX3_deeper 0 = .ok (.aload_n 0, 1) := by decide +kernel
set_option maxRecDepth 100000 in
theorem dX3_deeper_1 : decode cX3_deeper 1 = .ok (.dup, 1) := by decide +kernel
set_option maxRecDepth 100000 in
theorem dX3_deeper_2 : decode cX3_deeper 2 = .ok (.getfield 68, 3) := by decide +kernel
set_option maxRecDepth 100000 in
theorem dX3_deeper_5 : decode cX3_deeper 5 = .ok (.iconst 1, 1) := by decide +kernel
set_option maxRecDepth 100000 in
theorem dX3_deeper_6 : decode cX3_deeper 6 = .ok (.iadd, 1) := by decide +kernel
set_option maxRecDepth 100000 in
theorem dX3_deeper_7 : decode cX3_deeper 7 = .ok (.putfield 68, 3) := by decide +kernel
set_option maxRecDepth 100000 in
theorem dX3_deeper_10 : decode cX3_deeper 10 = .ok (.aload_n 0, 1) := by decide +kernel
set_option maxRecDepth 100000 in
theorem dX3_deeper_11 : decode cX3_deeper 11 = .ok (.getfield 68, 3) := by decide +kernel
set_option maxRecDepth 100000 in
theorem dX3_deeper_14 : decode cX3_deeper 14 = .ok (.bipush 40, 2) := by decide +kernel
set_option maxRecDepth 100000 in
theorem dX3_deeper_16 : decode cX3_deeper 16 = .ok (.if_icmp .le 19, 3) := by decide +kernel
set_option maxRecDepth 100000 in
theorem dX3_deeper_19 : decode cX3_deeper 19 = .ok (.aload_n 0, 1) := by decide +kernel
set_option maxRecDepth 100000 in
theorem dX3_deeper_20 : decode cX3_deeper 20 = .ok (.getfield 15, 3) := by decide +kernel
set_option maxRecDepth 100000 in
theorem dX3_deeper_23 : decode cX3_deeper 23 = .ok (.iconst 3, 1) := by decide +kernel
set_option maxRecDepth 100000 in
theorem dX3_deeper_24 : decode cX3_deeper 24 = .ok (.aload_n 0, 1) := by decide +kernel
set_option maxRecDepth 100000 in
theorem dX3_deeper_25 : decode cX3_deeper 25 = .ok (.getfield 25, 3) := by decide +kernel
set_option maxRecDepth 100000 in
theorem dX3_deeper_28 : decode cX3_deeper 28 = .ok (.getfield 48, 3) := by decide +kernel
set_option maxRecDepth 100000 in
theorem dX3_deeper_31 : decode cX3_deeper 31 = .ok (.invokevirtual 51, 3) := by decide +kernel
set_option maxRecDepth 100000 in
theorem dX3_deeper_34 : decode cX3_deeper 34 = .ok (.athrow, 1) := by decide +kernel
set_option maxRecDepth 100000 in
theorem dX3_deeper_35 : decode cX3_deeper 35 = .ok (.return_, 1) := by decide +kernel
set_option maxRecDepth 100000 in
def bX3_deeper (G : xG) (fr lo : Nat) (x0 : Nat) (h : xH) (Q : Outcome → xH → Prop) : Prop := tg h x0 = 4 ∧ (∀ h2 : xH, h2 = sI h x0 772 ((fI h x0 772) + 1) → (((fI h2 x0 772) ≤ 40 → Q (.returned none) h2) ∧ (¬ (fI h2 x0 772) ≤ 40 → tg h2 (fR h2 x0 770) = 15 ∧ tg h2 (fR h2 x0 769) = 2 ∧ 1 ≤ fr ∧ 14 ≤ lo ∧ xRr G YX1_at (fr - 1) (lo - 14) [rv (fR h2 x0 769), .int 3, .int (fI h2 (fR h2 x0 770) 3586)] h2 (fun x11 h10 => xext h2 h10 → (∃ r13, x11 = r13 + 1 ∧ Q (.threw r13) h10)) (fun r h2 => Q (.threw r) h2))))
set_option maxRecDepth 100000 in
theorem uX3_deeper {G : xG} {fr lo : Nat} {x0 : Nat} {h : xH} {Q : Outcome → xH → Prop} (hq : bX3_deeper G fr lo x0 h Q) : xP G YX3_deeper fr lo 0 [(0, rv x0)] [] h Q := by
  unfold bX3_deeper at hq
  refine x_aload_n 0 dX3_deeper_0 rfl ?_
  refine x_dup dX3_deeper_1 (rv_cat _) ?_
  obtain ⟨g1, hq⟩ := hq
  refine x_get (v := .int (fI h x0 772)) fdX3_68 dX3_deeper_2 g1 rfl ?_
  refine x_iconst (v := 1) dX3_deeper_5 (by decide) ?_
  refine x_iadd dX3_deeper_6 ?_
  obtain ⟨h2, e3⟩ : ∃ y, y = sI h x0 772 ((fI h x0 772) + 1) := ⟨_, rfl⟩
  replace hq := hq h2 e3
  refine x_putI fdX3_68 xty_I1 dX3_deeper_7 g1 (Or.inl (by rw [g1]; rfl)) xnI rfl e3 ?_
  refine x_aload_n 0 dX3_deeper_10 rfl ?_
  have t4 : tg h2 x0 = 4 := by rw [e3]; exact g1
  refine x_get (v := .int (fI h2 x0 772)) fdX3_68 dX3_deeper_11 t4 rfl ?_
  refine x_bipush (v := 40) dX3_deeper_14 (by decide) ?_
  refine x_icmp_le (tgt := 35) dX3_deeper_16 (by decide) (fun c5 => ?_) (fun c5 => ?_)
  · replace hq := hq.1 c5
    exact x_vret rfl dX3_deeper_35 hq
  · replace hq := hq.2 c5
    refine x_aload_n 0 dX3_deeper_19 rfl ?_
    refine x_get (v := rv (fR h2 x0 769)) fdX3_15 dX3_deeper_20 t4 rfl ?_
    refine x_iconst (v := 3) dX3_deeper_23 (by decide) ?_
    refine x_aload_n 0 dX3_deeper_24 rfl ?_
    refine x_get (v := rv (fR h2 x0 770)) fdX3_25 dX3_deeper_25 t4 rfl ?_
    obtain ⟨g6, hq⟩ := hq
    refine x_getN (v := .int (fI h2 (fR h2 x0 770) 3586)) gfX3_48 dX3_deeper_28 g6 rfl ?_
    obtain ⟨g7, hq⟩ := hq
    obtain ⟨g8, g9, hq⟩ := hq
    refine x_callV (Yc := YX1_at) (as := [.int 3, .int (fI h2 (fR h2 x0 770) 3586)]) (st := []) q1737 mvX1_at g7 rfl dX3_deeper_31 (xle (xal1 (rv_cat _) (xal1 rfl (xal1 rfl xal0))) (by decide)) (xfr g8) (xlo xsw0 (by decide) g9) (xKr hq (fun x11 h10 hq e12 => ?_) (fun _ _ q _ => q))
    replace hq := hq e12
    obtain ⟨r13, g14, hq⟩ := hq
    rw [g14]
    exact x_athrow dX3_deeper_34 hq
theorem rX3_deeper {G : xG} {fr lo : Nat} {x0 : Nat} {h : xH} {Q : Outcome → xH → Prop} (hq : bX3_deeper G fr lo x0 h Q) : xR G YX3_deeper fr lo [rv x0] h Q := by
  show xP _ _ _ _ _ (lv_args 0 _) _ _ _
  rw [show lv_args 0 [rv x0] = [(0, rv x0)] from (xla1 (rv_cat _) xla0)]
  exact uX3_deeper hq
set_option maxRecDepth 100000 in
theorem dX3_constants_0 : decode cX3_constants 0 = .ok (.new 71, 3) := by decide +kernel
set_option maxRecDepth 100000 in
theorem dX3_constants_3 : decode cX3_constants 3 = .ok (.dup, 1) := by decide +kernel
set_option maxRecDepth 100000 in
theorem dX3_constants_4 : decode cX3_constants 4 = .ok (.iconst 0, 1) := by decide +kernel
set_option maxRecDepth 100000 in
theorem dX3_constants_5 : decode cX3_constants 5 = .ok (.aload_n 0, 1) := by decide +kernel
set_option maxRecDepth 100000 in
theorem dX3_constants_6 : decode cX3_constants 6 = .ok (.getfield 25, 3) := by decide +kernel
set_option maxRecDepth 100000 in
theorem dX3_constants_9 : decode cX3_constants 9 = .ok (.invokespecial 77, 3) := by decide +kernel
set_option maxRecDepth 100000 in
theorem dX3_constants_12 : decode cX3_constants 12 = .ok (.astore_n 1, 1) := by decide +kernel
set_option maxRecDepth 100000 in
theorem dX3_constants_13 : decode cX3_constants 13 = .ok (.aload_n 0, 1) := by decide +kernel
set_option maxRecDepth 100000 in
theorem dX3_constants_14 : decode cX3_constants 14 = .ok (.ldc 150, 2) := by decide +kernel
set_option maxRecDepth 100000 in
theorem dX3_constants_16 : decode cX3_constants 16 = .ok (.invokevirtual 90, 3) := by decide +kernel
set_option maxRecDepth 100000 in
theorem dX3_constants_19 : decode cX3_constants 19 = .ok (.ifCond .ne 5, 3) := by decide +kernel
set_option maxRecDepth 100000 in
theorem dX3_constants_22 : decode cX3_constants 22 = .ok (.aload_n 1, 1) := by decide +kernel
set_option maxRecDepth 100000 in
theorem dX3_constants_23 : decode cX3_constants 23 = .ok (.areturn, 1) := by decide +kernel
set_option maxRecDepth 100000 in
theorem dX3_constants_24 : decode cX3_constants 24 = .ok (.new 71, 3) := by decide +kernel
set_option maxRecDepth 100000 in
theorem dX3_constants_27 : decode cX3_constants 27 = .ok (.dup, 1) := by decide +kernel
set_option maxRecDepth 100000 in
theorem dX3_constants_28 : decode cX3_constants 28 = .ok (.iconst 4, 1) := by decide +kernel
set_option maxRecDepth 100000 in
theorem dX3_constants_29 : decode cX3_constants 29 = .ok (.aload_n 0, 1) := by decide +kernel
set_option maxRecDepth 100000 in
theorem dX3_constants_30 : decode cX3_constants 30 = .ok (.getstatic 43, 3) := by decide +kernel
set_option maxRecDepth 100000 in
theorem dX3_constants_33 : decode cX3_constants 33 = .ok (.invokevirtual 73, 3) := by decide +kernel
set_option maxRecDepth 100000 in
theorem dX3_constants_36 : decode cX3_constants 36 = .ok (.invokespecial 77, 3) := by decide +kernel
set_option maxRecDepth 100000 in
theorem dX3_constants_39 : decode cX3_constants 39 = .ok (.astore_n 2, 1) := by decide +kernel
set_option maxRecDepth 100000 in
theorem dX3_constants_40 : decode cX3_constants 40 = .ok (.aload_n 0, 1) := by decide +kernel
set_option maxRecDepth 100000 in
theorem dX3_constants_41 : decode cX3_constants 41 = .ok (.ldc 152, 2) := by decide +kernel
set_option maxRecDepth 100000 in
theorem dX3_constants_43 : decode cX3_constants 43 = .ok (.invokevirtual 99, 3) := by decide +kernel
set_option maxRecDepth 100000 in
theorem dX3_constants_46 : decode cX3_constants 46 = .ok (.pop, 1) := by decide +kernel
set_option maxRecDepth 100000 in
theorem dX3_constants_47 : decode cX3_constants 47 = .ok (.aload_n 1, 1) := by decide +kernel
set_option maxRecDepth 100000 in
theorem dX3_constants_48 : decode cX3_constants 48 = .ok (.aload_n 2, 1) := by decide +kernel
set_option maxRecDepth 100000 in
theorem dX3_constants_49 : decode cX3_constants 49 = .ok (.aload_n 0, 1) := by decide +kernel
set_option maxRecDepth 100000 in
theorem dX3_constants_50 : decode cX3_constants 50 = .ok (.invokevirtual 154, 3) := by decide +kernel
set_option maxRecDepth 100000 in
theorem dX3_constants_53 : decode cX3_constants 53 = .ok (.invokevirtual 84, 3) := by decide +kernel
set_option maxRecDepth 100000 in
theorem dX3_constants_56 : decode cX3_constants 56 = .ok (.invokevirtual 84, 3) := by decide +kernel
set_option maxRecDepth 100000 in
theorem dX3_constants_59 : decode cX3_constants 59 = .ok (.pop, 1) := by decide +kernel
set_option maxRecDepth 100000 in
theorem dX3_constants_60 : decode cX3_constants 60 = .ok (.aload_n 0, 1) := by decide +kernel
set_option maxRecDepth 100000 in
theorem dX3_constants_61 : decode cX3_constants 61 = .ok (.ldc 113, 2) := by decide +kernel
set_option maxRecDepth 100000 in
theorem dX3_constants_63 : decode cX3_constants 63 = .ok (.invokevirtual 99, 3) := by decide +kernel
set_option maxRecDepth 100000 in
theorem dX3_constants_66 : decode cX3_constants 66 = .ok (.pop, 1) := by decide +kernel
set_option maxRecDepth 100000 in
theorem dX3_constants_67 : decode cX3_constants 67 = .ok (.aload_n 0, 1) := by decide +kernel
set_option maxRecDepth 100000 in
theorem dX3_constants_68 : decode cX3_constants 68 = .ok (.invokevirtual 157, 3) := by decide +kernel
set_option maxRecDepth 100000 in
theorem dX3_constants_71 : decode cX3_constants 71 = .ok (.ifCond .ne (-47), 3) := by decide +kernel
set_option maxRecDepth 100000 in
theorem dX3_constants_74 : decode cX3_constants 74 = .ok (.aload_n 1, 1) := by decide +kernel
set_option maxRecDepth 100000 in
theorem dX3_constants_75 : decode cX3_constants 75 = .ok (.areturn, 1) := by decide +kernel
def lX3_constants_24 (G : xG) (fr lo : Nat) (x0 : Nat) (x1 : Nat) (h : xH) (Q : Outcome → xH → Prop) : Prop := xP G YX3_constants fr lo 24 [(0, rv x0), (1, rv x1)] [] h Q
set_option maxRecDepth 100000 in
def bX3_constants_24 (G : xG) (fr lo : Nat) (x0 : Nat) (x1 : Nat) (h : xH) (Q : Outcome → xH → Prop) : Prop := nx h + 1 ≤ xGN G ∧ us h + 6 ≤ xGU G ∧ (∀ (a3 : Nat) (h4 : xH), a3 = nx h + 1 → h4 = nO h 16 6 → xfresh h a3 → tg h4 x0 = 4 ∧ 1 ≤ fr ∧ 16 ≤ lo ∧ xRr G YX3_needSort (fr - 1) (lo - 16) [rv x0, rv (xGS G 1)] h4 (fun x13 h12 => xext h4 h12 → 1 ≤ fr ∧ 15 ≤ lo ∧ xRv G YX15_init (fr - 1) (lo - 15) [rv a3, .int 4, rv x13] h12 (fun h18 => xext h12 h18 → 1 ≤ fr ∧ 13 ≤ lo ∧ xRr G YX3_need (fr - 1) (lo - 13) [rv x0, rv (tx G 57)] h18 (fun x26 h25 => xext h18 h25 → 1 ≤ fr ∧ 16 ≤ lo ∧ xRr G YX3_constant (fr - 1) (lo - 16) [rv x0] h25 (fun x32 h31 => xext h25 h31 → 1 ≤ fr ∧ 14 ≤ lo ∧ xRr G YX15_add (fr - 1) (lo - 14) [rv a3, rv x32] h31 (fun x40 h39 => xext h31 h39 → tg h39 x1 = 16 ∧ 1 ≤ fr ∧ 13 ≤ lo ∧ xRr G YX15_add (fr - 1) (lo - 13) [rv x1, rv x40] h39 (fun x46 h45 => xext h39 h45 → 1 ≤ fr ∧ 13 ≤ lo ∧ xRr G YX3_need (fr - 1) (lo - 13) [rv x0, rv (tx G 64)] h45 (fun x54 h53 => xext h45 h53 → 1 ≤ fr ∧ 12 ≤ lo ∧ xRi G YX3_isName (fr - 1) (lo - 12) [rv x0] h53 (fun x60 h59 => xext h53 h59 → ((¬ x60 = 0 → lX3_constants_24 G fr lo x0 x1 h59 Q) ∧ (x60 = 0 → Q (.returned (some (rv x1))) h59))) (fun r h2 => Q (.threw r) h2)) (fun r h2 => Q (.threw r) h2)) (fun r h2 => Q (.threw r) h2)) (fun r h2 => Q (.threw r) h2)) (fun r h2 => Q (.threw r) h2)) (fun r h2 => Q (.threw r) h2)) (fun r h2 => Q (.threw r) h2)) (fun r h2 => Q (.threw r) h2))
set_option maxRecDepth 100000 in
theorem uX3_constants_24 {G : xG} {fr lo : Nat} {x0 : Nat} {x1 : Nat} {h : xH} {Q : Outcome → xH → Prop} (hq : bX3_constants_24 G fr lo x0 x1 h Q) : xP G YX3_constants fr lo 24 [(0, rv x0), (1, rv x1)] [] h Q := by
  unfold bX3_constants_24 at hq
  obtain ⟨g1, g2, hq⟩ := hq
  obtain ⟨a3, e5⟩ : ∃ y, y = nx h + 1 := ⟨_, rfl⟩
  obtain ⟨h4, e6⟩ : ∃ y, y = nO h 16 6 := ⟨_, rfl⟩
  refine x_new' cdX3_71 dX3_constants_24 g1 g2 e5 e6 (fun f7 => ?_)
  replace hq := hq a3 h4 e5 e6 f7
  have t8 : tg h4 a3 = 16 := by rw [e6, e5]; exact tg_nO
  refine x_dup dX3_constants_27 (rv_cat _) ?_
  refine x_iconst (v := 4) dX3_constants_28 (by decide) ?_
  refine x_aload_n 0 dX3_constants_29 rfl ?_
  refine x_gets (v := rv (xGS G 1)) 1 rfl q1744 (by simp [xsv]) dX3_constants_30 ?_
  obtain ⟨g9, hq⟩ := hq
  obtain ⟨g10, g11, hq⟩ := hq
  refine x_callV (Yc := YX3_needSort) (as := [rv (xGS G 1)]) (st := [.int 4, rv a3, rv a3]) q1745 mvX3_needSort g9 rfl dX3_constants_33 (xle (xal1 (rv_cat _) (xal1 (rv_cat _) xal0)) (by decide)) (xfr g10) (xlo (xsw1 rfl (xsw1 (rv_cat _) (xsw1 (rv_cat _) xsw0))) (by decide) g11) (xKr hq (fun x13 h12 hq e14 => ?_) (fun _ _ q _ => q))
  replace hq := hq e14
  have t15 : tg h12 a3 = 16 := e14.tg t8 (by decide)
  obtain ⟨g16, g17, hq⟩ := hq
  refine x_callI (Yc := YX15_init) (as := [.int 4, rv x13]) (st := [rv a3]) q1749 miX15_init (by rw [t15]; decide) rfl dX3_constants_36 (xle (xal1 (rv_cat _) (xal1 rfl (xal1 (rv_cat _) xal0))) (by decide)) (xfr g16) (xlo (xsw1 (rv_cat _) xsw0) (by decide) g17) (xKv hq (fun h18 hq e20 => ?_) (fun _ _ q _ => q))
  replace hq := hq e20
  refine x_astore_n (lv' := [(2, rv a3), (0, rv x0), (1, rv x1)]) dX3_constants_39 (by decide) (by first | rfl | (simp [rv_cat, Value.category]; done) | (simp [rv_cat, Value.category]; decide)) ?_
  refine x_aload_n 1 dX3_constants_40 rfl ?_
  refine x_ldcS (n := 57) 74 srX3_152 dX3_constants_41 ?_
  have t21 : tg h12 x0 = 4 := e14.tg g9 (by decide)
  have t22 : tg h18 x0 = 4 := e20.tg t21 (by decide)
  obtain ⟨g23, g24, hq⟩ := hq
  refine x_callV (Yc := YX3_need) (as := [rv (tx G 57)]) (st := []) q1719 mvX3_need t22 rfl dX3_constants_43 (xle (xal1 (rv_cat _) (xal1 (rv_cat _) xal0)) (by decide)) (xfr g23) (xlo xsw0 (by decide) g24) (xKr hq (fun x26 h25 hq e27 => ?_) (fun _ _ q _ => q))
  replace hq := hq e27
  refine x_pop dX3_constants_46 (rv_cat _) ?_
  refine x_aload_n 2 dX3_constants_47 rfl ?_
  refine x_aload_n 0 dX3_constants_48 rfl ?_
  refine x_aload_n 1 dX3_constants_49 rfl ?_
  have t28 : tg h25 x0 = 4 := e27.tg t22 (by decide)
  obtain ⟨g29, g30, hq⟩ := hq
  refine x_callV (Yc := YX3_constant) (as := []) (st := [rv a3, rv x1]) q1818 mvX3_constant t28 rfl dX3_constants_50 (xle (xal1 (rv_cat _) xal0) (by decide)) (xfr g29) (xlo (xsw1 (rv_cat _) (xsw1 (rv_cat _) xsw0)) (by decide) g30) (xKr hq (fun x32 h31 hq e33 => ?_) (fun _ _ q _ => q))
  replace hq := hq e33
  have t34 : tg h18 a3 = 16 := e20.tg t15 (by decide)
  have t35 : tg h25 a3 = 16 := e27.tg t34 (by decide)
  have t36 : tg h31 a3 = 16 := e33.tg t35 (by decide)
  obtain ⟨g37, g38, hq⟩ := hq
  refine x_callV (Yc := YX15_add) (as := [rv x32]) (st := [rv x1]) q1795 mvX15_add t36 rfl dX3_constants_53 (xle (xal1 (rv_cat _) (xal1 (rv_cat _) xal0)) (by decide)) (xfr g37) (xlo (xsw1 (rv_cat _) xsw0) (by decide) g38) (xKr hq (fun x40 h39 hq e41 => ?_) (fun _ _ q _ => q))
  replace hq := hq e41
  obtain ⟨g42, hq⟩ := hq
  obtain ⟨g43, g44, hq⟩ := hq
  refine x_callV (Yc := YX15_add) (as := [rv x40]) (st := []) q1795 mvX15_add g42 rfl dX3_constants_56 (xle (xal1 (rv_cat _) (xal1 (rv_cat _) xal0)) (by decide)) (xfr g43) (xlo xsw0 (by decide) g44) (xKr hq (fun x46 h45 hq e47 => ?_) (fun _ _ q _ => q))
  replace hq := hq e47
  refine x_pop dX3_constants_59 (rv_cat _) ?_
  refine x_aload_n 1 dX3_constants_60 rfl ?_
  refine x_ldcS (n := 64) 71 srX3_113 dX3_constants_61 ?_
  have t48 : tg h31 x0 = 4 := e33.tg t28 (by decide)
  have t49 : tg h39 x0 = 4 := e41.tg t48 (by decide)
  have t50 : tg h45 x0 = 4 := e47.tg t49 (by decide)
  obtain ⟨g51, g52, hq⟩ := hq
  refine x_callV (Yc := YX3_need) (as := [rv (tx G 64)]) (st := []) q1719 mvX3_need t50 rfl dX3_constants_63 (xle (xal1 (rv_cat _) (xal1 (rv_cat _) xal0)) (by decide)) (xfr g51) (xlo xsw0 (by decide) g52) (xKr hq (fun x54 h53 hq e55 => ?_) (fun _ _ q _ => q))
  replace hq := hq e55
  refine x_pop dX3_constants_66 (rv_cat _) ?_
  refine x_aload_n 1 dX3_constants_67 rfl ?_
  have t56 : tg h53 x0 = 4 := e55.tg t50 (by decide)
  obtain ⟨g57, g58, hq⟩ := hq
  refine x_callV (Yc := YX3_isName) (as := []) (st := []) q1826 mvX3_isName t56 rfl dX3_constants_68 (xle (xal1 (rv_cat _) xal0) (by decide)) (xfr g57) (xlo xsw0 (by decide) g58) (xKi hq (fun x60 h59 hq e61 => ?_) (fun _ _ q _ => q))
  replace hq := hq e61
  refine x_if_ne (tgt := 24) dX3_constants_71 (by decide) (fun c62 => ?_) (fun c62 => ?_)
  · replace hq := hq.1 c62
    refine xP.pick (lv' := [(0, rv x0), (1, rv x1)]) [1, 2] rfl ?_
    exact hq
  · replace hq := hq.2 c62
    refine x_aload_n 2 dX3_constants_74 rfl ?_
    exact x_aret rfl xty_O dX3_constants_75 hq
set_option maxRecDepth 100000 in
def bX3_constants (G : xG) (fr lo : Nat) (x0 : Nat) (h : xH) (Q : Outcome → xH → Prop) : Prop := nx h + 1 ≤ xGN G ∧ us h + 6 ≤ xGU G ∧ (∀ (a3 : Nat) (h4 : xH), a3 = nx h + 1 → h4 = nO h 16 6 → xfresh h a3 → tg h4 x0 = 4 ∧ 1 ≤ fr ∧ 15 ≤ lo ∧ xRv G YX15_init (fr - 1) (lo - 15) [rv a3, .int 0, rv (fR h4 x0 770)] h4 (fun h12 => xext h4 h12 → 1 ≤ fr ∧ 13 ≤ lo ∧ xRi G YX3_has (fr - 1) (lo - 13) [rv x0, rv (tx G 4)] h12 (fun x19 h18 => xext h12 h18 → ((¬ x19 = 0 → lX3_constants_24 G fr lo x0 a3 h18 Q) ∧ (x19 = 0 → Q (.returned (some (rv a3))) h18))) (fun r h2 => Q (.threw r) h2)) (fun r h2 => Q (.threw r) h2))
set_option maxRecDepth 100000 in
theorem uX3_constants {G : xG} {fr lo : Nat} {x0 : Nat} {h : xH} {Q : Outcome → xH → Prop} (hq : bX3_constants G fr lo x0 h Q) : xP G YX3_constants fr lo 0 [(0, rv x0)] [] h Q := by
  unfold bX3_constants at hq
  obtain ⟨g1, g2, hq⟩ := hq
  obtain ⟨a3, e5⟩ : ∃ y, y = nx h + 1 := ⟨_, rfl⟩
  obtain ⟨h4, e6⟩ : ∃ y, y = nO h 16 6 := ⟨_, rfl⟩
  refine x_new' cdX3_71 dX3_constants_0 g1 g2 e5 e6 (fun f7 => ?_)
  replace hq := hq a3 h4 e5 e6 f7
  have t8 : tg h4 a3 = 16 := by rw [e6, e5]; exact tg_nO
  refine x_dup dX3_constants_3 (rv_cat _) ?_
  refine x_iconst (v := 0) dX3_constants_4 (by decide) ?_
  refine x_aload_n 0 dX3_constants_5 rfl ?_
  obtain ⟨g9, hq⟩ := hq
  refine x_get (v := rv (fR h4 x0 770)) fdX3_25 dX3_constants_6 g9 rfl ?_
  obtain ⟨g10, g11, hq⟩ := hq
  refine x_callI (Yc := YX15_init) (as := [.int 0, rv (fR h4 x0 770)]) (st := [rv a3]) q1749 miX15_init (by rw [t8]; decide) rfl dX3_constants_9 (xle (xal1 (rv_cat _) (xal1 rfl (xal1 (rv_cat _) xal0))) (by decide)) (xfr g10) (xlo (xsw1 (rv_cat _) xsw0) (by decide) g11) (xKv hq (fun h12 hq e14 => ?_) (fun _ _ q _ => q))
  replace hq := hq e14
  refine x_astore_n (lv' := [(1, rv a3), (0, rv x0)]) dX3_constants_12 (by decide) (by first | rfl | (simp [rv_cat, Value.category]; done) | (simp [rv_cat, Value.category]; decide)) ?_
  refine x_aload_n 1 dX3_constants_13 rfl ?_
  refine x_ldcS (n := 4) 73 srX3_150 dX3_constants_14 ?_
  have t15 : tg h12 x0 = 4 := e14.tg g9 (by decide)
  obtain ⟨g16, g17, hq⟩ := hq
  refine x_callV (Yc := YX3_has) (as := [rv (tx G 4)]) (st := []) q1783 mvX3_has t15 rfl dX3_constants_16 (xle (xal1 (rv_cat _) (xal1 (rv_cat _) xal0)) (by decide)) (xfr g16) (xlo xsw0 (by decide) g17) (xKi hq (fun x19 h18 hq e20 => ?_) (fun _ _ q _ => q))
  replace hq := hq e20
  refine x_if_ne (tgt := 24) dX3_constants_19 (by decide) (fun c21 => ?_) (fun c21 => ?_)
  · replace hq := hq.1 c21
    refine xP.pick (lv' := [(0, rv x0), (1, rv a3)]) [1, 0] rfl ?_
    exact hq
  · replace hq := hq.2 c21
    refine x_aload_n 0 dX3_constants_22 rfl ?_
    exact x_aret rfl xty_O dX3_constants_23 hq
theorem rX3_constants {G : xG} {fr lo : Nat} {x0 : Nat} {h : xH} {Q : Outcome → xH → Prop} (hq : bX3_constants G fr lo x0 h Q) : xR G YX3_constants fr lo [rv x0] h Q := by
  show xP _ _ _ _ _ (lv_args 0 _) _ _ _
  rw [show lv_args 0 [rv x0] = [(0, rv x0)] from (xla1 (rv_cat _) xla0)]
  exact uX3_constants hq
set_option maxRecDepth 100000 in
theorem dX3_constant_0 : decode cX3_constant 0 = .ok (.aload_n 0, 1) := by decide +kernel
set_option maxRecDepth 100000 in
theorem dX3_constant_1 : decode cX3_constant 1 = .ok (.getfield 25, 3) := by decide +kernel
set_option maxRecDepth 100000 in
theorem dX3_constant_4 : decode cX3_constant 4 = .ok (.getfield 39, 3) := by decide +kernel
set_option maxRecDepth 100000 in
theorem dX3_constant_7 : decode cX3_constant 7 = .ok (.getstatic 193, 3) := by decide +kernel
set_option maxRecDepth 100000 in
theorem dX3_constant_10 : decode cX3_constant 10 = .ok (.if_acmp .ne 16, 3) := by decide +kernel
set_option maxRecDepth 100000 in
theorem dX3_constant_13 : decode cX3_constant 13 = .ok (.new 71, 3) := by decide +kernel
set_option maxRecDepth 100000 in
theorem dX3_constant_16 : decode cX3_constant 16 = .ok (.dup, 1) := by decide +kernel
set_option maxRecDepth 100000 in
theorem dX3_constant_17 : decode cX3_constant 17 = .ok (.iconst 3, 1) := by decide +kernel
set_option maxRecDepth 100000 in
theorem dX3_constant_18 : decode cX3_constant 18 = .ok (.aload_n 0, 1) := by decide +kernel
set_option maxRecDepth 100000 in
theorem dX3_constant_19 : decode cX3_constant 19 = .ok (.invokevirtual 65, 3) := by decide +kernel
set_option maxRecDepth 100000 in
theorem dX3_constant_22 : decode cX3_constant 22 = .ok (.invokespecial 77, 3) := by decide +kernel
set_option maxRecDepth 100000 in
theorem dX3_constant_25 : decode cX3_constant 25 = .ok (.areturn, 1) := by decide +kernel
set_option maxRecDepth 100000 in
theorem dX3_constant_26 : decode cX3_constant 26 = .ok (.aload_n 0, 1) := by decide +kernel
set_option maxRecDepth 100000 in
theorem dX3_constant_27 : decode cX3_constant 27 = .ok (.ldc 196, 2) := by decide +kernel
set_option maxRecDepth 100000 in
theorem dX3_constant_29 : decode cX3_constant 29 = .ok (.invokevirtual 60, 3) := by decide +kernel
set_option maxRecDepth 100000 in
theorem dX3_constant_32 : decode cX3_constant 32 = .ok (.ifCond .ne 12, 3) := by decide +kernel
set_option maxRecDepth 100000 in
theorem dX3_constant_35 : decode cX3_constant 35 = .ok (.aload_n 0, 1) := by decide +kernel
set_option maxRecDepth 100000 in
theorem dX3_constant_36 : decode cX3_constant 36 = .ok (.ldc 198, 2) := by decide +kernel
set_option maxRecDepth 100000 in
theorem dX3_constant_38 : decode cX3_constant 38 = .ok (.invokevirtual 60, 3) := by decide +kernel
set_option maxRecDepth 100000 in
theorem dX3_constant_41 : decode cX3_constant 41 = .ok (.ifCond .eq 18, 3) := by decide +kernel
set_option maxRecDepth 100000 in
theorem dX3_constant_44 : decode cX3_constant 44 = .ok (.new 71, 3) := by decide +kernel
set_option maxRecDepth 100000 in
theorem dX3_constant_47 : decode cX3_constant 47 = .ok (.dup, 1) := by decide +kernel
set_option maxRecDepth 100000 in
theorem dX3_constant_48 : decode cX3_constant 48 = .ok (.iconst 2, 1) := by decide +kernel
set_option maxRecDepth 100000 in
theorem dX3_constant_49 : decode cX3_constant 49 = .ok (.aload_n 0, 1) := by decide +kernel
set_option maxRecDepth 100000 in
theorem dX3_constant_50 : decode cX3_constant 50 = .ok (.invokevirtual 65, 3) := by decide +kernel
set_option maxRecDepth 100000 in
theorem dX3_constant_53 : decode cX3_constant 53 = .ok (.invokespecial 77, 3) := by decide +kernel
set_option maxRecDepth 100000 in
theorem dX3_constant_56 : decode cX3_constant 56 = .ok (.goto 4, 3) := by decide +kernel
set_option maxRecDepth 100000 in
theorem dX3_constant_59 : decode cX3_constant 59 = .ok (.aconst_null, 1) := by decide +kernel
set_option maxRecDepth 100000 in
theorem dX3_constant_60 : decode cX3_constant 60 = .ok (.astore_n 1, 1) := by decide +kernel
set_option maxRecDepth 100000 in
theorem dX3_constant_61 : decode cX3_constant 61 = .ok (.aload_n 0, 1) := by decide +kernel
set_option maxRecDepth 100000 in
theorem dX3_constant_62 : decode cX3_constant 62 = .ok (.getfield 25, 3) := by decide +kernel
set_option maxRecDepth 100000 in
theorem dX3_constant_65 : decode cX3_constant 65 = .ok (.getfield 39, 3) := by decide +kernel
set_option maxRecDepth 100000 in
theorem dX3_constant_68 : decode cX3_constant 68 = .ok (.getstatic 128, 3) := by decide +kernel
set_option maxRecDepth 100000 in
theorem dX3_constant_71 : decode cX3_constant 71 = .ok (.if_acmp .eq 34, 3) := by decide +kernel
set_option maxRecDepth 100000 in
theorem dX3_constant_74 : decode cX3_constant 74 = .ok (.aload_n 0, 1) := by decide +kernel
set_option maxRecDepth 100000 in
theorem dX3_constant_75 : decode cX3_constant 75 = .ok (.getfield 25, 3) := by decide +kernel
set_option maxRecDepth 100000 in
theorem dX3_constant_78 : decode cX3_constant 78 = .ok (.getfield 39, 3) := by decide +kernel
set_option maxRecDepth 100000 in
theorem dX3_constant_81 : decode cX3_constant 81 = .ok (.getstatic 200, 3) := by decide +kernel
set_option maxRecDepth 100000 in
theorem dX3_constant_84 : decode cX3_constant 84 = .ok (.if_acmp .eq 21, 3) := by decide +kernel
set_option maxRecDepth 100000 in
theorem dX3_constant_87 : decode cX3_constant 87 = .ok (.aload_n 0, 1) := by decide +kernel
set_option maxRecDepth 100000 in
theorem dX3_constant_88 : decode cX3_constant 88 = .ok (.getfield 25, 3) := by decide +kernel
set_option maxRecDepth 100000 in
theorem dX3_constant_91 : decode cX3_constant 91 = .ok (.getfield 39, 3) := by decide +kernel
set_option maxRecDepth 100000 in
theorem dX3_constant_94 : decode cX3_constant 94 = .ok (.getstatic 43, 3) := by decide +kernel
set_option maxRecDepth 100000 in
theorem dX3_constant_97 : decode cX3_constant 97 = .ok (.if_acmp .eq 8, 3) := by decide +kernel
set_option maxRecDepth 100000 in
theorem dX3_constant_100 : decode cX3_constant 100 = .ok (.aload_n 0, 1) := by decide +kernel
set_option maxRecDepth 100000 in
theorem dX3_constant_101 : decode cX3_constant 101 = .ok (.invokevirtual 61, 3) := by decide +kernel
set_option maxRecDepth 100000 in
theorem dX3_constant_104 : decode cX3_constant 104 = .ok (.athrow, 1) := by decide +kernel
set_option maxRecDepth 100000 in
theorem dX3_constant_105 : decode cX3_constant 105 = .ok (.new 71, 3) := by decide +kernel
set_option maxRecDepth 100000 in
theorem dX3_constant_108 : decode cX3_constant 108 = .ok (.dup, 1) := by decide +kernel
set_option maxRecDepth 100000 in
theorem dX3_constant_109 : decode cX3_constant 109 = .ok (.iconst 3, 1) := by decide +kernel
set_option maxRecDepth 100000 in
theorem dX3_constant_110 : decode cX3_constant 110 = .ok (.aload_n 0, 1) := by decide +kernel
set_option maxRecDepth 100000 in
theorem dX3_constant_111 : decode cX3_constant 111 = .ok (.invokevirtual 65, 3) := by decide +kernel
set_option maxRecDepth 100000 in
theorem dX3_constant_114 : decode cX3_constant 114 = .ok (.invokespecial 77, 3) := by decide +kernel
set_option maxRecDepth 100000 in
theorem dX3_constant_117 : decode cX3_constant 117 = .ok (.astore_n 2, 1) := by decide +kernel
set_option maxRecDepth 100000 in
theorem dX3_constant_118 : decode cX3_constant 118 = .ok (.aload_n 1, 1) := by decide +kernel
set_option maxRecDepth 100000 in
theorem dX3_constant_119 : decode cX3_constant 119 = .ok (.ifnonnull 7, 3) := by decide +kernel
set_option maxRecDepth 100000 in
theorem dX3_constant_122 : decode cX3_constant 122 = .ok (.aload_n 2, 1) := by decide +kernel
set_option maxRecDepth 100000 in
theorem dX3_constant_123 : decode cX3_constant 123 = .ok (.goto 8, 3) := by decide +kernel
set_option maxRecDepth 100000 in
theorem dX3_constant_126 : decode cX3_constant 126 = .ok (.aload_n 2, 1) := by decide +kernel
set_option maxRecDepth 100000 in
theorem dX3_constant_127 : decode cX3_constant 127 = .ok (.aload_n 1, 1) := by decide +kernel
set_option maxRecDepth 100000 in
theorem dX3_constant_128 : decode cX3_constant 128 = .ok (.invokevirtual 84, 3) := by decide +kernel
set_option maxRecDepth 100000 in
theorem dX3_constant_131 : decode cX3_constant 131 = .ok (.areturn, 1) := by decide +kernel
set_option maxRecDepth 100000 in
def bX3_constant_131 (G : xG) (fr lo : Nat) (s0 : Nat) (h : xH) (Q : Outcome → xH → Prop) : Prop := Q (.returned (some (rv s0))) h
set_option maxRecDepth 100000 in
theorem uX3_constant_131 {G : xG} {fr lo : Nat} {s0 : Nat} {h : xH} {Q : Outcome → xH → Prop} (hq : bX3_constant_131 G fr lo s0 h Q) : xP G YX3_constant fr lo 131 [] [rv s0] h Q := by
  unfold bX3_constant_131 at hq
  exact x_aret rfl xty_O dX3_constant_131 hq
set_option maxRecDepth 100000 in
def bX3_constant_105 (G : xG) (fr lo : Nat) (x0 : Nat) (x1 : Nat) (h : xH) (Q : Outcome → xH → Prop) : Prop := nx h + 1 ≤ xGN G ∧ us h + 6 ≤ xGU G ∧ (∀ (a3 : Nat) (h4 : xH), a3 = nx h + 1 → h4 = nO h 16 6 → xfresh h a3 → tg h4 x0 = 4 ∧ 1 ≤ fr ∧ 16 ≤ lo ∧ xRr G YX3_take (fr - 1) (lo - 16) [rv x0] h4 (fun x13 h12 => xext h4 h12 → 1 ≤ fr ∧ 15 ≤ lo ∧ xRv G YX15_init (fr - 1) (lo - 15) [rv a3, .int 3, rv x13] h12 (fun h18 => xext h12 h18 → ((¬ x1 = 0 → 1 ≤ fr ∧ 13 ≤ lo ∧ xRr G YX15_add (fr - 1) (lo - 13) [rv a3, rv x1] h18 (fun x26 h25 => xext h18 h25 → bX3_constant_131 G fr lo x26 h25 Q) (fun r h2 => Q (.threw r) h2)) ∧ (x1 = 0 → bX3_constant_131 G fr lo a3 h18 Q))) (fun r h2 => Q (.threw r) h2)) (fun r h2 => Q (.threw r) h2))
set_option maxRecDepth 100000 in
theorem uX3_constant_105 {G : xG} {fr lo : Nat} {x0 : Nat} {x1 : Nat} {h : xH} {Q : Outcome → xH → Prop} (hq : bX3_constant_105 G fr lo x0 x1 h Q) : xP G YX3_constant fr lo 105 [(0, rv x0), (1, rv x1)] [] h Q := by
  unfold bX3_constant_105 at hq
  obtain ⟨g1, g2, hq⟩ := hq
  obtain ⟨a3, e5⟩ : ∃ y, y = nx h + 1 := ⟨_, rfl⟩
  obtain ⟨h4, e6⟩ : ∃ y, y = nO h 16 6 := ⟨_, rfl⟩
  refine x_new' cdX3_71 dX3_constant_105 g1 g2 e5 e6 (fun f7 => ?_)
  replace hq := hq a3 h4 e5 e6 f7
  have t8 : tg h4 a3 = 16 := by rw [e6, e5]; exact tg_nO
  refine x_dup dX3_constant_108 (rv_cat _) ?_
  refine x_iconst (v := 3) dX3_constant_109 (by decide) ?_
  refine x_aload_n 0 dX3_constant_110 rfl ?_
  obtain ⟨g9, hq⟩ := hq
  obtain ⟨g10, g11, hq⟩ := hq
  refine x_callV (Yc := YX3_take) (as := []) (st := [.int 3, rv a3, rv a3]) q1738 mvX3_take g9 rfl dX3_constant_111 (xle (xal1 (rv_cat _) xal0) (by decide)) (xfr g10) (xlo (xsw1 rfl (xsw1 (rv_cat _) (xsw1 (rv_cat _) xsw0))) (by decide) g11) (xKr hq (fun x13 h12 hq e14 => ?_) (fun _ _ q _ => q))
  replace hq := hq e14
  have t15 : tg h12 a3 = 16 := e14.tg t8 (by decide)
  obtain ⟨g16, g17, hq⟩ := hq
  refine x_callI (Yc := YX15_init) (as := [.int 3, rv x13]) (st := [rv a3]) q1749 miX15_init (by rw [t15]; decide) rfl dX3_constant_114 (xle (xal1 (rv_cat _) (xal1 rfl (xal1 (rv_cat _) xal0))) (by decide)) (xfr g16) (xlo (xsw1 (rv_cat _) xsw0) (by decide) g17) (xKv hq (fun h18 hq e20 => ?_) (fun _ _ q _ => q))
  replace hq := hq e20
  refine x_astore_n (lv' := [(2, rv a3), (0, rv x0), (1, rv x1)]) dX3_constant_117 (by decide) (by first | rfl | (simp [rv_cat, Value.category]; done) | (simp [rv_cat, Value.category]; decide)) ?_
  refine x_aload_n 2 dX3_constant_118 rfl ?_
  refine x_ifnonnull (tgt := 126) dX3_constant_119 (by decide) (fun c21 => ?_) (fun c21 => ?_)
  · replace hq := hq.1 c21
    refine x_aload_n 0 dX3_constant_126 rfl ?_
    refine x_aload_n 2 dX3_constant_127 rfl ?_
    have t22 : tg h18 a3 = 16 := e20.tg t15 (by decide)
    obtain ⟨g23, g24, hq⟩ := hq
    refine x_callV (Yc := YX15_add) (as := [rv x1]) (st := []) q1795 mvX15_add t22 rfl dX3_constant_128 (xle (xal1 (rv_cat _) (xal1 (rv_cat _) xal0)) (by decide)) (xfr g23) (xlo xsw0 (by decide) g24) (xKr hq (fun x26 h25 hq e27 => ?_) (fun _ _ q _ => q))
    replace hq := hq e27
    refine xP.pick (lv' := []) [] rfl ?_
    exact uX3_constant_131 hq
  · replace hq := hq.2 c21
    refine x_aload_n 0 dX3_constant_122 rfl ?_
    refine x_goto (tgt := 131) dX3_constant_123 (by decide) ?_
    refine xP.pick (lv' := []) [] rfl ?_
    exact uX3_constant_131 hq
set_option maxRecDepth 100000 in
def bX3_constant_60 (G : xG) (fr lo : Nat) (x0 : Nat) (s0 : Nat) (h : xH) (Q : Outcome → xH → Prop) : Prop := tg h x0 = 4 ∧ tg h (fR h x0 770) = 15 ∧ (((fR h (fR h x0 770) 3584) = (xGS G 2) → bX3_constant_105 G fr lo x0 s0 h Q) ∧ (¬ (fR h (fR h x0 770) 3584) = (xGS G 2) → (((fR h (fR h x0 770) 3584) = (xGS G 3) → bX3_constant_105 G fr lo x0 s0 h Q) ∧ (¬ (fR h (fR h x0 770) 3584) = (xGS G 3) → (((fR h (fR h x0 770) 3584) = (xGS G 1) → bX3_constant_105 G fr lo x0 s0 h Q) ∧ (¬ (fR h (fR h x0 770) 3584) = (xGS G 1) → 1 ≤ fr ∧ 12 ≤ lo ∧ xRr G YX3_wrong (fr - 1) (lo - 12) [rv x0] h (fun x9 h8 => xext h h8 → (∃ r11, x9 = r11 + 1 ∧ Q (.threw r11) h8)) (fun r h2 => Q (.threw r) h2)))))))
set_option maxRecDepth 100000 in
theorem uX3_constant_60 {G : xG} {fr lo : Nat} {x0 : Nat} {s0 : Nat} {h : xH} {Q : Outcome → xH → Prop} (hq : bX3_constant_60 G fr lo x0 s0 h Q) : xP G YX3_constant fr lo 60 [(0, rv x0)] [rv s0] h Q := by
  unfold bX3_constant_60 at hq
  refine x_astore_n (lv' := [(1, rv s0), (0, rv x0)]) dX3_constant_60 (by decide) (by first | rfl | (simp [rv_cat, Value.category]; done) | (simp [rv_cat, Value.category]; decide)) ?_
  refine x_aload_n 1 dX3_constant_61 rfl ?_
  obtain ⟨g1, hq⟩ := hq
  refine x_get (v := rv (fR h x0 770)) fdX3_25 dX3_constant_62 g1 rfl ?_
  obtain ⟨g2, hq⟩ := hq
  refine x_getN (v := rv (fR h (fR h x0 770) 3584)) gfX3_39 dX3_constant_65 g2 rfl ?_
  refine x_gets (v := rv (xGS G 2)) 2 rfl q1811 (by simp [xsv]) dX3_constant_68 ?_
  refine x_acmp_eq (tgt := 105) dX3_constant_71 (by decide) (fun c3 => ?_) (fun c3 => ?_)
  · replace hq := hq.1 c3
    refine xP.pick (lv' := [(0, rv x0), (1, rv s0)]) [1, 0] rfl ?_
    exact uX3_constant_105 hq
  · replace hq := hq.2 c3
    refine x_aload_n 1 dX3_constant_74 rfl ?_
    refine x_get (v := rv (fR h x0 770)) fdX3_25 dX3_constant_75 g1 rfl ?_
    refine x_getN (v := rv (fR h (fR h x0 770) 3584)) gfX3_39 dX3_constant_78 g2 rfl ?_
    refine x_gets (v := rv (xGS G 3)) 3 rfl q1825 (by simp [xsv]) dX3_constant_81 ?_
    refine x_acmp_eq (tgt := 105) dX3_constant_84 (by decide) (fun c4 => ?_) (fun c4 => ?_)
    · replace hq := hq.1 c4
      refine xP.pick (lv' := [(0, rv x0), (1, rv s0)]) [1, 0] rfl ?_
      exact uX3_constant_105 hq
    · replace hq := hq.2 c4
      refine x_aload_n 1 dX3_constant_87 rfl ?_
      refine x_get (v := rv (fR h x0 770)) fdX3_25 dX3_constant_88 g1 rfl ?_
      refine x_getN (v := rv (fR h (fR h x0 770) 3584)) gfX3_39 dX3_constant_91 g2 rfl ?_
      refine x_gets (v := rv (xGS G 1)) 1 rfl q1744 (by simp [xsv]) dX3_constant_94 ?_
      refine x_acmp_eq (tgt := 105) dX3_constant_97 (by decide) (fun c5 => ?_) (fun c5 => ?_)
      · replace hq := hq.1 c5
        refine xP.pick (lv' := [(0, rv x0), (1, rv s0)]) [1, 0] rfl ?_
        exact uX3_constant_105 hq
      · replace hq := hq.2 c5
        refine x_aload_n 1 dX3_constant_100 rfl ?_
        obtain ⟨g6, g7, hq⟩ := hq
        refine x_callV (Yc := YX3_wrong) (as := []) (st := []) q1733 mvX3_wrong g1 rfl dX3_constant_101 (xle (xal1 (rv_cat _) xal0) (by decide)) (xfr g6) (xlo xsw0 (by decide) g7) (xKr hq (fun x9 h8 hq e10 => ?_) (fun _ _ q _ => q))
        replace hq := hq e10
        obtain ⟨r11, g12, hq⟩ := hq
        rw [g12]
        exact x_athrow dX3_constant_104 hq
set_option maxRecDepth 100000 in
def bX3_constant_44 (G : xG) (fr lo : Nat) (x0 : Nat) (h : xH) (Q : Outcome → xH → Prop) : Prop := nx h + 1 ≤ xGN G ∧ us h + 6 ≤ xGU G ∧ (∀ (a3 : Nat) (h4 : xH), a3 = nx h + 1 → h4 = nO h 16 6 → xfresh h a3 → tg h4 x0 = 4 ∧ 1 ≤ fr ∧ 16 ≤ lo ∧ xRr G YX3_take (fr - 1) (lo - 16) [rv x0] h4 (fun x13 h12 => xext h4 h12 → 1 ≤ fr ∧ 15 ≤ lo ∧ xRv G YX15_init (fr - 1) (lo - 15) [rv a3, .int 2, rv x13] h12 (fun h18 => xext h12 h18 → bX3_constant_60 G fr lo x0 a3 h18 Q) (fun r h2 => Q (.threw r) h2)) (fun r h2 => Q (.threw r) h2))
set_option maxRecDepth 100000 in
theorem uX3_constant_44 {G : xG} {fr lo : Nat} {x0 : Nat} {h : xH} {Q : Outcome → xH → Prop} (hq : bX3_constant_44 G fr lo x0 h Q) : xP G YX3_constant fr lo 44 [(0, rv x0)] [] h Q := by
  unfold bX3_constant_44 at hq
  obtain ⟨g1, g2, hq⟩ := hq
  obtain ⟨a3, e5⟩ : ∃ y, y = nx h + 1 := ⟨_, rfl⟩
  obtain ⟨h4, e6⟩ : ∃ y, y = nO h 16 6 := ⟨_, rfl⟩
  refine x_new' cdX3_71 dX3_constant_44 g1 g2 e5 e6 (fun f7 => ?_)
  replace hq := hq a3 h4 e5 e6 f7
  have t8 : tg h4 a3 = 16 := by rw [e6, e5]; exact tg_nO
  refine x_dup dX3_constant_47 (rv_cat _) ?_
  refine x_iconst (v := 2) dX3_constant_48 (by decide) ?_
  refine x_aload_n 0 dX3_constant_49 rfl ?_
  obtain ⟨g9, hq⟩ := hq
  obtain ⟨g10, g11, hq⟩ := hq
  refine x_callV (Yc := YX3_take) (as := []) (st := [.int 2, rv a3, rv a3]) q1738 mvX3_take g9 rfl dX3_constant_50 (xle (xal1 (rv_cat _) xal0) (by decide)) (xfr g10) (xlo (xsw1 rfl (xsw1 (rv_cat _) (xsw1 (rv_cat _) xsw0))) (by decide) g11) (xKr hq (fun x13 h12 hq e14 => ?_) (fun _ _ q _ => q))
  replace hq := hq e14
  have t15 : tg h12 a3 = 16 := e14.tg t8 (by decide)
  obtain ⟨g16, g17, hq⟩ := hq
  refine x_callI (Yc := YX15_init) (as := [.int 2, rv x13]) (st := [rv a3]) q1749 miX15_init (by rw [t15]; decide) rfl dX3_constant_53 (xle (xal1 (rv_cat _) (xal1 rfl (xal1 (rv_cat _) xal0))) (by decide)) (xfr g16) (xlo (xsw1 (rv_cat _) xsw0) (by decide) g17) (xKv hq (fun h18 hq e20 => ?_) (fun _ _ q _ => q))
  replace hq := hq e20
  refine x_goto (tgt := 60) dX3_constant_56 (by decide) ?_
  exact uX3_constant_60 hq
set_option maxRecDepth 100000 in
def bX3_constant (G : xG) (fr lo : Nat) (x0 : Nat) (h : xH) (Q : Outcome → xH → Prop) : Prop := tg h x0 = 4 ∧ tg h (fR h x0 770) = 15 ∧ ((¬ (fR h (fR h x0 770) 3584) = (xGS G 4) → 1 ≤ fr ∧ 13 ≤ lo ∧ xRi G YX3_is (fr - 1) (lo - 13) [rv x0, rv (tx G 53)] h (fun x7 h6 => xext h h6 → ((¬ x7 = 0 → bX3_constant_44 G fr lo x0 h6 Q) ∧ (x7 = 0 → 1 ≤ fr ∧ 13 ≤ lo ∧ xRi G YX3_is (fr - 1) (lo - 13) [rv x0, rv (tx G 54)] h6 (fun x14 h13 => xext h6 h13 → ((x14 = 0 → bX3_constant_60 G fr lo x0 0 h13 Q) ∧ (¬ x14 = 0 → bX3_constant_44 G fr lo x0 h13 Q))) (fun r h2 => Q (.threw r) h2)))) (fun r h2 => Q (.threw r) h2)) ∧ ((fR h (fR h x0 770) 3584) = (xGS G 4) → nx h + 1 ≤ xGN G ∧ us h + 6 ≤ xGU G ∧ (∀ (a19 : Nat) (h20 : xH), a19 = nx h + 1 → h20 = nO h 16 6 → xfresh h a19 → 1 ≤ fr ∧ 16 ≤ lo ∧ xRr G YX3_take (fr - 1) (lo - 16) [rv x0] h20 (fun x29 h28 => xext h20 h28 → 1 ≤ fr ∧ 15 ≤ lo ∧ xRv G YX15_init (fr - 1) (lo - 15) [rv a19, .int 3, rv x29] h28 (fun h34 => xext h28 h34 → Q (.returned (some (rv a19))) h34) (fun r h2 => Q (.threw r) h2)) (fun r h2 => Q (.threw r) h2))))
set_option maxRecDepth 100000 in
theorem uX3_constant {G : xG} {fr lo : Nat} {x0 : Nat} {h : xH} {Q : Outcome → xH → Prop} (hq : bX3_constant G fr lo x0 h Q) : xP G YX3_constant fr lo 0 [(0, rv x0)] [] h Q := by
  unfold bX3_constant at hq
  refine x_aload_n 0 dX3_constant_0 rfl ?_
  obtain ⟨g1, hq⟩ := hq
  refine x_get (v := rv (fR h x0 770)) fdX3_25 dX3_constant_1 g1 rfl ?_
  obtain ⟨g2, hq⟩ := hq
  refine x_getN (v := rv (fR h (fR h x0 770) 3584)) gfX3_39 dX3_constant_4 g2 rfl ?_
  refine x_gets (v := rv (xGS G 4)) 4 rfl q1822 (by simp [xsv]) dX3_constant_7 ?_
  refine x_acmp_ne (tgt := 26) dX3_constant_10 (by decide) (fun c3 => ?_) (fun c3 => ?_)
  · replace hq := hq.1 c3
    refine x_aload_n 0 dX3_constant_26 rfl ?_
    refine x_ldcS (n := 53) 75 srX3_196 dX3_constant_27 ?_
    obtain ⟨g4, g5, hq⟩ := hq
    refine x_callV (Yc := YX3_is) (as := [rv (tx G 53)]) (st := []) q1723 mvX3_is g1 rfl dX3_constant_29 (xle (xal1 (rv_cat _) (xal1 (rv_cat _) xal0)) (by decide)) (xfr g4) (xlo xsw0 (by decide) g5) (xKi hq (fun x7 h6 hq e8 => ?_) (fun _ _ q _ => q))
    replace hq := hq e8
    refine x_if_ne (tgt := 44) dX3_constant_32 (by decide) (fun c9 => ?_) (fun c9 => ?_)
    · replace hq := hq.1 c9
      exact uX3_constant_44 hq
    · replace hq := hq.2 c9
      refine x_aload_n 0 dX3_constant_35 rfl ?_
      refine x_ldcS (n := 54) 76 srX3_198 dX3_constant_36 ?_
      have t10 : tg h6 x0 = 4 := e8.tg g1 (by decide)
      obtain ⟨g11, g12, hq⟩ := hq
      refine x_callV (Yc := YX3_is) (as := [rv (tx G 54)]) (st := []) q1723 mvX3_is t10 rfl dX3_constant_38 (xle (xal1 (rv_cat _) (xal1 (rv_cat _) xal0)) (by decide)) (xfr g11) (xlo xsw0 (by decide) g12) (xKi hq (fun x14 h13 hq e15 => ?_) (fun _ _ q _ => q))
      replace hq := hq e15
      refine x_if_eq (tgt := 59) dX3_constant_41 (by decide) (fun c16 => ?_) (fun c16 => ?_)
      · replace hq := hq.1 c16
        refine x_null dX3_constant_59 ?_
        exact uX3_constant_60 hq
      · replace hq := hq.2 c16
        exact uX3_constant_44 hq
  · replace hq := hq.2 c3
    obtain ⟨g17, g18, hq⟩ := hq
    obtain ⟨a19, e21⟩ : ∃ y, y = nx h + 1 := ⟨_, rfl⟩
    obtain ⟨h20, e22⟩ : ∃ y, y = nO h 16 6 := ⟨_, rfl⟩
    refine x_new' cdX3_71 dX3_constant_13 g17 g18 e21 e22 (fun f23 => ?_)
    replace hq := hq a19 h20 e21 e22 f23
    have t24 : tg h20 a19 = 16 := by rw [e22, e21]; exact tg_nO
    refine x_dup dX3_constant_16 (rv_cat _) ?_
    refine x_iconst (v := 3) dX3_constant_17 (by decide) ?_
    refine x_aload_n 0 dX3_constant_18 rfl ?_
    have t25 : tg h20 x0 = 4 := by rw [e22]; exact tg_nO_ne e21 f23 g1 (by decide)
    obtain ⟨g26, g27, hq⟩ := hq
    refine x_callV (Yc := YX3_take) (as := []) (st := [.int 3, rv a19, rv a19]) q1738 mvX3_take t25 rfl dX3_constant_19 (xle (xal1 (rv_cat _) xal0) (by decide)) (xfr g26) (xlo (xsw1 rfl (xsw1 (rv_cat _) (xsw1 (rv_cat _) xsw0))) (by decide) g27) (xKr hq (fun x29 h28 hq e30 => ?_) (fun _ _ q _ => q))
    replace hq := hq e30
    have t31 : tg h28 a19 = 16 := e30.tg t24 (by decide)
    obtain ⟨g32, g33, hq⟩ := hq
    refine x_callI (Yc := YX15_init) (as := [.int 3, rv x29]) (st := [rv a19]) q1749 miX15_init (by rw [t31]; decide) rfl dX3_constant_22 (xle (xal1 (rv_cat _) (xal1 rfl (xal1 (rv_cat _) xal0))) (by decide)) (xfr g32) (xlo (xsw1 (rv_cat _) xsw0) (by decide) g33) (xKv hq (fun h34 hq e36 => ?_) (fun _ _ q _ => q))
    replace hq := hq e36
    exact x_aret rfl xty_O dX3_constant_25 hq
theorem rX3_constant {G : xG} {fr lo : Nat} {x0 : Nat} {h : xH} {Q : Outcome → xH → Prop} (hq : bX3_constant G fr lo x0 h Q) : xR G YX3_constant fr lo [rv x0] h Q := by
  show xP _ _ _ _ _ (lv_args 0 _) _ _ _
  rw [show lv_args 0 [rv x0] = [(0, rv x0)] from (xla1 (rv_cat _) xla0)]
  exact uX3_constant hq
set_option maxRecDepth 100000 in
theorem dX3_isName_0 : decode cX3_isName 0 = .ok (.aload_n 0, 1) := by decide +kernel
set_option maxRecDepth 100000 in
theorem dX3_isName_1 : decode cX3_isName 1 = .ok (.getfield 25, 3) := by decide +kernel
set_option maxRecDepth 100000 in
theorem dX3_isName_4 : decode cX3_isName 4 = .ok (.getfield 39, 3) := by decide +kernel
set_option maxRecDepth 100000 in
theorem dX3_isName_7 : decode cX3_isName 7 = .ok (.getstatic 43, 3) := by decide +kernel
set_option maxRecDepth 100000 in
theorem dX3_isName_10 : decode cX3_isName 10 = .ok (.if_acmp .ne 7, 3) := by decide +kernel
set_option maxRecDepth 100000 in
theorem dX3_isName_13 : decode cX3_isName 13 = .ok (.iconst 1, 1) := by decide +kernel
set_option maxRecDepth 100000 in
theorem dX3_isName_14 : decode cX3_isName 14 = .ok (.goto 4, 3) := by decide +kernel
set_option maxRecDepth 100000 in
theorem dX3_isName_17 : decode cX3_isName 17 = .ok (.iconst 0, 1) := by decide +kernel
set_option maxRecDepth 100000 in
theorem dX3_isName_18 : decode cX3_isName 18 = .ok (.ireturn, 1) := by decide +kernel
set_option maxRecDepth 100000 in
def bX3_isName_18 (G : xG) (fr lo : Nat) (s0 : Int32) (h : xH) (Q : Outcome → xH → Prop) : Prop := xbz s0 ∧ Q (.returned (some (.int s0))) h
set_option maxRecDepth 100000 in
theorem uX3_isName_18 {G : xG} {fr lo : Nat} {s0 : Int32} {h : xH} {Q : Outcome → xH → Prop} (hq : bX3_isName_18 G fr lo s0 h Q) : xP G YX3_isName fr lo 18 [] [.int s0] h Q := by
  unfold bX3_isName_18 at hq
  obtain ⟨g1, hq⟩ := hq
  exact x_iret rfl (xnZ g1) dX3_isName_18 hq
set_option maxRecDepth 100000 in
def bX3_isName (G : xG) (fr lo : Nat) (x0 : Nat) (h : xH) (Q : Outcome → xH → Prop) : Prop := tg h x0 = 4 ∧ tg h (fR h x0 770) = 15 ∧ ((¬ (fR h (fR h x0 770) 3584) = (xGS G 1) → bX3_isName_18 G fr lo 0 h Q) ∧ ((fR h (fR h x0 770) 3584) = (xGS G 1) → bX3_isName_18 G fr lo 1 h Q))
set_option maxRecDepth 100000 in
theorem uX3_isName {G : xG} {fr lo : Nat} {x0 : Nat} {h : xH} {Q : Outcome → xH → Prop} (hq : bX3_isName G fr lo x0 h Q) : xP G YX3_isName fr lo 0 [(0, rv x0)] [] h Q := by
  unfold bX3_isName at hq
  refine x_aload_n 0 dX3_isName_0 rfl ?_
  obtain ⟨g1, hq⟩ := hq
  refine x_get (v := rv (fR h x0 770)) fdX3_25 dX3_isName_1 g1 rfl ?_
  obtain ⟨g2, hq⟩ := hq
  refine x_getN (v := rv (fR h (fR h x0 770) 3584)) gfX3_39 dX3_isName_4 g2 rfl ?_
  refine x_gets (v := rv (xGS G 1)) 1 rfl q1744 (by simp [xsv]) dX3_isName_7 ?_
  refine x_acmp_ne (tgt := 17) dX3_isName_10 (by decide) (fun c3 => ?_) (fun c3 => ?_)
  · replace hq := hq.1 c3
    refine x_iconst (v := 0) dX3_isName_17 (by decide) ?_
    refine xP.pick (lv' := []) [] rfl ?_
    exact uX3_isName_18 hq
  · replace hq := hq.2 c3
    refine x_iconst (v := 1) dX3_isName_13 (by decide) ?_
    refine x_goto (tgt := 18) dX3_isName_14 (by decide) ?_
    refine xP.pick (lv' := []) [] rfl ?_
    exact uX3_isName_18 hq
theorem rX3_isName {G : xG} {fr lo : Nat} {x0 : Nat} {h : xH} {Q : Outcome → xH → Prop} (hq : bX3_isName G fr lo x0 h Q) : xR G YX3_isName fr lo [rv x0] h Q := by
  show xP _ _ _ _ _ (lv_args 0 _) _ _ _
  rw [show lv_args 0 [rv x0] = [(0, rv x0)] from (xla1 (rv_cat _) xla0)]
  exact uX3_isName hq
set_option maxRecDepth 100000 in
theorem dX3_types_0 : decode cX3_types 0 = .ok (.new 71, 3) := by decide +kernel
set_option maxRecDepth 100000 in
theorem dX3_types_3 : decode cX3_types 3 = .ok (.dup, 1) := by decide +kernel
set_option maxRecDepth 100000 in
theorem dX3_types_4 : decode cX3_types 4 = .ok (.iconst 0, 1) := by decide +kernel
set_option maxRecDepth 100000 in
theorem dX3_types_5 : decode cX3_types 5 = .ok (.aload_n 0, 1) := by decide +kernel
set_option maxRecDepth 100000 in
theorem dX3_types_6 : decode cX3_types 6 = .ok (.getfield 25, 3) := by decide +kernel
set_option maxRecDepth 100000 in
theorem dX3_types_9 : decode cX3_types 9 = .ok (.invokespecial 77, 3) := by decide +kernel
set_option maxRecDepth 100000 in
theorem dX3_types_12 : decode cX3_types 12 = .ok (.astore_n 1, 1) := by decide +kernel
set_option maxRecDepth 100000 in
theorem dX3_types_13 : decode cX3_types 13 = .ok (.aload_n 0, 1) := by decide +kernel
set_option maxRecDepth 100000 in
theorem dX3_types_14 : decode cX3_types 14 = .ok (.ldc 161, 2) := by decide +kernel
set_option maxRecDepth 100000 in
theorem dX3_types_16 : decode cX3_types 16 = .ok (.invokevirtual 90, 3) := by decide +kernel
set_option maxRecDepth 100000 in
theorem dX3_types_19 : decode cX3_types 19 = .ok (.ifCond .ne 5, 3) := by decide +kernel
set_option maxRecDepth 100000 in
theorem dX3_types_22 : decode cX3_types 22 = .ok (.aload_n 1, 1) := by decide +kernel
set_option maxRecDepth 100000 in
theorem dX3_types_23 : decode cX3_types 23 = .ok (.areturn, 1) := by decide +kernel
set_option maxRecDepth 100000 in
theorem dX3_types_24 : decode cX3_types 24 = .ok (.new 71, 3) := by decide +kernel
set_option maxRecDepth 100000 in
theorem dX3_types_27 : decode cX3_types 27 = .ok (.dup, 1) := by decide +kernel
set_option maxRecDepth 100000 in
theorem dX3_types_28 : decode cX3_types 28 = .ok (.iconst 4, 1) := by decide +kernel
set_option maxRecDepth 100000 in
theorem dX3_types_29 : decode cX3_types 29 = .ok (.aload_n 0, 1) := by decide +kernel
set_option maxRecDepth 100000 in
theorem dX3_types_30 : decode cX3_types 30 = .ok (.getstatic 43, 3) := by decide +kernel
set_option maxRecDepth 100000 in
theorem dX3_types_33 : decode cX3_types 33 = .ok (.invokevirtual 73, 3) := by decide +kernel
set_option maxRecDepth 100000 in
theorem dX3_types_36 : decode cX3_types 36 = .ok (.invokespecial 77, 3) := by decide +kernel
set_option maxRecDepth 100000 in
theorem dX3_types_39 : decode cX3_types 39 = .ok (.astore_n 2, 1) := by decide +kernel
set_option maxRecDepth 100000 in
theorem dX3_types_40 : decode cX3_types 40 = .ok (.aload_n 0, 1) := by decide +kernel
set_option maxRecDepth 100000 in
theorem dX3_types_41 : decode cX3_types 41 = .ok (.ldc 152, 2) := by decide +kernel
set_option maxRecDepth 100000 in
theorem dX3_types_43 : decode cX3_types 43 = .ok (.invokevirtual 99, 3) := by decide +kernel
set_option maxRecDepth 100000 in
theorem dX3_types_46 : decode cX3_types 46 = .ok (.pop, 1) := by decide +kernel
set_option maxRecDepth 100000 in
theorem dX3_types_47 : decode cX3_types 47 = .ok (.aload_n 1, 1) := by decide +kernel
set_option maxRecDepth 100000 in
theorem dX3_types_48 : decode cX3_types 48 = .ok (.aload_n 2, 1) := by decide +kernel
set_option maxRecDepth 100000 in
theorem dX3_types_49 : decode cX3_types 49 = .ok (.aload_n 0, 1) := by decide +kernel
set_option maxRecDepth 100000 in
theorem dX3_types_50 : decode cX3_types 50 = .ok (.invokevirtual 163, 3) := by decide +kernel
set_option maxRecDepth 100000 in
theorem dX3_types_53 : decode cX3_types 53 = .ok (.invokevirtual 84, 3) := by decide +kernel
set_option maxRecDepth 100000 in
theorem dX3_types_56 : decode cX3_types 56 = .ok (.invokevirtual 84, 3) := by decide +kernel
set_option maxRecDepth 100000 in
theorem dX3_types_59 : decode cX3_types 59 = .ok (.pop, 1) := by decide +kernel
set_option maxRecDepth 100000 in
theorem dX3_types_60 : decode cX3_types 60 = .ok (.aload_n 0, 1) := by decide +kernel
set_option maxRecDepth 100000 in
theorem dX3_types_61 : decode cX3_types 61 = .ok (.ldc 113, 2) := by decide +kernel
set_option maxRecDepth 100000 in
theorem dX3_types_63 : decode cX3_types 63 = .ok (.invokevirtual 99, 3) := by decide +kernel
set_option maxRecDepth 100000 in
theorem dX3_types_66 : decode cX3_types 66 = .ok (.pop, 1) := by decide +kernel
set_option maxRecDepth 100000 in
theorem dX3_types_67 : decode cX3_types 67 = .ok (.aload_n 0, 1) := by decide +kernel
set_option maxRecDepth 100000 in
theorem dX3_types_68 : decode cX3_types 68 = .ok (.invokevirtual 157, 3) := by decide +kernel
set_option maxRecDepth 100000 in
theorem dX3_types_71 : decode cX3_types 71 = .ok (.ifCond .ne (-47), 3) := by decide +kernel
set_option maxRecDepth 100000 in
theorem dX3_types_74 : decode cX3_types 74 = .ok (.aload_n 1, 1) := by decide +kernel
set_option maxRecDepth 100000 in
theorem dX3_types_75 : decode cX3_types 75 = .ok (.areturn, 1) := by decide +kernel
def lX3_types_24 (G : xG) (fr lo : Nat) (x0 : Nat) (x1 : Nat) (h : xH) (Q : Outcome → xH → Prop) : Prop := xP G YX3_types fr lo 24 [(0, rv x0), (1, rv x1)] [] h Q
set_option maxRecDepth 100000 in
def bX3_types_24 (G : xG) (fr lo : Nat) (x0 : Nat) (x1 : Nat) (h : xH) (Q : Outcome → xH → Prop) : Prop := nx h + 1 ≤ xGN G ∧ us h + 6 ≤ xGU G ∧ (∀ (a3 : Nat) (h4 : xH), a3 = nx h + 1 → h4 = nO h 16 6 → xfresh h a3 → tg h4 x0 = 4 ∧ 1 ≤ fr ∧ 16 ≤ lo ∧ xRr G YX3_needSort (fr - 1) (lo - 16) [rv x0, rv (xGS G 1)] h4 (fun x13 h12 => xext h4 h12 → 1 ≤ fr ∧ 15 ≤ lo ∧ xRv G YX15_init (fr - 1) (lo - 15) [rv a3, .int 4, rv x13] h12 (fun h18 => xext h12 h18 → 1 ≤ fr ∧ 13 ≤ lo ∧ xRr G YX3_need (fr - 1) (lo - 13) [rv x0, rv (tx G 57)] h18 (fun x26 h25 => xext h18 h25 → 1 ≤ fr ∧ 15 ≤ lo ∧ xRr G YX3_type (fr - 1) (lo - 15) [rv x0] h25 (fun x32 h31 => xext h25 h31 → 1 ≤ fr ∧ 14 ≤ lo ∧ xRr G YX15_add (fr - 1) (lo - 14) [rv a3, rv x32] h31 (fun x40 h39 => xext h31 h39 → tg h39 x1 = 16 ∧ 1 ≤ fr ∧ 13 ≤ lo ∧ xRr G YX15_add (fr - 1) (lo - 13) [rv x1, rv x40] h39 (fun x46 h45 => xext h39 h45 → 1 ≤ fr ∧ 13 ≤ lo ∧ xRr G YX3_need (fr - 1) (lo - 13) [rv x0, rv (tx G 64)] h45 (fun x54 h53 => xext h45 h53 → 1 ≤ fr ∧ 12 ≤ lo ∧ xRi G YX3_isName (fr - 1) (lo - 12) [rv x0] h53 (fun x60 h59 => xext h53 h59 → ((¬ x60 = 0 → lX3_types_24 G fr lo x0 x1 h59 Q) ∧ (x60 = 0 → Q (.returned (some (rv x1))) h59))) (fun r h2 => Q (.threw r) h2)) (fun r h2 => Q (.threw r) h2)) (fun r h2 => Q (.threw r) h2)) (fun r h2 => Q (.threw r) h2)) (fun r h2 => Q (.threw r) h2)) (fun r h2 => Q (.threw r) h2)) (fun r h2 => Q (.threw r) h2)) (fun r h2 => Q (.threw r) h2))
set_option maxRecDepth 100000 in
theorem uX3_types_24 {G : xG} {fr lo : Nat} {x0 : Nat} {x1 : Nat} {h : xH} {Q : Outcome → xH → Prop} (hq : bX3_types_24 G fr lo x0 x1 h Q) : xP G YX3_types fr lo 24 [(0, rv x0), (1, rv x1)] [] h Q := by
  unfold bX3_types_24 at hq
  obtain ⟨g1, g2, hq⟩ := hq
  obtain ⟨a3, e5⟩ : ∃ y, y = nx h + 1 := ⟨_, rfl⟩
  obtain ⟨h4, e6⟩ : ∃ y, y = nO h 16 6 := ⟨_, rfl⟩
  refine x_new' cdX3_71 dX3_types_24 g1 g2 e5 e6 (fun f7 => ?_)
  replace hq := hq a3 h4 e5 e6 f7
  have t8 : tg h4 a3 = 16 := by rw [e6, e5]; exact tg_nO
  refine x_dup dX3_types_27 (rv_cat _) ?_
  refine x_iconst (v := 4) dX3_types_28 (by decide) ?_
  refine x_aload_n 0 dX3_types_29 rfl ?_
  refine x_gets (v := rv (xGS G 1)) 1 rfl q1744 (by simp [xsv]) dX3_types_30 ?_
  obtain ⟨g9, hq⟩ := hq
  obtain ⟨g10, g11, hq⟩ := hq
  refine x_callV (Yc := YX3_needSort) (as := [rv (xGS G 1)]) (st := [.int 4, rv a3, rv a3]) q1745 mvX3_needSort g9 rfl dX3_types_33 (xle (xal1 (rv_cat _) (xal1 (rv_cat _) xal0)) (by decide)) (xfr g10) (xlo (xsw1 rfl (xsw1 (rv_cat _) (xsw1 (rv_cat _) xsw0))) (by decide) g11) (xKr hq (fun x13 h12 hq e14 => ?_) (fun _ _ q _ => q))
  replace hq := hq e14
  have t15 : tg h12 a3 = 16 := e14.tg t8 (by decide)
  obtain ⟨g16, g17, hq⟩ := hq
  refine x_callI (Yc := YX15_init) (as := [.int 4, rv x13]) (st := [rv a3]) q1749 miX15_init (by rw [t15]; decide) rfl dX3_types_36 (xle (xal1 (rv_cat _) (xal1 rfl (xal1 (rv_cat _) xal0))) (by decide)) (xfr g16) (xlo (xsw1 (rv_cat _) xsw0) (by decide) g17) (xKv hq (fun h18 hq e20 => ?_) (fun _ _ q _ => q))
  replace hq := hq e20
  refine x_astore_n (lv' := [(2, rv a3), (0, rv x0), (1, rv x1)]) dX3_types_39 (by decide) (by first | rfl | (simp [rv_cat, Value.category]; done) | (simp [rv_cat, Value.category]; decide)) ?_
  refine x_aload_n 1 dX3_types_40 rfl ?_
  refine x_ldcS (n := 57) 74 srX3_152 dX3_types_41 ?_
  have t21 : tg h12 x0 = 4 := e14.tg g9 (by decide)
  have t22 : tg h18 x0 = 4 := e20.tg t21 (by decide)
  obtain ⟨g23, g24, hq⟩ := hq
  refine x_callV (Yc := YX3_need) (as := [rv (tx G 57)]) (st := []) q1719 mvX3_need t22 rfl dX3_types_43 (xle (xal1 (rv_cat _) (xal1 (rv_cat _) xal0)) (by decide)) (xfr g23) (xlo xsw0 (by decide) g24) (xKr hq (fun x26 h25 hq e27 => ?_) (fun _ _ q _ => q))
  replace hq := hq e27
  refine x_pop dX3_types_46 (rv_cat _) ?_
  refine x_aload_n 2 dX3_types_47 rfl ?_
  refine x_aload_n 0 dX3_types_48 rfl ?_
  refine x_aload_n 1 dX3_types_49 rfl ?_
  have t28 : tg h25 x0 = 4 := e27.tg t22 (by decide)
  obtain ⟨g29, g30, hq⟩ := hq
  refine x_callV (Yc := YX3_type) (as := []) (st := [rv a3, rv x1]) q1835 mvX3_type t28 rfl dX3_types_50 (xle (xal1 (rv_cat _) xal0) (by decide)) (xfr g29) (xlo (xsw1 (rv_cat _) (xsw1 (rv_cat _) xsw0)) (by decide) g30) (xKr hq (fun x32 h31 hq e33 => ?_) (fun _ _ q _ => q))
  replace hq := hq e33
  have t34 : tg h18 a3 = 16 := e20.tg t15 (by decide)
  have t35 : tg h25 a3 = 16 := e27.tg t34 (by decide)
  have t36 : tg h31 a3 = 16 := e33.tg t35 (by decide)
  obtain ⟨g37, g38, hq⟩ := hq
  refine x_callV (Yc := YX15_add) (as := [rv x32]) (st := [rv x1]) q1795 mvX15_add t36 rfl dX3_types_53 (xle (xal1 (rv_cat _) (xal1 (rv_cat _) xal0)) (by decide)) (xfr g37) (xlo (xsw1 (rv_cat _) xsw0) (by decide) g38) (xKr hq (fun x40 h39 hq e41 => ?_) (fun _ _ q _ => q))
  replace hq := hq e41
  obtain ⟨g42, hq⟩ := hq
  obtain ⟨g43, g44, hq⟩ := hq
  refine x_callV (Yc := YX15_add) (as := [rv x40]) (st := []) q1795 mvX15_add g42 rfl dX3_types_56 (xle (xal1 (rv_cat _) (xal1 (rv_cat _) xal0)) (by decide)) (xfr g43) (xlo xsw0 (by decide) g44) (xKr hq (fun x46 h45 hq e47 => ?_) (fun _ _ q _ => q))
  replace hq := hq e47
  refine x_pop dX3_types_59 (rv_cat _) ?_
  refine x_aload_n 1 dX3_types_60 rfl ?_
  refine x_ldcS (n := 64) 71 srX3_113 dX3_types_61 ?_
  have t48 : tg h31 x0 = 4 := e33.tg t28 (by decide)
  have t49 : tg h39 x0 = 4 := e41.tg t48 (by decide)
  have t50 : tg h45 x0 = 4 := e47.tg t49 (by decide)
  obtain ⟨g51, g52, hq⟩ := hq
  refine x_callV (Yc := YX3_need) (as := [rv (tx G 64)]) (st := []) q1719 mvX3_need t50 rfl dX3_types_63 (xle (xal1 (rv_cat _) (xal1 (rv_cat _) xal0)) (by decide)) (xfr g51) (xlo xsw0 (by decide) g52) (xKr hq (fun x54 h53 hq e55 => ?_) (fun _ _ q _ => q))
  replace hq := hq e55
  refine x_pop dX3_types_66 (rv_cat _) ?_
  refine x_aload_n 1 dX3_types_67 rfl ?_
  have t56 : tg h53 x0 = 4 := e55.tg t50 (by decide)
  obtain ⟨g57, g58, hq⟩ := hq
  refine x_callV (Yc := YX3_isName) (as := []) (st := []) q1826 mvX3_isName t56 rfl dX3_types_68 (xle (xal1 (rv_cat _) xal0) (by decide)) (xfr g57) (xlo xsw0 (by decide) g58) (xKi hq (fun x60 h59 hq e61 => ?_) (fun _ _ q _ => q))
  replace hq := hq e61
  refine x_if_ne (tgt := 24) dX3_types_71 (by decide) (fun c62 => ?_) (fun c62 => ?_)
  · replace hq := hq.1 c62
    refine xP.pick (lv' := [(0, rv x0), (1, rv x1)]) [1, 2] rfl ?_
    exact hq
  · replace hq := hq.2 c62
    refine x_aload_n 2 dX3_types_74 rfl ?_
    exact x_aret rfl xty_O dX3_types_75 hq
set_option maxRecDepth 100000 in
def bX3_types (G : xG) (fr lo : Nat) (x0 : Nat) (h : xH) (Q : Outcome → xH → Prop) : Prop := nx h + 1 ≤ xGN G ∧ us h + 6 ≤ xGU G ∧ (∀ (a3 : Nat) (h4 : xH), a3 = nx h + 1 → h4 = nO h 16 6 → xfresh h a3 → tg h4 x0 = 4 ∧ 1 ≤ fr ∧ 15 ≤ lo ∧ xRv G YX15_init (fr - 1) (lo - 15) [rv a3, .int 0, rv (fR h4 x0 770)] h4 (fun h12 => xext h4 h12 → 1 ≤ fr ∧ 13 ≤ lo ∧ xRi G YX3_has (fr - 1) (lo - 13) [rv x0, rv (tx G 30)] h12 (fun x19 h18 => xext h12 h18 → ((¬ x19 = 0 → lX3_types_24 G fr lo x0 a3 h18 Q) ∧ (x19 = 0 → Q (.returned (some (rv a3))) h18))) (fun r h2 => Q (.threw r) h2)) (fun r h2 => Q (.threw r) h2))
set_option maxRecDepth 100000 in
theorem uX3_types {G : xG} {fr lo : Nat} {x0 : Nat} {h : xH} {Q : Outcome → xH → Prop} (hq : bX3_types G fr lo x0 h Q) : xP G YX3_types fr lo 0 [(0, rv x0)] [] h Q := by
  unfold bX3_types at hq
  obtain ⟨g1, g2, hq⟩ := hq
  obtain ⟨a3, e5⟩ : ∃ y, y = nx h + 1 := ⟨_, rfl⟩
  obtain ⟨h4, e6⟩ : ∃ y, y = nO h 16 6 := ⟨_, rfl⟩
  refine x_new' cdX3_71 dX3_types_0 g1 g2 e5 e6 (fun f7 => ?_)
  replace hq := hq a3 h4 e5 e6 f7
  have t8 : tg h4 a3 = 16 := by rw [e6, e5]; exact tg_nO
  refine x_dup dX3_types_3 (rv_cat _) ?_
  refine x_iconst (v := 0) dX3_types_4 (by decide) ?_
  refine x_aload_n 0 dX3_types_5 rfl ?_
  obtain ⟨g9, hq⟩ := hq
  refine x_get (v := rv (fR h4 x0 770)) fdX3_25 dX3_types_6 g9 rfl ?_
  obtain ⟨g10, g11, hq⟩ := hq
  refine x_callI (Yc := YX15_init) (as := [.int 0, rv (fR h4 x0 770)]) (st := [rv a3]) q1749 miX15_init (by rw [t8]; decide) rfl dX3_types_9 (xle (xal1 (rv_cat _) (xal1 rfl (xal1 (rv_cat _) xal0))) (by decide)) (xfr g10) (xlo (xsw1 (rv_cat _) xsw0) (by decide) g11) (xKv hq (fun h12 hq e14 => ?_) (fun _ _ q _ => q))
  replace hq := hq e14
  refine x_astore_n (lv' := [(1, rv a3), (0, rv x0)]) dX3_types_12 (by decide) (by first | rfl | (simp [rv_cat, Value.category]; done) | (simp [rv_cat, Value.category]; decide)) ?_
  refine x_aload_n 1 dX3_types_13 rfl ?_
  refine x_ldcS (n := 30) 77 srX3_161 dX3_types_14 ?_
  have t15 : tg h12 x0 = 4 := e14.tg g9 (by decide)
  obtain ⟨g16, g17, hq⟩ := hq
  refine x_callV (Yc := YX3_has) (as := [rv (tx G 30)]) (st := []) q1783 mvX3_has t15 rfl dX3_types_16 (xle (xal1 (rv_cat _) (xal1 (rv_cat _) xal0)) (by decide)) (xfr g16) (xlo xsw0 (by decide) g17) (xKi hq (fun x19 h18 hq e20 => ?_) (fun _ _ q _ => q))
  replace hq := hq e20
  refine x_if_ne (tgt := 24) dX3_types_19 (by decide) (fun c21 => ?_) (fun c21 => ?_)
  · replace hq := hq.1 c21
    refine xP.pick (lv' := [(0, rv x0), (1, rv a3)]) [1, 0] rfl ?_
    exact hq
  · replace hq := hq.2 c21
    refine x_aload_n 0 dX3_types_22 rfl ?_
    exact x_aret rfl xty_O dX3_types_23 hq
theorem rX3_types {G : xG} {fr lo : Nat} {x0 : Nat} {h : xH} {Q : Outcome → xH → Prop} (hq : bX3_types G fr lo x0 h Q) : xR G YX3_types fr lo [rv x0] h Q := by
  show xP _ _ _ _ _ (lv_args 0 _) _ _ _
  rw [show lv_args 0 [rv x0] = [(0, rv x0)] from (xla1 (rv_cat _) xla0)]
  exact uX3_types hq
set_option maxRecDepth 100000 in
theorem dX3_type_0 : decode cX3_type 0 = .ok (.aload_n 0, 1) := by decide +kernel
set_option maxRecDepth 100000 in
theorem dX3_type_1 : decode cX3_type 1 = .ok (.invokevirtual 123, 3) := by decide +kernel
set_option maxRecDepth 100000 in
theorem dX3_type_4 : decode cX3_type 4 = .ok (.aload_n 0, 1) := by decide +kernel
set_option maxRecDepth 100000 in
theorem dX3_type_5 : decode cX3_type 5 = .ok (.ldc 203, 2) := by decide +kernel
set_option maxRecDepth 100000 in
theorem dX3_type_7 : decode cX3_type 7 = .ok (.invokevirtual 60, 3) := by decide +kernel
set_option maxRecDepth 100000 in
theorem dX3_type_10 : decode cX3_type 10 = .ok (.ifCond .eq 26, 3) := by decide +kernel
set_option maxRecDepth 100000 in
theorem dX3_type_13 : decode cX3_type 13 = .ok (.new 71, 3) := by decide +kernel
set_option maxRecDepth 100000 in
theorem dX3_type_16 : decode cX3_type 16 = .ok (.dup, 1) := by decide +kernel
set_option maxRecDepth 100000 in
theorem dX3_type_17 : decode cX3_type 17 = .ok (.iconst 5, 1) := by decide +kernel
set_option maxRecDepth 100000 in
theorem dX3_type_18 : decode cX3_type 18 = .ok (.aload_n 0, 1) := by decide +kernel
set_option maxRecDepth 100000 in
theorem dX3_type_19 : decode cX3_type 19 = .ok (.invokevirtual 65, 3) := by decide +kernel
set_option maxRecDepth 100000 in
theorem dX3_type_22 : decode cX3_type 22 = .ok (.invokespecial 77, 3) := by decide +kernel
set_option maxRecDepth 100000 in
theorem dX3_type_25 : decode cX3_type 25 = .ok (.aload_n 0, 1) := by decide +kernel
set_option maxRecDepth 100000 in
theorem dX3_type_26 : decode cX3_type 26 = .ok (.invokevirtual 175, 3) := by decide +kernel
set_option maxRecDepth 100000 in
theorem dX3_type_29 : decode cX3_type 29 = .ok (.invokevirtual 84, 3) := by decide +kernel
set_option maxRecDepth 100000 in
theorem dX3_type_32 : decode cX3_type 32 = .ok (.astore_n 1, 1) := by decide +kernel
set_option maxRecDepth 100000 in
theorem dX3_type_33 : decode cX3_type 33 = .ok (.goto 68, 3) := by decide +kernel
set_option maxRecDepth 100000 in
theorem dX3_type_36 : decode cX3_type 36 = .ok (.aload_n 0, 1) := by decide +kernel
set_option maxRecDepth 100000 in
theorem dX3_type_37 : decode cX3_type 37 = .ok (.ldc 205, 2) := by decide +kernel
set_option maxRecDepth 100000 in
theorem dX3_type_39 : decode cX3_type 39 = .ok (.invokevirtual 90, 3) := by decide +kernel
set_option maxRecDepth 100000 in
theorem dX3_type_42 : decode cX3_type 42 = .ok (.ifCond .eq 11, 3) := by decide +kernel
set_option maxRecDepth 100000 in
theorem dX3_type_45 : decode cX3_type 45 = .ok (.aload_n 0, 1) := by decide +kernel
set_option maxRecDepth 100000 in
theorem dX3_type_46 : decode cX3_type 46 = .ok (.invokevirtual 207, 3) := by decide +kernel
set_option maxRecDepth 100000 in
theorem dX3_type_49 : decode cX3_type 49 = .ok (.astore_n 1, 1) := by decide +kernel
set_option maxRecDepth 100000 in
theorem dX3_type_50 : decode cX3_type 50 = .ok (.goto 51, 3) := by decide +kernel
set_option maxRecDepth 100000 in
theorem dX3_type_53 : decode cX3_type 53 = .ok (.aload_n 0, 1) := by decide +kernel
set_option maxRecDepth 100000 in
theorem dX3_type_54 : decode cX3_type 54 = .ok (.ldc 210, 2) := by decide +kernel
set_option maxRecDepth 100000 in
theorem dX3_type_56 : decode cX3_type 56 = .ok (.invokevirtual 60, 3) := by decide +kernel
set_option maxRecDepth 100000 in
theorem dX3_type_59 : decode cX3_type 59 = .ok (.ifCond .ne 30, 3) := by decide +kernel
set_option maxRecDepth 100000 in
theorem dX3_type_62 : decode cX3_type 62 = .ok (.aload_n 0, 1) := by decide +kernel
set_option maxRecDepth 100000 in
theorem dX3_type_63 : decode cX3_type 63 = .ok (.ldc 212, 2) := by decide +kernel
set_option maxRecDepth 100000 in
theorem dX3_type_65 : decode cX3_type 65 = .ok (.invokevirtual 60, 3) := by decide +kernel
set_option maxRecDepth 100000 in
theorem dX3_type_68 : decode cX3_type 68 = .ok (.ifCond .ne 21, 3) := by decide +kernel
set_option maxRecDepth 100000 in
theorem dX3_type_71 : decode cX3_type 71 = .ok (.aload_n 0, 1) := by decide +kernel
set_option maxRecDepth 100000 in
theorem dX3_type_72 : decode cX3_type 72 = .ok (.ldc 214, 2) := by decide +kernel
set_option maxRecDepth 100000 in
theorem dX3_type_74 : decode cX3_type 74 = .ok (.invokevirtual 60, 3) := by decide +kernel
set_option maxRecDepth 100000 in
theorem dX3_type_77 : decode cX3_type 77 = .ok (.ifCond .ne 12, 3) := by decide +kernel
set_option maxRecDepth 100000 in
theorem dX3_type_80 : decode cX3_type 80 = .ok (.aload_n 0, 1) := by decide +kernel
set_option maxRecDepth 100000 in
theorem dX3_type_81 : decode cX3_type 81 = .ok (.ldc 216, 2) := by decide +kernel
set_option maxRecDepth 100000 in
theorem dX3_type_83 : decode cX3_type 83 = .ok (.invokevirtual 60, 3) := by decide +kernel
set_option maxRecDepth 100000 in
theorem dX3_type_86 : decode cX3_type 86 = .ok (.ifCond .eq 10, 3) := by decide +kernel
set_option maxRecDepth 100000 in
theorem dX3_type_89 : decode cX3_type 89 = .ok (.aload_n 0, 1) := by decide +kernel
set_option maxRecDepth 100000 in
theorem dX3_type_90 : decode cX3_type 90 = .ok (.invokevirtual 207, 3) := by decide +kernel
set_option maxRecDepth 100000 in
theorem dX3_type_93 : decode cX3_type 93 = .ok (.goto 7, 3) := by decide +kernel
set_option maxRecDepth 100000 in
theorem dX3_type_96 : decode cX3_type 96 = .ok (.aload_n 0, 1) := by decide +kernel
set_option maxRecDepth 100000 in
theorem dX3_type_97 : decode cX3_type 97 = .ok (.invokevirtual 218, 3) := by decide +kernel
set_option maxRecDepth 100000 in
theorem dX3_type_100 : decode cX3_type 100 = .ok (.astore_n 1, 1) := by decide +kernel
set_option maxRecDepth 100000 in
theorem dX3_type_101 : decode cX3_type 101 = .ok (.aload_n 0, 1) := by decide +kernel
set_option maxRecDepth 100000 in
theorem dX3_type_102 : decode cX3_type 102 = .ok (.dup, 1) := by decide +kernel
set_option maxRecDepth 100000 in
theorem dX3_type_103 : decode cX3_type 103 = .ok (.getfield 68, 3) := by decide +kernel
set_option maxRecDepth 100000 in
theorem dX3_type_106 : decode cX3_type 106 = .ok (.iconst 1, 1) := by decide +kernel
set_option maxRecDepth 100000 in
theorem dX3_type_107 : decode cX3_type 107 = .ok (.isub, 1) := by decide +kernel
set_option maxRecDepth 100000 in
theorem dX3_type_108 : decode cX3_type 108 = .ok (.putfield 68, 3) := by decide +kernel
set_option maxRecDepth 100000 in
theorem dX3_type_111 : decode cX3_type 111 = .ok (.aload_n 1, 1) := by decide +kernel
set_option maxRecDepth 100000 in
theorem dX3_type_112 : decode cX3_type 112 = .ok (.areturn, 1) := by decide +kernel
set_option maxRecDepth 100000 in
def bX3_type_101 (G : xG) (fr lo : Nat) (x0 : Nat) (x1 : Nat) (h : xH) (Q : Outcome → xH → Prop) : Prop := tg h x0 = 4 ∧ (∀ h2 : xH, h2 = sI h x0 772 ((fI h x0 772) - 1) → Q (.returned (some (rv x1))) h2)
set_option maxRecDepth 100000 in
theorem uX3_type_101 {G : xG} {fr lo : Nat} {x0 : Nat} {x1 : Nat} {h : xH} {Q : Outcome → xH → Prop} (hq : bX3_type_101 G fr lo x0 x1 h Q) : xP G YX3_type fr lo 101 [(0, rv x0), (1, rv x1)] [] h Q := by
  unfold bX3_type_101 at hq
  refine x_aload_n 0 dX3_type_101 rfl ?_
  refine x_dup dX3_type_102 (rv_cat _) ?_
  obtain ⟨g1, hq⟩ := hq
  refine x_get (v := .int (fI h x0 772)) fdX3_68 dX3_type_103 g1 rfl ?_
  refine x_iconst (v := 1) dX3_type_106 (by decide) ?_
  refine x_isub dX3_type_107 ?_
  obtain ⟨h2, e3⟩ : ∃ y, y = sI h x0 772 ((fI h x0 772) - 1) := ⟨_, rfl⟩
  replace hq := hq h2 e3
  refine x_putI fdX3_68 xty_I1 dX3_type_108 g1 (Or.inl (by rw [g1]; rfl)) xnI rfl e3 ?_
  refine x_aload_n 1 dX3_type_111 rfl ?_
  exact x_aret rfl xty_O dX3_type_112 hq
set_option maxRecDepth 100000 in
def bX3_type_100 (G : xG) (fr lo : Nat) (x0 : Nat) (s0 : Nat) (h : xH) (Q : Outcome → xH → Prop) : Prop := bX3_type_101 G fr lo x0 s0 h Q
set_option maxRecDepth 100000 in
theorem uX3_type_100 {G : xG} {fr lo : Nat} {x0 : Nat} {s0 : Nat} {h : xH} {Q : Outcome → xH → Prop} (hq : bX3_type_100 G fr lo x0 s0 h Q) : xP G YX3_type fr lo 100 [(0, rv x0)] [rv s0] h Q := by
  unfold bX3_type_100 at hq
  refine x_astore_n (lv' := [(1, rv s0), (0, rv x0)]) dX3_type_100 (by decide) (by first | rfl | (simp [rv_cat, Value.category]; done) | (simp [rv_cat, Value.category]; decide)) ?_
  refine xP.pick (lv' := [(0, rv x0), (1, rv s0)]) [1, 0] rfl ?_
  exact uX3_type_101 hq
set_option maxRecDepth 100000 in
def bX3_type_89 (G : xG) (fr lo : Nat) (x0 : Nat) (h : xH) (Q : Outcome → xH → Prop) : Prop := tg h x0 = 4 ∧ 1 ≤ fr ∧ 14 ≤ lo ∧ xRr G YX3_structure (fr - 1) (lo - 14) [rv x0] h (fun x5 h4 => xext h h4 → bX3_type_100 G fr lo x0 x5 h4 Q) (fun r h2 => Q (.threw r) h2)
set_option maxRecDepth 100000 in
theorem uX3_type_89 {G : xG} {fr lo : Nat} {x0 : Nat} {h : xH} {Q : Outcome → xH → Prop} (hq : bX3_type_89 G fr lo x0 h Q) : xP G YX3_type fr lo 89 [(0, rv x0)] [] h Q := by
  unfold bX3_type_89 at hq
  refine x_aload_n 0 dX3_type_89 rfl ?_
  obtain ⟨g1, hq⟩ := hq
  obtain ⟨g2, g3, hq⟩ := hq
  refine x_callV (Yc := YX3_structure) (as := []) (st := []) q1845 mvX3_structure g1 rfl dX3_type_90 (xle (xal1 (rv_cat _) xal0) (by decide)) (xfr g2) (xlo xsw0 (by decide) g3) (xKr hq (fun x5 h4 hq e6 => ?_) (fun _ _ q _ => q))
  replace hq := hq e6
  refine x_goto (tgt := 100) dX3_type_93 (by decide) ?_
  exact uX3_type_100 hq
set_option maxRecDepth 100000 in
def bX3_type (G : xG) (fr lo : Nat) (x0 : Nat) (h : xH) (Q : Outcome → xH → Prop) : Prop := tg h x0 = 4 ∧ 1 ≤ fr ∧ 12 ≤ lo ∧ xRv G YX3_deeper (fr - 1) (lo - 12) [rv x0] h (fun h4 => xext h h4 → 1 ≤ fr ∧ 13 ≤ lo ∧ xRi G YX3_is (fr - 1) (lo - 13) [rv x0, rv (tx G 66)] h4 (fun x11 h10 => xext h4 h10 → ((x11 = 0 → 1 ≤ fr ∧ 13 ≤ lo ∧ xRi G YX3_has (fr - 1) (lo - 13) [rv x0, rv (tx G 22)] h10 (fun x18 h17 => xext h10 h17 → ((x18 = 0 → 1 ≤ fr ∧ 13 ≤ lo ∧ xRi G YX3_is (fr - 1) (lo - 13) [rv x0, rv (tx G 1)] h17 (fun x25 h24 => xext h17 h24 → ((¬ x25 = 0 → bX3_type_89 G fr lo x0 h24 Q) ∧ (x25 = 0 → 1 ≤ fr ∧ 13 ≤ lo ∧ xRi G YX3_is (fr - 1) (lo - 13) [rv x0, rv (tx G 25)] h24 (fun x32 h31 => xext h24 h31 → ((¬ x32 = 0 → bX3_type_89 G fr lo x0 h31 Q) ∧ (x32 = 0 → 1 ≤ fr ∧ 13 ≤ lo ∧ xRi G YX3_is (fr - 1) (lo - 13) [rv x0, rv (tx G 27)] h31 (fun x39 h38 => xext h31 h38 → ((¬ x39 = 0 → bX3_type_89 G fr lo x0 h38 Q) ∧ (x39 = 0 → 1 ≤ fr ∧ 13 ≤ lo ∧ xRi G YX3_is (fr - 1) (lo - 13) [rv x0, rv (tx G 10)] h38 (fun x46 h45 => xext h38 h45 → ((x46 = 0 → 1 ≤ fr ∧ 14 ≤ lo ∧ xRr G YX3_simple (fr - 1) (lo - 14) [rv x0] h45 (fun x53 h52 => xext h45 h52 → bX3_type_100 G fr lo x0 x53 h52 Q) (fun r h2 => Q (.threw r) h2)) ∧ (¬ x46 = 0 → bX3_type_89 G fr lo x0 h45 Q))) (fun r h2 => Q (.threw r) h2)))) (fun r h2 => Q (.threw r) h2)))) (fun r h2 => Q (.threw r) h2)))) (fun r h2 => Q (.threw r) h2)) ∧ (¬ x18 = 0 → 1 ≤ fr ∧ 14 ≤ lo ∧ xRr G YX3_structure (fr - 1) (lo - 14) [rv x0] h17 (fun x59 h58 => xext h17 h58 → bX3_type_101 G fr lo x0 x59 h58 Q) (fun r h2 => Q (.threw r) h2)))) (fun r h2 => Q (.threw r) h2)) ∧ (¬ x11 = 0 → nx h10 + 1 ≤ xGN G ∧ us h10 + 6 ≤ xGU G ∧ (∀ (a63 : Nat) (h64 : xH), a63 = nx h10 + 1 → h64 = nO h10 16 6 → xfresh h10 a63 → 1 ≤ fr ∧ 16 ≤ lo ∧ xRr G YX3_take (fr - 1) (lo - 16) [rv x0] h64 (fun x74 h73 => xext h64 h73 → 1 ≤ fr ∧ 15 ≤ lo ∧ xRv G YX15_init (fr - 1) (lo - 15) [rv a63, .int 5, rv x74] h73 (fun h79 => xext h73 h79 → 1 ≤ fr ∧ 13 ≤ lo ∧ xRr G YX3_named (fr - 1) (lo - 13) [rv x0] h79 (fun x87 h86 => xext h79 h86 → 1 ≤ fr ∧ 13 ≤ lo ∧ xRr G YX15_add (fr - 1) (lo - 13) [rv a63, rv x87] h86 (fun x94 h93 => xext h86 h93 → bX3_type_101 G fr lo x0 x94 h93 Q) (fun r h2 => Q (.threw r) h2)) (fun r h2 => Q (.threw r) h2)) (fun r h2 => Q (.threw r) h2)) (fun r h2 => Q (.threw r) h2))))) (fun r h2 => Q (.threw r) h2)) (fun r h2 => Q (.threw r) h2)
set_option maxRecDepth 100000 in
theorem uX3_type {G : xG} {fr lo : Nat} {x0 : Nat} {h : xH} {Q : Outcome → xH → Prop} (hq : bX3_type G fr lo x0 h Q) : xP G YX3_type fr lo 0 [(0, rv x0)] [] h Q := by
  unfold bX3_type at hq
  refine x_aload_n 0 dX3_type_0 rfl ?_
  obtain ⟨g1, hq⟩ := hq
  obtain ⟨g2, g3, hq⟩ := hq
  refine x_callV (Yc := YX3_deeper) (as := []) (st := []) q1806 mvX3_deeper g1 rfl dX3_type_1 (xle (xal1 (rv_cat _) xal0) (by decide)) (xfr g2) (xlo xsw0 (by decide) g3) (xKv hq (fun h4 hq e6 => ?_) (fun _ _ q _ => q))
  replace hq := hq e6
  refine x_aload_n 0 dX3_type_4 rfl ?_
  refine x_ldcS (n := 66) 78 srX3_203 dX3_type_5 ?_
  have t7 : tg h4 x0 = 4 := e6.tg g1 (by decide)
  obtain ⟨g8, g9, hq⟩ := hq
  refine x_callV (Yc := YX3_is) (as := [rv (tx G 66)]) (st := []) q1723 mvX3_is t7 rfl dX3_type_7 (xle (xal1 (rv_cat _) (xal1 (rv_cat _) xal0)) (by decide)) (xfr g8) (xlo xsw0 (by decide) g9) (xKi hq (fun x11 h10 hq e12 => ?_) (fun _ _ q _ => q))
  replace hq := hq e12
  refine x_if_eq (tgt := 36) dX3_type_10 (by decide) (fun c13 => ?_) (fun c13 => ?_)
  · replace hq := hq.1 c13
    refine x_aload_n 0 dX3_type_36 rfl ?_
    refine x_ldcS (n := 22) 79 srX3_205 dX3_type_37 ?_
    have t14 : tg h10 x0 = 4 := e12.tg t7 (by decide)
    obtain ⟨g15, g16, hq⟩ := hq
    refine x_callV (Yc := YX3_has) (as := [rv (tx G 22)]) (st := []) q1783 mvX3_has t14 rfl dX3_type_39 (xle (xal1 (rv_cat _) (xal1 (rv_cat _) xal0)) (by decide)) (xfr g15) (xlo xsw0 (by decide) g16) (xKi hq (fun x18 h17 hq e19 => ?_) (fun _ _ q _ => q))
    replace hq := hq e19
    refine x_if_eq (tgt := 53) dX3_type_42 (by decide) (fun c20 => ?_) (fun c20 => ?_)
    · replace hq := hq.1 c20
      refine x_aload_n 0 dX3_type_53 rfl ?_
      refine x_ldcS (n := 1) 80 srX3_210 dX3_type_54 ?_
      have t21 : tg h17 x0 = 4 := e19.tg t14 (by decide)
      obtain ⟨g22, g23, hq⟩ := hq
      refine x_callV (Yc := YX3_is) (as := [rv (tx G 1)]) (st := []) q1723 mvX3_is t21 rfl dX3_type_56 (xle (xal1 (rv_cat _) (xal1 (rv_cat _) xal0)) (by decide)) (xfr g22) (xlo xsw0 (by decide) g23) (xKi hq (fun x25 h24 hq e26 => ?_) (fun _ _ q _ => q))
      replace hq := hq e26
      refine x_if_ne (tgt := 89) dX3_type_59 (by decide) (fun c27 => ?_) (fun c27 => ?_)
      · replace hq := hq.1 c27
        exact uX3_type_89 hq
      · replace hq := hq.2 c27
        refine x_aload_n 0 dX3_type_62 rfl ?_
        refine x_ldcS (n := 25) 85 srX3_212 dX3_type_63 ?_
        have t28 : tg h24 x0 = 4 := e26.tg t21 (by decide)
        obtain ⟨g29, g30, hq⟩ := hq
        refine x_callV (Yc := YX3_is) (as := [rv (tx G 25)]) (st := []) q1723 mvX3_is t28 rfl dX3_type_65 (xle (xal1 (rv_cat _) (xal1 (rv_cat _) xal0)) (by decide)) (xfr g29) (xlo xsw0 (by decide) g30) (xKi hq (fun x32 h31 hq e33 => ?_) (fun _ _ q _ => q))
        replace hq := hq e33
        refine x_if_ne (tgt := 89) dX3_type_68 (by decide) (fun c34 => ?_) (fun c34 => ?_)
        · replace hq := hq.1 c34
          exact uX3_type_89 hq
        · replace hq := hq.2 c34
          refine x_aload_n 0 dX3_type_71 rfl ?_
          refine x_ldcS (n := 27) 89 srX3_214 dX3_type_72 ?_
          have t35 : tg h31 x0 = 4 := e33.tg t28 (by decide)
          obtain ⟨g36, g37, hq⟩ := hq
          refine x_callV (Yc := YX3_is) (as := [rv (tx G 27)]) (st := []) q1723 mvX3_is t35 rfl dX3_type_74 (xle (xal1 (rv_cat _) (xal1 (rv_cat _) xal0)) (by decide)) (xfr g36) (xlo xsw0 (by decide) g37) (xKi hq (fun x39 h38 hq e40 => ?_) (fun _ _ q _ => q))
          replace hq := hq e40
          refine x_if_ne (tgt := 89) dX3_type_77 (by decide) (fun c41 => ?_) (fun c41 => ?_)
          · replace hq := hq.1 c41
            exact uX3_type_89 hq
          · replace hq := hq.2 c41
            refine x_aload_n 0 dX3_type_80 rfl ?_
            refine x_ldcS (n := 10) 90 srX3_216 dX3_type_81 ?_
            have t42 : tg h38 x0 = 4 := e40.tg t35 (by decide)
            obtain ⟨g43, g44, hq⟩ := hq
            refine x_callV (Yc := YX3_is) (as := [rv (tx G 10)]) (st := []) q1723 mvX3_is t42 rfl dX3_type_83 (xle (xal1 (rv_cat _) (xal1 (rv_cat _) xal0)) (by decide)) (xfr g43) (xlo xsw0 (by decide) g44) (xKi hq (fun x46 h45 hq e47 => ?_) (fun _ _ q _ => q))
            replace hq := hq e47
            refine x_if_eq (tgt := 96) dX3_type_86 (by decide) (fun c48 => ?_) (fun c48 => ?_)
            · replace hq := hq.1 c48
              refine x_aload_n 0 dX3_type_96 rfl ?_
              have t49 : tg h45 x0 = 4 := e47.tg t42 (by decide)
              obtain ⟨g50, g51, hq⟩ := hq
              refine x_callV (Yc := YX3_simple) (as := []) (st := []) q1851 mvX3_simple t49 rfl dX3_type_97 (xle (xal1 (rv_cat _) xal0) (by decide)) (xfr g50) (xlo xsw0 (by decide) g51) (xKr hq (fun x53 h52 hq e54 => ?_) (fun _ _ q _ => q))
              replace hq := hq e54
              exact uX3_type_100 hq
            · replace hq := hq.2 c48
              exact uX3_type_89 hq
    · replace hq := hq.2 c20
      refine x_aload_n 0 dX3_type_45 rfl ?_
      have t55 : tg h17 x0 = 4 := e19.tg t14 (by decide)
      obtain ⟨g56, g57, hq⟩ := hq
      refine x_callV (Yc := YX3_structure) (as := []) (st := []) q1845 mvX3_structure t55 rfl dX3_type_46 (xle (xal1 (rv_cat _) xal0) (by decide)) (xfr g56) (xlo xsw0 (by decide) g57) (xKr hq (fun x59 h58 hq e60 => ?_) (fun _ _ q _ => q))
      replace hq := hq e60
      refine x_astore_n (lv' := [(1, rv x59), (0, rv x0)]) dX3_type_49 (by decide) (by first | rfl | (simp [rv_cat, Value.category]; done) | (simp [rv_cat, Value.category]; decide)) ?_
      refine x_goto (tgt := 101) dX3_type_50 (by decide) ?_
      refine xP.pick (lv' := [(0, rv x0), (1, rv x59)]) [1, 0] rfl ?_
      exact uX3_type_101 hq
  · replace hq := hq.2 c13
    obtain ⟨g61, g62, hq⟩ := hq
    obtain ⟨a63, e65⟩ : ∃ y, y = nx h10 + 1 := ⟨_, rfl⟩
    obtain ⟨h64, e66⟩ : ∃ y, y = nO h10 16 6 := ⟨_, rfl⟩
    refine x_new' cdX3_71 dX3_type_13 g61 g62 e65 e66 (fun f67 => ?_)
    replace hq := hq a63 h64 e65 e66 f67
    have t68 : tg h64 a63 = 16 := by rw [e66, e65]; exact tg_nO
    refine x_dup dX3_type_16 (rv_cat _) ?_
    refine x_iconst (v := 5) dX3_type_17 (by decide) ?_
    refine x_aload_n 0 dX3_type_18 rfl ?_
    have t69 : tg h10 x0 = 4 := e12.tg t7 (by decide)
    have t70 : tg h64 x0 = 4 := by rw [e66]; exact tg_nO_ne e65 f67 t69 (by decide)
    obtain ⟨g71, g72, hq⟩ := hq
    refine x_callV (Yc := YX3_take) (as := []) (st := [.int 5, rv a63, rv a63]) q1738 mvX3_take t70 rfl dX3_type_19 (xle (xal1 (rv_cat _) xal0) (by decide)) (xfr g71) (xlo (xsw1 rfl (xsw1 (rv_cat _) (xsw1 (rv_cat _) xsw0))) (by decide) g72) (xKr hq (fun x74 h73 hq e75 => ?_) (fun _ _ q _ => q))
    replace hq := hq e75
    have t76 : tg h73 a63 = 16 := e75.tg t68 (by decide)
    obtain ⟨g77, g78, hq⟩ := hq
    refine x_callI (Yc := YX15_init) (as := [.int 5, rv x74]) (st := [rv a63]) q1749 miX15_init (by rw [t76]; decide) rfl dX3_type_22 (xle (xal1 (rv_cat _) (xal1 rfl (xal1 (rv_cat _) xal0))) (by decide)) (xfr g77) (xlo (xsw1 (rv_cat _) xsw0) (by decide) g78) (xKv hq (fun h79 hq e81 => ?_) (fun _ _ q _ => q))
    replace hq := hq e81
    refine x_aload_n 0 dX3_type_25 rfl ?_
    have t82 : tg h73 x0 = 4 := e75.tg t70 (by decide)
    have t83 : tg h79 x0 = 4 := e81.tg t82 (by decide)
    obtain ⟨g84, g85, hq⟩ := hq
    refine x_callV (Yc := YX3_named) (as := []) (st := [rv a63]) q1840 mvX3_named t83 rfl dX3_type_26 (xle (xal1 (rv_cat _) xal0) (by decide)) (xfr g84) (xlo (xsw1 (rv_cat _) xsw0) (by decide) g85) (xKr hq (fun x87 h86 hq e88 => ?_) (fun _ _ q _ => q))
    replace hq := hq e88
    have t89 : tg h79 a63 = 16 := e81.tg t76 (by decide)
    have t90 : tg h86 a63 = 16 := e88.tg t89 (by decide)
    obtain ⟨g91, g92, hq⟩ := hq
    refine x_callV (Yc := YX15_add) (as := [rv x87]) (st := []) q1795 mvX15_add t90 rfl dX3_type_29 (xle (xal1 (rv_cat _) (xal1 (rv_cat _) xal0)) (by decide)) (xfr g91) (xlo xsw0 (by decide) g92) (xKr hq (fun x94 h93 hq e95 => ?_) (fun _ _ q _ => q))
    replace hq := hq e95
    refine x_astore_n (lv' := [(1, rv x94), (0, rv x0)]) dX3_type_32 (by decide) (by first | rfl | (simp [rv_cat, Value.category]; done) | (simp [rv_cat, Value.category]; decide)) ?_
    refine x_goto (tgt := 101) dX3_type_33 (by decide) ?_
    refine xP.pick (lv' := [(0, rv x0), (1, rv x94)]) [1, 0] rfl ?_
    exact uX3_type_101 hq
theorem rX3_type {G : xG} {fr lo : Nat} {x0 : Nat} {h : xH} {Q : Outcome → xH → Prop} (hq : bX3_type G fr lo x0 h Q) : xR G YX3_type fr lo [rv x0] h Q := by
  show xP _ _ _ _ _ (lv_args 0 _) _ _ _
  rw [show lv_args 0 [rv x0] = [(0, rv x0)] from (xla1 (rv_cat _) xla0)]
  exact uX3_type hq
set_option maxRecDepth 100000 in
theorem dX3_named_0 : decode cX3_named 0 = .ok (.new 71, 3) := by decide +kernel
set_option maxRecDepth 100000 in
theorem dX3_named_3 : decode cX3_named 3 = .ok (.dup, 1) := by decide +kernel
set_option maxRecDepth 100000 in
theorem dX3_named_4 : decode cX3_named 4 = .ok (.bipush 6, 2) := by decide +kernel
set_option maxRecDepth 100000 in
theorem dX3_named_6 : decode cX3_named 6 = .ok (.aload_n 0, 1) := by decide +kernel
set_option maxRecDepth 100000 in
theorem dX3_named_7 : decode cX3_named 7 = .ok (.getstatic 43, 3) := by decide +kernel
set_option maxRecDepth 100000 in
theorem dX3_named_10 : decode cX3_named 10 = .ok (.invokevirtual 73, 3) := by decide +kernel
set_option maxRecDepth 100000 in
theorem dX3_named_13 : decode cX3_named 13 = .ok (.invokespecial 77, 3) := by decide +kernel
set_option maxRecDepth 100000 in
theorem dX3_named_16 : decode cX3_named 16 = .ok (.areturn, 1) := by decide +kernel
set_option maxRecDepth 100000 in
def bX3_named (G : xG) (fr lo : Nat) (x0 : Nat) (h : xH) (Q : Outcome → xH → Prop) : Prop := nx h + 1 ≤ xGN G ∧ us h + 6 ≤ xGU G ∧ (∀ (a3 : Nat) (h4 : xH), a3 = nx h + 1 → h4 = nO h 16 6 → xfresh h a3 → tg h4 x0 = 4 ∧ 1 ≤ fr ∧ 16 ≤ lo ∧ xRr G YX3_needSort (fr - 1) (lo - 16) [rv x0, rv (xGS G 1)] h4 (fun x13 h12 => xext h4 h12 → 1 ≤ fr ∧ 15 ≤ lo ∧ xRv G YX15_init (fr - 1) (lo - 15) [rv a3, .int 6, rv x13] h12 (fun h18 => xext h12 h18 → Q (.returned (some (rv a3))) h18) (fun r h2 => Q (.threw r) h2)) (fun r h2 => Q (.threw r) h2))
set_option maxRecDepth 100000 in
theorem uX3_named {G : xG} {fr lo : Nat} {x0 : Nat} {h : xH} {Q : Outcome → xH → Prop} (hq : bX3_named G fr lo x0 h Q) : xP G YX3_named fr lo 0 [(0, rv x0)] [] h Q := by
  unfold bX3_named at hq
  obtain ⟨g1, g2, hq⟩ := hq
  obtain ⟨a3, e5⟩ : ∃ y, y = nx h + 1 := ⟨_, rfl⟩
  obtain ⟨h4, e6⟩ : ∃ y, y = nO h 16 6 := ⟨_, rfl⟩
  refine x_new' cdX3_71 dX3_named_0 g1 g2 e5 e6 (fun f7 => ?_)
  replace hq := hq a3 h4 e5 e6 f7
  have t8 : tg h4 a3 = 16 := by rw [e6, e5]; exact tg_nO
  refine x_dup dX3_named_3 (rv_cat _) ?_
  refine x_bipush (v := 6) dX3_named_4 (by decide) ?_
  refine x_aload_n 0 dX3_named_6 rfl ?_
  refine x_gets (v := rv (xGS G 1)) 1 rfl q1744 (by simp [xsv]) dX3_named_7 ?_
  obtain ⟨g9, hq⟩ := hq
  obtain ⟨g10, g11, hq⟩ := hq
  refine x_callV (Yc := YX3_needSort) (as := [rv (xGS G 1)]) (st := [.int 6, rv a3, rv a3]) q1745 mvX3_needSort g9 rfl dX3_named_10 (xle (xal1 (rv_cat _) (xal1 (rv_cat _) xal0)) (by decide)) (xfr g10) (xlo (xsw1 rfl (xsw1 (rv_cat _) (xsw1 (rv_cat _) xsw0))) (by decide) g11) (xKr hq (fun x13 h12 hq e14 => ?_) (fun _ _ q _ => q))
  replace hq := hq e14
  have t15 : tg h12 a3 = 16 := e14.tg t8 (by decide)
  obtain ⟨g16, g17, hq⟩ := hq
  refine x_callI (Yc := YX15_init) (as := [.int 6, rv x13]) (st := [rv a3]) q1749 miX15_init (by rw [t15]; decide) rfl dX3_named_13 (xle (xal1 (rv_cat _) (xal1 rfl (xal1 (rv_cat _) xal0))) (by decide)) (xfr g16) (xlo (xsw1 (rv_cat _) xsw0) (by decide) g17) (xKv hq (fun h18 hq e20 => ?_) (fun _ _ q _ => q))
  replace hq := hq e20
  exact x_aret rfl xty_O dX3_named_16 hq
theorem rX3_named {G : xG} {fr lo : Nat} {x0 : Nat} {h : xH} {Q : Outcome → xH → Prop} (hq : bX3_named G fr lo x0 h Q) : xR G YX3_named fr lo [rv x0] h Q := by
  show xP _ _ _ _ _ (lv_args 0 _) _ _ _
  rw [show lv_args 0 [rv x0] = [(0, rv x0)] from (xla1 (rv_cat _) xla0)]
  exact uX3_named hq
set_option maxRecDepth 100000 in
theorem dX3_structure_0 : decode cX3_structure 0 = .ok (.aload_n 0, 1) := by decide +kernel
set_option maxRecDepth 100000 in
theorem dX3_structure_1 : decode cX3_structure 1 = .ok (.getfield 25, 3) := by decide +kernel
set_option maxRecDepth 100000 in
theorem dX3_structure_4 : decode cX3_structure 4 = .ok (.astore_n 1, 1) := by decide +kernel
set_option maxRecDepth 100000 in
theorem dX3_structure_5 : decode cX3_structure 5 = .ok (.aload_n 0, 1) := by decide +kernel
set_option maxRecDepth 100000 in
theorem dX3_structure_6 : decode cX3_structure 6 = .ok (.ldc 210, 2) := by decide +kernel
set_option maxRecDepth 100000 in
theorem dX3_structure_8 : decode cX3_structure 8 = .ok (.invokevirtual 90, 3) := by decide +kernel
set_option maxRecDepth 100000 in
theorem dX3_structure_11 : decode cX3_structure 11 = .ok (.ifCond .eq 72, 3) := by decide +kernel
set_option maxRecDepth 100000 in
theorem dX3_structure_14 : decode cX3_structure 14 = .ok (.new 71, 3) := by decide +kernel
set_option maxRecDepth 100000 in
theorem dX3_structure_17 : decode cX3_structure 17 = .ok (.dup, 1) := by decide +kernel
set_option maxRecDepth 100000 in
theorem dX3_structure_18 : decode cX3_structure 18 = .ok (.bipush 9, 2) := by decide +kernel
set_option maxRecDepth 100000 in
theorem dX3_structure_20 : decode cX3_structure 20 = .ok (.aload_n 1, 1) := by decide +kernel
set_option maxRecDepth 100000 in
theorem dX3_structure_21 : decode cX3_structure 21 = .ok (.invokespecial 77, 3) := by decide +kernel
set_option maxRecDepth 100000 in
theorem dX3_structure_24 : decode cX3_structure 24 = .ok (.astore_n 2, 1) := by decide +kernel
set_option maxRecDepth 100000 in
theorem dX3_structure_25 : decode cX3_structure 25 = .ok (.aload_n 0, 1) := by decide +kernel
set_option maxRecDepth 100000 in
theorem dX3_structure_26 : decode cX3_structure 26 = .ok (.ldc 221, 2) := by decide +kernel
set_option maxRecDepth 100000 in
theorem dX3_structure_28 : decode cX3_structure 28 = .ok (.invokevirtual 99, 3) := by decide +kernel
set_option maxRecDepth 100000 in
theorem dX3_structure_31 : decode cX3_structure 31 = .ok (.pop, 1) := by decide +kernel
set_option maxRecDepth 100000 in
theorem dX3_structure_32 : decode cX3_structure 32 = .ok (.aload_n 2, 1) := by decide +kernel
set_option maxRecDepth 100000 in
theorem dX3_structure_33 : decode cX3_structure 33 = .ok (.aload_n 0, 1) := by decide +kernel
set_option maxRecDepth 100000 in
theorem dX3_structure_34 : decode cX3_structure 34 = .ok (.invokevirtual 218, 3) := by decide +kernel
set_option maxRecDepth 100000 in
theorem dX3_structure_37 : decode cX3_structure 37 = .ok (.invokevirtual 84, 3) := by decide +kernel
set_option maxRecDepth 100000 in
theorem dX3_structure_40 : decode cX3_structure 40 = .ok (.pop, 1) := by decide +kernel
set_option maxRecDepth 100000 in
theorem dX3_structure_41 : decode cX3_structure 41 = .ok (.aload_n 0, 1) := by decide +kernel
set_option maxRecDepth 100000 in
theorem dX3_structure_42 : decode cX3_structure 42 = .ok (.ldc 88, 2) := by decide +kernel
set_option maxRecDepth 100000 in
theorem dX3_structure_44 : decode cX3_structure 44 = .ok (.invokevirtual 90, 3) := by decide +kernel
set_option maxRecDepth 100000 in
theorem dX3_structure_47 : decode cX3_structure 47 = .ok (.ifCond .ne (-15), 3) := by decide +kernel
set_option maxRecDepth 100000 in
theorem dX3_structure_50 : decode cX3_structure 50 = .ok (.aload_n 0, 1) := by decide +kernel
set_option maxRecDepth 100000 in
theorem dX3_structure_51 : decode cX3_structure 51 = .ok (.ldc 223, 2) := by decide +kernel
set_option maxRecDepth 100000 in
theorem dX3_structure_53 : decode cX3_structure 53 = .ok (.invokevirtual 99, 3) := by decide +kernel
set_option maxRecDepth 100000 in
theorem dX3_structure_56 : decode cX3_structure 56 = .ok (.pop, 1) := by decide +kernel
set_option maxRecDepth 100000 in
theorem dX3_structure_57 : decode cX3_structure 57 = .ok (.aload_n 2, 1) := by decide +kernel
set_option maxRecDepth 100000 in
theorem dX3_structure_58 : decode cX3_structure 58 = .ok (.new 71, 3) := by decide +kernel
set_option maxRecDepth 100000 in
theorem dX3_structure_61 : decode cX3_structure 61 = .ok (.dup, 1) := by decide +kernel
set_option maxRecDepth 100000 in
theorem dX3_structure_62 : decode cX3_structure 62 = .ok (.iconst 2, 1) := by decide +kernel
set_option maxRecDepth 100000 in
theorem dX3_structure_63 : decode cX3_structure 63 = .ok (.aload_n 0, 1) := by decide +kernel
set_option maxRecDepth 100000 in
theorem dX3_structure_64 : decode cX3_structure 64 = .ok (.ldc 225, 2) := by decide +kernel
set_option maxRecDepth 100000 in
theorem dX3_structure_66 : decode cX3_structure 66 = .ok (.invokevirtual 99, 3) := by decide +kernel
set_option maxRecDepth 100000 in
theorem dX3_structure_69 : decode cX3_structure 69 = .ok (.invokespecial 77, 3) := by decide +kernel
set_option maxRecDepth 100000 in
theorem dX3_structure_72 : decode cX3_structure 72 = .ok (.invokevirtual 84, 3) := by decide +kernel
set_option maxRecDepth 100000 in
theorem dX3_structure_75 : decode cX3_structure 75 = .ok (.aload_n 0, 1) := by decide +kernel
set_option maxRecDepth 100000 in
theorem dX3_structure_76 : decode cX3_structure 76 = .ok (.invokevirtual 163, 3) := by decide +kernel
set_option maxRecDepth 100000 in
theorem dX3_structure_79 : decode cX3_structure 79 = .ok (.invokevirtual 84, 3) := by decide +kernel
set_option maxRecDepth 100000 in
theorem dX3_structure_82 : decode cX3_structure 82 = .ok (.areturn, 1) := by decide +kernel
set_option maxRecDepth 100000 in
theorem dX3_structure_83 : decode cX3_structure 83 = .ok (.aload_n 0, 1) := by decide +kernel
set_option maxRecDepth 100000 in
theorem dX3_structure_84 : decode cX3_structure 84 = .ok (.ldc 212, 2) := by decide +kernel
set_option maxRecDepth 100000 in
theorem dX3_structure_86 : decode cX3_structure 86 = .ok (.invokevirtual 90, 3) := by decide +kernel
set_option maxRecDepth 100000 in
theorem dX3_structure_89 : decode cX3_structure 89 = .ok (.ifCond .eq 30, 3) := by decide +kernel
set_option maxRecDepth 100000 in
theorem dX3_structure_92 : decode cX3_structure 92 = .ok (.new 71, 3) := by decide +kernel
set_option maxRecDepth 100000 in
theorem dX3_structure_95 : decode cX3_structure 95 = .ok (.dup, 1) := by decide +kernel
set_option maxRecDepth 100000 in
theorem dX3_structure_96 : decode cX3_structure 96 = .ok (.bipush 10, 2) := by decide +kernel
set_option maxRecDepth 100000 in
theorem dX3_structure_98 : decode cX3_structure 98 = .ok (.aload_n 1, 1) := by decide +kernel
set_option maxRecDepth 100000 in
theorem dX3_structure_99 : decode cX3_structure 99 = .ok (.invokespecial 77, 3) := by decide +kernel
set_option maxRecDepth 100000 in
theorem dX3_structure_102 : decode cX3_structure 102 = .ok (.aload_n 0, 1) := by decide +kernel
set_option maxRecDepth 100000 in
theorem dX3_structure_103 : decode cX3_structure 103 = .ok (.invokevirtual 227, 3) := by decide +kernel
set_option maxRecDepth 100000 in
theorem dX3_structure_106 : decode cX3_structure 106 = .ok (.invokevirtual 84, 3) := by decide +kernel
set_option maxRecDepth 100000 in
theorem dX3_structure_109 : decode cX3_structure 109 = .ok (.astore_n 2, 1) := by decide +kernel
set_option maxRecDepth 100000 in
theorem dX3_structure_110 : decode cX3_structure 110 = .ok (.aload_n 0, 1) := by decide +kernel
set_option maxRecDepth 100000 in
theorem dX3_structure_111 : decode cX3_structure 111 = .ok (.ldc 230, 2) := by decide +kernel
set_option maxRecDepth 100000 in
theorem dX3_structure_113 : decode cX3_structure 113 = .ok (.invokevirtual 99, 3) := by decide +kernel
set_option maxRecDepth 100000 in
theorem dX3_structure_116 : decode cX3_structure 116 = .ok (.pop, 1) := by decide +kernel
set_option maxRecDepth 100000 in
theorem dX3_structure_117 : decode cX3_structure 117 = .ok (.aload_n 2, 1) := by decide +kernel
set_option maxRecDepth 100000 in
theorem dX3_structure_118 : decode cX3_structure 118 = .ok (.areturn, 1) := by decide +kernel
set_option maxRecDepth 100000 in
theorem dX3_structure_119 : decode cX3_structure 119 = .ok (.aload_n 0, 1) := by decide +kernel
set_option maxRecDepth 100000 in
theorem dX3_structure_120 : decode cX3_structure 120 = .ok (.ldc 214, 2) := by decide +kernel
set_option maxRecDepth 100000 in
theorem dX3_structure_122 : decode cX3_structure 122 = .ok (.invokevirtual 90, 3) := by decide +kernel
set_option maxRecDepth 100000 in
theorem dX3_structure_125 : decode cX3_structure 125 = .ok (.istore_n 2, 1) := by decide +kernel
set_option maxRecDepth 100000 in
theorem dX3_structure_126 : decode cX3_structure 126 = .ok (.iload_n 2, 1) := by decide +kernel
set_option maxRecDepth 100000 in
theorem dX3_structure_127 : decode cX3_structure 127 = .ok (.ifCond .ne 10, 3) := by decide +kernel
set_option maxRecDepth 100000 in
theorem dX3_structure_130 : decode cX3_structure 130 = .ok (.aload_n 0, 1) := by decide +kernel
set_option maxRecDepth 100000 in
theorem dX3_structure_131 : decode cX3_structure 131 = .ok (.ldc 216, 2) := by decide +kernel
set_option maxRecDepth 100000 in
theorem dX3_structure_133 : decode cX3_structure 133 = .ok (.invokevirtual 99, 3) := by decide +kernel
set_option maxRecDepth 100000 in
theorem dX3_structure_136 : decode cX3_structure 136 = .ok (.pop, 1) := by decide +kernel
set_option maxRecDepth 100000 in
theorem dX3_structure_137 : decode cX3_structure 137 = .ok (.aload_n 0, 1) := by decide +kernel
set_option maxRecDepth 100000 in
theorem dX3_structure_138 : decode cX3_structure 138 = .ok (.ldc 225, 2) := by decide +kernel
set_option maxRecDepth 100000 in
theorem dX3_structure_140 : decode cX3_structure 140 = .ok (.invokevirtual 99, 3) := by decide +kernel
set_option maxRecDepth 100000 in
theorem dX3_structure_143 : decode cX3_structure 143 = .ok (.pop, 1) := by decide +kernel
set_option maxRecDepth 100000 in
theorem dX3_structure_144 : decode cX3_structure 144 = .ok (.iload_n 2, 1) := by decide +kernel
set_option maxRecDepth 100000 in
theorem dX3_structure_145 : decode cX3_structure 145 = .ok (.ifCond .eq 23, 3) := by decide +kernel
set_option maxRecDepth 100000 in
theorem dX3_structure_148 : decode cX3_structure 148 = .ok (.new 71, 3) := by decide +kernel
set_option maxRecDepth 100000 in
theorem dX3_structure_151 : decode cX3_structure 151 = .ok (.dup, 1) := by decide +kernel
set_option maxRecDepth 100000 in
theorem dX3_structure_152 : decode cX3_structure 152 = .ok (.bipush 11, 2) := by decide +kernel
set_option maxRecDepth 100000 in
theorem dX3_structure_154 : decode cX3_structure 154 = .ok (.aload_n 1, 1) := by decide +kernel
set_option maxRecDepth 100000 in
theorem dX3_structure_155 : decode cX3_structure 155 = .ok (.invokespecial 77, 3) := by decide +kernel
set_option maxRecDepth 100000 in
theorem dX3_structure_158 : decode cX3_structure 158 = .ok (.aload_n 0, 1) := by decide +kernel
set_option maxRecDepth 100000 in
theorem dX3_structure_159 : decode cX3_structure 159 = .ok (.invokevirtual 218, 3) := by decide +kernel
set_option maxRecDepth 100000 in
theorem dX3_structure_162 : decode cX3_structure 162 = .ok (.invokevirtual 84, 3) := by decide +kernel
set_option maxRecDepth 100000 in
theorem dX3_structure_165 : decode cX3_structure 165 = .ok (.goto 20, 3) := by decide +kernel
set_option maxRecDepth 100000 in
theorem dX3_structure_168 : decode cX3_structure 168 = .ok (.new 71, 3) := by decide +kernel
set_option maxRecDepth 100000 in
theorem dX3_structure_171 : decode cX3_structure 171 = .ok (.dup, 1) := by decide +kernel
set_option maxRecDepth 100000 in
theorem dX3_structure_172 : decode cX3_structure 172 = .ok (.bipush 12, 2) := by decide +kernel
set_option maxRecDepth 100000 in
theorem dX3_structure_174 : decode cX3_structure 174 = .ok (.aload_n 1, 1) := by decide +kernel
set_option maxRecDepth 100000 in
theorem dX3_structure_175 : decode cX3_structure 175 = .ok (.invokespecial 77, 3) := by decide +kernel
set_option maxRecDepth 100000 in
theorem dX3_structure_178 : decode cX3_structure 178 = .ok (.aload_n 0, 1) := by decide +kernel
set_option maxRecDepth 100000 in
theorem dX3_structure_179 : decode cX3_structure 179 = .ok (.invokevirtual 163, 3) := by decide +kernel
set_option maxRecDepth 100000 in
theorem dX3_structure_182 : decode cX3_structure 182 = .ok (.invokevirtual 84, 3) := by decide +kernel
set_option maxRecDepth 100000 in
theorem dX3_structure_185 : decode cX3_structure 185 = .ok (.areturn, 1) := by decide +kernel
def lX3_structure_32 (G : xG) (fr lo : Nat) (x0 : Nat) (x2 : Nat) (h : xH) (Q : Outcome → xH → Prop) : Prop := xP G YX3_structure fr lo 32 [(0, rv x0), (2, rv x2)] [] h Q
set_option maxRecDepth 100000 in
def bX3_structure_185 (G : xG) (fr lo : Nat) (s0 : Nat) (h : xH) (Q : Outcome → xH → Prop) : Prop := Q (.returned (some (rv s0))) h
set_option maxRecDepth 100000 in
theorem uX3_structure_185 {G : xG} {fr lo : Nat} {s0 : Nat} {h : xH} {Q : Outcome → xH → Prop} (hq : bX3_structure_185 G fr lo s0 h Q) : xP G YX3_structure fr lo 185 [] [rv s0] h Q := by
  unfold bX3_structure_185 at hq
  exact x_aret rfl xty_O dX3_structure_185 hq
set_option maxRecDepth 100000 in
def bX3_structure_137 (G : xG) (fr lo : Nat) (x0 : Nat) (x1 : Nat) (x2 : Int32) (h : xH) (Q : Outcome → xH → Prop) : Prop := tg h x0 = 4 ∧ 1 ≤ fr ∧ 13 ≤ lo ∧ xRr G YX3_need (fr - 1) (lo - 13) [rv x0, rv (tx G 20)] h (fun x5 h4 => xext h h4 → ((x2 = 0 → nx h4 + 1 ≤ xGN G ∧ us h4 + 6 ≤ xGU G ∧ (∀ (a10 : Nat) (h11 : xH), a10 = nx h4 + 1 → h11 = nO h4 16 6 → xfresh h4 a10 → 1 ≤ fr ∧ 15 ≤ lo ∧ xRv G YX15_init (fr - 1) (lo - 15) [rv a10, .int 12, rv x1] h11 (fun h18 => xext h11 h18 → 1 ≤ fr ∧ 14 ≤ lo ∧ xRr G YX3_type (fr - 1) (lo - 14) [rv x0] h18 (fun x27 h26 => xext h18 h26 → 1 ≤ fr ∧ 13 ≤ lo ∧ xRr G YX15_add (fr - 1) (lo - 13) [rv a10, rv x27] h26 (fun x34 h33 => xext h26 h33 → bX3_structure_185 G fr lo x34 h33 Q) (fun r h2 => Q (.threw r) h2)) (fun r h2 => Q (.threw r) h2)) (fun r h2 => Q (.threw r) h2))) ∧ (¬ x2 = 0 → nx h4 + 1 ≤ xGN G ∧ us h4 + 6 ≤ xGU G ∧ (∀ (a38 : Nat) (h39 : xH), a38 = nx h4 + 1 → h39 = nO h4 16 6 → xfresh h4 a38 → 1 ≤ fr ∧ 15 ≤ lo ∧ xRv G YX15_init (fr - 1) (lo - 15) [rv a38, .int 11, rv x1] h39 (fun h46 => xext h39 h46 → 1 ≤ fr ∧ 15 ≤ lo ∧ xRr G YX3_simple (fr - 1) (lo - 15) [rv x0] h46 (fun x55 h54 => xext h46 h54 → 1 ≤ fr ∧ 13 ≤ lo ∧ xRr G YX15_add (fr - 1) (lo - 13) [rv a38, rv x55] h54 (fun x62 h61 => xext h54 h61 → bX3_structure_185 G fr lo x62 h61 Q) (fun r h2 => Q (.threw r) h2)) (fun r h2 => Q (.threw r) h2)) (fun r h2 => Q (.threw r) h2))))) (fun r h2 => Q (.threw r) h2)
set_option maxRecDepth 100000 in
theorem uX3_structure_137 {G : xG} {fr lo : Nat} {x0 : Nat} {x1 : Nat} {x2 : Int32} {h : xH} {Q : Outcome → xH → Prop} (hq : bX3_structure_137 G fr lo x0 x1 x2 h Q) : xP G YX3_structure fr lo 137 [(0, rv x0), (1, rv x1), (2, .int x2)] [] h Q := by
  unfold bX3_structure_137 at hq
  refine x_aload_n 0 dX3_structure_137 rfl ?_
  refine x_ldcS (n := 20) 84 srX3_225 dX3_structure_138 ?_
  obtain ⟨g1, hq⟩ := hq
  obtain ⟨g2, g3, hq⟩ := hq
  refine x_callV (Yc := YX3_need) (as := [rv (tx G 20)]) (st := []) q1719 mvX3_need g1 rfl dX3_structure_140 (xle (xal1 (rv_cat _) (xal1 (rv_cat _) xal0)) (by decide)) (xfr g2) (xlo xsw0 (by decide) g3) (xKr hq (fun x5 h4 hq e6 => ?_) (fun _ _ q _ => q))
  replace hq := hq e6
  refine x_pop dX3_structure_143 (rv_cat _) ?_
  refine x_iload_n 2 dX3_structure_144 rfl ?_
  refine x_if_eq (tgt := 168) dX3_structure_145 (by decide) (fun c7 => ?_) (fun c7 => ?_)
  · replace hq := hq.1 c7
    obtain ⟨g8, g9, hq⟩ := hq
    obtain ⟨a10, e12⟩ : ∃ y, y = nx h4 + 1 := ⟨_, rfl⟩
    obtain ⟨h11, e13⟩ : ∃ y, y = nO h4 16 6 := ⟨_, rfl⟩
    refine x_new' cdX3_71 dX3_structure_168 g8 g9 e12 e13 (fun f14 => ?_)
    replace hq := hq a10 h11 e12 e13 f14
    have t15 : tg h11 a10 = 16 := by rw [e13, e12]; exact tg_nO
    refine x_dup dX3_structure_171 (rv_cat _) ?_
    refine x_bipush (v := 12) dX3_structure_172 (by decide) ?_
    refine x_aload_n 1 dX3_structure_174 rfl ?_
    obtain ⟨g16, g17, hq⟩ := hq
    refine x_callI (Yc := YX15_init) (as := [.int 12, rv x1]) (st := [rv a10]) q1749 miX15_init (by rw [t15]; decide) rfl dX3_structure_175 (xle (xal1 (rv_cat _) (xal1 rfl (xal1 (rv_cat _) xal0))) (by decide)) (xfr g16) (xlo (xsw1 (rv_cat _) xsw0) (by decide) g17) (xKv hq (fun h18 hq e20 => ?_) (fun _ _ q _ => q))
    replace hq := hq e20
    refine x_aload_n 0 dX3_structure_178 rfl ?_
    have t21 : tg h4 x0 = 4 := e6.tg g1 (by decide)
    have t22 : tg h11 x0 = 4 := by rw [e13]; exact tg_nO_ne e12 f14 t21 (by decide)
    have t23 : tg h18 x0 = 4 := e20.tg t22 (by decide)
    obtain ⟨g24, g25, hq⟩ := hq
    refine x_callV (Yc := YX3_type) (as := []) (st := [rv a10]) q1835 mvX3_type t23 rfl dX3_structure_179 (xle (xal1 (rv_cat _) xal0) (by decide)) (xfr g24) (xlo (xsw1 (rv_cat _) xsw0) (by decide) g25) (xKr hq (fun x27 h26 hq e28 => ?_) (fun _ _ q _ => q))
    replace hq := hq e28
    have t29 : tg h18 a10 = 16 := e20.tg t15 (by decide)
    have t30 : tg h26 a10 = 16 := e28.tg t29 (by decide)
    obtain ⟨g31, g32, hq⟩ := hq
    refine x_callV (Yc := YX15_add) (as := [rv x27]) (st := []) q1795 mvX15_add t30 rfl dX3_structure_182 (xle (xal1 (rv_cat _) (xal1 (rv_cat _) xal0)) (by decide)) (xfr g31) (xlo xsw0 (by decide) g32) (xKr hq (fun x34 h33 hq e35 => ?_) (fun _ _ q _ => q))
    replace hq := hq e35
    refine xP.pick (lv' := []) [] rfl ?_
    exact uX3_structure_185 hq
  · replace hq := hq.2 c7
    obtain ⟨g36, g37, hq⟩ := hq
    obtain ⟨a38, e40⟩ : ∃ y, y = nx h4 + 1 := ⟨_, rfl⟩
    obtain ⟨h39, e41⟩ : ∃ y, y = nO h4 16 6 := ⟨_, rfl⟩
    refine x_new' cdX3_71 dX3_structure_148 g36 g37 e40 e41 (fun f42 => ?_)
    replace hq := hq a38 h39 e40 e41 f42
    have t43 : tg h39 a38 = 16 := by rw [e41, e40]; exact tg_nO
    refine x_dup dX3_structure_151 (rv_cat _) ?_
    refine x_bipush (v := 11) dX3_structure_152 (by decide) ?_
    refine x_aload_n 1 dX3_structure_154 rfl ?_
    obtain ⟨g44, g45, hq⟩ := hq
    refine x_callI (Yc := YX15_init) (as := [.int 11, rv x1]) (st := [rv a38]) q1749 miX15_init (by rw [t43]; decide) rfl dX3_structure_155 (xle (xal1 (rv_cat _) (xal1 rfl (xal1 (rv_cat _) xal0))) (by decide)) (xfr g44) (xlo (xsw1 (rv_cat _) xsw0) (by decide) g45) (xKv hq (fun h46 hq e48 => ?_) (fun _ _ q _ => q))
    replace hq := hq e48
    refine x_aload_n 0 dX3_structure_158 rfl ?_
    have t49 : tg h4 x0 = 4 := e6.tg g1 (by decide)
    have t50 : tg h39 x0 = 4 := by rw [e41]; exact tg_nO_ne e40 f42 t49 (by decide)
    have t51 : tg h46 x0 = 4 := e48.tg t50 (by decide)
    obtain ⟨g52, g53, hq⟩ := hq
    refine x_callV (Yc := YX3_simple) (as := []) (st := [rv a38]) q1851 mvX3_simple t51 rfl dX3_structure_159 (xle (xal1 (rv_cat _) xal0) (by decide)) (xfr g52) (xlo (xsw1 (rv_cat _) xsw0) (by decide) g53) (xKr hq (fun x55 h54 hq e56 => ?_) (fun _ _ q _ => q))
    replace hq := hq e56
    have t57 : tg h46 a38 = 16 := e48.tg t43 (by decide)
    have t58 : tg h54 a38 = 16 := e56.tg t57 (by decide)
    obtain ⟨g59, g60, hq⟩ := hq
    refine x_callV (Yc := YX15_add) (as := [rv x55]) (st := []) q1795 mvX15_add t58 rfl dX3_structure_162 (xle (xal1 (rv_cat _) (xal1 (rv_cat _) xal0)) (by decide)) (xfr g59) (xlo xsw0 (by decide) g60) (xKr hq (fun x62 h61 hq e63 => ?_) (fun _ _ q _ => q))
    replace hq := hq e63
    refine x_goto (tgt := 185) dX3_structure_165 (by decide) ?_
    refine xP.pick (lv' := []) [] rfl ?_
    exact uX3_structure_185 hq
set_option maxRecDepth 100000 in
def bX3_structure_32 (G : xG) (fr lo : Nat) (x0 : Nat) (x2 : Nat) (h : xH) (Q : Outcome → xH → Prop) : Prop := tg h x0 = 4 ∧ 1 ≤ fr ∧ 15 ≤ lo ∧ xRr G YX3_simple (fr - 1) (lo - 15) [rv x0] h (fun x5 h4 => xext h h4 → tg h4 x2 = 16 ∧ 1 ≤ fr ∧ 13 ≤ lo ∧ xRr G YX15_add (fr - 1) (lo - 13) [rv x2, rv x5] h4 (fun x11 h10 => xext h4 h10 → 1 ≤ fr ∧ 13 ≤ lo ∧ xRi G YX3_has (fr - 1) (lo - 13) [rv x0, rv (tx G 63)] h10 (fun x18 h17 => xext h10 h17 → ((¬ x18 = 0 → lX3_structure_32 G fr lo x0 x2 h17 Q) ∧ (x18 = 0 → 1 ≤ fr ∧ 13 ≤ lo ∧ xRr G YX3_need (fr - 1) (lo - 13) [rv x0, rv (tx G 47)] h17 (fun x25 h24 => xext h17 h24 → nx h24 + 1 ≤ xGN G ∧ us h24 + 6 ≤ xGU G ∧ (∀ (a29 : Nat) (h30 : xH), a29 = nx h24 + 1 → h30 = nO h24 16 6 → xfresh h24 a29 → 1 ≤ fr ∧ 17 ≤ lo ∧ xRr G YX3_need (fr - 1) (lo - 17) [rv x0, rv (tx G 20)] h30 (fun x40 h39 => xext h30 h39 → 1 ≤ fr ∧ 16 ≤ lo ∧ xRv G YX15_init (fr - 1) (lo - 16) [rv a29, .int 2, rv x40] h39 (fun h45 => xext h39 h45 → 1 ≤ fr ∧ 13 ≤ lo ∧ xRr G YX15_add (fr - 1) (lo - 13) [rv x2, rv a29] h45 (fun x57 h56 => xext h45 h56 → 1 ≤ fr ∧ 14 ≤ lo ∧ xRr G YX3_type (fr - 1) (lo - 14) [rv x0] h56 (fun x65 h64 => xext h56 h64 → tg h64 x57 = 16 ∧ 1 ≤ fr ∧ 13 ≤ lo ∧ xRr G YX15_add (fr - 1) (lo - 13) [rv x57, rv x65] h64 (fun x71 h70 => xext h64 h70 → Q (.returned (some (rv x71))) h70) (fun r h2 => Q (.threw r) h2)) (fun r h2 => Q (.threw r) h2)) (fun r h2 => Q (.threw r) h2)) (fun r h2 => Q (.threw r) h2)) (fun r h2 => Q (.threw r) h2))) (fun r h2 => Q (.threw r) h2)))) (fun r h2 => Q (.threw r) h2)) (fun r h2 => Q (.threw r) h2)) (fun r h2 => Q (.threw r) h2)
set_option maxRecDepth 100000 in
theorem uX3_structure_32 {G : xG} {fr lo : Nat} {x0 : Nat} {x2 : Nat} {h : xH} {Q : Outcome → xH → Prop} (hq : bX3_structure_32 G fr lo x0 x2 h Q) : xP G YX3_structure fr lo 32 [(0, rv x0), (2, rv x2)] [] h Q := by
  unfold bX3_structure_32 at hq
  refine x_aload_n 1 dX3_structure_32 rfl ?_
  refine x_aload_n 0 dX3_structure_33 rfl ?_
  obtain ⟨g1, hq⟩ := hq
  obtain ⟨g2, g3, hq⟩ := hq
  refine x_callV (Yc := YX3_simple) (as := []) (st := [rv x2]) q1851 mvX3_simple g1 rfl dX3_structure_34 (xle (xal1 (rv_cat _) xal0) (by decide)) (xfr g2) (xlo (xsw1 (rv_cat _) xsw0) (by decide) g3) (xKr hq (fun x5 h4 hq e6 => ?_) (fun _ _ q _ => q))
  replace hq := hq e6
  obtain ⟨g7, hq⟩ := hq
  obtain ⟨g8, g9, hq⟩ := hq
  refine x_callV (Yc := YX15_add) (as := [rv x5]) (st := []) q1795 mvX15_add g7 rfl dX3_structure_37 (xle (xal1 (rv_cat _) (xal1 (rv_cat _) xal0)) (by decide)) (xfr g8) (xlo xsw0 (by decide) g9) (xKr hq (fun x11 h10 hq e12 => ?_) (fun _ _ q _ => q))
  replace hq := hq e12
  refine x_pop dX3_structure_40 (rv_cat _) ?_
  refine x_aload_n 0 dX3_structure_41 rfl ?_
  refine x_ldcS (n := 63) 69 srX3_88 dX3_structure_42 ?_
  have t13 : tg h4 x0 = 4 := e6.tg g1 (by decide)
  have t14 : tg h10 x0 = 4 := e12.tg t13 (by decide)
  obtain ⟨g15, g16, hq⟩ := hq
  refine x_callV (Yc := YX3_has) (as := [rv (tx G 63)]) (st := []) q1783 mvX3_has t14 rfl dX3_structure_44 (xle (xal1 (rv_cat _) (xal1 (rv_cat _) xal0)) (by decide)) (xfr g15) (xlo xsw0 (by decide) g16) (xKi hq (fun x18 h17 hq e19 => ?_) (fun _ _ q _ => q))
  replace hq := hq e19
  refine x_if_ne (tgt := 32) dX3_structure_47 (by decide) (fun c20 => ?_) (fun c20 => ?_)
  · replace hq := hq.1 c20
    exact hq
  · replace hq := hq.2 c20
    refine x_aload_n 0 dX3_structure_50 rfl ?_
    refine x_ldcS (n := 47) 83 srX3_223 dX3_structure_51 ?_
    have t21 : tg h17 x0 = 4 := e19.tg t14 (by decide)
    obtain ⟨g22, g23, hq⟩ := hq
    refine x_callV (Yc := YX3_need) (as := [rv (tx G 47)]) (st := []) q1719 mvX3_need t21 rfl dX3_structure_53 (xle (xal1 (rv_cat _) (xal1 (rv_cat _) xal0)) (by decide)) (xfr g22) (xlo xsw0 (by decide) g23) (xKr hq (fun x25 h24 hq e26 => ?_) (fun _ _ q _ => q))
    replace hq := hq e26
    refine x_pop dX3_structure_56 (rv_cat _) ?_
    refine x_aload_n 1 dX3_structure_57 rfl ?_
    obtain ⟨g27, g28, hq⟩ := hq
    obtain ⟨a29, e31⟩ : ∃ y, y = nx h24 + 1 := ⟨_, rfl⟩
    obtain ⟨h30, e32⟩ : ∃ y, y = nO h24 16 6 := ⟨_, rfl⟩
    refine x_new' cdX3_71 dX3_structure_58 g27 g28 e31 e32 (fun f33 => ?_)
    replace hq := hq a29 h30 e31 e32 f33
    have t34 : tg h30 a29 = 16 := by rw [e32, e31]; exact tg_nO
    refine x_dup dX3_structure_61 (rv_cat _) ?_
    refine x_iconst (v := 2) dX3_structure_62 (by decide) ?_
    refine x_aload_n 0 dX3_structure_63 rfl ?_
    refine x_ldcS (n := 20) 84 srX3_225 dX3_structure_64 ?_
    have t35 : tg h24 x0 = 4 := e26.tg t21 (by decide)
    have t36 : tg h30 x0 = 4 := by rw [e32]; exact tg_nO_ne e31 f33 t35 (by decide)
    obtain ⟨g37, g38, hq⟩ := hq
    refine x_callV (Yc := YX3_need) (as := [rv (tx G 20)]) (st := [.int 2, rv a29, rv a29, rv x2]) q1719 mvX3_need t36 rfl dX3_structure_66 (xle (xal1 (rv_cat _) (xal1 (rv_cat _) xal0)) (by decide)) (xfr g37) (xlo (xsw1 rfl (xsw1 (rv_cat _) (xsw1 (rv_cat _) (xsw1 (rv_cat _) xsw0)))) (by decide) g38) (xKr hq (fun x40 h39 hq e41 => ?_) (fun _ _ q _ => q))
    replace hq := hq e41
    have t42 : tg h39 a29 = 16 := e41.tg t34 (by decide)
    obtain ⟨g43, g44, hq⟩ := hq
    refine x_callI (Yc := YX15_init) (as := [.int 2, rv x40]) (st := [rv a29, rv x2]) q1749 miX15_init (by rw [t42]; decide) rfl dX3_structure_69 (xle (xal1 (rv_cat _) (xal1 rfl (xal1 (rv_cat _) xal0))) (by decide)) (xfr g43) (xlo (xsw1 (rv_cat _) (xsw1 (rv_cat _) xsw0)) (by decide) g44) (xKv hq (fun h45 hq e47 => ?_) (fun _ _ q _ => q))
    replace hq := hq e47
    have t48 : tg h10 x2 = 16 := e12.tg g7 (by decide)
    have t49 : tg h17 x2 = 16 := e19.tg t48 (by decide)
    have t50 : tg h24 x2 = 16 := e26.tg t49 (by decide)
    have t51 : tg h30 x2 = 16 := by rw [e32]; exact tg_nO_ne e31 f33 t50 (by decide)
    have t52 : tg h39 x2 = 16 := e41.tg t51 (by decide)
    have t53 : tg h45 x2 = 16 := e47.tg t52 (by decide)
    obtain ⟨g54, g55, hq⟩ := hq
    refine x_callV (Yc := YX15_add) (as := [rv a29]) (st := []) q1795 mvX15_add t53 rfl dX3_structure_72 (xle (xal1 (rv_cat _) (xal1 (rv_cat _) xal0)) (by decide)) (xfr g54) (xlo xsw0 (by decide) g55) (xKr hq (fun x57 h56 hq e58 => ?_) (fun _ _ q _ => q))
    replace hq := hq e58
    refine x_aload_n 0 dX3_structure_75 rfl ?_
    have t59 : tg h39 x0 = 4 := e41.tg t36 (by decide)
    have t60 : tg h45 x0 = 4 := e47.tg t59 (by decide)
    have t61 : tg h56 x0 = 4 := e58.tg t60 (by decide)
    obtain ⟨g62, g63, hq⟩ := hq
    refine x_callV (Yc := YX3_type) (as := []) (st := [rv x57]) q1835 mvX3_type t61 rfl dX3_structure_76 (xle (xal1 (rv_cat _) xal0) (by decide)) (xfr g62) (xlo (xsw1 (rv_cat _) xsw0) (by decide) g63) (xKr hq (fun x65 h64 hq e66 => ?_) (fun _ _ q _ => q))
    replace hq := hq e66
    obtain ⟨g67, hq⟩ := hq
    obtain ⟨g68, g69, hq⟩ := hq
    refine x_callV (Yc := YX15_add) (as := [rv x65]) (st := []) q1795 mvX15_add g67 rfl dX3_structure_79 (xle (xal1 (rv_cat _) (xal1 (rv_cat _) xal0)) (by decide)) (xfr g68) (xlo xsw0 (by decide) g69) (xKr hq (fun x71 h70 hq e72 => ?_) (fun _ _ q _ => q))
    replace hq := hq e72
    exact x_aret rfl xty_O dX3_structure_82 hq
set_option maxRecDepth 100000 in
def bX3_structure (G : xG) (fr lo : Nat) (x0 : Nat) (h : xH) (Q : Outcome → xH → Prop) : Prop := tg h x0 = 4 ∧ 1 ≤ fr ∧ 13 ≤ lo ∧ xRi G YX3_has (fr - 1) (lo - 13) [rv x0, rv (tx G 1)] h (fun x5 h4 => xext h h4 → ((x5 = 0 → 1 ≤ fr ∧ 13 ≤ lo ∧ xRi G YX3_has (fr - 1) (lo - 13) [rv x0, rv (tx G 25)] h4 (fun x12 h11 => xext h4 h11 → ((x12 = 0 → 1 ≤ fr ∧ 13 ≤ lo ∧ xRi G YX3_has (fr - 1) (lo - 13) [rv x0, rv (tx G 27)] h11 (fun x19 h18 => xext h11 h18 → ((¬ x19 = 0 → bX3_structure_137 G fr lo x0 (fR h x0 770) x19 h18 Q) ∧ (x19 = 0 → 1 ≤ fr ∧ 13 ≤ lo ∧ xRr G YX3_need (fr - 1) (lo - 13) [rv x0, rv (tx G 10)] h18 (fun x26 h25 => xext h18 h25 → bX3_structure_137 G fr lo x0 (fR h x0 770) x19 h25 Q) (fun r h2 => Q (.threw r) h2)))) (fun r h2 => Q (.threw r) h2)) ∧ (¬ x12 = 0 → nx h11 + 1 ≤ xGN G ∧ us h11 + 6 ≤ xGU G ∧ (∀ (a30 : Nat) (h31 : xH), a30 = nx h11 + 1 → h31 = nO h11 16 6 → xfresh h11 a30 → 1 ≤ fr ∧ 15 ≤ lo ∧ xRv G YX15_init (fr - 1) (lo - 15) [rv a30, .int 10, rv (fR h x0 770)] h31 (fun h38 => xext h31 h38 → 1 ≤ fr ∧ 15 ≤ lo ∧ xRr G YX3_fields (fr - 1) (lo - 15) [rv x0] h38 (fun x47 h46 => xext h38 h46 → 1 ≤ fr ∧ 13 ≤ lo ∧ xRr G YX15_add (fr - 1) (lo - 13) [rv a30, rv x47] h46 (fun x54 h53 => xext h46 h53 → 1 ≤ fr ∧ 13 ≤ lo ∧ xRr G YX3_need (fr - 1) (lo - 13) [rv x0, rv (tx G 9)] h53 (fun x61 h60 => xext h53 h60 → Q (.returned (some (rv x54))) h60) (fun r h2 => Q (.threw r) h2)) (fun r h2 => Q (.threw r) h2)) (fun r h2 => Q (.threw r) h2)) (fun r h2 => Q (.threw r) h2))))) (fun r h2 => Q (.threw r) h2)) ∧ (¬ x5 = 0 → nx h4 + 1 ≤ xGN G ∧ us h4 + 6 ≤ xGU G ∧ (∀ (a65 : Nat) (h66 : xH), a65 = nx h4 + 1 → h66 = nO h4 16 6 → xfresh h4 a65 → 1 ≤ fr ∧ 15 ≤ lo ∧ xRv G YX15_init (fr - 1) (lo - 15) [rv a65, .int 9, rv (fR h x0 770)] h66 (fun h73 => xext h66 h73 → 1 ≤ fr ∧ 13 ≤ lo ∧ xRr G YX3_need (fr - 1) (lo - 13) [rv x0, rv (tx G 46)] h73 (fun x82 h81 => xext h73 h81 → lX3_structure_32 G fr lo x0 a65 h81 Q) (fun r h2 => Q (.threw r) h2)) (fun r h2 => Q (.threw r) h2))))) (fun r h2 => Q (.threw r) h2)
set_option maxRecDepth 100000 in
theorem uX3_structure {G : xG} {fr lo : Nat} {x0 : Nat} {h : xH} {Q : Outcome → xH → Prop} (hq : bX3_structure G fr lo x0 h Q) : xP G YX3_structure fr lo 0 [(0, rv x0)] [] h Q := by
  unfold bX3_structure at hq
  refine x_aload_n 0 dX3_structure_0 rfl ?_
  obtain ⟨g1, hq⟩ := hq
  refine x_get (v := rv (fR h x0 770)) fdX3_25 dX3_structure_1 g1 rfl ?_
  refine x_astore_n (lv' := [(1, rv (fR h x0 770)), (0, rv x0)]) dX3_structure_4 (by decide) (by first | rfl | (simp [rv_cat, Value.category]; done) | (simp [rv_cat, Value.category]; decide)) ?_
  refine x_aload_n 1 dX3_structure_5 rfl ?_
  refine x_ldcS (n := 1) 80 srX3_210 dX3_structure_6 ?_
  obtain ⟨g2, g3, hq⟩ := hq
  refine x_callV (Yc := YX3_has) (as := [rv (tx G 1)]) (st := []) q1783 mvX3_has g1 rfl dX3_structure_8 (xle (xal1 (rv_cat _) (xal1 (rv_cat _) xal0)) (by decide)) (xfr g2) (xlo xsw0 (by decide) g3) (xKi hq (fun x5 h4 hq e6 => ?_) (fun _ _ q _ => q))
  replace hq := hq e6
  refine x_if_eq (tgt := 83) dX3_structure_11 (by decide) (fun c7 => ?_) (fun c7 => ?_)
  · replace hq := hq.1 c7
    refine x_aload_n 1 dX3_structure_83 rfl ?_
    refine x_ldcS (n := 25) 85 srX3_212 dX3_structure_84 ?_
    have t8 : tg h4 x0 = 4 := e6.tg g1 (by decide)
    obtain ⟨g9, g10, hq⟩ := hq
    refine x_callV (Yc := YX3_has) (as := [rv (tx G 25)]) (st := []) q1783 mvX3_has t8 rfl dX3_structure_86 (xle (xal1 (rv_cat _) (xal1 (rv_cat _) xal0)) (by decide)) (xfr g9) (xlo xsw0 (by decide) g10) (xKi hq (fun x12 h11 hq e13 => ?_) (fun _ _ q _ => q))
    replace hq := hq e13
    refine x_if_eq (tgt := 119) dX3_structure_89 (by decide) (fun c14 => ?_) (fun c14 => ?_)
    · replace hq := hq.1 c14
      refine x_aload_n 1 dX3_structure_119 rfl ?_
      refine x_ldcS (n := 27) 89 srX3_214 dX3_structure_120 ?_
      have t15 : tg h11 x0 = 4 := e13.tg t8 (by decide)
      obtain ⟨g16, g17, hq⟩ := hq
      refine x_callV (Yc := YX3_has) (as := [rv (tx G 27)]) (st := []) q1783 mvX3_has t15 rfl dX3_structure_122 (xle (xal1 (rv_cat _) (xal1 (rv_cat _) xal0)) (by decide)) (xfr g16) (xlo xsw0 (by decide) g17) (xKi hq (fun x19 h18 hq e20 => ?_) (fun _ _ q _ => q))
      replace hq := hq e20
      refine x_istore_n (lv' := [(2, .int x19), (1, rv (fR h x0 770)), (0, rv x0)]) dX3_structure_125 (by decide) (by first | rfl | (simp [rv_cat, Value.category]; done) | (simp [rv_cat, Value.category]; decide)) ?_
      refine x_iload_n 0 dX3_structure_126 rfl ?_
      refine x_if_ne (tgt := 137) dX3_structure_127 (by decide) (fun c21 => ?_) (fun c21 => ?_)
      · replace hq := hq.1 c21
        refine xP.pick (lv' := [(0, rv x0), (1, rv (fR h x0 770)), (2, .int x19)]) [2, 1, 0] rfl ?_
        exact uX3_structure_137 hq
      · replace hq := hq.2 c21
        refine x_aload_n 2 dX3_structure_130 rfl ?_
        refine x_ldcS (n := 10) 90 srX3_216 dX3_structure_131 ?_
        have t22 : tg h18 x0 = 4 := e20.tg t15 (by decide)
        obtain ⟨g23, g24, hq⟩ := hq
        refine x_callV (Yc := YX3_need) (as := [rv (tx G 10)]) (st := []) q1719 mvX3_need t22 rfl dX3_structure_133 (xle (xal1 (rv_cat _) (xal1 (rv_cat _) xal0)) (by decide)) (xfr g23) (xlo xsw0 (by decide) g24) (xKr hq (fun x26 h25 hq e27 => ?_) (fun _ _ q _ => q))
        replace hq := hq e27
        refine x_pop dX3_structure_136 (rv_cat _) ?_
        refine xP.pick (lv' := [(0, rv x0), (1, rv (fR h x0 770)), (2, .int x19)]) [2, 1, 0] rfl ?_
        exact uX3_structure_137 hq
    · replace hq := hq.2 c14
      obtain ⟨g28, g29, hq⟩ := hq
      obtain ⟨a30, e32⟩ : ∃ y, y = nx h11 + 1 := ⟨_, rfl⟩
      obtain ⟨h31, e33⟩ : ∃ y, y = nO h11 16 6 := ⟨_, rfl⟩
      refine x_new' cdX3_71 dX3_structure_92 g28 g29 e32 e33 (fun f34 => ?_)
      replace hq := hq a30 h31 e32 e33 f34
      have t35 : tg h31 a30 = 16 := by rw [e33, e32]; exact tg_nO
      refine x_dup dX3_structure_95 (rv_cat _) ?_
      refine x_bipush (v := 10) dX3_structure_96 (by decide) ?_
      refine x_aload_n 0 dX3_structure_98 rfl ?_
      obtain ⟨g36, g37, hq⟩ := hq
      refine x_callI (Yc := YX15_init) (as := [.int 10, rv (fR h x0 770)]) (st := [rv a30]) q1749 miX15_init (by rw [t35]; decide) rfl dX3_structure_99 (xle (xal1 (rv_cat _) (xal1 rfl (xal1 (rv_cat _) xal0))) (by decide)) (xfr g36) (xlo (xsw1 (rv_cat _) xsw0) (by decide) g37) (xKv hq (fun h38 hq e40 => ?_) (fun _ _ q _ => q))
      replace hq := hq e40
      refine x_aload_n 1 dX3_structure_102 rfl ?_
      have t41 : tg h11 x0 = 4 := e13.tg t8 (by decide)
      have t42 : tg h31 x0 = 4 := by rw [e33]; exact tg_nO_ne e32 f34 t41 (by decide)
      have t43 : tg h38 x0 = 4 := e40.tg t42 (by decide)
      obtain ⟨g44, g45, hq⟩ := hq
      refine x_callV (Yc := YX3_fields) (as := []) (st := [rv a30]) q1859 mvX3_fields t43 rfl dX3_structure_103 (xle (xal1 (rv_cat _) xal0) (by decide)) (xfr g44) (xlo (xsw1 (rv_cat _) xsw0) (by decide) g45) (xKr hq (fun x47 h46 hq e48 => ?_) (fun _ _ q _ => q))
      replace hq := hq e48
      have t49 : tg h38 a30 = 16 := e40.tg t35 (by decide)
      have t50 : tg h46 a30 = 16 := e48.tg t49 (by decide)
      obtain ⟨g51, g52, hq⟩ := hq
      refine x_callV (Yc := YX15_add) (as := [rv x47]) (st := []) q1795 mvX15_add t50 rfl dX3_structure_106 (xle (xal1 (rv_cat _) (xal1 (rv_cat _) xal0)) (by decide)) (xfr g51) (xlo xsw0 (by decide) g52) (xKr hq (fun x54 h53 hq e55 => ?_) (fun _ _ q _ => q))
      replace hq := hq e55
      refine x_astore_n (lv' := [(2, rv x54), (1, rv (fR h x0 770)), (0, rv x0)]) dX3_structure_109 (by decide) (by first | rfl | (simp [rv_cat, Value.category]; done) | (simp [rv_cat, Value.category]; decide)) ?_
      refine x_aload_n 2 dX3_structure_110 rfl ?_
      refine x_ldcS (n := 9) 88 srX3_230 dX3_structure_111 ?_
      have t56 : tg h46 x0 = 4 := e48.tg t43 (by decide)
      have t57 : tg h53 x0 = 4 := e55.tg t56 (by decide)
      obtain ⟨g58, g59, hq⟩ := hq
      refine x_callV (Yc := YX3_need) (as := [rv (tx G 9)]) (st := []) q1719 mvX3_need t57 rfl dX3_structure_113 (xle (xal1 (rv_cat _) (xal1 (rv_cat _) xal0)) (by decide)) (xfr g58) (xlo xsw0 (by decide) g59) (xKr hq (fun x61 h60 hq e62 => ?_) (fun _ _ q _ => q))
      replace hq := hq e62
      refine x_pop dX3_structure_116 (rv_cat _) ?_
      refine x_aload_n 0 dX3_structure_117 rfl ?_
      exact x_aret rfl xty_O dX3_structure_118 hq
  · replace hq := hq.2 c7
    obtain ⟨g63, g64, hq⟩ := hq
    obtain ⟨a65, e67⟩ : ∃ y, y = nx h4 + 1 := ⟨_, rfl⟩
    obtain ⟨h66, e68⟩ : ∃ y, y = nO h4 16 6 := ⟨_, rfl⟩
    refine x_new' cdX3_71 dX3_structure_14 g63 g64 e67 e68 (fun f69 => ?_)
    replace hq := hq a65 h66 e67 e68 f69
    have t70 : tg h66 a65 = 16 := by rw [e68, e67]; exact tg_nO
    refine x_dup dX3_structure_17 (rv_cat _) ?_
    refine x_bipush (v := 9) dX3_structure_18 (by decide) ?_
    refine x_aload_n 0 dX3_structure_20 rfl ?_
    obtain ⟨g71, g72, hq⟩ := hq
    refine x_callI (Yc := YX15_init) (as := [.int 9, rv (fR h x0 770)]) (st := [rv a65]) q1749 miX15_init (by rw [t70]; decide) rfl dX3_structure_21 (xle (xal1 (rv_cat _) (xal1 rfl (xal1 (rv_cat _) xal0))) (by decide)) (xfr g71) (xlo (xsw1 (rv_cat _) xsw0) (by decide) g72) (xKv hq (fun h73 hq e75 => ?_) (fun _ _ q _ => q))
    replace hq := hq e75
    refine x_astore_n (lv' := [(2, rv a65), (1, rv (fR h x0 770)), (0, rv x0)]) dX3_structure_24 (by decide) (by first | rfl | (simp [rv_cat, Value.category]; done) | (simp [rv_cat, Value.category]; decide)) ?_
    refine x_aload_n 2 dX3_structure_25 rfl ?_
    refine x_ldcS (n := 46) 81 srX3_221 dX3_structure_26 ?_
    have t76 : tg h4 x0 = 4 := e6.tg g1 (by decide)
    have t77 : tg h66 x0 = 4 := by rw [e68]; exact tg_nO_ne e67 f69 t76 (by decide)
    have t78 : tg h73 x0 = 4 := e75.tg t77 (by decide)
    obtain ⟨g79, g80, hq⟩ := hq
    refine x_callV (Yc := YX3_need) (as := [rv (tx G 46)]) (st := []) q1719 mvX3_need t78 rfl dX3_structure_28 (xle (xal1 (rv_cat _) (xal1 (rv_cat _) xal0)) (by decide)) (xfr g79) (xlo xsw0 (by decide) g80) (xKr hq (fun x82 h81 hq e83 => ?_) (fun _ _ q _ => q))
    replace hq := hq e83
    refine x_pop dX3_structure_31 (rv_cat _) ?_
    refine xP.pick (lv' := [(0, rv x0), (2, rv a65)]) [2, 0] rfl ?_
    exact hq
theorem rX3_structure {G : xG} {fr lo : Nat} {x0 : Nat} {h : xH} {Q : Outcome → xH → Prop} (hq : bX3_structure G fr lo x0 h Q) : xR G YX3_structure fr lo [rv x0] h Q := by
  show xP _ _ _ _ _ (lv_args 0 _) _ _ _
  rw [show lv_args 0 [rv x0] = [(0, rv x0)] from (xla1 (rv_cat _) xla0)]
  exact uX3_structure hq
set_option maxRecDepth 100000 in
theorem dX3_simple_0 : decode cX3_simple 0 = .ok (.aload_n 0, 1) := by decide +kernel
set_option maxRecDepth 100000 in
theorem dX3_simple_1 : decode cX3_simple 1 = .ok (.ldc 105, 2) := by decide +kernel
set_option maxRecDepth 100000 in
theorem dX3_simple_3 : decode cX3_simple 3 = .ok (.invokevirtual 60, 3) := by decide +kernel
set_option maxRecDepth 100000 in
theorem dX3_simple_6 : decode cX3_simple 6 = .ok (.ifCond .eq 31, 3) := by decide +kernel
set_option maxRecDepth 100000 in
theorem dX3_simple_9 : decode cX3_simple 9 = .ok (.new 71, 3) := by decide +kernel
set_option maxRecDepth 100000 in
theorem dX3_simple_12 : decode cX3_simple 12 = .ok (.dup, 1) := by decide +kernel
set_option maxRecDepth 100000 in
theorem dX3_simple_13 : decode cX3_simple 13 = .ok (.bipush 7, 2) := by decide +kernel
set_option maxRecDepth 100000 in
theorem dX3_simple_15 : decode cX3_simple 15 = .ok (.aload_n 0, 1) := by decide +kernel
set_option maxRecDepth 100000 in
theorem dX3_simple_16 : decode cX3_simple 16 = .ok (.invokevirtual 65, 3) := by decide +kernel
set_option maxRecDepth 100000 in
theorem dX3_simple_19 : decode cX3_simple 19 = .ok (.invokespecial 77, 3) := by decide +kernel
set_option maxRecDepth 100000 in
theorem dX3_simple_22 : decode cX3_simple 22 = .ok (.astore_n 1, 1) := by decide +kernel
set_option maxRecDepth 100000 in
theorem dX3_simple_23 : decode cX3_simple 23 = .ok (.aload_n 0, 1) := by decide +kernel
set_option maxRecDepth 100000 in
theorem dX3_simple_24 : decode cX3_simple 24 = .ok (.aload_n 1, 1) := by decide +kernel
set_option maxRecDepth 100000 in
theorem dX3_simple_25 : decode cX3_simple 25 = .ok (.invokevirtual 107, 3) := by decide +kernel
set_option maxRecDepth 100000 in
theorem dX3_simple_28 : decode cX3_simple 28 = .ok (.aload_n 0, 1) := by decide +kernel
set_option maxRecDepth 100000 in
theorem dX3_simple_29 : decode cX3_simple 29 = .ok (.ldc 111, 2) := by decide +kernel
set_option maxRecDepth 100000 in
theorem dX3_simple_31 : decode cX3_simple 31 = .ok (.invokevirtual 99, 3) := by decide +kernel
set_option maxRecDepth 100000 in
theorem dX3_simple_34 : decode cX3_simple 34 = .ok (.pop, 1) := by decide +kernel
set_option maxRecDepth 100000 in
theorem dX3_simple_35 : decode cX3_simple 35 = .ok (.aload_n 1, 1) := by decide +kernel
set_option maxRecDepth 100000 in
theorem dX3_simple_36 : decode cX3_simple 36 = .ok (.areturn, 1) := by decide +kernel
set_option maxRecDepth 100000 in
theorem dX3_simple_37 : decode cX3_simple 37 = .ok (.aload_n 0, 1) := by decide +kernel
set_option maxRecDepth 100000 in
theorem dX3_simple_38 : decode cX3_simple 38 = .ok (.invokevirtual 154, 3) := by decide +kernel
set_option maxRecDepth 100000 in
theorem dX3_simple_41 : decode cX3_simple 41 = .ok (.astore_n 1, 1) := by decide +kernel
set_option maxRecDepth 100000 in
theorem dX3_simple_42 : decode cX3_simple 42 = .ok (.aload_n 1, 1) := by decide +kernel
set_option maxRecDepth 100000 in
theorem dX3_simple_43 : decode cX3_simple 43 = .ok (.getfield 103, 3) := by decide +kernel
set_option maxRecDepth 100000 in
theorem dX3_simple_46 : decode cX3_simple 46 = .ok (.getfield 39, 3) := by decide +kernel
set_option maxRecDepth 100000 in
theorem dX3_simple_49 : decode cX3_simple 49 = .ok (.getstatic 43, 3) := by decide +kernel
set_option maxRecDepth 100000 in
theorem dX3_simple_52 : decode cX3_simple 52 = .ok (.if_acmp .ne 33, 3) := by decide +kernel
set_option maxRecDepth 100000 in
theorem dX3_simple_55 : decode cX3_simple 55 = .ok (.aload_n 1, 1) := by decide +kernel
set_option maxRecDepth 100000 in
theorem dX3_simple_56 : decode cX3_simple 56 = .ok (.getfield 232, 3) := by decide +kernel
set_option maxRecDepth 100000 in
theorem dX3_simple_59 : decode cX3_simple 59 = .ok (.ifnonnull 26, 3) := by decide +kernel
set_option maxRecDepth 100000 in
theorem dX3_simple_62 : decode cX3_simple 62 = .ok (.aload_n 0, 1) := by decide +kernel
set_option maxRecDepth 100000 in
theorem dX3_simple_63 : decode cX3_simple 63 = .ok (.ldc 236, 2) := by decide +kernel
set_option maxRecDepth 100000 in
theorem dX3_simple_65 : decode cX3_simple 65 = .ok (.invokevirtual 60, 3) := by decide +kernel
set_option maxRecDepth 100000 in
theorem dX3_simple_68 : decode cX3_simple 68 = .ok (.ifCond .ne 17, 3) := by decide +kernel
set_option maxRecDepth 100000 in
theorem dX3_simple_71 : decode cX3_simple 71 = .ok (.new 71, 3) := by decide +kernel
set_option maxRecDepth 100000 in
theorem dX3_simple_74 : decode cX3_simple 74 = .ok (.dup, 1) := by decide +kernel
set_option maxRecDepth 100000 in
theorem dX3_simple_75 : decode cX3_simple 75 = .ok (.bipush 6, 2) := by decide +kernel
set_option maxRecDepth 100000 in
theorem dX3_simple_77 : decode cX3_simple 77 = .ok (.aload_n 1, 1) := by decide +kernel
set_option maxRecDepth 100000 in
theorem dX3_simple_78 : decode cX3_simple 78 = .ok (.getfield 103, 3) := by decide +kernel
set_option maxRecDepth 100000 in
theorem dX3_simple_81 : decode cX3_simple 81 = .ok (.invokespecial 77, 3) := by decide +kernel
set_option maxRecDepth 100000 in
theorem dX3_simple_84 : decode cX3_simple 84 = .ok (.areturn, 1) := by decide +kernel
set_option maxRecDepth 100000 in
theorem dX3_simple_85 : decode cX3_simple 85 = .ok (.new 71, 3) := by decide +kernel
set_option maxRecDepth 100000 in
theorem dX3_simple_88 : decode cX3_simple 88 = .ok (.dup, 1) := by decide +kernel
set_option maxRecDepth 100000 in
theorem dX3_simple_89 : decode cX3_simple 89 = .ok (.bipush 8, 2) := by decide +kernel
set_option maxRecDepth 100000 in
theorem dX3_simple_91 : decode cX3_simple 91 = .ok (.aload_n 0, 1) := by decide +kernel
set_option maxRecDepth 100000 in
theorem dX3_simple_92 : decode cX3_simple 92 = .ok (.ldc 236, 2) := by decide +kernel
set_option maxRecDepth 100000 in
theorem dX3_simple_94 : decode cX3_simple 94 = .ok (.invokevirtual 99, 3) := by decide +kernel
set_option maxRecDepth 100000 in
theorem dX3_simple_97 : decode cX3_simple 97 = .ok (.invokespecial 77, 3) := by decide +kernel
set_option maxRecDepth 100000 in
theorem dX3_simple_100 : decode cX3_simple 100 = .ok (.astore_n 2, 1) := by decide +kernel
set_option maxRecDepth 100000 in
theorem dX3_simple_101 : decode cX3_simple 101 = .ok (.aload_n 2, 1) := by decide +kernel
set_option maxRecDepth 100000 in
theorem dX3_simple_102 : decode cX3_simple 102 = .ok (.aload_n 1, 1) := by decide +kernel
set_option maxRecDepth 100000 in
theorem dX3_simple_103 : decode cX3_simple 103 = .ok (.invokevirtual 84, 3) := by decide +kernel
set_option maxRecDepth 100000 in
theorem dX3_simple_106 : decode cX3_simple 106 = .ok (.aload_n 0, 1) := by decide +kernel
set_option maxRecDepth 100000 in
theorem dX3_simple_107 : decode cX3_simple 107 = .ok (.invokevirtual 154, 3) := by decide +kernel
set_option maxRecDepth 100000 in
theorem dX3_simple_110 : decode cX3_simple 110 = .ok (.invokevirtual 84, 3) := by decide +kernel
set_option maxRecDepth 100000 in
theorem dX3_simple_113 : decode cX3_simple 113 = .ok (.areturn, 1) := by decide +kernel
set_option maxRecDepth 100000 in
def bX3_simple_85 (G : xG) (fr lo : Nat) (x0 : Nat) (x1 : Nat) (h : xH) (Q : Outcome → xH → Prop) : Prop := nx h + 1 ≤ xGN G ∧ us h + 6 ≤ xGU G ∧ (∀ (a3 : Nat) (h4 : xH), a3 = nx h + 1 → h4 = nO h 16 6 → xfresh h a3 → tg h4 x0 = 4 ∧ 1 ≤ fr ∧ 16 ≤ lo ∧ xRr G YX3_need (fr - 1) (lo - 16) [rv x0, rv (tx G 52)] h4 (fun x13 h12 => xext h4 h12 → 1 ≤ fr ∧ 15 ≤ lo ∧ xRv G YX15_init (fr - 1) (lo - 15) [rv a3, .int 8, rv x13] h12 (fun h18 => xext h12 h18 → 1 ≤ fr ∧ 13 ≤ lo ∧ xRr G YX15_add (fr - 1) (lo - 13) [rv a3, rv x1] h18 (fun x25 h24 => xext h18 h24 → 1 ≤ fr ∧ 15 ≤ lo ∧ xRr G YX3_constant (fr - 1) (lo - 15) [rv x0] h24 (fun x33 h32 => xext h24 h32 → tg h32 x25 = 16 ∧ 1 ≤ fr ∧ 13 ≤ lo ∧ xRr G YX15_add (fr - 1) (lo - 13) [rv x25, rv x33] h32 (fun x39 h38 => xext h32 h38 → Q (.returned (some (rv x39))) h38) (fun r h2 => Q (.threw r) h2)) (fun r h2 => Q (.threw r) h2)) (fun r h2 => Q (.threw r) h2)) (fun r h2 => Q (.threw r) h2)) (fun r h2 => Q (.threw r) h2))
set_option maxRecDepth 100000 in
theorem uX3_simple_85 {G : xG} {fr lo : Nat} {x0 : Nat} {x1 : Nat} {h : xH} {Q : Outcome → xH → Prop} (hq : bX3_simple_85 G fr lo x0 x1 h Q) : xP G YX3_simple fr lo 85 [(0, rv x0), (1, rv x1)] [] h Q := by
  unfold bX3_simple_85 at hq
  obtain ⟨g1, g2, hq⟩ := hq
  obtain ⟨a3, e5⟩ : ∃ y, y = nx h + 1 := ⟨_, rfl⟩
  obtain ⟨h4, e6⟩ : ∃ y, y = nO h 16 6 := ⟨_, rfl⟩
  refine x_new' cdX3_71 dX3_simple_85 g1 g2 e5 e6 (fun f7 => ?_)
  replace hq := hq a3 h4 e5 e6 f7
  have t8 : tg h4 a3 = 16 := by rw [e6, e5]; exact tg_nO
  refine x_dup dX3_simple_88 (rv_cat _) ?_
  refine x_bipush (v := 8) dX3_simple_89 (by decide) ?_
  refine x_aload_n 0 dX3_simple_91 rfl ?_
  refine x_ldcS (n := 52) 82 srX3_236 dX3_simple_92 ?_
  obtain ⟨g9, hq⟩ := hq
  obtain ⟨g10, g11, hq⟩ := hq
  refine x_callV (Yc := YX3_need) (as := [rv (tx G 52)]) (st := [.int 8, rv a3, rv a3]) q1719 mvX3_need g9 rfl dX3_simple_94 (xle (xal1 (rv_cat _) (xal1 (rv_cat _) xal0)) (by decide)) (xfr g10) (xlo (xsw1 rfl (xsw1 (rv_cat _) (xsw1 (rv_cat _) xsw0))) (by decide) g11) (xKr hq (fun x13 h12 hq e14 => ?_) (fun _ _ q _ => q))
  replace hq := hq e14
  have t15 : tg h12 a3 = 16 := e14.tg t8 (by decide)
  obtain ⟨g16, g17, hq⟩ := hq
  refine x_callI (Yc := YX15_init) (as := [.int 8, rv x13]) (st := [rv a3]) q1749 miX15_init (by rw [t15]; decide) rfl dX3_simple_97 (xle (xal1 (rv_cat _) (xal1 rfl (xal1 (rv_cat _) xal0))) (by decide)) (xfr g16) (xlo (xsw1 (rv_cat _) xsw0) (by decide) g17) (xKv hq (fun h18 hq e20 => ?_) (fun _ _ q _ => q))
  replace hq := hq e20
  refine x_astore_n (lv' := [(2, rv a3), (0, rv x0), (1, rv x1)]) dX3_simple_100 (by decide) (by first | rfl | (simp [rv_cat, Value.category]; done) | (simp [rv_cat, Value.category]; decide)) ?_
  refine x_aload_n 0 dX3_simple_101 rfl ?_
  refine x_aload_n 2 dX3_simple_102 rfl ?_
  have t21 : tg h18 a3 = 16 := e20.tg t15 (by decide)
  obtain ⟨g22, g23, hq⟩ := hq
  refine x_callV (Yc := YX15_add) (as := [rv x1]) (st := []) q1795 mvX15_add t21 rfl dX3_simple_103 (xle (xal1 (rv_cat _) (xal1 (rv_cat _) xal0)) (by decide)) (xfr g22) (xlo xsw0 (by decide) g23) (xKr hq (fun x25 h24 hq e26 => ?_) (fun _ _ q _ => q))
  replace hq := hq e26
  refine x_aload_n 1 dX3_simple_106 rfl ?_
  have t27 : tg h12 x0 = 4 := e14.tg g9 (by decide)
  have t28 : tg h18 x0 = 4 := e20.tg t27 (by decide)
  have t29 : tg h24 x0 = 4 := e26.tg t28 (by decide)
  obtain ⟨g30, g31, hq⟩ := hq
  refine x_callV (Yc := YX3_constant) (as := []) (st := [rv x25]) q1818 mvX3_constant t29 rfl dX3_simple_107 (xle (xal1 (rv_cat _) xal0) (by decide)) (xfr g30) (xlo (xsw1 (rv_cat _) xsw0) (by decide) g31) (xKr hq (fun x33 h32 hq e34 => ?_) (fun _ _ q _ => q))
  replace hq := hq e34
  obtain ⟨g35, hq⟩ := hq
  obtain ⟨g36, g37, hq⟩ := hq
  refine x_callV (Yc := YX15_add) (as := [rv x33]) (st := []) q1795 mvX15_add g35 rfl dX3_simple_110 (xle (xal1 (rv_cat _) (xal1 (rv_cat _) xal0)) (by decide)) (xfr g36) (xlo xsw0 (by decide) g37) (xKr hq (fun x39 h38 hq e40 => ?_) (fun _ _ q _ => q))
  replace hq := hq e40
  exact x_aret rfl xty_O dX3_simple_113 hq
set_option maxRecDepth 100000 in
def bX3_simple (G : xG) (fr lo : Nat) (x0 : Nat) (h : xH) (Q : Outcome → xH → Prop) : Prop := tg h x0 = 4 ∧ 1 ≤ fr ∧ 13 ≤ lo ∧ xRi G YX3_is (fr - 1) (lo - 13) [rv x0, rv (tx G 60)] h (fun x5 h4 => xext h h4 → ((x5 = 0 → 1 ≤ fr ∧ 14 ≤ lo ∧ xRr G YX3_constant (fr - 1) (lo - 14) [rv x0] h4 (fun x12 h11 => xext h4 h11 → tg h11 x12 = 16 ∧ tg h11 (fR h11 x12 3841) = 15 ∧ ((¬ (fR h11 (fR h11 x12 3841) 3584) = (xGS G 1) → bX3_simple_85 G fr lo x0 x12 h11 Q) ∧ ((fR h11 (fR h11 x12 3841) 3584) = (xGS G 1) → ((¬ (fR h11 x12 3842) = 0 → bX3_simple_85 G fr lo x0 x12 h11 Q) ∧ ((fR h11 x12 3842) = 0 → 1 ≤ fr ∧ 13 ≤ lo ∧ xRi G YX3_is (fr - 1) (lo - 13) [rv x0, rv (tx G 52)] h11 (fun x22 h21 => xext h11 h21 → ((¬ x22 = 0 → bX3_simple_85 G fr lo x0 x12 h21 Q) ∧ (x22 = 0 → nx h21 + 1 ≤ xGN G ∧ us h21 + 6 ≤ xGU G ∧ (∀ (a27 : Nat) (h28 : xH), a27 = nx h21 + 1 → h28 = nO h21 16 6 → xfresh h21 a27 → 1 ≤ fr ∧ 15 ≤ lo ∧ xRv G YX15_init (fr - 1) (lo - 15) [rv a27, .int 6, rv (fR h28 x12 3841)] h28 (fun h37 => xext h28 h37 → Q (.returned (some (rv a27))) h37) (fun r h2 => Q (.threw r) h2))))) (fun r h2 => Q (.threw r) h2)))))) (fun r h2 => Q (.threw r) h2)) ∧ (¬ x5 = 0 → nx h4 + 1 ≤ xGN G ∧ us h4 + 6 ≤ xGU G ∧ (∀ (a42 : Nat) (h43 : xH), a42 = nx h4 + 1 → h43 = nO h4 16 6 → xfresh h4 a42 → 1 ≤ fr ∧ 16 ≤ lo ∧ xRr G YX3_take (fr - 1) (lo - 16) [rv x0] h43 (fun x53 h52 => xext h43 h52 → 1 ≤ fr ∧ 15 ≤ lo ∧ xRv G YX15_init (fr - 1) (lo - 15) [rv a42, .int 7, rv x53] h52 (fun h58 => xext h52 h58 → 1 ≤ fr ∧ 13 ≤ lo ∧ xRv G YX3_names (fr - 1) (lo - 13) [rv x0, rv a42] h58 (fun h65 => xext h58 h65 → 1 ≤ fr ∧ 13 ≤ lo ∧ xRr G YX3_need (fr - 1) (lo - 13) [rv x0, rv (tx G 61)] h65 (fun x72 h71 => xext h65 h71 → Q (.returned (some (rv a42))) h71) (fun r h2 => Q (.threw r) h2)) (fun r h2 => Q (.threw r) h2)) (fun r h2 => Q (.threw r) h2)) (fun r h2 => Q (.threw r) h2))))) (fun r h2 => Q (.threw r) h2)
set_option maxRecDepth 100000 in
theorem uX3_simple {G : xG} {fr lo : Nat} {x0 : Nat} {h : xH} {Q : Outcome → xH → Prop} (hq : bX3_simple G fr lo x0 h Q) : xP G YX3_simple fr lo 0 [(0, rv x0)] [] h Q := by
  unfold bX3_simple at hq
  refine x_aload_n 0 dX3_simple_0 rfl ?_
  refine x_ldcS (n := 60) 68 srX3_105 dX3_simple_1 ?_
  obtain ⟨g1, hq⟩ := hq
  obtain ⟨g2, g3, hq⟩ := hq
  refine x_callV (Yc := YX3_is) (as := [rv (tx G 60)]) (st := []) q1723 mvX3_is g1 rfl dX3_simple_3 (xle (xal1 (rv_cat _) (xal1 (rv_cat _) xal0)) (by decide)) (xfr g2) (xlo xsw0 (by decide) g3) (xKi hq (fun x5 h4 hq e6 => ?_) (fun _ _ q _ => q))
  replace hq := hq e6
  refine x_if_eq (tgt := 37) dX3_simple_6 (by decide) (fun c7 => ?_) (fun c7 => ?_)
  · replace hq := hq.1 c7
    refine x_aload_n 0 dX3_simple_37 rfl ?_
    have t8 : tg h4 x0 = 4 := e6.tg g1 (by decide)
    obtain ⟨g9, g10, hq⟩ := hq
    refine x_callV (Yc := YX3_constant) (as := []) (st := []) q1818 mvX3_constant t8 rfl dX3_simple_38 (xle (xal1 (rv_cat _) xal0) (by decide)) (xfr g9) (xlo xsw0 (by decide) g10) (xKr hq (fun x12 h11 hq e13 => ?_) (fun _ _ q _ => q))
    replace hq := hq e13
    refine x_astore_n (lv' := [(1, rv x12), (0, rv x0)]) dX3_simple_41 (by decide) (by first | rfl | (simp [rv_cat, Value.category]; done) | (simp [rv_cat, Value.category]; decide)) ?_
    refine x_aload_n 0 dX3_simple_42 rfl ?_
    obtain ⟨g14, hq⟩ := hq
    refine x_getN (v := rv (fR h11 x12 3841)) gfX3_103 dX3_simple_43 g14 rfl ?_
    obtain ⟨g15, hq⟩ := hq
    refine x_getN (v := rv (fR h11 (fR h11 x12 3841) 3584)) gfX3_39 dX3_simple_46 g15 rfl ?_
    refine x_gets (v := rv (xGS G 1)) 1 rfl q1744 (by simp [xsv]) dX3_simple_49 ?_
    refine x_acmp_ne (tgt := 85) dX3_simple_52 (by decide) (fun c16 => ?_) (fun c16 => ?_)
    · replace hq := hq.1 c16
      refine xP.pick (lv' := [(0, rv x0), (1, rv x12)]) [1, 0] rfl ?_
      exact uX3_simple_85 hq
    · replace hq := hq.2 c16
      refine x_aload_n 0 dX3_simple_55 rfl ?_
      refine x_getN (v := rv (fR h11 x12 3842)) gfX3_232 dX3_simple_56 g14 rfl ?_
      refine x_ifnonnull (tgt := 85) dX3_simple_59 (by decide) (fun c17 => ?_) (fun c17 => ?_)
      · replace hq := hq.1 c17
        refine xP.pick (lv' := [(0, rv x0), (1, rv x12)]) [1, 0] rfl ?_
        exact uX3_simple_85 hq
      · replace hq := hq.2 c17
        refine x_aload_n 1 dX3_simple_62 rfl ?_
        refine x_ldcS (n := 52) 82 srX3_236 dX3_simple_63 ?_
        have t18 : tg h11 x0 = 4 := e13.tg t8 (by decide)
        obtain ⟨g19, g20, hq⟩ := hq
        refine x_callV (Yc := YX3_is) (as := [rv (tx G 52)]) (st := []) q1723 mvX3_is t18 rfl dX3_simple_65 (xle (xal1 (rv_cat _) (xal1 (rv_cat _) xal0)) (by decide)) (xfr g19) (xlo xsw0 (by decide) g20) (xKi hq (fun x22 h21 hq e23 => ?_) (fun _ _ q _ => q))
        replace hq := hq e23
        refine x_if_ne (tgt := 85) dX3_simple_68 (by decide) (fun c24 => ?_) (fun c24 => ?_)
        · replace hq := hq.1 c24
          refine xP.pick (lv' := [(0, rv x0), (1, rv x12)]) [1, 0] rfl ?_
          exact uX3_simple_85 hq
        · replace hq := hq.2 c24
          obtain ⟨g25, g26, hq⟩ := hq
          obtain ⟨a27, e29⟩ : ∃ y, y = nx h21 + 1 := ⟨_, rfl⟩
          obtain ⟨h28, e30⟩ : ∃ y, y = nO h21 16 6 := ⟨_, rfl⟩
          refine x_new' cdX3_71 dX3_simple_71 g25 g26 e29 e30 (fun f31 => ?_)
          replace hq := hq a27 h28 e29 e30 f31
          have t32 : tg h28 a27 = 16 := by rw [e30, e29]; exact tg_nO
          refine x_dup dX3_simple_74 (rv_cat _) ?_
          refine x_bipush (v := 6) dX3_simple_75 (by decide) ?_
          refine x_aload_n 0 dX3_simple_77 rfl ?_
          have t33 : tg h21 x12 = 16 := e23.tg g14 (by decide)
          have t34 : tg h28 x12 = 16 := by rw [e30]; exact tg_nO_ne e29 f31 t33 (by decide)
          refine x_getN (v := rv (fR h28 x12 3841)) gfX3_103 dX3_simple_78 t34 rfl ?_
          obtain ⟨g35, g36, hq⟩ := hq
          refine x_callI (Yc := YX15_init) (as := [.int 6, rv (fR h28 x12 3841)]) (st := [rv a27]) q1749 miX15_init (by rw [t32]; decide) rfl dX3_simple_81 (xle (xal1 (rv_cat _) (xal1 rfl (xal1 (rv_cat _) xal0))) (by decide)) (xfr g35) (xlo (xsw1 (rv_cat _) xsw0) (by decide) g36) (xKv hq (fun h37 hq e39 => ?_) (fun _ _ q _ => q))
          replace hq := hq e39
          exact x_aret rfl xty_O dX3_simple_84 hq
  · replace hq := hq.2 c7
    obtain ⟨g40, g41, hq⟩ := hq
    obtain ⟨a42, e44⟩ : ∃ y, y = nx h4 + 1 := ⟨_, rfl⟩
    obtain ⟨h43, e45⟩ : ∃ y, y = nO h4 16 6 := ⟨_, rfl⟩
    refine x_new' cdX3_71 dX3_simple_9 g40 g41 e44 e45 (fun f46 => ?_)
    replace hq := hq a42 h43 e44 e45 f46
    have t47 : tg h43 a42 = 16 := by rw [e45, e44]; exact tg_nO
    refine x_dup dX3_simple_12 (rv_cat _) ?_
    refine x_bipush (v := 7) dX3_simple_13 (by decide) ?_
    refine x_aload_n 0 dX3_simple_15 rfl ?_
    have t48 : tg h4 x0 = 4 := e6.tg g1 (by decide)
    have t49 : tg h43 x0 = 4 := by rw [e45]; exact tg_nO_ne e44 f46 t48 (by decide)
    obtain ⟨g50, g51, hq⟩ := hq
    refine x_callV (Yc := YX3_take) (as := []) (st := [.int 7, rv a42, rv a42]) q1738 mvX3_take t49 rfl dX3_simple_16 (xle (xal1 (rv_cat _) xal0) (by decide)) (xfr g50) (xlo (xsw1 rfl (xsw1 (rv_cat _) (xsw1 (rv_cat _) xsw0))) (by decide) g51) (xKr hq (fun x53 h52 hq e54 => ?_) (fun _ _ q _ => q))
    replace hq := hq e54
    have t55 : tg h52 a42 = 16 := e54.tg t47 (by decide)
    obtain ⟨g56, g57, hq⟩ := hq
    refine x_callI (Yc := YX15_init) (as := [.int 7, rv x53]) (st := [rv a42]) q1749 miX15_init (by rw [t55]; decide) rfl dX3_simple_19 (xle (xal1 (rv_cat _) (xal1 rfl (xal1 (rv_cat _) xal0))) (by decide)) (xfr g56) (xlo (xsw1 (rv_cat _) xsw0) (by decide) g57) (xKv hq (fun h58 hq e60 => ?_) (fun _ _ q _ => q))
    replace hq := hq e60
    refine x_astore_n (lv' := [(1, rv a42), (0, rv x0)]) dX3_simple_22 (by decide) (by first | rfl | (simp [rv_cat, Value.category]; done) | (simp [rv_cat, Value.category]; decide)) ?_
    refine x_aload_n 1 dX3_simple_23 rfl ?_
    refine x_aload_n 0 dX3_simple_24 rfl ?_
    have t61 : tg h52 x0 = 4 := e54.tg t49 (by decide)
    have t62 : tg h58 x0 = 4 := e60.tg t61 (by decide)
    obtain ⟨g63, g64, hq⟩ := hq
    refine x_callV (Yc := YX3_names) (as := [rv a42]) (st := []) q1787 mvX3_names t62 rfl dX3_simple_25 (xle (xal1 (rv_cat _) (xal1 (rv_cat _) xal0)) (by decide)) (xfr g63) (xlo xsw0 (by decide) g64) (xKv hq (fun h65 hq e67 => ?_) (fun _ _ q _ => q))
    replace hq := hq e67
    refine x_aload_n 1 dX3_simple_28 rfl ?_
    refine x_ldcS (n := 61) 70 srX3_111 dX3_simple_29 ?_
    have t68 : tg h65 x0 = 4 := e67.tg t62 (by decide)
    obtain ⟨g69, g70, hq⟩ := hq
    refine x_callV (Yc := YX3_need) (as := [rv (tx G 61)]) (st := []) q1719 mvX3_need t68 rfl dX3_simple_31 (xle (xal1 (rv_cat _) (xal1 (rv_cat _) xal0)) (by decide)) (xfr g69) (xlo xsw0 (by decide) g70) (xKr hq (fun x72 h71 hq e73 => ?_) (fun _ _ q _ => q))
    replace hq := hq e73
    refine x_pop dX3_simple_34 (rv_cat _) ?_
    refine x_aload_n 0 dX3_simple_35 rfl ?_
    exact x_aret rfl xty_O dX3_simple_36 hq
theorem rX3_simple {G : xG} {fr lo : Nat} {x0 : Nat} {h : xH} {Q : Outcome → xH → Prop} (hq : bX3_simple G fr lo x0 h Q) : xR G YX3_simple fr lo [rv x0] h Q := by
  show xP _ _ _ _ _ (lv_args 0 _) _ _ _
  rw [show lv_args 0 [rv x0] = [(0, rv x0)] from (xla1 (rv_cat _) xla0)]
  exact uX3_simple hq
set_option maxRecDepth 100000 in
theorem dX3_fields_0 : decode cX3_fields 0 = .ok (.aload_n 0, 1) := by decide +kernel
set_option maxRecDepth 100000 in
theorem dX3_fields_1 : decode cX3_fields 1 = .ok (.invokevirtual 123, 3) := by decide +kernel
set_option maxRecDepth 100000 in
theorem dX3_fields_4 : decode cX3_fields 4 = .ok (.new 71, 3) := by decide +kernel
set_option maxRecDepth 100000 in
theorem dX3_fields_7 : decode cX3_fields 7 = .ok (.dup, 1) := by decide +kernel
set_option maxRecDepth 100000 in
theorem dX3_fields_8 : decode cX3_fields 8 = .ok (.iconst 0, 1) := by decide +kernel
set_option maxRecDepth 100000 in
theorem dX3_fields_9 : decode cX3_fields 9 = .ok (.aload_n 0, 1) := by decide +kernel
set_option maxRecDepth 100000 in
theorem dX3_fields_10 : decode cX3_fields 10 = .ok (.getfield 25, 3) := by decide +kernel
set_option maxRecDepth 100000 in
theorem dX3_fields_13 : decode cX3_fields 13 = .ok (.invokespecial 77, 3) := by decide +kernel
set_option maxRecDepth 100000 in
theorem dX3_fields_16 : decode cX3_fields 16 = .ok (.astore_n 1, 1) := by decide +kernel
set_option maxRecDepth 100000 in
theorem dX3_fields_17 : decode cX3_fields 17 = .ok (.iconst 0, 1) := by decide +kernel
set_option maxRecDepth 100000 in
theorem dX3_fields_18 : decode cX3_fields 18 = .ok (.istore_n 2, 1) := by decide +kernel
set_option maxRecDepth 100000 in
theorem dX3_fields_19 : decode cX3_fields 19 = .ok (.iload_n 2, 1) := by decide +kernel
set_option maxRecDepth 100000 in
theorem dX3_fields_20 : decode cX3_fields 20 = .ok (.ifCond .eq 6, 3) := by decide +kernel
set_option maxRecDepth 100000 in
theorem dX3_fields_23 : decode cX3_fields 23 = .ok (.goto 42, 3) := by decide +kernel
set_option maxRecDepth 100000 in
theorem dX3_fields_26 : decode cX3_fields 26 = .ok (.aload_n 0, 1) := by decide +kernel
set_option maxRecDepth 100000 in
theorem dX3_fields_27 : decode cX3_fields 27 = .ok (.ldc 238, 2) := by decide +kernel
set_option maxRecDepth 100000 in
theorem dX3_fields_29 : decode cX3_fields 29 = .ok (.invokevirtual 60, 3) := by decide +kernel
set_option maxRecDepth 100000 in
theorem dX3_fields_32 : decode cX3_fields 32 = .ok (.istore_n 2, 1) := by decide +kernel
set_option maxRecDepth 100000 in
theorem dX3_fields_33 : decode cX3_fields 33 = .ok (.iload_n 2, 1) := by decide +kernel
set_option maxRecDepth 100000 in
theorem dX3_fields_34 : decode cX3_fields 34 = .ok (.ifCond .eq 15, 3) := by decide +kernel
set_option maxRecDepth 100000 in
theorem dX3_fields_37 : decode cX3_fields 37 = .ok (.aload_n 1, 1) := by decide +kernel
set_option maxRecDepth 100000 in
theorem dX3_fields_38 : decode cX3_fields 38 = .ok (.aload_n 0, 1) := by decide +kernel
set_option maxRecDepth 100000 in
theorem dX3_fields_39 : decode cX3_fields 39 = .ok (.invokevirtual 240, 3) := by decide +kernel
set_option maxRecDepth 100000 in
theorem dX3_fields_42 : decode cX3_fields 42 = .ok (.invokevirtual 84, 3) := by decide +kernel
set_option maxRecDepth 100000 in
theorem dX3_fields_45 : decode cX3_fields 45 = .ok (.pop, 1) := by decide +kernel
set_option maxRecDepth 100000 in
theorem dX3_fields_46 : decode cX3_fields 46 = .ok (.goto 19, 3) := by decide +kernel
set_option maxRecDepth 100000 in
theorem dX3_fields_49 : decode cX3_fields 49 = .ok (.aload_n 0, 1) := by decide +kernel
set_option maxRecDepth 100000 in
theorem dX3_fields_50 : decode cX3_fields 50 = .ok (.invokevirtual 157, 3) := by decide +kernel
set_option maxRecDepth 100000 in
theorem dX3_fields_53 : decode cX3_fields 53 = .ok (.ifCond .eq 12, 3) := by decide +kernel
set_option maxRecDepth 100000 in
theorem dX3_fields_56 : decode cX3_fields 56 = .ok (.aload_n 1, 1) := by decide +kernel
set_option maxRecDepth 100000 in
theorem dX3_fields_57 : decode cX3_fields 57 = .ok (.aload_n 0, 1) := by decide +kernel
set_option maxRecDepth 100000 in
theorem dX3_fields_58 : decode cX3_fields 58 = .ok (.invokevirtual 167, 3) := by decide +kernel
set_option maxRecDepth 100000 in
theorem dX3_fields_61 : decode cX3_fields 61 = .ok (.invokevirtual 84, 3) := by decide +kernel
set_option maxRecDepth 100000 in
theorem dX3_fields_64 : decode cX3_fields 64 = .ok (.pop, 1) := by decide +kernel
set_option maxRecDepth 100000 in
theorem dX3_fields_65 : decode cX3_fields 65 = .ok (.aload_n 0, 1) := by decide +kernel
set_option maxRecDepth 100000 in
theorem dX3_fields_66 : decode cX3_fields 66 = .ok (.ldc 113, 2) := by decide +kernel
set_option maxRecDepth 100000 in
theorem dX3_fields_68 : decode cX3_fields 68 = .ok (.invokevirtual 90, 3) := by decide +kernel
set_option maxRecDepth 100000 in
theorem dX3_fields_71 : decode cX3_fields 71 = .ok (.ifCond .ne (-52), 3) := by decide +kernel
set_option maxRecDepth 100000 in
theorem dX3_fields_74 : decode cX3_fields 74 = .ok (.aload_n 0, 1) := by decide +kernel
set_option maxRecDepth 100000 in
theorem dX3_fields_75 : decode cX3_fields 75 = .ok (.dup, 1) := by decide +kernel
set_option maxRecDepth 100000 in
theorem dX3_fields_76 : decode cX3_fields 76 = .ok (.getfield 68, 3) := by decide +kernel
set_option maxRecDepth 100000 in
theorem dX3_fields_79 : decode cX3_fields 79 = .ok (.iconst 1, 1) := by decide +kernel
set_option maxRecDepth 100000 in
theorem dX3_fields_80 : decode cX3_fields 80 = .ok (.isub, 1) := by decide +kernel
set_option maxRecDepth 100000 in
theorem dX3_fields_81 : decode cX3_fields 81 = .ok (.putfield 68, 3) := by decide +kernel
set_option maxRecDepth 100000 in
theorem dX3_fields_84 : decode cX3_fields 84 = .ok (.aload_n 1, 1) := by decide +kernel
set_option maxRecDepth 100000 in
theorem dX3_fields_85 : decode cX3_fields 85 = .ok (.areturn, 1) := by decide +kernel
def lX3_fields_19 (G : xG) (fr lo : Nat) (x0 : Nat) (x1 : Nat) (x2 : Int32) (h : xH) (Q : Outcome → xH → Prop) : Prop := xP G YX3_fields fr lo 19 [(0, rv x0), (1, rv x1), (2, .int x2)] [] h Q
set_option maxRecDepth 100000 in
def bX3_fields_65 (G : xG) (fr lo : Nat) (x0 : Nat) (x1 : Nat) (x2 : Int32) (h : xH) (Q : Outcome → xH → Prop) : Prop := tg h x0 = 4 ∧ 1 ≤ fr ∧ 13 ≤ lo ∧ xRi G YX3_has (fr - 1) (lo - 13) [rv x0, rv (tx G 64)] h (fun x5 h4 => xext h h4 → ((¬ x5 = 0 → lX3_fields_19 G fr lo x0 x1 x2 h4 Q) ∧ (x5 = 0 → (∀ h9 : xH, h9 = sI h4 x0 772 ((fI h4 x0 772) - 1) → Q (.returned (some (rv x1))) h9)))) (fun r h2 => Q (.threw r) h2)
set_option maxRecDepth 100000 in
theorem uX3_fields_65 {G : xG} {fr lo : Nat} {x0 : Nat} {x1 : Nat} {x2 : Int32} {h : xH} {Q : Outcome → xH → Prop} (hq : bX3_fields_65 G fr lo x0 x1 x2 h Q) : xP G YX3_fields fr lo 65 [(0, rv x0), (1, rv x1), (2, .int x2)] [] h Q := by
  unfold bX3_fields_65 at hq
  refine x_aload_n 0 dX3_fields_65 rfl ?_
  refine x_ldcS (n := 64) 71 srX3_113 dX3_fields_66 ?_
  obtain ⟨g1, hq⟩ := hq
  obtain ⟨g2, g3, hq⟩ := hq
  refine x_callV (Yc := YX3_has) (as := [rv (tx G 64)]) (st := []) q1783 mvX3_has g1 rfl dX3_fields_68 (xle (xal1 (rv_cat _) (xal1 (rv_cat _) xal0)) (by decide)) (xfr g2) (xlo xsw0 (by decide) g3) (xKi hq (fun x5 h4 hq e6 => ?_) (fun _ _ q _ => q))
  replace hq := hq e6
  refine x_if_ne (tgt := 19) dX3_fields_71 (by decide) (fun c7 => ?_) (fun c7 => ?_)
  · replace hq := hq.1 c7
    exact hq
  · replace hq := hq.2 c7
    refine x_aload_n 0 dX3_fields_74 rfl ?_
    refine x_dup dX3_fields_75 (rv_cat _) ?_
    have t8 : tg h4 x0 = 4 := e6.tg g1 (by decide)
    refine x_get (v := .int (fI h4 x0 772)) fdX3_68 dX3_fields_76 t8 rfl ?_
    refine x_iconst (v := 1) dX3_fields_79 (by decide) ?_
    refine x_isub dX3_fields_80 ?_
    obtain ⟨h9, e10⟩ : ∃ y, y = sI h4 x0 772 ((fI h4 x0 772) - 1) := ⟨_, rfl⟩
    replace hq := hq h9 e10
    refine x_putI fdX3_68 xty_I1 dX3_fields_81 t8 (Or.inl (by rw [t8]; rfl)) xnI rfl e10 ?_
    refine x_aload_n 1 dX3_fields_84 rfl ?_
    exact x_aret rfl xty_O dX3_fields_85 hq
set_option maxRecDepth 100000 in
def bX3_fields_19 (G : xG) (fr lo : Nat) (x0 : Nat) (x1 : Nat) (x2 : Int32) (h : xH) (Q : Outcome → xH → Prop) : Prop := ((x2 = 0 → tg h x0 = 4 ∧ 1 ≤ fr ∧ 13 ≤ lo ∧ xRi G YX3_is (fr - 1) (lo - 13) [rv x0, rv (tx G 3)] h (fun x6 h5 => xext h h5 → ((x6 = 0 → 1 ≤ fr ∧ 12 ≤ lo ∧ xRi G YX3_isName (fr - 1) (lo - 12) [rv x0] h5 (fun x13 h12 => xext h5 h12 → ((x13 = 0 → bX3_fields_65 G fr lo x0 x1 x6 h12 Q) ∧ (¬ x13 = 0 → 1 ≤ fr ∧ 15 ≤ lo ∧ xRr G YX3_section (fr - 1) (lo - 15) [rv x0] h12 (fun x20 h19 => xext h12 h19 → tg h19 x1 = 16 ∧ 1 ≤ fr ∧ 13 ≤ lo ∧ xRr G YX15_add (fr - 1) (lo - 13) [rv x1, rv x20] h19 (fun x26 h25 => xext h19 h25 → bX3_fields_65 G fr lo x0 x1 x6 h25 Q) (fun r h2 => Q (.threw r) h2)) (fun r h2 => Q (.threw r) h2)))) (fun r h2 => Q (.threw r) h2)) ∧ (¬ x6 = 0 → 1 ≤ fr ∧ 15 ≤ lo ∧ xRr G YX3_variants (fr - 1) (lo - 15) [rv x0] h5 (fun x32 h31 => xext h5 h31 → tg h31 x1 = 16 ∧ 1 ≤ fr ∧ 13 ≤ lo ∧ xRr G YX15_add (fr - 1) (lo - 13) [rv x1, rv x32] h31 (fun x38 h37 => xext h31 h37 → bX3_fields_65 G fr lo x0 x1 x6 h37 Q) (fun r h2 => Q (.threw r) h2)) (fun r h2 => Q (.threw r) h2)))) (fun r h2 => Q (.threw r) h2)) ∧ (¬ x2 = 0 → bX3_fields_65 G fr lo x0 x1 x2 h Q))
set_option maxRecDepth 100000 in
theorem uX3_fields_19 {G : xG} {fr lo : Nat} {x0 : Nat} {x1 : Nat} {x2 : Int32} {h : xH} {Q : Outcome → xH → Prop} (hq : bX3_fields_19 G fr lo x0 x1 x2 h Q) : xP G YX3_fields fr lo 19 [(0, rv x0), (1, rv x1), (2, .int x2)] [] h Q := by
  unfold bX3_fields_19 at hq
  refine x_iload_n 2 dX3_fields_19 rfl ?_
  refine x_if_eq (tgt := 26) dX3_fields_20 (by decide) (fun c1 => ?_) (fun c1 => ?_)
  · replace hq := hq.1 c1
    refine x_aload_n 0 dX3_fields_26 rfl ?_
    refine x_ldcS (n := 3) 86 srX3_238 dX3_fields_27 ?_
    obtain ⟨g2, hq⟩ := hq
    obtain ⟨g3, g4, hq⟩ := hq
    refine x_callV (Yc := YX3_is) (as := [rv (tx G 3)]) (st := []) q1723 mvX3_is g2 rfl dX3_fields_29 (xle (xal1 (rv_cat _) (xal1 (rv_cat _) xal0)) (by decide)) (xfr g3) (xlo xsw0 (by decide) g4) (xKi hq (fun x6 h5 hq e7 => ?_) (fun _ _ q _ => q))
    replace hq := hq e7
    refine x_istore_n (lv' := [(2, .int x6), (0, rv x0), (1, rv x1)]) dX3_fields_32 (by decide) (by first | rfl | (simp [rv_cat, Value.category]; done) | (simp [rv_cat, Value.category]; decide)) ?_
    refine x_iload_n 0 dX3_fields_33 rfl ?_
    refine x_if_eq (tgt := 49) dX3_fields_34 (by decide) (fun c8 => ?_) (fun c8 => ?_)
    · replace hq := hq.1 c8
      refine x_aload_n 1 dX3_fields_49 rfl ?_
      have t9 : tg h5 x0 = 4 := e7.tg g2 (by decide)
      obtain ⟨g10, g11, hq⟩ := hq
      refine x_callV (Yc := YX3_isName) (as := []) (st := []) q1826 mvX3_isName t9 rfl dX3_fields_50 (xle (xal1 (rv_cat _) xal0) (by decide)) (xfr g10) (xlo xsw0 (by decide) g11) (xKi hq (fun x13 h12 hq e14 => ?_) (fun _ _ q _ => q))
      replace hq := hq e14
      refine x_if_eq (tgt := 65) dX3_fields_53 (by decide) (fun c15 => ?_) (fun c15 => ?_)
      · replace hq := hq.1 c15
        refine xP.pick (lv' := [(0, rv x0), (1, rv x1), (2, .int x6)]) [1, 2, 0] rfl ?_
        exact uX3_fields_65 hq
      · replace hq := hq.2 c15
        refine x_aload_n 2 dX3_fields_56 rfl ?_
        refine x_aload_n 1 dX3_fields_57 rfl ?_
        have t16 : tg h12 x0 = 4 := e14.tg t9 (by decide)
        obtain ⟨g17, g18, hq⟩ := hq
        refine x_callV (Yc := YX3_section) (as := []) (st := [rv x1]) q1874 mvX3_section t16 rfl dX3_fields_58 (xle (xal1 (rv_cat _) xal0) (by decide)) (xfr g17) (xlo (xsw1 (rv_cat _) xsw0) (by decide) g18) (xKr hq (fun x20 h19 hq e21 => ?_) (fun _ _ q _ => q))
        replace hq := hq e21
        obtain ⟨g22, hq⟩ := hq
        obtain ⟨g23, g24, hq⟩ := hq
        refine x_callV (Yc := YX15_add) (as := [rv x20]) (st := []) q1795 mvX15_add g22 rfl dX3_fields_61 (xle (xal1 (rv_cat _) (xal1 (rv_cat _) xal0)) (by decide)) (xfr g23) (xlo xsw0 (by decide) g24) (xKr hq (fun x26 h25 hq e27 => ?_) (fun _ _ q _ => q))
        replace hq := hq e27
        refine x_pop dX3_fields_64 (rv_cat _) ?_
        refine xP.pick (lv' := [(0, rv x0), (1, rv x1), (2, .int x6)]) [1, 2, 0] rfl ?_
        exact uX3_fields_65 hq
    · replace hq := hq.2 c8
      refine x_aload_n 2 dX3_fields_37 rfl ?_
      refine x_aload_n 1 dX3_fields_38 rfl ?_
      have t28 : tg h5 x0 = 4 := e7.tg g2 (by decide)
      obtain ⟨g29, g30, hq⟩ := hq
      refine x_callV (Yc := YX3_variants) (as := []) (st := [rv x1]) q1864 mvX3_variants t28 rfl dX3_fields_39 (xle (xal1 (rv_cat _) xal0) (by decide)) (xfr g29) (xlo (xsw1 (rv_cat _) xsw0) (by decide) g30) (xKr hq (fun x32 h31 hq e33 => ?_) (fun _ _ q _ => q))
      replace hq := hq e33
      obtain ⟨g34, hq⟩ := hq
      obtain ⟨g35, g36, hq⟩ := hq
      refine x_callV (Yc := YX15_add) (as := [rv x32]) (st := []) q1795 mvX15_add g34 rfl dX3_fields_42 (xle (xal1 (rv_cat _) (xal1 (rv_cat _) xal0)) (by decide)) (xfr g35) (xlo xsw0 (by decide) g36) (xKr hq (fun x38 h37 hq e39 => ?_) (fun _ _ q _ => q))
      replace hq := hq e39
      refine x_pop dX3_fields_45 (rv_cat _) ?_
      refine x_goto (tgt := 65) dX3_fields_46 (by decide) ?_
      refine xP.pick (lv' := [(0, rv x0), (1, rv x1), (2, .int x6)]) [1, 2, 0] rfl ?_
      exact uX3_fields_65 hq
  · replace hq := hq.2 c1
    refine x_goto (tgt := 65) dX3_fields_23 (by decide) ?_
    exact uX3_fields_65 hq
set_option maxRecDepth 100000 in
def bX3_fields (G : xG) (fr lo : Nat) (x0 : Nat) (h : xH) (Q : Outcome → xH → Prop) : Prop := tg h x0 = 4 ∧ 1 ≤ fr ∧ 12 ≤ lo ∧ xRv G YX3_deeper (fr - 1) (lo - 12) [rv x0] h (fun h4 => xext h h4 → nx h4 + 1 ≤ xGN G ∧ us h4 + 6 ≤ xGU G ∧ (∀ (a9 : Nat) (h10 : xH), a9 = nx h4 + 1 → h10 = nO h4 16 6 → xfresh h4 a9 → 1 ≤ fr ∧ 15 ≤ lo ∧ xRv G YX15_init (fr - 1) (lo - 15) [rv a9, .int 0, rv (fR h10 x0 770)] h10 (fun h19 => xext h10 h19 → lX3_fields_19 G fr lo x0 a9 0 h19 Q) (fun r h2 => Q (.threw r) h2))) (fun r h2 => Q (.threw r) h2)
set_option maxRecDepth 100000 in
theorem uX3_fields {G : xG} {fr lo : Nat} {x0 : Nat} {h : xH} {Q : Outcome → xH → Prop} (hq : bX3_fields G fr lo x0 h Q) : xP G YX3_fields fr lo 0 [(0, rv x0)] [] h Q := by
  unfold bX3_fields at hq
  refine x_aload_n 0 dX3_fields_0 rfl ?_
  obtain ⟨g1, hq⟩ := hq
  obtain ⟨g2, g3, hq⟩ := hq
  refine x_callV (Yc := YX3_deeper) (as := []) (st := []) q1806 mvX3_deeper g1 rfl dX3_fields_1 (xle (xal1 (rv_cat _) xal0) (by decide)) (xfr g2) (xlo xsw0 (by decide) g3) (xKv hq (fun h4 hq e6 => ?_) (fun _ _ q _ => q))
  replace hq := hq e6
  obtain ⟨g7, g8, hq⟩ := hq
  obtain ⟨a9, e11⟩ : ∃ y, y = nx h4 + 1 := ⟨_, rfl⟩
  obtain ⟨h10, e12⟩ : ∃ y, y = nO h4 16 6 := ⟨_, rfl⟩
  refine x_new' cdX3_71 dX3_fields_4 g7 g8 e11 e12 (fun f13 => ?_)
  replace hq := hq a9 h10 e11 e12 f13
  have t14 : tg h10 a9 = 16 := by rw [e12, e11]; exact tg_nO
  refine x_dup dX3_fields_7 (rv_cat _) ?_
  refine x_iconst (v := 0) dX3_fields_8 (by decide) ?_
  refine x_aload_n 0 dX3_fields_9 rfl ?_
  have t15 : tg h4 x0 = 4 := e6.tg g1 (by decide)
  have t16 : tg h10 x0 = 4 := by rw [e12]; exact tg_nO_ne e11 f13 t15 (by decide)
  refine x_get (v := rv (fR h10 x0 770)) fdX3_25 dX3_fields_10 t16 rfl ?_
  obtain ⟨g17, g18, hq⟩ := hq
  refine x_callI (Yc := YX15_init) (as := [.int 0, rv (fR h10 x0 770)]) (st := [rv a9]) q1749 miX15_init (by rw [t14]; decide) rfl dX3_fields_13 (xle (xal1 (rv_cat _) (xal1 rfl (xal1 (rv_cat _) xal0))) (by decide)) (xfr g17) (xlo (xsw1 (rv_cat _) xsw0) (by decide) g18) (xKv hq (fun h19 hq e21 => ?_) (fun _ _ q _ => q))
  replace hq := hq e21
  refine x_astore_n (lv' := [(1, rv a9), (0, rv x0)]) dX3_fields_16 (by decide) (by first | rfl | (simp [rv_cat, Value.category]; done) | (simp [rv_cat, Value.category]; decide)) ?_
  refine x_iconst (v := 0) dX3_fields_17 (by decide) ?_
  refine x_istore_n (lv' := [(2, .int 0), (1, rv a9), (0, rv x0)]) dX3_fields_18 (by decide) (by first | rfl | (simp [rv_cat, Value.category]; done) | (simp [rv_cat, Value.category]; decide)) ?_
  refine xP.pick (lv' := [(0, rv x0), (1, rv a9), (2, .int 0)]) [2, 1, 0] rfl ?_
  exact hq
theorem rX3_fields {G : xG} {fr lo : Nat} {x0 : Nat} {h : xH} {Q : Outcome → xH → Prop} (hq : bX3_fields G fr lo x0 h Q) : xR G YX3_fields fr lo [rv x0] h Q := by
  show xP _ _ _ _ _ (lv_args 0 _) _ _ _
  rw [show lv_args 0 [rv x0] = [(0, rv x0)] from (xla1 (rv_cat _) xla0)]
  exact uX3_fields hq
set_option maxRecDepth 100000 in
theorem dX3_variants_0 : decode cX3_variants 0 = .ok (.new 71, 3) := by decide +kernel
set_option maxRecDepth 100000 in
theorem dX3_variants_3 : decode cX3_variants 3 = .ok (.dup, 1) := by decide +kernel
set_option maxRecDepth 100000 in
theorem dX3_variants_4 : decode cX3_variants 4 = .ok (.bipush 14, 2) := by decide +kernel
set_option maxRecDepth 100000 in
theorem dX3_variants_6 : decode cX3_variants 6 = .ok (.aload_n 0, 1) := by decide +kernel
set_option maxRecDepth 100000 in
theorem dX3_variants_7 : decode cX3_variants 7 = .ok (.ldc 238, 2) := by decide +kernel
set_option maxRecDepth 100000 in
theorem dX3_variants_9 : decode cX3_variants 9 = .ok (.invokevirtual 99, 3) := by decide +kernel
set_option maxRecDepth 100000 in
theorem dX3_variants_12 : decode cX3_variants 12 = .ok (.invokespecial 77, 3) := by decide +kernel
set_option maxRecDepth 100000 in
theorem dX3_variants_15 : decode cX3_variants 15 = .ok (.astore_n 1, 1) := by decide +kernel
set_option maxRecDepth 100000 in
theorem dX3_variants_16 : decode cX3_variants 16 = .ok (.aload_n 0, 1) := by decide +kernel
set_option maxRecDepth 100000 in
theorem dX3_variants_17 : decode cX3_variants 17 = .ok (.getstatic 43, 3) := by decide +kernel
set_option maxRecDepth 100000 in
theorem dX3_variants_20 : decode cX3_variants 20 = .ok (.invokevirtual 73, 3) := by decide +kernel
set_option maxRecDepth 100000 in
theorem dX3_variants_23 : decode cX3_variants 23 = .ok (.astore_n 2, 1) := by decide +kernel
set_option maxRecDepth 100000 in
theorem dX3_variants_24 : decode cX3_variants 24 = .ok (.aload_n 0, 1) := by decide +kernel
set_option maxRecDepth 100000 in
theorem dX3_variants_25 : decode cX3_variants 25 = .ok (.ldc 170, 2) := by decide +kernel
set_option maxRecDepth 100000 in
theorem dX3_variants_27 : decode cX3_variants 27 = .ok (.invokevirtual 90, 3) := by decide +kernel
set_option maxRecDepth 100000 in
theorem dX3_variants_30 : decode cX3_variants 30 = .ok (.ifCond .eq 28, 3) := by decide +kernel
set_option maxRecDepth 100000 in
theorem dX3_variants_33 : decode cX3_variants 33 = .ok (.aload_n 1, 1) := by decide +kernel
set_option maxRecDepth 100000 in
theorem dX3_variants_34 : decode cX3_variants 34 = .ok (.new 71, 3) := by decide +kernel
set_option maxRecDepth 100000 in
theorem dX3_variants_37 : decode cX3_variants 37 = .ok (.dup, 1) := by decide +kernel
set_option maxRecDepth 100000 in
theorem dX3_variants_38 : decode cX3_variants 38 = .ok (.bipush 15, 2) := by decide +kernel
set_option maxRecDepth 100000 in
theorem dX3_variants_40 : decode cX3_variants 40 = .ok (.aload_n 2, 1) := by decide +kernel
set_option maxRecDepth 100000 in
theorem dX3_variants_41 : decode cX3_variants 41 = .ok (.invokespecial 77, 3) := by decide +kernel
set_option maxRecDepth 100000 in
theorem dX3_variants_44 : decode cX3_variants 44 = .ok (.invokevirtual 84, 3) := by decide +kernel
set_option maxRecDepth 100000 in
theorem dX3_variants_47 : decode cX3_variants 47 = .ok (.aload_n 0, 1) := by decide +kernel
set_option maxRecDepth 100000 in
theorem dX3_variants_48 : decode cX3_variants 48 = .ok (.invokevirtual 175, 3) := by decide +kernel
set_option maxRecDepth 100000 in
theorem dX3_variants_51 : decode cX3_variants 51 = .ok (.invokevirtual 84, 3) := by decide +kernel
set_option maxRecDepth 100000 in
theorem dX3_variants_54 : decode cX3_variants 54 = .ok (.pop, 1) := by decide +kernel
set_option maxRecDepth 100000 in
theorem dX3_variants_55 : decode cX3_variants 55 = .ok (.goto 18, 3) := by decide +kernel
set_option maxRecDepth 100000 in
theorem dX3_variants_58 : decode cX3_variants 58 = .ok (.aload_n 1, 1) := by decide +kernel
set_option maxRecDepth 100000 in
theorem dX3_variants_59 : decode cX3_variants 59 = .ok (.new 71, 3) := by decide +kernel
set_option maxRecDepth 100000 in
theorem dX3_variants_62 : decode cX3_variants 62 = .ok (.dup, 1) := by decide +kernel
set_option maxRecDepth 100000 in
theorem dX3_variants_63 : decode cX3_variants 63 = .ok (.bipush 6, 2) := by decide +kernel
set_option maxRecDepth 100000 in
theorem dX3_variants_65 : decode cX3_variants 65 = .ok (.aload_n 2, 1) := by decide +kernel
set_option maxRecDepth 100000 in
theorem dX3_variants_66 : decode cX3_variants 66 = .ok (.invokespecial 77, 3) := by decide +kernel
set_option maxRecDepth 100000 in
theorem dX3_variants_69 : decode cX3_variants 69 = .ok (.invokevirtual 84, 3) := by decide +kernel
set_option maxRecDepth 100000 in
theorem dX3_variants_72 : decode cX3_variants 72 = .ok (.pop, 1) := by decide +kernel
set_option maxRecDepth 100000 in
theorem dX3_variants_73 : decode cX3_variants 73 = .ok (.aload_n 0, 1) := by decide +kernel
set_option maxRecDepth 100000 in
theorem dX3_variants_74 : decode cX3_variants 74 = .ok (.ldc 225, 2) := by decide +kernel
set_option maxRecDepth 100000 in
theorem dX3_variants_76 : decode cX3_variants 76 = .ok (.invokevirtual 99, 3) := by decide +kernel
set_option maxRecDepth 100000 in
theorem dX3_variants_79 : decode cX3_variants 79 = .ok (.pop, 1) := by decide +kernel
set_option maxRecDepth 100000 in
theorem dX3_variants_80 : decode cX3_variants 80 = .ok (.aload_n 0, 1) := by decide +kernel
set_option maxRecDepth 100000 in
theorem dX3_variants_81 : decode cX3_variants 81 = .ok (.ldc 113, 2) := by decide +kernel
set_option maxRecDepth 100000 in
theorem dX3_variants_83 : decode cX3_variants 83 = .ok (.invokevirtual 60, 3) := by decide +kernel
set_option maxRecDepth 100000 in
theorem dX3_variants_86 : decode cX3_variants 86 = .ok (.ifCond .ne 30, 3) := by decide +kernel
set_option maxRecDepth 100000 in
theorem dX3_variants_89 : decode cX3_variants 89 = .ok (.aload_n 0, 1) := by decide +kernel
set_option maxRecDepth 100000 in
theorem dX3_variants_90 : decode cX3_variants 90 = .ok (.ldc 230, 2) := by decide +kernel
set_option maxRecDepth 100000 in
theorem dX3_variants_92 : decode cX3_variants 92 = .ok (.invokevirtual 60, 3) := by decide +kernel
set_option maxRecDepth 100000 in
theorem dX3_variants_95 : decode cX3_variants 95 = .ok (.ifCond .ne 21, 3) := by decide +kernel
set_option maxRecDepth 100000 in
theorem dX3_variants_98 : decode cX3_variants 98 = .ok (.aload_n 0, 1) := by decide +kernel
set_option maxRecDepth 100000 in
theorem dX3_variants_99 : decode cX3_variants 99 = .ok (.ldc 111, 2) := by decide +kernel
set_option maxRecDepth 100000 in
theorem dX3_variants_101 : decode cX3_variants 101 = .ok (.invokevirtual 60, 3) := by decide +kernel
set_option maxRecDepth 100000 in
theorem dX3_variants_104 : decode cX3_variants 104 = .ok (.ifCond .ne 12, 3) := by decide +kernel
set_option maxRecDepth 100000 in
theorem dX3_variants_107 : decode cX3_variants 107 = .ok (.aload_n 1, 1) := by decide +kernel
set_option maxRecDepth 100000 in
theorem dX3_variants_108 : decode cX3_variants 108 = .ok (.aload_n 0, 1) := by decide +kernel
set_option maxRecDepth 100000 in
theorem dX3_variants_109 : decode cX3_variants 109 = .ok (.invokevirtual 243, 3) := by decide +kernel
set_option maxRecDepth 100000 in
theorem dX3_variants_112 : decode cX3_variants 112 = .ok (.invokevirtual 84, 3) := by decide +kernel
set_option maxRecDepth 100000 in
theorem dX3_variants_115 : decode cX3_variants 115 = .ok (.pop, 1) := by decide +kernel
set_option maxRecDepth 100000 in
theorem dX3_variants_116 : decode cX3_variants 116 = .ok (.aload_n 0, 1) := by decide +kernel
set_option maxRecDepth 100000 in
theorem dX3_variants_117 : decode cX3_variants 117 = .ok (.ldc 113, 2) := by decide +kernel
set_option maxRecDepth 100000 in
theorem dX3_variants_119 : decode cX3_variants 119 = .ok (.invokevirtual 90, 3) := by decide +kernel
set_option maxRecDepth 100000 in
theorem dX3_variants_122 : decode cX3_variants 122 = .ok (.ifCond .ne (-42), 3) := by decide +kernel
set_option maxRecDepth 100000 in
theorem dX3_variants_125 : decode cX3_variants 125 = .ok (.aload_n 1, 1) := by decide +kernel
set_option maxRecDepth 100000 in
theorem dX3_variants_126 : decode cX3_variants 126 = .ok (.areturn, 1) := by decide +kernel
def lX3_variants_80 (G : xG) (fr lo : Nat) (x0 : Nat) (x1 : Nat) (h : xH) (Q : Outcome → xH → Prop) : Prop := xP G YX3_variants fr lo 80 [(0, rv x0), (1, rv x1)] [] h Q
set_option maxRecDepth 100000 in
def bX3_variants_116 (G : xG) (fr lo : Nat) (x0 : Nat) (x1 : Nat) (h : xH) (Q : Outcome → xH → Prop) : Prop := tg h x0 = 4 ∧ 1 ≤ fr ∧ 13 ≤ lo ∧ xRi G YX3_has (fr - 1) (lo - 13) [rv x0, rv (tx G 64)] h (fun x5 h4 => xext h h4 → ((¬ x5 = 0 → lX3_variants_80 G fr lo x0 x1 h4 Q) ∧ (x5 = 0 → Q (.returned (some (rv x1))) h4))) (fun r h2 => Q (.threw r) h2)
set_option maxRecDepth 100000 in
theorem uX3_variants_116 {G : xG} {fr lo : Nat} {x0 : Nat} {x1 : Nat} {h : xH} {Q : Outcome → xH → Prop} (hq : bX3_variants_116 G fr lo x0 x1 h Q) : xP G YX3_variants fr lo 116 [(0, rv x0), (1, rv x1)] [] h Q := by
  unfold bX3_variants_116 at hq
  refine x_aload_n 0 dX3_variants_116 rfl ?_
  refine x_ldcS (n := 64) 71 srX3_113 dX3_variants_117 ?_
  obtain ⟨g1, hq⟩ := hq
  obtain ⟨g2, g3, hq⟩ := hq
  refine x_callV (Yc := YX3_has) (as := [rv (tx G 64)]) (st := []) q1783 mvX3_has g1 rfl dX3_variants_119 (xle (xal1 (rv_cat _) (xal1 (rv_cat _) xal0)) (by decide)) (xfr g2) (xlo xsw0 (by decide) g3) (xKi hq (fun x5 h4 hq e6 => ?_) (fun _ _ q _ => q))
  replace hq := hq e6
  refine x_if_ne (tgt := 80) dX3_variants_122 (by decide) (fun c7 => ?_) (fun c7 => ?_)
  · replace hq := hq.1 c7
    exact hq
  · replace hq := hq.2 c7
    refine x_aload_n 1 dX3_variants_125 rfl ?_
    exact x_aret rfl xty_O dX3_variants_126 hq
set_option maxRecDepth 100000 in
def bX3_variants_80 (G : xG) (fr lo : Nat) (x0 : Nat) (x1 : Nat) (h : xH) (Q : Outcome → xH → Prop) : Prop := tg h x0 = 4 ∧ 1 ≤ fr ∧ 13 ≤ lo ∧ xRi G YX3_is (fr - 1) (lo - 13) [rv x0, rv (tx G 64)] h (fun x5 h4 => xext h h4 → ((¬ x5 = 0 → bX3_variants_116 G fr lo x0 x1 h4 Q) ∧ (x5 = 0 → 1 ≤ fr ∧ 13 ≤ lo ∧ xRi G YX3_is (fr - 1) (lo - 13) [rv x0, rv (tx G 9)] h4 (fun x12 h11 => xext h4 h11 → ((¬ x12 = 0 → bX3_variants_116 G fr lo x0 x1 h11 Q) ∧ (x12 = 0 → 1 ≤ fr ∧ 13 ≤ lo ∧ xRi G YX3_is (fr - 1) (lo - 13) [rv x0, rv (tx G 61)] h11 (fun x19 h18 => xext h11 h18 → ((¬ x19 = 0 → bX3_variants_116 G fr lo x0 x1 h18 Q) ∧ (x19 = 0 → 1 ≤ fr ∧ 15 ≤ lo ∧ xRr G YX3_choice (fr - 1) (lo - 15) [rv x0] h18 (fun x26 h25 => xext h18 h25 → tg h25 x1 = 16 ∧ 1 ≤ fr ∧ 13 ≤ lo ∧ xRr G YX15_add (fr - 1) (lo - 13) [rv x1, rv x26] h25 (fun x32 h31 => xext h25 h31 → bX3_variants_116 G fr lo x0 x1 h31 Q) (fun r h2 => Q (.threw r) h2)) (fun r h2 => Q (.threw r) h2)))) (fun r h2 => Q (.threw r) h2)))) (fun r h2 => Q (.threw r) h2)))) (fun r h2 => Q (.threw r) h2)
set_option maxRecDepth 100000 in
theorem uX3_variants_80 {G : xG} {fr lo : Nat} {x0 : Nat} {x1 : Nat} {h : xH} {Q : Outcome → xH → Prop} (hq : bX3_variants_80 G fr lo x0 x1 h Q) : xP G YX3_variants fr lo 80 [(0, rv x0), (1, rv x1)] [] h Q := by
  unfold bX3_variants_80 at hq
  refine x_aload_n 0 dX3_variants_80 rfl ?_
  refine x_ldcS (n := 64) 71 srX3_113 dX3_variants_81 ?_
  obtain ⟨g1, hq⟩ := hq
  obtain ⟨g2, g3, hq⟩ := hq
  refine x_callV (Yc := YX3_is) (as := [rv (tx G 64)]) (st := []) q1723 mvX3_is g1 rfl dX3_variants_83 (xle (xal1 (rv_cat _) (xal1 (rv_cat _) xal0)) (by decide)) (xfr g2) (xlo xsw0 (by decide) g3) (xKi hq (fun x5 h4 hq e6 => ?_) (fun _ _ q _ => q))
  replace hq := hq e6
  refine x_if_ne (tgt := 116) dX3_variants_86 (by decide) (fun c7 => ?_) (fun c7 => ?_)
  · replace hq := hq.1 c7
    exact uX3_variants_116 hq
  · replace hq := hq.2 c7
    refine x_aload_n 0 dX3_variants_89 rfl ?_
    refine x_ldcS (n := 9) 88 srX3_230 dX3_variants_90 ?_
    have t8 : tg h4 x0 = 4 := e6.tg g1 (by decide)
    obtain ⟨g9, g10, hq⟩ := hq
    refine x_callV (Yc := YX3_is) (as := [rv (tx G 9)]) (st := []) q1723 mvX3_is t8 rfl dX3_variants_92 (xle (xal1 (rv_cat _) (xal1 (rv_cat _) xal0)) (by decide)) (xfr g9) (xlo xsw0 (by decide) g10) (xKi hq (fun x12 h11 hq e13 => ?_) (fun _ _ q _ => q))
    replace hq := hq e13
    refine x_if_ne (tgt := 116) dX3_variants_95 (by decide) (fun c14 => ?_) (fun c14 => ?_)
    · replace hq := hq.1 c14
      exact uX3_variants_116 hq
    · replace hq := hq.2 c14
      refine x_aload_n 0 dX3_variants_98 rfl ?_
      refine x_ldcS (n := 61) 70 srX3_111 dX3_variants_99 ?_
      have t15 : tg h11 x0 = 4 := e13.tg t8 (by decide)
      obtain ⟨g16, g17, hq⟩ := hq
      refine x_callV (Yc := YX3_is) (as := [rv (tx G 61)]) (st := []) q1723 mvX3_is t15 rfl dX3_variants_101 (xle (xal1 (rv_cat _) (xal1 (rv_cat _) xal0)) (by decide)) (xfr g16) (xlo xsw0 (by decide) g17) (xKi hq (fun x19 h18 hq e20 => ?_) (fun _ _ q _ => q))
      replace hq := hq e20
      refine x_if_ne (tgt := 116) dX3_variants_104 (by decide) (fun c21 => ?_) (fun c21 => ?_)
      · replace hq := hq.1 c21
        exact uX3_variants_116 hq
      · replace hq := hq.2 c21
        refine x_aload_n 1 dX3_variants_107 rfl ?_
        refine x_aload_n 0 dX3_variants_108 rfl ?_
        have t22 : tg h18 x0 = 4 := e20.tg t15 (by decide)
        obtain ⟨g23, g24, hq⟩ := hq
        refine x_callV (Yc := YX3_choice) (as := []) (st := [rv x1]) q1870 mvX3_choice t22 rfl dX3_variants_109 (xle (xal1 (rv_cat _) xal0) (by decide)) (xfr g23) (xlo (xsw1 (rv_cat _) xsw0) (by decide) g24) (xKr hq (fun x26 h25 hq e27 => ?_) (fun _ _ q _ => q))
        replace hq := hq e27
        obtain ⟨g28, hq⟩ := hq
        obtain ⟨g29, g30, hq⟩ := hq
        refine x_callV (Yc := YX15_add) (as := [rv x26]) (st := []) q1795 mvX15_add g28 rfl dX3_variants_112 (xle (xal1 (rv_cat _) (xal1 (rv_cat _) xal0)) (by decide)) (xfr g29) (xlo xsw0 (by decide) g30) (xKr hq (fun x32 h31 hq e33 => ?_) (fun _ _ q _ => q))
        replace hq := hq e33
        refine x_pop dX3_variants_115 (rv_cat _) ?_
        exact uX3_variants_116 hq
set_option maxRecDepth 100000 in
def bX3_variants_73 (G : xG) (fr lo : Nat) (x0 : Nat) (x1 : Nat) (h : xH) (Q : Outcome → xH → Prop) : Prop := tg h x0 = 4 ∧ 1 ≤ fr ∧ 13 ≤ lo ∧ xRr G YX3_need (fr - 1) (lo - 13) [rv x0, rv (tx G 20)] h (fun x5 h4 => xext h h4 → lX3_variants_80 G fr lo x0 x1 h4 Q) (fun r h2 => Q (.threw r) h2)
set_option maxRecDepth 100000 in
theorem uX3_variants_73 {G : xG} {fr lo : Nat} {x0 : Nat} {x1 : Nat} {h : xH} {Q : Outcome → xH → Prop} (hq : bX3_variants_73 G fr lo x0 x1 h Q) : xP G YX3_variants fr lo 73 [(0, rv x0), (1, rv x1)] [] h Q := by
  unfold bX3_variants_73 at hq
  refine x_aload_n 0 dX3_variants_73 rfl ?_
  refine x_ldcS (n := 20) 84 srX3_225 dX3_variants_74 ?_
  obtain ⟨g1, hq⟩ := hq
  obtain ⟨g2, g3, hq⟩ := hq
  refine x_callV (Yc := YX3_need) (as := [rv (tx G 20)]) (st := []) q1719 mvX3_need g1 rfl dX3_variants_76 (xle (xal1 (rv_cat _) (xal1 (rv_cat _) xal0)) (by decide)) (xfr g2) (xlo xsw0 (by decide) g3) (xKr hq (fun x5 h4 hq e6 => ?_) (fun _ _ q _ => q))
  replace hq := hq e6
  refine x_pop dX3_variants_79 (rv_cat _) ?_
  exact hq
set_option maxRecDepth 100000 in
def bX3_variants (G : xG) (fr lo : Nat) (x0 : Nat) (h : xH) (Q : Outcome → xH → Prop) : Prop := nx h + 1 ≤ xGN G ∧ us h + 6 ≤ xGU G ∧ (∀ (a3 : Nat) (h4 : xH), a3 = nx h + 1 → h4 = nO h 16 6 → xfresh h a3 → tg h4 x0 = 4 ∧ 1 ≤ fr ∧ 16 ≤ lo ∧ xRr G YX3_need (fr - 1) (lo - 16) [rv x0, rv (tx G 3)] h4 (fun x13 h12 => xext h4 h12 → 1 ≤ fr ∧ 15 ≤ lo ∧ xRv G YX15_init (fr - 1) (lo - 15) [rv a3, .int 14, rv x13] h12 (fun h18 => xext h12 h18 → 1 ≤ fr ∧ 13 ≤ lo ∧ xRr G YX3_needSort (fr - 1) (lo - 13) [rv x0, rv (xGS G 1)] h18 (fun x26 h25 => xext h18 h25 → 1 ≤ fr ∧ 13 ≤ lo ∧ xRi G YX3_has (fr - 1) (lo - 13) [rv x0, rv (tx G 65)] h25 (fun x32 h31 => xext h25 h31 → ((x32 = 0 → nx h31 + 1 ≤ xGN G ∧ us h31 + 6 ≤ xGU G ∧ (∀ (a37 : Nat) (h38 : xH), a37 = nx h31 + 1 → h38 = nO h31 16 6 → xfresh h31 a37 → 1 ≤ fr ∧ 16 ≤ lo ∧ xRv G YX15_init (fr - 1) (lo - 16) [rv a37, .int 6, rv x26] h38 (fun h45 => xext h38 h45 → 1 ≤ fr ∧ 13 ≤ lo ∧ xRr G YX15_add (fr - 1) (lo - 13) [rv a3, rv a37] h45 (fun x56 h55 => xext h45 h55 → bX3_variants_73 G fr lo x0 a3 h55 Q) (fun r h2 => Q (.threw r) h2)) (fun r h2 => Q (.threw r) h2))) ∧ (¬ x32 = 0 → nx h31 + 1 ≤ xGN G ∧ us h31 + 6 ≤ xGU G ∧ (∀ (a60 : Nat) (h61 : xH), a60 = nx h31 + 1 → h61 = nO h31 16 6 → xfresh h31 a60 → 1 ≤ fr ∧ 16 ≤ lo ∧ xRv G YX15_init (fr - 1) (lo - 16) [rv a60, .int 15, rv x26] h61 (fun h68 => xext h61 h68 → 1 ≤ fr ∧ 13 ≤ lo ∧ xRr G YX15_add (fr - 1) (lo - 13) [rv a3, rv a60] h68 (fun x79 h78 => xext h68 h78 → 1 ≤ fr ∧ 13 ≤ lo ∧ xRr G YX3_named (fr - 1) (lo - 13) [rv x0] h78 (fun x88 h87 => xext h78 h87 → tg h87 x79 = 16 ∧ 1 ≤ fr ∧ 13 ≤ lo ∧ xRr G YX15_add (fr - 1) (lo - 13) [rv x79, rv x88] h87 (fun x94 h93 => xext h87 h93 → bX3_variants_73 G fr lo x0 a3 h93 Q) (fun r h2 => Q (.threw r) h2)) (fun r h2 => Q (.threw r) h2)) (fun r h2 => Q (.threw r) h2)) (fun r h2 => Q (.threw r) h2))))) (fun r h2 => Q (.threw r) h2)) (fun r h2 => Q (.threw r) h2)) (fun r h2 => Q (.threw r) h2)) (fun r h2 => Q (.threw r) h2))
set_option maxRecDepth 100000 in
theorem uX3_variants {G : xG} {fr lo : Nat} {x0 : Nat} {h : xH} {Q : Outcome → xH → Prop} (hq : bX3_variants G fr lo x0 h Q) : xP G YX3_variants fr lo 0 [(0, rv x0)] [] h Q := by
  unfold bX3_variants at hq
  obtain ⟨g1, g2, hq⟩ := hq
  obtain ⟨a3, e5⟩ : ∃ y, y = nx h + 1 := ⟨_, rfl⟩
  obtain ⟨h4, e6⟩ : ∃ y, y = nO h 16 6 := ⟨_, rfl⟩
  refine x_new' cdX3_71 dX3_variants_0 g1 g2 e5 e6 (fun f7 => ?_)
  replace hq := hq a3 h4 e5 e6 f7
  have t8 : tg h4 a3 = 16 := by rw [e6, e5]; exact tg_nO
  refine x_dup dX3_variants_3 (rv_cat _) ?_
  refine x_bipush (v := 14) dX3_variants_4 (by decide) ?_
  refine x_aload_n 0 dX3_variants_6 rfl ?_
  refine x_ldcS (n := 3) 86 srX3_238 dX3_variants_7 ?_
  obtain ⟨g9, hq⟩ := hq
  obtain ⟨g10, g11, hq⟩ := hq
  refine x_callV (Yc := YX3_need) (as := [rv (tx G 3)]) (st := [.int 14, rv a3, rv a3]) q1719 mvX3_need g9 rfl dX3_variants_9 (xle (xal1 (rv_cat _) (xal1 (rv_cat _) xal0)) (by decide)) (xfr g10) (xlo (xsw1 rfl (xsw1 (rv_cat _) (xsw1 (rv_cat _) xsw0))) (by decide) g11) (xKr hq (fun x13 h12 hq e14 => ?_) (fun _ _ q _ => q))
  replace hq := hq e14
  have t15 : tg h12 a3 = 16 := e14.tg t8 (by decide)
  obtain ⟨g16, g17, hq⟩ := hq
  refine x_callI (Yc := YX15_init) (as := [.int 14, rv x13]) (st := [rv a3]) q1749 miX15_init (by rw [t15]; decide) rfl dX3_variants_12 (xle (xal1 (rv_cat _) (xal1 rfl (xal1 (rv_cat _) xal0))) (by decide)) (xfr g16) (xlo (xsw1 (rv_cat _) xsw0) (by decide) g17) (xKv hq (fun h18 hq e20 => ?_) (fun _ _ q _ => q))
  replace hq := hq e20
  refine x_astore_n (lv' := [(1, rv a3), (0, rv x0)]) dX3_variants_15 (by decide) (by first | rfl | (simp [rv_cat, Value.category]; done) | (simp [rv_cat, Value.category]; decide)) ?_
  refine x_aload_n 1 dX3_variants_16 rfl ?_
  refine x_gets (v := rv (xGS G 1)) 1 rfl q1744 (by simp [xsv]) dX3_variants_17 ?_
  have t21 : tg h12 x0 = 4 := e14.tg g9 (by decide)
  have t22 : tg h18 x0 = 4 := e20.tg t21 (by decide)
  obtain ⟨g23, g24, hq⟩ := hq
  refine x_callV (Yc := YX3_needSort) (as := [rv (xGS G 1)]) (st := []) q1745 mvX3_needSort t22 rfl dX3_variants_20 (xle (xal1 (rv_cat _) (xal1 (rv_cat _) xal0)) (by decide)) (xfr g23) (xlo xsw0 (by decide) g24) (xKr hq (fun x26 h25 hq e27 => ?_) (fun _ _ q _ => q))
  replace hq := hq e27
  refine x_astore_n (lv' := [(2, rv x26), (1, rv a3), (0, rv x0)]) dX3_variants_23 (by decide) (by first | rfl | (simp [rv_cat, Value.category]; done) | (simp [rv_cat, Value.category]; decide)) ?_
  refine x_aload_n 2 dX3_variants_24 rfl ?_
  refine x_ldcS (n := 65) 87 srX3_170 dX3_variants_25 ?_
  have t28 : tg h25 x0 = 4 := e27.tg t22 (by decide)
  obtain ⟨g29, g30, hq⟩ := hq
  refine x_callV (Yc := YX3_has) (as := [rv (tx G 65)]) (st := []) q1783 mvX3_has t28 rfl dX3_variants_27 (xle (xal1 (rv_cat _) (xal1 (rv_cat _) xal0)) (by decide)) (xfr g29) (xlo xsw0 (by decide) g30) (xKi hq (fun x32 h31 hq e33 => ?_) (fun _ _ q _ => q))
  replace hq := hq e33
  refine x_if_eq (tgt := 58) dX3_variants_30 (by decide) (fun c34 => ?_) (fun c34 => ?_)
  · replace hq := hq.1 c34
    refine x_aload_n 1 dX3_variants_58 rfl ?_
    obtain ⟨g35, g36, hq⟩ := hq
    obtain ⟨a37, e39⟩ : ∃ y, y = nx h31 + 1 := ⟨_, rfl⟩
    obtain ⟨h38, e40⟩ : ∃ y, y = nO h31 16 6 := ⟨_, rfl⟩
    refine x_new' cdX3_71 dX3_variants_59 g35 g36 e39 e40 (fun f41 => ?_)
    replace hq := hq a37 h38 e39 e40 f41
    have t42 : tg h38 a37 = 16 := by rw [e40, e39]; exact tg_nO
    refine x_dup dX3_variants_62 (rv_cat _) ?_
    refine x_bipush (v := 6) dX3_variants_63 (by decide) ?_
    refine x_aload_n 0 dX3_variants_65 rfl ?_
    obtain ⟨g43, g44, hq⟩ := hq
    refine x_callI (Yc := YX15_init) (as := [.int 6, rv x26]) (st := [rv a37, rv a3]) q1749 miX15_init (by rw [t42]; decide) rfl dX3_variants_66 (xle (xal1 (rv_cat _) (xal1 rfl (xal1 (rv_cat _) xal0))) (by decide)) (xfr g43) (xlo (xsw1 (rv_cat _) (xsw1 (rv_cat _) xsw0)) (by decide) g44) (xKv hq (fun h45 hq e47 => ?_) (fun _ _ q _ => q))
    replace hq := hq e47
    have t48 : tg h18 a3 = 16 := e20.tg t15 (by decide)
    have t49 : tg h25 a3 = 16 := e27.tg t48 (by decide)
    have t50 : tg h31 a3 = 16 := e33.tg t49 (by decide)
    have t51 : tg h38 a3 = 16 := by rw [e40]; exact tg_nO_ne e39 f41 t50 (by decide)
    have t52 : tg h45 a3 = 16 := e47.tg t51 (by decide)
    obtain ⟨g53, g54, hq⟩ := hq
    refine x_callV (Yc := YX15_add) (as := [rv a37]) (st := []) q1795 mvX15_add t52 rfl dX3_variants_69 (xle (xal1 (rv_cat _) (xal1 (rv_cat _) xal0)) (by decide)) (xfr g53) (xlo xsw0 (by decide) g54) (xKr hq (fun x56 h55 hq e57 => ?_) (fun _ _ q _ => q))
    replace hq := hq e57
    refine x_pop dX3_variants_72 (rv_cat _) ?_
    refine xP.pick (lv' := [(0, rv x0), (1, rv a3)]) [2, 1] rfl ?_
    exact uX3_variants_73 hq
  · replace hq := hq.2 c34
    refine x_aload_n 1 dX3_variants_33 rfl ?_
    obtain ⟨g58, g59, hq⟩ := hq
    obtain ⟨a60, e62⟩ : ∃ y, y = nx h31 + 1 := ⟨_, rfl⟩
    obtain ⟨h61, e63⟩ : ∃ y, y = nO h31 16 6 := ⟨_, rfl⟩
    refine x_new' cdX3_71 dX3_variants_34 g58 g59 e62 e63 (fun f64 => ?_)
    replace hq := hq a60 h61 e62 e63 f64
    have t65 : tg h61 a60 = 16 := by rw [e63, e62]; exact tg_nO
    refine x_dup dX3_variants_37 (rv_cat _) ?_
    refine x_bipush (v := 15) dX3_variants_38 (by decide) ?_
    refine x_aload_n 0 dX3_variants_40 rfl ?_
    obtain ⟨g66, g67, hq⟩ := hq
    refine x_callI (Yc := YX15_init) (as := [.int 15, rv x26]) (st := [rv a60, rv a3]) q1749 miX15_init (by rw [t65]; decide) rfl dX3_variants_41 (xle (xal1 (rv_cat _) (xal1 rfl (xal1 (rv_cat _) xal0))) (by decide)) (xfr g66) (xlo (xsw1 (rv_cat _) (xsw1 (rv_cat _) xsw0)) (by decide) g67) (xKv hq (fun h68 hq e70 => ?_) (fun _ _ q _ => q))
    replace hq := hq e70
    have t71 : tg h18 a3 = 16 := e20.tg t15 (by decide)
    have t72 : tg h25 a3 = 16 := e27.tg t71 (by decide)
    have t73 : tg h31 a3 = 16 := e33.tg t72 (by decide)
    have t74 : tg h61 a3 = 16 := by rw [e63]; exact tg_nO_ne e62 f64 t73 (by decide)
    have t75 : tg h68 a3 = 16 := e70.tg t74 (by decide)
    obtain ⟨g76, g77, hq⟩ := hq
    refine x_callV (Yc := YX15_add) (as := [rv a60]) (st := []) q1795 mvX15_add t75 rfl dX3_variants_44 (xle (xal1 (rv_cat _) (xal1 (rv_cat _) xal0)) (by decide)) (xfr g76) (xlo xsw0 (by decide) g77) (xKr hq (fun x79 h78 hq e80 => ?_) (fun _ _ q _ => q))
    replace hq := hq e80
    refine x_aload_n 2 dX3_variants_47 rfl ?_
    have t81 : tg h31 x0 = 4 := e33.tg t28 (by decide)
    have t82 : tg h61 x0 = 4 := by rw [e63]; exact tg_nO_ne e62 f64 t81 (by decide)
    have t83 : tg h68 x0 = 4 := e70.tg t82 (by decide)
    have t84 : tg h78 x0 = 4 := e80.tg t83 (by decide)
    obtain ⟨g85, g86, hq⟩ := hq
    refine x_callV (Yc := YX3_named) (as := []) (st := [rv x79]) q1840 mvX3_named t84 rfl dX3_variants_48 (xle (xal1 (rv_cat _) xal0) (by decide)) (xfr g85) (xlo (xsw1 (rv_cat _) xsw0) (by decide) g86) (xKr hq (fun x88 h87 hq e89 => ?_) (fun _ _ q _ => q))
    replace hq := hq e89
    obtain ⟨g90, hq⟩ := hq
    obtain ⟨g91, g92, hq⟩ := hq
    refine x_callV (Yc := YX15_add) (as := [rv x88]) (st := []) q1795 mvX15_add g90 rfl dX3_variants_51 (xle (xal1 (rv_cat _) (xal1 (rv_cat _) xal0)) (by decide)) (xfr g91) (xlo xsw0 (by decide) g92) (xKr hq (fun x94 h93 hq e95 => ?_) (fun _ _ q _ => q))
    replace hq := hq e95
    refine x_pop dX3_variants_54 (rv_cat _) ?_
    refine x_goto (tgt := 73) dX3_variants_55 (by decide) ?_
    refine xP.pick (lv' := [(0, rv x0), (1, rv a3)]) [2, 1] rfl ?_
    exact uX3_variants_73 hq
theorem rX3_variants {G : xG} {fr lo : Nat} {x0 : Nat} {h : xH} {Q : Outcome → xH → Prop} (hq : bX3_variants G fr lo x0 h Q) : xR G YX3_variants fr lo [rv x0] h Q := by
  show xP _ _ _ _ _ (lv_args 0 _) _ _ _
  rw [show lv_args 0 [rv x0] = [(0, rv x0)] from (xla1 (rv_cat _) xla0)]
  exact uX3_variants hq
set_option maxRecDepth 100000 in
theorem dX3_choice_0 : decode cX3_choice 0 = .ok (.new 71, 3) := by decide +kernel
set_option maxRecDepth 100000 in
theorem dX3_choice_3 : decode cX3_choice 3 = .ok (.dup, 1) := by decide +kernel
set_option maxRecDepth 100000 in
theorem dX3_choice_4 : decode cX3_choice 4 = .ok (.iconst 0, 1) := by decide +kernel
set_option maxRecDepth 100000 in
theorem dX3_choice_5 : decode cX3_choice 5 = .ok (.aload_n 0, 1) := by decide +kernel
set_option maxRecDepth 100000 in
theorem dX3_choice_6 : decode cX3_choice 6 = .ok (.getfield 25, 3) := by decide +kernel
set_option maxRecDepth 100000 in
theorem dX3_choice_9 : decode cX3_choice 9 = .ok (.invokespecial 77, 3) := by decide +kernel
set_option maxRecDepth 100000 in
theorem dX3_choice_12 : decode cX3_choice 12 = .ok (.astore_n 1, 1) := by decide +kernel
set_option maxRecDepth 100000 in
theorem dX3_choice_13 : decode cX3_choice 13 = .ok (.aload_n 1, 1) := by decide +kernel
set_option maxRecDepth 100000 in
theorem dX3_choice_14 : decode cX3_choice 14 = .ok (.aload_n 0, 1) := by decide +kernel
set_option maxRecDepth 100000 in
theorem dX3_choice_15 : decode cX3_choice 15 = .ok (.invokevirtual 154, 3) := by decide +kernel
set_option maxRecDepth 100000 in
theorem dX3_choice_18 : decode cX3_choice 18 = .ok (.invokevirtual 84, 3) := by decide +kernel
set_option maxRecDepth 100000 in
theorem dX3_choice_21 : decode cX3_choice 21 = .ok (.pop, 1) := by decide +kernel
set_option maxRecDepth 100000 in
theorem dX3_choice_22 : decode cX3_choice 22 = .ok (.aload_n 0, 1) := by decide +kernel
set_option maxRecDepth 100000 in
theorem dX3_choice_23 : decode cX3_choice 23 = .ok (.ldc 88, 2) := by decide +kernel
set_option maxRecDepth 100000 in
theorem dX3_choice_25 : decode cX3_choice 25 = .ok (.invokevirtual 90, 3) := by decide +kernel
set_option maxRecDepth 100000 in
theorem dX3_choice_28 : decode cX3_choice 28 = .ok (.ifCond .ne (-15), 3) := by decide +kernel
set_option maxRecDepth 100000 in
theorem dX3_choice_31 : decode cX3_choice 31 = .ok (.new 71, 3) := by decide +kernel
set_option maxRecDepth 100000 in
theorem dX3_choice_34 : decode cX3_choice 34 = .ok (.dup, 1) := by decide +kernel
set_option maxRecDepth 100000 in
theorem dX3_choice_35 : decode cX3_choice 35 = .ok (.bipush 16, 2) := by decide +kernel
set_option maxRecDepth 100000 in
theorem dX3_choice_37 : decode cX3_choice 37 = .ok (.aload_n 0, 1) := by decide +kernel
set_option maxRecDepth 100000 in
theorem dX3_choice_38 : decode cX3_choice 38 = .ok (.ldc 170, 2) := by decide +kernel
set_option maxRecDepth 100000 in
theorem dX3_choice_40 : decode cX3_choice 40 = .ok (.invokevirtual 99, 3) := by decide +kernel
set_option maxRecDepth 100000 in
theorem dX3_choice_43 : decode cX3_choice 43 = .ok (.invokespecial 77, 3) := by decide +kernel
set_option maxRecDepth 100000 in
theorem dX3_choice_46 : decode cX3_choice 46 = .ok (.astore_n 2, 1) := by decide +kernel
set_option maxRecDepth 100000 in
theorem dX3_choice_47 : decode cX3_choice 47 = .ok (.aload_n 0, 1) := by decide +kernel
set_option maxRecDepth 100000 in
theorem dX3_choice_48 : decode cX3_choice 48 = .ok (.ldc 105, 2) := by decide +kernel
set_option maxRecDepth 100000 in
theorem dX3_choice_50 : decode cX3_choice 50 = .ok (.invokevirtual 99, 3) := by decide +kernel
set_option maxRecDepth 100000 in
theorem dX3_choice_53 : decode cX3_choice 53 = .ok (.pop, 1) := by decide +kernel
set_option maxRecDepth 100000 in
theorem dX3_choice_54 : decode cX3_choice 54 = .ok (.aload_n 2, 1) := by decide +kernel
set_option maxRecDepth 100000 in
theorem dX3_choice_55 : decode cX3_choice 55 = .ok (.aload_n 1, 1) := by decide +kernel
set_option maxRecDepth 100000 in
theorem dX3_choice_56 : decode cX3_choice 56 = .ok (.invokevirtual 84, 3) := by decide +kernel
set_option maxRecDepth 100000 in
theorem dX3_choice_59 : decode cX3_choice 59 = .ok (.aload_n 0, 1) := by decide +kernel
set_option maxRecDepth 100000 in
theorem dX3_choice_60 : decode cX3_choice 60 = .ok (.invokevirtual 227, 3) := by decide +kernel
set_option maxRecDepth 100000 in
theorem dX3_choice_63 : decode cX3_choice 63 = .ok (.invokevirtual 84, 3) := by decide +kernel
set_option maxRecDepth 100000 in
theorem dX3_choice_66 : decode cX3_choice 66 = .ok (.pop, 1) := by decide +kernel
set_option maxRecDepth 100000 in
theorem dX3_choice_67 : decode cX3_choice 67 = .ok (.aload_n 0, 1) := by decide +kernel
set_option maxRecDepth 100000 in
theorem dX3_choice_68 : decode cX3_choice 68 = .ok (.ldc 111, 2) := by decide +kernel
set_option maxRecDepth 100000 in
theorem dX3_choice_70 : decode cX3_choice 70 = .ok (.invokevirtual 99, 3) := by decide +kernel
set_option maxRecDepth 100000 in
theorem dX3_choice_73 : decode cX3_choice 73 = .ok (.pop, 1) := by decide +kernel
set_option maxRecDepth 100000 in
theorem dX3_choice_74 : decode cX3_choice 74 = .ok (.aload_n 2, 1) := by decide +kernel
set_option maxRecDepth 100000 in
theorem dX3_choice_75 : decode cX3_choice 75 = .ok (.areturn, 1) := by decide +kernel
def lX3_choice_13 (G : xG) (fr lo : Nat) (x0 : Nat) (x1 : Nat) (h : xH) (Q : Outcome → xH → Prop) : Prop := xP G YX3_choice fr lo 13 [(0, rv x0), (1, rv x1)] [] h Q
set_option maxRecDepth 100000 in
def bX3_choice_13 (G : xG) (fr lo : Nat) (x0 : Nat) (x1 : Nat) (h : xH) (Q : Outcome → xH → Prop) : Prop := tg h x0 = 4 ∧ 1 ≤ fr ∧ 15 ≤ lo ∧ xRr G YX3_constant (fr - 1) (lo - 15) [rv x0] h (fun x5 h4 => xext h h4 → tg h4 x1 = 16 ∧ 1 ≤ fr ∧ 13 ≤ lo ∧ xRr G YX15_add (fr - 1) (lo - 13) [rv x1, rv x5] h4 (fun x11 h10 => xext h4 h10 → 1 ≤ fr ∧ 13 ≤ lo ∧ xRi G YX3_has (fr - 1) (lo - 13) [rv x0, rv (tx G 63)] h10 (fun x18 h17 => xext h10 h17 → ((¬ x18 = 0 → lX3_choice_13 G fr lo x0 x1 h17 Q) ∧ (x18 = 0 → nx h17 + 1 ≤ xGN G ∧ us h17 + 6 ≤ xGU G ∧ (∀ (a23 : Nat) (h24 : xH), a23 = nx h17 + 1 → h24 = nO h17 16 6 → xfresh h17 a23 → 1 ≤ fr ∧ 16 ≤ lo ∧ xRr G YX3_need (fr - 1) (lo - 16) [rv x0, rv (tx G 65)] h24 (fun x34 h33 => xext h24 h33 → 1 ≤ fr ∧ 15 ≤ lo ∧ xRv G YX15_init (fr - 1) (lo - 15) [rv a23, .int 16, rv x34] h33 (fun h39 => xext h33 h39 → 1 ≤ fr ∧ 13 ≤ lo ∧ xRr G YX3_need (fr - 1) (lo - 13) [rv x0, rv (tx G 60)] h39 (fun x47 h46 => xext h39 h46 → 1 ≤ fr ∧ 13 ≤ lo ∧ xRr G YX15_add (fr - 1) (lo - 13) [rv a23, rv x1] h46 (fun x54 h53 => xext h46 h53 → 1 ≤ fr ∧ 15 ≤ lo ∧ xRr G YX3_fields (fr - 1) (lo - 15) [rv x0] h53 (fun x61 h60 => xext h53 h60 → tg h60 x54 = 16 ∧ 1 ≤ fr ∧ 13 ≤ lo ∧ xRr G YX15_add (fr - 1) (lo - 13) [rv x54, rv x61] h60 (fun x67 h66 => xext h60 h66 → 1 ≤ fr ∧ 13 ≤ lo ∧ xRr G YX3_need (fr - 1) (lo - 13) [rv x0, rv (tx G 61)] h66 (fun x74 h73 => xext h66 h73 → Q (.returned (some (rv a23))) h73) (fun r h2 => Q (.threw r) h2)) (fun r h2 => Q (.threw r) h2)) (fun r h2 => Q (.threw r) h2)) (fun r h2 => Q (.threw r) h2)) (fun r h2 => Q (.threw r) h2)) (fun r h2 => Q (.threw r) h2)) (fun r h2 => Q (.threw r) h2))))) (fun r h2 => Q (.threw r) h2)) (fun r h2 => Q (.threw r) h2)) (fun r h2 => Q (.threw r) h2)
set_option maxRecDepth 100000 in
theorem uX3_choice_13 {G : xG} {fr lo : Nat} {x0 : Nat} {x1 : Nat} {h : xH} {Q : Outcome → xH → Prop} (hq : bX3_choice_13 G fr lo x0 x1 h Q) : xP G YX3_choice fr lo 13 [(0, rv x0), (1, rv x1)] [] h Q := by
  unfold bX3_choice_13 at hq
  refine x_aload_n 1 dX3_choice_13 rfl ?_
  refine x_aload_n 0 dX3_choice_14 rfl ?_
  obtain ⟨g1, hq⟩ := hq
  obtain ⟨g2, g3, hq⟩ := hq
  refine x_callV (Yc := YX3_constant) (as := []) (st := [rv x1]) q1818 mvX3_constant g1 rfl dX3_choice_15 (xle (xal1 (rv_cat _) xal0) (by decide)) (xfr g2) (xlo (xsw1 (rv_cat _) xsw0) (by decide) g3) (xKr hq (fun x5 h4 hq e6 => ?_) (fun _ _ q _ => q))
  replace hq := hq e6
  obtain ⟨g7, hq⟩ := hq
  obtain ⟨g8, g9, hq⟩ := hq
  refine x_callV (Yc := YX15_add) (as := [rv x5]) (st := []) q1795 mvX15_add g7 rfl dX3_choice_18 (xle (xal1 (rv_cat _) (xal1 (rv_cat _) xal0)) (by decide)) (xfr g8) (xlo xsw0 (by decide) g9) (xKr hq (fun x11 h10 hq e12 => ?_) (fun _ _ q _ => q))
  replace hq := hq e12
  refine x_pop dX3_choice_21 (rv_cat _) ?_
  refine x_aload_n 0 dX3_choice_22 rfl ?_
  refine x_ldcS (n := 63) 69 srX3_88 dX3_choice_23 ?_
  have t13 : tg h4 x0 = 4 := e6.tg g1 (by decide)
  have t14 : tg h10 x0 = 4 := e12.tg t13 (by decide)
  obtain ⟨g15, g16, hq⟩ := hq
  refine x_callV (Yc := YX3_has) (as := [rv (tx G 63)]) (st := []) q1783 mvX3_has t14 rfl dX3_choice_25 (xle (xal1 (rv_cat _) (xal1 (rv_cat _) xal0)) (by decide)) (xfr g15) (xlo xsw0 (by decide) g16) (xKi hq (fun x18 h17 hq e19 => ?_) (fun _ _ q _ => q))
  replace hq := hq e19
  refine x_if_ne (tgt := 13) dX3_choice_28 (by decide) (fun c20 => ?_) (fun c20 => ?_)
  · replace hq := hq.1 c20
    exact hq
  · replace hq := hq.2 c20
    obtain ⟨g21, g22, hq⟩ := hq
    obtain ⟨a23, e25⟩ : ∃ y, y = nx h17 + 1 := ⟨_, rfl⟩
    obtain ⟨h24, e26⟩ : ∃ y, y = nO h17 16 6 := ⟨_, rfl⟩
    refine x_new' cdX3_71 dX3_choice_31 g21 g22 e25 e26 (fun f27 => ?_)
    replace hq := hq a23 h24 e25 e26 f27
    have t28 : tg h24 a23 = 16 := by rw [e26, e25]; exact tg_nO
    refine x_dup dX3_choice_34 (rv_cat _) ?_
    refine x_bipush (v := 16) dX3_choice_35 (by decide) ?_
    refine x_aload_n 0 dX3_choice_37 rfl ?_
    refine x_ldcS (n := 65) 87 srX3_170 dX3_choice_38 ?_
    have t29 : tg h17 x0 = 4 := e19.tg t14 (by decide)
    have t30 : tg h24 x0 = 4 := by rw [e26]; exact tg_nO_ne e25 f27 t29 (by decide)
    obtain ⟨g31, g32, hq⟩ := hq
    refine x_callV (Yc := YX3_need) (as := [rv (tx G 65)]) (st := [.int 16, rv a23, rv a23]) q1719 mvX3_need t30 rfl dX3_choice_40 (xle (xal1 (rv_cat _) (xal1 (rv_cat _) xal0)) (by decide)) (xfr g31) (xlo (xsw1 rfl (xsw1 (rv_cat _) (xsw1 (rv_cat _) xsw0))) (by decide) g32) (xKr hq (fun x34 h33 hq e35 => ?_) (fun _ _ q _ => q))
    replace hq := hq e35
    have t36 : tg h33 a23 = 16 := e35.tg t28 (by decide)
    obtain ⟨g37, g38, hq⟩ := hq
    refine x_callI (Yc := YX15_init) (as := [.int 16, rv x34]) (st := [rv a23]) q1749 miX15_init (by rw [t36]; decide) rfl dX3_choice_43 (xle (xal1 (rv_cat _) (xal1 rfl (xal1 (rv_cat _) xal0))) (by decide)) (xfr g37) (xlo (xsw1 (rv_cat _) xsw0) (by decide) g38) (xKv hq (fun h39 hq e41 => ?_) (fun _ _ q _ => q))
    replace hq := hq e41
    refine x_astore_n (lv' := [(2, rv a23), (0, rv x0), (1, rv x1)]) dX3_choice_46 (by decide) (by first | rfl | (simp [rv_cat, Value.category]; done) | (simp [rv_cat, Value.category]; decide)) ?_
    refine x_aload_n 1 dX3_choice_47 rfl ?_
    refine x_ldcS (n := 60) 68 srX3_105 dX3_choice_48 ?_
    have t42 : tg h33 x0 = 4 := e35.tg t30 (by decide)
    have t43 : tg h39 x0 = 4 := e41.tg t42 (by decide)
    obtain ⟨g44, g45, hq⟩ := hq
    refine x_callV (Yc := YX3_need) (as := [rv (tx G 60)]) (st := []) q1719 mvX3_need t43 rfl dX3_choice_50 (xle (xal1 (rv_cat _) (xal1 (rv_cat _) xal0)) (by decide)) (xfr g44) (xlo xsw0 (by decide) g45) (xKr hq (fun x47 h46 hq e48 => ?_) (fun _ _ q _ => q))
    replace hq := hq e48
    refine x_pop dX3_choice_53 (rv_cat _) ?_
    refine x_aload_n 0 dX3_choice_54 rfl ?_
    refine x_aload_n 2 dX3_choice_55 rfl ?_
    have t49 : tg h39 a23 = 16 := e41.tg t36 (by decide)
    have t50 : tg h46 a23 = 16 := e48.tg t49 (by decide)
    obtain ⟨g51, g52, hq⟩ := hq
    refine x_callV (Yc := YX15_add) (as := [rv x1]) (st := []) q1795 mvX15_add t50 rfl dX3_choice_56 (xle (xal1 (rv_cat _) (xal1 (rv_cat _) xal0)) (by decide)) (xfr g51) (xlo xsw0 (by decide) g52) (xKr hq (fun x54 h53 hq e55 => ?_) (fun _ _ q _ => q))
    replace hq := hq e55
    refine x_aload_n 1 dX3_choice_59 rfl ?_
    have t56 : tg h46 x0 = 4 := e48.tg t43 (by decide)
    have t57 : tg h53 x0 = 4 := e55.tg t56 (by decide)
    obtain ⟨g58, g59, hq⟩ := hq
    refine x_callV (Yc := YX3_fields) (as := []) (st := [rv x54]) q1859 mvX3_fields t57 rfl dX3_choice_60 (xle (xal1 (rv_cat _) xal0) (by decide)) (xfr g58) (xlo (xsw1 (rv_cat _) xsw0) (by decide) g59) (xKr hq (fun x61 h60 hq e62 => ?_) (fun _ _ q _ => q))
    replace hq := hq e62
    obtain ⟨g63, hq⟩ := hq
    obtain ⟨g64, g65, hq⟩ := hq
    refine x_callV (Yc := YX15_add) (as := [rv x61]) (st := []) q1795 mvX15_add g63 rfl dX3_choice_63 (xle (xal1 (rv_cat _) (xal1 (rv_cat _) xal0)) (by decide)) (xfr g64) (xlo xsw0 (by decide) g65) (xKr hq (fun x67 h66 hq e68 => ?_) (fun _ _ q _ => q))
    replace hq := hq e68
    refine x_pop dX3_choice_66 (rv_cat _) ?_
    refine x_aload_n 1 dX3_choice_67 rfl ?_
    refine x_ldcS (n := 61) 70 srX3_111 dX3_choice_68 ?_
    have t69 : tg h60 x0 = 4 := e62.tg t57 (by decide)
    have t70 : tg h66 x0 = 4 := e68.tg t69 (by decide)
    obtain ⟨g71, g72, hq⟩ := hq
    refine x_callV (Yc := YX3_need) (as := [rv (tx G 61)]) (st := []) q1719 mvX3_need t70 rfl dX3_choice_70 (xle (xal1 (rv_cat _) (xal1 (rv_cat _) xal0)) (by decide)) (xfr g71) (xlo xsw0 (by decide) g72) (xKr hq (fun x74 h73 hq e75 => ?_) (fun _ _ q _ => q))
    replace hq := hq e75
    refine x_pop dX3_choice_73 (rv_cat _) ?_
    refine x_aload_n 0 dX3_choice_74 rfl ?_
    exact x_aret rfl xty_O dX3_choice_75 hq
set_option maxRecDepth 100000 in
def bX3_choice (G : xG) (fr lo : Nat) (x0 : Nat) (h : xH) (Q : Outcome → xH → Prop) : Prop := nx h + 1 ≤ xGN G ∧ us h + 6 ≤ xGU G ∧ (∀ (a3 : Nat) (h4 : xH), a3 = nx h + 1 → h4 = nO h 16 6 → xfresh h a3 → tg h4 x0 = 4 ∧ 1 ≤ fr ∧ 15 ≤ lo ∧ xRv G YX15_init (fr - 1) (lo - 15) [rv a3, .int 0, rv (fR h4 x0 770)] h4 (fun h12 => xext h4 h12 → lX3_choice_13 G fr lo x0 a3 h12 Q) (fun r h2 => Q (.threw r) h2))
set_option maxRecDepth 100000 in
theorem uX3_choice {G : xG} {fr lo : Nat} {x0 : Nat} {h : xH} {Q : Outcome → xH → Prop} (hq : bX3_choice G fr lo x0 h Q) : xP G YX3_choice fr lo 0 [(0, rv x0)] [] h Q := by
  unfold bX3_choice at hq
  obtain ⟨g1, g2, hq⟩ := hq
  obtain ⟨a3, e5⟩ : ∃ y, y = nx h + 1 := ⟨_, rfl⟩
  obtain ⟨h4, e6⟩ : ∃ y, y = nO h 16 6 := ⟨_, rfl⟩
  refine x_new' cdX3_71 dX3_choice_0 g1 g2 e5 e6 (fun f7 => ?_)
  replace hq := hq a3 h4 e5 e6 f7
  have t8 : tg h4 a3 = 16 := by rw [e6, e5]; exact tg_nO
  refine x_dup dX3_choice_3 (rv_cat _) ?_
  refine x_iconst (v := 0) dX3_choice_4 (by decide) ?_
  refine x_aload_n 0 dX3_choice_5 rfl ?_
  obtain ⟨g9, hq⟩ := hq
  refine x_get (v := rv (fR h4 x0 770)) fdX3_25 dX3_choice_6 g9 rfl ?_
  obtain ⟨g10, g11, hq⟩ := hq
  refine x_callI (Yc := YX15_init) (as := [.int 0, rv (fR h4 x0 770)]) (st := [rv a3]) q1749 miX15_init (by rw [t8]; decide) rfl dX3_choice_9 (xle (xal1 (rv_cat _) (xal1 rfl (xal1 (rv_cat _) xal0))) (by decide)) (xfr g10) (xlo (xsw1 (rv_cat _) xsw0) (by decide) g11) (xKv hq (fun h12 hq e14 => ?_) (fun _ _ q _ => q))
  replace hq := hq e14
  refine x_astore_n (lv' := [(1, rv a3), (0, rv x0)]) dX3_choice_12 (by decide) (by first | rfl | (simp [rv_cat, Value.category]; done) | (simp [rv_cat, Value.category]; decide)) ?_
  refine xP.pick (lv' := [(0, rv x0), (1, rv a3)]) [1, 0] rfl ?_
  exact hq
theorem rX3_choice {G : xG} {fr lo : Nat} {x0 : Nat} {h : xH} {Q : Outcome → xH → Prop} (hq : bX3_choice G fr lo x0 h Q) : xR G YX3_choice fr lo [rv x0] h Q := by
  show xP _ _ _ _ _ (lv_args 0 _) _ _ _
  rw [show lv_args 0 [rv x0] = [(0, rv x0)] from (xla1 (rv_cat _) xla0)]
  exact uX3_choice hq
set_option maxRecDepth 100000 in
theorem dX3_section_0 : decode cX3_section 0 = .ok (.new 71, 3) := by decide +kernel
set_option maxRecDepth 100000 in
theorem dX3_section_3 : decode cX3_section 3 = .ok (.dup, 1) := by decide +kernel
set_option maxRecDepth 100000 in
theorem dX3_section_4 : decode cX3_section 4 = .ok (.iconst 0, 1) := by decide +kernel
set_option maxRecDepth 100000 in
theorem dX3_section_5 : decode cX3_section 5 = .ok (.aload_n 0, 1) := by decide +kernel
set_option maxRecDepth 100000 in
theorem dX3_section_6 : decode cX3_section 6 = .ok (.getfield 25, 3) := by decide +kernel
set_option maxRecDepth 100000 in
theorem dX3_section_9 : decode cX3_section 9 = .ok (.invokespecial 77, 3) := by decide +kernel
set_option maxRecDepth 100000 in
theorem dX3_section_12 : decode cX3_section 12 = .ok (.astore_n 1, 1) := by decide +kernel
set_option maxRecDepth 100000 in
theorem dX3_section_13 : decode cX3_section 13 = .ok (.aload_n 0, 1) := by decide +kernel
set_option maxRecDepth 100000 in
theorem dX3_section_14 : decode cX3_section 14 = .ok (.aload_n 1, 1) := by decide +kernel
set_option maxRecDepth 100000 in
theorem dX3_section_15 : decode cX3_section 15 = .ok (.invokevirtual 107, 3) := by decide +kernel
set_option maxRecDepth 100000 in
theorem dX3_section_18 : decode cX3_section 18 = .ok (.new 71, 3) := by decide +kernel
set_option maxRecDepth 100000 in
theorem dX3_section_21 : decode cX3_section 21 = .ok (.dup, 1) := by decide +kernel
set_option maxRecDepth 100000 in
theorem dX3_section_22 : decode cX3_section 22 = .ok (.bipush 13, 2) := by decide +kernel
set_option maxRecDepth 100000 in
theorem dX3_section_24 : decode cX3_section 24 = .ok (.aload_n 0, 1) := by decide +kernel
set_option maxRecDepth 100000 in
theorem dX3_section_25 : decode cX3_section 25 = .ok (.ldc 170, 2) := by decide +kernel
set_option maxRecDepth 100000 in
theorem dX3_section_27 : decode cX3_section 27 = .ok (.invokevirtual 99, 3) := by decide +kernel
set_option maxRecDepth 100000 in
theorem dX3_section_30 : decode cX3_section 30 = .ok (.invokespecial 77, 3) := by decide +kernel
set_option maxRecDepth 100000 in
theorem dX3_section_33 : decode cX3_section 33 = .ok (.astore_n 2, 1) := by decide +kernel
set_option maxRecDepth 100000 in
theorem dX3_section_34 : decode cX3_section 34 = .ok (.aload_n 2, 1) := by decide +kernel
set_option maxRecDepth 100000 in
theorem dX3_section_35 : decode cX3_section 35 = .ok (.aload_n 1, 1) := by decide +kernel
set_option maxRecDepth 100000 in
theorem dX3_section_36 : decode cX3_section 36 = .ok (.invokevirtual 84, 3) := by decide +kernel
set_option maxRecDepth 100000 in
theorem dX3_section_39 : decode cX3_section 39 = .ok (.aload_n 0, 1) := by decide +kernel
set_option maxRecDepth 100000 in
theorem dX3_section_40 : decode cX3_section 40 = .ok (.invokevirtual 163, 3) := by decide +kernel
set_option maxRecDepth 100000 in
theorem dX3_section_43 : decode cX3_section 43 = .ok (.invokevirtual 84, 3) := by decide +kernel
set_option maxRecDepth 100000 in
theorem dX3_section_46 : decode cX3_section 46 = .ok (.areturn, 1) := by decide +kernel
set_option maxRecDepth 100000 in
def bX3_section (G : xG) (fr lo : Nat) (x0 : Nat) (h : xH) (Q : Outcome → xH → Prop) : Prop := nx h + 1 ≤ xGN G ∧ us h + 6 ≤ xGU G ∧ (∀ (a3 : Nat) (h4 : xH), a3 = nx h + 1 → h4 = nO h 16 6 → xfresh h a3 → tg h4 x0 = 4 ∧ 1 ≤ fr ∧ 15 ≤ lo ∧ xRv G YX15_init (fr - 1) (lo - 15) [rv a3, .int 0, rv (fR h4 x0 770)] h4 (fun h12 => xext h4 h12 → 1 ≤ fr ∧ 13 ≤ lo ∧ xRv G YX3_names (fr - 1) (lo - 13) [rv x0, rv a3] h12 (fun h18 => xext h12 h18 → nx h18 + 1 ≤ xGN G ∧ us h18 + 6 ≤ xGU G ∧ (∀ (a23 : Nat) (h24 : xH), a23 = nx h18 + 1 → h24 = nO h18 16 6 → xfresh h18 a23 → 1 ≤ fr ∧ 16 ≤ lo ∧ xRr G YX3_need (fr - 1) (lo - 16) [rv x0, rv (tx G 65)] h24 (fun x34 h33 => xext h24 h33 → 1 ≤ fr ∧ 15 ≤ lo ∧ xRv G YX15_init (fr - 1) (lo - 15) [rv a23, .int 13, rv x34] h33 (fun h39 => xext h33 h39 → 1 ≤ fr ∧ 13 ≤ lo ∧ xRr G YX15_add (fr - 1) (lo - 13) [rv a23, rv a3] h39 (fun x46 h45 => xext h39 h45 → 1 ≤ fr ∧ 14 ≤ lo ∧ xRr G YX3_type (fr - 1) (lo - 14) [rv x0] h45 (fun x54 h53 => xext h45 h53 → tg h53 x46 = 16 ∧ 1 ≤ fr ∧ 13 ≤ lo ∧ xRr G YX15_add (fr - 1) (lo - 13) [rv x46, rv x54] h53 (fun x60 h59 => xext h53 h59 → Q (.returned (some (rv x60))) h59) (fun r h2 => Q (.threw r) h2)) (fun r h2 => Q (.threw r) h2)) (fun r h2 => Q (.threw r) h2)) (fun r h2 => Q (.threw r) h2)) (fun r h2 => Q (.threw r) h2))) (fun r h2 => Q (.threw r) h2)) (fun r h2 => Q (.threw r) h2))
set_option maxRecDepth 100000 in
theorem uX3_section {G : xG} {fr lo : Nat} {x0 : Nat} {h : xH} {Q : Outcome → xH → Prop} (hq : bX3_section G fr lo x0 h Q) : xP G YX3_section fr lo 0 [(0, rv x0)] [] h Q := by
  unfold bX3_section at hq
  obtain ⟨g1, g2, hq⟩ := hq
  obtain ⟨a3, e5⟩ : ∃ y, y = nx h + 1 := ⟨_, rfl⟩
  obtain ⟨h4, e6⟩ : ∃ y, y = nO h 16 6 := ⟨_, rfl⟩
  refine x_new' cdX3_71 dX3_section_0 g1 g2 e5 e6 (fun f7 => ?_)
  replace hq := hq a3 h4 e5 e6 f7
  have t8 : tg h4 a3 = 16 := by rw [e6, e5]; exact tg_nO
  refine x_dup dX3_section_3 (rv_cat _) ?_
  refine x_iconst (v := 0) dX3_section_4 (by decide) ?_
  refine x_aload_n 0 dX3_section_5 rfl ?_
  obtain ⟨g9, hq⟩ := hq
  refine x_get (v := rv (fR h4 x0 770)) fdX3_25 dX3_section_6 g9 rfl ?_
  obtain ⟨g10, g11, hq⟩ := hq
  refine x_callI (Yc := YX15_init) (as := [.int 0, rv (fR h4 x0 770)]) (st := [rv a3]) q1749 miX15_init (by rw [t8]; decide) rfl dX3_section_9 (xle (xal1 (rv_cat _) (xal1 rfl (xal1 (rv_cat _) xal0))) (by decide)) (xfr g10) (xlo (xsw1 (rv_cat _) xsw0) (by decide) g11) (xKv hq (fun h12 hq e14 => ?_) (fun _ _ q _ => q))
  replace hq := hq e14
  refine x_astore_n (lv' := [(1, rv a3), (0, rv x0)]) dX3_section_12 (by decide) (by first | rfl | (simp [rv_cat, Value.category]; done) | (simp [rv_cat, Value.category]; decide)) ?_
  refine x_aload_n 1 dX3_section_13 rfl ?_
  refine x_aload_n 0 dX3_section_14 rfl ?_
  have t15 : tg h12 x0 = 4 := e14.tg g9 (by decide)
  obtain ⟨g16, g17, hq⟩ := hq
  refine x_callV (Yc := YX3_names) (as := [rv a3]) (st := []) q1787 mvX3_names t15 rfl dX3_section_15 (xle (xal1 (rv_cat _) (xal1 (rv_cat _) xal0)) (by decide)) (xfr g16) (xlo xsw0 (by decide) g17) (xKv hq (fun h18 hq e20 => ?_) (fun _ _ q _ => q))
  replace hq := hq e20
  obtain ⟨g21, g22, hq⟩ := hq
  obtain ⟨a23, e25⟩ : ∃ y, y = nx h18 + 1 := ⟨_, rfl⟩
  obtain ⟨h24, e26⟩ : ∃ y, y = nO h18 16 6 := ⟨_, rfl⟩
  refine x_new' cdX3_71 dX3_section_18 g21 g22 e25 e26 (fun f27 => ?_)
  replace hq := hq a23 h24 e25 e26 f27
  have t28 : tg h24 a23 = 16 := by rw [e26, e25]; exact tg_nO
  refine x_dup dX3_section_21 (rv_cat _) ?_
  refine x_bipush (v := 13) dX3_section_22 (by decide) ?_
  refine x_aload_n 1 dX3_section_24 rfl ?_
  refine x_ldcS (n := 65) 87 srX3_170 dX3_section_25 ?_
  have t29 : tg h18 x0 = 4 := e20.tg t15 (by decide)
  have t30 : tg h24 x0 = 4 := by rw [e26]; exact tg_nO_ne e25 f27 t29 (by decide)
  obtain ⟨g31, g32, hq⟩ := hq
  refine x_callV (Yc := YX3_need) (as := [rv (tx G 65)]) (st := [.int 13, rv a23, rv a23]) q1719 mvX3_need t30 rfl dX3_section_27 (xle (xal1 (rv_cat _) (xal1 (rv_cat _) xal0)) (by decide)) (xfr g31) (xlo (xsw1 rfl (xsw1 (rv_cat _) (xsw1 (rv_cat _) xsw0))) (by decide) g32) (xKr hq (fun x34 h33 hq e35 => ?_) (fun _ _ q _ => q))
  replace hq := hq e35
  have t36 : tg h33 a23 = 16 := e35.tg t28 (by decide)
  obtain ⟨g37, g38, hq⟩ := hq
  refine x_callI (Yc := YX15_init) (as := [.int 13, rv x34]) (st := [rv a23]) q1749 miX15_init (by rw [t36]; decide) rfl dX3_section_30 (xle (xal1 (rv_cat _) (xal1 rfl (xal1 (rv_cat _) xal0))) (by decide)) (xfr g37) (xlo (xsw1 (rv_cat _) xsw0) (by decide) g38) (xKv hq (fun h39 hq e41 => ?_) (fun _ _ q _ => q))
  replace hq := hq e41
  refine x_astore_n (lv' := [(2, rv a23), (1, rv a3), (0, rv x0)]) dX3_section_33 (by decide) (by first | rfl | (simp [rv_cat, Value.category]; done) | (simp [rv_cat, Value.category]; decide)) ?_
  refine x_aload_n 0 dX3_section_34 rfl ?_
  refine x_aload_n 1 dX3_section_35 rfl ?_
  have t42 : tg h39 a23 = 16 := e41.tg t36 (by decide)
  obtain ⟨g43, g44, hq⟩ := hq
  refine x_callV (Yc := YX15_add) (as := [rv a3]) (st := []) q1795 mvX15_add t42 rfl dX3_section_36 (xle (xal1 (rv_cat _) (xal1 (rv_cat _) xal0)) (by decide)) (xfr g43) (xlo xsw0 (by decide) g44) (xKr hq (fun x46 h45 hq e47 => ?_) (fun _ _ q _ => q))
  replace hq := hq e47
  refine x_aload_n 2 dX3_section_39 rfl ?_
  have t48 : tg h33 x0 = 4 := e35.tg t30 (by decide)
  have t49 : tg h39 x0 = 4 := e41.tg t48 (by decide)
  have t50 : tg h45 x0 = 4 := e47.tg t49 (by decide)
  obtain ⟨g51, g52, hq⟩ := hq
  refine x_callV (Yc := YX3_type) (as := []) (st := [rv x46]) q1835 mvX3_type t50 rfl dX3_section_40 (xle (xal1 (rv_cat _) xal0) (by decide)) (xfr g51) (xlo (xsw1 (rv_cat _) xsw0) (by decide) g52) (xKr hq (fun x54 h53 hq e55 => ?_) (fun _ _ q _ => q))
  replace hq := hq e55
  obtain ⟨g56, hq⟩ := hq
  obtain ⟨g57, g58, hq⟩ := hq
  refine x_callV (Yc := YX15_add) (as := [rv x54]) (st := []) q1795 mvX15_add g56 rfl dX3_section_43 (xle (xal1 (rv_cat _) (xal1 (rv_cat _) xal0)) (by decide)) (xfr g57) (xlo xsw0 (by decide) g58) (xKr hq (fun x60 h59 hq e61 => ?_) (fun _ _ q _ => q))
  replace hq := hq e61
  exact x_aret rfl xty_O dX3_section_46 hq
theorem rX3_section {G : xG} {fr lo : Nat} {x0 : Nat} {h : xH} {Q : Outcome → xH → Prop} (hq : bX3_section G fr lo x0 h Q) : xR G YX3_section fr lo [rv x0] h Q := by
  show xP _ _ _ _ _ (lv_args 0 _) _ _ _
  rw [show lv_args 0 [rv x0] = [(0, rv x0)] from (xla1 (rv_cat _) xla0)]
  exact uX3_section hq
set_option maxRecDepth 100000 in
theorem dX3_variables_0 : decode cX3_variables 0 = .ok (.new 71, 3) := by decide +kernel
set_option maxRecDepth 100000 in
theorem dX3_variables_3 : decode cX3_variables 3 = .ok (.dup, 1) := by decide +kernel
set_option maxRecDepth 100000 in
theorem dX3_variables_4 : decode cX3_variables 4 = .ok (.iconst 0, 1) := by decide +kernel
set_option maxRecDepth 100000 in
theorem dX3_variables_5 : decode cX3_variables 5 = .ok (.aload_n 0, 1) := by decide +kernel
set_option maxRecDepth 100000 in
theorem dX3_variables_6 : decode cX3_variables 6 = .ok (.getfield 25, 3) := by decide +kernel
set_option maxRecDepth 100000 in
theorem dX3_variables_9 : decode cX3_variables 9 = .ok (.invokespecial 77, 3) := by decide +kernel
set_option maxRecDepth 100000 in
theorem dX3_variables_12 : decode cX3_variables 12 = .ok (.astore_n 1, 1) := by decide +kernel
set_option maxRecDepth 100000 in
theorem dX3_variables_13 : decode cX3_variables 13 = .ok (.aload_n 0, 1) := by decide +kernel
set_option maxRecDepth 100000 in
theorem dX3_variables_14 : decode cX3_variables 14 = .ok (.ldc 165, 2) := by decide +kernel
set_option maxRecDepth 100000 in
theorem dX3_variables_16 : decode cX3_variables 16 = .ok (.invokevirtual 90, 3) := by decide +kernel
set_option maxRecDepth 100000 in
theorem dX3_variables_19 : decode cX3_variables 19 = .ok (.ifCond .ne 5, 3) := by decide +kernel
set_option maxRecDepth 100000 in
theorem dX3_variables_22 : decode cX3_variables 22 = .ok (.aload_n 1, 1) := by decide +kernel
set_option maxRecDepth 100000 in
theorem dX3_variables_23 : decode cX3_variables 23 = .ok (.areturn, 1) := by decide +kernel
set_option maxRecDepth 100000 in
theorem dX3_variables_24 : decode cX3_variables 24 = .ok (.aload_n 1, 1) := by decide +kernel
set_option maxRecDepth 100000 in
theorem dX3_variables_25 : decode cX3_variables 25 = .ok (.aload_n 0, 1) := by decide +kernel
set_option maxRecDepth 100000 in
theorem dX3_variables_26 : decode cX3_variables 26 = .ok (.invokevirtual 167, 3) := by decide +kernel
set_option maxRecDepth 100000 in
theorem dX3_variables_29 : decode cX3_variables 29 = .ok (.invokevirtual 84, 3) := by decide +kernel
set_option maxRecDepth 100000 in
theorem dX3_variables_32 : decode cX3_variables 32 = .ok (.pop, 1) := by decide +kernel
set_option maxRecDepth 100000 in
theorem dX3_variables_33 : decode cX3_variables 33 = .ok (.aload_n 0, 1) := by decide +kernel
set_option maxRecDepth 100000 in
theorem dX3_variables_34 : decode cX3_variables 34 = .ok (.ldc 113, 2) := by decide +kernel
set_option maxRecDepth 100000 in
theorem dX3_variables_36 : decode cX3_variables 36 = .ok (.invokevirtual 99, 3) := by decide +kernel
set_option maxRecDepth 100000 in
theorem dX3_variables_39 : decode cX3_variables 39 = .ok (.pop, 1) := by decide +kernel
set_option maxRecDepth 100000 in
theorem dX3_variables_40 : decode cX3_variables 40 = .ok (.aload_n 0, 1) := by decide +kernel
set_option maxRecDepth 100000 in
theorem dX3_variables_41 : decode cX3_variables 41 = .ok (.invokevirtual 157, 3) := by decide +kernel
set_option maxRecDepth 100000 in
theorem dX3_variables_44 : decode cX3_variables 44 = .ok (.ifCond .ne (-20), 3) := by decide +kernel
set_option maxRecDepth 100000 in
theorem dX3_variables_47 : decode cX3_variables 47 = .ok (.aload_n 1, 1) := by decide +kernel
set_option maxRecDepth 100000 in
theorem dX3_variables_48 : decode cX3_variables 48 = .ok (.areturn, 1) := by decide +kernel
def lX3_variables_24 (G : xG) (fr lo : Nat) (x0 : Nat) (x1 : Nat) (h : xH) (Q : Outcome → xH → Prop) : Prop := xP G YX3_variables fr lo 24 [(0, rv x0), (1, rv x1)] [] h Q
set_option maxRecDepth 100000 in
def bX3_variables_24 (G : xG) (fr lo : Nat) (x0 : Nat) (x1 : Nat) (h : xH) (Q : Outcome → xH → Prop) : Prop := tg h x0 = 4 ∧ 1 ≤ fr ∧ 15 ≤ lo ∧ xRr G YX3_section (fr - 1) (lo - 15) [rv x0] h (fun x5 h4 => xext h h4 → tg h4 x1 = 16 ∧ 1 ≤ fr ∧ 13 ≤ lo ∧ xRr G YX15_add (fr - 1) (lo - 13) [rv x1, rv x5] h4 (fun x11 h10 => xext h4 h10 → 1 ≤ fr ∧ 13 ≤ lo ∧ xRr G YX3_need (fr - 1) (lo - 13) [rv x0, rv (tx G 64)] h10 (fun x18 h17 => xext h10 h17 → 1 ≤ fr ∧ 12 ≤ lo ∧ xRi G YX3_isName (fr - 1) (lo - 12) [rv x0] h17 (fun x24 h23 => xext h17 h23 → ((¬ x24 = 0 → lX3_variables_24 G fr lo x0 x1 h23 Q) ∧ (x24 = 0 → Q (.returned (some (rv x1))) h23))) (fun r h2 => Q (.threw r) h2)) (fun r h2 => Q (.threw r) h2)) (fun r h2 => Q (.threw r) h2)) (fun r h2 => Q (.threw r) h2)
set_option maxRecDepth 100000 in
theorem uX3_variables_24 {G : xG} {fr lo : Nat} {x0 : Nat} {x1 : Nat} {h : xH} {Q : Outcome → xH → Prop} (hq : bX3_variables_24 G fr lo x0 x1 h Q) : xP G YX3_variables fr lo 24 [(0, rv x0), (1, rv x1)] [] h Q := by
  unfold bX3_variables_24 at hq
  refine x_aload_n 1 dX3_variables_24 rfl ?_
  refine x_aload_n 0 dX3_variables_25 rfl ?_
  obtain ⟨g1, hq⟩ := hq
  obtain ⟨g2, g3, hq⟩ := hq
  refine x_callV (Yc := YX3_section) (as := []) (st := [rv x1]) q1874 mvX3_section g1 rfl dX3_variables_26 (xle (xal1 (rv_cat _) xal0) (by decide)) (xfr g2) (xlo (xsw1 (rv_cat _) xsw0) (by decide) g3) (xKr hq (fun x5 h4 hq e6 => ?_) (fun _ _ q _ => q))
  replace hq := hq e6
  obtain ⟨g7, hq⟩ := hq
  obtain ⟨g8, g9, hq⟩ := hq
  refine x_callV (Yc := YX15_add) (as := [rv x5]) (st := []) q1795 mvX15_add g7 rfl dX3_variables_29 (xle (xal1 (rv_cat _) (xal1 (rv_cat _) xal0)) (by decide)) (xfr g8) (xlo xsw0 (by decide) g9) (xKr hq (fun x11 h10 hq e12 => ?_) (fun _ _ q _ => q))
  replace hq := hq e12
  refine x_pop dX3_variables_32 (rv_cat _) ?_
  refine x_aload_n 0 dX3_variables_33 rfl ?_
  refine x_ldcS (n := 64) 71 srX3_113 dX3_variables_34 ?_
  have t13 : tg h4 x0 = 4 := e6.tg g1 (by decide)
  have t14 : tg h10 x0 = 4 := e12.tg t13 (by decide)
  obtain ⟨g15, g16, hq⟩ := hq
  refine x_callV (Yc := YX3_need) (as := [rv (tx G 64)]) (st := []) q1719 mvX3_need t14 rfl dX3_variables_36 (xle (xal1 (rv_cat _) (xal1 (rv_cat _) xal0)) (by decide)) (xfr g15) (xlo xsw0 (by decide) g16) (xKr hq (fun x18 h17 hq e19 => ?_) (fun _ _ q _ => q))
  replace hq := hq e19
  refine x_pop dX3_variables_39 (rv_cat _) ?_
  refine x_aload_n 0 dX3_variables_40 rfl ?_
  have t20 : tg h17 x0 = 4 := e19.tg t14 (by decide)
  obtain ⟨g21, g22, hq⟩ := hq
  refine x_callV (Yc := YX3_isName) (as := []) (st := []) q1826 mvX3_isName t20 rfl dX3_variables_41 (xle (xal1 (rv_cat _) xal0) (by decide)) (xfr g21) (xlo xsw0 (by decide) g22) (xKi hq (fun x24 h23 hq e25 => ?_) (fun _ _ q _ => q))
  replace hq := hq e25
  refine x_if_ne (tgt := 24) dX3_variables_44 (by decide) (fun c26 => ?_) (fun c26 => ?_)
  · replace hq := hq.1 c26
    exact hq
  · replace hq := hq.2 c26
    refine x_aload_n 1 dX3_variables_47 rfl ?_
    exact x_aret rfl xty_O dX3_variables_48 hq
set_option maxRecDepth 100000 in
def bX3_variables (G : xG) (fr lo : Nat) (x0 : Nat) (h : xH) (Q : Outcome → xH → Prop) : Prop := nx h + 1 ≤ xGN G ∧ us h + 6 ≤ xGU G ∧ (∀ (a3 : Nat) (h4 : xH), a3 = nx h + 1 → h4 = nO h 16 6 → xfresh h a3 → tg h4 x0 = 4 ∧ 1 ≤ fr ∧ 15 ≤ lo ∧ xRv G YX15_init (fr - 1) (lo - 15) [rv a3, .int 0, rv (fR h4 x0 770)] h4 (fun h12 => xext h4 h12 → 1 ≤ fr ∧ 13 ≤ lo ∧ xRi G YX3_has (fr - 1) (lo - 13) [rv x0, rv (tx G 32)] h12 (fun x19 h18 => xext h12 h18 → ((¬ x19 = 0 → lX3_variables_24 G fr lo x0 a3 h18 Q) ∧ (x19 = 0 → Q (.returned (some (rv a3))) h18))) (fun r h2 => Q (.threw r) h2)) (fun r h2 => Q (.threw r) h2))
set_option maxRecDepth 100000 in
theorem uX3_variables {G : xG} {fr lo : Nat} {x0 : Nat} {h : xH} {Q : Outcome → xH → Prop} (hq : bX3_variables G fr lo x0 h Q) : xP G YX3_variables fr lo 0 [(0, rv x0)] [] h Q := by
  unfold bX3_variables at hq
  obtain ⟨g1, g2, hq⟩ := hq
  obtain ⟨a3, e5⟩ : ∃ y, y = nx h + 1 := ⟨_, rfl⟩
  obtain ⟨h4, e6⟩ : ∃ y, y = nO h 16 6 := ⟨_, rfl⟩
  refine x_new' cdX3_71 dX3_variables_0 g1 g2 e5 e6 (fun f7 => ?_)
  replace hq := hq a3 h4 e5 e6 f7
  have t8 : tg h4 a3 = 16 := by rw [e6, e5]; exact tg_nO
  refine x_dup dX3_variables_3 (rv_cat _) ?_
  refine x_iconst (v := 0) dX3_variables_4 (by decide) ?_
  refine x_aload_n 0 dX3_variables_5 rfl ?_
  obtain ⟨g9, hq⟩ := hq
  refine x_get (v := rv (fR h4 x0 770)) fdX3_25 dX3_variables_6 g9 rfl ?_
  obtain ⟨g10, g11, hq⟩ := hq
  refine x_callI (Yc := YX15_init) (as := [.int 0, rv (fR h4 x0 770)]) (st := [rv a3]) q1749 miX15_init (by rw [t8]; decide) rfl dX3_variables_9 (xle (xal1 (rv_cat _) (xal1 rfl (xal1 (rv_cat _) xal0))) (by decide)) (xfr g10) (xlo (xsw1 (rv_cat _) xsw0) (by decide) g11) (xKv hq (fun h12 hq e14 => ?_) (fun _ _ q _ => q))
  replace hq := hq e14
  refine x_astore_n (lv' := [(1, rv a3), (0, rv x0)]) dX3_variables_12 (by decide) (by first | rfl | (simp [rv_cat, Value.category]; done) | (simp [rv_cat, Value.category]; decide)) ?_
  refine x_aload_n 1 dX3_variables_13 rfl ?_
  refine x_ldcS (n := 32) 91 srX3_165 dX3_variables_14 ?_
  have t15 : tg h12 x0 = 4 := e14.tg g9 (by decide)
  obtain ⟨g16, g17, hq⟩ := hq
  refine x_callV (Yc := YX3_has) (as := [rv (tx G 32)]) (st := []) q1783 mvX3_has t15 rfl dX3_variables_16 (xle (xal1 (rv_cat _) (xal1 (rv_cat _) xal0)) (by decide)) (xfr g16) (xlo xsw0 (by decide) g17) (xKi hq (fun x19 h18 hq e20 => ?_) (fun _ _ q _ => q))
  replace hq := hq e20
  refine x_if_ne (tgt := 24) dX3_variables_19 (by decide) (fun c21 => ?_) (fun c21 => ?_)
  · replace hq := hq.1 c21
    refine xP.pick (lv' := [(0, rv x0), (1, rv a3)]) [1, 0] rfl ?_
    exact hq
  · replace hq := hq.2 c21
    refine x_aload_n 0 dX3_variables_22 rfl ?_
    exact x_aret rfl xty_O dX3_variables_23 hq
theorem rX3_variables {G : xG} {fr lo : Nat} {x0 : Nat} {h : xH} {Q : Outcome → xH → Prop} (hq : bX3_variables G fr lo x0 h Q) : xR G YX3_variables fr lo [rv x0] h Q := by
  show xP _ _ _ _ _ (lv_args 0 _) _ _ _
  rw [show lv_args 0 [rv x0] = [(0, rv x0)] from (xla1 (rv_cat _) xla0)]
  exact uX3_variables hq
set_option maxRecDepth 100000 in
theorem dX3_routine_0 : decode cX3_routine 0 = .ok (.aload_n 0, 1) := by decide +kernel
set_option maxRecDepth 100000 in
theorem dX3_routine_1 : decode cX3_routine 1 = .ok (.ldc 142, 2) := by decide +kernel
set_option maxRecDepth 100000 in
theorem dX3_routine_3 : decode cX3_routine 3 = .ok (.invokevirtual 60, 3) := by decide +kernel
set_option maxRecDepth 100000 in
theorem dX3_routine_6 : decode cX3_routine 6 = .ok (.istore_n 1, 1) := by decide +kernel
set_option maxRecDepth 100000 in
theorem dX3_routine_7 : decode cX3_routine 7 = .ok (.aload_n 0, 1) := by decide +kernel
set_option maxRecDepth 100000 in
theorem dX3_routine_8 : decode cX3_routine 8 = .ok (.invokevirtual 57, 3) := by decide +kernel
set_option maxRecDepth 100000 in
theorem dX3_routine_11 : decode cX3_routine 11 = .ok (.new 71, 3) := by decide +kernel
set_option maxRecDepth 100000 in
theorem dX3_routine_14 : decode cX3_routine 14 = .ok (.dup, 1) := by decide +kernel
set_option maxRecDepth 100000 in
theorem dX3_routine_15 : decode cX3_routine 15 = .ok (.iload_n 1, 1) := by decide +kernel
set_option maxRecDepth 100000 in
theorem dX3_routine_16 : decode cX3_routine 16 = .ok (.ifCond .eq 8, 3) := by decide +kernel
set_option maxRecDepth 100000 in
theorem dX3_routine_19 : decode cX3_routine 19 = .ok (.bipush 21, 2) := by decide +kernel
set_option maxRecDepth 100000 in
theorem dX3_routine_21 : decode cX3_routine 21 = .ok (.goto 5, 3) := by decide +kernel
set_option maxRecDepth 100000 in
theorem dX3_routine_24 : decode cX3_routine 24 = .ok (.bipush 20, 2) := by decide +kernel
set_option maxRecDepth 100000 in
theorem dX3_routine_26 : decode cX3_routine 26 = .ok (.aload_n 0, 1) := by decide +kernel
set_option maxRecDepth 100000 in
theorem dX3_routine_27 : decode cX3_routine 27 = .ok (.getstatic 43, 3) := by decide +kernel
set_option maxRecDepth 100000 in
theorem dX3_routine_30 : decode cX3_routine 30 = .ok (.invokevirtual 73, 3) := by decide +kernel
set_option maxRecDepth 100000 in
theorem dX3_routine_33 : decode cX3_routine 33 = .ok (.invokespecial 77, 3) := by decide +kernel
set_option maxRecDepth 100000 in
theorem dX3_routine_36 : decode cX3_routine 36 = .ok (.astore_n 2, 1) := by decide +kernel
set_option maxRecDepth 100000 in
theorem dX3_routine_37 : decode cX3_routine 37 = .ok (.aload_n 2, 1) := by decide +kernel
set_option maxRecDepth 100000 in
theorem dX3_routine_38 : decode cX3_routine 38 = .ok (.aload_n 0, 1) := by decide +kernel
set_option maxRecDepth 100000 in
theorem dX3_routine_39 : decode cX3_routine 39 = .ok (.ldc 105, 2) := by decide +kernel
set_option maxRecDepth 100000 in
theorem dX3_routine_41 : decode cX3_routine 41 = .ok (.invokevirtual 60, 3) := by decide +kernel
set_option maxRecDepth 100000 in
theorem dX3_routine_44 : decode cX3_routine 44 = .ok (.ifCond .eq 10, 3) := by decide +kernel
set_option maxRecDepth 100000 in
theorem dX3_routine_47 : decode cX3_routine 47 = .ok (.aload_n 0, 1) := by decide +kernel
set_option maxRecDepth 100000 in
theorem dX3_routine_48 : decode cX3_routine 48 = .ok (.invokevirtual 172, 3) := by decide +kernel
set_option maxRecDepth 100000 in
theorem dX3_routine_51 : decode cX3_routine 51 = .ok (.goto 15, 3) := by decide +kernel
set_option maxRecDepth 100000 in
theorem dX3_routine_54 : decode cX3_routine 54 = .ok (.new 71, 3) := by decide +kernel
set_option maxRecDepth 100000 in
theorem dX3_routine_57 : decode cX3_routine 57 = .ok (.dup, 1) := by decide +kernel
set_option maxRecDepth 100000 in
theorem dX3_routine_58 : decode cX3_routine 58 = .ok (.iconst 0, 1) := by decide +kernel
set_option maxRecDepth 100000 in
theorem dX3_routine_59 : decode cX3_routine 59 = .ok (.aload_n 0, 1) := by decide +kernel
set_option maxRecDepth 100000 in
theorem dX3_routine_60 : decode cX3_routine 60 = .ok (.getfield 25, 3) := by decide +kernel
set_option maxRecDepth 100000 in
theorem dX3_routine_63 : decode cX3_routine 63 = .ok (.invokespecial 77, 3) := by decide +kernel
set_option maxRecDepth 100000 in
theorem dX3_routine_66 : decode cX3_routine 66 = .ok (.invokevirtual 84, 3) := by decide +kernel
set_option maxRecDepth 100000 in
theorem dX3_routine_69 : decode cX3_routine 69 = .ok (.pop, 1) := by decide +kernel
set_option maxRecDepth 100000 in
theorem dX3_routine_70 : decode cX3_routine 70 = .ok (.iload_n 1, 1) := by decide +kernel
set_option maxRecDepth 100000 in
theorem dX3_routine_71 : decode cX3_routine 71 = .ok (.ifCond .eq 21, 3) := by decide +kernel
set_option maxRecDepth 100000 in
theorem dX3_routine_74 : decode cX3_routine 74 = .ok (.aload_n 0, 1) := by decide +kernel
set_option maxRecDepth 100000 in
theorem dX3_routine_75 : decode cX3_routine 75 = .ok (.ldc 170, 2) := by decide +kernel
set_option maxRecDepth 100000 in
theorem dX3_routine_77 : decode cX3_routine 77 = .ok (.invokevirtual 90, 3) := by decide +kernel
set_option maxRecDepth 100000 in
theorem dX3_routine_80 : decode cX3_routine 80 = .ok (.ifCond .eq 12, 3) := by decide +kernel
set_option maxRecDepth 100000 in
theorem dX3_routine_83 : decode cX3_routine 83 = .ok (.aload_n 2, 1) := by decide +kernel
set_option maxRecDepth 100000 in
theorem dX3_routine_84 : decode cX3_routine 84 = .ok (.aload_n 0, 1) := by decide +kernel
set_option maxRecDepth 100000 in
theorem dX3_routine_85 : decode cX3_routine 85 = .ok (.invokevirtual 175, 3) := by decide +kernel
set_option maxRecDepth 100000 in
theorem dX3_routine_88 : decode cX3_routine 88 = .ok (.invokevirtual 84, 3) := by decide +kernel
set_option maxRecDepth 100000 in
theorem dX3_routine_91 : decode cX3_routine 91 = .ok (.pop, 1) := by decide +kernel
set_option maxRecDepth 100000 in
theorem dX3_routine_92 : decode cX3_routine 92 = .ok (.aload_n 0, 1) := by decide +kernel
set_option maxRecDepth 100000 in
theorem dX3_routine_93 : decode cX3_routine 93 = .ok (.ldc 113, 2) := by decide +kernel
set_option maxRecDepth 100000 in
theorem dX3_routine_95 : decode cX3_routine 95 = .ok (.invokevirtual 99, 3) := by decide +kernel
set_option maxRecDepth 100000 in
theorem dX3_routine_98 : decode cX3_routine 98 = .ok (.pop, 1) := by decide +kernel
set_option maxRecDepth 100000 in
theorem dX3_routine_99 : decode cX3_routine 99 = .ok (.aload_n 0, 1) := by decide +kernel
set_option maxRecDepth 100000 in
theorem dX3_routine_100 : decode cX3_routine 100 = .ok (.invokevirtual 157, 3) := by decide +kernel
set_option maxRecDepth 100000 in
theorem dX3_routine_103 : decode cX3_routine 103 = .ok (.ifCond .eq 39, 3) := by decide +kernel
set_option maxRecDepth 100000 in
theorem dX3_routine_106 : decode cX3_routine 106 = .ok (.aload_n 0, 1) := by decide +kernel
set_option maxRecDepth 100000 in
theorem dX3_routine_107 : decode cX3_routine 107 = .ok (.getfield 25, 3) := by decide +kernel
set_option maxRecDepth 100000 in
theorem dX3_routine_110 : decode cX3_routine 110 = .ok (.getfield 178, 3) := by decide +kernel
set_option maxRecDepth 100000 in
theorem dX3_routine_113 : decode cX3_routine 113 = .ok (.ldc 182, 2) := by decide +kernel
set_option maxRecDepth 100000 in
theorem dX3_routine_115 : decode cX3_routine 115 = .ok (.invokevirtual 184, 3) := by decide +kernel
set_option maxRecDepth 100000 in
theorem dX3_routine_118 : decode cX3_routine 118 = .ok (.ifCond .eq 24, 3) := by decide +kernel
set_option maxRecDepth 100000 in
theorem dX3_routine_121 : decode cX3_routine 121 = .ok (.aload_n 2, 1) := by decide +kernel
set_option maxRecDepth 100000 in
theorem dX3_routine_122 : decode cX3_routine 122 = .ok (.new 71, 3) := by decide +kernel
set_option maxRecDepth 100000 in
theorem dX3_routine_125 : decode cX3_routine 125 = .ok (.dup, 1) := by decide +kernel
set_option maxRecDepth 100000 in
theorem dX3_routine_126 : decode cX3_routine 126 = .ok (.bipush 22, 2) := by decide +kernel
set_option maxRecDepth 100000 in
theorem dX3_routine_128 : decode cX3_routine 128 = .ok (.aload_n 0, 1) := by decide +kernel
set_option maxRecDepth 100000 in
theorem dX3_routine_129 : decode cX3_routine 129 = .ok (.invokevirtual 65, 3) := by decide +kernel
set_option maxRecDepth 100000 in
theorem dX3_routine_132 : decode cX3_routine 132 = .ok (.invokespecial 77, 3) := by decide +kernel
set_option maxRecDepth 100000 in
theorem dX3_routine_135 : decode cX3_routine 135 = .ok (.invokevirtual 84, 3) := by decide +kernel
set_option maxRecDepth 100000 in
theorem dX3_routine_138 : decode cX3_routine 138 = .ok (.pop, 1) := by decide +kernel
set_option maxRecDepth 100000 in
theorem dX3_routine_139 : decode cX3_routine 139 = .ok (.goto 12, 3) := by decide +kernel
set_option maxRecDepth 100000 in
theorem dX3_routine_142 : decode cX3_routine 142 = .ok (.aload_n 2, 1) := by decide +kernel
set_option maxRecDepth 100000 in
theorem dX3_routine_143 : decode cX3_routine 143 = .ok (.aload_n 0, 1) := by decide +kernel
set_option maxRecDepth 100000 in
theorem dX3_routine_144 : decode cX3_routine 144 = .ok (.invokevirtual 115, 3) := by decide +kernel
set_option maxRecDepth 100000 in
theorem dX3_routine_147 : decode cX3_routine 147 = .ok (.invokevirtual 84, 3) := by decide +kernel
set_option maxRecDepth 100000 in
theorem dX3_routine_150 : decode cX3_routine 150 = .ok (.pop, 1) := by decide +kernel
set_option maxRecDepth 100000 in
theorem dX3_routine_151 : decode cX3_routine 151 = .ok (.aload_n 2, 1) := by decide +kernel
set_option maxRecDepth 100000 in
theorem dX3_routine_152 : decode cX3_routine 152 = .ok (.areturn, 1) := by decide +kernel
set_option maxRecDepth 100000 in
def bX3_routine_151 (G : xG) (fr lo : Nat) (x2 : Nat) (h : xH) (Q : Outcome → xH → Prop) : Prop := Q (.returned (some (rv x2))) h
set_option maxRecDepth 100000 in
theorem uX3_routine_151 {G : xG} {fr lo : Nat} {x2 : Nat} {h : xH} {Q : Outcome → xH → Prop} (hq : bX3_routine_151 G fr lo x2 h Q) : xP G YX3_routine fr lo 151 [(2, rv x2)] [] h Q := by
  unfold bX3_routine_151 at hq
  refine x_aload_n 0 dX3_routine_151 rfl ?_
  exact x_aret rfl xty_O dX3_routine_152 hq
set_option maxRecDepth 100000 in
def bX3_routine_142 (G : xG) (fr lo : Nat) (x0 : Nat) (x2 : Nat) (h : xH) (Q : Outcome → xH → Prop) : Prop := tg h x0 = 4 ∧ 1 ≤ fr ∧ 16 ≤ lo ∧ xRr G YX3_block (fr - 1) (lo - 16) [rv x0] h (fun x5 h4 => xext h h4 → tg h4 x2 = 16 ∧ 1 ≤ fr ∧ 13 ≤ lo ∧ xRr G YX15_add (fr - 1) (lo - 13) [rv x2, rv x5] h4 (fun x11 h10 => xext h4 h10 → bX3_routine_151 G fr lo x2 h10 Q) (fun r h2 => Q (.threw r) h2)) (fun r h2 => Q (.threw r) h2)
set_option maxRecDepth 100000 in
theorem uX3_routine_142 {G : xG} {fr lo : Nat} {x0 : Nat} {x2 : Nat} {h : xH} {Q : Outcome → xH → Prop} (hq : bX3_routine_142 G fr lo x0 x2 h Q) : xP G YX3_routine fr lo 142 [(0, rv x0), (2, rv x2)] [] h Q := by
  unfold bX3_routine_142 at hq
  refine x_aload_n 1 dX3_routine_142 rfl ?_
  refine x_aload_n 0 dX3_routine_143 rfl ?_
  obtain ⟨g1, hq⟩ := hq
  obtain ⟨g2, g3, hq⟩ := hq
  refine x_callV (Yc := YX3_block) (as := []) (st := [rv x2]) q1802 mvX3_block g1 rfl dX3_routine_144 (xle (xal1 (rv_cat _) xal0) (by decide)) (xfr g2) (xlo (xsw1 (rv_cat _) xsw0) (by decide) g3) (xKr hq (fun x5 h4 hq e6 => ?_) (fun _ _ q _ => q))
  replace hq := hq e6
  obtain ⟨g7, hq⟩ := hq
  obtain ⟨g8, g9, hq⟩ := hq
  refine x_callV (Yc := YX15_add) (as := [rv x5]) (st := []) q1795 mvX15_add g7 rfl dX3_routine_147 (xle (xal1 (rv_cat _) (xal1 (rv_cat _) xal0)) (by decide)) (xfr g8) (xlo xsw0 (by decide) g9) (xKr hq (fun x11 h10 hq e12 => ?_) (fun _ _ q _ => q))
  replace hq := hq e12
  refine x_pop dX3_routine_150 (rv_cat _) ?_
  refine xP.pick (lv' := [(2, rv x2)]) [1] rfl ?_
  exact uX3_routine_151 hq
set_option maxRecDepth 100000 in
def bX3_routine_92 (G : xG) (fr lo : Nat) (x0 : Nat) (x2 : Nat) (h : xH) (Q : Outcome → xH → Prop) : Prop := tg h x0 = 4 ∧ 1 ≤ fr ∧ 13 ≤ lo ∧ xRr G YX3_need (fr - 1) (lo - 13) [rv x0, rv (tx G 64)] h (fun x5 h4 => xext h h4 → 1 ≤ fr ∧ 12 ≤ lo ∧ xRi G YX3_isName (fr - 1) (lo - 12) [rv x0] h4 (fun x11 h10 => xext h4 h10 → ((x11 = 0 → bX3_routine_142 G fr lo x0 x2 h10 Q) ∧ (¬ x11 = 0 → tg h10 (fR h10 x0 770) = 15 ∧ tg h10 (fR h10 (fR h10 x0 770) 3585) = 31 ∧ 1 ≤ fr ∧ 14 ≤ lo ∧ xRi G YJ5_equals (fr - 1) (lo - 14) [rv (fR h10 (fR h10 x0 770) 3585), rv (tx G 67)] h10 (fun x20 h19 => xext h10 h19 → ((x20 = 0 → bX3_routine_142 G fr lo x0 x2 h19 Q) ∧ (¬ x20 = 0 → nx h19 + 1 ≤ xGN G ∧ us h19 + 6 ≤ xGU G ∧ (∀ (a25 : Nat) (h26 : xH), a25 = nx h19 + 1 → h26 = nO h19 16 6 → xfresh h19 a25 → 1 ≤ fr ∧ 17 ≤ lo ∧ xRr G YX3_take (fr - 1) (lo - 17) [rv x0] h26 (fun x36 h35 => xext h26 h35 → 1 ≤ fr ∧ 16 ≤ lo ∧ xRv G YX15_init (fr - 1) (lo - 16) [rv a25, .int 22, rv x36] h35 (fun h41 => xext h35 h41 → tg h41 x2 = 16 ∧ 1 ≤ fr ∧ 13 ≤ lo ∧ xRr G YX15_add (fr - 1) (lo - 13) [rv x2, rv a25] h41 (fun x48 h47 => xext h41 h47 → bX3_routine_151 G fr lo x2 h47 Q) (fun r h2 => Q (.threw r) h2)) (fun r h2 => Q (.threw r) h2)) (fun r h2 => Q (.threw r) h2))))) (fun r h2 => Q (.threw r) h2)))) (fun r h2 => Q (.threw r) h2)) (fun r h2 => Q (.threw r) h2)
set_option maxRecDepth 100000 in
theorem uX3_routine_92 {G : xG} {fr lo : Nat} {x0 : Nat} {x2 : Nat} {h : xH} {Q : Outcome → xH → Prop} (hq : bX3_routine_92 G fr lo x0 x2 h Q) : xP G YX3_routine fr lo 92 [(0, rv x0), (2, rv x2)] [] h Q := by
  unfold bX3_routine_92 at hq
  refine x_aload_n 0 dX3_routine_92 rfl ?_
  refine x_ldcS (n := 64) 71 srX3_113 dX3_routine_93 ?_
  obtain ⟨g1, hq⟩ := hq
  obtain ⟨g2, g3, hq⟩ := hq
  refine x_callV (Yc := YX3_need) (as := [rv (tx G 64)]) (st := []) q1719 mvX3_need g1 rfl dX3_routine_95 (xle (xal1 (rv_cat _) (xal1 (rv_cat _) xal0)) (by decide)) (xfr g2) (xlo xsw0 (by decide) g3) (xKr hq (fun x5 h4 hq e6 => ?_) (fun _ _ q _ => q))
  replace hq := hq e6
  refine x_pop dX3_routine_98 (rv_cat _) ?_
  refine x_aload_n 0 dX3_routine_99 rfl ?_
  have t7 : tg h4 x0 = 4 := e6.tg g1 (by decide)
  obtain ⟨g8, g9, hq⟩ := hq
  refine x_callV (Yc := YX3_isName) (as := []) (st := []) q1826 mvX3_isName t7 rfl dX3_routine_100 (xle (xal1 (rv_cat _) xal0) (by decide)) (xfr g8) (xlo xsw0 (by decide) g9) (xKi hq (fun x11 h10 hq e12 => ?_) (fun _ _ q _ => q))
  replace hq := hq e12
  refine x_if_eq (tgt := 142) dX3_routine_103 (by decide) (fun c13 => ?_) (fun c13 => ?_)
  · replace hq := hq.1 c13
    exact uX3_routine_142 hq
  · replace hq := hq.2 c13
    refine x_aload_n 0 dX3_routine_106 rfl ?_
    have t14 : tg h10 x0 = 4 := e12.tg t7 (by decide)
    refine x_get (v := rv (fR h10 x0 770)) fdX3_25 dX3_routine_107 t14 rfl ?_
    obtain ⟨g15, hq⟩ := hq
    refine x_getN (v := rv (fR h10 (fR h10 x0 770) 3585)) gfX3_178 dX3_routine_110 g15 rfl ?_
    refine x_ldcS (n := 67) 94 srX3_182 dX3_routine_113 ?_
    obtain ⟨g16, hq⟩ := hq
    obtain ⟨g17, g18, hq⟩ := hq
    refine x_callV (Yc := YJ5_equals) (as := [rv (tx G 67)]) (st := []) q1900 mvJ5_equals g16 rfl dX3_routine_115 (xle (xal1 (rv_cat _) (xal1 (rv_cat _) xal0)) (by decide)) (xfr g17) (xlo xsw0 (by decide) g18) (xKi hq (fun x20 h19 hq e21 => ?_) (fun _ _ q _ => q))
    replace hq := hq e21
    refine x_if_eq (tgt := 142) dX3_routine_118 (by decide) (fun c22 => ?_) (fun c22 => ?_)
    · replace hq := hq.1 c22
      exact uX3_routine_142 hq
    · replace hq := hq.2 c22
      refine x_aload_n 1 dX3_routine_121 rfl ?_
      obtain ⟨g23, g24, hq⟩ := hq
      obtain ⟨a25, e27⟩ : ∃ y, y = nx h19 + 1 := ⟨_, rfl⟩
      obtain ⟨h26, e28⟩ : ∃ y, y = nO h19 16 6 := ⟨_, rfl⟩
      refine x_new' cdX3_71 dX3_routine_122 g23 g24 e27 e28 (fun f29 => ?_)
      replace hq := hq a25 h26 e27 e28 f29
      have t30 : tg h26 a25 = 16 := by rw [e28, e27]; exact tg_nO
      refine x_dup dX3_routine_125 (rv_cat _) ?_
      refine x_bipush (v := 22) dX3_routine_126 (by decide) ?_
      refine x_aload_n 0 dX3_routine_128 rfl ?_
      have t31 : tg h19 x0 = 4 := e21.tg t14 (by decide)
      have t32 : tg h26 x0 = 4 := by rw [e28]; exact tg_nO_ne e27 f29 t31 (by decide)
      obtain ⟨g33, g34, hq⟩ := hq
      refine x_callV (Yc := YX3_take) (as := []) (st := [.int 22, rv a25, rv a25, rv x2]) q1738 mvX3_take t32 rfl dX3_routine_129 (xle (xal1 (rv_cat _) xal0) (by decide)) (xfr g33) (xlo (xsw1 rfl (xsw1 (rv_cat _) (xsw1 (rv_cat _) (xsw1 (rv_cat _) xsw0)))) (by decide) g34) (xKr hq (fun x36 h35 hq e37 => ?_) (fun _ _ q _ => q))
      replace hq := hq e37
      have t38 : tg h35 a25 = 16 := e37.tg t30 (by decide)
      obtain ⟨g39, g40, hq⟩ := hq
      refine x_callI (Yc := YX15_init) (as := [.int 22, rv x36]) (st := [rv a25, rv x2]) q1749 miX15_init (by rw [t38]; decide) rfl dX3_routine_132 (xle (xal1 (rv_cat _) (xal1 rfl (xal1 (rv_cat _) xal0))) (by decide)) (xfr g39) (xlo (xsw1 (rv_cat _) (xsw1 (rv_cat _) xsw0)) (by decide) g40) (xKv hq (fun h41 hq e43 => ?_) (fun _ _ q _ => q))
      replace hq := hq e43
      obtain ⟨g44, hq⟩ := hq
      obtain ⟨g45, g46, hq⟩ := hq
      refine x_callV (Yc := YX15_add) (as := [rv a25]) (st := []) q1795 mvX15_add g44 rfl dX3_routine_135 (xle (xal1 (rv_cat _) (xal1 (rv_cat _) xal0)) (by decide)) (xfr g45) (xlo xsw0 (by decide) g46) (xKr hq (fun x48 h47 hq e49 => ?_) (fun _ _ q _ => q))
      replace hq := hq e49
      refine x_pop dX3_routine_138 (rv_cat _) ?_
      refine x_goto (tgt := 151) dX3_routine_139 (by decide) ?_
      refine xP.pick (lv' := [(2, rv x2)]) [1] rfl ?_
      exact uX3_routine_151 hq
set_option maxRecDepth 100000 in
def bX3_routine_66 (G : xG) (fr lo : Nat) (x0 : Nat) (x1 : Int32) (x2 : Nat) (s0 : Nat) (s1 : Nat) (h : xH) (Q : Outcome → xH → Prop) : Prop := tg h s1 = 16 ∧ 1 ≤ fr ∧ 13 ≤ lo ∧ xRr G YX15_add (fr - 1) (lo - 13) [rv s1, rv s0] h (fun x5 h4 => xext h h4 → ((x1 = 0 → bX3_routine_92 G fr lo x0 x2 h4 Q) ∧ (¬ x1 = 0 → tg h4 x0 = 4 ∧ 1 ≤ fr ∧ 13 ≤ lo ∧ xRi G YX3_has (fr - 1) (lo - 13) [rv x0, rv (tx G 65)] h4 (fun x12 h11 => xext h4 h11 → ((x12 = 0 → bX3_routine_92 G fr lo x0 x2 h11 Q) ∧ (¬ x12 = 0 → 1 ≤ fr ∧ 13 ≤ lo ∧ xRr G YX3_named (fr - 1) (lo - 13) [rv x0] h11 (fun x19 h18 => xext h11 h18 → tg h18 x2 = 16 ∧ 1 ≤ fr ∧ 13 ≤ lo ∧ xRr G YX15_add (fr - 1) (lo - 13) [rv x2, rv x19] h18 (fun x25 h24 => xext h18 h24 → bX3_routine_92 G fr lo x0 x2 h24 Q) (fun r h2 => Q (.threw r) h2)) (fun r h2 => Q (.threw r) h2)))) (fun r h2 => Q (.threw r) h2)))) (fun r h2 => Q (.threw r) h2)
set_option maxRecDepth 100000 in
theorem uX3_routine_66 {G : xG} {fr lo : Nat} {x0 : Nat} {x1 : Int32} {x2 : Nat} {s0 : Nat} {s1 : Nat} {h : xH} {Q : Outcome → xH → Prop} (hq : bX3_routine_66 G fr lo x0 x1 x2 s0 s1 h Q) : xP G YX3_routine fr lo 66 [(0, rv x0), (1, .int x1), (2, rv x2)] [rv s0, rv s1] h Q := by
  unfold bX3_routine_66 at hq
  obtain ⟨g1, hq⟩ := hq
  obtain ⟨g2, g3, hq⟩ := hq
  refine x_callV (Yc := YX15_add) (as := [rv s0]) (st := []) q1795 mvX15_add g1 rfl dX3_routine_66 (xle (xal1 (rv_cat _) (xal1 (rv_cat _) xal0)) (by decide)) (xfr g2) (xlo xsw0 (by decide) g3) (xKr hq (fun x5 h4 hq e6 => ?_) (fun _ _ q _ => q))
  replace hq := hq e6
  refine x_pop dX3_routine_69 (rv_cat _) ?_
  refine x_iload_n 1 dX3_routine_70 rfl ?_
  refine x_if_eq (tgt := 92) dX3_routine_71 (by decide) (fun c7 => ?_) (fun c7 => ?_)
  · replace hq := hq.1 c7
    refine xP.pick (lv' := [(0, rv x0), (2, rv x2)]) [0, 2] rfl ?_
    exact uX3_routine_92 hq
  · replace hq := hq.2 c7
    refine x_aload_n 0 dX3_routine_74 rfl ?_
    refine x_ldcS (n := 65) 87 srX3_170 dX3_routine_75 ?_
    obtain ⟨g8, hq⟩ := hq
    obtain ⟨g9, g10, hq⟩ := hq
    refine x_callV (Yc := YX3_has) (as := [rv (tx G 65)]) (st := []) q1783 mvX3_has g8 rfl dX3_routine_77 (xle (xal1 (rv_cat _) (xal1 (rv_cat _) xal0)) (by decide)) (xfr g9) (xlo xsw0 (by decide) g10) (xKi hq (fun x12 h11 hq e13 => ?_) (fun _ _ q _ => q))
    replace hq := hq e13
    refine x_if_eq (tgt := 92) dX3_routine_80 (by decide) (fun c14 => ?_) (fun c14 => ?_)
    · replace hq := hq.1 c14
      refine xP.pick (lv' := [(0, rv x0), (2, rv x2)]) [0, 2] rfl ?_
      exact uX3_routine_92 hq
    · replace hq := hq.2 c14
      refine x_aload_n 2 dX3_routine_83 rfl ?_
      refine x_aload_n 0 dX3_routine_84 rfl ?_
      have t15 : tg h11 x0 = 4 := e13.tg g8 (by decide)
      obtain ⟨g16, g17, hq⟩ := hq
      refine x_callV (Yc := YX3_named) (as := []) (st := [rv x2]) q1840 mvX3_named t15 rfl dX3_routine_85 (xle (xal1 (rv_cat _) xal0) (by decide)) (xfr g16) (xlo (xsw1 (rv_cat _) xsw0) (by decide) g17) (xKr hq (fun x19 h18 hq e20 => ?_) (fun _ _ q _ => q))
      replace hq := hq e20
      obtain ⟨g21, hq⟩ := hq
      obtain ⟨g22, g23, hq⟩ := hq
      refine x_callV (Yc := YX15_add) (as := [rv x19]) (st := []) q1795 mvX15_add g21 rfl dX3_routine_88 (xle (xal1 (rv_cat _) (xal1 (rv_cat _) xal0)) (by decide)) (xfr g22) (xlo xsw0 (by decide) g23) (xKr hq (fun x25 h24 hq e26 => ?_) (fun _ _ q _ => q))
      replace hq := hq e26
      refine x_pop dX3_routine_91 (rv_cat _) ?_
      refine xP.pick (lv' := [(0, rv x0), (2, rv x2)]) [0, 2] rfl ?_
      exact uX3_routine_92 hq
set_option maxRecDepth 100000 in
def bX3_routine_26 (G : xG) (fr lo : Nat) (x0 : Nat) (x1 : Int32) (s0 : Int32) (s1 : Nat) (s2 : Nat) (h : xH) (Q : Outcome → xH → Prop) : Prop := tg h x0 = 4 ∧ 1 ≤ fr ∧ 16 ≤ lo ∧ xRr G YX3_needSort (fr - 1) (lo - 16) [rv x0, rv (xGS G 1)] h (fun x5 h4 => xext h h4 → tg h4 s1 = 16 ∧ 1 ≤ fr ∧ 15 ≤ lo ∧ xRv G YX15_init (fr - 1) (lo - 15) [rv s1, .int s0, rv x5] h4 (fun h10 => xext h4 h10 → 1 ≤ fr ∧ 14 ≤ lo ∧ xRi G YX3_is (fr - 1) (lo - 14) [rv x0, rv (tx G 60)] h10 (fun x18 h17 => xext h10 h17 → ((x18 = 0 → nx h17 + 1 ≤ xGN G ∧ us h17 + 6 ≤ xGU G ∧ (∀ (a23 : Nat) (h24 : xH), a23 = nx h17 + 1 → h24 = nO h17 16 6 → xfresh h17 a23 → 1 ≤ fr ∧ 16 ≤ lo ∧ xRv G YX15_init (fr - 1) (lo - 16) [rv a23, .int 0, rv (fR h24 x0 770)] h24 (fun h33 => xext h24 h33 → bX3_routine_66 G fr lo x0 x1 s2 a23 s2 h33 Q) (fun r h2 => Q (.threw r) h2))) ∧ (¬ x18 = 0 → 1 ≤ fr ∧ 14 ≤ lo ∧ xRr G YX3_params (fr - 1) (lo - 14) [rv x0] h17 (fun x40 h39 => xext h17 h39 → bX3_routine_66 G fr lo x0 x1 s2 x40 s2 h39 Q) (fun r h2 => Q (.threw r) h2)))) (fun r h2 => Q (.threw r) h2)) (fun r h2 => Q (.threw r) h2)) (fun r h2 => Q (.threw r) h2)
set_option maxRecDepth 100000 in
theorem uX3_routine_26 {G : xG} {fr lo : Nat} {x0 : Nat} {x1 : Int32} {s0 : Int32} {s1 : Nat} {s2 : Nat} {h : xH} {Q : Outcome → xH → Prop} (hq : bX3_routine_26 G fr lo x0 x1 s0 s1 s2 h Q) : xP G YX3_routine fr lo 26 [(0, rv x0), (1, .int x1)] [.int s0, rv s1, rv s2] h Q := by
  unfold bX3_routine_26 at hq
  refine x_aload_n 0 dX3_routine_26 rfl ?_
  refine x_gets (v := rv (xGS G 1)) 1 rfl q1744 (by simp [xsv]) dX3_routine_27 ?_
  obtain ⟨g1, hq⟩ := hq
  obtain ⟨g2, g3, hq⟩ := hq
  refine x_callV (Yc := YX3_needSort) (as := [rv (xGS G 1)]) (st := [.int s0, rv s1, rv s2]) q1745 mvX3_needSort g1 rfl dX3_routine_30 (xle (xal1 (rv_cat _) (xal1 (rv_cat _) xal0)) (by decide)) (xfr g2) (xlo (xsw1 rfl (xsw1 (rv_cat _) (xsw1 (rv_cat _) xsw0))) (by decide) g3) (xKr hq (fun x5 h4 hq e6 => ?_) (fun _ _ q _ => q))
  replace hq := hq e6
  obtain ⟨g7, hq⟩ := hq
  obtain ⟨g8, g9, hq⟩ := hq
  refine x_callI (Yc := YX15_init) (as := [.int s0, rv x5]) (st := [rv s2]) q1749 miX15_init (by rw [g7]; decide) rfl dX3_routine_33 (xle (xal1 (rv_cat _) (xal1 rfl (xal1 (rv_cat _) xal0))) (by decide)) (xfr g8) (xlo (xsw1 (rv_cat _) xsw0) (by decide) g9) (xKv hq (fun h10 hq e12 => ?_) (fun _ _ q _ => q))
  replace hq := hq e12
  refine x_astore_n (lv' := [(2, rv s2), (0, rv x0), (1, .int x1)]) dX3_routine_36 (by decide) rfl ?_
  refine x_aload_n 0 dX3_routine_37 rfl ?_
  refine x_aload_n 1 dX3_routine_38 rfl ?_
  refine x_ldcS (n := 60) 68 srX3_105 dX3_routine_39 ?_
  have t13 : tg h4 x0 = 4 := e6.tg g1 (by decide)
  have t14 : tg h10 x0 = 4 := e12.tg t13 (by decide)
  obtain ⟨g15, g16, hq⟩ := hq
  refine x_callV (Yc := YX3_is) (as := [rv (tx G 60)]) (st := [rv s2]) q1723 mvX3_is t14 rfl dX3_routine_41 (xle (xal1 (rv_cat _) (xal1 (rv_cat _) xal0)) (by decide)) (xfr g15) (xlo (xsw1 (rv_cat _) xsw0) (by decide) g16) (xKi hq (fun x18 h17 hq e19 => ?_) (fun _ _ q _ => q))
  replace hq := hq e19
  refine x_if_eq (tgt := 54) dX3_routine_44 (by decide) (fun c20 => ?_) (fun c20 => ?_)
  · replace hq := hq.1 c20
    obtain ⟨g21, g22, hq⟩ := hq
    obtain ⟨a23, e25⟩ : ∃ y, y = nx h17 + 1 := ⟨_, rfl⟩
    obtain ⟨h24, e26⟩ : ∃ y, y = nO h17 16 6 := ⟨_, rfl⟩
    refine x_new' cdX3_71 dX3_routine_54 g21 g22 e25 e26 (fun f27 => ?_)
    replace hq := hq a23 h24 e25 e26 f27
    have t28 : tg h24 a23 = 16 := by rw [e26, e25]; exact tg_nO
    refine x_dup dX3_routine_57 (rv_cat _) ?_
    refine x_iconst (v := 0) dX3_routine_58 (by decide) ?_
    refine x_aload_n 1 dX3_routine_59 rfl ?_
    have t29 : tg h17 x0 = 4 := e19.tg t14 (by decide)
    have t30 : tg h24 x0 = 4 := by rw [e26]; exact tg_nO_ne e25 f27 t29 (by decide)
    refine x_get (v := rv (fR h24 x0 770)) fdX3_25 dX3_routine_60 t30 rfl ?_
    obtain ⟨g31, g32, hq⟩ := hq
    refine x_callI (Yc := YX15_init) (as := [.int 0, rv (fR h24 x0 770)]) (st := [rv a23, rv s2]) q1749 miX15_init (by rw [t28]; decide) rfl dX3_routine_63 (xle (xal1 (rv_cat _) (xal1 rfl (xal1 (rv_cat _) xal0))) (by decide)) (xfr g31) (xlo (xsw1 (rv_cat _) (xsw1 (rv_cat _) xsw0)) (by decide) g32) (xKv hq (fun h33 hq e35 => ?_) (fun _ _ q _ => q))
    replace hq := hq e35
    refine xP.pick (lv' := [(0, rv x0), (1, .int x1), (2, rv s2)]) [1, 2, 0] rfl ?_
    exact uX3_routine_66 hq
  · replace hq := hq.2 c20
    refine x_aload_n 1 dX3_routine_47 rfl ?_
    have t36 : tg h17 x0 = 4 := e19.tg t14 (by decide)
    obtain ⟨g37, g38, hq⟩ := hq
    refine x_callV (Yc := YX3_params) (as := []) (st := [rv s2]) q1891 mvX3_params t36 rfl dX3_routine_48 (xle (xal1 (rv_cat _) xal0) (by decide)) (xfr g37) (xlo (xsw1 (rv_cat _) xsw0) (by decide) g38) (xKr hq (fun x40 h39 hq e41 => ?_) (fun _ _ q _ => q))
    replace hq := hq e41
    refine x_goto (tgt := 66) dX3_routine_51 (by decide) ?_
    refine xP.pick (lv' := [(0, rv x0), (1, .int x1), (2, rv s2)]) [1, 2, 0] rfl ?_
    exact uX3_routine_66 hq
set_option maxRecDepth 100000 in
def bX3_routine (G : xG) (fr lo : Nat) (x0 : Nat) (h : xH) (Q : Outcome → xH → Prop) : Prop := tg h x0 = 4 ∧ 1 ≤ fr ∧ 13 ≤ lo ∧ xRi G YX3_is (fr - 1) (lo - 13) [rv x0, rv (tx G 12)] h (fun x5 h4 => xext h h4 → 1 ≤ fr ∧ 12 ≤ lo ∧ xRv G YX3_step (fr - 1) (lo - 12) [rv x0] h4 (fun h10 => xext h4 h10 → nx h10 + 1 ≤ xGN G ∧ us h10 + 6 ≤ xGU G ∧ (∀ (a15 : Nat) (h16 : xH), a15 = nx h10 + 1 → h16 = nO h10 16 6 → xfresh h10 a15 → ((x5 = 0 → bX3_routine_26 G fr lo x0 x5 20 a15 a15 h16 Q) ∧ (¬ x5 = 0 → bX3_routine_26 G fr lo x0 x5 21 a15 a15 h16 Q)))) (fun r h2 => Q (.threw r) h2)) (fun r h2 => Q (.threw r) h2)
set_option maxRecDepth 100000 in
theorem uX3_routine {G : xG} {fr lo : Nat} {x0 : Nat} {h : xH} {Q : Outcome → xH → Prop} (hq : bX3_routine G fr lo x0 h Q) : xP G YX3_routine fr lo 0 [(0, rv x0)] [] h Q := by
  unfold bX3_routine at hq
  refine x_aload_n 0 dX3_routine_0 rfl ?_
  refine x_ldcS (n := 12) 93 srX3_142 dX3_routine_1 ?_
  obtain ⟨g1, hq⟩ := hq
  obtain ⟨g2, g3, hq⟩ := hq
  refine x_callV (Yc := YX3_is) (as := [rv (tx G 12)]) (st := []) q1723 mvX3_is g1 rfl dX3_routine_3 (xle (xal1 (rv_cat _) (xal1 (rv_cat _) xal0)) (by decide)) (xfr g2) (xlo xsw0 (by decide) g3) (xKi hq (fun x5 h4 hq e6 => ?_) (fun _ _ q _ => q))
  replace hq := hq e6
  refine x_istore_n (lv' := [(1, .int x5), (0, rv x0)]) dX3_routine_6 (by decide) (by first | rfl | (simp [rv_cat, Value.category]; done) | (simp [rv_cat, Value.category]; decide)) ?_
  refine x_aload_n 1 dX3_routine_7 rfl ?_
  have t7 : tg h4 x0 = 4 := e6.tg g1 (by decide)
  obtain ⟨g8, g9, hq⟩ := hq
  refine x_callV (Yc := YX3_step) (as := []) (st := []) q1568 mvX3_step t7 rfl dX3_routine_8 (xle (xal1 (rv_cat _) xal0) (by decide)) (xfr g8) (xlo xsw0 (by decide) g9) (xKv hq (fun h10 hq e12 => ?_) (fun _ _ q _ => q))
  replace hq := hq e12
  obtain ⟨g13, g14, hq⟩ := hq
  obtain ⟨a15, e17⟩ : ∃ y, y = nx h10 + 1 := ⟨_, rfl⟩
  obtain ⟨h16, e18⟩ : ∃ y, y = nO h10 16 6 := ⟨_, rfl⟩
  refine x_new' cdX3_71 dX3_routine_11 g13 g14 e17 e18 (fun f19 => ?_)
  replace hq := hq a15 h16 e17 e18 f19
  have t20 : tg h16 a15 = 16 := by rw [e18, e17]; exact tg_nO
  refine x_dup dX3_routine_14 (rv_cat _) ?_
  refine x_iload_n 0 dX3_routine_15 rfl ?_
  refine x_if_eq (tgt := 24) dX3_routine_16 (by decide) (fun c21 => ?_) (fun c21 => ?_)
  · replace hq := hq.1 c21
    refine x_bipush (v := 20) dX3_routine_24 (by decide) ?_
    refine xP.pick (lv' := [(0, rv x0), (1, .int x5)]) [1, 0] rfl ?_
    exact uX3_routine_26 hq
  · replace hq := hq.2 c21
    refine x_bipush (v := 21) dX3_routine_19 (by decide) ?_
    refine x_goto (tgt := 26) dX3_routine_21 (by decide) ?_
    refine xP.pick (lv' := [(0, rv x0), (1, .int x5)]) [1, 0] rfl ?_
    exact uX3_routine_26 hq
theorem rX3_routine {G : xG} {fr lo : Nat} {x0 : Nat} {h : xH} {Q : Outcome → xH → Prop} (hq : bX3_routine G fr lo x0 h Q) : xR G YX3_routine fr lo [rv x0] h Q := by
  show xP _ _ _ _ _ (lv_args 0 _) _ _ _
  rw [show lv_args 0 [rv x0] = [(0, rv x0)] from (xla1 (rv_cat _) xla0)]
  exact uX3_routine hq
set_option maxRecDepth 100000 in
theorem dX3_params_0 : decode cX3_params 0 = .ok (.aload_n 0, 1) := by decide +kernel
set_option maxRecDepth 100000 in
theorem dX3_params_1 : decode cX3_params 1 = .ok (.invokevirtual 123, 3) := by decide +kernel
set_option maxRecDepth 100000 in
theorem dX3_params_4 : decode cX3_params 4 = .ok (.new 71, 3) := by decide +kernel
set_option maxRecDepth 100000 in
theorem dX3_params_7 : decode cX3_params 7 = .ok (.dup, 1) := by decide +kernel
set_option maxRecDepth 100000 in
theorem dX3_params_8 : decode cX3_params 8 = .ok (.iconst 0, 1) := by decide +kernel
set_option maxRecDepth 100000 in
theorem dX3_params_9 : decode cX3_params 9 = .ok (.aload_n 0, 1) := by decide +kernel
set_option maxRecDepth 100000 in
theorem dX3_params_10 : decode cX3_params 10 = .ok (.ldc 105, 2) := by decide +kernel
set_option maxRecDepth 100000 in
theorem dX3_params_12 : decode cX3_params 12 = .ok (.invokevirtual 99, 3) := by decide +kernel
set_option maxRecDepth 100000 in
theorem dX3_params_15 : decode cX3_params 15 = .ok (.invokespecial 77, 3) := by decide +kernel
set_option maxRecDepth 100000 in
theorem dX3_params_18 : decode cX3_params 18 = .ok (.astore_n 1, 1) := by decide +kernel
set_option maxRecDepth 100000 in
theorem dX3_params_19 : decode cX3_params 19 = .ok (.aload_n 1, 1) := by decide +kernel
set_option maxRecDepth 100000 in
theorem dX3_params_20 : decode cX3_params 20 = .ok (.aload_n 0, 1) := by decide +kernel
set_option maxRecDepth 100000 in
theorem dX3_params_21 : decode cX3_params 21 = .ok (.invokevirtual 190, 3) := by decide +kernel
set_option maxRecDepth 100000 in
theorem dX3_params_24 : decode cX3_params 24 = .ok (.invokevirtual 84, 3) := by decide +kernel
set_option maxRecDepth 100000 in
theorem dX3_params_27 : decode cX3_params 27 = .ok (.pop, 1) := by decide +kernel
set_option maxRecDepth 100000 in
theorem dX3_params_28 : decode cX3_params 28 = .ok (.aload_n 0, 1) := by decide +kernel
set_option maxRecDepth 100000 in
theorem dX3_params_29 : decode cX3_params 29 = .ok (.ldc 113, 2) := by decide +kernel
set_option maxRecDepth 100000 in
theorem dX3_params_31 : decode cX3_params 31 = .ok (.invokevirtual 90, 3) := by decide +kernel
set_option maxRecDepth 100000 in
theorem dX3_params_34 : decode cX3_params 34 = .ok (.ifCond .ne (-15), 3) := by decide +kernel
set_option maxRecDepth 100000 in
theorem dX3_params_37 : decode cX3_params 37 = .ok (.aload_n 0, 1) := by decide +kernel
set_option maxRecDepth 100000 in
theorem dX3_params_38 : decode cX3_params 38 = .ok (.ldc 111, 2) := by decide +kernel
set_option maxRecDepth 100000 in
theorem dX3_params_40 : decode cX3_params 40 = .ok (.invokevirtual 99, 3) := by decide +kernel
set_option maxRecDepth 100000 in
theorem dX3_params_43 : decode cX3_params 43 = .ok (.pop, 1) := by decide +kernel
set_option maxRecDepth 100000 in
theorem dX3_params_44 : decode cX3_params 44 = .ok (.aload_n 0, 1) := by decide +kernel
set_option maxRecDepth 100000 in
theorem dX3_params_45 : decode cX3_params 45 = .ok (.dup, 1) := by decide +kernel
set_option maxRecDepth 100000 in
theorem dX3_params_46 : decode cX3_params 46 = .ok (.getfield 68, 3) := by decide +kernel
set_option maxRecDepth 100000 in
theorem dX3_params_49 : decode cX3_params 49 = .ok (.iconst 1, 1) := by decide +kernel
set_option maxRecDepth 100000 in
theorem dX3_params_50 : decode cX3_params 50 = .ok (.isub, 1) := by decide +kernel
set_option maxRecDepth 100000 in
theorem dX3_params_51 : decode cX3_params 51 = .ok (.putfield 68, 3) := by decide +kernel
set_option maxRecDepth 100000 in
theorem dX3_params_54 : decode cX3_params 54 = .ok (.aload_n 1, 1) := by decide +kernel
set_option maxRecDepth 100000 in
theorem dX3_params_55 : decode cX3_params 55 = .ok (.areturn, 1) := by decide +kernel
def lX3_params_19 (G : xG) (fr lo : Nat) (x0 : Nat) (x1 : Nat) (h : xH) (Q : Outcome → xH → Prop) : Prop := xP G YX3_params fr lo 19 [(0, rv x0), (1, rv x1)] [] h Q
set_option maxRecDepth 100000 in
def bX3_params_19 (G : xG) (fr lo : Nat) (x0 : Nat) (x1 : Nat) (h : xH) (Q : Outcome → xH → Prop) : Prop := tg h x0 = 4 ∧ 1 ≤ fr ∧ 16 ≤ lo ∧ xRr G YX3_group (fr - 1) (lo - 16) [rv x0] h (fun x5 h4 => xext h h4 → tg h4 x1 = 16 ∧ 1 ≤ fr ∧ 13 ≤ lo ∧ xRr G YX15_add (fr - 1) (lo - 13) [rv x1, rv x5] h4 (fun x11 h10 => xext h4 h10 → 1 ≤ fr ∧ 13 ≤ lo ∧ xRi G YX3_has (fr - 1) (lo - 13) [rv x0, rv (tx G 64)] h10 (fun x18 h17 => xext h10 h17 → ((¬ x18 = 0 → lX3_params_19 G fr lo x0 x1 h17 Q) ∧ (x18 = 0 → 1 ≤ fr ∧ 13 ≤ lo ∧ xRr G YX3_need (fr - 1) (lo - 13) [rv x0, rv (tx G 61)] h17 (fun x25 h24 => xext h17 h24 → (∀ h28 : xH, h28 = sI h24 x0 772 ((fI h24 x0 772) - 1) → Q (.returned (some (rv x1))) h28)) (fun r h2 => Q (.threw r) h2)))) (fun r h2 => Q (.threw r) h2)) (fun r h2 => Q (.threw r) h2)) (fun r h2 => Q (.threw r) h2)
set_option maxRecDepth 100000 in
theorem uX3_params_19 {G : xG} {fr lo : Nat} {x0 : Nat} {x1 : Nat} {h : xH} {Q : Outcome → xH → Prop} (hq : bX3_params_19 G fr lo x0 x1 h Q) : xP G YX3_params fr lo 19 [(0, rv x0), (1, rv x1)] [] h Q := by
  unfold bX3_params_19 at hq
  refine x_aload_n 1 dX3_params_19 rfl ?_
  refine x_aload_n 0 dX3_params_20 rfl ?_
  obtain ⟨g1, hq⟩ := hq
  obtain ⟨g2, g3, hq⟩ := hq
  refine x_callV (Yc := YX3_group) (as := []) (st := [rv x1]) q1895 mvX3_group g1 rfl dX3_params_21 (xle (xal1 (rv_cat _) xal0) (by decide)) (xfr g2) (xlo (xsw1 (rv_cat _) xsw0) (by decide) g3) (xKr hq (fun x5 h4 hq e6 => ?_) (fun _ _ q _ => q))
  replace hq := hq e6
  obtain ⟨g7, hq⟩ := hq
  obtain ⟨g8, g9, hq⟩ := hq
  refine x_callV (Yc := YX15_add) (as := [rv x5]) (st := []) q1795 mvX15_add g7 rfl dX3_params_24 (xle (xal1 (rv_cat _) (xal1 (rv_cat _) xal0)) (by decide)) (xfr g8) (xlo xsw0 (by decide) g9) (xKr hq (fun x11 h10 hq e12 => ?_) (fun _ _ q _ => q))
  replace hq := hq e12
  refine x_pop dX3_params_27 (rv_cat _) ?_
  refine x_aload_n 0 dX3_params_28 rfl ?_
  refine x_ldcS (n := 64) 71 srX3_113 dX3_params_29 ?_
  have t13 : tg h4 x0 = 4 := e6.tg g1 (by decide)
  have t14 : tg h10 x0 = 4 := e12.tg t13 (by decide)
  obtain ⟨g15, g16, hq⟩ := hq
  refine x_callV (Yc := YX3_has) (as := [rv (tx G 64)]) (st := []) q1783 mvX3_has t14 rfl dX3_params_31 (xle (xal1 (rv_cat _) (xal1 (rv_cat _) xal0)) (by decide)) (xfr g15) (xlo xsw0 (by decide) g16) (xKi hq (fun x18 h17 hq e19 => ?_) (fun _ _ q _ => q))
  replace hq := hq e19
  refine x_if_ne (tgt := 19) dX3_params_34 (by decide) (fun c20 => ?_) (fun c20 => ?_)
  · replace hq := hq.1 c20
    exact hq
  · replace hq := hq.2 c20
    refine x_aload_n 0 dX3_params_37 rfl ?_
    refine x_ldcS (n := 61) 70 srX3_111 dX3_params_38 ?_
    have t21 : tg h17 x0 = 4 := e19.tg t14 (by decide)
    obtain ⟨g22, g23, hq⟩ := hq
    refine x_callV (Yc := YX3_need) (as := [rv (tx G 61)]) (st := []) q1719 mvX3_need t21 rfl dX3_params_40 (xle (xal1 (rv_cat _) (xal1 (rv_cat _) xal0)) (by decide)) (xfr g22) (xlo xsw0 (by decide) g23) (xKr hq (fun x25 h24 hq e26 => ?_) (fun _ _ q _ => q))
    replace hq := hq e26
    refine x_pop dX3_params_43 (rv_cat _) ?_
    refine x_aload_n 0 dX3_params_44 rfl ?_
    refine x_dup dX3_params_45 (rv_cat _) ?_
    have t27 : tg h24 x0 = 4 := e26.tg t21 (by decide)
    refine x_get (v := .int (fI h24 x0 772)) fdX3_68 dX3_params_46 t27 rfl ?_
    refine x_iconst (v := 1) dX3_params_49 (by decide) ?_
    refine x_isub dX3_params_50 ?_
    obtain ⟨h28, e29⟩ : ∃ y, y = sI h24 x0 772 ((fI h24 x0 772) - 1) := ⟨_, rfl⟩
    replace hq := hq h28 e29
    refine x_putI fdX3_68 xty_I1 dX3_params_51 t27 (Or.inl (by rw [t27]; rfl)) xnI rfl e29 ?_
    refine x_aload_n 1 dX3_params_54 rfl ?_
    exact x_aret rfl xty_O dX3_params_55 hq
set_option maxRecDepth 100000 in
def bX3_params (G : xG) (fr lo : Nat) (x0 : Nat) (h : xH) (Q : Outcome → xH → Prop) : Prop := tg h x0 = 4 ∧ 1 ≤ fr ∧ 12 ≤ lo ∧ xRv G YX3_deeper (fr - 1) (lo - 12) [rv x0] h (fun h4 => xext h h4 → nx h4 + 1 ≤ xGN G ∧ us h4 + 6 ≤ xGU G ∧ (∀ (a9 : Nat) (h10 : xH), a9 = nx h4 + 1 → h10 = nO h4 16 6 → xfresh h4 a9 → 1 ≤ fr ∧ 16 ≤ lo ∧ xRr G YX3_need (fr - 1) (lo - 16) [rv x0, rv (tx G 60)] h10 (fun x20 h19 => xext h10 h19 → 1 ≤ fr ∧ 15 ≤ lo ∧ xRv G YX15_init (fr - 1) (lo - 15) [rv a9, .int 0, rv x20] h19 (fun h25 => xext h19 h25 → lX3_params_19 G fr lo x0 a9 h25 Q) (fun r h2 => Q (.threw r) h2)) (fun r h2 => Q (.threw r) h2))) (fun r h2 => Q (.threw r) h2)
set_option maxRecDepth 100000 in
theorem uX3_params {G : xG} {fr lo : Nat} {x0 : Nat} {h : xH} {Q : Outcome → xH → Prop} (hq : bX3_params G fr lo x0 h Q) : xP G YX3_params fr lo 0 [(0, rv x0)] [] h Q := by
  unfold bX3_params at hq
  refine x_aload_n 0 dX3_params_0 rfl ?_
  obtain ⟨g1, hq⟩ := hq
  obtain ⟨g2, g3, hq⟩ := hq
  refine x_callV (Yc := YX3_deeper) (as := []) (st := []) q1806 mvX3_deeper g1 rfl dX3_params_1 (xle (xal1 (rv_cat _) xal0) (by decide)) (xfr g2) (xlo xsw0 (by decide) g3) (xKv hq (fun h4 hq e6 => ?_) (fun _ _ q _ => q))
  replace hq := hq e6
  obtain ⟨g7, g8, hq⟩ := hq
  obtain ⟨a9, e11⟩ : ∃ y, y = nx h4 + 1 := ⟨_, rfl⟩
  obtain ⟨h10, e12⟩ : ∃ y, y = nO h4 16 6 := ⟨_, rfl⟩
  refine x_new' cdX3_71 dX3_params_4 g7 g8 e11 e12 (fun f13 => ?_)
  replace hq := hq a9 h10 e11 e12 f13
  have t14 : tg h10 a9 = 16 := by rw [e12, e11]; exact tg_nO
  refine x_dup dX3_params_7 (rv_cat _) ?_
  refine x_iconst (v := 0) dX3_params_8 (by decide) ?_
  refine x_aload_n 0 dX3_params_9 rfl ?_
  refine x_ldcS (n := 60) 68 srX3_105 dX3_params_10 ?_
  have t15 : tg h4 x0 = 4 := e6.tg g1 (by decide)
  have t16 : tg h10 x0 = 4 := by rw [e12]; exact tg_nO_ne e11 f13 t15 (by decide)
  obtain ⟨g17, g18, hq⟩ := hq
  refine x_callV (Yc := YX3_need) (as := [rv (tx G 60)]) (st := [.int 0, rv a9, rv a9]) q1719 mvX3_need t16 rfl dX3_params_12 (xle (xal1 (rv_cat _) (xal1 (rv_cat _) xal0)) (by decide)) (xfr g17) (xlo (xsw1 rfl (xsw1 (rv_cat _) (xsw1 (rv_cat _) xsw0))) (by decide) g18) (xKr hq (fun x20 h19 hq e21 => ?_) (fun _ _ q _ => q))
  replace hq := hq e21
  have t22 : tg h19 a9 = 16 := e21.tg t14 (by decide)
  obtain ⟨g23, g24, hq⟩ := hq
  refine x_callI (Yc := YX15_init) (as := [.int 0, rv x20]) (st := [rv a9]) q1749 miX15_init (by rw [t22]; decide) rfl dX3_params_15 (xle (xal1 (rv_cat _) (xal1 rfl (xal1 (rv_cat _) xal0))) (by decide)) (xfr g23) (xlo (xsw1 (rv_cat _) xsw0) (by decide) g24) (xKv hq (fun h25 hq e27 => ?_) (fun _ _ q _ => q))
  replace hq := hq e27
  refine x_astore_n (lv' := [(1, rv a9), (0, rv x0)]) dX3_params_18 (by decide) (by first | rfl | (simp [rv_cat, Value.category]; done) | (simp [rv_cat, Value.category]; decide)) ?_
  refine xP.pick (lv' := [(0, rv x0), (1, rv a9)]) [1, 0] rfl ?_
  exact hq
theorem rX3_params {G : xG} {fr lo : Nat} {x0 : Nat} {h : xH} {Q : Outcome → xH → Prop} (hq : bX3_params G fr lo x0 h Q) : xR G YX3_params fr lo [rv x0] h Q := by
  show xP _ _ _ _ _ (lv_args 0 _) _ _ _
  rw [show lv_args 0 [rv x0] = [(0, rv x0)] from (xla1 (rv_cat _) xla0)]
  exact uX3_params hq
set_option maxRecDepth 100000 in
theorem dX3_group_0 : decode cX3_group 0 = .ok (.aload_n 0, 1) := by decide +kernel
set_option maxRecDepth 100000 in
theorem dX3_group_1 : decode cX3_group 1 = .ok (.ldc 142, 2) := by decide +kernel
set_option maxRecDepth 100000 in
theorem dX3_group_3 : decode cX3_group 3 = .ok (.invokevirtual 60, 3) := by decide +kernel
set_option maxRecDepth 100000 in
theorem dX3_group_6 : decode cX3_group 6 = .ok (.istore_n 1, 1) := by decide +kernel
set_option maxRecDepth 100000 in
theorem dX3_group_7 : decode cX3_group 7 = .ok (.iload_n 1, 1) := by decide +kernel
set_option maxRecDepth 100000 in
theorem dX3_group_8 : decode cX3_group 8 = .ok (.ifCond .ne 12, 3) := by decide +kernel
set_option maxRecDepth 100000 in
theorem dX3_group_11 : decode cX3_group 11 = .ok (.aload_n 0, 1) := by decide +kernel
set_option maxRecDepth 100000 in
theorem dX3_group_12 : decode cX3_group 12 = .ok (.ldc 140, 2) := by decide +kernel
set_option maxRecDepth 100000 in
theorem dX3_group_14 : decode cX3_group 14 = .ok (.invokevirtual 60, 3) := by decide +kernel
set_option maxRecDepth 100000 in
theorem dX3_group_17 : decode cX3_group 17 = .ok (.ifCond .eq 88, 3) := by decide +kernel
set_option maxRecDepth 100000 in
theorem dX3_group_20 : decode cX3_group 20 = .ok (.aload_n 0, 1) := by decide +kernel
set_option maxRecDepth 100000 in
theorem dX3_group_21 : decode cX3_group 21 = .ok (.invokevirtual 57, 3) := by decide +kernel
set_option maxRecDepth 100000 in
theorem dX3_group_24 : decode cX3_group 24 = .ok (.new 71, 3) := by decide +kernel
set_option maxRecDepth 100000 in
theorem dX3_group_27 : decode cX3_group 27 = .ok (.dup, 1) := by decide +kernel
set_option maxRecDepth 100000 in
theorem dX3_group_28 : decode cX3_group 28 = .ok (.iload_n 1, 1) := by decide +kernel
set_option maxRecDepth 100000 in
theorem dX3_group_29 : decode cX3_group 29 = .ok (.ifCond .eq 8, 3) := by decide +kernel
set_option maxRecDepth 100000 in
theorem dX3_group_32 : decode cX3_group 32 = .ok (.bipush 21, 2) := by decide +kernel
set_option maxRecDepth 100000 in
theorem dX3_group_34 : decode cX3_group 34 = .ok (.goto 5, 3) := by decide +kernel
set_option maxRecDepth 100000 in
theorem dX3_group_37 : decode cX3_group 37 = .ok (.bipush 20, 2) := by decide +kernel
set_option maxRecDepth 100000 in
theorem dX3_group_39 : decode cX3_group 39 = .ok (.aload_n 0, 1) := by decide +kernel
set_option maxRecDepth 100000 in
theorem dX3_group_40 : decode cX3_group 40 = .ok (.getstatic 43, 3) := by decide +kernel
set_option maxRecDepth 100000 in
theorem dX3_group_43 : decode cX3_group 43 = .ok (.invokevirtual 73, 3) := by decide +kernel
set_option maxRecDepth 100000 in
theorem dX3_group_46 : decode cX3_group 46 = .ok (.invokespecial 77, 3) := by decide +kernel
set_option maxRecDepth 100000 in
theorem dX3_group_49 : decode cX3_group 49 = .ok (.astore_n 2, 1) := by decide +kernel
set_option maxRecDepth 100000 in
theorem dX3_group_50 : decode cX3_group 50 = .ok (.aload_n 2, 1) := by decide +kernel
set_option maxRecDepth 100000 in
theorem dX3_group_51 : decode cX3_group 51 = .ok (.aload_n 0, 1) := by decide +kernel
set_option maxRecDepth 100000 in
theorem dX3_group_52 : decode cX3_group 52 = .ok (.ldc 105, 2) := by decide +kernel
set_option maxRecDepth 100000 in
theorem dX3_group_54 : decode cX3_group 54 = .ok (.invokevirtual 60, 3) := by decide +kernel
set_option maxRecDepth 100000 in
theorem dX3_group_57 : decode cX3_group 57 = .ok (.ifCond .eq 10, 3) := by decide +kernel
set_option maxRecDepth 100000 in
theorem dX3_group_60 : decode cX3_group 60 = .ok (.aload_n 0, 1) := by decide +kernel
set_option maxRecDepth 100000 in
theorem dX3_group_61 : decode cX3_group 61 = .ok (.invokevirtual 172, 3) := by decide +kernel
set_option maxRecDepth 100000 in
theorem dX3_group_64 : decode cX3_group 64 = .ok (.goto 15, 3) := by decide +kernel
set_option maxRecDepth 100000 in
theorem dX3_group_67 : decode cX3_group 67 = .ok (.new 71, 3) := by decide +kernel
set_option maxRecDepth 100000 in
theorem dX3_group_70 : decode cX3_group 70 = .ok (.dup, 1) := by decide +kernel
set_option maxRecDepth 100000 in
theorem dX3_group_71 : decode cX3_group 71 = .ok (.iconst 0, 1) := by decide +kernel
set_option maxRecDepth 100000 in
theorem dX3_group_72 : decode cX3_group 72 = .ok (.aload_n 0, 1) := by decide +kernel
set_option maxRecDepth 100000 in
theorem dX3_group_73 : decode cX3_group 73 = .ok (.getfield 25, 3) := by decide +kernel
set_option maxRecDepth 100000 in
theorem dX3_group_76 : decode cX3_group 76 = .ok (.invokespecial 77, 3) := by decide +kernel
set_option maxRecDepth 100000 in
theorem dX3_group_79 : decode cX3_group 79 = .ok (.invokevirtual 84, 3) := by decide +kernel
set_option maxRecDepth 100000 in
theorem dX3_group_82 : decode cX3_group 82 = .ok (.pop, 1) := by decide +kernel
set_option maxRecDepth 100000 in
theorem dX3_group_83 : decode cX3_group 83 = .ok (.iload_n 1, 1) := by decide +kernel
set_option maxRecDepth 100000 in
theorem dX3_group_84 : decode cX3_group 84 = .ok (.ifCond .ne 5, 3) := by decide +kernel
set_option maxRecDepth 100000 in
theorem dX3_group_87 : decode cX3_group 87 = .ok (.aload_n 2, 1) := by decide +kernel
set_option maxRecDepth 100000 in
theorem dX3_group_88 : decode cX3_group 88 = .ok (.areturn, 1) := by decide +kernel
set_option maxRecDepth 100000 in
theorem dX3_group_89 : decode cX3_group 89 = .ok (.aload_n 0, 1) := by decide +kernel
set_option maxRecDepth 100000 in
theorem dX3_group_90 : decode cX3_group 90 = .ok (.ldc 170, 2) := by decide +kernel
set_option maxRecDepth 100000 in
theorem dX3_group_92 : decode cX3_group 92 = .ok (.invokevirtual 99, 3) := by decide +kernel
set_option maxRecDepth 100000 in
theorem dX3_group_95 : decode cX3_group 95 = .ok (.pop, 1) := by decide +kernel
set_option maxRecDepth 100000 in
theorem dX3_group_96 : decode cX3_group 96 = .ok (.aload_n 2, 1) := by decide +kernel
set_option maxRecDepth 100000 in
theorem dX3_group_97 : decode cX3_group 97 = .ok (.aload_n 0, 1) := by decide +kernel
set_option maxRecDepth 100000 in
theorem dX3_group_98 : decode cX3_group 98 = .ok (.invokevirtual 175, 3) := by decide +kernel
set_option maxRecDepth 100000 in
theorem dX3_group_101 : decode cX3_group 101 = .ok (.invokevirtual 84, 3) := by decide +kernel
set_option maxRecDepth 100000 in
theorem dX3_group_104 : decode cX3_group 104 = .ok (.areturn, 1) := by decide +kernel
set_option maxRecDepth 100000 in
theorem dX3_group_105 : decode cX3_group 105 = .ok (.new 71, 3) := by decide +kernel
set_option maxRecDepth 100000 in
theorem dX3_group_108 : decode cX3_group 108 = .ok (.dup, 1) := by decide +kernel
set_option maxRecDepth 100000 in
theorem dX3_group_109 : decode cX3_group 109 = .ok (.aload_n 0, 1) := by decide +kernel
set_option maxRecDepth 100000 in
theorem dX3_group_110 : decode cX3_group 110 = .ok (.ldc 165, 2) := by decide +kernel
set_option maxRecDepth 100000 in
theorem dX3_group_112 : decode cX3_group 112 = .ok (.invokevirtual 60, 3) := by decide +kernel
set_option maxRecDepth 100000 in
theorem dX3_group_115 : decode cX3_group 115 = .ok (.ifCond .eq 8, 3) := by decide +kernel
set_option maxRecDepth 100000 in
theorem dX3_group_118 : decode cX3_group 118 = .ok (.bipush 25, 2) := by decide +kernel
set_option maxRecDepth 100000 in
theorem dX3_group_120 : decode cX3_group 120 = .ok (.goto 5, 3) := by decide +kernel
set_option maxRecDepth 100000 in
theorem dX3_group_123 : decode cX3_group 123 = .ok (.bipush 24, 2) := by decide +kernel
set_option maxRecDepth 100000 in
theorem dX3_group_125 : decode cX3_group 125 = .ok (.aload_n 0, 1) := by decide +kernel
set_option maxRecDepth 100000 in
theorem dX3_group_126 : decode cX3_group 126 = .ok (.getfield 25, 3) := by decide +kernel
set_option maxRecDepth 100000 in
theorem dX3_group_129 : decode cX3_group 129 = .ok (.invokespecial 77, 3) := by decide +kernel
set_option maxRecDepth 100000 in
theorem dX3_group_132 : decode cX3_group 132 = .ok (.astore_n 2, 1) := by decide +kernel
set_option maxRecDepth 100000 in
theorem dX3_group_133 : decode cX3_group 133 = .ok (.aload_n 0, 1) := by decide +kernel
set_option maxRecDepth 100000 in
theorem dX3_group_134 : decode cX3_group 134 = .ok (.ldc 165, 2) := by decide +kernel
set_option maxRecDepth 100000 in
theorem dX3_group_136 : decode cX3_group 136 = .ok (.invokevirtual 60, 3) := by decide +kernel
set_option maxRecDepth 100000 in
theorem dX3_group_139 : decode cX3_group 139 = .ok (.ifCond .eq 7, 3) := by decide +kernel
set_option maxRecDepth 100000 in
theorem dX3_group_142 : decode cX3_group 142 = .ok (.aload_n 0, 1) := by decide +kernel
set_option maxRecDepth 100000 in
theorem dX3_group_143 : decode cX3_group 143 = .ok (.invokevirtual 57, 3) := by decide +kernel
set_option maxRecDepth 100000 in
theorem dX3_group_146 : decode cX3_group 146 = .ok (.new 71, 3) := by decide +kernel
set_option maxRecDepth 100000 in
theorem dX3_group_149 : decode cX3_group 149 = .ok (.dup, 1) := by decide +kernel
set_option maxRecDepth 100000 in
theorem dX3_group_150 : decode cX3_group 150 = .ok (.iconst 0, 1) := by decide +kernel
set_option maxRecDepth 100000 in
theorem dX3_group_151 : decode cX3_group 151 = .ok (.aload_n 0, 1) := by decide +kernel
set_option maxRecDepth 100000 in
theorem dX3_group_152 : decode cX3_group 152 = .ok (.getfield 25, 3) := by decide +kernel
set_option maxRecDepth 100000 in
theorem dX3_group_155 : decode cX3_group 155 = .ok (.invokespecial 77, 3) := by decide +kernel
set_option maxRecDepth 100000 in
theorem dX3_group_158 : decode cX3_group 158 = .ok (.astore_n 3, 1) := by decide +kernel
set_option maxRecDepth 100000 in
theorem dX3_group_159 : decode cX3_group 159 = .ok (.aload_n 0, 1) := by decide +kernel
set_option maxRecDepth 100000 in
theorem dX3_group_160 : decode cX3_group 160 = .ok (.aload_n 3, 1) := by decide +kernel
set_option maxRecDepth 100000 in
theorem dX3_group_161 : decode cX3_group 161 = .ok (.invokevirtual 107, 3) := by decide +kernel
set_option maxRecDepth 100000 in
theorem dX3_group_164 : decode cX3_group 164 = .ok (.aload_n 0, 1) := by decide +kernel
set_option maxRecDepth 100000 in
theorem dX3_group_165 : decode cX3_group 165 = .ok (.ldc 170, 2) := by decide +kernel
set_option maxRecDepth 100000 in
theorem dX3_group_167 : decode cX3_group 167 = .ok (.invokevirtual 99, 3) := by decide +kernel
set_option maxRecDepth 100000 in
theorem dX3_group_170 : decode cX3_group 170 = .ok (.pop, 1) := by decide +kernel
set_option maxRecDepth 100000 in
theorem dX3_group_171 : decode cX3_group 171 = .ok (.aload_n 2, 1) := by decide +kernel
set_option maxRecDepth 100000 in
theorem dX3_group_172 : decode cX3_group 172 = .ok (.aload_n 3, 1) := by decide +kernel
set_option maxRecDepth 100000 in
theorem dX3_group_173 : decode cX3_group 173 = .ok (.invokevirtual 84, 3) := by decide +kernel
set_option maxRecDepth 100000 in
theorem dX3_group_176 : decode cX3_group 176 = .ok (.aload_n 0, 1) := by decide +kernel
set_option maxRecDepth 100000 in
theorem dX3_group_177 : decode cX3_group 177 = .ok (.invokevirtual 175, 3) := by decide +kernel
set_option maxRecDepth 100000 in
theorem dX3_group_180 : decode cX3_group 180 = .ok (.invokevirtual 84, 3) := by decide +kernel
set_option maxRecDepth 100000 in
theorem dX3_group_183 : decode cX3_group 183 = .ok (.areturn, 1) := by decide +kernel
set_option maxRecDepth 100000 in
def bX3_group_146 (G : xG) (fr lo : Nat) (x0 : Nat) (x2 : Nat) (h : xH) (Q : Outcome → xH → Prop) : Prop := nx h + 1 ≤ xGN G ∧ us h + 6 ≤ xGU G ∧ (∀ (a3 : Nat) (h4 : xH), a3 = nx h + 1 → h4 = nO h 16 6 → xfresh h a3 → tg h4 x0 = 4 ∧ 1 ≤ fr ∧ 15 ≤ lo ∧ xRv G YX15_init (fr - 1) (lo - 15) [rv a3, .int 0, rv (fR h4 x0 770)] h4 (fun h12 => xext h4 h12 → 1 ≤ fr ∧ 13 ≤ lo ∧ xRv G YX3_names (fr - 1) (lo - 13) [rv x0, rv a3] h12 (fun h18 => xext h12 h18 → 1 ≤ fr ∧ 13 ≤ lo ∧ xRr G YX3_need (fr - 1) (lo - 13) [rv x0, rv (tx G 65)] h18 (fun x25 h24 => xext h18 h24 → tg h24 x2 = 16 ∧ 1 ≤ fr ∧ 13 ≤ lo ∧ xRr G YX15_add (fr - 1) (lo - 13) [rv x2, rv a3] h24 (fun x31 h30 => xext h24 h30 → 1 ≤ fr ∧ 13 ≤ lo ∧ xRr G YX3_named (fr - 1) (lo - 13) [rv x0] h30 (fun x38 h37 => xext h30 h37 → tg h37 x31 = 16 ∧ 1 ≤ fr ∧ 13 ≤ lo ∧ xRr G YX15_add (fr - 1) (lo - 13) [rv x31, rv x38] h37 (fun x44 h43 => xext h37 h43 → Q (.returned (some (rv x44))) h43) (fun r h2 => Q (.threw r) h2)) (fun r h2 => Q (.threw r) h2)) (fun r h2 => Q (.threw r) h2)) (fun r h2 => Q (.threw r) h2)) (fun r h2 => Q (.threw r) h2)) (fun r h2 => Q (.threw r) h2))
set_option maxRecDepth 100000 in
theorem uX3_group_146 {G : xG} {fr lo : Nat} {x0 : Nat} {x2 : Nat} {h : xH} {Q : Outcome → xH → Prop} (hq : bX3_group_146 G fr lo x0 x2 h Q) : xP G YX3_group fr lo 146 [(0, rv x0), (2, rv x2)] [] h Q := by
  unfold bX3_group_146 at hq
  obtain ⟨g1, g2, hq⟩ := hq
  obtain ⟨a3, e5⟩ : ∃ y, y = nx h + 1 := ⟨_, rfl⟩
  obtain ⟨h4, e6⟩ : ∃ y, y = nO h 16 6 := ⟨_, rfl⟩
  refine x_new' cdX3_71 dX3_group_146 g1 g2 e5 e6 (fun f7 => ?_)
  replace hq := hq a3 h4 e5 e6 f7
  have t8 : tg h4 a3 = 16 := by rw [e6, e5]; exact tg_nO
  refine x_dup dX3_group_149 (rv_cat _) ?_
  refine x_iconst (v := 0) dX3_group_150 (by decide) ?_
  refine x_aload_n 0 dX3_group_151 rfl ?_
  obtain ⟨g9, hq⟩ := hq
  refine x_get (v := rv (fR h4 x0 770)) fdX3_25 dX3_group_152 g9 rfl ?_
  obtain ⟨g10, g11, hq⟩ := hq
  refine x_callI (Yc := YX15_init) (as := [.int 0, rv (fR h4 x0 770)]) (st := [rv a3]) q1749 miX15_init (by rw [t8]; decide) rfl dX3_group_155 (xle (xal1 (rv_cat _) (xal1 rfl (xal1 (rv_cat _) xal0))) (by decide)) (xfr g10) (xlo (xsw1 (rv_cat _) xsw0) (by decide) g11) (xKv hq (fun h12 hq e14 => ?_) (fun _ _ q _ => q))
  replace hq := hq e14
  refine x_astore_n (lv' := [(3, rv a3), (0, rv x0), (2, rv x2)]) dX3_group_158 (by decide) (by first | rfl | (simp [rv_cat, Value.category]; done) | (simp [rv_cat, Value.category]; decide)) ?_
  refine x_aload_n 1 dX3_group_159 rfl ?_
  refine x_aload_n 0 dX3_group_160 rfl ?_
  have t15 : tg h12 x0 = 4 := e14.tg g9 (by decide)
  obtain ⟨g16, g17, hq⟩ := hq
  refine x_callV (Yc := YX3_names) (as := [rv a3]) (st := []) q1787 mvX3_names t15 rfl dX3_group_161 (xle (xal1 (rv_cat _) (xal1 (rv_cat _) xal0)) (by decide)) (xfr g16) (xlo xsw0 (by decide) g17) (xKv hq (fun h18 hq e20 => ?_) (fun _ _ q _ => q))
  replace hq := hq e20
  refine x_aload_n 1 dX3_group_164 rfl ?_
  refine x_ldcS (n := 65) 87 srX3_170 dX3_group_165 ?_
  have t21 : tg h18 x0 = 4 := e20.tg t15 (by decide)
  obtain ⟨g22, g23, hq⟩ := hq
  refine x_callV (Yc := YX3_need) (as := [rv (tx G 65)]) (st := []) q1719 mvX3_need t21 rfl dX3_group_167 (xle (xal1 (rv_cat _) (xal1 (rv_cat _) xal0)) (by decide)) (xfr g22) (xlo xsw0 (by decide) g23) (xKr hq (fun x25 h24 hq e26 => ?_) (fun _ _ q _ => q))
  replace hq := hq e26
  refine x_pop dX3_group_170 (rv_cat _) ?_
  refine x_aload_n 2 dX3_group_171 rfl ?_
  refine x_aload_n 0 dX3_group_172 rfl ?_
  obtain ⟨g27, hq⟩ := hq
  obtain ⟨g28, g29, hq⟩ := hq
  refine x_callV (Yc := YX15_add) (as := [rv a3]) (st := []) q1795 mvX15_add g27 rfl dX3_group_173 (xle (xal1 (rv_cat _) (xal1 (rv_cat _) xal0)) (by decide)) (xfr g28) (xlo xsw0 (by decide) g29) (xKr hq (fun x31 h30 hq e32 => ?_) (fun _ _ q _ => q))
  replace hq := hq e32
  refine x_aload_n 1 dX3_group_176 rfl ?_
  have t33 : tg h24 x0 = 4 := e26.tg t21 (by decide)
  have t34 : tg h30 x0 = 4 := e32.tg t33 (by decide)
  obtain ⟨g35, g36, hq⟩ := hq
  refine x_callV (Yc := YX3_named) (as := []) (st := [rv x31]) q1840 mvX3_named t34 rfl dX3_group_177 (xle (xal1 (rv_cat _) xal0) (by decide)) (xfr g35) (xlo (xsw1 (rv_cat _) xsw0) (by decide) g36) (xKr hq (fun x38 h37 hq e39 => ?_) (fun _ _ q _ => q))
  replace hq := hq e39
  obtain ⟨g40, hq⟩ := hq
  obtain ⟨g41, g42, hq⟩ := hq
  refine x_callV (Yc := YX15_add) (as := [rv x38]) (st := []) q1795 mvX15_add g40 rfl dX3_group_180 (xle (xal1 (rv_cat _) (xal1 (rv_cat _) xal0)) (by decide)) (xfr g41) (xlo xsw0 (by decide) g42) (xKr hq (fun x44 h43 hq e45 => ?_) (fun _ _ q _ => q))
  replace hq := hq e45
  exact x_aret rfl xty_O dX3_group_183 hq
set_option maxRecDepth 100000 in
def bX3_group_125 (G : xG) (fr lo : Nat) (x0 : Nat) (s0 : Int32) (s1 : Nat) (s2 : Nat) (h : xH) (Q : Outcome → xH → Prop) : Prop := tg h x0 = 4 ∧ tg h s1 = 16 ∧ 1 ≤ fr ∧ 15 ≤ lo ∧ xRv G YX15_init (fr - 1) (lo - 15) [rv s1, .int s0, rv (fR h x0 770)] h (fun h5 => xext h h5 → 1 ≤ fr ∧ 13 ≤ lo ∧ xRi G YX3_is (fr - 1) (lo - 13) [rv x0, rv (tx G 32)] h5 (fun x12 h11 => xext h5 h11 → ((x12 = 0 → bX3_group_146 G fr lo x0 s2 h11 Q) ∧ (¬ x12 = 0 → 1 ≤ fr ∧ 12 ≤ lo ∧ xRv G YX3_step (fr - 1) (lo - 12) [rv x0] h11 (fun h18 => xext h11 h18 → bX3_group_146 G fr lo x0 s2 h18 Q) (fun r h2 => Q (.threw r) h2)))) (fun r h2 => Q (.threw r) h2)) (fun r h2 => Q (.threw r) h2)
set_option maxRecDepth 100000 in
theorem uX3_group_125 {G : xG} {fr lo : Nat} {x0 : Nat} {s0 : Int32} {s1 : Nat} {s2 : Nat} {h : xH} {Q : Outcome → xH → Prop} (hq : bX3_group_125 G fr lo x0 s0 s1 s2 h Q) : xP G YX3_group fr lo 125 [(0, rv x0)] [.int s0, rv s1, rv s2] h Q := by
  unfold bX3_group_125 at hq
  refine x_aload_n 0 dX3_group_125 rfl ?_
  obtain ⟨g1, hq⟩ := hq
  refine x_get (v := rv (fR h x0 770)) fdX3_25 dX3_group_126 g1 rfl ?_
  obtain ⟨g2, hq⟩ := hq
  obtain ⟨g3, g4, hq⟩ := hq
  refine x_callI (Yc := YX15_init) (as := [.int s0, rv (fR h x0 770)]) (st := [rv s2]) q1749 miX15_init (by rw [g2]; decide) rfl dX3_group_129 (xle (xal1 (rv_cat _) (xal1 rfl (xal1 (rv_cat _) xal0))) (by decide)) (xfr g3) (xlo (xsw1 (rv_cat _) xsw0) (by decide) g4) (xKv hq (fun h5 hq e7 => ?_) (fun _ _ q _ => q))
  replace hq := hq e7
  refine x_astore_n (lv' := [(2, rv s2), (0, rv x0)]) dX3_group_132 (by decide) rfl ?_
  refine x_aload_n 1 dX3_group_133 rfl ?_
  refine x_ldcS (n := 32) 91 srX3_165 dX3_group_134 ?_
  have t8 : tg h5 x0 = 4 := e7.tg g1 (by decide)
  obtain ⟨g9, g10, hq⟩ := hq
  refine x_callV (Yc := YX3_is) (as := [rv (tx G 32)]) (st := []) q1723 mvX3_is t8 rfl dX3_group_136 (xle (xal1 (rv_cat _) (xal1 (rv_cat _) xal0)) (by decide)) (xfr g9) (xlo xsw0 (by decide) g10) (xKi hq (fun x12 h11 hq e13 => ?_) (fun _ _ q _ => q))
  replace hq := hq e13
  refine x_if_eq (tgt := 146) dX3_group_139 (by decide) (fun c14 => ?_) (fun c14 => ?_)
  · replace hq := hq.1 c14
    refine xP.pick (lv' := [(0, rv x0), (2, rv s2)]) [1, 0] rfl ?_
    exact uX3_group_146 hq
  · replace hq := hq.2 c14
    refine x_aload_n 1 dX3_group_142 rfl ?_
    have t15 : tg h11 x0 = 4 := e13.tg t8 (by decide)
    obtain ⟨g16, g17, hq⟩ := hq
    refine x_callV (Yc := YX3_step) (as := []) (st := []) q1568 mvX3_step t15 rfl dX3_group_143 (xle (xal1 (rv_cat _) xal0) (by decide)) (xfr g16) (xlo xsw0 (by decide) g17) (xKv hq (fun h18 hq e20 => ?_) (fun _ _ q _ => q))
    replace hq := hq e20
    refine xP.pick (lv' := [(0, rv x0), (2, rv s2)]) [1, 0] rfl ?_
    exact uX3_group_146 hq
set_option maxRecDepth 100000 in
def bX3_group_79 (G : xG) (fr lo : Nat) (x0 : Nat) (x1 : Int32) (x2 : Nat) (s0 : Nat) (s1 : Nat) (h : xH) (Q : Outcome → xH → Prop) : Prop := tg h s1 = 16 ∧ 1 ≤ fr ∧ 13 ≤ lo ∧ xRr G YX15_add (fr - 1) (lo - 13) [rv s1, rv s0] h (fun x5 h4 => xext h h4 → ((¬ x1 = 0 → tg h4 x0 = 4 ∧ 1 ≤ fr ∧ 13 ≤ lo ∧ xRr G YX3_need (fr - 1) (lo - 13) [rv x0, rv (tx G 65)] h4 (fun x12 h11 => xext h4 h11 → 1 ≤ fr ∧ 13 ≤ lo ∧ xRr G YX3_named (fr - 1) (lo - 13) [rv x0] h11 (fun x18 h17 => xext h11 h17 → tg h17 x2 = 16 ∧ 1 ≤ fr ∧ 13 ≤ lo ∧ xRr G YX15_add (fr - 1) (lo - 13) [rv x2, rv x18] h17 (fun x24 h23 => xext h17 h23 → Q (.returned (some (rv x24))) h23) (fun r h2 => Q (.threw r) h2)) (fun r h2 => Q (.threw r) h2)) (fun r h2 => Q (.threw r) h2)) ∧ (x1 = 0 → Q (.returned (some (rv x2))) h4))) (fun r h2 => Q (.threw r) h2)
set_option maxRecDepth 100000 in
theorem uX3_group_79 {G : xG} {fr lo : Nat} {x0 : Nat} {x1 : Int32} {x2 : Nat} {s0 : Nat} {s1 : Nat} {h : xH} {Q : Outcome → xH → Prop} (hq : bX3_group_79 G fr lo x0 x1 x2 s0 s1 h Q) : xP G YX3_group fr lo 79 [(0, rv x0), (1, .int x1), (2, rv x2)] [rv s0, rv s1] h Q := by
  unfold bX3_group_79 at hq
  obtain ⟨g1, hq⟩ := hq
  obtain ⟨g2, g3, hq⟩ := hq
  refine x_callV (Yc := YX15_add) (as := [rv s0]) (st := []) q1795 mvX15_add g1 rfl dX3_group_79 (xle (xal1 (rv_cat _) (xal1 (rv_cat _) xal0)) (by decide)) (xfr g2) (xlo xsw0 (by decide) g3) (xKr hq (fun x5 h4 hq e6 => ?_) (fun _ _ q _ => q))
  replace hq := hq e6
  refine x_pop dX3_group_82 (rv_cat _) ?_
  refine x_iload_n 1 dX3_group_83 rfl ?_
  refine x_if_ne (tgt := 89) dX3_group_84 (by decide) (fun c7 => ?_) (fun c7 => ?_)
  · replace hq := hq.1 c7
    refine x_aload_n 0 dX3_group_89 rfl ?_
    refine x_ldcS (n := 65) 87 srX3_170 dX3_group_90 ?_
    obtain ⟨g8, hq⟩ := hq
    obtain ⟨g9, g10, hq⟩ := hq
    refine x_callV (Yc := YX3_need) (as := [rv (tx G 65)]) (st := []) q1719 mvX3_need g8 rfl dX3_group_92 (xle (xal1 (rv_cat _) (xal1 (rv_cat _) xal0)) (by decide)) (xfr g9) (xlo xsw0 (by decide) g10) (xKr hq (fun x12 h11 hq e13 => ?_) (fun _ _ q _ => q))
    replace hq := hq e13
    refine x_pop dX3_group_95 (rv_cat _) ?_
    refine x_aload_n 2 dX3_group_96 rfl ?_
    refine x_aload_n 0 dX3_group_97 rfl ?_
    have t14 : tg h11 x0 = 4 := e13.tg g8 (by decide)
    obtain ⟨g15, g16, hq⟩ := hq
    refine x_callV (Yc := YX3_named) (as := []) (st := [rv x2]) q1840 mvX3_named t14 rfl dX3_group_98 (xle (xal1 (rv_cat _) xal0) (by decide)) (xfr g15) (xlo (xsw1 (rv_cat _) xsw0) (by decide) g16) (xKr hq (fun x18 h17 hq e19 => ?_) (fun _ _ q _ => q))
    replace hq := hq e19
    obtain ⟨g20, hq⟩ := hq
    obtain ⟨g21, g22, hq⟩ := hq
    refine x_callV (Yc := YX15_add) (as := [rv x18]) (st := []) q1795 mvX15_add g20 rfl dX3_group_101 (xle (xal1 (rv_cat _) (xal1 (rv_cat _) xal0)) (by decide)) (xfr g21) (xlo xsw0 (by decide) g22) (xKr hq (fun x24 h23 hq e25 => ?_) (fun _ _ q _ => q))
    replace hq := hq e25
    exact x_aret rfl xty_O dX3_group_104 hq
  · replace hq := hq.2 c7
    refine x_aload_n 2 dX3_group_87 rfl ?_
    exact x_aret rfl xty_O dX3_group_88 hq
set_option maxRecDepth 100000 in
def bX3_group_39 (G : xG) (fr lo : Nat) (x0 : Nat) (x1 : Int32) (s0 : Int32) (s1 : Nat) (s2 : Nat) (h : xH) (Q : Outcome → xH → Prop) : Prop := tg h x0 = 4 ∧ 1 ≤ fr ∧ 16 ≤ lo ∧ xRr G YX3_needSort (fr - 1) (lo - 16) [rv x0, rv (xGS G 1)] h (fun x5 h4 => xext h h4 → tg h4 s1 = 16 ∧ 1 ≤ fr ∧ 15 ≤ lo ∧ xRv G YX15_init (fr - 1) (lo - 15) [rv s1, .int s0, rv x5] h4 (fun h10 => xext h4 h10 → 1 ≤ fr ∧ 14 ≤ lo ∧ xRi G YX3_is (fr - 1) (lo - 14) [rv x0, rv (tx G 60)] h10 (fun x18 h17 => xext h10 h17 → ((x18 = 0 → nx h17 + 1 ≤ xGN G ∧ us h17 + 6 ≤ xGU G ∧ (∀ (a23 : Nat) (h24 : xH), a23 = nx h17 + 1 → h24 = nO h17 16 6 → xfresh h17 a23 → 1 ≤ fr ∧ 16 ≤ lo ∧ xRv G YX15_init (fr - 1) (lo - 16) [rv a23, .int 0, rv (fR h24 x0 770)] h24 (fun h33 => xext h24 h33 → bX3_group_79 G fr lo x0 x1 s2 a23 s2 h33 Q) (fun r h2 => Q (.threw r) h2))) ∧ (¬ x18 = 0 → 1 ≤ fr ∧ 14 ≤ lo ∧ xRr G YX3_params (fr - 1) (lo - 14) [rv x0] h17 (fun x40 h39 => xext h17 h39 → bX3_group_79 G fr lo x0 x1 s2 x40 s2 h39 Q) (fun r h2 => Q (.threw r) h2)))) (fun r h2 => Q (.threw r) h2)) (fun r h2 => Q (.threw r) h2)) (fun r h2 => Q (.threw r) h2)
set_option maxRecDepth 100000 in
theorem uX3_group_39 {G : xG} {fr lo : Nat} {x0 : Nat} {x1 : Int32} {s0 : Int32} {s1 : Nat} {s2 : Nat} {h : xH} {Q : Outcome → xH → Prop} (hq : bX3_group_39 G fr lo x0 x1 s0 s1 s2 h Q) : xP G YX3_group fr lo 39 [(0, rv x0), (1, .int x1)] [.int s0, rv s1, rv s2] h Q := by
  unfold bX3_group_39 at hq
  refine x_aload_n 0 dX3_group_39 rfl ?_
  refine x_gets (v := rv (xGS G 1)) 1 rfl q1744 (by simp [xsv]) dX3_group_40 ?_
  obtain ⟨g1, hq⟩ := hq
  obtain ⟨g2, g3, hq⟩ := hq
  refine x_callV (Yc := YX3_needSort) (as := [rv (xGS G 1)]) (st := [.int s0, rv s1, rv s2]) q1745 mvX3_needSort g1 rfl dX3_group_43 (xle (xal1 (rv_cat _) (xal1 (rv_cat _) xal0)) (by decide)) (xfr g2) (xlo (xsw1 rfl (xsw1 (rv_cat _) (xsw1 (rv_cat _) xsw0))) (by decide) g3) (xKr hq (fun x5 h4 hq e6 => ?_) (fun _ _ q _ => q))
  replace hq := hq e6
  obtain ⟨g7, hq⟩ := hq
  obtain ⟨g8, g9, hq⟩ := hq
  refine x_callI (Yc := YX15_init) (as := [.int s0, rv x5]) (st := [rv s2]) q1749 miX15_init (by rw [g7]; decide) rfl dX3_group_46 (xle (xal1 (rv_cat _) (xal1 rfl (xal1 (rv_cat _) xal0))) (by decide)) (xfr g8) (xlo (xsw1 (rv_cat _) xsw0) (by decide) g9) (xKv hq (fun h10 hq e12 => ?_) (fun _ _ q _ => q))
  replace hq := hq e12
  refine x_astore_n (lv' := [(2, rv s2), (0, rv x0), (1, .int x1)]) dX3_group_49 (by decide) rfl ?_
  refine x_aload_n 0 dX3_group_50 rfl ?_
  refine x_aload_n 1 dX3_group_51 rfl ?_
  refine x_ldcS (n := 60) 68 srX3_105 dX3_group_52 ?_
  have t13 : tg h4 x0 = 4 := e6.tg g1 (by decide)
  have t14 : tg h10 x0 = 4 := e12.tg t13 (by decide)
  obtain ⟨g15, g16, hq⟩ := hq
  refine x_callV (Yc := YX3_is) (as := [rv (tx G 60)]) (st := [rv s2]) q1723 mvX3_is t14 rfl dX3_group_54 (xle (xal1 (rv_cat _) (xal1 (rv_cat _) xal0)) (by decide)) (xfr g15) (xlo (xsw1 (rv_cat _) xsw0) (by decide) g16) (xKi hq (fun x18 h17 hq e19 => ?_) (fun _ _ q _ => q))
  replace hq := hq e19
  refine x_if_eq (tgt := 67) dX3_group_57 (by decide) (fun c20 => ?_) (fun c20 => ?_)
  · replace hq := hq.1 c20
    obtain ⟨g21, g22, hq⟩ := hq
    obtain ⟨a23, e25⟩ : ∃ y, y = nx h17 + 1 := ⟨_, rfl⟩
    obtain ⟨h24, e26⟩ : ∃ y, y = nO h17 16 6 := ⟨_, rfl⟩
    refine x_new' cdX3_71 dX3_group_67 g21 g22 e25 e26 (fun f27 => ?_)
    replace hq := hq a23 h24 e25 e26 f27
    have t28 : tg h24 a23 = 16 := by rw [e26, e25]; exact tg_nO
    refine x_dup dX3_group_70 (rv_cat _) ?_
    refine x_iconst (v := 0) dX3_group_71 (by decide) ?_
    refine x_aload_n 1 dX3_group_72 rfl ?_
    have t29 : tg h17 x0 = 4 := e19.tg t14 (by decide)
    have t30 : tg h24 x0 = 4 := by rw [e26]; exact tg_nO_ne e25 f27 t29 (by decide)
    refine x_get (v := rv (fR h24 x0 770)) fdX3_25 dX3_group_73 t30 rfl ?_
    obtain ⟨g31, g32, hq⟩ := hq
    refine x_callI (Yc := YX15_init) (as := [.int 0, rv (fR h24 x0 770)]) (st := [rv a23, rv s2]) q1749 miX15_init (by rw [t28]; decide) rfl dX3_group_76 (xle (xal1 (rv_cat _) (xal1 rfl (xal1 (rv_cat _) xal0))) (by decide)) (xfr g31) (xlo (xsw1 (rv_cat _) (xsw1 (rv_cat _) xsw0)) (by decide) g32) (xKv hq (fun h33 hq e35 => ?_) (fun _ _ q _ => q))
    replace hq := hq e35
    refine xP.pick (lv' := [(0, rv x0), (1, .int x1), (2, rv s2)]) [1, 2, 0] rfl ?_
    exact uX3_group_79 hq
  · replace hq := hq.2 c20
    refine x_aload_n 1 dX3_group_60 rfl ?_
    have t36 : tg h17 x0 = 4 := e19.tg t14 (by decide)
    obtain ⟨g37, g38, hq⟩ := hq
    refine x_callV (Yc := YX3_params) (as := []) (st := [rv s2]) q1891 mvX3_params t36 rfl dX3_group_61 (xle (xal1 (rv_cat _) xal0) (by decide)) (xfr g37) (xlo (xsw1 (rv_cat _) xsw0) (by decide) g38) (xKr hq (fun x40 h39 hq e41 => ?_) (fun _ _ q _ => q))
    replace hq := hq e41
    refine x_goto (tgt := 79) dX3_group_64 (by decide) ?_
    refine xP.pick (lv' := [(0, rv x0), (1, .int x1), (2, rv s2)]) [1, 2, 0] rfl ?_
    exact uX3_group_79 hq
set_option maxRecDepth 100000 in
def bX3_group_20 (G : xG) (fr lo : Nat) (x0 : Nat) (x1 : Int32) (h : xH) (Q : Outcome → xH → Prop) : Prop := tg h x0 = 4 ∧ 1 ≤ fr ∧ 12 ≤ lo ∧ xRv G YX3_step (fr - 1) (lo - 12) [rv x0] h (fun h4 => xext h h4 → nx h4 + 1 ≤ xGN G ∧ us h4 + 6 ≤ xGU G ∧ (∀ (a9 : Nat) (h10 : xH), a9 = nx h4 + 1 → h10 = nO h4 16 6 → xfresh h4 a9 → ((x1 = 0 → bX3_group_39 G fr lo x0 x1 20 a9 a9 h10 Q) ∧ (¬ x1 = 0 → bX3_group_39 G fr lo x0 x1 21 a9 a9 h10 Q)))) (fun r h2 => Q (.threw r) h2)
set_option maxRecDepth 100000 in
theorem uX3_group_20 {G : xG} {fr lo : Nat} {x0 : Nat} {x1 : Int32} {h : xH} {Q : Outcome → xH → Prop} (hq : bX3_group_20 G fr lo x0 x1 h Q) : xP G YX3_group fr lo 20 [(0, rv x0), (1, .int x1)] [] h Q := by
  unfold bX3_group_20 at hq
  refine x_aload_n 0 dX3_group_20 rfl ?_
  obtain ⟨g1, hq⟩ := hq
  obtain ⟨g2, g3, hq⟩ := hq
  refine x_callV (Yc := YX3_step) (as := []) (st := []) q1568 mvX3_step g1 rfl dX3_group_21 (xle (xal1 (rv_cat _) xal0) (by decide)) (xfr g2) (xlo xsw0 (by decide) g3) (xKv hq (fun h4 hq e6 => ?_) (fun _ _ q _ => q))
  replace hq := hq e6
  obtain ⟨g7, g8, hq⟩ := hq
  obtain ⟨a9, e11⟩ : ∃ y, y = nx h4 + 1 := ⟨_, rfl⟩
  obtain ⟨h10, e12⟩ : ∃ y, y = nO h4 16 6 := ⟨_, rfl⟩
  refine x_new' cdX3_71 dX3_group_24 g7 g8 e11 e12 (fun f13 => ?_)
  replace hq := hq a9 h10 e11 e12 f13
  have t14 : tg h10 a9 = 16 := by rw [e12, e11]; exact tg_nO
  refine x_dup dX3_group_27 (rv_cat _) ?_
  refine x_iload_n 1 dX3_group_28 rfl ?_
  refine x_if_eq (tgt := 37) dX3_group_29 (by decide) (fun c15 => ?_) (fun c15 => ?_)
  · replace hq := hq.1 c15
    refine x_bipush (v := 20) dX3_group_37 (by decide) ?_
    exact uX3_group_39 hq
  · replace hq := hq.2 c15
    refine x_bipush (v := 21) dX3_group_32 (by decide) ?_
    refine x_goto (tgt := 39) dX3_group_34 (by decide) ?_
    exact uX3_group_39 hq
set_option maxRecDepth 100000 in
def bX3_group (G : xG) (fr lo : Nat) (x0 : Nat) (h : xH) (Q : Outcome → xH → Prop) : Prop := tg h x0 = 4 ∧ 1 ≤ fr ∧ 13 ≤ lo ∧ xRi G YX3_is (fr - 1) (lo - 13) [rv x0, rv (tx G 12)] h (fun x5 h4 => xext h h4 → ((¬ x5 = 0 → bX3_group_20 G fr lo x0 x5 h4 Q) ∧ (x5 = 0 → 1 ≤ fr ∧ 13 ≤ lo ∧ xRi G YX3_is (fr - 1) (lo - 13) [rv x0, rv (tx G 23)] h4 (fun x12 h11 => xext h4 h11 → ((x12 = 0 → nx h11 + 1 ≤ xGN G ∧ us h11 + 6 ≤ xGU G ∧ (∀ (a17 : Nat) (h18 : xH), a17 = nx h11 + 1 → h18 = nO h11 16 6 → xfresh h11 a17 → 1 ≤ fr ∧ 15 ≤ lo ∧ xRi G YX3_is (fr - 1) (lo - 15) [rv x0, rv (tx G 32)] h18 (fun x28 h27 => xext h18 h27 → ((x28 = 0 → bX3_group_125 G fr lo x0 24 a17 a17 h27 Q) ∧ (¬ x28 = 0 → bX3_group_125 G fr lo x0 25 a17 a17 h27 Q))) (fun r h2 => Q (.threw r) h2))) ∧ (¬ x12 = 0 → bX3_group_20 G fr lo x0 x5 h11 Q))) (fun r h2 => Q (.threw r) h2)))) (fun r h2 => Q (.threw r) h2)
set_option maxRecDepth 100000 in
theorem uX3_group {G : xG} {fr lo : Nat} {x0 : Nat} {h : xH} {Q : Outcome → xH → Prop} (hq : bX3_group G fr lo x0 h Q) : xP G YX3_group fr lo 0 [(0, rv x0)] [] h Q := by
  unfold bX3_group at hq
  refine x_aload_n 0 dX3_group_0 rfl ?_
  refine x_ldcS (n := 12) 93 srX3_142 dX3_group_1 ?_
  obtain ⟨g1, hq⟩ := hq
  obtain ⟨g2, g3, hq⟩ := hq
  refine x_callV (Yc := YX3_is) (as := [rv (tx G 12)]) (st := []) q1723 mvX3_is g1 rfl dX3_group_3 (xle (xal1 (rv_cat _) (xal1 (rv_cat _) xal0)) (by decide)) (xfr g2) (xlo xsw0 (by decide) g3) (xKi hq (fun x5 h4 hq e6 => ?_) (fun _ _ q _ => q))
  replace hq := hq e6
  refine x_istore_n (lv' := [(1, .int x5), (0, rv x0)]) dX3_group_6 (by decide) (by first | rfl | (simp [rv_cat, Value.category]; done) | (simp [rv_cat, Value.category]; decide)) ?_
  refine x_iload_n 0 dX3_group_7 rfl ?_
  refine x_if_ne (tgt := 20) dX3_group_8 (by decide) (fun c7 => ?_) (fun c7 => ?_)
  · replace hq := hq.1 c7
    refine xP.pick (lv' := [(0, rv x0), (1, .int x5)]) [1, 0] rfl ?_
    exact uX3_group_20 hq
  · replace hq := hq.2 c7
    refine x_aload_n 1 dX3_group_11 rfl ?_
    refine x_ldcS (n := 23) 92 srX3_140 dX3_group_12 ?_
    have t8 : tg h4 x0 = 4 := e6.tg g1 (by decide)
    obtain ⟨g9, g10, hq⟩ := hq
    refine x_callV (Yc := YX3_is) (as := [rv (tx G 23)]) (st := []) q1723 mvX3_is t8 rfl dX3_group_14 (xle (xal1 (rv_cat _) (xal1 (rv_cat _) xal0)) (by decide)) (xfr g9) (xlo xsw0 (by decide) g10) (xKi hq (fun x12 h11 hq e13 => ?_) (fun _ _ q _ => q))
    replace hq := hq e13
    refine x_if_eq (tgt := 105) dX3_group_17 (by decide) (fun c14 => ?_) (fun c14 => ?_)
    · replace hq := hq.1 c14
      obtain ⟨g15, g16, hq⟩ := hq
      obtain ⟨a17, e19⟩ : ∃ y, y = nx h11 + 1 := ⟨_, rfl⟩
      obtain ⟨h18, e20⟩ : ∃ y, y = nO h11 16 6 := ⟨_, rfl⟩
      refine x_new' cdX3_71 dX3_group_105 g15 g16 e19 e20 (fun f21 => ?_)
      replace hq := hq a17 h18 e19 e20 f21
      have t22 : tg h18 a17 = 16 := by rw [e20, e19]; exact tg_nO
      refine x_dup dX3_group_108 (rv_cat _) ?_
      refine x_aload_n 1 dX3_group_109 rfl ?_
      refine x_ldcS (n := 32) 91 srX3_165 dX3_group_110 ?_
      have t23 : tg h11 x0 = 4 := e13.tg t8 (by decide)
      have t24 : tg h18 x0 = 4 := by rw [e20]; exact tg_nO_ne e19 f21 t23 (by decide)
      obtain ⟨g25, g26, hq⟩ := hq
      refine x_callV (Yc := YX3_is) (as := [rv (tx G 32)]) (st := [rv a17, rv a17]) q1723 mvX3_is t24 rfl dX3_group_112 (xle (xal1 (rv_cat _) (xal1 (rv_cat _) xal0)) (by decide)) (xfr g25) (xlo (xsw1 (rv_cat _) (xsw1 (rv_cat _) xsw0)) (by decide) g26) (xKi hq (fun x28 h27 hq e29 => ?_) (fun _ _ q _ => q))
      replace hq := hq e29
      refine x_if_eq (tgt := 123) dX3_group_115 (by decide) (fun c30 => ?_) (fun c30 => ?_)
      · replace hq := hq.1 c30
        refine x_bipush (v := 24) dX3_group_123 (by decide) ?_
        refine xP.pick (lv' := [(0, rv x0)]) [1] rfl ?_
        exact uX3_group_125 hq
      · replace hq := hq.2 c30
        refine x_bipush (v := 25) dX3_group_118 (by decide) ?_
        refine x_goto (tgt := 125) dX3_group_120 (by decide) ?_
        refine xP.pick (lv' := [(0, rv x0)]) [1] rfl ?_
        exact uX3_group_125 hq
    · replace hq := hq.2 c14
      refine xP.pick (lv' := [(0, rv x0), (1, .int x5)]) [1, 0] rfl ?_
      exact uX3_group_20 hq
theorem rX3_group {G : xG} {fr lo : Nat} {x0 : Nat} {h : xH} {Q : Outcome → xH → Prop} (hq : bX3_group G fr lo x0 h Q) : xR G YX3_group fr lo [rv x0] h Q := by
  show xP _ _ _ _ _ (lv_args 0 _) _ _ _
  rw [show lv_args 0 [rv x0] = [(0, rv x0)] from (xla1 (rv_cat _) xla0)]
  exact uX3_group hq
set_option maxRecDepth 100000 in
theorem dX3_compound_0 : decode cX3_compound 0 = .ok (.aload_n 0, 1) := by decide +kernel
set_option maxRecDepth 100000 in
theorem dX3_compound_1 : decode cX3_compound 1 = .ok (.new 71, 3) := by decide +kernel
set_option maxRecDepth 100000 in
theorem dX3_compound_4 : decode cX3_compound 4 = .ok (.dup, 1) := by decide +kernel
set_option maxRecDepth 100000 in
theorem dX3_compound_5 : decode cX3_compound 5 = .ok (.bipush 29, 2) := by decide +kernel
set_option maxRecDepth 100000 in
theorem dX3_compound_7 : decode cX3_compound 7 = .ok (.aload_n 0, 1) := by decide +kernel
set_option maxRecDepth 100000 in
theorem dX3_compound_8 : decode cX3_compound 8 = .ok (.ldc 246, 2) := by decide +kernel
set_option maxRecDepth 100000 in
theorem dX3_compound_10 : decode cX3_compound 10 = .ok (.invokevirtual 99, 3) := by decide +kernel
set_option maxRecDepth 100000 in
theorem dX3_compound_13 : decode cX3_compound 13 = .ok (.invokespecial 77, 3) := by decide +kernel
set_option maxRecDepth 100000 in
theorem dX3_compound_16 : decode cX3_compound 16 = .ok (.invokevirtual 247, 3) := by decide +kernel
set_option maxRecDepth 100000 in
theorem dX3_compound_19 : decode cX3_compound 19 = .ok (.astore_n 1, 1) := by decide +kernel
set_option maxRecDepth 100000 in
theorem dX3_compound_20 : decode cX3_compound 20 = .ok (.aload_n 0, 1) := by decide +kernel
set_option maxRecDepth 100000 in
theorem dX3_compound_21 : decode cX3_compound 21 = .ok (.ldc 230, 2) := by decide +kernel
set_option maxRecDepth 100000 in
theorem dX3_compound_23 : decode cX3_compound 23 = .ok (.invokevirtual 99, 3) := by decide +kernel
set_option maxRecDepth 100000 in
theorem dX3_compound_26 : decode cX3_compound 26 = .ok (.pop, 1) := by decide +kernel
set_option maxRecDepth 100000 in
theorem dX3_compound_27 : decode cX3_compound 27 = .ok (.aload_n 1, 1) := by decide +kernel
set_option maxRecDepth 100000 in
theorem dX3_compound_28 : decode cX3_compound 28 = .ok (.areturn, 1) := by decide +kernel
set_option maxRecDepth 100000 in
def bX3_compound (G : xG) (fr lo : Nat) (x0 : Nat) (h : xH) (Q : Outcome → xH → Prop) : Prop := nx h + 1 ≤ xGN G ∧ us h + 6 ≤ xGU G ∧ (∀ (a3 : Nat) (h4 : xH), a3 = nx h + 1 → h4 = nO h 16 6 → xfresh h a3 → tg h4 x0 = 4 ∧ 1 ≤ fr ∧ 17 ≤ lo ∧ xRr G YX3_need (fr - 1) (lo - 17) [rv x0, rv (tx G 2)] h4 (fun x13 h12 => xext h4 h12 → 1 ≤ fr ∧ 16 ≤ lo ∧ xRv G YX15_init (fr - 1) (lo - 16) [rv a3, .int 29, rv x13] h12 (fun h18 => xext h12 h18 → 1 ≤ fr ∧ 13 ≤ lo ∧ xRr G YX3_row (fr - 1) (lo - 13) [rv x0, rv a3] h18 (fun x26 h25 => xext h18 h25 → 1 ≤ fr ∧ 13 ≤ lo ∧ xRr G YX3_need (fr - 1) (lo - 13) [rv x0, rv (tx G 9)] h25 (fun x32 h31 => xext h25 h31 → Q (.returned (some (rv x26))) h31) (fun r h2 => Q (.threw r) h2)) (fun r h2 => Q (.threw r) h2)) (fun r h2 => Q (.threw r) h2)) (fun r h2 => Q (.threw r) h2))
set_option maxRecDepth 100000 in
theorem uX3_compound {G : xG} {fr lo : Nat} {x0 : Nat} {h : xH} {Q : Outcome → xH → Prop} (hq : bX3_compound G fr lo x0 h Q) : xP G YX3_compound fr lo 0 [(0, rv x0)] [] h Q := by
  unfold bX3_compound at hq
  refine x_aload_n 0 dX3_compound_0 rfl ?_
  obtain ⟨g1, g2, hq⟩ := hq
  obtain ⟨a3, e5⟩ : ∃ y, y = nx h + 1 := ⟨_, rfl⟩
  obtain ⟨h4, e6⟩ : ∃ y, y = nO h 16 6 := ⟨_, rfl⟩
  refine x_new' cdX3_71 dX3_compound_1 g1 g2 e5 e6 (fun f7 => ?_)
  replace hq := hq a3 h4 e5 e6 f7
  have t8 : tg h4 a3 = 16 := by rw [e6, e5]; exact tg_nO
  refine x_dup dX3_compound_4 (rv_cat _) ?_
  refine x_bipush (v := 29) dX3_compound_5 (by decide) ?_
  refine x_aload_n 0 dX3_compound_7 rfl ?_
  refine x_ldcS (n := 2) 95 srX3_246 dX3_compound_8 ?_
  obtain ⟨g9, hq⟩ := hq
  obtain ⟨g10, g11, hq⟩ := hq
  refine x_callV (Yc := YX3_need) (as := [rv (tx G 2)]) (st := [.int 29, rv a3, rv a3, rv x0]) q1719 mvX3_need g9 rfl dX3_compound_10 (xle (xal1 (rv_cat _) (xal1 (rv_cat _) xal0)) (by decide)) (xfr g10) (xlo (xsw1 rfl (xsw1 (rv_cat _) (xsw1 (rv_cat _) (xsw1 (rv_cat _) xsw0)))) (by decide) g11) (xKr hq (fun x13 h12 hq e14 => ?_) (fun _ _ q _ => q))
  replace hq := hq e14
  have t15 : tg h12 a3 = 16 := e14.tg t8 (by decide)
  obtain ⟨g16, g17, hq⟩ := hq
  refine x_callI (Yc := YX15_init) (as := [.int 29, rv x13]) (st := [rv a3, rv x0]) q1749 miX15_init (by rw [t15]; decide) rfl dX3_compound_13 (xle (xal1 (rv_cat _) (xal1 rfl (xal1 (rv_cat _) xal0))) (by decide)) (xfr g16) (xlo (xsw1 (rv_cat _) (xsw1 (rv_cat _) xsw0)) (by decide) g17) (xKv hq (fun h18 hq e20 => ?_) (fun _ _ q _ => q))
  replace hq := hq e20
  have t21 : tg h12 x0 = 4 := e14.tg g9 (by decide)
  have t22 : tg h18 x0 = 4 := e20.tg t21 (by decide)
  obtain ⟨g23, g24, hq⟩ := hq
  refine x_callV (Yc := YX3_row) (as := [rv a3]) (st := []) q1906 mvX3_row t22 rfl dX3_compound_16 (xle (xal1 (rv_cat _) (xal1 (rv_cat _) xal0)) (by decide)) (xfr g23) (xlo xsw0 (by decide) g24) (xKr hq (fun x26 h25 hq e27 => ?_) (fun _ _ q _ => q))
  replace hq := hq e27
  refine x_astore_n (lv' := [(1, rv x26), (0, rv x0)]) dX3_compound_19 (by decide) (by first | rfl | (simp [rv_cat, Value.category]; done) | (simp [rv_cat, Value.category]; decide)) ?_
  refine x_aload_n 1 dX3_compound_20 rfl ?_
  refine x_ldcS (n := 9) 88 srX3_230 dX3_compound_21 ?_
  have t28 : tg h25 x0 = 4 := e27.tg t22 (by decide)
  obtain ⟨g29, g30, hq⟩ := hq
  refine x_callV (Yc := YX3_need) (as := [rv (tx G 9)]) (st := []) q1719 mvX3_need t28 rfl dX3_compound_23 (xle (xal1 (rv_cat _) (xal1 (rv_cat _) xal0)) (by decide)) (xfr g29) (xlo xsw0 (by decide) g30) (xKr hq (fun x32 h31 hq e33 => ?_) (fun _ _ q _ => q))
  replace hq := hq e33
  refine x_pop dX3_compound_26 (rv_cat _) ?_
  refine x_aload_n 0 dX3_compound_27 rfl ?_
  exact x_aret rfl xty_O dX3_compound_28 hq
theorem rX3_compound {G : xG} {fr lo : Nat} {x0 : Nat} {h : xH} {Q : Outcome → xH → Prop} (hq : bX3_compound G fr lo x0 h Q) : xR G YX3_compound fr lo [rv x0] h Q := by
  show xP _ _ _ _ _ (lv_args 0 _) _ _ _
  rw [show lv_args 0 [rv x0] = [(0, rv x0)] from (xla1 (rv_cat _) xla0)]
  exact uX3_compound hq
set_option maxRecDepth 100000 in
theorem dX3_row_0 : decode cX3_row 0 = .ok (.aload_n 1, 1) := by decide +kernel
set_option maxRecDepth 100000 in
theorem dX3_row_1 : decode cX3_row 1 = .ok (.aload_n 0, 1) := by decide +kernel
set_option maxRecDepth 100000 in
theorem dX3_row_2 : decode cX3_row 2 = .ok (.invokevirtual 250, 3) := by decide +kernel
set_option maxRecDepth 100000 in
theorem dX3_row_5 : decode cX3_row 5 = .ok (.invokevirtual 84, 3) := by decide +kernel
set_option maxRecDepth 100000 in
theorem dX3_row_8 : decode cX3_row 8 = .ok (.pop, 1) := by decide +kernel
set_option maxRecDepth 100000 in
theorem dX3_row_9 : decode cX3_row 9 = .ok (.aload_n 0, 1) := by decide +kernel
set_option maxRecDepth 100000 in
theorem dX3_row_10 : decode cX3_row 10 = .ok (.ldc 113, 2) := by decide +kernel
set_option maxRecDepth 100000 in
theorem dX3_row_12 : decode cX3_row 12 = .ok (.invokevirtual 90, 3) := by decide +kernel
set_option maxRecDepth 100000 in
theorem dX3_row_15 : decode cX3_row 15 = .ok (.ifCond .ne (-15), 3) := by decide +kernel
set_option maxRecDepth 100000 in
theorem dX3_row_18 : decode cX3_row 18 = .ok (.aload_n 1, 1) := by decide +kernel
set_option maxRecDepth 100000 in
theorem dX3_row_19 : decode cX3_row 19 = .ok (.areturn, 1) := by decide +kernel
def lX3_row_0 (G : xG) (fr lo : Nat) (x0 : Nat) (x1 : Nat) (h : xH) (Q : Outcome → xH → Prop) : Prop := xP G YX3_row fr lo 0 [(0, rv x0), (1, rv x1)] [] h Q
set_option maxRecDepth 100000 in
def bX3_row_0 (G : xG) (fr lo : Nat) (x0 : Nat) (x1 : Nat) (h : xH) (Q : Outcome → xH → Prop) : Prop := tg h x0 = 4 ∧ 1 ≤ fr ∧ 14 ≤ lo ∧ xRr G YX3_statement (fr - 1) (lo - 14) [rv x0] h (fun x5 h4 => xext h h4 → tg h4 x1 = 16 ∧ 1 ≤ fr ∧ 13 ≤ lo ∧ xRr G YX15_add (fr - 1) (lo - 13) [rv x1, rv x5] h4 (fun x11 h10 => xext h4 h10 → 1 ≤ fr ∧ 13 ≤ lo ∧ xRi G YX3_has (fr - 1) (lo - 13) [rv x0, rv (tx G 64)] h10 (fun x18 h17 => xext h10 h17 → ((¬ x18 = 0 → lX3_row_0 G fr lo x0 x1 h17 Q) ∧ (x18 = 0 → Q (.returned (some (rv x1))) h17))) (fun r h2 => Q (.threw r) h2)) (fun r h2 => Q (.threw r) h2)) (fun r h2 => Q (.threw r) h2)
set_option maxRecDepth 100000 in
theorem uX3_row_0 {G : xG} {fr lo : Nat} {x0 : Nat} {x1 : Nat} {h : xH} {Q : Outcome → xH → Prop} (hq : bX3_row_0 G fr lo x0 x1 h Q) : xP G YX3_row fr lo 0 [(0, rv x0), (1, rv x1)] [] h Q := by
  unfold bX3_row_0 at hq
  refine x_aload_n 1 dX3_row_0 rfl ?_
  refine x_aload_n 0 dX3_row_1 rfl ?_
  obtain ⟨g1, hq⟩ := hq
  obtain ⟨g2, g3, hq⟩ := hq
  refine x_callV (Yc := YX3_statement) (as := []) (st := [rv x1]) q1910 mvX3_statement g1 rfl dX3_row_2 (xle (xal1 (rv_cat _) xal0) (by decide)) (xfr g2) (xlo (xsw1 (rv_cat _) xsw0) (by decide) g3) (xKr hq (fun x5 h4 hq e6 => ?_) (fun _ _ q _ => q))
  replace hq := hq e6
  obtain ⟨g7, hq⟩ := hq
  obtain ⟨g8, g9, hq⟩ := hq
  refine x_callV (Yc := YX15_add) (as := [rv x5]) (st := []) q1795 mvX15_add g7 rfl dX3_row_5 (xle (xal1 (rv_cat _) (xal1 (rv_cat _) xal0)) (by decide)) (xfr g8) (xlo xsw0 (by decide) g9) (xKr hq (fun x11 h10 hq e12 => ?_) (fun _ _ q _ => q))
  replace hq := hq e12
  refine x_pop dX3_row_8 (rv_cat _) ?_
  refine x_aload_n 0 dX3_row_9 rfl ?_
  refine x_ldcS (n := 64) 71 srX3_113 dX3_row_10 ?_
  have t13 : tg h4 x0 = 4 := e6.tg g1 (by decide)
  have t14 : tg h10 x0 = 4 := e12.tg t13 (by decide)
  obtain ⟨g15, g16, hq⟩ := hq
  refine x_callV (Yc := YX3_has) (as := [rv (tx G 64)]) (st := []) q1783 mvX3_has t14 rfl dX3_row_12 (xle (xal1 (rv_cat _) (xal1 (rv_cat _) xal0)) (by decide)) (xfr g15) (xlo xsw0 (by decide) g16) (xKi hq (fun x18 h17 hq e19 => ?_) (fun _ _ q _ => q))
  replace hq := hq e19
  refine x_if_ne (tgt := 0) dX3_row_15 (by decide) (fun c20 => ?_) (fun c20 => ?_)
  · replace hq := hq.1 c20
    exact hq
  · replace hq := hq.2 c20
    refine x_aload_n 1 dX3_row_18 rfl ?_
    exact x_aret rfl xty_O dX3_row_19 hq
def bX3_row (G : xG) (fr lo : Nat) (x0 : Nat) (x1 : Nat) (h : xH) (Q : Outcome → xH → Prop) : Prop := bX3_row_0 G fr lo x0 x1 h Q
theorem uX3_row {G : xG} {fr lo : Nat} {x0 : Nat} {x1 : Nat} {h : xH} {Q : Outcome → xH → Prop} (hq : bX3_row G fr lo x0 x1 h Q) : xP G YX3_row fr lo 0 [(0, rv x0), (1, rv x1)] [] h Q :=
  xP.pick (lv' := [(0, rv x0), (1, rv x1)]) [0, 1] rfl (uX3_row_0 hq)
theorem rX3_row {G : xG} {fr lo : Nat} {x0 : Nat} {x1 : Nat} {h : xH} {Q : Outcome → xH → Prop} (hq : bX3_row G fr lo x0 x1 h Q) : xR G YX3_row fr lo [rv x0, rv x1] h Q := by
  show xP _ _ _ _ _ (lv_args 0 _) _ _ _
  rw [show lv_args 0 [rv x0, rv x1] = [(0, rv x0), (1, rv x1)] from (xla1 (rv_cat _) (xla1 (rv_cat _) xla0))]
  exact uX3_row hq
set_option maxRecDepth 100000 in
theorem dX3_statement_0 : decode cX3_statement 0 = .ok (.aload_n 0, 1) := by decide +kernel
set_option maxRecDepth 100000 in
theorem dX3_statement_1 : decode cX3_statement 1 = .ok (.invokevirtual 123, 3) := by decide +kernel
set_option maxRecDepth 100000 in
theorem dX3_statement_4 : decode cX3_statement 4 = .ok (.aload_n 0, 1) := by decide +kernel
set_option maxRecDepth 100000 in
theorem dX3_statement_5 : decode cX3_statement 5 = .ok (.getfield 25, 3) := by decide +kernel
set_option maxRecDepth 100000 in
theorem dX3_statement_8 : decode cX3_statement 8 = .ok (.getfield 39, 3) := by decide +kernel
set_option maxRecDepth 100000 in
theorem dX3_statement_11 : decode cX3_statement 11 = .ok (.getstatic 128, 3) := by decide +kernel
set_option maxRecDepth 100000 in
theorem dX3_statement_14 : decode cX3_statement 14 = .ok (.if_acmp .ne 36, 3) := by decide +kernel
set_option maxRecDepth 100000 in
theorem dX3_statement_17 : decode cX3_statement 17 = .ok (.new 71, 3) := by decide +kernel
set_option maxRecDepth 100000 in
theorem dX3_statement_20 : decode cX3_statement 20 = .ok (.dup, 1) := by decide +kernel
set_option maxRecDepth 100000 in
theorem dX3_statement_21 : decode cX3_statement 21 = .ok (.bipush 27, 2) := by decide +kernel
set_option maxRecDepth 100000 in
theorem dX3_statement_23 : decode cX3_statement 23 = .ok (.aload_n 0, 1) := by decide +kernel
set_option maxRecDepth 100000 in
theorem dX3_statement_24 : decode cX3_statement 24 = .ok (.invokevirtual 65, 3) := by decide +kernel
set_option maxRecDepth 100000 in
theorem dX3_statement_27 : decode cX3_statement 27 = .ok (.invokespecial 77, 3) := by decide +kernel
set_option maxRecDepth 100000 in
theorem dX3_statement_30 : decode cX3_statement 30 = .ok (.astore_n 1, 1) := by decide +kernel
set_option maxRecDepth 100000 in
theorem dX3_statement_31 : decode cX3_statement 31 = .ok (.aload_n 0, 1) := by decide +kernel
set_option maxRecDepth 100000 in
theorem dX3_statement_32 : decode cX3_statement 32 = .ok (.ldc 170, 2) := by decide +kernel
set_option maxRecDepth 100000 in
theorem dX3_statement_34 : decode cX3_statement 34 = .ok (.invokevirtual 99, 3) := by decide +kernel
set_option maxRecDepth 100000 in
theorem dX3_statement_37 : decode cX3_statement 37 = .ok (.pop, 1) := by decide +kernel
set_option maxRecDepth 100000 in
theorem dX3_statement_38 : decode cX3_statement 38 = .ok (.aload_n 1, 1) := by decide +kernel
set_option maxRecDepth 100000 in
theorem dX3_statement_39 : decode cX3_statement 39 = .ok (.aload_n 0, 1) := by decide +kernel
set_option maxRecDepth 100000 in
theorem dX3_statement_40 : decode cX3_statement 40 = .ok (.invokevirtual 253, 3) := by decide +kernel
set_option maxRecDepth 100000 in
theorem dX3_statement_43 : decode cX3_statement 43 = .ok (.invokevirtual 84, 3) := by decide +kernel
set_option maxRecDepth 100000 in
theorem dX3_statement_46 : decode cX3_statement 46 = .ok (.pop, 1) := by decide +kernel
set_option maxRecDepth 100000 in
theorem dX3_statement_47 : decode cX3_statement 47 = .ok (.goto 8, 3) := by decide +kernel
set_option maxRecDepth 100000 in
theorem dX3_statement_50 : decode cX3_statement 50 = .ok (.aload_n 0, 1) := by decide +kernel
set_option maxRecDepth 100000 in
theorem dX3_statement_51 : decode cX3_statement 51 = .ok (.invokevirtual 253, 3) := by decide +kernel
set_option maxRecDepth 100000 in
theorem dX3_statement_54 : decode cX3_statement 54 = .ok (.astore_n 1, 1) := by decide +kernel
set_option maxRecDepth 100000 in
theorem dX3_statement_55 : decode cX3_statement 55 = .ok (.aload_n 0, 1) := by decide +kernel
set_option maxRecDepth 100000 in
theorem dX3_statement_56 : decode cX3_statement 56 = .ok (.dup, 1) := by decide +kernel
set_option maxRecDepth 100000 in
theorem dX3_statement_57 : decode cX3_statement 57 = .ok (.getfield 68, 3) := by decide +kernel
set_option maxRecDepth 100000 in
theorem dX3_statement_60 : decode cX3_statement 60 = .ok (.iconst 1, 1) := by decide +kernel
set_option maxRecDepth 100000 in
theorem dX3_statement_61 : decode cX3_statement 61 = .ok (.isub, 1) := by decide +kernel
set_option maxRecDepth 100000 in
theorem dX3_statement_62 : decode cX3_statement 62 = .ok (.putfield 68, 3) := by decide +kernel
set_option maxRecDepth 100000 in
theorem dX3_statement_65 : decode cX3_statement 65 = .ok (.aload_n 1, 1) := by decide +kernel
set_option maxRecDepth 100000 in
theorem dX3_statement_66 : decode cX3_statement 66 = .ok (.areturn, 1) := by decide +kernel
set_option maxRecDepth 100000 in
def bX3_statement_55 (G : xG) (fr lo : Nat) (x0 : Nat) (x1 : Nat) (h : xH) (Q : Outcome → xH → Prop) : Prop := tg h x0 = 4 ∧ (∀ h2 : xH, h2 = sI h x0 772 ((fI h x0 772) - 1) → Q (.returned (some (rv x1))) h2)
set_option maxRecDepth 100000 in
theorem uX3_statement_55 {G : xG} {fr lo : Nat} {x0 : Nat} {x1 : Nat} {h : xH} {Q : Outcome → xH → Prop} (hq : bX3_statement_55 G fr lo x0 x1 h Q) : xP G YX3_statement fr lo 55 [(0, rv x0), (1, rv x1)] [] h Q := by
  unfold bX3_statement_55 at hq
  refine x_aload_n 0 dX3_statement_55 rfl ?_
  refine x_dup dX3_statement_56 (rv_cat _) ?_
  obtain ⟨g1, hq⟩ := hq
  refine x_get (v := .int (fI h x0 772)) fdX3_68 dX3_statement_57 g1 rfl ?_
  refine x_iconst (v := 1) dX3_statement_60 (by decide) ?_
  refine x_isub dX3_statement_61 ?_
  obtain ⟨h2, e3⟩ : ∃ y, y = sI h x0 772 ((fI h x0 772) - 1) := ⟨_, rfl⟩
  replace hq := hq h2 e3
  refine x_putI fdX3_68 xty_I1 dX3_statement_62 g1 (Or.inl (by rw [g1]; rfl)) xnI rfl e3 ?_
  refine x_aload_n 1 dX3_statement_65 rfl ?_
  exact x_aret rfl xty_O dX3_statement_66 hq
set_option maxRecDepth 100000 in
def bX3_statement (G : xG) (fr lo : Nat) (x0 : Nat) (h : xH) (Q : Outcome → xH → Prop) : Prop := tg h x0 = 4 ∧ 1 ≤ fr ∧ 12 ≤ lo ∧ xRv G YX3_deeper (fr - 1) (lo - 12) [rv x0] h (fun h4 => xext h h4 → tg h4 (fR h4 x0 770) = 15 ∧ ((¬ (fR h4 (fR h4 x0 770) 3584) = (xGS G 2) → 1 ≤ fr ∧ 14 ≤ lo ∧ xRr G YX3_plain (fr - 1) (lo - 14) [rv x0] h4 (fun x13 h12 => xext h4 h12 → bX3_statement_55 G fr lo x0 x13 h12 Q) (fun r h2 => Q (.threw r) h2)) ∧ ((fR h4 (fR h4 x0 770) 3584) = (xGS G 2) → nx h4 + 1 ≤ xGN G ∧ us h4 + 6 ≤ xGU G ∧ (∀ (a17 : Nat) (h18 : xH), a17 = nx h4 + 1 → h18 = nO h4 16 6 → xfresh h4 a17 → 1 ≤ fr ∧ 16 ≤ lo ∧ xRr G YX3_take (fr - 1) (lo - 16) [rv x0] h18 (fun x27 h26 => xext h18 h26 → 1 ≤ fr ∧ 15 ≤ lo ∧ xRv G YX15_init (fr - 1) (lo - 15) [rv a17, .int 27, rv x27] h26 (fun h32 => xext h26 h32 → 1 ≤ fr ∧ 13 ≤ lo ∧ xRr G YX3_need (fr - 1) (lo - 13) [rv x0, rv (tx G 65)] h32 (fun x40 h39 => xext h32 h39 → 1 ≤ fr ∧ 15 ≤ lo ∧ xRr G YX3_plain (fr - 1) (lo - 15) [rv x0] h39 (fun x46 h45 => xext h39 h45 → 1 ≤ fr ∧ 13 ≤ lo ∧ xRr G YX15_add (fr - 1) (lo - 13) [rv a17, rv x46] h45 (fun x54 h53 => xext h45 h53 → bX3_statement_55 G fr lo x0 a17 h53 Q) (fun r h2 => Q (.threw r) h2)) (fun r h2 => Q (.threw r) h2)) (fun r h2 => Q (.threw r) h2)) (fun r h2 => Q (.threw r) h2)) (fun r h2 => Q (.threw r) h2))))) (fun r h2 => Q (.threw r) h2)
set_option maxRecDepth 100000 in
theorem uX3_statement {G : xG} {fr lo : Nat} {x0 : Nat} {h : xH} {Q : Outcome → xH → Prop} (hq : bX3_statement G fr lo x0 h Q) : xP G YX3_statement fr lo 0 [(0, rv x0)] [] h Q := by
  unfold bX3_statement at hq
  refine x_aload_n 0 dX3_statement_0 rfl ?_
  obtain ⟨g1, hq⟩ := hq
  obtain ⟨g2, g3, hq⟩ := hq
  refine x_callV (Yc := YX3_deeper) (as := []) (st := []) q1806 mvX3_deeper g1 rfl dX3_statement_1 (xle (xal1 (rv_cat _) xal0) (by decide)) (xfr g2) (xlo xsw0 (by decide) g3) (xKv hq (fun h4 hq e6 => ?_) (fun _ _ q _ => q))
  replace hq := hq e6
  refine x_aload_n 0 dX3_statement_4 rfl ?_
  have t7 : tg h4 x0 = 4 := e6.tg g1 (by decide)
  refine x_get (v := rv (fR h4 x0 770)) fdX3_25 dX3_statement_5 t7 rfl ?_
  obtain ⟨g8, hq⟩ := hq
  refine x_getN (v := rv (fR h4 (fR h4 x0 770) 3584)) gfX3_39 dX3_statement_8 g8 rfl ?_
  refine x_gets (v := rv (xGS G 2)) 2 rfl q1811 (by simp [xsv]) dX3_statement_11 ?_
  refine x_acmp_ne (tgt := 50) dX3_statement_14 (by decide) (fun c9 => ?_) (fun c9 => ?_)
  · replace hq := hq.1 c9
    refine x_aload_n 0 dX3_statement_50 rfl ?_
    obtain ⟨g10, g11, hq⟩ := hq
    refine x_callV (Yc := YX3_plain) (as := []) (st := []) q1914 mvX3_plain t7 rfl dX3_statement_51 (xle (xal1 (rv_cat _) xal0) (by decide)) (xfr g10) (xlo xsw0 (by decide) g11) (xKr hq (fun x13 h12 hq e14 => ?_) (fun _ _ q _ => q))
    replace hq := hq e14
    refine x_astore_n (lv' := [(1, rv x13), (0, rv x0)]) dX3_statement_54 (by decide) (by first | rfl | (simp [rv_cat, Value.category]; done) | (simp [rv_cat, Value.category]; decide)) ?_
    refine xP.pick (lv' := [(0, rv x0), (1, rv x13)]) [1, 0] rfl ?_
    exact uX3_statement_55 hq
  · replace hq := hq.2 c9
    obtain ⟨g15, g16, hq⟩ := hq
    obtain ⟨a17, e19⟩ : ∃ y, y = nx h4 + 1 := ⟨_, rfl⟩
    obtain ⟨h18, e20⟩ : ∃ y, y = nO h4 16 6 := ⟨_, rfl⟩
    refine x_new' cdX3_71 dX3_statement_17 g15 g16 e19 e20 (fun f21 => ?_)
    replace hq := hq a17 h18 e19 e20 f21
    have t22 : tg h18 a17 = 16 := by rw [e20, e19]; exact tg_nO
    refine x_dup dX3_statement_20 (rv_cat _) ?_
    refine x_bipush (v := 27) dX3_statement_21 (by decide) ?_
    refine x_aload_n 0 dX3_statement_23 rfl ?_
    have t23 : tg h18 x0 = 4 := by rw [e20]; exact tg_nO_ne e19 f21 t7 (by decide)
    obtain ⟨g24, g25, hq⟩ := hq
    refine x_callV (Yc := YX3_take) (as := []) (st := [.int 27, rv a17, rv a17]) q1738 mvX3_take t23 rfl dX3_statement_24 (xle (xal1 (rv_cat _) xal0) (by decide)) (xfr g24) (xlo (xsw1 rfl (xsw1 (rv_cat _) (xsw1 (rv_cat _) xsw0))) (by decide) g25) (xKr hq (fun x27 h26 hq e28 => ?_) (fun _ _ q _ => q))
    replace hq := hq e28
    have t29 : tg h26 a17 = 16 := e28.tg t22 (by decide)
    obtain ⟨g30, g31, hq⟩ := hq
    refine x_callI (Yc := YX15_init) (as := [.int 27, rv x27]) (st := [rv a17]) q1749 miX15_init (by rw [t29]; decide) rfl dX3_statement_27 (xle (xal1 (rv_cat _) (xal1 rfl (xal1 (rv_cat _) xal0))) (by decide)) (xfr g30) (xlo (xsw1 (rv_cat _) xsw0) (by decide) g31) (xKv hq (fun h32 hq e34 => ?_) (fun _ _ q _ => q))
    replace hq := hq e34
    refine x_astore_n (lv' := [(1, rv a17), (0, rv x0)]) dX3_statement_30 (by decide) (by first | rfl | (simp [rv_cat, Value.category]; done) | (simp [rv_cat, Value.category]; decide)) ?_
    refine x_aload_n 1 dX3_statement_31 rfl ?_
    refine x_ldcS (n := 65) 87 srX3_170 dX3_statement_32 ?_
    have t35 : tg h26 x0 = 4 := e28.tg t23 (by decide)
    have t36 : tg h32 x0 = 4 := e34.tg t35 (by decide)
    obtain ⟨g37, g38, hq⟩ := hq
    refine x_callV (Yc := YX3_need) (as := [rv (tx G 65)]) (st := []) q1719 mvX3_need t36 rfl dX3_statement_34 (xle (xal1 (rv_cat _) (xal1 (rv_cat _) xal0)) (by decide)) (xfr g37) (xlo xsw0 (by decide) g38) (xKr hq (fun x40 h39 hq e41 => ?_) (fun _ _ q _ => q))
    replace hq := hq e41
    refine x_pop dX3_statement_37 (rv_cat _) ?_
    refine x_aload_n 0 dX3_statement_38 rfl ?_
    refine x_aload_n 1 dX3_statement_39 rfl ?_
    have t42 : tg h39 x0 = 4 := e41.tg t36 (by decide)
    obtain ⟨g43, g44, hq⟩ := hq
    refine x_callV (Yc := YX3_plain) (as := []) (st := [rv a17]) q1914 mvX3_plain t42 rfl dX3_statement_40 (xle (xal1 (rv_cat _) xal0) (by decide)) (xfr g43) (xlo (xsw1 (rv_cat _) xsw0) (by decide) g44) (xKr hq (fun x46 h45 hq e47 => ?_) (fun _ _ q _ => q))
    replace hq := hq e47
    have t48 : tg h32 a17 = 16 := e34.tg t29 (by decide)
    have t49 : tg h39 a17 = 16 := e41.tg t48 (by decide)
    have t50 : tg h45 a17 = 16 := e47.tg t49 (by decide)
    obtain ⟨g51, g52, hq⟩ := hq
    refine x_callV (Yc := YX15_add) (as := [rv x46]) (st := []) q1795 mvX15_add t50 rfl dX3_statement_43 (xle (xal1 (rv_cat _) (xal1 (rv_cat _) xal0)) (by decide)) (xfr g51) (xlo xsw0 (by decide) g52) (xKr hq (fun x54 h53 hq e55 => ?_) (fun _ _ q _ => q))
    replace hq := hq e55
    refine x_pop dX3_statement_46 (rv_cat _) ?_
    refine x_goto (tgt := 55) dX3_statement_47 (by decide) ?_
    refine xP.pick (lv' := [(0, rv x0), (1, rv a17)]) [1, 0] rfl ?_
    exact uX3_statement_55 hq
theorem rX3_statement {G : xG} {fr lo : Nat} {x0 : Nat} {h : xH} {Q : Outcome → xH → Prop} (hq : bX3_statement G fr lo x0 h Q) : xR G YX3_statement fr lo [rv x0] h Q := by
  show xP _ _ _ _ _ (lv_args 0 _) _ _ _
  rw [show lv_args 0 [rv x0] = [(0, rv x0)] from (xla1 (rv_cat _) xla0)]
  exact uX3_statement hq
set_option maxRecDepth 100000 in
theorem dX3_plain_0 : decode cX3_plain 0 = .ok (.aload_n 0, 1) := by decide +kernel
set_option maxRecDepth 100000 in
theorem dX3_plain_1 : decode cX3_plain 1 = .ok (.invokevirtual 157, 3) := by decide +kernel
set_option maxRecDepth 100000 in
theorem dX3_plain_4 : decode cX3_plain 4 = .ok (.ifCond .eq 8, 3) := by decide +kernel
set_option maxRecDepth 100000 in
theorem dX3_plain_7 : decode cX3_plain 7 = .ok (.aload_n 0, 1) := by decide +kernel
set_option maxRecDepth 100000 in
theorem dX3_plain_8 : decode cX3_plain 8 = .ok (.invokevirtual 256, 3) := by decide +kernel
set_option maxRecDepth 100000 in
theorem dX3_plain_11 : decode cX3_plain 11 = .ok (.areturn, 1) := by decide +kernel
set_option maxRecDepth 100000 in
theorem dX3_plain_12 : decode cX3_plain 12 = .ok (.aload_n 0, 1) := by decide +kernel
set_option maxRecDepth 100000 in
theorem dX3_plain_13 : decode cX3_plain 13 = .ok (.ldc 246, 2) := by decide +kernel
set_option maxRecDepth 100000 in
theorem dX3_plain_15 : decode cX3_plain 15 = .ok (.invokevirtual 60, 3) := by decide +kernel
set_option maxRecDepth 100000 in
theorem dX3_plain_18 : decode cX3_plain 18 = .ok (.ifCond .eq 8, 3) := by decide +kernel
set_option maxRecDepth 100000 in
theorem dX3_plain_21 : decode cX3_plain 21 = .ok (.aload_n 0, 1) := by decide +kernel
set_option maxRecDepth 100000 in
theorem dX3_plain_22 : decode cX3_plain 22 = .ok (.invokevirtual 147, 3) := by decide +kernel
set_option maxRecDepth 100000 in
theorem dX3_plain_25 : decode cX3_plain 25 = .ok (.areturn, 1) := by decide +kernel
set_option maxRecDepth 100000 in
theorem dX3_plain_26 : decode cX3_plain 26 = .ok (.aload_n 0, 1) := by decide +kernel
set_option maxRecDepth 100000 in
theorem dX3_plain_27 : decode cX3_plain 27 = .ok (.getfield 25, 3) := by decide +kernel
set_option maxRecDepth 100000 in
theorem dX3_plain_30 : decode cX3_plain 30 = .ok (.astore_n 1, 1) := by decide +kernel
set_option maxRecDepth 100000 in
theorem dX3_plain_31 : decode cX3_plain 31 = .ok (.aload_n 0, 1) := by decide +kernel
set_option maxRecDepth 100000 in
theorem dX3_plain_32 : decode cX3_plain 32 = .ok (.ldc_w 259, 3) := by decide +kernel
set_option maxRecDepth 100000 in
theorem dX3_plain_35 : decode cX3_plain 35 = .ok (.invokevirtual 90, 3) := by decide +kernel
set_option maxRecDepth 100000 in
theorem dX3_plain_38 : decode cX3_plain 38 = .ok (.ifCond .eq 61, 3) := by decide +kernel
set_option maxRecDepth 100000 in
theorem dX3_plain_41 : decode cX3_plain 41 = .ok (.new 71, 3) := by decide +kernel
set_option maxRecDepth 100000 in
theorem dX3_plain_44 : decode cX3_plain 44 = .ok (.dup, 1) := by decide +kernel
set_option maxRecDepth 100000 in
theorem dX3_plain_45 : decode cX3_plain 45 = .ok (.bipush 30, 2) := by decide +kernel
set_option maxRecDepth 100000 in
theorem dX3_plain_47 : decode cX3_plain 47 = .ok (.aload_n 1, 1) := by decide +kernel
set_option maxRecDepth 100000 in
theorem dX3_plain_48 : decode cX3_plain 48 = .ok (.invokespecial 77, 3) := by decide +kernel
set_option maxRecDepth 100000 in
theorem dX3_plain_51 : decode cX3_plain 51 = .ok (.aload_n 0, 1) := by decide +kernel
set_option maxRecDepth 100000 in
theorem dX3_plain_52 : decode cX3_plain 52 = .ok (.invokevirtual 261, 3) := by decide +kernel
set_option maxRecDepth 100000 in
theorem dX3_plain_55 : decode cX3_plain 55 = .ok (.invokevirtual 84, 3) := by decide +kernel
set_option maxRecDepth 100000 in
theorem dX3_plain_58 : decode cX3_plain 58 = .ok (.astore_n 2, 1) := by decide +kernel
set_option maxRecDepth 100000 in
theorem dX3_plain_59 : decode cX3_plain 59 = .ok (.aload_n 0, 1) := by decide +kernel
set_option maxRecDepth 100000 in
theorem dX3_plain_60 : decode cX3_plain 60 = .ok (.ldc_w 264, 3) := by decide +kernel
set_option maxRecDepth 100000 in
theorem dX3_plain_63 : decode cX3_plain 63 = .ok (.invokevirtual 99, 3) := by decide +kernel
set_option maxRecDepth 100000 in
theorem dX3_plain_66 : decode cX3_plain 66 = .ok (.pop, 1) := by decide +kernel
set_option maxRecDepth 100000 in
theorem dX3_plain_67 : decode cX3_plain 67 = .ok (.aload_n 2, 1) := by decide +kernel
set_option maxRecDepth 100000 in
theorem dX3_plain_68 : decode cX3_plain 68 = .ok (.aload_n 0, 1) := by decide +kernel
set_option maxRecDepth 100000 in
theorem dX3_plain_69 : decode cX3_plain 69 = .ok (.invokevirtual 250, 3) := by decide +kernel
set_option maxRecDepth 100000 in
theorem dX3_plain_72 : decode cX3_plain 72 = .ok (.invokevirtual 84, 3) := by decide +kernel
set_option maxRecDepth 100000 in
theorem dX3_plain_75 : decode cX3_plain 75 = .ok (.pop, 1) := by decide +kernel
set_option maxRecDepth 100000 in
theorem dX3_plain_76 : decode cX3_plain 76 = .ok (.aload_n 0, 1) := by decide +kernel
set_option maxRecDepth 100000 in
theorem dX3_plain_77 : decode cX3_plain 77 = .ok (.ldc_w 266, 3) := by decide +kernel
set_option maxRecDepth 100000 in
theorem dX3_plain_80 : decode cX3_plain 80 = .ok (.invokevirtual 90, 3) := by decide +kernel
set_option maxRecDepth 100000 in
theorem dX3_plain_83 : decode cX3_plain 83 = .ok (.ifCond .eq 14, 3) := by decide +kernel
set_option maxRecDepth 100000 in
theorem dX3_plain_86 : decode cX3_plain 86 = .ok (.aload_n 2, 1) := by decide +kernel
set_option maxRecDepth 100000 in
theorem dX3_plain_87 : decode cX3_plain 87 = .ok (.aload_n 0, 1) := by decide +kernel
set_option maxRecDepth 100000 in
theorem dX3_plain_88 : decode cX3_plain 88 = .ok (.invokevirtual 250, 3) := by decide +kernel
set_option maxRecDepth 100000 in
theorem dX3_plain_91 : decode cX3_plain 91 = .ok (.invokevirtual 84, 3) := by decide +kernel
set_option maxRecDepth 100000 in
theorem dX3_plain_94 : decode cX3_plain 94 = .ok (.goto 4, 3) := by decide +kernel
set_option maxRecDepth 100000 in
theorem dX3_plain_97 : decode cX3_plain 97 = .ok (.aload_n 2, 1) := by decide +kernel
set_option maxRecDepth 100000 in
theorem dX3_plain_98 : decode cX3_plain 98 = .ok (.areturn, 1) := by decide +kernel
set_option maxRecDepth 100000 in
theorem dX3_plain_99 : decode cX3_plain 99 = .ok (.aload_n 0, 1) := by decide +kernel
set_option maxRecDepth 100000 in
theorem dX3_plain_100 : decode cX3_plain 100 = .ok (.ldc 238, 2) := by decide +kernel
set_option maxRecDepth 100000 in
theorem dX3_plain_102 : decode cX3_plain 102 = .ok (.invokevirtual 90, 3) := by decide +kernel
set_option maxRecDepth 100000 in
theorem dX3_plain_105 : decode cX3_plain 105 = .ok (.ifCond .eq 9, 3) := by decide +kernel
set_option maxRecDepth 100000 in
theorem dX3_plain_108 : decode cX3_plain 108 = .ok (.aload_n 0, 1) := by decide +kernel
set_option maxRecDepth 100000 in
theorem dX3_plain_109 : decode cX3_plain 109 = .ok (.aload_n 1, 1) := by decide +kernel
set_option maxRecDepth 100000 in
theorem dX3_plain_110 : decode cX3_plain 110 = .ok (.invokevirtual 268, 3) := by decide +kernel
set_option maxRecDepth 100000 in
theorem dX3_plain_113 : decode cX3_plain 113 = .ok (.areturn, 1) := by decide +kernel
set_option maxRecDepth 100000 in
theorem dX3_plain_114 : decode cX3_plain 114 = .ok (.aload_n 0, 1) := by decide +kernel
set_option maxRecDepth 100000 in
theorem dX3_plain_115 : decode cX3_plain 115 = .ok (.ldc_w 272, 3) := by decide +kernel
set_option maxRecDepth 100000 in
theorem dX3_plain_118 : decode cX3_plain 118 = .ok (.invokevirtual 90, 3) := by decide +kernel
set_option maxRecDepth 100000 in
theorem dX3_plain_121 : decode cX3_plain 121 = .ok (.ifCond .eq 38, 3) := by decide +kernel
set_option maxRecDepth 100000 in
theorem dX3_plain_124 : decode cX3_plain 124 = .ok (.new 71, 3) := by decide +kernel
set_option maxRecDepth 100000 in
theorem dX3_plain_127 : decode cX3_plain 127 = .ok (.dup, 1) := by decide +kernel
set_option maxRecDepth 100000 in
theorem dX3_plain_128 : decode cX3_plain 128 = .ok (.bipush 33, 2) := by decide +kernel
set_option maxRecDepth 100000 in
theorem dX3_plain_130 : decode cX3_plain 130 = .ok (.aload_n 1, 1) := by decide +kernel
set_option maxRecDepth 100000 in
theorem dX3_plain_131 : decode cX3_plain 131 = .ok (.invokespecial 77, 3) := by decide +kernel
set_option maxRecDepth 100000 in
theorem dX3_plain_134 : decode cX3_plain 134 = .ok (.aload_n 0, 1) := by decide +kernel
set_option maxRecDepth 100000 in
theorem dX3_plain_135 : decode cX3_plain 135 = .ok (.invokevirtual 261, 3) := by decide +kernel
set_option maxRecDepth 100000 in
theorem dX3_plain_138 : decode cX3_plain 138 = .ok (.invokevirtual 84, 3) := by decide +kernel
set_option maxRecDepth 100000 in
theorem dX3_plain_141 : decode cX3_plain 141 = .ok (.astore_n 2, 1) := by decide +kernel
set_option maxRecDepth 100000 in
theorem dX3_plain_142 : decode cX3_plain 142 = .ok (.aload_n 0, 1) := by decide +kernel
set_option maxRecDepth 100000 in
theorem dX3_plain_143 : decode cX3_plain 143 = .ok (.ldc_w 274, 3) := by decide +kernel
set_option maxRecDepth 100000 in
theorem dX3_plain_146 : decode cX3_plain 146 = .ok (.invokevirtual 99, 3) := by decide +kernel
set_option maxRecDepth 100000 in
theorem dX3_plain_149 : decode cX3_plain 149 = .ok (.pop, 1) := by decide +kernel
set_option maxRecDepth 100000 in
theorem dX3_plain_150 : decode cX3_plain 150 = .ok (.aload_n 2, 1) := by decide +kernel
set_option maxRecDepth 100000 in
theorem dX3_plain_151 : decode cX3_plain 151 = .ok (.aload_n 0, 1) := by decide +kernel
set_option maxRecDepth 100000 in
theorem dX3_plain_152 : decode cX3_plain 152 = .ok (.invokevirtual 250, 3) := by decide +kernel
set_option maxRecDepth 100000 in
theorem dX3_plain_155 : decode cX3_plain 155 = .ok (.invokevirtual 84, 3) := by decide +kernel
set_option maxRecDepth 100000 in
theorem dX3_plain_158 : decode cX3_plain 158 = .ok (.areturn, 1) := by decide +kernel
set_option maxRecDepth 100000 in
theorem dX3_plain_159 : decode cX3_plain 159 = .ok (.aload_n 0, 1) := by decide +kernel
set_option maxRecDepth 100000 in
theorem dX3_plain_160 : decode cX3_plain 160 = .ok (.ldc_w 276, 3) := by decide +kernel
set_option maxRecDepth 100000 in
theorem dX3_plain_163 : decode cX3_plain 163 = .ok (.invokevirtual 90, 3) := by decide +kernel
set_option maxRecDepth 100000 in
theorem dX3_plain_166 : decode cX3_plain 166 = .ok (.ifCond .eq 59, 3) := by decide +kernel
set_option maxRecDepth 100000 in
theorem dX3_plain_169 : decode cX3_plain 169 = .ok (.new 71, 3) := by decide +kernel
set_option maxRecDepth 100000 in
theorem dX3_plain_172 : decode cX3_plain 172 = .ok (.dup, 1) := by decide +kernel
set_option maxRecDepth 100000 in
theorem dX3_plain_173 : decode cX3_plain 173 = .ok (.bipush 34, 2) := by decide +kernel
set_option maxRecDepth 100000 in
theorem dX3_plain_175 : decode cX3_plain 175 = .ok (.aload_n 1, 1) := by decide +kernel
set_option maxRecDepth 100000 in
theorem dX3_plain_176 : decode cX3_plain 176 = .ok (.invokespecial 77, 3) := by decide +kernel
set_option maxRecDepth 100000 in
theorem dX3_plain_179 : decode cX3_plain 179 = .ok (.aload_n 0, 1) := by decide +kernel
set_option maxRecDepth 100000 in
theorem dX3_plain_180 : decode cX3_plain 180 = .ok (.new 71, 3) := by decide +kernel
set_option maxRecDepth 100000 in
theorem dX3_plain_183 : decode cX3_plain 183 = .ok (.dup, 1) := by decide +kernel
set_option maxRecDepth 100000 in
theorem dX3_plain_184 : decode cX3_plain 184 = .ok (.bipush 29, 2) := by decide +kernel
set_option maxRecDepth 100000 in
theorem dX3_plain_186 : decode cX3_plain 186 = .ok (.aload_n 1, 1) := by decide +kernel
set_option maxRecDepth 100000 in
theorem dX3_plain_187 : decode cX3_plain 187 = .ok (.invokespecial 77, 3) := by decide +kernel
set_option maxRecDepth 100000 in
theorem dX3_plain_190 : decode cX3_plain 190 = .ok (.invokevirtual 247, 3) := by decide +kernel
set_option maxRecDepth 100000 in
theorem dX3_plain_193 : decode cX3_plain 193 = .ok (.invokevirtual 84, 3) := by decide +kernel
set_option maxRecDepth 100000 in
theorem dX3_plain_196 : decode cX3_plain 196 = .ok (.astore_n 2, 1) := by decide +kernel
set_option maxRecDepth 100000 in
theorem dX3_plain_197 : decode cX3_plain 197 = .ok (.aload_n 2, 1) := by decide +kernel
set_option maxRecDepth 100000 in
theorem dX3_plain_198 : decode cX3_plain 198 = .ok (.new 71, 3) := by decide +kernel
set_option maxRecDepth 100000 in
theorem dX3_plain_201 : decode cX3_plain 201 = .ok (.dup, 1) := by decide +kernel
set_option maxRecDepth 100000 in
theorem dX3_plain_202 : decode cX3_plain 202 = .ok (.bipush 35, 2) := by decide +kernel
set_option maxRecDepth 100000 in
theorem dX3_plain_204 : decode cX3_plain 204 = .ok (.aload_n 0, 1) := by decide +kernel
set_option maxRecDepth 100000 in
theorem dX3_plain_205 : decode cX3_plain 205 = .ok (.ldc_w 278, 3) := by decide +kernel
set_option maxRecDepth 100000 in
theorem dX3_plain_208 : decode cX3_plain 208 = .ok (.invokevirtual 99, 3) := by decide +kernel
set_option maxRecDepth 100000 in
theorem dX3_plain_211 : decode cX3_plain 211 = .ok (.invokespecial 77, 3) := by decide +kernel
set_option maxRecDepth 100000 in
theorem dX3_plain_214 : decode cX3_plain 214 = .ok (.aload_n 0, 1) := by decide +kernel
set_option maxRecDepth 100000 in
theorem dX3_plain_215 : decode cX3_plain 215 = .ok (.invokevirtual 261, 3) := by decide +kernel
set_option maxRecDepth 100000 in
theorem dX3_plain_218 : decode cX3_plain 218 = .ok (.invokevirtual 84, 3) := by decide +kernel
set_option maxRecDepth 100000 in
theorem dX3_plain_221 : decode cX3_plain 221 = .ok (.invokevirtual 84, 3) := by decide +kernel
set_option maxRecDepth 100000 in
theorem dX3_plain_224 : decode cX3_plain 224 = .ok (.areturn, 1) := by decide +kernel
set_option maxRecDepth 100000 in
theorem dX3_plain_225 : decode cX3_plain 225 = .ok (.aload_n 0, 1) := by decide +kernel
set_option maxRecDepth 100000 in
theorem dX3_plain_226 : decode cX3_plain 226 = .ok (.ldc_w 280, 3) := by decide +kernel
set_option maxRecDepth 100000 in
theorem dX3_plain_229 : decode cX3_plain 229 = .ok (.invokevirtual 90, 3) := by decide +kernel
set_option maxRecDepth 100000 in
theorem dX3_plain_232 : decode cX3_plain 232 = .ok (.ifCond .eq 9, 3) := by decide +kernel
set_option maxRecDepth 100000 in
theorem dX3_plain_235 : decode cX3_plain 235 = .ok (.aload_n 0, 1) := by decide +kernel
set_option maxRecDepth 100000 in
theorem dX3_plain_236 : decode cX3_plain 236 = .ok (.aload_n 1, 1) := by decide +kernel
set_option maxRecDepth 100000 in
theorem dX3_plain_237 : decode cX3_plain 237 = .ok (.invokevirtual 282, 3) := by decide +kernel
set_option maxRecDepth 100000 in
theorem dX3_plain_240 : decode cX3_plain 240 = .ok (.areturn, 1) := by decide +kernel
set_option maxRecDepth 100000 in
theorem dX3_plain_241 : decode cX3_plain 241 = .ok (.aload_n 0, 1) := by decide +kernel
set_option maxRecDepth 100000 in
theorem dX3_plain_242 : decode cX3_plain 242 = .ok (.ldc_w 285, 3) := by decide +kernel
set_option maxRecDepth 100000 in
theorem dX3_plain_245 : decode cX3_plain 245 = .ok (.invokevirtual 90, 3) := by decide +kernel
set_option maxRecDepth 100000 in
theorem dX3_plain_248 : decode cX3_plain 248 = .ok (.ifCond .eq 11, 3) := by decide +kernel
set_option maxRecDepth 100000 in
theorem dX3_plain_251 : decode cX3_plain 251 = .ok (.aload_n 0, 1) := by decide +kernel
set_option maxRecDepth 100000 in
theorem dX3_plain_252 : decode cX3_plain 252 = .ok (.bipush 38, 2) := by decide +kernel
set_option maxRecDepth 100000 in
theorem dX3_plain_254 : decode cX3_plain 254 = .ok (.aload_n 1, 1) := by decide +kernel
set_option maxRecDepth 100000 in
theorem dX3_plain_255 : decode cX3_plain 255 = .ok (.invokevirtual 287, 3) := by decide +kernel
set_option maxRecDepth 100000 in
theorem dX3_plain_258 : decode cX3_plain 258 = .ok (.areturn, 1) := by decide +kernel
set_option maxRecDepth 100000 in
theorem dX3_plain_259 : decode cX3_plain 259 = .ok (.aload_n 0, 1) := by decide +kernel
set_option maxRecDepth 100000 in
theorem dX3_plain_260 : decode cX3_plain 260 = .ok (.ldc_w 290, 3) := by decide +kernel
set_option maxRecDepth 100000 in
theorem dX3_plain_263 : decode cX3_plain 263 = .ok (.invokevirtual 90, 3) := by decide +kernel
set_option maxRecDepth 100000 in
theorem dX3_plain_266 : decode cX3_plain 266 = .ok (.ifCond .eq 35, 3) := by decide +kernel
set_option maxRecDepth 100000 in
theorem dX3_plain_269 : decode cX3_plain 269 = .ok (.new 71, 3) := by decide +kernel
set_option maxRecDepth 100000 in
theorem dX3_plain_272 : decode cX3_plain 272 = .ok (.dup, 1) := by decide +kernel
set_option maxRecDepth 100000 in
theorem dX3_plain_273 : decode cX3_plain 273 = .ok (.bipush 40, 2) := by decide +kernel
set_option maxRecDepth 100000 in
theorem dX3_plain_275 : decode cX3_plain 275 = .ok (.aload_n 1, 1) := by decide +kernel
set_option maxRecDepth 100000 in
theorem dX3_plain_276 : decode cX3_plain 276 = .ok (.invokespecial 77, 3) := by decide +kernel
set_option maxRecDepth 100000 in
theorem dX3_plain_279 : decode cX3_plain 279 = .ok (.new 71, 3) := by decide +kernel
set_option maxRecDepth 100000 in
theorem dX3_plain_282 : decode cX3_plain 282 = .ok (.dup, 1) := by decide +kernel
set_option maxRecDepth 100000 in
theorem dX3_plain_283 : decode cX3_plain 283 = .ok (.bipush 26, 2) := by decide +kernel
set_option maxRecDepth 100000 in
theorem dX3_plain_285 : decode cX3_plain 285 = .ok (.aload_n 0, 1) := by decide +kernel
set_option maxRecDepth 100000 in
theorem dX3_plain_286 : decode cX3_plain 286 = .ok (.getstatic 128, 3) := by decide +kernel
set_option maxRecDepth 100000 in
theorem dX3_plain_289 : decode cX3_plain 289 = .ok (.invokevirtual 73, 3) := by decide +kernel
set_option maxRecDepth 100000 in
theorem dX3_plain_292 : decode cX3_plain 292 = .ok (.invokespecial 77, 3) := by decide +kernel
set_option maxRecDepth 100000 in
theorem dX3_plain_295 : decode cX3_plain 295 = .ok (.invokevirtual 84, 3) := by decide +kernel
set_option maxRecDepth 100000 in
theorem dX3_plain_298 : decode cX3_plain 298 = .ok (.goto 16, 3) := by decide +kernel
set_option maxRecDepth 100000 in
theorem dX3_plain_301 : decode cX3_plain 301 = .ok (.new 71, 3) := by decide +kernel
set_option maxRecDepth 100000 in
theorem dX3_plain_304 : decode cX3_plain 304 = .ok (.dup, 1) := by decide +kernel
set_option maxRecDepth 100000 in
theorem dX3_plain_305 : decode cX3_plain 305 = .ok (.bipush 28, 2) := by decide +kernel
set_option maxRecDepth 100000 in
theorem dX3_plain_307 : decode cX3_plain 307 = .ok (.aload_n 0, 1) := by decide +kernel
set_option maxRecDepth 100000 in
theorem dX3_plain_308 : decode cX3_plain 308 = .ok (.getfield 25, 3) := by decide +kernel
set_option maxRecDepth 100000 in
theorem dX3_plain_311 : decode cX3_plain 311 = .ok (.invokespecial 77, 3) := by decide +kernel
set_option maxRecDepth 100000 in
theorem dX3_plain_314 : decode cX3_plain 314 = .ok (.areturn, 1) := by decide +kernel
set_option maxRecDepth 100000 in
def bX3_plain_314 (G : xG) (fr lo : Nat) (s0 : Nat) (h : xH) (Q : Outcome → xH → Prop) : Prop := Q (.returned (some (rv s0))) h
set_option maxRecDepth 100000 in
theorem uX3_plain_314 {G : xG} {fr lo : Nat} {s0 : Nat} {h : xH} {Q : Outcome → xH → Prop} (hq : bX3_plain_314 G fr lo s0 h Q) : xP G YX3_plain fr lo 314 [] [rv s0] h Q := by
  unfold bX3_plain_314 at hq
  exact x_aret rfl xty_O dX3_plain_314 hq
set_option maxRecDepth 100000 in
def bX3_plain_98 (G : xG) (fr lo : Nat) (s0 : Nat) (h : xH) (Q : Outcome → xH → Prop) : Prop := Q (.returned (some (rv s0))) h
set_option maxRecDepth 100000 in
theorem uX3_plain_98 {G : xG} {fr lo : Nat} {s0 : Nat} {h : xH} {Q : Outcome → xH → Prop} (hq : bX3_plain_98 G fr lo s0 h Q) : xP G YX3_plain fr lo 98 [] [rv s0] h Q := by
  unfold bX3_plain_98 at hq
  exact x_aret rfl xty_O dX3_plain_98 hq
set_option maxRecDepth 100000 in
def bX3_plain (G : xG) (fr lo : Nat) (x0 : Nat) (h : xH) (Q : Outcome → xH → Prop) : Prop := tg h x0 = 4 ∧ 1 ≤ fr ∧ 12 ≤ lo ∧ xRi G YX3_isName (fr - 1) (lo - 12) [rv x0] h (fun x5 h4 => xext h h4 → ((x5 = 0 → 1 ≤ fr ∧ 13 ≤ lo ∧ xRi G YX3_is (fr - 1) (lo - 13) [rv x0, rv (tx G 2)] h4 (fun x12 h11 => xext h4 h11 → ((x12 = 0 → 1 ≤ fr ∧ 13 ≤ lo ∧ xRi G YX3_has (fr - 1) (lo - 13) [rv x0, rv (tx G 14)] h11 (fun x19 h18 => xext h11 h18 → ((x19 = 0 → 1 ≤ fr ∧ 13 ≤ lo ∧ xRi G YX3_has (fr - 1) (lo - 13) [rv x0, rv (tx G 3)] h18 (fun x26 h25 => xext h18 h25 → ((x26 = 0 → 1 ≤ fr ∧ 13 ≤ lo ∧ xRi G YX3_has (fr - 1) (lo - 13) [rv x0, rv (tx G 33)] h25 (fun x33 h32 => xext h25 h32 → ((x33 = 0 → 1 ≤ fr ∧ 13 ≤ lo ∧ xRi G YX3_has (fr - 1) (lo - 13) [rv x0, rv (tx G 26)] h32 (fun x40 h39 => xext h32 h39 → ((x40 = 0 → 1 ≤ fr ∧ 13 ≤ lo ∧ xRi G YX3_has (fr - 1) (lo - 13) [rv x0, rv (tx G 11)] h39 (fun x47 h46 => xext h39 h46 → ((x47 = 0 → 1 ≤ fr ∧ 13 ≤ lo ∧ xRi G YX3_has (fr - 1) (lo - 13) [rv x0, rv (tx G 34)] h46 (fun x54 h53 => xext h46 h53 → ((x54 = 0 → 1 ≤ fr ∧ 13 ≤ lo ∧ xRi G YX3_has (fr - 1) (lo - 13) [rv x0, rv (tx G 13)] h53 (fun x61 h60 => xext h53 h60 → ((x61 = 0 → nx h60 + 1 ≤ xGN G ∧ us h60 + 6 ≤ xGU G ∧ (∀ (a66 : Nat) (h67 : xH), a66 = nx h60 + 1 → h67 = nO h60 16 6 → xfresh h60 a66 → 1 ≤ fr ∧ 15 ≤ lo ∧ xRv G YX15_init (fr - 1) (lo - 15) [rv a66, .int 28, rv (fR h67 x0 770)] h67 (fun h76 => xext h67 h76 → bX3_plain_314 G fr lo a66 h76 Q) (fun r h2 => Q (.threw r) h2))) ∧ (¬ x61 = 0 → nx h60 + 1 ≤ xGN G ∧ us h60 + 6 ≤ xGU G ∧ (∀ (a81 : Nat) (h82 : xH), a81 = nx h60 + 1 → h82 = nO h60 16 6 → xfresh h60 a81 → 1 ≤ fr ∧ 15 ≤ lo ∧ xRv G YX15_init (fr - 1) (lo - 15) [rv a81, .int 40, rv (fR h11 x0 770)] h82 (fun h89 => xext h82 h89 → nx h89 + 1 ≤ xGN G ∧ us h89 + 6 ≤ xGU G ∧ (∀ (a94 : Nat) (h95 : xH), a94 = nx h89 + 1 → h95 = nO h89 16 6 → xfresh h89 a94 → 1 ≤ fr ∧ 17 ≤ lo ∧ xRr G YX3_needSort (fr - 1) (lo - 17) [rv x0, rv (xGS G 2)] h95 (fun x107 h106 => xext h95 h106 → 1 ≤ fr ∧ 16 ≤ lo ∧ xRv G YX15_init (fr - 1) (lo - 16) [rv a94, .int 26, rv x107] h106 (fun h112 => xext h106 h112 → 1 ≤ fr ∧ 13 ≤ lo ∧ xRr G YX15_add (fr - 1) (lo - 13) [rv a81, rv a94] h112 (fun x122 h121 => xext h112 h121 → bX3_plain_314 G fr lo x122 h121 Q) (fun r h2 => Q (.threw r) h2)) (fun r h2 => Q (.threw r) h2)) (fun r h2 => Q (.threw r) h2))) (fun r h2 => Q (.threw r) h2))))) (fun r h2 => Q (.threw r) h2)) ∧ (¬ x54 = 0 → 1 ≤ fr ∧ 15 ≤ lo ∧ xRr G YX3_with (fr - 1) (lo - 15) [rv x0, .int 38, rv (fR h11 x0 770)] h53 (fun x128 h127 => xext h53 h127 → Q (.returned (some (rv x128))) h127) (fun r h2 => Q (.threw r) h2)))) (fun r h2 => Q (.threw r) h2)) ∧ (¬ x47 = 0 → 1 ≤ fr ∧ 17 ≤ lo ∧ xRr G YX3_loop (fr - 1) (lo - 17) [rv x0, rv (fR h11 x0 770)] h46 (fun x134 h133 => xext h46 h133 → Q (.returned (some (rv x134))) h133) (fun r h2 => Q (.threw r) h2)))) (fun r h2 => Q (.threw r) h2)) ∧ (¬ x40 = 0 → nx h39 + 1 ≤ xGN G ∧ us h39 + 6 ≤ xGU G ∧ (∀ (a138 : Nat) (h139 : xH), a138 = nx h39 + 1 → h139 = nO h39 16 6 → xfresh h39 a138 → 1 ≤ fr ∧ 15 ≤ lo ∧ xRv G YX15_init (fr - 1) (lo - 15) [rv a138, .int 34, rv (fR h11 x0 770)] h139 (fun h146 => xext h139 h146 → nx h146 + 1 ≤ xGN G ∧ us h146 + 6 ≤ xGU G ∧ (∀ (a151 : Nat) (h152 : xH), a151 = nx h146 + 1 → h152 = nO h146 16 6 → xfresh h146 a151 → 1 ≤ fr ∧ 17 ≤ lo ∧ xRv G YX15_init (fr - 1) (lo - 17) [rv a151, .int 29, rv (fR h11 x0 770)] h152 (fun h159 => xext h152 h159 → 1 ≤ fr ∧ 14 ≤ lo ∧ xRr G YX3_row (fr - 1) (lo - 14) [rv x0, rv a151] h159 (fun x170 h169 => xext h159 h169 → 1 ≤ fr ∧ 13 ≤ lo ∧ xRr G YX15_add (fr - 1) (lo - 13) [rv a138, rv x170] h169 (fun x179 h178 => xext h169 h178 → nx h178 + 1 ≤ xGN G ∧ us h178 + 6 ≤ xGU G ∧ (∀ (a183 : Nat) (h184 : xH), a183 = nx h178 + 1 → h184 = nO h178 16 6 → xfresh h178 a183 → 1 ≤ fr ∧ 17 ≤ lo ∧ xRr G YX3_need (fr - 1) (lo - 17) [rv x0, rv (tx G 31)] h184 (fun x195 h194 => xext h184 h194 → 1 ≤ fr ∧ 16 ≤ lo ∧ xRv G YX15_init (fr - 1) (lo - 16) [rv a183, .int 35, rv x195] h194 (fun h200 => xext h194 h200 → 1 ≤ fr ∧ 15 ≤ lo ∧ xRr G YX3_e (fr - 1) (lo - 15) [rv x0] h200 (fun x208 h207 => xext h200 h207 → 1 ≤ fr ∧ 14 ≤ lo ∧ xRr G YX15_add (fr - 1) (lo - 14) [rv a183, rv x208] h207 (fun x215 h214 => xext h207 h214 → tg h214 x179 = 16 ∧ 1 ≤ fr ∧ 13 ≤ lo ∧ xRr G YX15_add (fr - 1) (lo - 13) [rv x179, rv x215] h214 (fun x221 h220 => xext h214 h220 → Q (.returned (some (rv x221))) h220) (fun r h2 => Q (.threw r) h2)) (fun r h2 => Q (.threw r) h2)) (fun r h2 => Q (.threw r) h2)) (fun r h2 => Q (.threw r) h2)) (fun r h2 => Q (.threw r) h2))) (fun r h2 => Q (.threw r) h2)) (fun r h2 => Q (.threw r) h2)) (fun r h2 => Q (.threw r) h2))) (fun r h2 => Q (.threw r) h2))))) (fun r h2 => Q (.threw r) h2)) ∧ (¬ x33 = 0 → nx h32 + 1 ≤ xGN G ∧ us h32 + 6 ≤ xGU G ∧ (∀ (a225 : Nat) (h226 : xH), a225 = nx h32 + 1 → h226 = nO h32 16 6 → xfresh h32 a225 → 1 ≤ fr ∧ 15 ≤ lo ∧ xRv G YX15_init (fr - 1) (lo - 15) [rv a225, .int 33, rv (fR h11 x0 770)] h226 (fun h233 => xext h226 h233 → 1 ≤ fr ∧ 14 ≤ lo ∧ xRr G YX3_e (fr - 1) (lo - 14) [rv x0] h233 (fun x242 h241 => xext h233 h241 → 1 ≤ fr ∧ 13 ≤ lo ∧ xRr G YX15_add (fr - 1) (lo - 13) [rv a225, rv x242] h241 (fun x249 h248 => xext h241 h248 → 1 ≤ fr ∧ 13 ≤ lo ∧ xRr G YX3_need (fr - 1) (lo - 13) [rv x0, rv (tx G 6)] h248 (fun x256 h255 => xext h248 h255 → 1 ≤ fr ∧ 14 ≤ lo ∧ xRr G YX3_statement (fr - 1) (lo - 14) [rv x0] h255 (fun x262 h261 => xext h255 h261 → tg h261 x249 = 16 ∧ 1 ≤ fr ∧ 13 ≤ lo ∧ xRr G YX15_add (fr - 1) (lo - 13) [rv x249, rv x262] h261 (fun x268 h267 => xext h261 h267 → Q (.returned (some (rv x268))) h267) (fun r h2 => Q (.threw r) h2)) (fun r h2 => Q (.threw r) h2)) (fun r h2 => Q (.threw r) h2)) (fun r h2 => Q (.threw r) h2)) (fun r h2 => Q (.threw r) h2)) (fun r h2 => Q (.threw r) h2))))) (fun r h2 => Q (.threw r) h2)) ∧ (¬ x26 = 0 → 1 ≤ fr ∧ 16 ≤ lo ∧ xRr G YX3_caseOf (fr - 1) (lo - 16) [rv x0, rv (fR h11 x0 770)] h25 (fun x274 h273 => xext h25 h273 → Q (.returned (some (rv x274))) h273) (fun r h2 => Q (.threw r) h2)))) (fun r h2 => Q (.threw r) h2)) ∧ (¬ x19 = 0 → nx h18 + 1 ≤ xGN G ∧ us h18 + 6 ≤ xGU G ∧ (∀ (a278 : Nat) (h279 : xH), a278 = nx h18 + 1 → h279 = nO h18 16 6 → xfresh h18 a278 → 1 ≤ fr ∧ 15 ≤ lo ∧ xRv G YX15_init (fr - 1) (lo - 15) [rv a278, .int 30, rv (fR h11 x0 770)] h279 (fun h286 => xext h279 h286 → 1 ≤ fr ∧ 14 ≤ lo ∧ xRr G YX3_e (fr - 1) (lo - 14) [rv x0] h286 (fun x295 h294 => xext h286 h294 → 1 ≤ fr ∧ 13 ≤ lo ∧ xRr G YX15_add (fr - 1) (lo - 13) [rv a278, rv x295] h294 (fun x302 h301 => xext h294 h301 → 1 ≤ fr ∧ 13 ≤ lo ∧ xRr G YX3_need (fr - 1) (lo - 13) [rv x0, rv (tx G 28)] h301 (fun x309 h308 => xext h301 h308 → 1 ≤ fr ∧ 14 ≤ lo ∧ xRr G YX3_statement (fr - 1) (lo - 14) [rv x0] h308 (fun x315 h314 => xext h308 h314 → tg h314 x302 = 16 ∧ 1 ≤ fr ∧ 13 ≤ lo ∧ xRr G YX15_add (fr - 1) (lo - 13) [rv x302, rv x315] h314 (fun x321 h320 => xext h314 h320 → 1 ≤ fr ∧ 13 ≤ lo ∧ xRi G YX3_has (fr - 1) (lo - 13) [rv x0, rv (tx G 8)] h320 (fun x328 h327 => xext h320 h327 → ((x328 = 0 → bX3_plain_98 G fr lo x302 h327 Q) ∧ (¬ x328 = 0 → 1 ≤ fr ∧ 14 ≤ lo ∧ xRr G YX3_statement (fr - 1) (lo - 14) [rv x0] h327 (fun x335 h334 => xext h327 h334 → 1 ≤ fr ∧ 13 ≤ lo ∧ xRr G YX15_add (fr - 1) (lo - 13) [rv x302, rv x335] h334 (fun x343 h342 => xext h334 h342 → bX3_plain_98 G fr lo x343 h342 Q) (fun r h2 => Q (.threw r) h2)) (fun r h2 => Q (.threw r) h2)))) (fun r h2 => Q (.threw r) h2)) (fun r h2 => Q (.threw r) h2)) (fun r h2 => Q (.threw r) h2)) (fun r h2 => Q (.threw r) h2)) (fun r h2 => Q (.threw r) h2)) (fun r h2 => Q (.threw r) h2)) (fun r h2 => Q (.threw r) h2))))) (fun r h2 => Q (.threw r) h2)) ∧ (¬ x12 = 0 → 1 ≤ fr ∧ 13 ≤ lo ∧ xRr G YX3_compound (fr - 1) (lo - 13) [rv x0] h11 (fun x349 h348 => xext h11 h348 → Q (.returned (some (rv x349))) h348) (fun r h2 => Q (.threw r) h2)))) (fun r h2 => Q (.threw r) h2)) ∧ (¬ x5 = 0 → 1 ≤ fr ∧ 14 ≤ lo ∧ xRr G YX3_named0 (fr - 1) (lo - 14) [rv x0] h4 (fun x355 h354 => xext h4 h354 → Q (.returned (some (rv x355))) h354) (fun r h2 => Q (.threw r) h2)))) (fun r h2 => Q (.threw r) h2)
set_option maxRecDepth 100000 in
theorem uX3_plain {G : xG} {fr lo : Nat} {x0 : Nat} {h : xH} {Q : Outcome → xH → Prop} (hq : bX3_plain G fr lo x0 h Q) : xP G YX3_plain fr lo 0 [(0, rv x0)] [] h Q := by
  unfold bX3_plain at hq
  refine x_aload_n 0 dX3_plain_0 rfl ?_
  obtain ⟨g1, hq⟩ := hq
  obtain ⟨g2, g3, hq⟩ := hq
  refine x_callV (Yc := YX3_isName) (as := []) (st := []) q1826 mvX3_isName g1 rfl dX3_plain_1 (xle (xal1 (rv_cat _) xal0) (by decide)) (xfr g2) (xlo xsw0 (by decide) g3) (xKi hq (fun x5 h4 hq e6 => ?_) (fun _ _ q _ => q))
  replace hq := hq e6
  refine x_if_eq (tgt := 12) dX3_plain_4 (by decide) (fun c7 => ?_) (fun c7 => ?_)
  · replace hq := hq.1 c7
    refine x_aload_n 0 dX3_plain_12 rfl ?_
    refine x_ldcS (n := 2) 95 srX3_246 dX3_plain_13 ?_
    have t8 : tg h4 x0 = 4 := e6.tg g1 (by decide)
    obtain ⟨g9, g10, hq⟩ := hq
    refine x_callV (Yc := YX3_is) (as := [rv (tx G 2)]) (st := []) q1723 mvX3_is t8 rfl dX3_plain_15 (xle (xal1 (rv_cat _) (xal1 (rv_cat _) xal0)) (by decide)) (xfr g9) (xlo xsw0 (by decide) g10) (xKi hq (fun x12 h11 hq e13 => ?_) (fun _ _ q _ => q))
    replace hq := hq e13
    refine x_if_eq (tgt := 26) dX3_plain_18 (by decide) (fun c14 => ?_) (fun c14 => ?_)
    · replace hq := hq.1 c14
      refine x_aload_n 0 dX3_plain_26 rfl ?_
      have t15 : tg h11 x0 = 4 := e13.tg t8 (by decide)
      refine x_get (v := rv (fR h11 x0 770)) fdX3_25 dX3_plain_27 t15 rfl ?_
      refine x_astore_n (lv' := [(1, rv (fR h11 x0 770)), (0, rv x0)]) dX3_plain_30 (by decide) (by first | rfl | (simp [rv_cat, Value.category]; done) | (simp [rv_cat, Value.category]; decide)) ?_
      refine x_aload_n 1 dX3_plain_31 rfl ?_
      refine x_ldcwS (n := 14) 112 srX3_259 dX3_plain_32 ?_
      obtain ⟨g16, g17, hq⟩ := hq
      refine x_callV (Yc := YX3_has) (as := [rv (tx G 14)]) (st := []) q1783 mvX3_has t15 rfl dX3_plain_35 (xle (xal1 (rv_cat _) (xal1 (rv_cat _) xal0)) (by decide)) (xfr g16) (xlo xsw0 (by decide) g17) (xKi hq (fun x19 h18 hq e20 => ?_) (fun _ _ q _ => q))
      replace hq := hq e20
      refine x_if_eq (tgt := 99) dX3_plain_38 (by decide) (fun c21 => ?_) (fun c21 => ?_)
      · replace hq := hq.1 c21
        refine x_aload_n 1 dX3_plain_99 rfl ?_
        refine x_ldcS (n := 3) 86 srX3_238 dX3_plain_100 ?_
        have t22 : tg h18 x0 = 4 := e20.tg t15 (by decide)
        obtain ⟨g23, g24, hq⟩ := hq
        refine x_callV (Yc := YX3_has) (as := [rv (tx G 3)]) (st := []) q1783 mvX3_has t22 rfl dX3_plain_102 (xle (xal1 (rv_cat _) (xal1 (rv_cat _) xal0)) (by decide)) (xfr g23) (xlo xsw0 (by decide) g24) (xKi hq (fun x26 h25 hq e27 => ?_) (fun _ _ q _ => q))
        replace hq := hq e27
        refine x_if_eq (tgt := 114) dX3_plain_105 (by decide) (fun c28 => ?_) (fun c28 => ?_)
        · replace hq := hq.1 c28
          refine x_aload_n 1 dX3_plain_114 rfl ?_
          refine x_ldcwS (n := 33) 115 srX3_272 dX3_plain_115 ?_
          have t29 : tg h25 x0 = 4 := e27.tg t22 (by decide)
          obtain ⟨g30, g31, hq⟩ := hq
          refine x_callV (Yc := YX3_has) (as := [rv (tx G 33)]) (st := []) q1783 mvX3_has t29 rfl dX3_plain_118 (xle (xal1 (rv_cat _) (xal1 (rv_cat _) xal0)) (by decide)) (xfr g30) (xlo xsw0 (by decide) g31) (xKi hq (fun x33 h32 hq e34 => ?_) (fun _ _ q _ => q))
          replace hq := hq e34
          refine x_if_eq (tgt := 159) dX3_plain_121 (by decide) (fun c35 => ?_) (fun c35 => ?_)
          · replace hq := hq.1 c35
            refine x_aload_n 1 dX3_plain_159 rfl ?_
            refine x_ldcwS (n := 26) 117 srX3_276 dX3_plain_160 ?_
            have t36 : tg h32 x0 = 4 := e34.tg t29 (by decide)
            obtain ⟨g37, g38, hq⟩ := hq
            refine x_callV (Yc := YX3_has) (as := [rv (tx G 26)]) (st := []) q1783 mvX3_has t36 rfl dX3_plain_163 (xle (xal1 (rv_cat _) (xal1 (rv_cat _) xal0)) (by decide)) (xfr g37) (xlo xsw0 (by decide) g38) (xKi hq (fun x40 h39 hq e41 => ?_) (fun _ _ q _ => q))
            replace hq := hq e41
            refine x_if_eq (tgt := 225) dX3_plain_166 (by decide) (fun c42 => ?_) (fun c42 => ?_)
            · replace hq := hq.1 c42
              refine x_aload_n 1 dX3_plain_225 rfl ?_
              refine x_ldcwS (n := 11) 119 srX3_280 dX3_plain_226 ?_
              have t43 : tg h39 x0 = 4 := e41.tg t36 (by decide)
              obtain ⟨g44, g45, hq⟩ := hq
              refine x_callV (Yc := YX3_has) (as := [rv (tx G 11)]) (st := []) q1783 mvX3_has t43 rfl dX3_plain_229 (xle (xal1 (rv_cat _) (xal1 (rv_cat _) xal0)) (by decide)) (xfr g44) (xlo xsw0 (by decide) g45) (xKi hq (fun x47 h46 hq e48 => ?_) (fun _ _ q _ => q))
              replace hq := hq e48
              refine x_if_eq (tgt := 241) dX3_plain_232 (by decide) (fun c49 => ?_) (fun c49 => ?_)
              · replace hq := hq.1 c49
                refine x_aload_n 1 dX3_plain_241 rfl ?_
                refine x_ldcwS (n := 34) 122 srX3_285 dX3_plain_242 ?_
                have t50 : tg h46 x0 = 4 := e48.tg t43 (by decide)
                obtain ⟨g51, g52, hq⟩ := hq
                refine x_callV (Yc := YX3_has) (as := [rv (tx G 34)]) (st := []) q1783 mvX3_has t50 rfl dX3_plain_245 (xle (xal1 (rv_cat _) (xal1 (rv_cat _) xal0)) (by decide)) (xfr g51) (xlo xsw0 (by decide) g52) (xKi hq (fun x54 h53 hq e55 => ?_) (fun _ _ q _ => q))
                replace hq := hq e55
                refine x_if_eq (tgt := 259) dX3_plain_248 (by decide) (fun c56 => ?_) (fun c56 => ?_)
                · replace hq := hq.1 c56
                  refine x_aload_n 1 dX3_plain_259 rfl ?_
                  refine x_ldcwS (n := 13) 123 srX3_290 dX3_plain_260 ?_
                  have t57 : tg h53 x0 = 4 := e55.tg t50 (by decide)
                  obtain ⟨g58, g59, hq⟩ := hq
                  refine x_callV (Yc := YX3_has) (as := [rv (tx G 13)]) (st := []) q1783 mvX3_has t57 rfl dX3_plain_263 (xle (xal1 (rv_cat _) (xal1 (rv_cat _) xal0)) (by decide)) (xfr g58) (xlo xsw0 (by decide) g59) (xKi hq (fun x61 h60 hq e62 => ?_) (fun _ _ q _ => q))
                  replace hq := hq e62
                  refine x_if_eq (tgt := 301) dX3_plain_266 (by decide) (fun c63 => ?_) (fun c63 => ?_)
                  · replace hq := hq.1 c63
                    obtain ⟨g64, g65, hq⟩ := hq
                    obtain ⟨a66, e68⟩ : ∃ y, y = nx h60 + 1 := ⟨_, rfl⟩
                    obtain ⟨h67, e69⟩ : ∃ y, y = nO h60 16 6 := ⟨_, rfl⟩
                    refine x_new' cdX3_71 dX3_plain_301 g64 g65 e68 e69 (fun f70 => ?_)
                    replace hq := hq a66 h67 e68 e69 f70
                    have t71 : tg h67 a66 = 16 := by rw [e69, e68]; exact tg_nO
                    refine x_dup dX3_plain_304 (rv_cat _) ?_
                    refine x_bipush (v := 28) dX3_plain_305 (by decide) ?_
                    refine x_aload_n 1 dX3_plain_307 rfl ?_
                    have t72 : tg h60 x0 = 4 := e62.tg t57 (by decide)
                    have t73 : tg h67 x0 = 4 := by rw [e69]; exact tg_nO_ne e68 f70 t72 (by decide)
                    refine x_get (v := rv (fR h67 x0 770)) fdX3_25 dX3_plain_308 t73 rfl ?_
                    obtain ⟨g74, g75, hq⟩ := hq
                    refine x_callI (Yc := YX15_init) (as := [.int 28, rv (fR h67 x0 770)]) (st := [rv a66]) q1749 miX15_init (by rw [t71]; decide) rfl dX3_plain_311 (xle (xal1 (rv_cat _) (xal1 rfl (xal1 (rv_cat _) xal0))) (by decide)) (xfr g74) (xlo (xsw1 (rv_cat _) xsw0) (by decide) g75) (xKv hq (fun h76 hq e78 => ?_) (fun _ _ q _ => q))
                    replace hq := hq e78
                    refine xP.pick (lv' := []) [] rfl ?_
                    exact uX3_plain_314 hq
                  · replace hq := hq.2 c63
                    obtain ⟨g79, g80, hq⟩ := hq
                    obtain ⟨a81, e83⟩ : ∃ y, y = nx h60 + 1 := ⟨_, rfl⟩
                    obtain ⟨h82, e84⟩ : ∃ y, y = nO h60 16 6 := ⟨_, rfl⟩
                    refine x_new' cdX3_71 dX3_plain_269 g79 g80 e83 e84 (fun f85 => ?_)
                    replace hq := hq a81 h82 e83 e84 f85
                    have t86 : tg h82 a81 = 16 := by rw [e84, e83]; exact tg_nO
                    refine x_dup dX3_plain_272 (rv_cat _) ?_
                    refine x_bipush (v := 40) dX3_plain_273 (by decide) ?_
                    refine x_aload_n 0 dX3_plain_275 rfl ?_
                    obtain ⟨g87, g88, hq⟩ := hq
                    refine x_callI (Yc := YX15_init) (as := [.int 40, rv (fR h11 x0 770)]) (st := [rv a81]) q1749 miX15_init (by rw [t86]; decide) rfl dX3_plain_276 (xle (xal1 (rv_cat _) (xal1 rfl (xal1 (rv_cat _) xal0))) (by decide)) (xfr g87) (xlo (xsw1 (rv_cat _) xsw0) (by decide) g88) (xKv hq (fun h89 hq e91 => ?_) (fun _ _ q _ => q))
                    replace hq := hq e91
                    obtain ⟨g92, g93, hq⟩ := hq
                    obtain ⟨a94, e96⟩ : ∃ y, y = nx h89 + 1 := ⟨_, rfl⟩
                    obtain ⟨h95, e97⟩ : ∃ y, y = nO h89 16 6 := ⟨_, rfl⟩
                    refine x_new' cdX3_71 dX3_plain_279 g92 g93 e96 e97 (fun f98 => ?_)
                    replace hq := hq a94 h95 e96 e97 f98
                    have t99 : tg h95 a94 = 16 := by rw [e97, e96]; exact tg_nO
                    refine x_dup dX3_plain_282 (rv_cat _) ?_
                    refine x_bipush (v := 26) dX3_plain_283 (by decide) ?_
                    refine x_aload_n 1 dX3_plain_285 rfl ?_
                    refine x_gets (v := rv (xGS G 2)) 2 rfl q1811 (by simp [xsv]) dX3_plain_286 ?_
                    have t100 : tg h60 x0 = 4 := e62.tg t57 (by decide)
                    have t101 : tg h82 x0 = 4 := by rw [e84]; exact tg_nO_ne e83 f85 t100 (by decide)
                    have t102 : tg h89 x0 = 4 := e91.tg t101 (by decide)
                    have t103 : tg h95 x0 = 4 := by rw [e97]; exact tg_nO_ne e96 f98 t102 (by decide)
                    obtain ⟨g104, g105, hq⟩ := hq
                    refine x_callV (Yc := YX3_needSort) (as := [rv (xGS G 2)]) (st := [.int 26, rv a94, rv a94, rv a81]) q1745 mvX3_needSort t103 rfl dX3_plain_289 (xle (xal1 (rv_cat _) (xal1 (rv_cat _) xal0)) (by decide)) (xfr g104) (xlo (xsw1 rfl (xsw1 (rv_cat _) (xsw1 (rv_cat _) (xsw1 (rv_cat _) xsw0)))) (by decide) g105) (xKr hq (fun x107 h106 hq e108 => ?_) (fun _ _ q _ => q))
                    replace hq := hq e108
                    have t109 : tg h106 a94 = 16 := e108.tg t99 (by decide)
                    obtain ⟨g110, g111, hq⟩ := hq
                    refine x_callI (Yc := YX15_init) (as := [.int 26, rv x107]) (st := [rv a94, rv a81]) q1749 miX15_init (by rw [t109]; decide) rfl dX3_plain_292 (xle (xal1 (rv_cat _) (xal1 rfl (xal1 (rv_cat _) xal0))) (by decide)) (xfr g110) (xlo (xsw1 (rv_cat _) (xsw1 (rv_cat _) xsw0)) (by decide) g111) (xKv hq (fun h112 hq e114 => ?_) (fun _ _ q _ => q))
                    replace hq := hq e114
                    have t115 : tg h89 a81 = 16 := e91.tg t86 (by decide)
                    have t116 : tg h95 a81 = 16 := by rw [e97]; exact tg_nO_ne e96 f98 t115 (by decide)
                    have t117 : tg h106 a81 = 16 := e108.tg t116 (by decide)
                    have t118 : tg h112 a81 = 16 := e114.tg t117 (by decide)
                    obtain ⟨g119, g120, hq⟩ := hq
                    refine x_callV (Yc := YX15_add) (as := [rv a94]) (st := []) q1795 mvX15_add t118 rfl dX3_plain_295 (xle (xal1 (rv_cat _) (xal1 (rv_cat _) xal0)) (by decide)) (xfr g119) (xlo xsw0 (by decide) g120) (xKr hq (fun x122 h121 hq e123 => ?_) (fun _ _ q _ => q))
                    replace hq := hq e123
                    refine x_goto (tgt := 314) dX3_plain_298 (by decide) ?_
                    refine xP.pick (lv' := []) [] rfl ?_
                    exact uX3_plain_314 hq
                · replace hq := hq.2 c56
                  refine x_aload_n 1 dX3_plain_251 rfl ?_
                  refine x_bipush (v := 38) dX3_plain_252 (by decide) ?_
                  refine x_aload_n 0 dX3_plain_254 rfl ?_
                  have t124 : tg h53 x0 = 4 := e55.tg t50 (by decide)
                  obtain ⟨g125, g126, hq⟩ := hq
                  refine x_callV (Yc := YX3_with) (as := [.int 38, rv (fR h11 x0 770)]) (st := []) q1997 mvX3_with t124 rfl dX3_plain_255 (xle (xal1 (rv_cat _) (xal1 rfl (xal1 (rv_cat _) xal0))) (by decide)) (xfr g125) (xlo xsw0 (by decide) g126) (xKr hq (fun x128 h127 hq e129 => ?_) (fun _ _ q _ => q))
                  replace hq := hq e129
                  exact x_aret rfl xty_O dX3_plain_258 hq
              · replace hq := hq.2 c49
                refine x_aload_n 1 dX3_plain_235 rfl ?_
                refine x_aload_n 0 dX3_plain_236 rfl ?_
                have t130 : tg h46 x0 = 4 := e48.tg t43 (by decide)
                obtain ⟨g131, g132, hq⟩ := hq
                refine x_callV (Yc := YX3_loop) (as := [rv (fR h11 x0 770)]) (st := []) q1990 mvX3_loop t130 rfl dX3_plain_237 (xle (xal1 (rv_cat _) (xal1 (rv_cat _) xal0)) (by decide)) (xfr g131) (xlo xsw0 (by decide) g132) (xKr hq (fun x134 h133 hq e135 => ?_) (fun _ _ q _ => q))
                replace hq := hq e135
                exact x_aret rfl xty_O dX3_plain_240 hq
            · replace hq := hq.2 c42
              obtain ⟨g136, g137, hq⟩ := hq
              obtain ⟨a138, e140⟩ : ∃ y, y = nx h39 + 1 := ⟨_, rfl⟩
              obtain ⟨h139, e141⟩ : ∃ y, y = nO h39 16 6 := ⟨_, rfl⟩
              refine x_new' cdX3_71 dX3_plain_169 g136 g137 e140 e141 (fun f142 => ?_)
              replace hq := hq a138 h139 e140 e141 f142
              have t143 : tg h139 a138 = 16 := by rw [e141, e140]; exact tg_nO
              refine x_dup dX3_plain_172 (rv_cat _) ?_
              refine x_bipush (v := 34) dX3_plain_173 (by decide) ?_
              refine x_aload_n 0 dX3_plain_175 rfl ?_
              obtain ⟨g144, g145, hq⟩ := hq
              refine x_callI (Yc := YX15_init) (as := [.int 34, rv (fR h11 x0 770)]) (st := [rv a138]) q1749 miX15_init (by rw [t143]; decide) rfl dX3_plain_176 (xle (xal1 (rv_cat _) (xal1 rfl (xal1 (rv_cat _) xal0))) (by decide)) (xfr g144) (xlo (xsw1 (rv_cat _) xsw0) (by decide) g145) (xKv hq (fun h146 hq e148 => ?_) (fun _ _ q _ => q))
              replace hq := hq e148
              refine x_aload_n 1 dX3_plain_179 rfl ?_
              obtain ⟨g149, g150, hq⟩ := hq
              obtain ⟨a151, e153⟩ : ∃ y, y = nx h146 + 1 := ⟨_, rfl⟩
              obtain ⟨h152, e154⟩ : ∃ y, y = nO h146 16 6 := ⟨_, rfl⟩
              refine x_new' cdX3_71 dX3_plain_180 g149 g150 e153 e154 (fun f155 => ?_)
              replace hq := hq a151 h152 e153 e154 f155
              have t156 : tg h152 a151 = 16 := by rw [e154, e153]; exact tg_nO
              refine x_dup dX3_plain_183 (rv_cat _) ?_
              refine x_bipush (v := 29) dX3_plain_184 (by decide) ?_
              refine x_aload_n 0 dX3_plain_186 rfl ?_
              obtain ⟨g157, g158, hq⟩ := hq
              refine x_callI (Yc := YX15_init) (as := [.int 29, rv (fR h11 x0 770)]) (st := [rv a151, rv x0, rv a138]) q1749 miX15_init (by rw [t156]; decide) rfl dX3_plain_187 (xle (xal1 (rv_cat _) (xal1 rfl (xal1 (rv_cat _) xal0))) (by decide)) (xfr g157) (xlo (xsw1 (rv_cat _) (xsw1 (rv_cat _) (xsw1 (rv_cat _) xsw0))) (by decide) g158) (xKv hq (fun h159 hq e161 => ?_) (fun _ _ q _ => q))
              replace hq := hq e161
              have t162 : tg h39 x0 = 4 := e41.tg t36 (by decide)
              have t163 : tg h139 x0 = 4 := by rw [e141]; exact tg_nO_ne e140 f142 t162 (by decide)
              have t164 : tg h146 x0 = 4 := e148.tg t163 (by decide)
              have t165 : tg h152 x0 = 4 := by rw [e154]; exact tg_nO_ne e153 f155 t164 (by decide)
              have t166 : tg h159 x0 = 4 := e161.tg t165 (by decide)
              obtain ⟨g167, g168, hq⟩ := hq
              refine x_callV (Yc := YX3_row) (as := [rv a151]) (st := [rv a138]) q1906 mvX3_row t166 rfl dX3_plain_190 (xle (xal1 (rv_cat _) (xal1 (rv_cat _) xal0)) (by decide)) (xfr g167) (xlo (xsw1 (rv_cat _) xsw0) (by decide) g168) (xKr hq (fun x170 h169 hq e171 => ?_) (fun _ _ q _ => q))
              replace hq := hq e171
              have t172 : tg h146 a138 = 16 := e148.tg t143 (by decide)
              have t173 : tg h152 a138 = 16 := by rw [e154]; exact tg_nO_ne e153 f155 t172 (by decide)
              have t174 : tg h159 a138 = 16 := e161.tg t173 (by decide)
              have t175 : tg h169 a138 = 16 := e171.tg t174 (by decide)
              obtain ⟨g176, g177, hq⟩ := hq
              refine x_callV (Yc := YX15_add) (as := [rv x170]) (st := []) q1795 mvX15_add t175 rfl dX3_plain_193 (xle (xal1 (rv_cat _) (xal1 (rv_cat _) xal0)) (by decide)) (xfr g176) (xlo xsw0 (by decide) g177) (xKr hq (fun x179 h178 hq e180 => ?_) (fun _ _ q _ => q))
              replace hq := hq e180
              refine x_astore_n (lv' := [(2, rv x179), (1, rv (fR h11 x0 770)), (0, rv x0)]) dX3_plain_196 (by decide) (by first | rfl | (simp [rv_cat, Value.category]; done) | (simp [rv_cat, Value.category]; decide)) ?_
              refine x_aload_n 0 dX3_plain_197 rfl ?_
              obtain ⟨g181, g182, hq⟩ := hq
              obtain ⟨a183, e185⟩ : ∃ y, y = nx h178 + 1 := ⟨_, rfl⟩
              obtain ⟨h184, e186⟩ : ∃ y, y = nO h178 16 6 := ⟨_, rfl⟩
              refine x_new' cdX3_71 dX3_plain_198 g181 g182 e185 e186 (fun f187 => ?_)
              replace hq := hq a183 h184 e185 e186 f187
              have t188 : tg h184 a183 = 16 := by rw [e186, e185]; exact tg_nO
              refine x_dup dX3_plain_201 (rv_cat _) ?_
              refine x_bipush (v := 35) dX3_plain_202 (by decide) ?_
              refine x_aload_n 2 dX3_plain_204 rfl ?_
              refine x_ldcwS (n := 31) 118 srX3_278 dX3_plain_205 ?_
              have t189 : tg h169 x0 = 4 := e171.tg t166 (by decide)
              have t190 : tg h178 x0 = 4 := e180.tg t189 (by decide)
              have t191 : tg h184 x0 = 4 := by rw [e186]; exact tg_nO_ne e185 f187 t190 (by decide)
              obtain ⟨g192, g193, hq⟩ := hq
              refine x_callV (Yc := YX3_need) (as := [rv (tx G 31)]) (st := [.int 35, rv a183, rv a183, rv x179]) q1719 mvX3_need t191 rfl dX3_plain_208 (xle (xal1 (rv_cat _) (xal1 (rv_cat _) xal0)) (by decide)) (xfr g192) (xlo (xsw1 rfl (xsw1 (rv_cat _) (xsw1 (rv_cat _) (xsw1 (rv_cat _) xsw0)))) (by decide) g193) (xKr hq (fun x195 h194 hq e196 => ?_) (fun _ _ q _ => q))
              replace hq := hq e196
              have t197 : tg h194 a183 = 16 := e196.tg t188 (by decide)
              obtain ⟨g198, g199, hq⟩ := hq
              refine x_callI (Yc := YX15_init) (as := [.int 35, rv x195]) (st := [rv a183, rv x179]) q1749 miX15_init (by rw [t197]; decide) rfl dX3_plain_211 (xle (xal1 (rv_cat _) (xal1 rfl (xal1 (rv_cat _) xal0))) (by decide)) (xfr g198) (xlo (xsw1 (rv_cat _) (xsw1 (rv_cat _) xsw0)) (by decide) g199) (xKv hq (fun h200 hq e202 => ?_) (fun _ _ q _ => q))
              replace hq := hq e202
              refine x_aload_n 2 dX3_plain_214 rfl ?_
              have t203 : tg h194 x0 = 4 := e196.tg t191 (by decide)
              have t204 : tg h200 x0 = 4 := e202.tg t203 (by decide)
              obtain ⟨g205, g206, hq⟩ := hq
              refine x_callV (Yc := YX3_e) (as := []) (st := [rv a183, rv x179]) q1928 mvX3_e t204 rfl dX3_plain_215 (xle (xal1 (rv_cat _) xal0) (by decide)) (xfr g205) (xlo (xsw1 (rv_cat _) (xsw1 (rv_cat _) xsw0)) (by decide) g206) (xKr hq (fun x208 h207 hq e209 => ?_) (fun _ _ q _ => q))
              replace hq := hq e209
              have t210 : tg h200 a183 = 16 := e202.tg t197 (by decide)
              have t211 : tg h207 a183 = 16 := e209.tg t210 (by decide)
              obtain ⟨g212, g213, hq⟩ := hq
              refine x_callV (Yc := YX15_add) (as := [rv x208]) (st := [rv x179]) q1795 mvX15_add t211 rfl dX3_plain_218 (xle (xal1 (rv_cat _) (xal1 (rv_cat _) xal0)) (by decide)) (xfr g212) (xlo (xsw1 (rv_cat _) xsw0) (by decide) g213) (xKr hq (fun x215 h214 hq e216 => ?_) (fun _ _ q _ => q))
              replace hq := hq e216
              obtain ⟨g217, hq⟩ := hq
              obtain ⟨g218, g219, hq⟩ := hq
              refine x_callV (Yc := YX15_add) (as := [rv x215]) (st := []) q1795 mvX15_add g217 rfl dX3_plain_221 (xle (xal1 (rv_cat _) (xal1 (rv_cat _) xal0)) (by decide)) (xfr g218) (xlo xsw0 (by decide) g219) (xKr hq (fun x221 h220 hq e222 => ?_) (fun _ _ q _ => q))
              replace hq := hq e222
              exact x_aret rfl xty_O dX3_plain_224 hq
          · replace hq := hq.2 c35
            obtain ⟨g223, g224, hq⟩ := hq
            obtain ⟨a225, e227⟩ : ∃ y, y = nx h32 + 1 := ⟨_, rfl⟩
            obtain ⟨h226, e228⟩ : ∃ y, y = nO h32 16 6 := ⟨_, rfl⟩
            refine x_new' cdX3_71 dX3_plain_124 g223 g224 e227 e228 (fun f229 => ?_)
            replace hq := hq a225 h226 e227 e228 f229
            have t230 : tg h226 a225 = 16 := by rw [e228, e227]; exact tg_nO
            refine x_dup dX3_plain_127 (rv_cat _) ?_
            refine x_bipush (v := 33) dX3_plain_128 (by decide) ?_
            refine x_aload_n 0 dX3_plain_130 rfl ?_
            obtain ⟨g231, g232, hq⟩ := hq
            refine x_callI (Yc := YX15_init) (as := [.int 33, rv (fR h11 x0 770)]) (st := [rv a225]) q1749 miX15_init (by rw [t230]; decide) rfl dX3_plain_131 (xle (xal1 (rv_cat _) (xal1 rfl (xal1 (rv_cat _) xal0))) (by decide)) (xfr g231) (xlo (xsw1 (rv_cat _) xsw0) (by decide) g232) (xKv hq (fun h233 hq e235 => ?_) (fun _ _ q _ => q))
            replace hq := hq e235
            refine x_aload_n 1 dX3_plain_134 rfl ?_
            have t236 : tg h32 x0 = 4 := e34.tg t29 (by decide)
            have t237 : tg h226 x0 = 4 := by rw [e228]; exact tg_nO_ne e227 f229 t236 (by decide)
            have t238 : tg h233 x0 = 4 := e235.tg t237 (by decide)
            obtain ⟨g239, g240, hq⟩ := hq
            refine x_callV (Yc := YX3_e) (as := []) (st := [rv a225]) q1928 mvX3_e t238 rfl dX3_plain_135 (xle (xal1 (rv_cat _) xal0) (by decide)) (xfr g239) (xlo (xsw1 (rv_cat _) xsw0) (by decide) g240) (xKr hq (fun x242 h241 hq e243 => ?_) (fun _ _ q _ => q))
            replace hq := hq e243
            have t244 : tg h233 a225 = 16 := e235.tg t230 (by decide)
            have t245 : tg h241 a225 = 16 := e243.tg t244 (by decide)
            obtain ⟨g246, g247, hq⟩ := hq
            refine x_callV (Yc := YX15_add) (as := [rv x242]) (st := []) q1795 mvX15_add t245 rfl dX3_plain_138 (xle (xal1 (rv_cat _) (xal1 (rv_cat _) xal0)) (by decide)) (xfr g246) (xlo xsw0 (by decide) g247) (xKr hq (fun x249 h248 hq e250 => ?_) (fun _ _ q _ => q))
            replace hq := hq e250
            refine x_astore_n (lv' := [(2, rv x249), (1, rv (fR h11 x0 770)), (0, rv x0)]) dX3_plain_141 (by decide) (by first | rfl | (simp [rv_cat, Value.category]; done) | (simp [rv_cat, Value.category]; decide)) ?_
            refine x_aload_n 2 dX3_plain_142 rfl ?_
            refine x_ldcwS (n := 6) 116 srX3_274 dX3_plain_143 ?_
            have t251 : tg h241 x0 = 4 := e243.tg t238 (by decide)
            have t252 : tg h248 x0 = 4 := e250.tg t251 (by decide)
            obtain ⟨g253, g254, hq⟩ := hq
            refine x_callV (Yc := YX3_need) (as := [rv (tx G 6)]) (st := []) q1719 mvX3_need t252 rfl dX3_plain_146 (xle (xal1 (rv_cat _) (xal1 (rv_cat _) xal0)) (by decide)) (xfr g253) (xlo xsw0 (by decide) g254) (xKr hq (fun x256 h255 hq e257 => ?_) (fun _ _ q _ => q))
            replace hq := hq e257
            refine x_pop dX3_plain_149 (rv_cat _) ?_
            refine x_aload_n 0 dX3_plain_150 rfl ?_
            refine x_aload_n 2 dX3_plain_151 rfl ?_
            have t258 : tg h255 x0 = 4 := e257.tg t252 (by decide)
            obtain ⟨g259, g260, hq⟩ := hq
            refine x_callV (Yc := YX3_statement) (as := []) (st := [rv x249]) q1910 mvX3_statement t258 rfl dX3_plain_152 (xle (xal1 (rv_cat _) xal0) (by decide)) (xfr g259) (xlo (xsw1 (rv_cat _) xsw0) (by decide) g260) (xKr hq (fun x262 h261 hq e263 => ?_) (fun _ _ q _ => q))
            replace hq := hq e263
            obtain ⟨g264, hq⟩ := hq
            obtain ⟨g265, g266, hq⟩ := hq
            refine x_callV (Yc := YX15_add) (as := [rv x262]) (st := []) q1795 mvX15_add g264 rfl dX3_plain_155 (xle (xal1 (rv_cat _) (xal1 (rv_cat _) xal0)) (by decide)) (xfr g265) (xlo xsw0 (by decide) g266) (xKr hq (fun x268 h267 hq e269 => ?_) (fun _ _ q _ => q))
            replace hq := hq e269
            exact x_aret rfl xty_O dX3_plain_158 hq
        · replace hq := hq.2 c28
          refine x_aload_n 1 dX3_plain_108 rfl ?_
          refine x_aload_n 0 dX3_plain_109 rfl ?_
          have t270 : tg h25 x0 = 4 := e27.tg t22 (by decide)
          obtain ⟨g271, g272, hq⟩ := hq
          refine x_callV (Yc := YX3_caseOf) (as := [rv (fR h11 x0 770)]) (st := []) q1981 mvX3_caseOf t270 rfl dX3_plain_110 (xle (xal1 (rv_cat _) (xal1 (rv_cat _) xal0)) (by decide)) (xfr g271) (xlo xsw0 (by decide) g272) (xKr hq (fun x274 h273 hq e275 => ?_) (fun _ _ q _ => q))
          replace hq := hq e275
          exact x_aret rfl xty_O dX3_plain_113 hq
      · replace hq := hq.2 c21
        obtain ⟨g276, g277, hq⟩ := hq
        obtain ⟨a278, e280⟩ : ∃ y, y = nx h18 + 1 := ⟨_, rfl⟩
        obtain ⟨h279, e281⟩ : ∃ y, y = nO h18 16 6 := ⟨_, rfl⟩
        refine x_new' cdX3_71 dX3_plain_41 g276 g277 e280 e281 (fun f282 => ?_)
        replace hq := hq a278 h279 e280 e281 f282
        have t283 : tg h279 a278 = 16 := by rw [e281, e280]; exact tg_nO
        refine x_dup dX3_plain_44 (rv_cat _) ?_
        refine x_bipush (v := 30) dX3_plain_45 (by decide) ?_
        refine x_aload_n 0 dX3_plain_47 rfl ?_
        obtain ⟨g284, g285, hq⟩ := hq
        refine x_callI (Yc := YX15_init) (as := [.int 30, rv (fR h11 x0 770)]) (st := [rv a278]) q1749 miX15_init (by rw [t283]; decide) rfl dX3_plain_48 (xle (xal1 (rv_cat _) (xal1 rfl (xal1 (rv_cat _) xal0))) (by decide)) (xfr g284) (xlo (xsw1 (rv_cat _) xsw0) (by decide) g285) (xKv hq (fun h286 hq e288 => ?_) (fun _ _ q _ => q))
        replace hq := hq e288
        refine x_aload_n 1 dX3_plain_51 rfl ?_
        have t289 : tg h18 x0 = 4 := e20.tg t15 (by decide)
        have t290 : tg h279 x0 = 4 := by rw [e281]; exact tg_nO_ne e280 f282 t289 (by decide)
        have t291 : tg h286 x0 = 4 := e288.tg t290 (by decide)
        obtain ⟨g292, g293, hq⟩ := hq
        refine x_callV (Yc := YX3_e) (as := []) (st := [rv a278]) q1928 mvX3_e t291 rfl dX3_plain_52 (xle (xal1 (rv_cat _) xal0) (by decide)) (xfr g292) (xlo (xsw1 (rv_cat _) xsw0) (by decide) g293) (xKr hq (fun x295 h294 hq e296 => ?_) (fun _ _ q _ => q))
        replace hq := hq e296
        have t297 : tg h286 a278 = 16 := e288.tg t283 (by decide)
        have t298 : tg h294 a278 = 16 := e296.tg t297 (by decide)
        obtain ⟨g299, g300, hq⟩ := hq
        refine x_callV (Yc := YX15_add) (as := [rv x295]) (st := []) q1795 mvX15_add t298 rfl dX3_plain_55 (xle (xal1 (rv_cat _) (xal1 (rv_cat _) xal0)) (by decide)) (xfr g299) (xlo xsw0 (by decide) g300) (xKr hq (fun x302 h301 hq e303 => ?_) (fun _ _ q _ => q))
        replace hq := hq e303
        refine x_astore_n (lv' := [(2, rv x302), (1, rv (fR h11 x0 770)), (0, rv x0)]) dX3_plain_58 (by decide) (by first | rfl | (simp [rv_cat, Value.category]; done) | (simp [rv_cat, Value.category]; decide)) ?_
        refine x_aload_n 2 dX3_plain_59 rfl ?_
        refine x_ldcwS (n := 28) 113 srX3_264 dX3_plain_60 ?_
        have t304 : tg h294 x0 = 4 := e296.tg t291 (by decide)
        have t305 : tg h301 x0 = 4 := e303.tg t304 (by decide)
        obtain ⟨g306, g307, hq⟩ := hq
        refine x_callV (Yc := YX3_need) (as := [rv (tx G 28)]) (st := []) q1719 mvX3_need t305 rfl dX3_plain_63 (xle (xal1 (rv_cat _) (xal1 (rv_cat _) xal0)) (by decide)) (xfr g306) (xlo xsw0 (by decide) g307) (xKr hq (fun x309 h308 hq e310 => ?_) (fun _ _ q _ => q))
        replace hq := hq e310
        refine x_pop dX3_plain_66 (rv_cat _) ?_
        refine x_aload_n 0 dX3_plain_67 rfl ?_
        refine x_aload_n 2 dX3_plain_68 rfl ?_
        have t311 : tg h308 x0 = 4 := e310.tg t305 (by decide)
        obtain ⟨g312, g313, hq⟩ := hq
        refine x_callV (Yc := YX3_statement) (as := []) (st := [rv x302]) q1910 mvX3_statement t311 rfl dX3_plain_69 (xle (xal1 (rv_cat _) xal0) (by decide)) (xfr g312) (xlo (xsw1 (rv_cat _) xsw0) (by decide) g313) (xKr hq (fun x315 h314 hq e316 => ?_) (fun _ _ q _ => q))
        replace hq := hq e316
        obtain ⟨g317, hq⟩ := hq
        obtain ⟨g318, g319, hq⟩ := hq
        refine x_callV (Yc := YX15_add) (as := [rv x315]) (st := []) q1795 mvX15_add g317 rfl dX3_plain_72 (xle (xal1 (rv_cat _) (xal1 (rv_cat _) xal0)) (by decide)) (xfr g318) (xlo xsw0 (by decide) g319) (xKr hq (fun x321 h320 hq e322 => ?_) (fun _ _ q _ => q))
        replace hq := hq e322
        refine x_pop dX3_plain_75 (rv_cat _) ?_
        refine x_aload_n 2 dX3_plain_76 rfl ?_
        refine x_ldcwS (n := 8) 114 srX3_266 dX3_plain_77 ?_
        have t323 : tg h314 x0 = 4 := e316.tg t311 (by decide)
        have t324 : tg h320 x0 = 4 := e322.tg t323 (by decide)
        obtain ⟨g325, g326, hq⟩ := hq
        refine x_callV (Yc := YX3_has) (as := [rv (tx G 8)]) (st := []) q1783 mvX3_has t324 rfl dX3_plain_80 (xle (xal1 (rv_cat _) (xal1 (rv_cat _) xal0)) (by decide)) (xfr g325) (xlo xsw0 (by decide) g326) (xKi hq (fun x328 h327 hq e329 => ?_) (fun _ _ q _ => q))
        replace hq := hq e329
        refine x_if_eq (tgt := 97) dX3_plain_83 (by decide) (fun c330 => ?_) (fun c330 => ?_)
        · replace hq := hq.1 c330
          refine x_aload_n 0 dX3_plain_97 rfl ?_
          refine xP.pick (lv' := []) [] rfl ?_
          exact uX3_plain_98 hq
        · replace hq := hq.2 c330
          refine x_aload_n 0 dX3_plain_86 rfl ?_
          refine x_aload_n 2 dX3_plain_87 rfl ?_
          have t331 : tg h327 x0 = 4 := e329.tg t324 (by decide)
          obtain ⟨g332, g333, hq⟩ := hq
          refine x_callV (Yc := YX3_statement) (as := []) (st := [rv x302]) q1910 mvX3_statement t331 rfl dX3_plain_88 (xle (xal1 (rv_cat _) xal0) (by decide)) (xfr g332) (xlo (xsw1 (rv_cat _) xsw0) (by decide) g333) (xKr hq (fun x335 h334 hq e336 => ?_) (fun _ _ q _ => q))
          replace hq := hq e336
          have t337 : tg h320 x302 = 16 := e322.tg g317 (by decide)
          have t338 : tg h327 x302 = 16 := e329.tg t337 (by decide)
          have t339 : tg h334 x302 = 16 := e336.tg t338 (by decide)
          obtain ⟨g340, g341, hq⟩ := hq
          refine x_callV (Yc := YX15_add) (as := [rv x335]) (st := []) q1795 mvX15_add t339 rfl dX3_plain_91 (xle (xal1 (rv_cat _) (xal1 (rv_cat _) xal0)) (by decide)) (xfr g340) (xlo xsw0 (by decide) g341) (xKr hq (fun x343 h342 hq e344 => ?_) (fun _ _ q _ => q))
          replace hq := hq e344
          refine x_goto (tgt := 98) dX3_plain_94 (by decide) ?_
          refine xP.pick (lv' := []) [] rfl ?_
          exact uX3_plain_98 hq
    · replace hq := hq.2 c14
      refine x_aload_n 0 dX3_plain_21 rfl ?_
      have t345 : tg h11 x0 = 4 := e13.tg t8 (by decide)
      obtain ⟨g346, g347, hq⟩ := hq
      refine x_callV (Yc := YX3_compound) (as := []) (st := []) q1901 mvX3_compound t345 rfl dX3_plain_22 (xle (xal1 (rv_cat _) xal0) (by decide)) (xfr g346) (xlo xsw0 (by decide) g347) (xKr hq (fun x349 h348 hq e350 => ?_) (fun _ _ q _ => q))
      replace hq := hq e350
      exact x_aret rfl xty_O dX3_plain_25 hq
  · replace hq := hq.2 c7
    refine x_aload_n 0 dX3_plain_7 rfl ?_
    have t351 : tg h4 x0 = 4 := e6.tg g1 (by decide)
    obtain ⟨g352, g353, hq⟩ := hq
    refine x_callV (Yc := YX3_named0) (as := []) (st := []) q1918 mvX3_named0 t351 rfl dX3_plain_8 (xle (xal1 (rv_cat _) xal0) (by decide)) (xfr g352) (xlo xsw0 (by decide) g353) (xKr hq (fun x355 h354 hq e356 => ?_) (fun _ _ q _ => q))
    replace hq := hq e356
    exact x_aret rfl xty_O dX3_plain_11 hq
theorem rX3_plain {G : xG} {fr lo : Nat} {x0 : Nat} {h : xH} {Q : Outcome → xH → Prop} (hq : bX3_plain G fr lo x0 h Q) : xR G YX3_plain fr lo [rv x0] h Q := by
  show xP _ _ _ _ _ (lv_args 0 _) _ _ _
  rw [show lv_args 0 [rv x0] = [(0, rv x0)] from (xla1 (rv_cat _) xla0)]
  exact uX3_plain hq
set_option maxRecDepth 100000 in
theorem dX3_named0_0 : decode cX3_named0 0 = .ok (.aload_n 0, 1) := by decide +kernel
set_option maxRecDepth 100000 in
theorem dX3_named0_1 : decode cX3_named0 1 = .ok (.invokevirtual 65, 3) := by decide +kernel
set_option maxRecDepth 100000 in
theorem dX3_named0_4 : decode cX3_named0 4 = .ok (.astore_n 1, 1) := by decide +kernel
set_option maxRecDepth 100000 in
theorem dX3_named0_5 : decode cX3_named0 5 = .ok (.aload_n 0, 1) := by decide +kernel
set_option maxRecDepth 100000 in
theorem dX3_named0_6 : decode cX3_named0 6 = .ok (.ldc 221, 2) := by decide +kernel
set_option maxRecDepth 100000 in
theorem dX3_named0_8 : decode cX3_named0 8 = .ok (.invokevirtual 60, 3) := by decide +kernel
set_option maxRecDepth 100000 in
theorem dX3_named0_11 : decode cX3_named0 11 = .ok (.ifCond .ne 31, 3) := by decide +kernel
set_option maxRecDepth 100000 in
theorem dX3_named0_14 : decode cX3_named0 14 = .ok (.aload_n 0, 1) := by decide +kernel
set_option maxRecDepth 100000 in
theorem dX3_named0_15 : decode cX3_named0 15 = .ok (.ldc 118, 2) := by decide +kernel
set_option maxRecDepth 100000 in
theorem dX3_named0_17 : decode cX3_named0 17 = .ok (.invokevirtual 60, 3) := by decide +kernel
set_option maxRecDepth 100000 in
theorem dX3_named0_20 : decode cX3_named0 20 = .ok (.ifCond .ne 22, 3) := by decide +kernel
set_option maxRecDepth 100000 in
theorem dX3_named0_23 : decode cX3_named0 23 = .ok (.aload_n 0, 1) := by decide +kernel
set_option maxRecDepth 100000 in
theorem dX3_named0_24 : decode cX3_named0 24 = .ok (.ldc 203, 2) := by decide +kernel
set_option maxRecDepth 100000 in
theorem dX3_named0_26 : decode cX3_named0 26 = .ok (.invokevirtual 60, 3) := by decide +kernel
set_option maxRecDepth 100000 in
theorem dX3_named0_29 : decode cX3_named0 29 = .ok (.ifCond .ne 13, 3) := by decide +kernel
set_option maxRecDepth 100000 in
theorem dX3_named0_32 : decode cX3_named0 32 = .ok (.aload_n 0, 1) := by decide +kernel
set_option maxRecDepth 100000 in
theorem dX3_named0_33 : decode cX3_named0 33 = .ok (.ldc_w 292, 3) := by decide +kernel
set_option maxRecDepth 100000 in
theorem dX3_named0_36 : decode cX3_named0 36 = .ok (.invokevirtual 60, 3) := by decide +kernel
set_option maxRecDepth 100000 in
theorem dX3_named0_39 : decode cX3_named0 39 = .ok (.ifCond .eq 37, 3) := by decide +kernel
set_option maxRecDepth 100000 in
theorem dX3_named0_42 : decode cX3_named0 42 = .ok (.aload_n 0, 1) := by decide +kernel
set_option maxRecDepth 100000 in
theorem dX3_named0_43 : decode cX3_named0 43 = .ok (.aload_n 1, 1) := by decide +kernel
set_option maxRecDepth 100000 in
theorem dX3_named0_44 : decode cX3_named0 44 = .ok (.invokevirtual 298, 3) := by decide +kernel
set_option maxRecDepth 100000 in
theorem dX3_named0_47 : decode cX3_named0 47 = .ok (.astore_n 2, 1) := by decide +kernel
set_option maxRecDepth 100000 in
theorem dX3_named0_48 : decode cX3_named0 48 = .ok (.new 71, 3) := by decide +kernel
set_option maxRecDepth 100000 in
theorem dX3_named0_51 : decode cX3_named0 51 = .ok (.dup, 1) := by decide +kernel
set_option maxRecDepth 100000 in
theorem dX3_named0_52 : decode cX3_named0 52 = .ok (.bipush 41, 2) := by decide +kernel
set_option maxRecDepth 100000 in
theorem dX3_named0_54 : decode cX3_named0 54 = .ok (.aload_n 0, 1) := by decide +kernel
set_option maxRecDepth 100000 in
theorem dX3_named0_55 : decode cX3_named0 55 = .ok (.ldc_w 292, 3) := by decide +kernel
set_option maxRecDepth 100000 in
theorem dX3_named0_58 : decode cX3_named0 58 = .ok (.invokevirtual 99, 3) := by decide +kernel
set_option maxRecDepth 100000 in
theorem dX3_named0_61 : decode cX3_named0 61 = .ok (.invokespecial 77, 3) := by decide +kernel
set_option maxRecDepth 100000 in
theorem dX3_named0_64 : decode cX3_named0 64 = .ok (.aload_n 2, 1) := by decide +kernel
set_option maxRecDepth 100000 in
theorem dX3_named0_65 : decode cX3_named0 65 = .ok (.invokevirtual 84, 3) := by decide +kernel
set_option maxRecDepth 100000 in
theorem dX3_named0_68 : decode cX3_named0 68 = .ok (.aload_n 0, 1) := by decide +kernel
set_option maxRecDepth 100000 in
theorem dX3_named0_69 : decode cX3_named0 69 = .ok (.invokevirtual 261, 3) := by decide +kernel
set_option maxRecDepth 100000 in
theorem dX3_named0_72 : decode cX3_named0 72 = .ok (.invokevirtual 84, 3) := by decide +kernel
set_option maxRecDepth 100000 in
theorem dX3_named0_75 : decode cX3_named0 75 = .ok (.areturn, 1) := by decide +kernel
set_option maxRecDepth 100000 in
theorem dX3_named0_76 : decode cX3_named0 76 = .ok (.new 71, 3) := by decide +kernel
set_option maxRecDepth 100000 in
theorem dX3_named0_79 : decode cX3_named0 79 = .ok (.dup, 1) := by decide +kernel
set_option maxRecDepth 100000 in
theorem dX3_named0_80 : decode cX3_named0 80 = .ok (.bipush 42, 2) := by decide +kernel
set_option maxRecDepth 100000 in
theorem dX3_named0_82 : decode cX3_named0 82 = .ok (.aload_n 1, 1) := by decide +kernel
set_option maxRecDepth 100000 in
theorem dX3_named0_83 : decode cX3_named0 83 = .ok (.invokespecial 77, 3) := by decide +kernel
set_option maxRecDepth 100000 in
theorem dX3_named0_86 : decode cX3_named0 86 = .ok (.astore_n 2, 1) := by decide +kernel
set_option maxRecDepth 100000 in
theorem dX3_named0_87 : decode cX3_named0 87 = .ok (.aload_n 0, 1) := by decide +kernel
set_option maxRecDepth 100000 in
theorem dX3_named0_88 : decode cX3_named0 88 = .ok (.ldc 105, 2) := by decide +kernel
set_option maxRecDepth 100000 in
theorem dX3_named0_90 : decode cX3_named0 90 = .ok (.invokevirtual 90, 3) := by decide +kernel
set_option maxRecDepth 100000 in
theorem dX3_named0_93 : decode cX3_named0 93 = .ok (.ifCond .ne 5, 3) := by decide +kernel
set_option maxRecDepth 100000 in
theorem dX3_named0_96 : decode cX3_named0 96 = .ok (.aload_n 2, 1) := by decide +kernel
set_option maxRecDepth 100000 in
theorem dX3_named0_97 : decode cX3_named0 97 = .ok (.areturn, 1) := by decide +kernel
set_option maxRecDepth 100000 in
theorem dX3_named0_98 : decode cX3_named0 98 = .ok (.aload_n 2, 1) := by decide +kernel
set_option maxRecDepth 100000 in
theorem dX3_named0_99 : decode cX3_named0 99 = .ok (.aload_n 0, 1) := by decide +kernel
set_option maxRecDepth 100000 in
theorem dX3_named0_100 : decode cX3_named0 100 = .ok (.invokevirtual 301, 3) := by decide +kernel
set_option maxRecDepth 100000 in
theorem dX3_named0_103 : decode cX3_named0 103 = .ok (.invokevirtual 84, 3) := by decide +kernel
set_option maxRecDepth 100000 in
theorem dX3_named0_106 : decode cX3_named0 106 = .ok (.pop, 1) := by decide +kernel
set_option maxRecDepth 100000 in
theorem dX3_named0_107 : decode cX3_named0 107 = .ok (.aload_n 0, 1) := by decide +kernel
set_option maxRecDepth 100000 in
theorem dX3_named0_108 : decode cX3_named0 108 = .ok (.ldc 88, 2) := by decide +kernel
set_option maxRecDepth 100000 in
theorem dX3_named0_110 : decode cX3_named0 110 = .ok (.invokevirtual 90, 3) := by decide +kernel
set_option maxRecDepth 100000 in
theorem dX3_named0_113 : decode cX3_named0 113 = .ok (.ifCond .ne (-15), 3) := by decide +kernel
set_option maxRecDepth 100000 in
theorem dX3_named0_116 : decode cX3_named0 116 = .ok (.aload_n 0, 1) := by decide +kernel
set_option maxRecDepth 100000 in
theorem dX3_named0_117 : decode cX3_named0 117 = .ok (.ldc 111, 2) := by decide +kernel
set_option maxRecDepth 100000 in
theorem dX3_named0_119 : decode cX3_named0 119 = .ok (.invokevirtual 99, 3) := by decide +kernel
set_option maxRecDepth 100000 in
theorem dX3_named0_122 : decode cX3_named0 122 = .ok (.pop, 1) := by decide +kernel
set_option maxRecDepth 100000 in
theorem dX3_named0_123 : decode cX3_named0 123 = .ok (.aload_n 2, 1) := by decide +kernel
set_option maxRecDepth 100000 in
theorem dX3_named0_124 : decode cX3_named0 124 = .ok (.areturn, 1) := by decide +kernel
def lX3_named0_98 (G : xG) (fr lo : Nat) (x0 : Nat) (x2 : Nat) (h : xH) (Q : Outcome → xH → Prop) : Prop := xP G YX3_named0 fr lo 98 [(0, rv x0), (2, rv x2)] [] h Q
set_option maxRecDepth 100000 in
def bX3_named0_98 (G : xG) (fr lo : Nat) (x0 : Nat) (x2 : Nat) (h : xH) (Q : Outcome → xH → Prop) : Prop := tg h x0 = 4 ∧ 1 ≤ fr ∧ 15 ≤ lo ∧ xRr G YX3_argument (fr - 1) (lo - 15) [rv x0] h (fun x5 h4 => xext h h4 → tg h4 x2 = 16 ∧ 1 ≤ fr ∧ 13 ≤ lo ∧ xRr G YX15_add (fr - 1) (lo - 13) [rv x2, rv x5] h4 (fun x11 h10 => xext h4 h10 → 1 ≤ fr ∧ 13 ≤ lo ∧ xRi G YX3_has (fr - 1) (lo - 13) [rv x0, rv (tx G 63)] h10 (fun x18 h17 => xext h10 h17 → ((¬ x18 = 0 → lX3_named0_98 G fr lo x0 x2 h17 Q) ∧ (x18 = 0 → 1 ≤ fr ∧ 13 ≤ lo ∧ xRr G YX3_need (fr - 1) (lo - 13) [rv x0, rv (tx G 61)] h17 (fun x25 h24 => xext h17 h24 → Q (.returned (some (rv x2))) h24) (fun r h2 => Q (.threw r) h2)))) (fun r h2 => Q (.threw r) h2)) (fun r h2 => Q (.threw r) h2)) (fun r h2 => Q (.threw r) h2)
set_option maxRecDepth 100000 in
theorem uX3_named0_98 {G : xG} {fr lo : Nat} {x0 : Nat} {x2 : Nat} {h : xH} {Q : Outcome → xH → Prop} (hq : bX3_named0_98 G fr lo x0 x2 h Q) : xP G YX3_named0 fr lo 98 [(0, rv x0), (2, rv x2)] [] h Q := by
  unfold bX3_named0_98 at hq
  refine x_aload_n 1 dX3_named0_98 rfl ?_
  refine x_aload_n 0 dX3_named0_99 rfl ?_
  obtain ⟨g1, hq⟩ := hq
  obtain ⟨g2, g3, hq⟩ := hq
  refine x_callV (Yc := YX3_argument) (as := []) (st := [rv x2]) q1974 mvX3_argument g1 rfl dX3_named0_100 (xle (xal1 (rv_cat _) xal0) (by decide)) (xfr g2) (xlo (xsw1 (rv_cat _) xsw0) (by decide) g3) (xKr hq (fun x5 h4 hq e6 => ?_) (fun _ _ q _ => q))
  replace hq := hq e6
  obtain ⟨g7, hq⟩ := hq
  obtain ⟨g8, g9, hq⟩ := hq
  refine x_callV (Yc := YX15_add) (as := [rv x5]) (st := []) q1795 mvX15_add g7 rfl dX3_named0_103 (xle (xal1 (rv_cat _) (xal1 (rv_cat _) xal0)) (by decide)) (xfr g8) (xlo xsw0 (by decide) g9) (xKr hq (fun x11 h10 hq e12 => ?_) (fun _ _ q _ => q))
  replace hq := hq e12
  refine x_pop dX3_named0_106 (rv_cat _) ?_
  refine x_aload_n 0 dX3_named0_107 rfl ?_
  refine x_ldcS (n := 63) 69 srX3_88 dX3_named0_108 ?_
  have t13 : tg h4 x0 = 4 := e6.tg g1 (by decide)
  have t14 : tg h10 x0 = 4 := e12.tg t13 (by decide)
  obtain ⟨g15, g16, hq⟩ := hq
  refine x_callV (Yc := YX3_has) (as := [rv (tx G 63)]) (st := []) q1783 mvX3_has t14 rfl dX3_named0_110 (xle (xal1 (rv_cat _) (xal1 (rv_cat _) xal0)) (by decide)) (xfr g15) (xlo xsw0 (by decide) g16) (xKi hq (fun x18 h17 hq e19 => ?_) (fun _ _ q _ => q))
  replace hq := hq e19
  refine x_if_ne (tgt := 98) dX3_named0_113 (by decide) (fun c20 => ?_) (fun c20 => ?_)
  · replace hq := hq.1 c20
    exact hq
  · replace hq := hq.2 c20
    refine x_aload_n 0 dX3_named0_116 rfl ?_
    refine x_ldcS (n := 61) 70 srX3_111 dX3_named0_117 ?_
    have t21 : tg h17 x0 = 4 := e19.tg t14 (by decide)
    obtain ⟨g22, g23, hq⟩ := hq
    refine x_callV (Yc := YX3_need) (as := [rv (tx G 61)]) (st := []) q1719 mvX3_need t21 rfl dX3_named0_119 (xle (xal1 (rv_cat _) (xal1 (rv_cat _) xal0)) (by decide)) (xfr g22) (xlo xsw0 (by decide) g23) (xKr hq (fun x25 h24 hq e26 => ?_) (fun _ _ q _ => q))
    replace hq := hq e26
    refine x_pop dX3_named0_122 (rv_cat _) ?_
    refine x_aload_n 1 dX3_named0_123 rfl ?_
    exact x_aret rfl xty_O dX3_named0_124 hq
set_option maxRecDepth 100000 in
def bX3_named0_42 (G : xG) (fr lo : Nat) (x0 : Nat) (x1 : Nat) (h : xH) (Q : Outcome → xH → Prop) : Prop := tg h x0 = 4 ∧ 1 ≤ fr ∧ 16 ≤ lo ∧ xRr G YX3_variable (fr - 1) (lo - 16) [rv x0, rv x1] h (fun x5 h4 => xext h h4 → nx h4 + 1 ≤ xGN G ∧ us h4 + 6 ≤ xGU G ∧ (∀ (a9 : Nat) (h10 : xH), a9 = nx h4 + 1 → h10 = nO h4 16 6 → xfresh h4 a9 → 1 ≤ fr ∧ 16 ≤ lo ∧ xRr G YX3_need (fr - 1) (lo - 16) [rv x0, rv (tx G 51)] h10 (fun x20 h19 => xext h10 h19 → 1 ≤ fr ∧ 15 ≤ lo ∧ xRv G YX15_init (fr - 1) (lo - 15) [rv a9, .int 41, rv x20] h19 (fun h25 => xext h19 h25 → 1 ≤ fr ∧ 13 ≤ lo ∧ xRr G YX15_add (fr - 1) (lo - 13) [rv a9, rv x5] h25 (fun x32 h31 => xext h25 h31 → 1 ≤ fr ∧ 14 ≤ lo ∧ xRr G YX3_e (fr - 1) (lo - 14) [rv x0] h31 (fun x40 h39 => xext h31 h39 → tg h39 x32 = 16 ∧ 1 ≤ fr ∧ 13 ≤ lo ∧ xRr G YX15_add (fr - 1) (lo - 13) [rv x32, rv x40] h39 (fun x46 h45 => xext h39 h45 → Q (.returned (some (rv x46))) h45) (fun r h2 => Q (.threw r) h2)) (fun r h2 => Q (.threw r) h2)) (fun r h2 => Q (.threw r) h2)) (fun r h2 => Q (.threw r) h2)) (fun r h2 => Q (.threw r) h2))) (fun r h2 => Q (.threw r) h2)
set_option maxRecDepth 100000 in
theorem uX3_named0_42 {G : xG} {fr lo : Nat} {x0 : Nat} {x1 : Nat} {h : xH} {Q : Outcome → xH → Prop} (hq : bX3_named0_42 G fr lo x0 x1 h Q) : xP G YX3_named0 fr lo 42 [(0, rv x0), (1, rv x1)] [] h Q := by
  unfold bX3_named0_42 at hq
  refine x_aload_n 0 dX3_named0_42 rfl ?_
  refine x_aload_n 1 dX3_named0_43 rfl ?_
  obtain ⟨g1, hq⟩ := hq
  obtain ⟨g2, g3, hq⟩ := hq
  refine x_callV (Yc := YX3_variable) (as := [rv x1]) (st := []) q1924 mvX3_variable g1 rfl dX3_named0_44 (xle (xal1 (rv_cat _) (xal1 (rv_cat _) xal0)) (by decide)) (xfr g2) (xlo xsw0 (by decide) g3) (xKr hq (fun x5 h4 hq e6 => ?_) (fun _ _ q _ => q))
  replace hq := hq e6
  refine x_astore_n (lv' := [(2, rv x5), (0, rv x0), (1, rv x1)]) dX3_named0_47 (by decide) (by first | rfl | (simp [rv_cat, Value.category]; done) | (simp [rv_cat, Value.category]; decide)) ?_
  obtain ⟨g7, g8, hq⟩ := hq
  obtain ⟨a9, e11⟩ : ∃ y, y = nx h4 + 1 := ⟨_, rfl⟩
  obtain ⟨h10, e12⟩ : ∃ y, y = nO h4 16 6 := ⟨_, rfl⟩
  refine x_new' cdX3_71 dX3_named0_48 g7 g8 e11 e12 (fun f13 => ?_)
  replace hq := hq a9 h10 e11 e12 f13
  have t14 : tg h10 a9 = 16 := by rw [e12, e11]; exact tg_nO
  refine x_dup dX3_named0_51 (rv_cat _) ?_
  refine x_bipush (v := 41) dX3_named0_52 (by decide) ?_
  refine x_aload_n 1 dX3_named0_54 rfl ?_
  refine x_ldcwS (n := 51) 97 srX3_292 dX3_named0_55 ?_
  have t15 : tg h4 x0 = 4 := e6.tg g1 (by decide)
  have t16 : tg h10 x0 = 4 := by rw [e12]; exact tg_nO_ne e11 f13 t15 (by decide)
  obtain ⟨g17, g18, hq⟩ := hq
  refine x_callV (Yc := YX3_need) (as := [rv (tx G 51)]) (st := [.int 41, rv a9, rv a9]) q1719 mvX3_need t16 rfl dX3_named0_58 (xle (xal1 (rv_cat _) (xal1 (rv_cat _) xal0)) (by decide)) (xfr g17) (xlo (xsw1 rfl (xsw1 (rv_cat _) (xsw1 (rv_cat _) xsw0))) (by decide) g18) (xKr hq (fun x20 h19 hq e21 => ?_) (fun _ _ q _ => q))
  replace hq := hq e21
  have t22 : tg h19 a9 = 16 := e21.tg t14 (by decide)
  obtain ⟨g23, g24, hq⟩ := hq
  refine x_callI (Yc := YX15_init) (as := [.int 41, rv x20]) (st := [rv a9]) q1749 miX15_init (by rw [t22]; decide) rfl dX3_named0_61 (xle (xal1 (rv_cat _) (xal1 rfl (xal1 (rv_cat _) xal0))) (by decide)) (xfr g23) (xlo (xsw1 (rv_cat _) xsw0) (by decide) g24) (xKv hq (fun h25 hq e27 => ?_) (fun _ _ q _ => q))
  replace hq := hq e27
  refine x_aload_n 0 dX3_named0_64 rfl ?_
  have t28 : tg h25 a9 = 16 := e27.tg t22 (by decide)
  obtain ⟨g29, g30, hq⟩ := hq
  refine x_callV (Yc := YX15_add) (as := [rv x5]) (st := []) q1795 mvX15_add t28 rfl dX3_named0_65 (xle (xal1 (rv_cat _) (xal1 (rv_cat _) xal0)) (by decide)) (xfr g29) (xlo xsw0 (by decide) g30) (xKr hq (fun x32 h31 hq e33 => ?_) (fun _ _ q _ => q))
  replace hq := hq e33
  refine x_aload_n 1 dX3_named0_68 rfl ?_
  have t34 : tg h19 x0 = 4 := e21.tg t16 (by decide)
  have t35 : tg h25 x0 = 4 := e27.tg t34 (by decide)
  have t36 : tg h31 x0 = 4 := e33.tg t35 (by decide)
  obtain ⟨g37, g38, hq⟩ := hq
  refine x_callV (Yc := YX3_e) (as := []) (st := [rv x32]) q1928 mvX3_e t36 rfl dX3_named0_69 (xle (xal1 (rv_cat _) xal0) (by decide)) (xfr g37) (xlo (xsw1 (rv_cat _) xsw0) (by decide) g38) (xKr hq (fun x40 h39 hq e41 => ?_) (fun _ _ q _ => q))
  replace hq := hq e41
  obtain ⟨g42, hq⟩ := hq
  obtain ⟨g43, g44, hq⟩ := hq
  refine x_callV (Yc := YX15_add) (as := [rv x40]) (st := []) q1795 mvX15_add g42 rfl dX3_named0_72 (xle (xal1 (rv_cat _) (xal1 (rv_cat _) xal0)) (by decide)) (xfr g43) (xlo xsw0 (by decide) g44) (xKr hq (fun x46 h45 hq e47 => ?_) (fun _ _ q _ => q))
  replace hq := hq e47
  exact x_aret rfl xty_O dX3_named0_75 hq
set_option maxRecDepth 100000 in
def bX3_named0 (G : xG) (fr lo : Nat) (x0 : Nat) (h : xH) (Q : Outcome → xH → Prop) : Prop := tg h x0 = 4 ∧ 1 ≤ fr ∧ 13 ≤ lo ∧ xRr G YX3_take (fr - 1) (lo - 13) [rv x0] h (fun x5 h4 => xext h h4 → 1 ≤ fr ∧ 13 ≤ lo ∧ xRi G YX3_is (fr - 1) (lo - 13) [rv x0, rv (tx G 46)] h4 (fun x11 h10 => xext h4 h10 → ((¬ x11 = 0 → bX3_named0_42 G fr lo x0 x5 h10 Q) ∧ (x11 = 0 → 1 ≤ fr ∧ 13 ≤ lo ∧ xRi G YX3_is (fr - 1) (lo - 13) [rv x0, rv (tx G 62)] h10 (fun x18 h17 => xext h10 h17 → ((¬ x18 = 0 → bX3_named0_42 G fr lo x0 x5 h17 Q) ∧ (x18 = 0 → 1 ≤ fr ∧ 13 ≤ lo ∧ xRi G YX3_is (fr - 1) (lo - 13) [rv x0, rv (tx G 66)] h17 (fun x25 h24 => xext h17 h24 → ((¬ x25 = 0 → bX3_named0_42 G fr lo x0 x5 h24 Q) ∧ (x25 = 0 → 1 ≤ fr ∧ 13 ≤ lo ∧ xRi G YX3_is (fr - 1) (lo - 13) [rv x0, rv (tx G 51)] h24 (fun x32 h31 => xext h24 h31 → ((x32 = 0 → nx h31 + 1 ≤ xGN G ∧ us h31 + 6 ≤ xGU G ∧ (∀ (a37 : Nat) (h38 : xH), a37 = nx h31 + 1 → h38 = nO h31 16 6 → xfresh h31 a37 → 1 ≤ fr ∧ 15 ≤ lo ∧ xRv G YX15_init (fr - 1) (lo - 15) [rv a37, .int 42, rv x5] h38 (fun h45 => xext h38 h45 → 1 ≤ fr ∧ 13 ≤ lo ∧ xRi G YX3_has (fr - 1) (lo - 13) [rv x0, rv (tx G 60)] h45 (fun x54 h53 => xext h45 h53 → ((¬ x54 = 0 → lX3_named0_98 G fr lo x0 a37 h53 Q) ∧ (x54 = 0 → Q (.returned (some (rv a37))) h53))) (fun r h2 => Q (.threw r) h2)) (fun r h2 => Q (.threw r) h2))) ∧ (¬ x32 = 0 → bX3_named0_42 G fr lo x0 x5 h31 Q))) (fun r h2 => Q (.threw r) h2)))) (fun r h2 => Q (.threw r) h2)))) (fun r h2 => Q (.threw r) h2)))) (fun r h2 => Q (.threw r) h2)) (fun r h2 => Q (.threw r) h2)
set_option maxRecDepth 100000 in
theorem uX3_named0 {G : xG} {fr lo : Nat} {x0 : Nat} {h : xH} {Q : Outcome → xH → Prop} (hq : bX3_named0 G fr lo x0 h Q) : xP G YX3_named0 fr lo 0 [(0, rv x0)] [] h Q := by
  unfold bX3_named0 at hq
  refine x_aload_n 0 dX3_named0_0 rfl ?_
  obtain ⟨g1, hq⟩ := hq
  obtain ⟨g2, g3, hq⟩ := hq
  refine x_callV (Yc := YX3_take) (as := []) (st := []) q1738 mvX3_take g1 rfl dX3_named0_1 (xle (xal1 (rv_cat _) xal0) (by decide)) (xfr g2) (xlo xsw0 (by decide) g3) (xKr hq (fun x5 h4 hq e6 => ?_) (fun _ _ q _ => q))
  replace hq := hq e6
  refine x_astore_n (lv' := [(1, rv x5), (0, rv x0)]) dX3_named0_4 (by decide) (by first | rfl | (simp [rv_cat, Value.category]; done) | (simp [rv_cat, Value.category]; decide)) ?_
  refine x_aload_n 1 dX3_named0_5 rfl ?_
  refine x_ldcS (n := 46) 81 srX3_221 dX3_named0_6 ?_
  have t7 : tg h4 x0 = 4 := e6.tg g1 (by decide)
  obtain ⟨g8, g9, hq⟩ := hq
  refine x_callV (Yc := YX3_is) (as := [rv (tx G 46)]) (st := []) q1723 mvX3_is t7 rfl dX3_named0_8 (xle (xal1 (rv_cat _) (xal1 (rv_cat _) xal0)) (by decide)) (xfr g8) (xlo xsw0 (by decide) g9) (xKi hq (fun x11 h10 hq e12 => ?_) (fun _ _ q _ => q))
  replace hq := hq e12
  refine x_if_ne (tgt := 42) dX3_named0_11 (by decide) (fun c13 => ?_) (fun c13 => ?_)
  · replace hq := hq.1 c13
    refine xP.pick (lv' := [(0, rv x0), (1, rv x5)]) [1, 0] rfl ?_
    exact uX3_named0_42 hq
  · replace hq := hq.2 c13
    refine x_aload_n 1 dX3_named0_14 rfl ?_
    refine x_ldcS (n := 62) 96 srX3_118 dX3_named0_15 ?_
    have t14 : tg h10 x0 = 4 := e12.tg t7 (by decide)
    obtain ⟨g15, g16, hq⟩ := hq
    refine x_callV (Yc := YX3_is) (as := [rv (tx G 62)]) (st := []) q1723 mvX3_is t14 rfl dX3_named0_17 (xle (xal1 (rv_cat _) (xal1 (rv_cat _) xal0)) (by decide)) (xfr g15) (xlo xsw0 (by decide) g16) (xKi hq (fun x18 h17 hq e19 => ?_) (fun _ _ q _ => q))
    replace hq := hq e19
    refine x_if_ne (tgt := 42) dX3_named0_20 (by decide) (fun c20 => ?_) (fun c20 => ?_)
    · replace hq := hq.1 c20
      refine xP.pick (lv' := [(0, rv x0), (1, rv x5)]) [1, 0] rfl ?_
      exact uX3_named0_42 hq
    · replace hq := hq.2 c20
      refine x_aload_n 1 dX3_named0_23 rfl ?_
      refine x_ldcS (n := 66) 78 srX3_203 dX3_named0_24 ?_
      have t21 : tg h17 x0 = 4 := e19.tg t14 (by decide)
      obtain ⟨g22, g23, hq⟩ := hq
      refine x_callV (Yc := YX3_is) (as := [rv (tx G 66)]) (st := []) q1723 mvX3_is t21 rfl dX3_named0_26 (xle (xal1 (rv_cat _) (xal1 (rv_cat _) xal0)) (by decide)) (xfr g22) (xlo xsw0 (by decide) g23) (xKi hq (fun x25 h24 hq e26 => ?_) (fun _ _ q _ => q))
      replace hq := hq e26
      refine x_if_ne (tgt := 42) dX3_named0_29 (by decide) (fun c27 => ?_) (fun c27 => ?_)
      · replace hq := hq.1 c27
        refine xP.pick (lv' := [(0, rv x0), (1, rv x5)]) [1, 0] rfl ?_
        exact uX3_named0_42 hq
      · replace hq := hq.2 c27
        refine x_aload_n 1 dX3_named0_32 rfl ?_
        refine x_ldcwS (n := 51) 97 srX3_292 dX3_named0_33 ?_
        have t28 : tg h24 x0 = 4 := e26.tg t21 (by decide)
        obtain ⟨g29, g30, hq⟩ := hq
        refine x_callV (Yc := YX3_is) (as := [rv (tx G 51)]) (st := []) q1723 mvX3_is t28 rfl dX3_named0_36 (xle (xal1 (rv_cat _) (xal1 (rv_cat _) xal0)) (by decide)) (xfr g29) (xlo xsw0 (by decide) g30) (xKi hq (fun x32 h31 hq e33 => ?_) (fun _ _ q _ => q))
        replace hq := hq e33
        refine x_if_eq (tgt := 76) dX3_named0_39 (by decide) (fun c34 => ?_) (fun c34 => ?_)
        · replace hq := hq.1 c34
          obtain ⟨g35, g36, hq⟩ := hq
          obtain ⟨a37, e39⟩ : ∃ y, y = nx h31 + 1 := ⟨_, rfl⟩
          obtain ⟨h38, e40⟩ : ∃ y, y = nO h31 16 6 := ⟨_, rfl⟩
          refine x_new' cdX3_71 dX3_named0_76 g35 g36 e39 e40 (fun f41 => ?_)
          replace hq := hq a37 h38 e39 e40 f41
          have t42 : tg h38 a37 = 16 := by rw [e40, e39]; exact tg_nO
          refine x_dup dX3_named0_79 (rv_cat _) ?_
          refine x_bipush (v := 42) dX3_named0_80 (by decide) ?_
          refine x_aload_n 0 dX3_named0_82 rfl ?_
          obtain ⟨g43, g44, hq⟩ := hq
          refine x_callI (Yc := YX15_init) (as := [.int 42, rv x5]) (st := [rv a37]) q1749 miX15_init (by rw [t42]; decide) rfl dX3_named0_83 (xle (xal1 (rv_cat _) (xal1 rfl (xal1 (rv_cat _) xal0))) (by decide)) (xfr g43) (xlo (xsw1 (rv_cat _) xsw0) (by decide) g44) (xKv hq (fun h45 hq e47 => ?_) (fun _ _ q _ => q))
          replace hq := hq e47
          refine x_astore_n (lv' := [(2, rv a37), (1, rv x5), (0, rv x0)]) dX3_named0_86 (by decide) (by first | rfl | (simp [rv_cat, Value.category]; done) | (simp [rv_cat, Value.category]; decide)) ?_
          refine x_aload_n 2 dX3_named0_87 rfl ?_
          refine x_ldcS (n := 60) 68 srX3_105 dX3_named0_88 ?_
          have t48 : tg h31 x0 = 4 := e33.tg t28 (by decide)
          have t49 : tg h38 x0 = 4 := by rw [e40]; exact tg_nO_ne e39 f41 t48 (by decide)
          have t50 : tg h45 x0 = 4 := e47.tg t49 (by decide)
          obtain ⟨g51, g52, hq⟩ := hq
          refine x_callV (Yc := YX3_has) (as := [rv (tx G 60)]) (st := []) q1783 mvX3_has t50 rfl dX3_named0_90 (xle (xal1 (rv_cat _) (xal1 (rv_cat _) xal0)) (by decide)) (xfr g51) (xlo xsw0 (by decide) g52) (xKi hq (fun x54 h53 hq e55 => ?_) (fun _ _ q _ => q))
          replace hq := hq e55
          refine x_if_ne (tgt := 98) dX3_named0_93 (by decide) (fun c56 => ?_) (fun c56 => ?_)
          · replace hq := hq.1 c56
            refine xP.pick (lv' := [(0, rv x0), (2, rv a37)]) [2, 0] rfl ?_
            exact hq
          · replace hq := hq.2 c56
            refine x_aload_n 0 dX3_named0_96 rfl ?_
            exact x_aret rfl xty_O dX3_named0_97 hq
        · replace hq := hq.2 c34
          refine xP.pick (lv' := [(0, rv x0), (1, rv x5)]) [1, 0] rfl ?_
          exact uX3_named0_42 hq
theorem rX3_named0 {G : xG} {fr lo : Nat} {x0 : Nat} {h : xH} {Q : Outcome → xH → Prop} (hq : bX3_named0 G fr lo x0 h Q) : xR G YX3_named0 fr lo [rv x0] h Q := by
  show xP _ _ _ _ _ (lv_args 0 _) _ _ _
  rw [show lv_args 0 [rv x0] = [(0, rv x0)] from (xla1 (rv_cat _) xla0)]
  exact uX3_named0 hq
set_option maxRecDepth 100000 in
theorem dX3_variable_0 : decode cX3_variable 0 = .ok (.new 71, 3) := by decide +kernel
set_option maxRecDepth 100000 in
theorem dX3_variable_3 : decode cX3_variable 3 = .ok (.dup, 1) := by decide +kernel
set_option maxRecDepth 100000 in
theorem dX3_variable_4 : decode cX3_variable 4 = .ok (.bipush 58, 2) := by decide +kernel
set_option maxRecDepth 100000 in
theorem dX3_variable_6 : decode cX3_variable 6 = .ok (.aload_n 1, 1) := by decide +kernel
set_option maxRecDepth 100000 in
theorem dX3_variable_7 : decode cX3_variable 7 = .ok (.invokespecial 77, 3) := by decide +kernel
set_option maxRecDepth 100000 in
theorem dX3_variable_10 : decode cX3_variable 10 = .ok (.astore_n 2, 1) := by decide +kernel
set_option maxRecDepth 100000 in
theorem dX3_variable_11 : decode cX3_variable 11 = .ok (.iconst 1, 1) := by decide +kernel
set_option maxRecDepth 100000 in
theorem dX3_variable_12 : decode cX3_variable 12 = .ok (.istore_n 3, 1) := by decide +kernel
set_option maxRecDepth 100000 in
theorem dX3_variable_13 : decode cX3_variable 13 = .ok (.iload_n 3, 1) := by decide +kernel
set_option maxRecDepth 100000 in
theorem dX3_variable_14 : decode cX3_variable 14 = .ok (.ifCond .eq 134, 3) := by decide +kernel
set_option maxRecDepth 100000 in
theorem dX3_variable_17 : decode cX3_variable 17 = .ok (.aload_n 0, 1) := by decide +kernel
set_option maxRecDepth 100000 in
theorem dX3_variable_18 : decode cX3_variable 18 = .ok (.getfield 25, 3) := by decide +kernel
set_option maxRecDepth 100000 in
theorem dX3_variable_21 : decode cX3_variable 21 = .ok (.astore 4, 2) := by decide +kernel
set_option maxRecDepth 100000 in
theorem dX3_variable_23 : decode cX3_variable 23 = .ok (.aload_n 0, 1) := by decide +kernel
set_option maxRecDepth 100000 in
theorem dX3_variable_24 : decode cX3_variable 24 = .ok (.ldc 221, 2) := by decide +kernel
set_option maxRecDepth 100000 in
theorem dX3_variable_26 : decode cX3_variable 26 = .ok (.invokevirtual 60, 3) := by decide +kernel
set_option maxRecDepth 100000 in
theorem dX3_variable_29 : decode cX3_variable 29 = .ok (.ifCond .eq 51, 3) := by decide +kernel
set_option maxRecDepth 100000 in
theorem dX3_variable_32 : decode cX3_variable 32 = .ok (.aload_n 0, 1) := by decide +kernel
set_option maxRecDepth 100000 in
theorem dX3_variable_33 : decode cX3_variable 33 = .ok (.invokevirtual 65, 3) := by decide +kernel
set_option maxRecDepth 100000 in
theorem dX3_variable_36 : decode cX3_variable 36 = .ok (.astore 4, 2) := by decide +kernel
set_option maxRecDepth 100000 in
theorem dX3_variable_38 : decode cX3_variable 38 = .ok (.aload_n 2, 1) := by decide +kernel
set_option maxRecDepth 100000 in
theorem dX3_variable_39 : decode cX3_variable 39 = .ok (.new 71, 3) := by decide +kernel
set_option maxRecDepth 100000 in
theorem dX3_variable_42 : decode cX3_variable 42 = .ok (.dup, 1) := by decide +kernel
set_option maxRecDepth 100000 in
theorem dX3_variable_43 : decode cX3_variable 43 = .ok (.bipush 59, 2) := by decide +kernel
set_option maxRecDepth 100000 in
theorem dX3_variable_45 : decode cX3_variable 45 = .ok (.aload 4, 2) := by decide +kernel
set_option maxRecDepth 100000 in
theorem dX3_variable_47 : decode cX3_variable 47 = .ok (.invokespecial 77, 3) := by decide +kernel
set_option maxRecDepth 100000 in
theorem dX3_variable_50 : decode cX3_variable 50 = .ok (.aload_n 0, 1) := by decide +kernel
set_option maxRecDepth 100000 in
theorem dX3_variable_51 : decode cX3_variable 51 = .ok (.invokevirtual 261, 3) := by decide +kernel
set_option maxRecDepth 100000 in
theorem dX3_variable_54 : decode cX3_variable 54 = .ok (.invokevirtual 84, 3) := by decide +kernel
set_option maxRecDepth 100000 in
theorem dX3_variable_57 : decode cX3_variable 57 = .ok (.invokevirtual 84, 3) := by decide +kernel
set_option maxRecDepth 100000 in
theorem dX3_variable_60 : decode cX3_variable 60 = .ok (.pop, 1) := by decide +kernel
set_option maxRecDepth 100000 in
theorem dX3_variable_61 : decode cX3_variable 61 = .ok (.aload_n 0, 1) := by decide +kernel
set_option maxRecDepth 100000 in
theorem dX3_variable_62 : decode cX3_variable 62 = .ok (.ldc 88, 2) := by decide +kernel
set_option maxRecDepth 100000 in
theorem dX3_variable_64 : decode cX3_variable 64 = .ok (.invokevirtual 60, 3) := by decide +kernel
set_option maxRecDepth 100000 in
theorem dX3_variable_67 : decode cX3_variable 67 = .ok (.ifCond .ne (-35), 3) := by decide +kernel
set_option maxRecDepth 100000 in
theorem dX3_variable_70 : decode cX3_variable 70 = .ok (.aload_n 0, 1) := by decide +kernel
set_option maxRecDepth 100000 in
theorem dX3_variable_71 : decode cX3_variable 71 = .ok (.ldc 223, 2) := by decide +kernel
set_option maxRecDepth 100000 in
theorem dX3_variable_73 : decode cX3_variable 73 = .ok (.invokevirtual 99, 3) := by decide +kernel
set_option maxRecDepth 100000 in
theorem dX3_variable_76 : decode cX3_variable 76 = .ok (.pop, 1) := by decide +kernel
set_option maxRecDepth 100000 in
theorem dX3_variable_77 : decode cX3_variable 77 = .ok (.goto 68, 3) := by decide +kernel
set_option maxRecDepth 100000 in
theorem dX3_variable_80 : decode cX3_variable 80 = .ok (.aload_n 0, 1) := by decide +kernel
set_option maxRecDepth 100000 in
theorem dX3_variable_81 : decode cX3_variable 81 = .ok (.ldc 118, 2) := by decide +kernel
set_option maxRecDepth 100000 in
theorem dX3_variable_83 : decode cX3_variable 83 = .ok (.invokevirtual 90, 3) := by decide +kernel
set_option maxRecDepth 100000 in
theorem dX3_variable_86 : decode cX3_variable 86 = .ok (.ifCond .eq 29, 3) := by decide +kernel
set_option maxRecDepth 100000 in
theorem dX3_variable_89 : decode cX3_variable 89 = .ok (.aload_n 2, 1) := by decide +kernel
set_option maxRecDepth 100000 in
theorem dX3_variable_90 : decode cX3_variable 90 = .ok (.new 71, 3) := by decide +kernel
set_option maxRecDepth 100000 in
theorem dX3_variable_93 : decode cX3_variable 93 = .ok (.dup, 1) := by decide +kernel
set_option maxRecDepth 100000 in
theorem dX3_variable_94 : decode cX3_variable 94 = .ok (.bipush 60, 2) := by decide +kernel
set_option maxRecDepth 100000 in
theorem dX3_variable_96 : decode cX3_variable 96 = .ok (.aload 4, 2) := by decide +kernel
set_option maxRecDepth 100000 in
theorem dX3_variable_98 : decode cX3_variable 98 = .ok (.invokespecial 77, 3) := by decide +kernel
set_option maxRecDepth 100000 in
theorem dX3_variable_101 : decode cX3_variable 101 = .ok (.aload_n 0, 1) := by decide +kernel
set_option maxRecDepth 100000 in
theorem dX3_variable_102 : decode cX3_variable 102 = .ok (.invokevirtual 80, 3) := by decide +kernel
set_option maxRecDepth 100000 in
theorem dX3_variable_105 : decode cX3_variable 105 = .ok (.invokevirtual 84, 3) := by decide +kernel
set_option maxRecDepth 100000 in
theorem dX3_variable_108 : decode cX3_variable 108 = .ok (.invokevirtual 84, 3) := by decide +kernel
set_option maxRecDepth 100000 in
theorem dX3_variable_111 : decode cX3_variable 111 = .ok (.pop, 1) := by decide +kernel
set_option maxRecDepth 100000 in
theorem dX3_variable_112 : decode cX3_variable 112 = .ok (.goto 33, 3) := by decide +kernel
set_option maxRecDepth 100000 in
theorem dX3_variable_115 : decode cX3_variable 115 = .ok (.aload_n 0, 1) := by decide +kernel
set_option maxRecDepth 100000 in
theorem dX3_variable_116 : decode cX3_variable 116 = .ok (.ldc 203, 2) := by decide +kernel
set_option maxRecDepth 100000 in
theorem dX3_variable_118 : decode cX3_variable 118 = .ok (.invokevirtual 90, 3) := by decide +kernel
set_option maxRecDepth 100000 in
theorem dX3_variable_121 : decode cX3_variable 121 = .ok (.ifCond .eq 22, 3) := by decide +kernel
set_option maxRecDepth 100000 in
theorem dX3_variable_124 : decode cX3_variable 124 = .ok (.aload_n 2, 1) := by decide +kernel
set_option maxRecDepth 100000 in
theorem dX3_variable_125 : decode cX3_variable 125 = .ok (.new 71, 3) := by decide +kernel
set_option maxRecDepth 100000 in
theorem dX3_variable_128 : decode cX3_variable 128 = .ok (.dup, 1) := by decide +kernel
set_option maxRecDepth 100000 in
theorem dX3_variable_129 : decode cX3_variable 129 = .ok (.bipush 61, 2) := by decide +kernel
set_option maxRecDepth 100000 in
theorem dX3_variable_131 : decode cX3_variable 131 = .ok (.aload 4, 2) := by decide +kernel
set_option maxRecDepth 100000 in
theorem dX3_variable_133 : decode cX3_variable 133 = .ok (.invokespecial 77, 3) := by decide +kernel
set_option maxRecDepth 100000 in
theorem dX3_variable_136 : decode cX3_variable 136 = .ok (.invokevirtual 84, 3) := by decide +kernel
set_option maxRecDepth 100000 in
theorem dX3_variable_139 : decode cX3_variable 139 = .ok (.pop, 1) := by decide +kernel
set_option maxRecDepth 100000 in
theorem dX3_variable_140 : decode cX3_variable 140 = .ok (.goto 5, 3) := by decide +kernel
set_option maxRecDepth 100000 in
theorem dX3_variable_143 : decode cX3_variable 143 = .ok (.iconst 0, 1) := by decide +kernel
set_option maxRecDepth 100000 in
theorem dX3_variable_144 : decode cX3_variable 144 = .ok (.istore_n 3, 1) := by decide +kernel
set_option maxRecDepth 100000 in
theorem dX3_variable_145 : decode cX3_variable 145 = .ok (.goto (-132), 3) := by decide +kernel
set_option maxRecDepth 100000 in
theorem dX3_variable_148 : decode cX3_variable 148 = .ok (.aload_n 2, 1) := by decide +kernel
set_option maxRecDepth 100000 in
theorem dX3_variable_149 : decode cX3_variable 149 = .ok (.areturn, 1) := by decide +kernel
def lX3_variable_13 (G : xG) (fr lo : Nat) (x0 : Nat) (x2 : Nat) (x3 : Int32) (h : xH) (Q : Outcome → xH → Prop) : Prop := xP G YX3_variable fr lo 13 [(0, rv x0), (2, rv x2), (3, .int x3)] [] h Q
def lX3_variable_32 (G : xG) (fr lo : Nat) (x0 : Nat) (x2 : Nat) (x3 : Int32) (h : xH) (Q : Outcome → xH → Prop) : Prop := xP G YX3_variable fr lo 32 [(0, rv x0), (2, rv x2), (3, .int x3)] [] h Q
set_option maxRecDepth 100000 in
def bX3_variable_145 (G : xG) (fr lo : Nat) (x0 : Nat) (x2 : Nat) (x3 : Int32) (h : xH) (Q : Outcome → xH → Prop) : Prop := lX3_variable_13 G fr lo x0 x2 x3 h Q
set_option maxRecDepth 100000 in
theorem uX3_variable_145 {G : xG} {fr lo : Nat} {x0 : Nat} {x2 : Nat} {x3 : Int32} {h : xH} {Q : Outcome → xH → Prop} (hq : bX3_variable_145 G fr lo x0 x2 x3 h Q) : xP G YX3_variable fr lo 145 [(0, rv x0), (2, rv x2), (3, .int x3)] [] h Q := by
  unfold bX3_variable_145 at hq
  refine x_goto (tgt := 13) dX3_variable_145 (by decide) ?_
  exact hq
set_option maxRecDepth 100000 in
def bX3_variable_32 (G : xG) (fr lo : Nat) (x0 : Nat) (x2 : Nat) (x3 : Int32) (h : xH) (Q : Outcome → xH → Prop) : Prop := tg h x0 = 4 ∧ 1 ≤ fr ∧ 13 ≤ lo ∧ xRr G YX3_take (fr - 1) (lo - 13) [rv x0] h (fun x5 h4 => xext h h4 → nx h4 + 1 ≤ xGN G ∧ us h4 + 6 ≤ xGU G ∧ (∀ (a9 : Nat) (h10 : xH), a9 = nx h4 + 1 → h10 = nO h4 16 6 → xfresh h4 a9 → 1 ≤ fr ∧ 16 ≤ lo ∧ xRv G YX15_init (fr - 1) (lo - 16) [rv a9, .int 59, rv x5] h10 (fun h17 => xext h10 h17 → 1 ≤ fr ∧ 15 ≤ lo ∧ xRr G YX3_e (fr - 1) (lo - 15) [rv x0] h17 (fun x26 h25 => xext h17 h25 → 1 ≤ fr ∧ 14 ≤ lo ∧ xRr G YX15_add (fr - 1) (lo - 14) [rv a9, rv x26] h25 (fun x33 h32 => xext h25 h32 → tg h32 x2 = 16 ∧ 1 ≤ fr ∧ 13 ≤ lo ∧ xRr G YX15_add (fr - 1) (lo - 13) [rv x2, rv x33] h32 (fun x39 h38 => xext h32 h38 → 1 ≤ fr ∧ 13 ≤ lo ∧ xRi G YX3_is (fr - 1) (lo - 13) [rv x0, rv (tx G 63)] h38 (fun x47 h46 => xext h38 h46 → ((¬ x47 = 0 → lX3_variable_32 G fr lo x0 x2 x3 h46 Q) ∧ (x47 = 0 → 1 ≤ fr ∧ 13 ≤ lo ∧ xRr G YX3_need (fr - 1) (lo - 13) [rv x0, rv (tx G 47)] h46 (fun x54 h53 => xext h46 h53 → bX3_variable_145 G fr lo x0 x2 x3 h53 Q) (fun r h2 => Q (.threw r) h2)))) (fun r h2 => Q (.threw r) h2)) (fun r h2 => Q (.threw r) h2)) (fun r h2 => Q (.threw r) h2)) (fun r h2 => Q (.threw r) h2)) (fun r h2 => Q (.threw r) h2))) (fun r h2 => Q (.threw r) h2)
set_option maxRecDepth 100000 in
theorem uX3_variable_32 {G : xG} {fr lo : Nat} {x0 : Nat} {x2 : Nat} {x3 : Int32} {h : xH} {Q : Outcome → xH → Prop} (hq : bX3_variable_32 G fr lo x0 x2 x3 h Q) : xP G YX3_variable fr lo 32 [(0, rv x0), (2, rv x2), (3, .int x3)] [] h Q := by
  unfold bX3_variable_32 at hq
  refine x_aload_n 0 dX3_variable_32 rfl ?_
  obtain ⟨g1, hq⟩ := hq
  obtain ⟨g2, g3, hq⟩ := hq
  refine x_callV (Yc := YX3_take) (as := []) (st := []) q1738 mvX3_take g1 rfl dX3_variable_33 (xle (xal1 (rv_cat _) xal0) (by decide)) (xfr g2) (xlo xsw0 (by decide) g3) (xKr hq (fun x5 h4 hq e6 => ?_) (fun _ _ q _ => q))
  replace hq := hq e6
  refine x_astore (lv' := [(4, rv x5), (0, rv x0), (2, rv x2), (3, .int x3)]) dX3_variable_36 (by decide) rfl ?_
  refine x_aload_n 2 dX3_variable_38 rfl ?_
  obtain ⟨g7, g8, hq⟩ := hq
  obtain ⟨a9, e11⟩ : ∃ y, y = nx h4 + 1 := ⟨_, rfl⟩
  obtain ⟨h10, e12⟩ : ∃ y, y = nO h4 16 6 := ⟨_, rfl⟩
  refine x_new' cdX3_71 dX3_variable_39 g7 g8 e11 e12 (fun f13 => ?_)
  replace hq := hq a9 h10 e11 e12 f13
  have t14 : tg h10 a9 = 16 := by rw [e12, e11]; exact tg_nO
  refine x_dup dX3_variable_42 (rv_cat _) ?_
  refine x_bipush (v := 59) dX3_variable_43 (by decide) ?_
  refine x_aload 0 dX3_variable_45 rfl ?_
  obtain ⟨g15, g16, hq⟩ := hq
  refine x_callI (Yc := YX15_init) (as := [.int 59, rv x5]) (st := [rv a9, rv x2]) q1749 miX15_init (by rw [t14]; decide) rfl dX3_variable_47 (xle (xal1 (rv_cat _) (xal1 rfl (xal1 (rv_cat _) xal0))) (by decide)) (xfr g15) (xlo (xsw1 (rv_cat _) (xsw1 (rv_cat _) xsw0)) (by decide) g16) (xKv hq (fun h17 hq e19 => ?_) (fun _ _ q _ => q))
  replace hq := hq e19
  refine x_aload_n 1 dX3_variable_50 rfl ?_
  have t20 : tg h4 x0 = 4 := e6.tg g1 (by decide)
  have t21 : tg h10 x0 = 4 := by rw [e12]; exact tg_nO_ne e11 f13 t20 (by decide)
  have t22 : tg h17 x0 = 4 := e19.tg t21 (by decide)
  obtain ⟨g23, g24, hq⟩ := hq
  refine x_callV (Yc := YX3_e) (as := []) (st := [rv a9, rv x2]) q1928 mvX3_e t22 rfl dX3_variable_51 (xle (xal1 (rv_cat _) xal0) (by decide)) (xfr g23) (xlo (xsw1 (rv_cat _) (xsw1 (rv_cat _) xsw0)) (by decide) g24) (xKr hq (fun x26 h25 hq e27 => ?_) (fun _ _ q _ => q))
  replace hq := hq e27
  have t28 : tg h17 a9 = 16 := e19.tg t14 (by decide)
  have t29 : tg h25 a9 = 16 := e27.tg t28 (by decide)
  obtain ⟨g30, g31, hq⟩ := hq
  refine x_callV (Yc := YX15_add) (as := [rv x26]) (st := [rv x2]) q1795 mvX15_add t29 rfl dX3_variable_54 (xle (xal1 (rv_cat _) (xal1 (rv_cat _) xal0)) (by decide)) (xfr g30) (xlo (xsw1 (rv_cat _) xsw0) (by decide) g31) (xKr hq (fun x33 h32 hq e34 => ?_) (fun _ _ q _ => q))
  replace hq := hq e34
  obtain ⟨g35, hq⟩ := hq
  obtain ⟨g36, g37, hq⟩ := hq
  refine x_callV (Yc := YX15_add) (as := [rv x33]) (st := []) q1795 mvX15_add g35 rfl dX3_variable_57 (xle (xal1 (rv_cat _) (xal1 (rv_cat _) xal0)) (by decide)) (xfr g36) (xlo xsw0 (by decide) g37) (xKr hq (fun x39 h38 hq e40 => ?_) (fun _ _ q _ => q))
  replace hq := hq e40
  refine x_pop dX3_variable_60 (rv_cat _) ?_
  refine x_aload_n 1 dX3_variable_61 rfl ?_
  refine x_ldcS (n := 63) 69 srX3_88 dX3_variable_62 ?_
  have t41 : tg h25 x0 = 4 := e27.tg t22 (by decide)
  have t42 : tg h32 x0 = 4 := e34.tg t41 (by decide)
  have t43 : tg h38 x0 = 4 := e40.tg t42 (by decide)
  obtain ⟨g44, g45, hq⟩ := hq
  refine x_callV (Yc := YX3_is) (as := [rv (tx G 63)]) (st := []) q1723 mvX3_is t43 rfl dX3_variable_64 (xle (xal1 (rv_cat _) (xal1 (rv_cat _) xal0)) (by decide)) (xfr g44) (xlo xsw0 (by decide) g45) (xKi hq (fun x47 h46 hq e48 => ?_) (fun _ _ q _ => q))
  replace hq := hq e48
  refine x_if_ne (tgt := 32) dX3_variable_67 (by decide) (fun c49 => ?_) (fun c49 => ?_)
  · replace hq := hq.1 c49
    refine xP.pick (lv' := [(0, rv x0), (2, rv x2), (3, .int x3)]) [1, 2, 3] rfl ?_
    exact hq
  · replace hq := hq.2 c49
    refine x_aload_n 1 dX3_variable_70 rfl ?_
    refine x_ldcS (n := 47) 83 srX3_223 dX3_variable_71 ?_
    have t50 : tg h46 x0 = 4 := e48.tg t43 (by decide)
    obtain ⟨g51, g52, hq⟩ := hq
    refine x_callV (Yc := YX3_need) (as := [rv (tx G 47)]) (st := []) q1719 mvX3_need t50 rfl dX3_variable_73 (xle (xal1 (rv_cat _) (xal1 (rv_cat _) xal0)) (by decide)) (xfr g51) (xlo xsw0 (by decide) g52) (xKr hq (fun x54 h53 hq e55 => ?_) (fun _ _ q _ => q))
    replace hq := hq e55
    refine x_pop dX3_variable_76 (rv_cat _) ?_
    refine x_goto (tgt := 145) dX3_variable_77 (by decide) ?_
    refine xP.pick (lv' := [(0, rv x0), (2, rv x2), (3, .int x3)]) [1, 2, 3] rfl ?_
    exact uX3_variable_145 hq
set_option maxRecDepth 100000 in
def bX3_variable_13 (G : xG) (fr lo : Nat) (x0 : Nat) (x2 : Nat) (x3 : Int32) (h : xH) (Q : Outcome → xH → Prop) : Prop := ((x3 = 0 → Q (.returned (some (rv x2))) h) ∧ (¬ x3 = 0 → tg h x0 = 4 ∧ 1 ≤ fr ∧ 13 ≤ lo ∧ xRi G YX3_is (fr - 1) (lo - 13) [rv x0, rv (tx G 46)] h (fun x6 h5 => xext h h5 → ((x6 = 0 → 1 ≤ fr ∧ 13 ≤ lo ∧ xRi G YX3_has (fr - 1) (lo - 13) [rv x0, rv (tx G 62)] h5 (fun x13 h12 => xext h5 h12 → ((x13 = 0 → 1 ≤ fr ∧ 13 ≤ lo ∧ xRi G YX3_has (fr - 1) (lo - 13) [rv x0, rv (tx G 66)] h12 (fun x20 h19 => xext h12 h19 → ((x20 = 0 → bX3_variable_145 G fr lo x0 x2 0 h19 Q) ∧ (¬ x20 = 0 → nx h19 + 1 ≤ xGN G ∧ us h19 + 6 ≤ xGU G ∧ (∀ (a25 : Nat) (h26 : xH), a25 = nx h19 + 1 → h26 = nO h19 16 6 → xfresh h19 a25 → 1 ≤ fr ∧ 16 ≤ lo ∧ xRv G YX15_init (fr - 1) (lo - 16) [rv a25, .int 61, rv (fR h x0 770)] h26 (fun h33 => xext h26 h33 → tg h33 x2 = 16 ∧ 1 ≤ fr ∧ 13 ≤ lo ∧ xRr G YX15_add (fr - 1) (lo - 13) [rv x2, rv a25] h33 (fun x40 h39 => xext h33 h39 → bX3_variable_145 G fr lo x0 x2 x3 h39 Q) (fun r h2 => Q (.threw r) h2)) (fun r h2 => Q (.threw r) h2))))) (fun r h2 => Q (.threw r) h2)) ∧ (¬ x13 = 0 → nx h12 + 1 ≤ xGN G ∧ us h12 + 6 ≤ xGU G ∧ (∀ (a44 : Nat) (h45 : xH), a44 = nx h12 + 1 → h45 = nO h12 16 6 → xfresh h12 a44 → 1 ≤ fr ∧ 16 ≤ lo ∧ xRv G YX15_init (fr - 1) (lo - 16) [rv a44, .int 60, rv (fR h x0 770)] h45 (fun h52 => xext h45 h52 → 1 ≤ fr ∧ 14 ≤ lo ∧ xRr G YX3_name (fr - 1) (lo - 14) [rv x0] h52 (fun x61 h60 => xext h52 h60 → 1 ≤ fr ∧ 14 ≤ lo ∧ xRr G YX15_add (fr - 1) (lo - 14) [rv a44, rv x61] h60 (fun x68 h67 => xext h60 h67 → tg h67 x2 = 16 ∧ 1 ≤ fr ∧ 13 ≤ lo ∧ xRr G YX15_add (fr - 1) (lo - 13) [rv x2, rv x68] h67 (fun x74 h73 => xext h67 h73 → bX3_variable_145 G fr lo x0 x2 x3 h73 Q) (fun r h2 => Q (.threw r) h2)) (fun r h2 => Q (.threw r) h2)) (fun r h2 => Q (.threw r) h2)) (fun r h2 => Q (.threw r) h2))))) (fun r h2 => Q (.threw r) h2)) ∧ (¬ x6 = 0 → lX3_variable_32 G fr lo x0 x2 x3 h5 Q))) (fun r h2 => Q (.threw r) h2)))
set_option maxRecDepth 100000 in
theorem uX3_variable_13 {G : xG} {fr lo : Nat} {x0 : Nat} {x2 : Nat} {x3 : Int32} {h : xH} {Q : Outcome → xH → Prop} (hq : bX3_variable_13 G fr lo x0 x2 x3 h Q) : xP G YX3_variable fr lo 13 [(0, rv x0), (2, rv x2), (3, .int x3)] [] h Q := by
  unfold bX3_variable_13 at hq
  refine x_iload_n 2 dX3_variable_13 rfl ?_
  refine x_if_eq (tgt := 148) dX3_variable_14 (by decide) (fun c1 => ?_) (fun c1 => ?_)
  · replace hq := hq.1 c1
    refine x_aload_n 1 dX3_variable_148 rfl ?_
    exact x_aret rfl xty_O dX3_variable_149 hq
  · replace hq := hq.2 c1
    refine x_aload_n 0 dX3_variable_17 rfl ?_
    obtain ⟨g2, hq⟩ := hq
    refine x_get (v := rv (fR h x0 770)) fdX3_25 dX3_variable_18 g2 rfl ?_
    refine x_astore (lv' := [(4, rv (fR h x0 770)), (0, rv x0), (2, rv x2), (3, .int x3)]) dX3_variable_21 (by decide) rfl ?_
    refine x_aload_n 1 dX3_variable_23 rfl ?_
    refine x_ldcS (n := 46) 81 srX3_221 dX3_variable_24 ?_
    obtain ⟨g3, g4, hq⟩ := hq
    refine x_callV (Yc := YX3_is) (as := [rv (tx G 46)]) (st := []) q1723 mvX3_is g2 rfl dX3_variable_26 (xle (xal1 (rv_cat _) (xal1 (rv_cat _) xal0)) (by decide)) (xfr g3) (xlo xsw0 (by decide) g4) (xKi hq (fun x6 h5 hq e7 => ?_) (fun _ _ q _ => q))
    replace hq := hq e7
    refine x_if_eq (tgt := 80) dX3_variable_29 (by decide) (fun c8 => ?_) (fun c8 => ?_)
    · replace hq := hq.1 c8
      refine x_aload_n 1 dX3_variable_80 rfl ?_
      refine x_ldcS (n := 62) 96 srX3_118 dX3_variable_81 ?_
      have t9 : tg h5 x0 = 4 := e7.tg g2 (by decide)
      obtain ⟨g10, g11, hq⟩ := hq
      refine x_callV (Yc := YX3_has) (as := [rv (tx G 62)]) (st := []) q1783 mvX3_has t9 rfl dX3_variable_83 (xle (xal1 (rv_cat _) (xal1 (rv_cat _) xal0)) (by decide)) (xfr g10) (xlo xsw0 (by decide) g11) (xKi hq (fun x13 h12 hq e14 => ?_) (fun _ _ q _ => q))
      replace hq := hq e14
      refine x_if_eq (tgt := 115) dX3_variable_86 (by decide) (fun c15 => ?_) (fun c15 => ?_)
      · replace hq := hq.1 c15
        refine x_aload_n 1 dX3_variable_115 rfl ?_
        refine x_ldcS (n := 66) 78 srX3_203 dX3_variable_116 ?_
        have t16 : tg h12 x0 = 4 := e14.tg t9 (by decide)
        obtain ⟨g17, g18, hq⟩ := hq
        refine x_callV (Yc := YX3_has) (as := [rv (tx G 66)]) (st := []) q1783 mvX3_has t16 rfl dX3_variable_118 (xle (xal1 (rv_cat _) (xal1 (rv_cat _) xal0)) (by decide)) (xfr g17) (xlo xsw0 (by decide) g18) (xKi hq (fun x20 h19 hq e21 => ?_) (fun _ _ q _ => q))
        replace hq := hq e21
        refine x_if_eq (tgt := 143) dX3_variable_121 (by decide) (fun c22 => ?_) (fun c22 => ?_)
        · replace hq := hq.1 c22
          refine x_iconst (v := 0) dX3_variable_143 (by decide) ?_
          refine x_istore_n (lv' := [(3, .int 0), (4, rv (fR h x0 770)), (0, rv x0), (2, rv x2)]) dX3_variable_144 (by decide) (by first | rfl | (simp [rv_cat, Value.category]; done) | (simp [rv_cat, Value.category]; decide)) ?_
          refine xP.pick (lv' := [(0, rv x0), (2, rv x2), (3, .int 0)]) [2, 3, 0] rfl ?_
          exact uX3_variable_145 hq
        · replace hq := hq.2 c22
          refine x_aload_n 2 dX3_variable_124 rfl ?_
          obtain ⟨g23, g24, hq⟩ := hq
          obtain ⟨a25, e27⟩ : ∃ y, y = nx h19 + 1 := ⟨_, rfl⟩
          obtain ⟨h26, e28⟩ : ∃ y, y = nO h19 16 6 := ⟨_, rfl⟩
          refine x_new' cdX3_71 dX3_variable_125 g23 g24 e27 e28 (fun f29 => ?_)
          replace hq := hq a25 h26 e27 e28 f29
          have t30 : tg h26 a25 = 16 := by rw [e28, e27]; exact tg_nO
          refine x_dup dX3_variable_128 (rv_cat _) ?_
          refine x_bipush (v := 61) dX3_variable_129 (by decide) ?_
          refine x_aload 0 dX3_variable_131 rfl ?_
          obtain ⟨g31, g32, hq⟩ := hq
          refine x_callI (Yc := YX15_init) (as := [.int 61, rv (fR h x0 770)]) (st := [rv a25, rv x2]) q1749 miX15_init (by rw [t30]; decide) rfl dX3_variable_133 (xle (xal1 (rv_cat _) (xal1 rfl (xal1 (rv_cat _) xal0))) (by decide)) (xfr g31) (xlo (xsw1 (rv_cat _) (xsw1 (rv_cat _) xsw0)) (by decide) g32) (xKv hq (fun h33 hq e35 => ?_) (fun _ _ q _ => q))
          replace hq := hq e35
          obtain ⟨g36, hq⟩ := hq
          obtain ⟨g37, g38, hq⟩ := hq
          refine x_callV (Yc := YX15_add) (as := [rv a25]) (st := []) q1795 mvX15_add g36 rfl dX3_variable_136 (xle (xal1 (rv_cat _) (xal1 (rv_cat _) xal0)) (by decide)) (xfr g37) (xlo xsw0 (by decide) g38) (xKr hq (fun x40 h39 hq e41 => ?_) (fun _ _ q _ => q))
          replace hq := hq e41
          refine x_pop dX3_variable_139 (rv_cat _) ?_
          refine x_goto (tgt := 145) dX3_variable_140 (by decide) ?_
          refine xP.pick (lv' := [(0, rv x0), (2, rv x2), (3, .int x3)]) [1, 2, 3] rfl ?_
          exact uX3_variable_145 hq
      · replace hq := hq.2 c15
        refine x_aload_n 2 dX3_variable_89 rfl ?_
        obtain ⟨g42, g43, hq⟩ := hq
        obtain ⟨a44, e46⟩ : ∃ y, y = nx h12 + 1 := ⟨_, rfl⟩
        obtain ⟨h45, e47⟩ : ∃ y, y = nO h12 16 6 := ⟨_, rfl⟩
        refine x_new' cdX3_71 dX3_variable_90 g42 g43 e46 e47 (fun f48 => ?_)
        replace hq := hq a44 h45 e46 e47 f48
        have t49 : tg h45 a44 = 16 := by rw [e47, e46]; exact tg_nO
        refine x_dup dX3_variable_93 (rv_cat _) ?_
        refine x_bipush (v := 60) dX3_variable_94 (by decide) ?_
        refine x_aload 0 dX3_variable_96 rfl ?_
        obtain ⟨g50, g51, hq⟩ := hq
        refine x_callI (Yc := YX15_init) (as := [.int 60, rv (fR h x0 770)]) (st := [rv a44, rv x2]) q1749 miX15_init (by rw [t49]; decide) rfl dX3_variable_98 (xle (xal1 (rv_cat _) (xal1 rfl (xal1 (rv_cat _) xal0))) (by decide)) (xfr g50) (xlo (xsw1 (rv_cat _) (xsw1 (rv_cat _) xsw0)) (by decide) g51) (xKv hq (fun h52 hq e54 => ?_) (fun _ _ q _ => q))
        replace hq := hq e54
        refine x_aload_n 1 dX3_variable_101 rfl ?_
        have t55 : tg h12 x0 = 4 := e14.tg t9 (by decide)
        have t56 : tg h45 x0 = 4 := by rw [e47]; exact tg_nO_ne e46 f48 t55 (by decide)
        have t57 : tg h52 x0 = 4 := e54.tg t56 (by decide)
        obtain ⟨g58, g59, hq⟩ := hq
        refine x_callV (Yc := YX3_name) (as := []) (st := [rv a44, rv x2]) q1791 mvX3_name t57 rfl dX3_variable_102 (xle (xal1 (rv_cat _) xal0) (by decide)) (xfr g58) (xlo (xsw1 (rv_cat _) (xsw1 (rv_cat _) xsw0)) (by decide) g59) (xKr hq (fun x61 h60 hq e62 => ?_) (fun _ _ q _ => q))
        replace hq := hq e62
        have t63 : tg h52 a44 = 16 := e54.tg t49 (by decide)
        have t64 : tg h60 a44 = 16 := e62.tg t63 (by decide)
        obtain ⟨g65, g66, hq⟩ := hq
        refine x_callV (Yc := YX15_add) (as := [rv x61]) (st := [rv x2]) q1795 mvX15_add t64 rfl dX3_variable_105 (xle (xal1 (rv_cat _) (xal1 (rv_cat _) xal0)) (by decide)) (xfr g65) (xlo (xsw1 (rv_cat _) xsw0) (by decide) g66) (xKr hq (fun x68 h67 hq e69 => ?_) (fun _ _ q _ => q))
        replace hq := hq e69
        obtain ⟨g70, hq⟩ := hq
        obtain ⟨g71, g72, hq⟩ := hq
        refine x_callV (Yc := YX15_add) (as := [rv x68]) (st := []) q1795 mvX15_add g70 rfl dX3_variable_108 (xle (xal1 (rv_cat _) (xal1 (rv_cat _) xal0)) (by decide)) (xfr g71) (xlo xsw0 (by decide) g72) (xKr hq (fun x74 h73 hq e75 => ?_) (fun _ _ q _ => q))
        replace hq := hq e75
        refine x_pop dX3_variable_111 (rv_cat _) ?_
        refine x_goto (tgt := 145) dX3_variable_112 (by decide) ?_
        refine xP.pick (lv' := [(0, rv x0), (2, rv x2), (3, .int x3)]) [1, 2, 3] rfl ?_
        exact uX3_variable_145 hq
    · replace hq := hq.2 c8
      refine xP.pick (lv' := [(0, rv x0), (2, rv x2), (3, .int x3)]) [1, 2, 3] rfl ?_
      exact hq
set_option maxRecDepth 100000 in
def bX3_variable (G : xG) (fr lo : Nat) (x0 : Nat) (x1 : Nat) (h : xH) (Q : Outcome → xH → Prop) : Prop := nx h + 1 ≤ xGN G ∧ us h + 6 ≤ xGU G ∧ (∀ (a3 : Nat) (h4 : xH), a3 = nx h + 1 → h4 = nO h 16 6 → xfresh h a3 → 1 ≤ fr ∧ 15 ≤ lo ∧ xRv G YX15_init (fr - 1) (lo - 15) [rv a3, .int 58, rv x1] h4 (fun h11 => xext h4 h11 → lX3_variable_13 G fr lo x0 a3 1 h11 Q) (fun r h2 => Q (.threw r) h2))
set_option maxRecDepth 100000 in
theorem uX3_variable {G : xG} {fr lo : Nat} {x0 : Nat} {x1 : Nat} {h : xH} {Q : Outcome → xH → Prop} (hq : bX3_variable G fr lo x0 x1 h Q) : xP G YX3_variable fr lo 0 [(0, rv x0), (1, rv x1)] [] h Q := by
  unfold bX3_variable at hq
  obtain ⟨g1, g2, hq⟩ := hq
  obtain ⟨a3, e5⟩ : ∃ y, y = nx h + 1 := ⟨_, rfl⟩
  obtain ⟨h4, e6⟩ : ∃ y, y = nO h 16 6 := ⟨_, rfl⟩
  refine x_new' cdX3_71 dX3_variable_0 g1 g2 e5 e6 (fun f7 => ?_)
  replace hq := hq a3 h4 e5 e6 f7
  have t8 : tg h4 a3 = 16 := by rw [e6, e5]; exact tg_nO
  refine x_dup dX3_variable_3 (rv_cat _) ?_
  refine x_bipush (v := 58) dX3_variable_4 (by decide) ?_
  refine x_aload_n 1 dX3_variable_6 rfl ?_
  obtain ⟨g9, g10, hq⟩ := hq
  refine x_callI (Yc := YX15_init) (as := [.int 58, rv x1]) (st := [rv a3]) q1749 miX15_init (by rw [t8]; decide) rfl dX3_variable_7 (xle (xal1 (rv_cat _) (xal1 rfl (xal1 (rv_cat _) xal0))) (by decide)) (xfr g9) (xlo (xsw1 (rv_cat _) xsw0) (by decide) g10) (xKv hq (fun h11 hq e13 => ?_) (fun _ _ q _ => q))
  replace hq := hq e13
  refine x_astore_n (lv' := [(2, rv a3), (0, rv x0), (1, rv x1)]) dX3_variable_10 (by decide) (by first | rfl | (simp [rv_cat, Value.category]; done) | (simp [rv_cat, Value.category]; decide)) ?_
  refine x_iconst (v := 1) dX3_variable_11 (by decide) ?_
  refine x_istore_n (lv' := [(3, .int 1), (2, rv a3), (0, rv x0), (1, rv x1)]) dX3_variable_12 (by decide) (by first | rfl | (simp [rv_cat, Value.category]; done) | (simp [rv_cat, Value.category]; decide)) ?_
  refine xP.pick (lv' := [(0, rv x0), (2, rv a3), (3, .int 1)]) [2, 1, 0] rfl ?_
  exact hq
theorem rX3_variable {G : xG} {fr lo : Nat} {x0 : Nat} {x1 : Nat} {h : xH} {Q : Outcome → xH → Prop} (hq : bX3_variable G fr lo x0 x1 h Q) : xR G YX3_variable fr lo [rv x0, rv x1] h Q := by
  show xP _ _ _ _ _ (lv_args 0 _) _ _ _
  rw [show lv_args 0 [rv x0, rv x1] = [(0, rv x0), (1, rv x1)] from (xla1 (rv_cat _) (xla1 (rv_cat _) xla0))]
  exact uX3_variable hq
set_option maxRecDepth 100000 in
theorem dX3_e_0 : decode cX3_e 0 = .ok (.aload_n 0, 1) := by decide +kernel
set_option maxRecDepth 100000 in
theorem dX3_e_1 : decode cX3_e 1 = .ok (.invokevirtual 123, 3) := by decide +kernel
set_option maxRecDepth 100000 in
theorem dX3_e_4 : decode cX3_e 4 = .ok (.aload_n 0, 1) := by decide +kernel
set_option maxRecDepth 100000 in
theorem dX3_e_5 : decode cX3_e 5 = .ok (.invokevirtual 316, 3) := by decide +kernel
set_option maxRecDepth 100000 in
theorem dX3_e_8 : decode cX3_e 8 = .ok (.astore_n 1, 1) := by decide +kernel
set_option maxRecDepth 100000 in
theorem dX3_e_9 : decode cX3_e 9 = .ok (.aload_n 0, 1) := by decide +kernel
set_option maxRecDepth 100000 in
theorem dX3_e_10 : decode cX3_e 10 = .ok (.invokevirtual 319, 3) := by decide +kernel
set_option maxRecDepth 100000 in
theorem dX3_e_13 : decode cX3_e 13 = .ok (.ifCond .eq 28, 3) := by decide +kernel
set_option maxRecDepth 100000 in
theorem dX3_e_16 : decode cX3_e 16 = .ok (.new 71, 3) := by decide +kernel
set_option maxRecDepth 100000 in
theorem dX3_e_19 : decode cX3_e 19 = .ok (.dup, 1) := by decide +kernel
set_option maxRecDepth 100000 in
theorem dX3_e_20 : decode cX3_e 20 = .ok (.bipush 65, 2) := by decide +kernel
set_option maxRecDepth 100000 in
theorem dX3_e_22 : decode cX3_e 22 = .ok (.aload_n 0, 1) := by decide +kernel
set_option maxRecDepth 100000 in
theorem dX3_e_23 : decode cX3_e 23 = .ok (.invokevirtual 65, 3) := by decide +kernel
set_option maxRecDepth 100000 in
theorem dX3_e_26 : decode cX3_e 26 = .ok (.invokespecial 77, 3) := by decide +kernel
set_option maxRecDepth 100000 in
theorem dX3_e_29 : decode cX3_e 29 = .ok (.aload_n 1, 1) := by decide +kernel
set_option maxRecDepth 100000 in
theorem dX3_e_30 : decode cX3_e 30 = .ok (.invokevirtual 84, 3) := by decide +kernel
set_option maxRecDepth 100000 in
theorem dX3_e_33 : decode cX3_e 33 = .ok (.aload_n 0, 1) := by decide +kernel
set_option maxRecDepth 100000 in
theorem dX3_e_34 : decode cX3_e 34 = .ok (.invokevirtual 316, 3) := by decide +kernel
set_option maxRecDepth 100000 in
theorem dX3_e_37 : decode cX3_e 37 = .ok (.invokevirtual 84, 3) := by decide +kernel
set_option maxRecDepth 100000 in
theorem dX3_e_40 : decode cX3_e 40 = .ok (.astore_n 1, 1) := by decide +kernel
set_option maxRecDepth 100000 in
theorem dX3_e_41 : decode cX3_e 41 = .ok (.aload_n 0, 1) := by decide +kernel
set_option maxRecDepth 100000 in
theorem dX3_e_42 : decode cX3_e 42 = .ok (.dup, 1) := by decide +kernel
set_option maxRecDepth 100000 in
theorem dX3_e_43 : decode cX3_e 43 = .ok (.getfield 68, 3) := by decide +kernel
set_option maxRecDepth 100000 in
theorem dX3_e_46 : decode cX3_e 46 = .ok (.iconst 1, 1) := by decide +kernel
set_option maxRecDepth 100000 in
theorem dX3_e_47 : decode cX3_e 47 = .ok (.isub, 1) := by decide +kernel
set_option maxRecDepth 100000 in
theorem dX3_e_48 : decode cX3_e 48 = .ok (.putfield 68, 3) := by decide +kernel
set_option maxRecDepth 100000 in
theorem dX3_e_51 : decode cX3_e 51 = .ok (.aload_n 1, 1) := by decide +kernel
set_option maxRecDepth 100000 in
theorem dX3_e_52 : decode cX3_e 52 = .ok (.areturn, 1) := by decide +kernel
set_option maxRecDepth 100000 in
def bX3_e_41 (G : xG) (fr lo : Nat) (x0 : Nat) (x1 : Nat) (h : xH) (Q : Outcome → xH → Prop) : Prop := tg h x0 = 4 ∧ (∀ h2 : xH, h2 = sI h x0 772 ((fI h x0 772) - 1) → Q (.returned (some (rv x1))) h2)
set_option maxRecDepth 100000 in
theorem uX3_e_41 {G : xG} {fr lo : Nat} {x0 : Nat} {x1 : Nat} {h : xH} {Q : Outcome → xH → Prop} (hq : bX3_e_41 G fr lo x0 x1 h Q) : xP G YX3_e fr lo 41 [(0, rv x0), (1, rv x1)] [] h Q := by
  unfold bX3_e_41 at hq
  refine x_aload_n 0 dX3_e_41 rfl ?_
  refine x_dup dX3_e_42 (rv_cat _) ?_
  obtain ⟨g1, hq⟩ := hq
  refine x_get (v := .int (fI h x0 772)) fdX3_68 dX3_e_43 g1 rfl ?_
  refine x_iconst (v := 1) dX3_e_46 (by decide) ?_
  refine x_isub dX3_e_47 ?_
  obtain ⟨h2, e3⟩ : ∃ y, y = sI h x0 772 ((fI h x0 772) - 1) := ⟨_, rfl⟩
  replace hq := hq h2 e3
  refine x_putI fdX3_68 xty_I1 dX3_e_48 g1 (Or.inl (by rw [g1]; rfl)) xnI rfl e3 ?_
  refine x_aload_n 1 dX3_e_51 rfl ?_
  exact x_aret rfl xty_O dX3_e_52 hq
set_option maxRecDepth 100000 in
def bX3_e (G : xG) (fr lo : Nat) (x0 : Nat) (h : xH) (Q : Outcome → xH → Prop) : Prop := tg h x0 = 4 ∧ 1 ≤ fr ∧ 12 ≤ lo ∧ xRv G YX3_deeper (fr - 1) (lo - 12) [rv x0] h (fun h4 => xext h h4 → 1 ≤ fr ∧ 15 ≤ lo ∧ xRr G YX3_sum (fr - 1) (lo - 15) [rv x0] h4 (fun x11 h10 => xext h4 h10 → 1 ≤ fr ∧ 12 ≤ lo ∧ xRi G YX3_isRelation (fr - 1) (lo - 12) [rv x0] h10 (fun x17 h16 => xext h10 h16 → ((x17 = 0 → bX3_e_41 G fr lo x0 x11 h16 Q) ∧ (¬ x17 = 0 → nx h16 + 1 ≤ xGN G ∧ us h16 + 6 ≤ xGU G ∧ (∀ (a22 : Nat) (h23 : xH), a22 = nx h16 + 1 → h23 = nO h16 16 6 → xfresh h16 a22 → 1 ≤ fr ∧ 16 ≤ lo ∧ xRr G YX3_take (fr - 1) (lo - 16) [rv x0] h23 (fun x33 h32 => xext h23 h32 → 1 ≤ fr ∧ 15 ≤ lo ∧ xRv G YX15_init (fr - 1) (lo - 15) [rv a22, .int 65, rv x33] h32 (fun h38 => xext h32 h38 → 1 ≤ fr ∧ 13 ≤ lo ∧ xRr G YX15_add (fr - 1) (lo - 13) [rv a22, rv x11] h38 (fun x45 h44 => xext h38 h44 → 1 ≤ fr ∧ 16 ≤ lo ∧ xRr G YX3_sum (fr - 1) (lo - 16) [rv x0] h44 (fun x53 h52 => xext h44 h52 → tg h52 x45 = 16 ∧ 1 ≤ fr ∧ 13 ≤ lo ∧ xRr G YX15_add (fr - 1) (lo - 13) [rv x45, rv x53] h52 (fun x59 h58 => xext h52 h58 → bX3_e_41 G fr lo x0 x59 h58 Q) (fun r h2 => Q (.threw r) h2)) (fun r h2 => Q (.threw r) h2)) (fun r h2 => Q (.threw r) h2)) (fun r h2 => Q (.threw r) h2)) (fun r h2 => Q (.threw r) h2))))) (fun r h2 => Q (.threw r) h2)) (fun r h2 => Q (.threw r) h2)) (fun r h2 => Q (.threw r) h2)
set_option maxRecDepth 100000 in
theorem uX3_e {G : xG} {fr lo : Nat} {x0 : Nat} {h : xH} {Q : Outcome → xH → Prop} (hq : bX3_e G fr lo x0 h Q) : xP G YX3_e fr lo 0 [(0, rv x0)] [] h Q := by
  unfold bX3_e at hq
  refine x_aload_n 0 dX3_e_0 rfl ?_
  obtain ⟨g1, hq⟩ := hq
  obtain ⟨g2, g3, hq⟩ := hq
  refine x_callV (Yc := YX3_deeper) (as := []) (st := []) q1806 mvX3_deeper g1 rfl dX3_e_1 (xle (xal1 (rv_cat _) xal0) (by decide)) (xfr g2) (xlo xsw0 (by decide) g3) (xKv hq (fun h4 hq e6 => ?_) (fun _ _ q _ => q))
  replace hq := hq e6
  refine x_aload_n 0 dX3_e_4 rfl ?_
  have t7 : tg h4 x0 = 4 := e6.tg g1 (by decide)
  obtain ⟨g8, g9, hq⟩ := hq
  refine x_callV (Yc := YX3_sum) (as := []) (st := []) q1932 mvX3_sum t7 rfl dX3_e_5 (xle (xal1 (rv_cat _) xal0) (by decide)) (xfr g8) (xlo xsw0 (by decide) g9) (xKr hq (fun x11 h10 hq e12 => ?_) (fun _ _ q _ => q))
  replace hq := hq e12
  refine x_astore_n (lv' := [(1, rv x11), (0, rv x0)]) dX3_e_8 (by decide) (by first | rfl | (simp [rv_cat, Value.category]; done) | (simp [rv_cat, Value.category]; decide)) ?_
  refine x_aload_n 1 dX3_e_9 rfl ?_
  have t13 : tg h10 x0 = 4 := e12.tg t7 (by decide)
  obtain ⟨g14, g15, hq⟩ := hq
  refine x_callV (Yc := YX3_isRelation) (as := []) (st := []) q1964 mvX3_isRelation t13 rfl dX3_e_10 (xle (xal1 (rv_cat _) xal0) (by decide)) (xfr g14) (xlo xsw0 (by decide) g15) (xKi hq (fun x17 h16 hq e18 => ?_) (fun _ _ q _ => q))
  replace hq := hq e18
  refine x_if_eq (tgt := 41) dX3_e_13 (by decide) (fun c19 => ?_) (fun c19 => ?_)
  · replace hq := hq.1 c19
    refine xP.pick (lv' := [(0, rv x0), (1, rv x11)]) [1, 0] rfl ?_
    exact uX3_e_41 hq
  · replace hq := hq.2 c19
    obtain ⟨g20, g21, hq⟩ := hq
    obtain ⟨a22, e24⟩ : ∃ y, y = nx h16 + 1 := ⟨_, rfl⟩
    obtain ⟨h23, e25⟩ : ∃ y, y = nO h16 16 6 := ⟨_, rfl⟩
    refine x_new' cdX3_71 dX3_e_16 g20 g21 e24 e25 (fun f26 => ?_)
    replace hq := hq a22 h23 e24 e25 f26
    have t27 : tg h23 a22 = 16 := by rw [e25, e24]; exact tg_nO
    refine x_dup dX3_e_19 (rv_cat _) ?_
    refine x_bipush (v := 65) dX3_e_20 (by decide) ?_
    refine x_aload_n 1 dX3_e_22 rfl ?_
    have t28 : tg h16 x0 = 4 := e18.tg t13 (by decide)
    have t29 : tg h23 x0 = 4 := by rw [e25]; exact tg_nO_ne e24 f26 t28 (by decide)
    obtain ⟨g30, g31, hq⟩ := hq
    refine x_callV (Yc := YX3_take) (as := []) (st := [.int 65, rv a22, rv a22]) q1738 mvX3_take t29 rfl dX3_e_23 (xle (xal1 (rv_cat _) xal0) (by decide)) (xfr g30) (xlo (xsw1 rfl (xsw1 (rv_cat _) (xsw1 (rv_cat _) xsw0))) (by decide) g31) (xKr hq (fun x33 h32 hq e34 => ?_) (fun _ _ q _ => q))
    replace hq := hq e34
    have t35 : tg h32 a22 = 16 := e34.tg t27 (by decide)
    obtain ⟨g36, g37, hq⟩ := hq
    refine x_callI (Yc := YX15_init) (as := [.int 65, rv x33]) (st := [rv a22]) q1749 miX15_init (by rw [t35]; decide) rfl dX3_e_26 (xle (xal1 (rv_cat _) (xal1 rfl (xal1 (rv_cat _) xal0))) (by decide)) (xfr g36) (xlo (xsw1 (rv_cat _) xsw0) (by decide) g37) (xKv hq (fun h38 hq e40 => ?_) (fun _ _ q _ => q))
    replace hq := hq e40
    refine x_aload_n 0 dX3_e_29 rfl ?_
    have t41 : tg h38 a22 = 16 := e40.tg t35 (by decide)
    obtain ⟨g42, g43, hq⟩ := hq
    refine x_callV (Yc := YX15_add) (as := [rv x11]) (st := []) q1795 mvX15_add t41 rfl dX3_e_30 (xle (xal1 (rv_cat _) (xal1 (rv_cat _) xal0)) (by decide)) (xfr g42) (xlo xsw0 (by decide) g43) (xKr hq (fun x45 h44 hq e46 => ?_) (fun _ _ q _ => q))
    replace hq := hq e46
    refine x_aload_n 1 dX3_e_33 rfl ?_
    have t47 : tg h32 x0 = 4 := e34.tg t29 (by decide)
    have t48 : tg h38 x0 = 4 := e40.tg t47 (by decide)
    have t49 : tg h44 x0 = 4 := e46.tg t48 (by decide)
    obtain ⟨g50, g51, hq⟩ := hq
    refine x_callV (Yc := YX3_sum) (as := []) (st := [rv x45]) q1932 mvX3_sum t49 rfl dX3_e_34 (xle (xal1 (rv_cat _) xal0) (by decide)) (xfr g50) (xlo (xsw1 (rv_cat _) xsw0) (by decide) g51) (xKr hq (fun x53 h52 hq e54 => ?_) (fun _ _ q _ => q))
    replace hq := hq e54
    obtain ⟨g55, hq⟩ := hq
    obtain ⟨g56, g57, hq⟩ := hq
    refine x_callV (Yc := YX15_add) (as := [rv x53]) (st := []) q1795 mvX15_add g55 rfl dX3_e_37 (xle (xal1 (rv_cat _) (xal1 (rv_cat _) xal0)) (by decide)) (xfr g56) (xlo xsw0 (by decide) g57) (xKr hq (fun x59 h58 hq e60 => ?_) (fun _ _ q _ => q))
    replace hq := hq e60
    refine x_astore_n (lv' := [(1, rv x59), (0, rv x0)]) dX3_e_40 (by decide) (by first | rfl | (simp [rv_cat, Value.category]; done) | (simp [rv_cat, Value.category]; decide)) ?_
    refine xP.pick (lv' := [(0, rv x0), (1, rv x59)]) [1, 0] rfl ?_
    exact uX3_e_41 hq
theorem rX3_e {G : xG} {fr lo : Nat} {x0 : Nat} {h : xH} {Q : Outcome → xH → Prop} (hq : bX3_e G fr lo x0 h Q) : xR G YX3_e fr lo [rv x0] h Q := by
  show xP _ _ _ _ _ (lv_args 0 _) _ _ _
  rw [show lv_args 0 [rv x0] = [(0, rv x0)] from (xla1 (rv_cat _) xla0)]
  exact uX3_e hq
set_option maxRecDepth 100000 in
theorem dX3_sum_0 : decode cX3_sum 0 = .ok (.aload_n 0, 1) := by decide +kernel
set_option maxRecDepth 100000 in
theorem dX3_sum_1 : decode cX3_sum 1 = .ok (.ldc 196, 2) := by decide +kernel
set_option maxRecDepth 100000 in
theorem dX3_sum_3 : decode cX3_sum 3 = .ok (.invokevirtual 60, 3) := by decide +kernel
set_option maxRecDepth 100000 in
theorem dX3_sum_6 : decode cX3_sum 6 = .ok (.ifCond .ne 12, 3) := by decide +kernel
set_option maxRecDepth 100000 in
theorem dX3_sum_9 : decode cX3_sum 9 = .ok (.aload_n 0, 1) := by decide +kernel
set_option maxRecDepth 100000 in
theorem dX3_sum_10 : decode cX3_sum 10 = .ok (.ldc 198, 2) := by decide +kernel
set_option maxRecDepth 100000 in
theorem dX3_sum_12 : decode cX3_sum 12 = .ok (.invokevirtual 60, 3) := by decide +kernel
set_option maxRecDepth 100000 in
theorem dX3_sum_15 : decode cX3_sum 15 = .ok (.ifCond .eq 29, 3) := by decide +kernel
set_option maxRecDepth 100000 in
theorem dX3_sum_18 : decode cX3_sum 18 = .ok (.aload_n 0, 1) := by decide +kernel
set_option maxRecDepth 100000 in
theorem dX3_sum_19 : decode cX3_sum 19 = .ok (.invokevirtual 65, 3) := by decide +kernel
set_option maxRecDepth 100000 in
theorem dX3_sum_22 : decode cX3_sum 22 = .ok (.astore_n 2, 1) := by decide +kernel
set_option maxRecDepth 100000 in
theorem dX3_sum_23 : decode cX3_sum 23 = .ok (.new 71, 3) := by decide +kernel
set_option maxRecDepth 100000 in
theorem dX3_sum_26 : decode cX3_sum 26 = .ok (.dup, 1) := by decide +kernel
set_option maxRecDepth 100000 in
theorem dX3_sum_27 : decode cX3_sum 27 = .ok (.bipush 63, 2) := by decide +kernel
set_option maxRecDepth 100000 in
theorem dX3_sum_29 : decode cX3_sum 29 = .ok (.aload_n 2, 1) := by decide +kernel
set_option maxRecDepth 100000 in
theorem dX3_sum_30 : decode cX3_sum 30 = .ok (.invokespecial 77, 3) := by decide +kernel
set_option maxRecDepth 100000 in
theorem dX3_sum_33 : decode cX3_sum 33 = .ok (.aload_n 0, 1) := by decide +kernel
set_option maxRecDepth 100000 in
theorem dX3_sum_34 : decode cX3_sum 34 = .ok (.invokevirtual 322, 3) := by decide +kernel
set_option maxRecDepth 100000 in
theorem dX3_sum_37 : decode cX3_sum 37 = .ok (.invokevirtual 84, 3) := by decide +kernel
set_option maxRecDepth 100000 in
theorem dX3_sum_40 : decode cX3_sum 40 = .ok (.astore_n 1, 1) := by decide +kernel
set_option maxRecDepth 100000 in
theorem dX3_sum_41 : decode cX3_sum 41 = .ok (.goto 8, 3) := by decide +kernel
set_option maxRecDepth 100000 in
theorem dX3_sum_44 : decode cX3_sum 44 = .ok (.aload_n 0, 1) := by decide +kernel
set_option maxRecDepth 100000 in
theorem dX3_sum_45 : decode cX3_sum 45 = .ok (.invokevirtual 322, 3) := by decide +kernel
set_option maxRecDepth 100000 in
theorem dX3_sum_48 : decode cX3_sum 48 = .ok (.astore_n 1, 1) := by decide +kernel
set_option maxRecDepth 100000 in
theorem dX3_sum_49 : decode cX3_sum 49 = .ok (.aload_n 0, 1) := by decide +kernel
set_option maxRecDepth 100000 in
theorem dX3_sum_50 : decode cX3_sum 50 = .ok (.ldc 196, 2) := by decide +kernel
set_option maxRecDepth 100000 in
theorem dX3_sum_52 : decode cX3_sum 52 = .ok (.invokevirtual 60, 3) := by decide +kernel
set_option maxRecDepth 100000 in
theorem dX3_sum_55 : decode cX3_sum 55 = .ok (.ifCond .ne 24, 3) := by decide +kernel
set_option maxRecDepth 100000 in
theorem dX3_sum_58 : decode cX3_sum 58 = .ok (.aload_n 0, 1) := by decide +kernel
set_option maxRecDepth 100000 in
theorem dX3_sum_59 : decode cX3_sum 59 = .ok (.ldc 198, 2) := by decide +kernel
set_option maxRecDepth 100000 in
theorem dX3_sum_61 : decode cX3_sum 61 = .ok (.invokevirtual 60, 3) := by decide +kernel
set_option maxRecDepth 100000 in
theorem dX3_sum_64 : decode cX3_sum 64 = .ok (.ifCond .ne 15, 3) := by decide +kernel
set_option maxRecDepth 100000 in
theorem dX3_sum_67 : decode cX3_sum 67 = .ok (.aload_n 0, 1) := by decide +kernel
set_option maxRecDepth 100000 in
theorem dX3_sum_68 : decode cX3_sum 68 = .ok (.ldc_w 325, 3) := by decide +kernel
set_option maxRecDepth 100000 in
theorem dX3_sum_71 : decode cX3_sum 71 = .ok (.invokevirtual 60, 3) := by decide +kernel
set_option maxRecDepth 100000 in
theorem dX3_sum_74 : decode cX3_sum 74 = .ok (.ifCond .ne 5, 3) := by decide +kernel
set_option maxRecDepth 100000 in
theorem dX3_sum_77 : decode cX3_sum 77 = .ok (.aload_n 1, 1) := by decide +kernel
set_option maxRecDepth 100000 in
theorem dX3_sum_78 : decode cX3_sum 78 = .ok (.areturn, 1) := by decide +kernel
set_option maxRecDepth 100000 in
theorem dX3_sum_79 : decode cX3_sum 79 = .ok (.new 71, 3) := by decide +kernel
set_option maxRecDepth 100000 in
theorem dX3_sum_82 : decode cX3_sum 82 = .ok (.dup, 1) := by decide +kernel
set_option maxRecDepth 100000 in
theorem dX3_sum_83 : decode cX3_sum 83 = .ok (.bipush 62, 2) := by decide +kernel
set_option maxRecDepth 100000 in
theorem dX3_sum_85 : decode cX3_sum 85 = .ok (.aload_n 0, 1) := by decide +kernel
set_option maxRecDepth 100000 in
theorem dX3_sum_86 : decode cX3_sum 86 = .ok (.getfield 25, 3) := by decide +kernel
set_option maxRecDepth 100000 in
theorem dX3_sum_89 : decode cX3_sum 89 = .ok (.invokespecial 77, 3) := by decide +kernel
set_option maxRecDepth 100000 in
theorem dX3_sum_92 : decode cX3_sum 92 = .ok (.aload_n 1, 1) := by decide +kernel
set_option maxRecDepth 100000 in
theorem dX3_sum_93 : decode cX3_sum 93 = .ok (.invokevirtual 84, 3) := by decide +kernel
set_option maxRecDepth 100000 in
theorem dX3_sum_96 : decode cX3_sum 96 = .ok (.astore_n 2, 1) := by decide +kernel
set_option maxRecDepth 100000 in
theorem dX3_sum_97 : decode cX3_sum 97 = .ok (.aload_n 0, 1) := by decide +kernel
set_option maxRecDepth 100000 in
theorem dX3_sum_98 : decode cX3_sum 98 = .ok (.ldc 196, 2) := by decide +kernel
set_option maxRecDepth 100000 in
theorem dX3_sum_100 : decode cX3_sum 100 = .ok (.invokevirtual 60, 3) := by decide +kernel
set_option maxRecDepth 100000 in
theorem dX3_sum_103 : decode cX3_sum 103 = .ok (.ifCond .ne 22, 3) := by decide +kernel
set_option maxRecDepth 100000 in
theorem dX3_sum_106 : decode cX3_sum 106 = .ok (.aload_n 0, 1) := by decide +kernel
set_option maxRecDepth 100000 in
theorem dX3_sum_107 : decode cX3_sum 107 = .ok (.ldc 198, 2) := by decide +kernel
set_option maxRecDepth 100000 in
theorem dX3_sum_109 : decode cX3_sum 109 = .ok (.invokevirtual 60, 3) := by decide +kernel
set_option maxRecDepth 100000 in
theorem dX3_sum_112 : decode cX3_sum 112 = .ok (.ifCond .ne 13, 3) := by decide +kernel
set_option maxRecDepth 100000 in
theorem dX3_sum_115 : decode cX3_sum 115 = .ok (.aload_n 0, 1) := by decide +kernel
set_option maxRecDepth 100000 in
theorem dX3_sum_116 : decode cX3_sum 116 = .ok (.ldc_w 325, 3) := by decide +kernel
set_option maxRecDepth 100000 in
theorem dX3_sum_119 : decode cX3_sum 119 = .ok (.invokevirtual 60, 3) := by decide +kernel
set_option maxRecDepth 100000 in
theorem dX3_sum_122 : decode cX3_sum 122 = .ok (.ifCond .eq 33, 3) := by decide +kernel
set_option maxRecDepth 100000 in
theorem dX3_sum_125 : decode cX3_sum 125 = .ok (.aload_n 0, 1) := by decide +kernel
set_option maxRecDepth 100000 in
theorem dX3_sum_126 : decode cX3_sum 126 = .ok (.invokevirtual 65, 3) := by decide +kernel
set_option maxRecDepth 100000 in
theorem dX3_sum_129 : decode cX3_sum 129 = .ok (.astore_n 3, 1) := by decide +kernel
set_option maxRecDepth 100000 in
theorem dX3_sum_130 : decode cX3_sum 130 = .ok (.aload_n 2, 1) := by decide +kernel
set_option maxRecDepth 100000 in
theorem dX3_sum_131 : decode cX3_sum 131 = .ok (.new 71, 3) := by decide +kernel
set_option maxRecDepth 100000 in
theorem dX3_sum_134 : decode cX3_sum 134 = .ok (.dup, 1) := by decide +kernel
set_option maxRecDepth 100000 in
theorem dX3_sum_135 : decode cX3_sum 135 = .ok (.bipush 64, 2) := by decide +kernel
set_option maxRecDepth 100000 in
theorem dX3_sum_137 : decode cX3_sum 137 = .ok (.aload_n 3, 1) := by decide +kernel
set_option maxRecDepth 100000 in
theorem dX3_sum_138 : decode cX3_sum 138 = .ok (.invokespecial 77, 3) := by decide +kernel
set_option maxRecDepth 100000 in
theorem dX3_sum_141 : decode cX3_sum 141 = .ok (.aload_n 0, 1) := by decide +kernel
set_option maxRecDepth 100000 in
theorem dX3_sum_142 : decode cX3_sum 142 = .ok (.invokevirtual 322, 3) := by decide +kernel
set_option maxRecDepth 100000 in
theorem dX3_sum_145 : decode cX3_sum 145 = .ok (.invokevirtual 84, 3) := by decide +kernel
set_option maxRecDepth 100000 in
theorem dX3_sum_148 : decode cX3_sum 148 = .ok (.invokevirtual 84, 3) := by decide +kernel
set_option maxRecDepth 100000 in
theorem dX3_sum_151 : decode cX3_sum 151 = .ok (.pop, 1) := by decide +kernel
set_option maxRecDepth 100000 in
theorem dX3_sum_152 : decode cX3_sum 152 = .ok (.goto (-55), 3) := by decide +kernel
set_option maxRecDepth 100000 in
theorem dX3_sum_155 : decode cX3_sum 155 = .ok (.aload_n 2, 1) := by decide +kernel
set_option maxRecDepth 100000 in
theorem dX3_sum_156 : decode cX3_sum 156 = .ok (.areturn, 1) := by decide +kernel
def lX3_sum_97 (G : xG) (fr lo : Nat) (x0 : Nat) (x2 : Nat) (h : xH) (Q : Outcome → xH → Prop) : Prop := xP G YX3_sum fr lo 97 [(0, rv x0), (2, rv x2)] [] h Q
set_option maxRecDepth 100000 in
def bX3_sum_125 (G : xG) (fr lo : Nat) (x0 : Nat) (x2 : Nat) (h : xH) (Q : Outcome → xH → Prop) : Prop := tg h x0 = 4 ∧ 1 ≤ fr ∧ 13 ≤ lo ∧ xRr G YX3_take (fr - 1) (lo - 13) [rv x0] h (fun x5 h4 => xext h h4 → nx h4 + 1 ≤ xGN G ∧ us h4 + 6 ≤ xGU G ∧ (∀ (a9 : Nat) (h10 : xH), a9 = nx h4 + 1 → h10 = nO h4 16 6 → xfresh h4 a9 → 1 ≤ fr ∧ 16 ≤ lo ∧ xRv G YX15_init (fr - 1) (lo - 16) [rv a9, .int 64, rv x5] h10 (fun h17 => xext h10 h17 → 1 ≤ fr ∧ 17 ≤ lo ∧ xRr G YX3_term (fr - 1) (lo - 17) [rv x0] h17 (fun x26 h25 => xext h17 h25 → 1 ≤ fr ∧ 14 ≤ lo ∧ xRr G YX15_add (fr - 1) (lo - 14) [rv a9, rv x26] h25 (fun x33 h32 => xext h25 h32 → tg h32 x2 = 16 ∧ 1 ≤ fr ∧ 13 ≤ lo ∧ xRr G YX15_add (fr - 1) (lo - 13) [rv x2, rv x33] h32 (fun x39 h38 => xext h32 h38 → lX3_sum_97 G fr lo x0 x2 h38 Q) (fun r h2 => Q (.threw r) h2)) (fun r h2 => Q (.threw r) h2)) (fun r h2 => Q (.threw r) h2)) (fun r h2 => Q (.threw r) h2))) (fun r h2 => Q (.threw r) h2)
set_option maxRecDepth 100000 in
theorem uX3_sum_125 {G : xG} {fr lo : Nat} {x0 : Nat} {x2 : Nat} {h : xH} {Q : Outcome → xH → Prop} (hq : bX3_sum_125 G fr lo x0 x2 h Q) : xP G YX3_sum fr lo 125 [(0, rv x0), (2, rv x2)] [] h Q := by
  unfold bX3_sum_125 at hq
  refine x_aload_n 0 dX3_sum_125 rfl ?_
  obtain ⟨g1, hq⟩ := hq
  obtain ⟨g2, g3, hq⟩ := hq
  refine x_callV (Yc := YX3_take) (as := []) (st := []) q1738 mvX3_take g1 rfl dX3_sum_126 (xle (xal1 (rv_cat _) xal0) (by decide)) (xfr g2) (xlo xsw0 (by decide) g3) (xKr hq (fun x5 h4 hq e6 => ?_) (fun _ _ q _ => q))
  replace hq := hq e6
  refine x_astore_n (lv' := [(3, rv x5), (0, rv x0), (2, rv x2)]) dX3_sum_129 (by decide) (by first | rfl | (simp [rv_cat, Value.category]; done) | (simp [rv_cat, Value.category]; decide)) ?_
  refine x_aload_n 2 dX3_sum_130 rfl ?_
  obtain ⟨g7, g8, hq⟩ := hq
  obtain ⟨a9, e11⟩ : ∃ y, y = nx h4 + 1 := ⟨_, rfl⟩
  obtain ⟨h10, e12⟩ : ∃ y, y = nO h4 16 6 := ⟨_, rfl⟩
  refine x_new' cdX3_71 dX3_sum_131 g7 g8 e11 e12 (fun f13 => ?_)
  replace hq := hq a9 h10 e11 e12 f13
  have t14 : tg h10 a9 = 16 := by rw [e12, e11]; exact tg_nO
  refine x_dup dX3_sum_134 (rv_cat _) ?_
  refine x_bipush (v := 64) dX3_sum_135 (by decide) ?_
  refine x_aload_n 0 dX3_sum_137 rfl ?_
  obtain ⟨g15, g16, hq⟩ := hq
  refine x_callI (Yc := YX15_init) (as := [.int 64, rv x5]) (st := [rv a9, rv x2]) q1749 miX15_init (by rw [t14]; decide) rfl dX3_sum_138 (xle (xal1 (rv_cat _) (xal1 rfl (xal1 (rv_cat _) xal0))) (by decide)) (xfr g15) (xlo (xsw1 (rv_cat _) (xsw1 (rv_cat _) xsw0)) (by decide) g16) (xKv hq (fun h17 hq e19 => ?_) (fun _ _ q _ => q))
  replace hq := hq e19
  refine x_aload_n 1 dX3_sum_141 rfl ?_
  have t20 : tg h4 x0 = 4 := e6.tg g1 (by decide)
  have t21 : tg h10 x0 = 4 := by rw [e12]; exact tg_nO_ne e11 f13 t20 (by decide)
  have t22 : tg h17 x0 = 4 := e19.tg t21 (by decide)
  obtain ⟨g23, g24, hq⟩ := hq
  refine x_callV (Yc := YX3_term) (as := []) (st := [rv a9, rv x2]) q1936 mvX3_term t22 rfl dX3_sum_142 (xle (xal1 (rv_cat _) xal0) (by decide)) (xfr g23) (xlo (xsw1 (rv_cat _) (xsw1 (rv_cat _) xsw0)) (by decide) g24) (xKr hq (fun x26 h25 hq e27 => ?_) (fun _ _ q _ => q))
  replace hq := hq e27
  have t28 : tg h17 a9 = 16 := e19.tg t14 (by decide)
  have t29 : tg h25 a9 = 16 := e27.tg t28 (by decide)
  obtain ⟨g30, g31, hq⟩ := hq
  refine x_callV (Yc := YX15_add) (as := [rv x26]) (st := [rv x2]) q1795 mvX15_add t29 rfl dX3_sum_145 (xle (xal1 (rv_cat _) (xal1 (rv_cat _) xal0)) (by decide)) (xfr g30) (xlo (xsw1 (rv_cat _) xsw0) (by decide) g31) (xKr hq (fun x33 h32 hq e34 => ?_) (fun _ _ q _ => q))
  replace hq := hq e34
  obtain ⟨g35, hq⟩ := hq
  obtain ⟨g36, g37, hq⟩ := hq
  refine x_callV (Yc := YX15_add) (as := [rv x33]) (st := []) q1795 mvX15_add g35 rfl dX3_sum_148 (xle (xal1 (rv_cat _) (xal1 (rv_cat _) xal0)) (by decide)) (xfr g36) (xlo xsw0 (by decide) g37) (xKr hq (fun x39 h38 hq e40 => ?_) (fun _ _ q _ => q))
  replace hq := hq e40
  refine x_pop dX3_sum_151 (rv_cat _) ?_
  refine x_goto (tgt := 97) dX3_sum_152 (by decide) ?_
  refine xP.pick (lv' := [(0, rv x0), (2, rv x2)]) [1, 2] rfl ?_
  exact hq
set_option maxRecDepth 100000 in
def bX3_sum_97 (G : xG) (fr lo : Nat) (x0 : Nat) (x2 : Nat) (h : xH) (Q : Outcome → xH → Prop) : Prop := tg h x0 = 4 ∧ 1 ≤ fr ∧ 13 ≤ lo ∧ xRi G YX3_is (fr - 1) (lo - 13) [rv x0, rv (tx G 53)] h (fun x5 h4 => xext h h4 → ((¬ x5 = 0 → bX3_sum_125 G fr lo x0 x2 h4 Q) ∧ (x5 = 0 → 1 ≤ fr ∧ 13 ≤ lo ∧ xRi G YX3_is (fr - 1) (lo - 13) [rv x0, rv (tx G 54)] h4 (fun x12 h11 => xext h4 h11 → ((¬ x12 = 0 → bX3_sum_125 G fr lo x0 x2 h11 Q) ∧ (x12 = 0 → 1 ≤ fr ∧ 13 ≤ lo ∧ xRi G YX3_is (fr - 1) (lo - 13) [rv x0, rv (tx G 21)] h11 (fun x19 h18 => xext h11 h18 → ((x19 = 0 → Q (.returned (some (rv x2))) h18) ∧ (¬ x19 = 0 → bX3_sum_125 G fr lo x0 x2 h18 Q))) (fun r h2 => Q (.threw r) h2)))) (fun r h2 => Q (.threw r) h2)))) (fun r h2 => Q (.threw r) h2)
set_option maxRecDepth 100000 in
theorem uX3_sum_97 {G : xG} {fr lo : Nat} {x0 : Nat} {x2 : Nat} {h : xH} {Q : Outcome → xH → Prop} (hq : bX3_sum_97 G fr lo x0 x2 h Q) : xP G YX3_sum fr lo 97 [(0, rv x0), (2, rv x2)] [] h Q := by
  unfold bX3_sum_97 at hq
  refine x_aload_n 0 dX3_sum_97 rfl ?_
  refine x_ldcS (n := 53) 75 srX3_196 dX3_sum_98 ?_
  obtain ⟨g1, hq⟩ := hq
  obtain ⟨g2, g3, hq⟩ := hq
  refine x_callV (Yc := YX3_is) (as := [rv (tx G 53)]) (st := []) q1723 mvX3_is g1 rfl dX3_sum_100 (xle (xal1 (rv_cat _) (xal1 (rv_cat _) xal0)) (by decide)) (xfr g2) (xlo xsw0 (by decide) g3) (xKi hq (fun x5 h4 hq e6 => ?_) (fun _ _ q _ => q))
  replace hq := hq e6
  refine x_if_ne (tgt := 125) dX3_sum_103 (by decide) (fun c7 => ?_) (fun c7 => ?_)
  · replace hq := hq.1 c7
    exact uX3_sum_125 hq
  · replace hq := hq.2 c7
    refine x_aload_n 0 dX3_sum_106 rfl ?_
    refine x_ldcS (n := 54) 76 srX3_198 dX3_sum_107 ?_
    have t8 : tg h4 x0 = 4 := e6.tg g1 (by decide)
    obtain ⟨g9, g10, hq⟩ := hq
    refine x_callV (Yc := YX3_is) (as := [rv (tx G 54)]) (st := []) q1723 mvX3_is t8 rfl dX3_sum_109 (xle (xal1 (rv_cat _) (xal1 (rv_cat _) xal0)) (by decide)) (xfr g9) (xlo xsw0 (by decide) g10) (xKi hq (fun x12 h11 hq e13 => ?_) (fun _ _ q _ => q))
    replace hq := hq e13
    refine x_if_ne (tgt := 125) dX3_sum_112 (by decide) (fun c14 => ?_) (fun c14 => ?_)
    · replace hq := hq.1 c14
      exact uX3_sum_125 hq
    · replace hq := hq.2 c14
      refine x_aload_n 0 dX3_sum_115 rfl ?_
      refine x_ldcwS (n := 21) 105 srX3_325 dX3_sum_116 ?_
      have t15 : tg h11 x0 = 4 := e13.tg t8 (by decide)
      obtain ⟨g16, g17, hq⟩ := hq
      refine x_callV (Yc := YX3_is) (as := [rv (tx G 21)]) (st := []) q1723 mvX3_is t15 rfl dX3_sum_119 (xle (xal1 (rv_cat _) (xal1 (rv_cat _) xal0)) (by decide)) (xfr g16) (xlo xsw0 (by decide) g17) (xKi hq (fun x19 h18 hq e20 => ?_) (fun _ _ q _ => q))
      replace hq := hq e20
      refine x_if_eq (tgt := 155) dX3_sum_122 (by decide) (fun c21 => ?_) (fun c21 => ?_)
      · replace hq := hq.1 c21
        refine x_aload_n 1 dX3_sum_155 rfl ?_
        exact x_aret rfl xty_O dX3_sum_156 hq
      · replace hq := hq.2 c21
        exact uX3_sum_125 hq
set_option maxRecDepth 100000 in
def bX3_sum_79 (G : xG) (fr lo : Nat) (x0 : Nat) (x1 : Nat) (h : xH) (Q : Outcome → xH → Prop) : Prop := nx h + 1 ≤ xGN G ∧ us h + 6 ≤ xGU G ∧ (∀ (a3 : Nat) (h4 : xH), a3 = nx h + 1 → h4 = nO h 16 6 → xfresh h a3 → tg h4 x0 = 4 ∧ 1 ≤ fr ∧ 15 ≤ lo ∧ xRv G YX15_init (fr - 1) (lo - 15) [rv a3, .int 62, rv (fR h4 x0 770)] h4 (fun h12 => xext h4 h12 → 1 ≤ fr ∧ 13 ≤ lo ∧ xRr G YX15_add (fr - 1) (lo - 13) [rv a3, rv x1] h12 (fun x19 h18 => xext h12 h18 → lX3_sum_97 G fr lo x0 x19 h18 Q) (fun r h2 => Q (.threw r) h2)) (fun r h2 => Q (.threw r) h2))
set_option maxRecDepth 100000 in
theorem uX3_sum_79 {G : xG} {fr lo : Nat} {x0 : Nat} {x1 : Nat} {h : xH} {Q : Outcome → xH → Prop} (hq : bX3_sum_79 G fr lo x0 x1 h Q) : xP G YX3_sum fr lo 79 [(0, rv x0), (1, rv x1)] [] h Q := by
  unfold bX3_sum_79 at hq
  obtain ⟨g1, g2, hq⟩ := hq
  obtain ⟨a3, e5⟩ : ∃ y, y = nx h + 1 := ⟨_, rfl⟩
  obtain ⟨h4, e6⟩ : ∃ y, y = nO h 16 6 := ⟨_, rfl⟩
  refine x_new' cdX3_71 dX3_sum_79 g1 g2 e5 e6 (fun f7 => ?_)
  replace hq := hq a3 h4 e5 e6 f7
  have t8 : tg h4 a3 = 16 := by rw [e6, e5]; exact tg_nO
  refine x_dup dX3_sum_82 (rv_cat _) ?_
  refine x_bipush (v := 62) dX3_sum_83 (by decide) ?_
  refine x_aload_n 0 dX3_sum_85 rfl ?_
  obtain ⟨g9, hq⟩ := hq
  refine x_get (v := rv (fR h4 x0 770)) fdX3_25 dX3_sum_86 g9 rfl ?_
  obtain ⟨g10, g11, hq⟩ := hq
  refine x_callI (Yc := YX15_init) (as := [.int 62, rv (fR h4 x0 770)]) (st := [rv a3]) q1749 miX15_init (by rw [t8]; decide) rfl dX3_sum_89 (xle (xal1 (rv_cat _) (xal1 rfl (xal1 (rv_cat _) xal0))) (by decide)) (xfr g10) (xlo (xsw1 (rv_cat _) xsw0) (by decide) g11) (xKv hq (fun h12 hq e14 => ?_) (fun _ _ q _ => q))
  replace hq := hq e14
  refine x_aload_n 1 dX3_sum_92 rfl ?_
  have t15 : tg h12 a3 = 16 := e14.tg t8 (by decide)
  obtain ⟨g16, g17, hq⟩ := hq
  refine x_callV (Yc := YX15_add) (as := [rv x1]) (st := []) q1795 mvX15_add t15 rfl dX3_sum_93 (xle (xal1 (rv_cat _) (xal1 (rv_cat _) xal0)) (by decide)) (xfr g16) (xlo xsw0 (by decide) g17) (xKr hq (fun x19 h18 hq e20 => ?_) (fun _ _ q _ => q))
  replace hq := hq e20
  refine x_astore_n (lv' := [(2, rv x19), (0, rv x0), (1, rv x1)]) dX3_sum_96 (by decide) (by first | rfl | (simp [rv_cat, Value.category]; done) | (simp [rv_cat, Value.category]; decide)) ?_
  refine xP.pick (lv' := [(0, rv x0), (2, rv x19)]) [1, 0] rfl ?_
  exact hq
set_option maxRecDepth 100000 in
def bX3_sum_49 (G : xG) (fr lo : Nat) (x0 : Nat) (x1 : Nat) (h : xH) (Q : Outcome → xH → Prop) : Prop := tg h x0 = 4 ∧ 1 ≤ fr ∧ 13 ≤ lo ∧ xRi G YX3_is (fr - 1) (lo - 13) [rv x0, rv (tx G 53)] h (fun x5 h4 => xext h h4 → ((¬ x5 = 0 → bX3_sum_79 G fr lo x0 x1 h4 Q) ∧ (x5 = 0 → 1 ≤ fr ∧ 13 ≤ lo ∧ xRi G YX3_is (fr - 1) (lo - 13) [rv x0, rv (tx G 54)] h4 (fun x12 h11 => xext h4 h11 → ((¬ x12 = 0 → bX3_sum_79 G fr lo x0 x1 h11 Q) ∧ (x12 = 0 → 1 ≤ fr ∧ 13 ≤ lo ∧ xRi G YX3_is (fr - 1) (lo - 13) [rv x0, rv (tx G 21)] h11 (fun x19 h18 => xext h11 h18 → ((¬ x19 = 0 → bX3_sum_79 G fr lo x0 x1 h18 Q) ∧ (x19 = 0 → Q (.returned (some (rv x1))) h18))) (fun r h2 => Q (.threw r) h2)))) (fun r h2 => Q (.threw r) h2)))) (fun r h2 => Q (.threw r) h2)
set_option maxRecDepth 100000 in
theorem uX3_sum_49 {G : xG} {fr lo : Nat} {x0 : Nat} {x1 : Nat} {h : xH} {Q : Outcome → xH → Prop} (hq : bX3_sum_49 G fr lo x0 x1 h Q) : xP G YX3_sum fr lo 49 [(0, rv x0), (1, rv x1)] [] h Q := by
  unfold bX3_sum_49 at hq
  refine x_aload_n 0 dX3_sum_49 rfl ?_
  refine x_ldcS (n := 53) 75 srX3_196 dX3_sum_50 ?_
  obtain ⟨g1, hq⟩ := hq
  obtain ⟨g2, g3, hq⟩ := hq
  refine x_callV (Yc := YX3_is) (as := [rv (tx G 53)]) (st := []) q1723 mvX3_is g1 rfl dX3_sum_52 (xle (xal1 (rv_cat _) (xal1 (rv_cat _) xal0)) (by decide)) (xfr g2) (xlo xsw0 (by decide) g3) (xKi hq (fun x5 h4 hq e6 => ?_) (fun _ _ q _ => q))
  replace hq := hq e6
  refine x_if_ne (tgt := 79) dX3_sum_55 (by decide) (fun c7 => ?_) (fun c7 => ?_)
  · replace hq := hq.1 c7
    exact uX3_sum_79 hq
  · replace hq := hq.2 c7
    refine x_aload_n 0 dX3_sum_58 rfl ?_
    refine x_ldcS (n := 54) 76 srX3_198 dX3_sum_59 ?_
    have t8 : tg h4 x0 = 4 := e6.tg g1 (by decide)
    obtain ⟨g9, g10, hq⟩ := hq
    refine x_callV (Yc := YX3_is) (as := [rv (tx G 54)]) (st := []) q1723 mvX3_is t8 rfl dX3_sum_61 (xle (xal1 (rv_cat _) (xal1 (rv_cat _) xal0)) (by decide)) (xfr g9) (xlo xsw0 (by decide) g10) (xKi hq (fun x12 h11 hq e13 => ?_) (fun _ _ q _ => q))
    replace hq := hq e13
    refine x_if_ne (tgt := 79) dX3_sum_64 (by decide) (fun c14 => ?_) (fun c14 => ?_)
    · replace hq := hq.1 c14
      exact uX3_sum_79 hq
    · replace hq := hq.2 c14
      refine x_aload_n 0 dX3_sum_67 rfl ?_
      refine x_ldcwS (n := 21) 105 srX3_325 dX3_sum_68 ?_
      have t15 : tg h11 x0 = 4 := e13.tg t8 (by decide)
      obtain ⟨g16, g17, hq⟩ := hq
      refine x_callV (Yc := YX3_is) (as := [rv (tx G 21)]) (st := []) q1723 mvX3_is t15 rfl dX3_sum_71 (xle (xal1 (rv_cat _) (xal1 (rv_cat _) xal0)) (by decide)) (xfr g16) (xlo xsw0 (by decide) g17) (xKi hq (fun x19 h18 hq e20 => ?_) (fun _ _ q _ => q))
      replace hq := hq e20
      refine x_if_ne (tgt := 79) dX3_sum_74 (by decide) (fun c21 => ?_) (fun c21 => ?_)
      · replace hq := hq.1 c21
        exact uX3_sum_79 hq
      · replace hq := hq.2 c21
        refine x_aload_n 1 dX3_sum_77 rfl ?_
        exact x_aret rfl xty_O dX3_sum_78 hq
set_option maxRecDepth 100000 in
def bX3_sum_18 (G : xG) (fr lo : Nat) (x0 : Nat) (h : xH) (Q : Outcome → xH → Prop) : Prop := tg h x0 = 4 ∧ 1 ≤ fr ∧ 13 ≤ lo ∧ xRr G YX3_take (fr - 1) (lo - 13) [rv x0] h (fun x5 h4 => xext h h4 → nx h4 + 1 ≤ xGN G ∧ us h4 + 6 ≤ xGU G ∧ (∀ (a9 : Nat) (h10 : xH), a9 = nx h4 + 1 → h10 = nO h4 16 6 → xfresh h4 a9 → 1 ≤ fr ∧ 15 ≤ lo ∧ xRv G YX15_init (fr - 1) (lo - 15) [rv a9, .int 63, rv x5] h10 (fun h17 => xext h10 h17 → 1 ≤ fr ∧ 16 ≤ lo ∧ xRr G YX3_term (fr - 1) (lo - 16) [rv x0] h17 (fun x26 h25 => xext h17 h25 → 1 ≤ fr ∧ 13 ≤ lo ∧ xRr G YX15_add (fr - 1) (lo - 13) [rv a9, rv x26] h25 (fun x33 h32 => xext h25 h32 → bX3_sum_49 G fr lo x0 x33 h32 Q) (fun r h2 => Q (.threw r) h2)) (fun r h2 => Q (.threw r) h2)) (fun r h2 => Q (.threw r) h2))) (fun r h2 => Q (.threw r) h2)
set_option maxRecDepth 100000 in
theorem uX3_sum_18 {G : xG} {fr lo : Nat} {x0 : Nat} {h : xH} {Q : Outcome → xH → Prop} (hq : bX3_sum_18 G fr lo x0 h Q) : xP G YX3_sum fr lo 18 [(0, rv x0)] [] h Q := by
  unfold bX3_sum_18 at hq
  refine x_aload_n 0 dX3_sum_18 rfl ?_
  obtain ⟨g1, hq⟩ := hq
  obtain ⟨g2, g3, hq⟩ := hq
  refine x_callV (Yc := YX3_take) (as := []) (st := []) q1738 mvX3_take g1 rfl dX3_sum_19 (xle (xal1 (rv_cat _) xal0) (by decide)) (xfr g2) (xlo xsw0 (by decide) g3) (xKr hq (fun x5 h4 hq e6 => ?_) (fun _ _ q _ => q))
  replace hq := hq e6
  refine x_astore_n (lv' := [(2, rv x5), (0, rv x0)]) dX3_sum_22 (by decide) rfl ?_
  obtain ⟨g7, g8, hq⟩ := hq
  obtain ⟨a9, e11⟩ : ∃ y, y = nx h4 + 1 := ⟨_, rfl⟩
  obtain ⟨h10, e12⟩ : ∃ y, y = nO h4 16 6 := ⟨_, rfl⟩
  refine x_new' cdX3_71 dX3_sum_23 g7 g8 e11 e12 (fun f13 => ?_)
  replace hq := hq a9 h10 e11 e12 f13
  have t14 : tg h10 a9 = 16 := by rw [e12, e11]; exact tg_nO
  refine x_dup dX3_sum_26 (rv_cat _) ?_
  refine x_bipush (v := 63) dX3_sum_27 (by decide) ?_
  refine x_aload_n 0 dX3_sum_29 rfl ?_
  obtain ⟨g15, g16, hq⟩ := hq
  refine x_callI (Yc := YX15_init) (as := [.int 63, rv x5]) (st := [rv a9]) q1749 miX15_init (by rw [t14]; decide) rfl dX3_sum_30 (xle (xal1 (rv_cat _) (xal1 rfl (xal1 (rv_cat _) xal0))) (by decide)) (xfr g15) (xlo (xsw1 (rv_cat _) xsw0) (by decide) g16) (xKv hq (fun h17 hq e19 => ?_) (fun _ _ q _ => q))
  replace hq := hq e19
  refine x_aload_n 1 dX3_sum_33 rfl ?_
  have t20 : tg h4 x0 = 4 := e6.tg g1 (by decide)
  have t21 : tg h10 x0 = 4 := by rw [e12]; exact tg_nO_ne e11 f13 t20 (by decide)
  have t22 : tg h17 x0 = 4 := e19.tg t21 (by decide)
  obtain ⟨g23, g24, hq⟩ := hq
  refine x_callV (Yc := YX3_term) (as := []) (st := [rv a9]) q1936 mvX3_term t22 rfl dX3_sum_34 (xle (xal1 (rv_cat _) xal0) (by decide)) (xfr g23) (xlo (xsw1 (rv_cat _) xsw0) (by decide) g24) (xKr hq (fun x26 h25 hq e27 => ?_) (fun _ _ q _ => q))
  replace hq := hq e27
  have t28 : tg h17 a9 = 16 := e19.tg t14 (by decide)
  have t29 : tg h25 a9 = 16 := e27.tg t28 (by decide)
  obtain ⟨g30, g31, hq⟩ := hq
  refine x_callV (Yc := YX15_add) (as := [rv x26]) (st := []) q1795 mvX15_add t29 rfl dX3_sum_37 (xle (xal1 (rv_cat _) (xal1 (rv_cat _) xal0)) (by decide)) (xfr g30) (xlo xsw0 (by decide) g31) (xKr hq (fun x33 h32 hq e34 => ?_) (fun _ _ q _ => q))
  replace hq := hq e34
  refine x_astore_n (lv' := [(1, rv x33), (2, rv x5), (0, rv x0)]) dX3_sum_40 (by decide) (by first | rfl | (simp [rv_cat, Value.category]; done) | (simp [rv_cat, Value.category]; decide)) ?_
  refine x_goto (tgt := 49) dX3_sum_41 (by decide) ?_
  refine xP.pick (lv' := [(0, rv x0), (1, rv x33)]) [2, 0] rfl ?_
  exact uX3_sum_49 hq
set_option maxRecDepth 100000 in
def bX3_sum (G : xG) (fr lo : Nat) (x0 : Nat) (h : xH) (Q : Outcome → xH → Prop) : Prop := tg h x0 = 4 ∧ 1 ≤ fr ∧ 13 ≤ lo ∧ xRi G YX3_is (fr - 1) (lo - 13) [rv x0, rv (tx G 53)] h (fun x5 h4 => xext h h4 → ((¬ x5 = 0 → bX3_sum_18 G fr lo x0 h4 Q) ∧ (x5 = 0 → 1 ≤ fr ∧ 13 ≤ lo ∧ xRi G YX3_is (fr - 1) (lo - 13) [rv x0, rv (tx G 54)] h4 (fun x12 h11 => xext h4 h11 → ((x12 = 0 → 1 ≤ fr ∧ 15 ≤ lo ∧ xRr G YX3_term (fr - 1) (lo - 15) [rv x0] h11 (fun x19 h18 => xext h11 h18 → bX3_sum_49 G fr lo x0 x19 h18 Q) (fun r h2 => Q (.threw r) h2)) ∧ (¬ x12 = 0 → bX3_sum_18 G fr lo x0 h11 Q))) (fun r h2 => Q (.threw r) h2)))) (fun r h2 => Q (.threw r) h2)
set_option maxRecDepth 100000 in
theorem uX3_sum {G : xG} {fr lo : Nat} {x0 : Nat} {h : xH} {Q : Outcome → xH → Prop} (hq : bX3_sum G fr lo x0 h Q) : xP G YX3_sum fr lo 0 [(0, rv x0)] [] h Q := by
  unfold bX3_sum at hq
  refine x_aload_n 0 dX3_sum_0 rfl ?_
  refine x_ldcS (n := 53) 75 srX3_196 dX3_sum_1 ?_
  obtain ⟨g1, hq⟩ := hq
  obtain ⟨g2, g3, hq⟩ := hq
  refine x_callV (Yc := YX3_is) (as := [rv (tx G 53)]) (st := []) q1723 mvX3_is g1 rfl dX3_sum_3 (xle (xal1 (rv_cat _) (xal1 (rv_cat _) xal0)) (by decide)) (xfr g2) (xlo xsw0 (by decide) g3) (xKi hq (fun x5 h4 hq e6 => ?_) (fun _ _ q _ => q))
  replace hq := hq e6
  refine x_if_ne (tgt := 18) dX3_sum_6 (by decide) (fun c7 => ?_) (fun c7 => ?_)
  · replace hq := hq.1 c7
    exact uX3_sum_18 hq
  · replace hq := hq.2 c7
    refine x_aload_n 0 dX3_sum_9 rfl ?_
    refine x_ldcS (n := 54) 76 srX3_198 dX3_sum_10 ?_
    have t8 : tg h4 x0 = 4 := e6.tg g1 (by decide)
    obtain ⟨g9, g10, hq⟩ := hq
    refine x_callV (Yc := YX3_is) (as := [rv (tx G 54)]) (st := []) q1723 mvX3_is t8 rfl dX3_sum_12 (xle (xal1 (rv_cat _) (xal1 (rv_cat _) xal0)) (by decide)) (xfr g9) (xlo xsw0 (by decide) g10) (xKi hq (fun x12 h11 hq e13 => ?_) (fun _ _ q _ => q))
    replace hq := hq e13
    refine x_if_eq (tgt := 44) dX3_sum_15 (by decide) (fun c14 => ?_) (fun c14 => ?_)
    · replace hq := hq.1 c14
      refine x_aload_n 0 dX3_sum_44 rfl ?_
      have t15 : tg h11 x0 = 4 := e13.tg t8 (by decide)
      obtain ⟨g16, g17, hq⟩ := hq
      refine x_callV (Yc := YX3_term) (as := []) (st := []) q1936 mvX3_term t15 rfl dX3_sum_45 (xle (xal1 (rv_cat _) xal0) (by decide)) (xfr g16) (xlo xsw0 (by decide) g17) (xKr hq (fun x19 h18 hq e20 => ?_) (fun _ _ q _ => q))
      replace hq := hq e20
      refine x_astore_n (lv' := [(1, rv x19), (0, rv x0)]) dX3_sum_48 (by decide) (by first | rfl | (simp [rv_cat, Value.category]; done) | (simp [rv_cat, Value.category]; decide)) ?_
      refine xP.pick (lv' := [(0, rv x0), (1, rv x19)]) [1, 0] rfl ?_
      exact uX3_sum_49 hq
    · replace hq := hq.2 c14
      exact uX3_sum_18 hq
theorem rX3_sum {G : xG} {fr lo : Nat} {x0 : Nat} {h : xH} {Q : Outcome → xH → Prop} (hq : bX3_sum G fr lo x0 h Q) : xR G YX3_sum fr lo [rv x0] h Q := by
  show xP _ _ _ _ _ (lv_args 0 _) _ _ _
  rw [show lv_args 0 [rv x0] = [(0, rv x0)] from (xla1 (rv_cat _) xla0)]
  exact uX3_sum hq
