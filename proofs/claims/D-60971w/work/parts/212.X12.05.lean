/-! PascalHouseModel, walked (6) -/
set_option maxRecDepth 100000 in
theorem dX12_areCongruous_0 : decode cX12_areCongruous 0 = .ok (.aload_n 0, 1) := by decide +kernel
set_option maxRecDepth 100000 in
theorem dX12_areCongruous_1 : decode cX12_areCongruous 1 = .ok (.getfield 635, 3) := by decide +kernel
set_option maxRecDepth 100000 in
theorem dX12_areCongruous_4 : decode cX12_areCongruous 4 = .ok (.aload_n 1, 1) := by decide +kernel
set_option maxRecDepth 100000 in
theorem dX12_areCongruous_5 : decode cX12_areCongruous 5 = .ok (.getfield 635, 3) := by decide +kernel
set_option maxRecDepth 100000 in
theorem dX12_areCongruous_8 : decode cX12_areCongruous 8 = .ok (.if_icmp .ne 31, 3) := by decide +kernel
set_option maxRecDepth 100000 in
theorem dX12_areCongruous_11 : decode cX12_areCongruous 11 = .ok (.aload_n 0, 1) := by decide +kernel
set_option maxRecDepth 100000 in
theorem dX12_areCongruous_12 : decode cX12_areCongruous 12 = .ok (.getfield 612, 3) := by decide +kernel
set_option maxRecDepth 100000 in
theorem dX12_areCongruous_15 : decode cX12_areCongruous 15 = .ok (.aload_n 1, 1) := by decide +kernel
set_option maxRecDepth 100000 in
theorem dX12_areCongruous_16 : decode cX12_areCongruous 16 = .ok (.getfield 612, 3) := by decide +kernel
set_option maxRecDepth 100000 in
theorem dX12_areCongruous_19 : decode cX12_areCongruous 19 = .ok (.if_acmp .ne 20, 3) := by decide +kernel
set_option maxRecDepth 100000 in
theorem dX12_areCongruous_22 : decode cX12_areCongruous 22 = .ok (.aload_n 0, 1) := by decide +kernel
set_option maxRecDepth 100000 in
theorem dX12_areCongruous_23 : decode cX12_areCongruous 23 = .ok (.getfield 949, 3) := by decide +kernel
set_option maxRecDepth 100000 in
theorem dX12_areCongruous_26 : decode cX12_areCongruous 26 = .ok (.invokevirtual 554, 3) := by decide +kernel
set_option maxRecDepth 100000 in
theorem dX12_areCongruous_29 : decode cX12_areCongruous 29 = .ok (.aload_n 1, 1) := by decide +kernel
set_option maxRecDepth 100000 in
theorem dX12_areCongruous_30 : decode cX12_areCongruous 30 = .ok (.getfield 949, 3) := by decide +kernel
set_option maxRecDepth 100000 in
theorem dX12_areCongruous_33 : decode cX12_areCongruous 33 = .ok (.invokevirtual 554, 3) := by decide +kernel
set_option maxRecDepth 100000 in
theorem dX12_areCongruous_36 : decode cX12_areCongruous 36 = .ok (.if_icmp .eq 5, 3) := by decide +kernel
set_option maxRecDepth 100000 in
theorem dX12_areCongruous_39 : decode cX12_areCongruous 39 = .ok (.iconst 0, 1) := by decide +kernel
set_option maxRecDepth 100000 in
theorem dX12_areCongruous_40 : decode cX12_areCongruous 40 = .ok (.ireturn, 1) := by decide +kernel
set_option maxRecDepth 100000 in
theorem dX12_areCongruous_41 : decode cX12_areCongruous 41 = .ok (.iconst 0, 1) := by decide +kernel
set_option maxRecDepth 100000 in
theorem dX12_areCongruous_42 : decode cX12_areCongruous 42 = .ok (.istore_n 2, 1) := by decide +kernel
set_option maxRecDepth 100000 in
theorem dX12_areCongruous_43 : decode cX12_areCongruous 43 = .ok (.iload_n 2, 1) := by decide +kernel
set_option maxRecDepth 100000 in
theorem dX12_areCongruous_44 : decode cX12_areCongruous 44 = .ok (.aload_n 0, 1) := by decide +kernel
set_option maxRecDepth 100000 in
theorem dX12_areCongruous_45 : decode cX12_areCongruous 45 = .ok (.getfield 949, 3) := by decide +kernel
set_option maxRecDepth 100000 in
theorem dX12_areCongruous_48 : decode cX12_areCongruous 48 = .ok (.invokevirtual 554, 3) := by decide +kernel
set_option maxRecDepth 100000 in
theorem dX12_areCongruous_51 : decode cX12_areCongruous 51 = .ok (.if_icmp .ge 94, 3) := by decide +kernel
set_option maxRecDepth 100000 in
theorem dX12_areCongruous_54 : decode cX12_areCongruous 54 = .ok (.aload_n 0, 1) := by decide +kernel
set_option maxRecDepth 100000 in
theorem dX12_areCongruous_55 : decode cX12_areCongruous 55 = .ok (.getfield 949, 3) := by decide +kernel
set_option maxRecDepth 100000 in
theorem dX12_areCongruous_58 : decode cX12_areCongruous 58 = .ok (.iload_n 2, 1) := by decide +kernel
set_option maxRecDepth 100000 in
theorem dX12_areCongruous_59 : decode cX12_areCongruous 59 = .ok (.invokevirtual 556, 3) := by decide +kernel
set_option maxRecDepth 100000 in
theorem dX12_areCongruous_62 : decode cX12_areCongruous 62 = .ok (.checkcast 100, 3) := by decide +kernel
set_option maxRecDepth 100000 in
theorem dX12_areCongruous_65 : decode cX12_areCongruous 65 = .ok (.astore_n 3, 1) := by decide +kernel
set_option maxRecDepth 100000 in
theorem dX12_areCongruous_66 : decode cX12_areCongruous 66 = .ok (.aload_n 1, 1) := by decide +kernel
set_option maxRecDepth 100000 in
theorem dX12_areCongruous_67 : decode cX12_areCongruous 67 = .ok (.getfield 949, 3) := by decide +kernel
set_option maxRecDepth 100000 in
theorem dX12_areCongruous_70 : decode cX12_areCongruous 70 = .ok (.iload_n 2, 1) := by decide +kernel
set_option maxRecDepth 100000 in
theorem dX12_areCongruous_71 : decode cX12_areCongruous 71 = .ok (.invokevirtual 556, 3) := by decide +kernel
set_option maxRecDepth 100000 in
theorem dX12_areCongruous_74 : decode cX12_areCongruous 74 = .ok (.checkcast 100, 3) := by decide +kernel
set_option maxRecDepth 100000 in
theorem dX12_areCongruous_77 : decode cX12_areCongruous 77 = .ok (.astore 4, 2) := by decide +kernel
set_option maxRecDepth 100000 in
theorem dX12_areCongruous_79 : decode cX12_areCongruous 79 = .ok (.aload_n 3, 1) := by decide +kernel
set_option maxRecDepth 100000 in
theorem dX12_areCongruous_80 : decode cX12_areCongruous 80 = .ok (.getfield 577, 3) := by decide +kernel
set_option maxRecDepth 100000 in
theorem dX12_areCongruous_83 : decode cX12_areCongruous 83 = .ok (.aload 4, 2) := by decide +kernel
set_option maxRecDepth 100000 in
theorem dX12_areCongruous_85 : decode cX12_areCongruous 85 = .ok (.getfield 577, 3) := by decide +kernel
set_option maxRecDepth 100000 in
theorem dX12_areCongruous_88 : decode cX12_areCongruous 88 = .ok (.if_icmp .ne 15, 3) := by decide +kernel
set_option maxRecDepth 100000 in
theorem dX12_areCongruous_91 : decode cX12_areCongruous 91 = .ok (.aload_n 3, 1) := by decide +kernel
set_option maxRecDepth 100000 in
theorem dX12_areCongruous_92 : decode cX12_areCongruous 92 = .ok (.getfield 961, 3) := by decide +kernel
set_option maxRecDepth 100000 in
theorem dX12_areCongruous_95 : decode cX12_areCongruous 95 = .ok (.aload 4, 2) := by decide +kernel
set_option maxRecDepth 100000 in
theorem dX12_areCongruous_97 : decode cX12_areCongruous 97 = .ok (.getfield 961, 3) := by decide +kernel
set_option maxRecDepth 100000 in
theorem dX12_areCongruous_100 : decode cX12_areCongruous 100 = .ok (.if_icmp .eq 5, 3) := by decide +kernel
set_option maxRecDepth 100000 in
theorem dX12_areCongruous_103 : decode cX12_areCongruous 103 = .ok (.iconst 0, 1) := by decide +kernel
set_option maxRecDepth 100000 in
theorem dX12_areCongruous_104 : decode cX12_areCongruous 104 = .ok (.ireturn, 1) := by decide +kernel
set_option maxRecDepth 100000 in
theorem dX12_areCongruous_105 : decode cX12_areCongruous 105 = .ok (.aload_n 3, 1) := by decide +kernel
set_option maxRecDepth 100000 in
theorem dX12_areCongruous_106 : decode cX12_areCongruous 106 = .ok (.getfield 577, 3) := by decide +kernel
set_option maxRecDepth 100000 in
theorem dX12_areCongruous_109 : decode cX12_areCongruous 109 = .ok (.iconst 5, 1) := by decide +kernel
set_option maxRecDepth 100000 in
theorem dX12_areCongruous_110 : decode cX12_areCongruous 110 = .ok (.if_icmp .ne 15, 3) := by decide +kernel
set_option maxRecDepth 100000 in
theorem dX12_areCongruous_113 : decode cX12_areCongruous 113 = .ok (.aload_n 3, 1) := by decide +kernel
set_option maxRecDepth 100000 in
theorem dX12_areCongruous_114 : decode cX12_areCongruous 114 = .ok (.aload 4, 2) := by decide +kernel
set_option maxRecDepth 100000 in
theorem dX12_areCongruous_116 : decode cX12_areCongruous 116 = .ok (.invokestatic 964, 3) := by decide +kernel
set_option maxRecDepth 100000 in
theorem dX12_areCongruous_119 : decode cX12_areCongruous 119 = .ok (.ifCond .ne 20, 3) := by decide +kernel
set_option maxRecDepth 100000 in
theorem dX12_areCongruous_122 : decode cX12_areCongruous 122 = .ok (.goto 15, 3) := by decide +kernel
set_option maxRecDepth 100000 in
theorem dX12_areCongruous_125 : decode cX12_areCongruous 125 = .ok (.aload_n 3, 1) := by decide +kernel
set_option maxRecDepth 100000 in
theorem dX12_areCongruous_126 : decode cX12_areCongruous 126 = .ok (.getfield 612, 3) := by decide +kernel
set_option maxRecDepth 100000 in
theorem dX12_areCongruous_129 : decode cX12_areCongruous 129 = .ok (.aload 4, 2) := by decide +kernel
set_option maxRecDepth 100000 in
theorem dX12_areCongruous_131 : decode cX12_areCongruous 131 = .ok (.getfield 612, 3) := by decide +kernel
set_option maxRecDepth 100000 in
theorem dX12_areCongruous_134 : decode cX12_areCongruous 134 = .ok (.if_acmp .eq 5, 3) := by decide +kernel
set_option maxRecDepth 100000 in
theorem dX12_areCongruous_137 : decode cX12_areCongruous 137 = .ok (.iconst 0, 1) := by decide +kernel
set_option maxRecDepth 100000 in
theorem dX12_areCongruous_138 : decode cX12_areCongruous 138 = .ok (.ireturn, 1) := by decide +kernel
set_option maxRecDepth 100000 in
theorem dX12_areCongruous_139 : decode cX12_areCongruous 139 = .ok (.iinc 2 1, 3) := by decide +kernel
set_option maxRecDepth 100000 in
theorem dX12_areCongruous_142 : decode cX12_areCongruous 142 = .ok (.goto (-99), 3) := by decide +kernel
set_option maxRecDepth 100000 in
theorem dX12_areCongruous_145 : decode cX12_areCongruous 145 = .ok (.iconst 1, 1) := by decide +kernel
set_option maxRecDepth 100000 in
theorem dX12_areCongruous_146 : decode cX12_areCongruous 146 = .ok (.ireturn, 1) := by decide +kernel
def lX12_areCongruous_43 (G : xG) (fr lo : Nat) (x0 : Nat) (x1 : Nat) (x2 : Int32) (h : xH) (Q : Outcome → xH → Prop) : Prop := xP G YX12_areCongruous fr lo 43 [(0, rv x0), (1, rv x1), (2, .int x2)] [] h Q
set_option maxRecDepth 100000 in
def bX12_areCongruous_139 (G : xG) (fr lo : Nat) (x0 : Nat) (x1 : Nat) (x2 : Int32) (h : xH) (Q : Outcome → xH → Prop) : Prop := lX12_areCongruous_43 G fr lo x0 x1 (x2 + 1) h Q
set_option maxRecDepth 100000 in
theorem uX12_areCongruous_139 {G : xG} {fr lo : Nat} {x0 : Nat} {x1 : Nat} {x2 : Int32} {h : xH} {Q : Outcome → xH → Prop} (hq : bX12_areCongruous_139 G fr lo x0 x1 x2 h Q) : xP G YX12_areCongruous fr lo 139 [(0, rv x0), (1, rv x1), (2, .int x2)] [] h Q := by
  unfold bX12_areCongruous_139 at hq
  refine x_iinc (lv' := [(2, .int (x2 + 1)), (0, rv x0), (1, rv x1)]) 2 dX12_areCongruous_139 rfl (by decide) (by first | rfl | (simp [rv_cat, Value.category]; done) | (simp [rv_cat, Value.category]; decide)) ?_
  refine x_goto (tgt := 43) dX12_areCongruous_142 (by decide) ?_
  refine xP.pick (lv' := [(0, rv x0), (1, rv x1), (2, .int (x2 + 1))]) [1, 2, 0] rfl ?_
  exact hq
set_option maxRecDepth 100000 in
def bX12_areCongruous_137 (G : xG) (fr lo : Nat) (h : xH) (Q : Outcome → xH → Prop) : Prop := Q (.returned (some (.int 0))) h
set_option maxRecDepth 100000 in
theorem uX12_areCongruous_137 {G : xG} {fr lo : Nat} {h : xH} {Q : Outcome → xH → Prop} (hq : bX12_areCongruous_137 G fr lo h Q) : xP G YX12_areCongruous fr lo 137 [] [] h Q := by
  unfold bX12_areCongruous_137 at hq
  refine x_iconst (v := 0) dX12_areCongruous_137 (by decide) ?_
  exact x_iret rfl rfl dX12_areCongruous_138 hq
set_option maxRecDepth 100000 in
def bX12_areCongruous_103 (G : xG) (fr lo : Nat) (h : xH) (Q : Outcome → xH → Prop) : Prop := Q (.returned (some (.int 0))) h
set_option maxRecDepth 100000 in
theorem uX12_areCongruous_103 {G : xG} {fr lo : Nat} {h : xH} {Q : Outcome → xH → Prop} (hq : bX12_areCongruous_103 G fr lo h Q) : xP G YX12_areCongruous fr lo 103 [] [] h Q := by
  unfold bX12_areCongruous_103 at hq
  refine x_iconst (v := 0) dX12_areCongruous_103 (by decide) ?_
  exact x_iret rfl rfl dX12_areCongruous_104 hq
set_option maxRecDepth 100000 in
def bX12_areCongruous_43 (G : xG) (fr lo : Nat) (x0 : Nat) (x1 : Nat) (x2 : Int32) (h : xH) (Q : Outcome → xH → Prop) : Prop := tg h x0 = 24 ∧ tg h (fR h x0 5910) = 29 ∧ 1 ≤ fr ∧ 13 ≤ lo ∧ xRi G YJ2_size (fr - 1) (lo - 13) [rv (fR h x0 5910)] h (fun x6 h5 => xext h h5 → ((x6 ≤ x2 → Q (.returned (some (.int 1))) h5) ∧ (¬ x6 ≤ x2 → tg h5 (fR h5 x0 5910) = 29 ∧ 1 ≤ fr ∧ 13 ≤ lo ∧ xRr G YJ2_get (fr - 1) (lo - 13) [rv (fR h5 x0 5910), .int x2] h5 (fun x14 h13 => xext h5 h13 → tg h13 x14 = 24 ∧ tg h13 x1 = 24 ∧ tg h13 (fR h13 x1 5910) = 29 ∧ 1 ≤ fr ∧ 13 ≤ lo ∧ xRr G YJ2_get (fr - 1) (lo - 13) [rv (fR h13 x1 5910), .int x2] h13 (fun x22 h21 => xext h13 h21 → tg h21 x22 = 24 ∧ ((¬ (fI h21 x14 5888) = (fI h21 x22 5888) → bX12_areCongruous_103 G fr lo h21 Q) ∧ ((fI h21 x14 5888) = (fI h21 x22 5888) → (((fI h21 x14 5895) = (fI h21 x22 5895) → ((¬ (fI h21 x14 5888) = 5 → (((fR h21 x14 5890) = (fR h21 x22 5890) → bX12_areCongruous_139 G fr lo x0 x1 x2 h21 Q) ∧ (¬ (fR h21 x14 5890) = (fR h21 x22 5890) → bX12_areCongruous_137 G fr lo h21 Q))) ∧ ((fI h21 x14 5888) = 5 → 1 ≤ fr ∧ 16 ≤ lo ∧ xRi G YX12_areCongruous (fr - 1) (lo - 16) [rv x14, rv x22] h21 (fun x33 h32 => xext h21 h32 → ((¬ x33 = 0 → bX12_areCongruous_139 G fr lo x0 x1 x2 h32 Q) ∧ (x33 = 0 → bX12_areCongruous_137 G fr lo h32 Q))) (fun r h2 => Q (.threw r) h2)))) ∧ (¬ (fI h21 x14 5895) = (fI h21 x22 5895) → bX12_areCongruous_103 G fr lo h21 Q))))) (fun r h2 => Q (.threw r) h2)) (fun r h2 => Q (.threw r) h2)))) (fun r h2 => Q (.threw r) h2)
set_option maxRecDepth 100000 in
theorem uX12_areCongruous_43 {G : xG} {fr lo : Nat} {x0 : Nat} {x1 : Nat} {x2 : Int32} {h : xH} {Q : Outcome → xH → Prop} (hq : bX12_areCongruous_43 G fr lo x0 x1 x2 h Q) : xP G YX12_areCongruous fr lo 43 [(0, rv x0), (1, rv x1), (2, .int x2)] [] h Q := by
  unfold bX12_areCongruous_43 at hq
  refine x_iload_n 2 dX12_areCongruous_43 rfl ?_
  refine x_aload_n 0 dX12_areCongruous_44 rfl ?_
  obtain ⟨g1, hq⟩ := hq
  refine x_get (v := rv (fR h x0 5910)) fdX12_949 dX12_areCongruous_45 g1 rfl ?_
  obtain ⟨g2, hq⟩ := hq
  obtain ⟨g3, g4, hq⟩ := hq
  refine x_callV (Yc := YJ2_size) (as := []) (st := [.int x2]) q4067 mvJ2_size g2 rfl dX12_areCongruous_48 (xle (xal1 (rv_cat _) xal0) (by decide)) (xfr g3) (xlo (xsw1 rfl xsw0) (by decide) g4) (xKi hq (fun x6 h5 hq e7 => ?_) (fun _ _ q _ => q))
  replace hq := hq e7
  refine x_icmp_ge (tgt := 145) dX12_areCongruous_51 (by decide) (fun c8 => ?_) (fun c8 => ?_)
  · replace hq := hq.1 c8
    refine x_iconst (v := 1) dX12_areCongruous_145 (by decide) ?_
    exact x_iret rfl rfl dX12_areCongruous_146 hq
  · replace hq := hq.2 c8
    refine x_aload_n 0 dX12_areCongruous_54 rfl ?_
    have t9 : tg h5 x0 = 24 := e7.tg g1 (by decide)
    refine x_get (v := rv (fR h5 x0 5910)) fdX12_949 dX12_areCongruous_55 t9 rfl ?_
    refine x_iload_n 2 dX12_areCongruous_58 rfl ?_
    obtain ⟨g10, hq⟩ := hq
    obtain ⟨g11, g12, hq⟩ := hq
    refine x_callV (Yc := YJ2_get) (as := [.int x2]) (st := []) q4109 mvJ2_get g10 rfl dX12_areCongruous_59 (xle (xal1 (rv_cat _) (xal1 rfl xal0)) (by decide)) (xfr g11) (xlo xsw0 (by decide) g12) (xKr hq (fun x14 h13 hq e15 => ?_) (fun _ _ q _ => q))
    replace hq := hq e15
    obtain ⟨g16, hq⟩ := hq
    refine x_cast (ci := 23) (by decide) rfl q3206 g16 dX12_areCongruous_62 ?_
    refine x_astore_n (lv' := [(3, rv x14), (0, rv x0), (1, rv x1), (2, .int x2)]) dX12_areCongruous_65 (by decide) rfl ?_
    refine x_aload_n 2 dX12_areCongruous_66 rfl ?_
    obtain ⟨g17, hq⟩ := hq
    refine x_get (v := rv (fR h13 x1 5910)) fdX12_949 dX12_areCongruous_67 g17 rfl ?_
    refine x_iload_n 3 dX12_areCongruous_70 rfl ?_
    obtain ⟨g18, hq⟩ := hq
    obtain ⟨g19, g20, hq⟩ := hq
    refine x_callV (Yc := YJ2_get) (as := [.int x2]) (st := []) q4109 mvJ2_get g18 rfl dX12_areCongruous_71 (xle (xal1 (rv_cat _) (xal1 rfl xal0)) (by decide)) (xfr g19) (xlo xsw0 (by decide) g20) (xKr hq (fun x22 h21 hq e23 => ?_) (fun _ _ q _ => q))
    replace hq := hq e23
    obtain ⟨g24, hq⟩ := hq
    refine x_cast (ci := 23) (by decide) rfl q3206 g24 dX12_areCongruous_74 ?_
    refine x_astore (lv' := [(4, rv x22), (3, rv x14), (0, rv x0), (1, rv x1), (2, .int x2)]) dX12_areCongruous_77 (by decide) (by first | rfl | (simp [rv_cat, Value.category]; done) | (simp [rv_cat, Value.category]; decide)) ?_
    refine x_aload_n 1 dX12_areCongruous_79 rfl ?_
    have t25 : tg h21 x14 = 24 := e23.tg g16 (by decide)
    refine x_get (v := .int (fI h21 x14 5888)) fdX12_577 dX12_areCongruous_80 t25 rfl ?_
    refine x_aload 0 dX12_areCongruous_83 rfl ?_
    refine x_get (v := .int (fI h21 x22 5888)) fdX12_577 dX12_areCongruous_85 g24 rfl ?_
    refine x_icmp_ne (tgt := 103) dX12_areCongruous_88 (by decide) (fun c26 => ?_) (fun c26 => ?_)
    · replace hq := hq.1 c26
      refine xP.pick (lv' := []) [] rfl ?_
      exact uX12_areCongruous_103 hq
    · replace hq := hq.2 c26
      refine x_aload_n 1 dX12_areCongruous_91 rfl ?_
      refine x_get (v := .int (fI h21 x14 5895)) fdX12_961 dX12_areCongruous_92 t25 rfl ?_
      refine x_aload 0 dX12_areCongruous_95 rfl ?_
      refine x_get (v := .int (fI h21 x22 5895)) fdX12_961 dX12_areCongruous_97 g24 rfl ?_
      refine x_icmp_eq (tgt := 105) dX12_areCongruous_100 (by decide) (fun c27 => ?_) (fun c27 => ?_)
      · replace hq := hq.1 c27
        refine x_aload_n 1 dX12_areCongruous_105 rfl ?_
        refine x_get (v := .int (fI h21 x14 5888)) fdX12_577 dX12_areCongruous_106 t25 rfl ?_
        refine x_iconst (v := 5) dX12_areCongruous_109 (by decide) ?_
        refine x_icmp_ne (tgt := 125) dX12_areCongruous_110 (by decide) (fun c28 => ?_) (fun c28 => ?_)
        · replace hq := hq.1 c28
          refine x_aload_n 1 dX12_areCongruous_125 rfl ?_
          refine x_get (v := rv (fR h21 x14 5890)) fdX12_612 dX12_areCongruous_126 t25 rfl ?_
          refine x_aload 0 dX12_areCongruous_129 rfl ?_
          refine x_get (v := rv (fR h21 x22 5890)) fdX12_612 dX12_areCongruous_131 g24 rfl ?_
          refine x_acmp_eq (tgt := 139) dX12_areCongruous_134 (by decide) (fun c29 => ?_) (fun c29 => ?_)
          · replace hq := hq.1 c29
            refine xP.pick (lv' := [(0, rv x0), (1, rv x1), (2, .int x2)]) [2, 3, 4] rfl ?_
            exact uX12_areCongruous_139 hq
          · replace hq := hq.2 c29
            refine xP.pick (lv' := []) [] rfl ?_
            exact uX12_areCongruous_137 hq
        · replace hq := hq.2 c28
          refine x_aload_n 1 dX12_areCongruous_113 rfl ?_
          refine x_aload 0 dX12_areCongruous_114 rfl ?_
          obtain ⟨g30, g31, hq⟩ := hq
          refine x_callS (Yc := YX12_areCongruous) (as := [rv x14, rv x22]) (st := []) q4360 msX12_areCongruous rfl dX12_areCongruous_116 (xle (xal1 (rv_cat _) (xal1 (rv_cat _) xal0)) (by decide)) (xfr g30) (xlo xsw0 (by decide) g31) (xKi hq (fun x33 h32 hq e34 => ?_) (fun _ _ q _ => q))
          replace hq := hq e34
          refine x_if_ne (tgt := 139) dX12_areCongruous_119 (by decide) (fun c35 => ?_) (fun c35 => ?_)
          · replace hq := hq.1 c35
            refine xP.pick (lv' := [(0, rv x0), (1, rv x1), (2, .int x2)]) [2, 3, 4] rfl ?_
            exact uX12_areCongruous_139 hq
          · replace hq := hq.2 c35
            refine x_goto (tgt := 137) dX12_areCongruous_122 (by decide) ?_
            refine xP.pick (lv' := []) [] rfl ?_
            exact uX12_areCongruous_137 hq
      · replace hq := hq.2 c27
        refine xP.pick (lv' := []) [] rfl ?_
        exact uX12_areCongruous_103 hq
set_option maxRecDepth 100000 in
def bX12_areCongruous_39 (G : xG) (fr lo : Nat) (h : xH) (Q : Outcome → xH → Prop) : Prop := Q (.returned (some (.int 0))) h
set_option maxRecDepth 100000 in
theorem uX12_areCongruous_39 {G : xG} {fr lo : Nat} {h : xH} {Q : Outcome → xH → Prop} (hq : bX12_areCongruous_39 G fr lo h Q) : xP G YX12_areCongruous fr lo 39 [] [] h Q := by
  unfold bX12_areCongruous_39 at hq
  refine x_iconst (v := 0) dX12_areCongruous_39 (by decide) ?_
  exact x_iret rfl rfl dX12_areCongruous_40 hq
set_option maxRecDepth 100000 in
def bX12_areCongruous (G : xG) (fr lo : Nat) (x0 : Nat) (x1 : Nat) (h : xH) (Q : Outcome → xH → Prop) : Prop := tg h x0 = 24 ∧ tg h x1 = 24 ∧ ((¬ (fI h x0 5905) = (fI h x1 5905) → bX12_areCongruous_39 G fr lo h Q) ∧ ((fI h x0 5905) = (fI h x1 5905) → ((¬ (fR h x0 5890) = (fR h x1 5890) → bX12_areCongruous_39 G fr lo h Q) ∧ ((fR h x0 5890) = (fR h x1 5890) → tg h (fR h x0 5910) = 29 ∧ 1 ≤ fr ∧ 12 ≤ lo ∧ xRi G YJ2_size (fr - 1) (lo - 12) [rv (fR h x0 5910)] h (fun x9 h8 => xext h h8 → tg h8 (fR h8 x1 5910) = 29 ∧ 1 ≤ fr ∧ 13 ≤ lo ∧ xRi G YJ2_size (fr - 1) (lo - 13) [rv (fR h8 x1 5910)] h8 (fun x16 h15 => xext h8 h15 → ((x9 = x16 → lX12_areCongruous_43 G fr lo x0 x1 0 h15 Q) ∧ (¬ x9 = x16 → bX12_areCongruous_39 G fr lo h15 Q))) (fun r h2 => Q (.threw r) h2)) (fun r h2 => Q (.threw r) h2)))))
set_option maxRecDepth 100000 in
theorem uX12_areCongruous {G : xG} {fr lo : Nat} {x0 : Nat} {x1 : Nat} {h : xH} {Q : Outcome → xH → Prop} (hq : bX12_areCongruous G fr lo x0 x1 h Q) : xP G YX12_areCongruous fr lo 0 [(0, rv x0), (1, rv x1)] [] h Q := by
  unfold bX12_areCongruous at hq
  refine x_aload_n 0 dX12_areCongruous_0 rfl ?_
  obtain ⟨g1, hq⟩ := hq
  refine x_get (v := .int (fI h x0 5905)) fdX12_635 dX12_areCongruous_1 g1 rfl ?_
  refine x_aload_n 1 dX12_areCongruous_4 rfl ?_
  obtain ⟨g2, hq⟩ := hq
  refine x_get (v := .int (fI h x1 5905)) fdX12_635 dX12_areCongruous_5 g2 rfl ?_
  refine x_icmp_ne (tgt := 39) dX12_areCongruous_8 (by decide) (fun c3 => ?_) (fun c3 => ?_)
  · replace hq := hq.1 c3
    refine xP.pick (lv' := []) [] rfl ?_
    exact uX12_areCongruous_39 hq
  · replace hq := hq.2 c3
    refine x_aload_n 0 dX12_areCongruous_11 rfl ?_
    refine x_get (v := rv (fR h x0 5890)) fdX12_612 dX12_areCongruous_12 g1 rfl ?_
    refine x_aload_n 1 dX12_areCongruous_15 rfl ?_
    refine x_get (v := rv (fR h x1 5890)) fdX12_612 dX12_areCongruous_16 g2 rfl ?_
    refine x_acmp_ne (tgt := 39) dX12_areCongruous_19 (by decide) (fun c4 => ?_) (fun c4 => ?_)
    · replace hq := hq.1 c4
      refine xP.pick (lv' := []) [] rfl ?_
      exact uX12_areCongruous_39 hq
    · replace hq := hq.2 c4
      refine x_aload_n 0 dX12_areCongruous_22 rfl ?_
      refine x_get (v := rv (fR h x0 5910)) fdX12_949 dX12_areCongruous_23 g1 rfl ?_
      obtain ⟨g5, hq⟩ := hq
      obtain ⟨g6, g7, hq⟩ := hq
      refine x_callV (Yc := YJ2_size) (as := []) (st := []) q4067 mvJ2_size g5 rfl dX12_areCongruous_26 (xle (xal1 (rv_cat _) xal0) (by decide)) (xfr g6) (xlo xsw0 (by decide) g7) (xKi hq (fun x9 h8 hq e10 => ?_) (fun _ _ q _ => q))
      replace hq := hq e10
      refine x_aload_n 1 dX12_areCongruous_29 rfl ?_
      have t11 : tg h8 x1 = 24 := e10.tg g2 (by decide)
      refine x_get (v := rv (fR h8 x1 5910)) fdX12_949 dX12_areCongruous_30 t11 rfl ?_
      obtain ⟨g12, hq⟩ := hq
      obtain ⟨g13, g14, hq⟩ := hq
      refine x_callV (Yc := YJ2_size) (as := []) (st := [.int x9]) q4067 mvJ2_size g12 rfl dX12_areCongruous_33 (xle (xal1 (rv_cat _) xal0) (by decide)) (xfr g13) (xlo (xsw1 rfl xsw0) (by decide) g14) (xKi hq (fun x16 h15 hq e17 => ?_) (fun _ _ q _ => q))
      replace hq := hq e17
      refine x_icmp_eq (tgt := 41) dX12_areCongruous_36 (by decide) (fun c18 => ?_) (fun c18 => ?_)
      · replace hq := hq.1 c18
        refine x_iconst (v := 0) dX12_areCongruous_41 (by decide) ?_
        refine x_istore_n (lv' := [(2, .int 0), (0, rv x0), (1, rv x1)]) dX12_areCongruous_42 (by decide) (by first | rfl | (simp [rv_cat, Value.category]; done) | (simp [rv_cat, Value.category]; decide)) ?_
        refine xP.pick (lv' := [(0, rv x0), (1, rv x1), (2, .int 0)]) [1, 2, 0] rfl ?_
        exact hq
      · replace hq := hq.2 c18
        refine xP.pick (lv' := []) [] rfl ?_
        exact uX12_areCongruous_39 hq
theorem rX12_areCongruous {G : xG} {fr lo : Nat} {x0 : Nat} {x1 : Nat} {h : xH} {Q : Outcome → xH → Prop} (hq : bX12_areCongruous G fr lo x0 x1 h Q) : xR G YX12_areCongruous fr lo [rv x0, rv x1] h Q := by
  show xP _ _ _ _ _ (lv_args 0 _) _ _ _
  rw [show lv_args 0 [rv x0, rv x1] = [(0, rv x0), (1, rv x1)] from (xla1 (rv_cat _) (xla1 (rv_cat _) xla0))]
  exact uX12_areCongruous hq
set_option maxRecDepth 100000 in
theorem dX12_target_0 : decode cX12_target 0 = .ok (.aload_n 0, 1) := by decide +kernel
set_option maxRecDepth 100000 in
theorem dX12_target_1 : decode cX12_target 1 = .ok (.iload_n 1, 1) := by decide +kernel
set_option maxRecDepth 100000 in
theorem dX12_target_2 : decode cX12_target 2 = .ok (.invokevirtual 1022, 3) := by decide +kernel
set_option maxRecDepth 100000 in
theorem dX12_target_5 : decode cX12_target 5 = .ok (.istore_n 2, 1) := by decide +kernel
set_option maxRecDepth 100000 in
theorem dX12_target_6 : decode cX12_target 6 = .ok (.iload_n 2, 1) := by decide +kernel
set_option maxRecDepth 100000 in
theorem dX12_target_7 : decode cX12_target 7 = .ok (.iconst (-1), 1) := by decide +kernel
set_option maxRecDepth 100000 in
theorem dX12_target_8 : decode cX12_target 8 = .ok (.if_icmp .ne 15, 3) := by decide +kernel
set_option maxRecDepth 100000 in
theorem dX12_target_11 : decode cX12_target 11 = .ok (.aload_n 0, 1) := by decide +kernel
set_option maxRecDepth 100000 in
theorem dX12_target_12 : decode cX12_target 12 = .ok (.bipush 6, 2) := by decide +kernel
set_option maxRecDepth 100000 in
theorem dX12_target_14 : decode cX12_target 14 = .ok (.aload_n 0, 1) := by decide +kernel
set_option maxRecDepth 100000 in
theorem dX12_target_15 : decode cX12_target 15 = .ok (.getfield 70, 3) := by decide +kernel
set_option maxRecDepth 100000 in
theorem dX12_target_18 : decode cX12_target 18 = .ok (.iload_n 1, 1) := by decide +kernel
set_option maxRecDepth 100000 in
theorem dX12_target_19 : decode cX12_target 19 = .ok (.iaload, 1) := by decide +kernel
set_option maxRecDepth 100000 in
theorem dX12_target_20 : decode cX12_target 20 = .ok (.invokevirtual 570, 3) := by decide +kernel
set_option maxRecDepth 100000 in
theorem dX12_target_23 : decode cX12_target 23 = .ok (.aload_n 0, 1) := by decide +kernel
set_option maxRecDepth 100000 in
theorem dX12_target_24 : decode cX12_target 24 = .ok (.iload_n 2, 1) := by decide +kernel
set_option maxRecDepth 100000 in
theorem dX12_target_25 : decode cX12_target 25 = .ok (.invokevirtual 1003, 3) := by decide +kernel
set_option maxRecDepth 100000 in
theorem dX12_target_28 : decode cX12_target 28 = .ok (.astore_n 3, 1) := by decide +kernel
set_option maxRecDepth 100000 in
theorem dX12_target_29 : decode cX12_target 29 = .ok (.aload_n 0, 1) := by decide +kernel
set_option maxRecDepth 100000 in
theorem dX12_target_30 : decode cX12_target 30 = .ok (.iload_n 2, 1) := by decide +kernel
set_option maxRecDepth 100000 in
theorem dX12_target_31 : decode cX12_target 31 = .ok (.invokevirtual 1025, 3) := by decide +kernel
set_option maxRecDepth 100000 in
theorem dX12_target_34 : decode cX12_target 34 = .ok (.ifCond .eq 15, 3) := by decide +kernel
set_option maxRecDepth 100000 in
theorem dX12_target_37 : decode cX12_target 37 = .ok (.aload_n 0, 1) := by decide +kernel
set_option maxRecDepth 100000 in
theorem dX12_target_38 : decode cX12_target 38 = .ok (.bipush 6, 2) := by decide +kernel
set_option maxRecDepth 100000 in
theorem dX12_target_40 : decode cX12_target 40 = .ok (.aload_n 0, 1) := by decide +kernel
set_option maxRecDepth 100000 in
theorem dX12_target_41 : decode cX12_target 41 = .ok (.getfield 70, 3) := by decide +kernel
set_option maxRecDepth 100000 in
theorem dX12_target_44 : decode cX12_target 44 = .ok (.iload_n 1, 1) := by decide +kernel
set_option maxRecDepth 100000 in
theorem dX12_target_45 : decode cX12_target 45 = .ok (.iaload, 1) := by decide +kernel
set_option maxRecDepth 100000 in
theorem dX12_target_46 : decode cX12_target 46 = .ok (.invokevirtual 570, 3) := by decide +kernel
set_option maxRecDepth 100000 in
theorem dX12_target_49 : decode cX12_target 49 = .ok (.aload_n 3, 1) := by decide +kernel
set_option maxRecDepth 100000 in
theorem dX12_target_50 : decode cX12_target 50 = .ok (.areturn, 1) := by decide +kernel
set_option maxRecDepth 100000 in
def bX12_target_49 (G : xG) (fr lo : Nat) (x3 : Nat) (h : xH) (Q : Outcome → xH → Prop) : Prop := Q (.returned (some (rv x3))) h
set_option maxRecDepth 100000 in
theorem uX12_target_49 {G : xG} {fr lo : Nat} {x3 : Nat} {h : xH} {Q : Outcome → xH → Prop} (hq : bX12_target_49 G fr lo x3 h Q) : xP G YX12_target fr lo 49 [(3, rv x3)] [] h Q := by
  unfold bX12_target_49 at hq
  refine x_aload_n 0 dX12_target_49 rfl ?_
  exact x_aret rfl xty_O dX12_target_50 hq
set_option maxRecDepth 100000 in
def bX12_target_23 (G : xG) (fr lo : Nat) (x0 : Nat) (x1 : Int32) (x2 : Int32) (h : xH) (Q : Outcome → xH → Prop) : Prop := tg h x0 = 13 ∧ 1 ≤ fr ∧ 17 ≤ lo ∧ xRr G YX12_checkVariable (fr - 1) (lo - 17) [rv x0, .int x2] h (fun x5 h4 => xext h h4 → 1 ≤ fr ∧ 13 ≤ lo ∧ xRi G YX12_isTag (fr - 1) (lo - 13) [rv x0, .int x2] h4 (fun x11 h10 => xext h4 h10 → ((x11 = 0 → bX12_target_49 G fr lo x5 h10 Q) ∧ (¬ x11 = 0 → tg h10 (fR h10 x0 3102) = 100 ∧ vp_in x1 (ln h10 (fR h10 x0 3102)) ∧ 1 ≤ fr ∧ 14 ≤ lo ∧ xRv G YX12_refuse (fr - 1) (lo - 14) [rv x0, .int 6, .int (aI h10 (fR h10 x0 3102) (Int32.toNatClampNeg x1))] h10 (fun h19 => xext h10 h19 → bX12_target_49 G fr lo x5 h19 Q) (fun r h2 => Q (.threw r) h2)))) (fun r h2 => Q (.threw r) h2)) (fun r h2 => Q (.threw r) h2)
set_option maxRecDepth 100000 in
theorem uX12_target_23 {G : xG} {fr lo : Nat} {x0 : Nat} {x1 : Int32} {x2 : Int32} {h : xH} {Q : Outcome → xH → Prop} (hq : bX12_target_23 G fr lo x0 x1 x2 h Q) : xP G YX12_target fr lo 23 [(0, rv x0), (1, .int x1), (2, .int x2)] [] h Q := by
  unfold bX12_target_23 at hq
  refine x_aload_n 0 dX12_target_23 rfl ?_
  refine x_iload_n 2 dX12_target_24 rfl ?_
  obtain ⟨g1, hq⟩ := hq
  obtain ⟨g2, g3, hq⟩ := hq
  refine x_callV (Yc := YX12_checkVariable) (as := [.int x2]) (st := []) q4367 mvX12_checkVariable g1 rfl dX12_target_25 (xle (xal1 (rv_cat _) (xal1 rfl xal0)) (by decide)) (xfr g2) (xlo xsw0 (by decide) g3) (xKr hq (fun x5 h4 hq e6 => ?_) (fun _ _ q _ => q))
  replace hq := hq e6
  refine x_astore_n (lv' := [(3, rv x5), (0, rv x0), (1, .int x1), (2, .int x2)]) dX12_target_28 (by decide) rfl ?_
  refine x_aload_n 1 dX12_target_29 rfl ?_
  refine x_iload_n 3 dX12_target_30 rfl ?_
  have t7 : tg h4 x0 = 13 := e6.tg g1 (by decide)
  obtain ⟨g8, g9, hq⟩ := hq
  refine x_callV (Yc := YX12_isTag) (as := [.int x2]) (st := []) q4385 mvX12_isTag t7 rfl dX12_target_31 (xle (xal1 (rv_cat _) (xal1 rfl xal0)) (by decide)) (xfr g8) (xlo xsw0 (by decide) g9) (xKi hq (fun x11 h10 hq e12 => ?_) (fun _ _ q _ => q))
  replace hq := hq e12
  refine x_if_eq (tgt := 49) dX12_target_34 (by decide) (fun c13 => ?_) (fun c13 => ?_)
  · replace hq := hq.1 c13
    refine xP.pick (lv' := [(3, rv x5)]) [0] rfl ?_
    exact uX12_target_49 hq
  · replace hq := hq.2 c13
    refine x_aload_n 1 dX12_target_37 rfl ?_
    refine x_bipush (v := 6) dX12_target_38 (by decide) ?_
    refine x_aload_n 1 dX12_target_40 rfl ?_
    have t14 : tg h10 x0 = 13 := e12.tg t7 (by decide)
    refine x_get (v := rv (fR h10 x0 3102)) fdX12_70 dX12_target_41 t14 rfl ?_
    refine x_iload_n 2 dX12_target_44 rfl ?_
    obtain ⟨g15, hq⟩ := hq
    obtain ⟨i16, hq⟩ := hq
    refine x_iald 0 (Or.inl rfl) g15 i16 dX12_target_45 ?_
    obtain ⟨g17, g18, hq⟩ := hq
    refine x_callV (Yc := YX12_refuse) (as := [.int 6, .int (aI h10 (fR h10 x0 3102) (Int32.toNatClampNeg x1))]) (st := []) q4095 mvX12_refuse t14 rfl dX12_target_46 (xle (xal1 (rv_cat _) (xal1 rfl (xal1 rfl xal0))) (by decide)) (xfr g17) (xlo xsw0 (by decide) g18) (xKv hq (fun h19 hq e21 => ?_) (fun _ _ q _ => q))
    replace hq := hq e21
    refine xP.pick (lv' := [(3, rv x5)]) [0] rfl ?_
    exact uX12_target_49 hq
set_option maxRecDepth 100000 in
def bX12_target (G : xG) (fr lo : Nat) (x0 : Nat) (x1 : Int32) (h : xH) (Q : Outcome → xH → Prop) : Prop := tg h x0 = 13 ∧ 1 ≤ fr ∧ 15 ≤ lo ∧ xRi G YX12_loneVariable (fr - 1) (lo - 15) [rv x0, .int x1] h (fun x5 h4 => xext h h4 → ((¬ x5 = (-1) → bX12_target_23 G fr lo x0 x1 x5 h4 Q) ∧ (x5 = (-1) → tg h4 (fR h4 x0 3102) = 100 ∧ vp_in x1 (ln h4 (fR h4 x0 3102)) ∧ 1 ≤ fr ∧ 14 ≤ lo ∧ xRv G YX12_refuse (fr - 1) (lo - 14) [rv x0, .int 6, .int (aI h4 (fR h4 x0 3102) (Int32.toNatClampNeg x1))] h4 (fun h13 => xext h4 h13 → bX12_target_23 G fr lo x0 x1 x5 h13 Q) (fun r h2 => Q (.threw r) h2)))) (fun r h2 => Q (.threw r) h2)
set_option maxRecDepth 100000 in
theorem uX12_target {G : xG} {fr lo : Nat} {x0 : Nat} {x1 : Int32} {h : xH} {Q : Outcome → xH → Prop} (hq : bX12_target G fr lo x0 x1 h Q) : xP G YX12_target fr lo 0 [(0, rv x0), (1, .int x1)] [] h Q := by
  unfold bX12_target at hq
  refine x_aload_n 0 dX12_target_0 rfl ?_
  refine x_iload_n 1 dX12_target_1 rfl ?_
  obtain ⟨g1, hq⟩ := hq
  obtain ⟨g2, g3, hq⟩ := hq
  refine x_callV (Yc := YX12_loneVariable) (as := [.int x1]) (st := []) q4348 mvX12_loneVariable g1 rfl dX12_target_2 (xle (xal1 (rv_cat _) (xal1 rfl xal0)) (by decide)) (xfr g2) (xlo xsw0 (by decide) g3) (xKi hq (fun x5 h4 hq e6 => ?_) (fun _ _ q _ => q))
  replace hq := hq e6
  refine x_istore_n (lv' := [(2, .int x5), (0, rv x0), (1, .int x1)]) dX12_target_5 (by decide) rfl ?_
  refine x_iload_n 0 dX12_target_6 rfl ?_
  refine x_iconst (v := (-1)) dX12_target_7 (by decide) ?_
  refine x_icmp_ne (tgt := 23) dX12_target_8 (by decide) (fun c7 => ?_) (fun c7 => ?_)
  · replace hq := hq.1 c7
    refine xP.pick (lv' := [(0, rv x0), (1, .int x1), (2, .int x5)]) [1, 2, 0] rfl ?_
    exact uX12_target_23 hq
  · replace hq := hq.2 c7
    refine x_aload_n 1 dX12_target_11 rfl ?_
    refine x_bipush (v := 6) dX12_target_12 (by decide) ?_
    refine x_aload_n 1 dX12_target_14 rfl ?_
    have t8 : tg h4 x0 = 13 := e6.tg g1 (by decide)
    refine x_get (v := rv (fR h4 x0 3102)) fdX12_70 dX12_target_15 t8 rfl ?_
    refine x_iload_n 2 dX12_target_18 rfl ?_
    obtain ⟨g9, hq⟩ := hq
    obtain ⟨i10, hq⟩ := hq
    refine x_iald 0 (Or.inl rfl) g9 i10 dX12_target_19 ?_
    obtain ⟨g11, g12, hq⟩ := hq
    refine x_callV (Yc := YX12_refuse) (as := [.int 6, .int (aI h4 (fR h4 x0 3102) (Int32.toNatClampNeg x1))]) (st := []) q4095 mvX12_refuse t8 rfl dX12_target_20 (xle (xal1 (rv_cat _) (xal1 rfl (xal1 rfl xal0))) (by decide)) (xfr g11) (xlo xsw0 (by decide) g12) (xKv hq (fun h13 hq e15 => ?_) (fun _ _ q _ => q))
    replace hq := hq e15
    refine xP.pick (lv' := [(0, rv x0), (1, .int x1), (2, .int x5)]) [1, 2, 0] rfl ?_
    exact uX12_target_23 hq
theorem rX12_target {G : xG} {fr lo : Nat} {x0 : Nat} {x1 : Int32} {h : xH} {Q : Outcome → xH → Prop} (hq : bX12_target G fr lo x0 x1 h Q) : xR G YX12_target fr lo [rv x0, .int x1] h Q := by
  show xP _ _ _ _ _ (lv_args 0 _) _ _ _
  rw [show lv_args 0 [rv x0, .int x1] = [(0, rv x0), (1, .int x1)] from (xla1 (rv_cat _) (xla1 rfl xla0))]
  exact uX12_target hq
set_option maxRecDepth 100000 in
theorem dX12_checkVariable_0 : decode cX12_checkVariable 0 = .ok (.aload_n 0, 1) := by decide +kernel
set_option maxRecDepth 100000 in
theorem dX12_checkVariable_1 : decode cX12_checkVariable 1 = .ok (.aload_n 0, 1) := by decide +kernel
set_option maxRecDepth 100000 in
theorem dX12_checkVariable_2 : decode cX12_checkVariable 2 = .ok (.getfield 70, 3) := by decide +kernel
set_option maxRecDepth 100000 in
theorem dX12_checkVariable_5 : decode cX12_checkVariable 5 = .ok (.iload_n 1, 1) := by decide +kernel
set_option maxRecDepth 100000 in
theorem dX12_checkVariable_6 : decode cX12_checkVariable 6 = .ok (.iaload, 1) := by decide +kernel
set_option maxRecDepth 100000 in
theorem dX12_checkVariable_7 : decode cX12_checkVariable 7 = .ok (.invokevirtual 573, 3) := by decide +kernel
set_option maxRecDepth 100000 in
theorem dX12_checkVariable_10 : decode cX12_checkVariable 10 = .ok (.astore_n 2, 1) := by decide +kernel
set_option maxRecDepth 100000 in
theorem dX12_checkVariable_11 : decode cX12_checkVariable 11 = .ok (.aload_n 2, 1) := by decide +kernel
set_option maxRecDepth 100000 in
theorem dX12_checkVariable_12 : decode cX12_checkVariable 12 = .ok (.getfield 577, 3) := by decide +kernel
set_option maxRecDepth 100000 in
theorem dX12_checkVariable_15 : decode cX12_checkVariable 15 = .ok (.iconst 3, 1) := by decide +kernel
set_option maxRecDepth 100000 in
theorem dX12_checkVariable_16 : decode cX12_checkVariable 16 = .ok (.if_icmp .eq 23, 3) := by decide +kernel
set_option maxRecDepth 100000 in
theorem dX12_checkVariable_19 : decode cX12_checkVariable 19 = .ok (.aload_n 2, 1) := by decide +kernel
set_option maxRecDepth 100000 in
theorem dX12_checkVariable_20 : decode cX12_checkVariable 20 = .ok (.getfield 577, 3) := by decide +kernel
set_option maxRecDepth 100000 in
theorem dX12_checkVariable_23 : decode cX12_checkVariable 23 = .ok (.iconst 4, 1) := by decide +kernel
set_option maxRecDepth 100000 in
theorem dX12_checkVariable_24 : decode cX12_checkVariable 24 = .ok (.if_icmp .eq 15, 3) := by decide +kernel
set_option maxRecDepth 100000 in
theorem dX12_checkVariable_27 : decode cX12_checkVariable 27 = .ok (.aload_n 0, 1) := by decide +kernel
set_option maxRecDepth 100000 in
theorem dX12_checkVariable_28 : decode cX12_checkVariable 28 = .ok (.bipush 6, 2) := by decide +kernel
set_option maxRecDepth 100000 in
theorem dX12_checkVariable_30 : decode cX12_checkVariable 30 = .ok (.aload_n 0, 1) := by decide +kernel
set_option maxRecDepth 100000 in
theorem dX12_checkVariable_31 : decode cX12_checkVariable 31 = .ok (.getfield 70, 3) := by decide +kernel
set_option maxRecDepth 100000 in
theorem dX12_checkVariable_34 : decode cX12_checkVariable 34 = .ok (.iload_n 1, 1) := by decide +kernel
set_option maxRecDepth 100000 in
theorem dX12_checkVariable_35 : decode cX12_checkVariable 35 = .ok (.iaload, 1) := by decide +kernel
set_option maxRecDepth 100000 in
theorem dX12_checkVariable_36 : decode cX12_checkVariable 36 = .ok (.invokevirtual 570, 3) := by decide +kernel
set_option maxRecDepth 100000 in
theorem dX12_checkVariable_39 : decode cX12_checkVariable 39 = .ok (.aload_n 0, 1) := by decide +kernel
set_option maxRecDepth 100000 in
theorem dX12_checkVariable_40 : decode cX12_checkVariable 40 = .ok (.getfield 102, 3) := by decide +kernel
set_option maxRecDepth 100000 in
theorem dX12_checkVariable_43 : decode cX12_checkVariable 43 = .ok (.iload_n 1, 1) := by decide +kernel
set_option maxRecDepth 100000 in
theorem dX12_checkVariable_44 : decode cX12_checkVariable 44 = .ok (.aload_n 2, 1) := by decide +kernel
set_option maxRecDepth 100000 in
theorem dX12_checkVariable_45 : decode cX12_checkVariable 45 = .ok (.aastore, 1) := by decide +kernel
set_option maxRecDepth 100000 in
theorem dX12_checkVariable_46 : decode cX12_checkVariable 46 = .ok (.aload_n 0, 1) := by decide +kernel
set_option maxRecDepth 100000 in
theorem dX12_checkVariable_47 : decode cX12_checkVariable 47 = .ok (.getfield 85, 3) := by decide +kernel
set_option maxRecDepth 100000 in
theorem dX12_checkVariable_50 : decode cX12_checkVariable 50 = .ok (.iload_n 1, 1) := by decide +kernel
set_option maxRecDepth 100000 in
theorem dX12_checkVariable_51 : decode cX12_checkVariable 51 = .ok (.aload_n 0, 1) := by decide +kernel
set_option maxRecDepth 100000 in
theorem dX12_checkVariable_52 : decode cX12_checkVariable 52 = .ok (.getfield 563, 3) := by decide +kernel
set_option maxRecDepth 100000 in
theorem dX12_checkVariable_55 : decode cX12_checkVariable 55 = .ok (.iastore, 1) := by decide +kernel
set_option maxRecDepth 100000 in
theorem dX12_checkVariable_56 : decode cX12_checkVariable 56 = .ok (.aload_n 2, 1) := by decide +kernel
set_option maxRecDepth 100000 in
theorem dX12_checkVariable_57 : decode cX12_checkVariable 57 = .ok (.getfield 612, 3) := by decide +kernel
set_option maxRecDepth 100000 in
theorem dX12_checkVariable_60 : decode cX12_checkVariable 60 = .ok (.astore_n 3, 1) := by decide +kernel
set_option maxRecDepth 100000 in
theorem dX12_checkVariable_61 : decode cX12_checkVariable 61 = .ok (.aload_n 0, 1) := by decide +kernel
set_option maxRecDepth 100000 in
theorem dX12_checkVariable_62 : decode cX12_checkVariable 62 = .ok (.getfield 73, 3) := by decide +kernel
set_option maxRecDepth 100000 in
theorem dX12_checkVariable_65 : decode cX12_checkVariable 65 = .ok (.iload_n 1, 1) := by decide +kernel
set_option maxRecDepth 100000 in
theorem dX12_checkVariable_66 : decode cX12_checkVariable 66 = .ok (.iaload, 1) := by decide +kernel
set_option maxRecDepth 100000 in
theorem dX12_checkVariable_67 : decode cX12_checkVariable 67 = .ok (.istore 4, 2) := by decide +kernel
set_option maxRecDepth 100000 in
theorem dX12_checkVariable_69 : decode cX12_checkVariable 69 = .ok (.iload 4, 2) := by decide +kernel
set_option maxRecDepth 100000 in
theorem dX12_checkVariable_71 : decode cX12_checkVariable 71 = .ok (.iconst (-1), 1) := by decide +kernel
set_option maxRecDepth 100000 in
theorem dX12_checkVariable_72 : decode cX12_checkVariable 72 = .ok (.if_icmp .eq 236, 3) := by decide +kernel
set_option maxRecDepth 100000 in
theorem dX12_checkVariable_75 : decode cX12_checkVariable 75 = .ok (.aload_n 0, 1) := by decide +kernel
set_option maxRecDepth 100000 in
theorem dX12_checkVariable_76 : decode cX12_checkVariable 76 = .ok (.getfield 96, 3) := by decide +kernel
set_option maxRecDepth 100000 in
theorem dX12_checkVariable_79 : decode cX12_checkVariable 79 = .ok (.iload 4, 2) := by decide +kernel
set_option maxRecDepth 100000 in
theorem dX12_checkVariable_81 : decode cX12_checkVariable 81 = .ok (.aload_n 3, 1) := by decide +kernel
set_option maxRecDepth 100000 in
theorem dX12_checkVariable_82 : decode cX12_checkVariable 82 = .ok (.aastore, 1) := by decide +kernel
set_option maxRecDepth 100000 in
theorem dX12_checkVariable_83 : decode cX12_checkVariable 83 = .ok (.aload_n 0, 1) := by decide +kernel
set_option maxRecDepth 100000 in
theorem dX12_checkVariable_84 : decode cX12_checkVariable 84 = .ok (.getfield 67, 3) := by decide +kernel
set_option maxRecDepth 100000 in
theorem dX12_checkVariable_87 : decode cX12_checkVariable 87 = .ok (.iload 4, 2) := by decide +kernel
set_option maxRecDepth 100000 in
theorem dX12_checkVariable_89 : decode cX12_checkVariable 89 = .ok (.iaload, 1) := by decide +kernel
set_option maxRecDepth 100000 in
theorem dX12_checkVariable_90 : decode cX12_checkVariable 90 = .ok (.lookupswitch 170 #[(63, 26), (64, 91)], 26) := by decide +kernel
set_option maxRecDepth 100000 in
theorem dX12_checkVariable_116 : decode cX12_checkVariable 116 = .ok (.aload_n 3, 1) := by decide +kernel
set_option maxRecDepth 100000 in
theorem dX12_checkVariable_117 : decode cX12_checkVariable 117 = .ok (.getfield 845, 3) := by decide +kernel
set_option maxRecDepth 100000 in
theorem dX12_checkVariable_120 : decode cX12_checkVariable 120 = .ok (.bipush 7, 2) := by decide +kernel
set_option maxRecDepth 100000 in
theorem dX12_checkVariable_122 : decode cX12_checkVariable 122 = .ok (.if_icmp .eq 16, 3) := by decide +kernel
set_option maxRecDepth 100000 in
theorem dX12_checkVariable_125 : decode cX12_checkVariable 125 = .ok (.aload_n 0, 1) := by decide +kernel
set_option maxRecDepth 100000 in
theorem dX12_checkVariable_126 : decode cX12_checkVariable 126 = .ok (.bipush 7, 2) := by decide +kernel
set_option maxRecDepth 100000 in
theorem dX12_checkVariable_128 : decode cX12_checkVariable 128 = .ok (.aload_n 0, 1) := by decide +kernel
set_option maxRecDepth 100000 in
theorem dX12_checkVariable_129 : decode cX12_checkVariable 129 = .ok (.getfield 70, 3) := by decide +kernel
set_option maxRecDepth 100000 in
theorem dX12_checkVariable_132 : decode cX12_checkVariable 132 = .ok (.iload 4, 2) := by decide +kernel
set_option maxRecDepth 100000 in
theorem dX12_checkVariable_134 : decode cX12_checkVariable 134 = .ok (.iaload, 1) := by decide +kernel
set_option maxRecDepth 100000 in
theorem dX12_checkVariable_135 : decode cX12_checkVariable 135 = .ok (.invokevirtual 570, 3) := by decide +kernel
set_option maxRecDepth 100000 in
theorem dX12_checkVariable_138 : decode cX12_checkVariable 138 = .ok (.aload_n 0, 1) := by decide +kernel
set_option maxRecDepth 100000 in
theorem dX12_checkVariable_139 : decode cX12_checkVariable 139 = .ok (.aload_n 0, 1) := by decide +kernel
set_option maxRecDepth 100000 in
theorem dX12_checkVariable_140 : decode cX12_checkVariable 140 = .ok (.aload_n 0, 1) := by decide +kernel
set_option maxRecDepth 100000 in
theorem dX12_checkVariable_141 : decode cX12_checkVariable 141 = .ok (.getfield 73, 3) := by decide +kernel
set_option maxRecDepth 100000 in
theorem dX12_checkVariable_144 : decode cX12_checkVariable 144 = .ok (.iload 4, 2) := by decide +kernel
set_option maxRecDepth 100000 in
theorem dX12_checkVariable_146 : decode cX12_checkVariable 146 = .ok (.iaload, 1) := by decide +kernel
set_option maxRecDepth 100000 in
theorem dX12_checkVariable_147 : decode cX12_checkVariable 147 = .ok (.invokevirtual 989, 3) := by decide +kernel
set_option maxRecDepth 100000 in
theorem dX12_checkVariable_150 : decode cX12_checkVariable 150 = .ok (.aload_n 3, 1) := by decide +kernel
set_option maxRecDepth 100000 in
theorem dX12_checkVariable_151 : decode cX12_checkVariable 151 = .ok (.getfield 864, 3) := by decide +kernel
set_option maxRecDepth 100000 in
theorem dX12_checkVariable_154 : decode cX12_checkVariable 154 = .ok (.invokevirtual 999, 3) := by decide +kernel
set_option maxRecDepth 100000 in
theorem dX12_checkVariable_157 : decode cX12_checkVariable 157 = .ok (.ifCond .ne 16, 3) := by decide +kernel
set_option maxRecDepth 100000 in
theorem dX12_checkVariable_160 : decode cX12_checkVariable 160 = .ok (.aload_n 0, 1) := by decide +kernel
set_option maxRecDepth 100000 in
theorem dX12_checkVariable_161 : decode cX12_checkVariable 161 = .ok (.bipush 7, 2) := by decide +kernel
set_option maxRecDepth 100000 in
theorem dX12_checkVariable_163 : decode cX12_checkVariable 163 = .ok (.aload_n 0, 1) := by decide +kernel
set_option maxRecDepth 100000 in
theorem dX12_checkVariable_164 : decode cX12_checkVariable 164 = .ok (.getfield 70, 3) := by decide +kernel
set_option maxRecDepth 100000 in
theorem dX12_checkVariable_167 : decode cX12_checkVariable 167 = .ok (.iload 4, 2) := by decide +kernel
set_option maxRecDepth 100000 in
theorem dX12_checkVariable_169 : decode cX12_checkVariable 169 = .ok (.iaload, 1) := by decide +kernel
set_option maxRecDepth 100000 in
theorem dX12_checkVariable_170 : decode cX12_checkVariable 170 = .ok (.invokevirtual 570, 3) := by decide +kernel
set_option maxRecDepth 100000 in
theorem dX12_checkVariable_173 : decode cX12_checkVariable 173 = .ok (.aload_n 3, 1) := by decide +kernel
set_option maxRecDepth 100000 in
theorem dX12_checkVariable_174 : decode cX12_checkVariable 174 = .ok (.getfield 598, 3) := by decide +kernel
set_option maxRecDepth 100000 in
theorem dX12_checkVariable_177 : decode cX12_checkVariable 177 = .ok (.astore_n 3, 1) := by decide +kernel
set_option maxRecDepth 100000 in
theorem dX12_checkVariable_178 : decode cX12_checkVariable 178 = .ok (.goto 118, 3) := by decide +kernel
set_option maxRecDepth 100000 in
theorem dX12_checkVariable_181 : decode cX12_checkVariable 181 = .ok (.aload_n 3, 1) := by decide +kernel
set_option maxRecDepth 100000 in
theorem dX12_checkVariable_182 : decode cX12_checkVariable 182 = .ok (.getfield 845, 3) := by decide +kernel
set_option maxRecDepth 100000 in
theorem dX12_checkVariable_185 : decode cX12_checkVariable 185 = .ok (.bipush 8, 2) := by decide +kernel
set_option maxRecDepth 100000 in
theorem dX12_checkVariable_187 : decode cX12_checkVariable 187 = .ok (.if_icmp .eq 16, 3) := by decide +kernel
set_option maxRecDepth 100000 in
theorem dX12_checkVariable_190 : decode cX12_checkVariable 190 = .ok (.aload_n 0, 1) := by decide +kernel
set_option maxRecDepth 100000 in
theorem dX12_checkVariable_191 : decode cX12_checkVariable 191 = .ok (.bipush 7, 2) := by decide +kernel
set_option maxRecDepth 100000 in
theorem dX12_checkVariable_193 : decode cX12_checkVariable 193 = .ok (.aload_n 0, 1) := by decide +kernel
set_option maxRecDepth 100000 in
theorem dX12_checkVariable_194 : decode cX12_checkVariable 194 = .ok (.getfield 70, 3) := by decide +kernel
set_option maxRecDepth 100000 in
theorem dX12_checkVariable_197 : decode cX12_checkVariable 197 = .ok (.iload 4, 2) := by decide +kernel
set_option maxRecDepth 100000 in
theorem dX12_checkVariable_199 : decode cX12_checkVariable 199 = .ok (.iaload, 1) := by decide +kernel
set_option maxRecDepth 100000 in
theorem dX12_checkVariable_200 : decode cX12_checkVariable 200 = .ok (.invokevirtual 570, 3) := by decide +kernel
set_option maxRecDepth 100000 in
theorem dX12_checkVariable_203 : decode cX12_checkVariable 203 = .ok (.aload_n 0, 1) := by decide +kernel
set_option maxRecDepth 100000 in
theorem dX12_checkVariable_204 : decode cX12_checkVariable 204 = .ok (.aload_n 3, 1) := by decide +kernel
set_option maxRecDepth 100000 in
theorem dX12_checkVariable_205 : decode cX12_checkVariable 205 = .ok (.getfield 852, 3) := by decide +kernel
set_option maxRecDepth 100000 in
theorem dX12_checkVariable_208 : decode cX12_checkVariable 208 = .ok (.aload_n 0, 1) := by decide +kernel
set_option maxRecDepth 100000 in
theorem dX12_checkVariable_209 : decode cX12_checkVariable 209 = .ok (.getfield 32, 3) := by decide +kernel
set_option maxRecDepth 100000 in
theorem dX12_checkVariable_212 : decode cX12_checkVariable 212 = .ok (.aload_n 0, 1) := by decide +kernel
set_option maxRecDepth 100000 in
theorem dX12_checkVariable_213 : decode cX12_checkVariable 213 = .ok (.getfield 82, 3) := by decide +kernel
set_option maxRecDepth 100000 in
theorem dX12_checkVariable_216 : decode cX12_checkVariable 216 = .ok (.iload 4, 2) := by decide +kernel
set_option maxRecDepth 100000 in
theorem dX12_checkVariable_218 : decode cX12_checkVariable 218 = .ok (.iaload, 1) := by decide +kernel
set_option maxRecDepth 100000 in
theorem dX12_checkVariable_219 : decode cX12_checkVariable 219 = .ok (.iaload, 1) := by decide +kernel
set_option maxRecDepth 100000 in
theorem dX12_checkVariable_220 : decode cX12_checkVariable 220 = .ok (.invokevirtual 566, 3) := by decide +kernel
set_option maxRecDepth 100000 in
theorem dX12_checkVariable_223 : decode cX12_checkVariable 223 = .ok (.astore 5, 2) := by decide +kernel
set_option maxRecDepth 100000 in
theorem dX12_checkVariable_225 : decode cX12_checkVariable 225 = .ok (.aload 5, 2) := by decide +kernel
set_option maxRecDepth 100000 in
theorem dX12_checkVariable_227 : decode cX12_checkVariable 227 = .ok (.ifnonnull 15, 3) := by decide +kernel
set_option maxRecDepth 100000 in
theorem dX12_checkVariable_230 : decode cX12_checkVariable 230 = .ok (.aload_n 0, 1) := by decide +kernel
set_option maxRecDepth 100000 in
theorem dX12_checkVariable_231 : decode cX12_checkVariable 231 = .ok (.iconst 4, 1) := by decide +kernel
set_option maxRecDepth 100000 in
theorem dX12_checkVariable_232 : decode cX12_checkVariable 232 = .ok (.aload_n 0, 1) := by decide +kernel
set_option maxRecDepth 100000 in
theorem dX12_checkVariable_233 : decode cX12_checkVariable 233 = .ok (.getfield 82, 3) := by decide +kernel
set_option maxRecDepth 100000 in
theorem dX12_checkVariable_236 : decode cX12_checkVariable 236 = .ok (.iload 4, 2) := by decide +kernel
set_option maxRecDepth 100000 in
theorem dX12_checkVariable_238 : decode cX12_checkVariable 238 = .ok (.iaload, 1) := by decide +kernel
set_option maxRecDepth 100000 in
theorem dX12_checkVariable_239 : decode cX12_checkVariable 239 = .ok (.invokevirtual 570, 3) := by decide +kernel
set_option maxRecDepth 100000 in
theorem dX12_checkVariable_242 : decode cX12_checkVariable 242 = .ok (.aload_n 0, 1) := by decide +kernel
set_option maxRecDepth 100000 in
theorem dX12_checkVariable_243 : decode cX12_checkVariable 243 = .ok (.getfield 102, 3) := by decide +kernel
set_option maxRecDepth 100000 in
theorem dX12_checkVariable_246 : decode cX12_checkVariable 246 = .ok (.iload 4, 2) := by decide +kernel
set_option maxRecDepth 100000 in
theorem dX12_checkVariable_248 : decode cX12_checkVariable 248 = .ok (.aload 5, 2) := by decide +kernel
set_option maxRecDepth 100000 in
theorem dX12_checkVariable_250 : decode cX12_checkVariable 250 = .ok (.aastore, 1) := by decide +kernel
set_option maxRecDepth 100000 in
theorem dX12_checkVariable_251 : decode cX12_checkVariable 251 = .ok (.aload 5, 2) := by decide +kernel
set_option maxRecDepth 100000 in
theorem dX12_checkVariable_253 : decode cX12_checkVariable 253 = .ok (.getfield 612, 3) := by decide +kernel
set_option maxRecDepth 100000 in
theorem dX12_checkVariable_256 : decode cX12_checkVariable 256 = .ok (.astore_n 3, 1) := by decide +kernel
set_option maxRecDepth 100000 in
theorem dX12_checkVariable_257 : decode cX12_checkVariable 257 = .ok (.goto 39, 3) := by decide +kernel
set_option maxRecDepth 100000 in
theorem dX12_checkVariable_260 : decode cX12_checkVariable 260 = .ok (.aload_n 3, 1) := by decide +kernel
set_option maxRecDepth 100000 in
theorem dX12_checkVariable_261 : decode cX12_checkVariable 261 = .ok (.getfield 845, 3) := by decide +kernel
set_option maxRecDepth 100000 in
theorem dX12_checkVariable_264 : decode cX12_checkVariable 264 = .ok (.bipush 11, 2) := by decide +kernel
set_option maxRecDepth 100000 in
theorem dX12_checkVariable_266 : decode cX12_checkVariable 266 = .ok (.if_icmp .eq 25, 3) := by decide +kernel
set_option maxRecDepth 100000 in
theorem dX12_checkVariable_269 : decode cX12_checkVariable 269 = .ok (.aload_n 3, 1) := by decide +kernel
set_option maxRecDepth 100000 in
theorem dX12_checkVariable_270 : decode cX12_checkVariable 270 = .ok (.getfield 845, 3) := by decide +kernel
set_option maxRecDepth 100000 in
theorem dX12_checkVariable_273 : decode cX12_checkVariable 273 = .ok (.bipush 10, 2) := by decide +kernel
set_option maxRecDepth 100000 in
theorem dX12_checkVariable_275 : decode cX12_checkVariable 275 = .ok (.if_icmp .eq 16, 3) := by decide +kernel
set_option maxRecDepth 100000 in
theorem dX12_checkVariable_278 : decode cX12_checkVariable 278 = .ok (.aload_n 0, 1) := by decide +kernel
set_option maxRecDepth 100000 in
theorem dX12_checkVariable_279 : decode cX12_checkVariable 279 = .ok (.bipush 7, 2) := by decide +kernel
set_option maxRecDepth 100000 in
theorem dX12_checkVariable_281 : decode cX12_checkVariable 281 = .ok (.aload_n 0, 1) := by decide +kernel
set_option maxRecDepth 100000 in
theorem dX12_checkVariable_282 : decode cX12_checkVariable 282 = .ok (.getfield 70, 3) := by decide +kernel
set_option maxRecDepth 100000 in
theorem dX12_checkVariable_285 : decode cX12_checkVariable 285 = .ok (.iload 4, 2) := by decide +kernel
set_option maxRecDepth 100000 in
theorem dX12_checkVariable_287 : decode cX12_checkVariable 287 = .ok (.iaload, 1) := by decide +kernel
set_option maxRecDepth 100000 in
theorem dX12_checkVariable_288 : decode cX12_checkVariable 288 = .ok (.invokevirtual 570, 3) := by decide +kernel
set_option maxRecDepth 100000 in
theorem dX12_checkVariable_291 : decode cX12_checkVariable 291 = .ok (.aload_n 3, 1) := by decide +kernel
set_option maxRecDepth 100000 in
theorem dX12_checkVariable_292 : decode cX12_checkVariable 292 = .ok (.getfield 598, 3) := by decide +kernel
set_option maxRecDepth 100000 in
theorem dX12_checkVariable_295 : decode cX12_checkVariable 295 = .ok (.astore_n 3, 1) := by decide +kernel
set_option maxRecDepth 100000 in
theorem dX12_checkVariable_296 : decode cX12_checkVariable 296 = .ok (.aload_n 0, 1) := by decide +kernel
set_option maxRecDepth 100000 in
theorem dX12_checkVariable_297 : decode cX12_checkVariable 297 = .ok (.getfield 79, 3) := by decide +kernel
set_option maxRecDepth 100000 in
theorem dX12_checkVariable_300 : decode cX12_checkVariable 300 = .ok (.iload 4, 2) := by decide +kernel
set_option maxRecDepth 100000 in
theorem dX12_checkVariable_302 : decode cX12_checkVariable 302 = .ok (.iaload, 1) := by decide +kernel
set_option maxRecDepth 100000 in
theorem dX12_checkVariable_303 : decode cX12_checkVariable 303 = .ok (.istore 4, 2) := by decide +kernel
set_option maxRecDepth 100000 in
theorem dX12_checkVariable_305 : decode cX12_checkVariable 305 = .ok (.goto (-236), 3) := by decide +kernel
set_option maxRecDepth 100000 in
theorem dX12_checkVariable_308 : decode cX12_checkVariable 308 = .ok (.aload_n 0, 1) := by decide +kernel
set_option maxRecDepth 100000 in
theorem dX12_checkVariable_309 : decode cX12_checkVariable 309 = .ok (.getfield 96, 3) := by decide +kernel
set_option maxRecDepth 100000 in
theorem dX12_checkVariable_312 : decode cX12_checkVariable 312 = .ok (.iload_n 1, 1) := by decide +kernel
set_option maxRecDepth 100000 in
theorem dX12_checkVariable_313 : decode cX12_checkVariable 313 = .ok (.aload_n 3, 1) := by decide +kernel
set_option maxRecDepth 100000 in
theorem dX12_checkVariable_314 : decode cX12_checkVariable 314 = .ok (.aastore, 1) := by decide +kernel
set_option maxRecDepth 100000 in
theorem dX12_checkVariable_315 : decode cX12_checkVariable 315 = .ok (.aload_n 3, 1) := by decide +kernel
set_option maxRecDepth 100000 in
theorem dX12_checkVariable_316 : decode cX12_checkVariable 316 = .ok (.areturn, 1) := by decide +kernel
def lX12_checkVariable_69 (G : xG) (fr lo : Nat) (x0 : Nat) (x1 : Int32) (x3 : Nat) (x4 : Int32) (h : xH) (Q : Outcome → xH → Prop) : Prop := xP G YX12_checkVariable fr lo 69 [(0, rv x0), (1, .int x1), (3, rv x3), (4, .int x4)] [] h Q
set_option maxRecDepth 100000 in
def bX12_checkVariable_296 (G : xG) (fr lo : Nat) (x0 : Nat) (x1 : Int32) (x3 : Nat) (x4 : Int32) (h : xH) (Q : Outcome → xH → Prop) : Prop := tg h x0 = 13 ∧ tg h (fR h x0 3105) = 100 ∧ vp_in x4 (ln h (fR h x0 3105)) ∧ lX12_checkVariable_69 G fr lo x0 x1 x3 (aI h (fR h x0 3105) (Int32.toNatClampNeg x4)) h Q
set_option maxRecDepth 100000 in
theorem uX12_checkVariable_296 {G : xG} {fr lo : Nat} {x0 : Nat} {x1 : Int32} {x3 : Nat} {x4 : Int32} {h : xH} {Q : Outcome → xH → Prop} (hq : bX12_checkVariable_296 G fr lo x0 x1 x3 x4 h Q) : xP G YX12_checkVariable fr lo 296 [(0, rv x0), (1, .int x1), (3, rv x3), (4, .int x4)] [] h Q := by
  unfold bX12_checkVariable_296 at hq
  refine x_aload_n 0 dX12_checkVariable_296 rfl ?_
  obtain ⟨g1, hq⟩ := hq
  refine x_get (v := rv (fR h x0 3105)) fdX12_79 dX12_checkVariable_297 g1 rfl ?_
  refine x_iload 3 dX12_checkVariable_300 rfl ?_
  obtain ⟨g2, hq⟩ := hq
  obtain ⟨i3, hq⟩ := hq
  refine x_iald 0 (Or.inl rfl) g2 i3 dX12_checkVariable_302 ?_
  refine x_istore (lv' := [(4, .int (aI h (fR h x0 3105) (Int32.toNatClampNeg x4))), (0, rv x0), (1, .int x1), (3, rv x3)]) dX12_checkVariable_303 (by decide) (by first | rfl | (simp [rv_cat, Value.category]; done) | (simp [rv_cat, Value.category]; decide)) ?_
  refine x_goto (tgt := 69) dX12_checkVariable_305 (by decide) ?_
  refine xP.pick (lv' := [(0, rv x0), (1, .int x1), (3, rv x3), (4, .int (aI h (fR h x0 3105) (Int32.toNatClampNeg x4)))]) [1, 2, 3, 0] rfl ?_
  exact hq
set_option maxRecDepth 100000 in
def bX12_checkVariable_291 (G : xG) (fr lo : Nat) (x0 : Nat) (x1 : Int32) (x3 : Nat) (x4 : Int32) (h : xH) (Q : Outcome → xH → Prop) : Prop := tg h x3 = 14 ∧ bX12_checkVariable_296 G fr lo x0 x1 (fR h x3 3333) x4 h Q
set_option maxRecDepth 100000 in
theorem uX12_checkVariable_291 {G : xG} {fr lo : Nat} {x0 : Nat} {x1 : Int32} {x3 : Nat} {x4 : Int32} {h : xH} {Q : Outcome → xH → Prop} (hq : bX12_checkVariable_291 G fr lo x0 x1 x3 x4 h Q) : xP G YX12_checkVariable fr lo 291 [(0, rv x0), (1, .int x1), (3, rv x3), (4, .int x4)] [] h Q := by
  unfold bX12_checkVariable_291 at hq
  refine x_aload_n 2 dX12_checkVariable_291 rfl ?_
  obtain ⟨g1, hq⟩ := hq
  refine x_get (v := rv (fR h x3 3333)) fdX12_598 dX12_checkVariable_292 g1 rfl ?_
  refine x_astore_n (lv' := [(3, rv (fR h x3 3333)), (0, rv x0), (1, .int x1), (4, .int x4)]) dX12_checkVariable_295 (by decide) rfl ?_
  refine xP.pick (lv' := [(0, rv x0), (1, .int x1), (3, rv (fR h x3 3333)), (4, .int x4)]) [1, 2, 0, 3] rfl ?_
  exact uX12_checkVariable_296 hq
set_option maxRecDepth 100000 in
def bX12_checkVariable_242 (G : xG) (fr lo : Nat) (x0 : Nat) (x1 : Int32) (x4 : Int32) (x5 : Nat) (h : xH) (Q : Outcome → xH → Prop) : Prop := tg h x0 = 13 ∧ tg h (fR h x0 3114) = 109 ∧ tg h x5 = 24 ∧ vp_in x4 (ln h (fR h x0 3114)) ∧ (∀ h5 : xH, h5 = tR h (fR h x0 3114) (Int32.toNatClampNeg x4) x5 → bX12_checkVariable_296 G fr lo x0 x1 (fR h5 x5 5890) x4 h5 Q)
set_option maxRecDepth 100000 in
theorem uX12_checkVariable_242 {G : xG} {fr lo : Nat} {x0 : Nat} {x1 : Int32} {x4 : Int32} {x5 : Nat} {h : xH} {Q : Outcome → xH → Prop} (hq : bX12_checkVariable_242 G fr lo x0 x1 x4 x5 h Q) : xP G YX12_checkVariable fr lo 242 [(0, rv x0), (1, .int x1), (4, .int x4), (5, rv x5)] [] h Q := by
  unfold bX12_checkVariable_242 at hq
  refine x_aload_n 0 dX12_checkVariable_242 rfl ?_
  obtain ⟨g1, hq⟩ := hq
  refine x_get (v := rv (fR h x0 3114)) fdX12_102 dX12_checkVariable_243 g1 rfl ?_
  refine x_iload 2 dX12_checkVariable_246 rfl ?_
  refine x_aload 3 dX12_checkVariable_248 rfl ?_
  obtain ⟨g2, hq⟩ := hq
  obtain ⟨g3, hq⟩ := hq
  obtain ⟨i4, hq⟩ := hq
  obtain ⟨h5, e6⟩ : ∃ y, y = tR h (fR h x0 3114) (Int32.toNatClampNeg x4) x5 := ⟨_, rfl⟩
  replace hq := hq h5 e6
  refine x_aast 9 23 as_9_23 g2 (Or.inl (by rw [g2]; rfl)) g3 i4 dX12_checkVariable_250 e6 ?_
  refine x_aload 3 dX12_checkVariable_251 rfl ?_
  have t7 : tg h5 x5 = 24 := by rw [e6]; exact g3
  refine x_get (v := rv (fR h5 x5 5890)) fdX12_612 dX12_checkVariable_253 t7 rfl ?_
  refine x_astore_n (lv' := [(3, rv (fR h5 x5 5890)), (0, rv x0), (1, .int x1), (4, .int x4), (5, rv x5)]) dX12_checkVariable_256 (by decide) rfl ?_
  refine x_goto (tgt := 296) dX12_checkVariable_257 (by decide) ?_
  refine xP.pick (lv' := [(0, rv x0), (1, .int x1), (3, rv (fR h5 x5 5890)), (4, .int x4)]) [1, 2, 0, 3] rfl ?_
  exact uX12_checkVariable_296 hq
set_option maxRecDepth 100000 in
def bX12_checkVariable_203 (G : xG) (fr lo : Nat) (x0 : Nat) (x1 : Int32) (x3 : Nat) (x4 : Int32) (h : xH) (Q : Outcome → xH → Prop) : Prop := tg h x3 = 14 ∧ tg h x0 = 13 ∧ tg h (fR h x0 3106) = 100 ∧ vp_in x4 (ln h (fR h x0 3106)) ∧ tg h (fR h x0 3084) = 100 ∧ vp_in (aI h (fR h x0 3106) (Int32.toNatClampNeg x4)) (ln h (fR h x0 3084)) ∧ 1 ≤ fr ∧ 15 ≤ lo ∧ xRr G YX12_inRegion (fr - 1) (lo - 15) [rv x0, rv (fR h x3 3335), .int (aI h (fR h x0 3084) (Int32.toNatClampNeg (aI h (fR h x0 3106) (Int32.toNatClampNeg x4))))] h (fun x10 h9 => xext h h9 → ((¬ x10 = 0 → bX12_checkVariable_242 G fr lo x0 x1 x4 x10 h9 Q) ∧ (x10 = 0 → tg h9 (fR h9 x0 3106) = 100 ∧ vp_in x4 (ln h9 (fR h9 x0 3106)) ∧ 1 ≤ fr ∧ 14 ≤ lo ∧ xRv G YX12_refuse (fr - 1) (lo - 14) [rv x0, .int 4, .int (aI h9 (fR h9 x0 3106) (Int32.toNatClampNeg x4))] h9 (fun h18 => xext h9 h18 → bX12_checkVariable_242 G fr lo x0 x1 x4 x10 h18 Q) (fun r h2 => Q (.threw r) h2)))) (fun r h2 => Q (.threw r) h2)
set_option maxRecDepth 100000 in
theorem uX12_checkVariable_203 {G : xG} {fr lo : Nat} {x0 : Nat} {x1 : Int32} {x3 : Nat} {x4 : Int32} {h : xH} {Q : Outcome → xH → Prop} (hq : bX12_checkVariable_203 G fr lo x0 x1 x3 x4 h Q) : xP G YX12_checkVariable fr lo 203 [(0, rv x0), (1, .int x1), (3, rv x3), (4, .int x4)] [] h Q := by
  unfold bX12_checkVariable_203 at hq
  refine x_aload_n 0 dX12_checkVariable_203 rfl ?_
  refine x_aload_n 2 dX12_checkVariable_204 rfl ?_
  obtain ⟨g1, hq⟩ := hq
  refine x_get (v := rv (fR h x3 3335)) fdX12_852 dX12_checkVariable_205 g1 rfl ?_
  refine x_aload_n 0 dX12_checkVariable_208 rfl ?_
  obtain ⟨g2, hq⟩ := hq
  refine x_get (v := rv (fR h x0 3084)) fdX12_32 dX12_checkVariable_209 g2 rfl ?_
  refine x_aload_n 0 dX12_checkVariable_212 rfl ?_
  refine x_get (v := rv (fR h x0 3106)) fdX12_82 dX12_checkVariable_213 g2 rfl ?_
  refine x_iload 3 dX12_checkVariable_216 rfl ?_
  obtain ⟨g3, hq⟩ := hq
  obtain ⟨i4, hq⟩ := hq
  refine x_iald 0 (Or.inl rfl) g3 i4 dX12_checkVariable_218 ?_
  obtain ⟨g5, hq⟩ := hq
  obtain ⟨i6, hq⟩ := hq
  refine x_iald 0 (Or.inl rfl) g5 i6 dX12_checkVariable_219 ?_
  obtain ⟨g7, g8, hq⟩ := hq
  refine x_callV (Yc := YX12_inRegion) (as := [rv (fR h x3 3335), .int (aI h (fR h x0 3084) (Int32.toNatClampNeg (aI h (fR h x0 3106) (Int32.toNatClampNeg x4))))]) (st := []) q4114 mvX12_inRegion g2 rfl dX12_checkVariable_220 (xle (xal1 (rv_cat _) (xal1 (rv_cat _) (xal1 rfl xal0))) (by decide)) (xfr g7) (xlo xsw0 (by decide) g8) (xKr hq (fun x10 h9 hq e11 => ?_) (fun _ _ q _ => q))
  replace hq := hq e11
  refine x_astore (lv' := [(5, rv x10), (0, rv x0), (1, .int x1), (3, rv x3), (4, .int x4)]) dX12_checkVariable_223 (by decide) rfl ?_
  refine x_aload 0 dX12_checkVariable_225 rfl ?_
  refine x_ifnonnull (tgt := 242) dX12_checkVariable_227 (by decide) (fun c12 => ?_) (fun c12 => ?_)
  · replace hq := hq.1 c12
    refine xP.pick (lv' := [(0, rv x0), (1, .int x1), (4, .int x4), (5, rv x10)]) [1, 2, 4, 0] rfl ?_
    exact uX12_checkVariable_242 hq
  · replace hq := hq.2 c12
    refine x_aload_n 1 dX12_checkVariable_230 rfl ?_
    refine x_iconst (v := 4) dX12_checkVariable_231 (by decide) ?_
    refine x_aload_n 1 dX12_checkVariable_232 rfl ?_
    have t13 : tg h9 x0 = 13 := e11.tg g2 (by decide)
    refine x_get (v := rv (fR h9 x0 3106)) fdX12_82 dX12_checkVariable_233 t13 rfl ?_
    refine x_iload 4 dX12_checkVariable_236 rfl ?_
    obtain ⟨g14, hq⟩ := hq
    obtain ⟨i15, hq⟩ := hq
    refine x_iald 0 (Or.inl rfl) g14 i15 dX12_checkVariable_238 ?_
    obtain ⟨g16, g17, hq⟩ := hq
    refine x_callV (Yc := YX12_refuse) (as := [.int 4, .int (aI h9 (fR h9 x0 3106) (Int32.toNatClampNeg x4))]) (st := []) q4095 mvX12_refuse t13 rfl dX12_checkVariable_239 (xle (xal1 (rv_cat _) (xal1 rfl (xal1 rfl xal0))) (by decide)) (xfr g16) (xlo xsw0 (by decide) g17) (xKv hq (fun h18 hq e20 => ?_) (fun _ _ q _ => q))
    replace hq := hq e20
    refine xP.pick (lv' := [(0, rv x0), (1, .int x1), (4, .int x4), (5, rv x10)]) [1, 2, 4, 0] rfl ?_
    exact uX12_checkVariable_242 hq
set_option maxRecDepth 100000 in
def bX12_checkVariable_173 (G : xG) (fr lo : Nat) (x0 : Nat) (x1 : Int32) (x3 : Nat) (x4 : Int32) (h : xH) (Q : Outcome → xH → Prop) : Prop := tg h x3 = 14 ∧ bX12_checkVariable_296 G fr lo x0 x1 (fR h x3 3333) x4 h Q
set_option maxRecDepth 100000 in
theorem uX12_checkVariable_173 {G : xG} {fr lo : Nat} {x0 : Nat} {x1 : Int32} {x3 : Nat} {x4 : Int32} {h : xH} {Q : Outcome → xH → Prop} (hq : bX12_checkVariable_173 G fr lo x0 x1 x3 x4 h Q) : xP G YX12_checkVariable fr lo 173 [(0, rv x0), (1, .int x1), (3, rv x3), (4, .int x4)] [] h Q := by
  unfold bX12_checkVariable_173 at hq
  refine x_aload_n 2 dX12_checkVariable_173 rfl ?_
  obtain ⟨g1, hq⟩ := hq
  refine x_get (v := rv (fR h x3 3333)) fdX12_598 dX12_checkVariable_174 g1 rfl ?_
  refine x_astore_n (lv' := [(3, rv (fR h x3 3333)), (0, rv x0), (1, .int x1), (4, .int x4)]) dX12_checkVariable_177 (by decide) rfl ?_
  refine x_goto (tgt := 296) dX12_checkVariable_178 (by decide) ?_
  refine xP.pick (lv' := [(0, rv x0), (1, .int x1), (3, rv (fR h x3 3333)), (4, .int x4)]) [1, 2, 0, 3] rfl ?_
  exact uX12_checkVariable_296 hq
set_option maxRecDepth 100000 in
def bX12_checkVariable_138 (G : xG) (fr lo : Nat) (x0 : Nat) (x1 : Int32) (x3 : Nat) (x4 : Int32) (h : xH) (Q : Outcome → xH → Prop) : Prop := tg h x0 = 13 ∧ tg h (fR h x0 3103) = 100 ∧ vp_in x4 (ln h (fR h x0 3103)) ∧ 1 ≤ fr ∧ 16 ≤ lo ∧ xRr G YX12_checkE (fr - 1) (lo - 16) [rv x0, .int (aI h (fR h x0 3103) (Int32.toNatClampNeg x4))] h (fun x7 h6 => xext h h6 → tg h6 x3 = 14 ∧ 1 ≤ fr ∧ 14 ≤ lo ∧ xRi G YX12_fits (fr - 1) (lo - 14) [rv x0, rv x7, rv (fR h6 x3 3332)] h6 (fun x14 h13 => xext h6 h13 → ((¬ x14 = 0 → bX12_checkVariable_173 G fr lo x0 x1 x3 x4 h13 Q) ∧ (x14 = 0 → tg h13 (fR h13 x0 3102) = 100 ∧ vp_in x4 (ln h13 (fR h13 x0 3102)) ∧ 1 ≤ fr ∧ 14 ≤ lo ∧ xRv G YX12_refuse (fr - 1) (lo - 14) [rv x0, .int 7, .int (aI h13 (fR h13 x0 3102) (Int32.toNatClampNeg x4))] h13 (fun h22 => xext h13 h22 → bX12_checkVariable_173 G fr lo x0 x1 x3 x4 h22 Q) (fun r h2 => Q (.threw r) h2)))) (fun r h2 => Q (.threw r) h2)) (fun r h2 => Q (.threw r) h2)
set_option maxRecDepth 100000 in
theorem uX12_checkVariable_138 {G : xG} {fr lo : Nat} {x0 : Nat} {x1 : Int32} {x3 : Nat} {x4 : Int32} {h : xH} {Q : Outcome → xH → Prop} (hq : bX12_checkVariable_138 G fr lo x0 x1 x3 x4 h Q) : xP G YX12_checkVariable fr lo 138 [(0, rv x0), (1, .int x1), (3, rv x3), (4, .int x4)] [] h Q := by
  unfold bX12_checkVariable_138 at hq
  refine x_aload_n 0 dX12_checkVariable_138 rfl ?_
  refine x_aload_n 0 dX12_checkVariable_139 rfl ?_
  refine x_aload_n 0 dX12_checkVariable_140 rfl ?_
  obtain ⟨g1, hq⟩ := hq
  refine x_get (v := rv (fR h x0 3103)) fdX12_73 dX12_checkVariable_141 g1 rfl ?_
  refine x_iload 3 dX12_checkVariable_144 rfl ?_
  obtain ⟨g2, hq⟩ := hq
  obtain ⟨i3, hq⟩ := hq
  refine x_iald 0 (Or.inl rfl) g2 i3 dX12_checkVariable_146 ?_
  obtain ⟨g4, g5, hq⟩ := hq
  refine x_callV (Yc := YX12_checkE) (as := [.int (aI h (fR h x0 3103) (Int32.toNatClampNeg x4))]) (st := [rv x0]) q4308 mvX12_checkE g1 rfl dX12_checkVariable_147 (xle (xal1 (rv_cat _) (xal1 rfl xal0)) (by decide)) (xfr g4) (xlo (xsw1 (rv_cat _) xsw0) (by decide) g5) (xKr hq (fun x7 h6 hq e8 => ?_) (fun _ _ q _ => q))
  replace hq := hq e8
  refine x_aload_n 2 dX12_checkVariable_150 rfl ?_
  obtain ⟨g9, hq⟩ := hq
  refine x_get (v := rv (fR h6 x3 3332)) fdX12_864 dX12_checkVariable_151 g9 rfl ?_
  have t10 : tg h6 x0 = 13 := e8.tg g1 (by decide)
  obtain ⟨g11, g12, hq⟩ := hq
  refine x_callV (Yc := YX12_fits) (as := [rv x7, rv (fR h6 x3 3332)]) (st := []) q4371 mvX12_fits t10 rfl dX12_checkVariable_154 (xle (xal1 (rv_cat _) (xal1 (rv_cat _) (xal1 (rv_cat _) xal0))) (by decide)) (xfr g11) (xlo xsw0 (by decide) g12) (xKi hq (fun x14 h13 hq e15 => ?_) (fun _ _ q _ => q))
  replace hq := hq e15
  refine x_if_ne (tgt := 173) dX12_checkVariable_157 (by decide) (fun c16 => ?_) (fun c16 => ?_)
  · replace hq := hq.1 c16
    exact uX12_checkVariable_173 hq
  · replace hq := hq.2 c16
    refine x_aload_n 0 dX12_checkVariable_160 rfl ?_
    refine x_bipush (v := 7) dX12_checkVariable_161 (by decide) ?_
    refine x_aload_n 0 dX12_checkVariable_163 rfl ?_
    have t17 : tg h13 x0 = 13 := e15.tg t10 (by decide)
    refine x_get (v := rv (fR h13 x0 3102)) fdX12_70 dX12_checkVariable_164 t17 rfl ?_
    refine x_iload 3 dX12_checkVariable_167 rfl ?_
    obtain ⟨g18, hq⟩ := hq
    obtain ⟨i19, hq⟩ := hq
    refine x_iald 0 (Or.inl rfl) g18 i19 dX12_checkVariable_169 ?_
    obtain ⟨g20, g21, hq⟩ := hq
    refine x_callV (Yc := YX12_refuse) (as := [.int 7, .int (aI h13 (fR h13 x0 3102) (Int32.toNatClampNeg x4))]) (st := []) q4095 mvX12_refuse t17 rfl dX12_checkVariable_170 (xle (xal1 (rv_cat _) (xal1 rfl (xal1 rfl xal0))) (by decide)) (xfr g20) (xlo xsw0 (by decide) g21) (xKv hq (fun h22 hq e24 => ?_) (fun _ _ q _ => q))
    replace hq := hq e24
    exact uX12_checkVariable_173 hq
set_option maxRecDepth 100000 in
def bX12_checkVariable_69 (G : xG) (fr lo : Nat) (x0 : Nat) (x1 : Int32) (x3 : Nat) (x4 : Int32) (h : xH) (Q : Outcome → xH → Prop) : Prop := ((x4 = (-1) → tg h x0 = 13 ∧ tg h (fR h x0 3113) = 108 ∧ tg h x3 = 14 ∧ vp_in x1 (ln h (fR h x0 3113)) ∧ (∀ h6 : xH, h6 = tR h (fR h x0 3113) (Int32.toNatClampNeg x1) x3 → Q (.returned (some (rv x3))) h6)) ∧ (¬ x4 = (-1) → tg h x0 = 13 ∧ tg h (fR h x0 3113) = 108 ∧ tg h x3 = 14 ∧ vp_in x4 (ln h (fR h x0 3113)) ∧ (∀ h12 : xH, h12 = tR h (fR h x0 3113) (Int32.toNatClampNeg x4) x3 → tg h12 (fR h12 x0 3101) = 100 ∧ vp_in x4 (ln h12 (fR h12 x0 3101)) ∧ (((aI h12 (fR h12 x0 3101) (Int32.toNatClampNeg x4)) = 63 → (((fI h12 x3 3328) = 7 → bX12_checkVariable_138 G fr lo x0 x1 x3 x4 h12 Q) ∧ (¬ (fI h12 x3 3328) = 7 → tg h12 (fR h12 x0 3102) = 100 ∧ vp_in x4 (ln h12 (fR h12 x0 3102)) ∧ 1 ≤ fr ∧ 14 ≤ lo ∧ xRv G YX12_refuse (fr - 1) (lo - 14) [rv x0, .int 7, .int (aI h12 (fR h12 x0 3102) (Int32.toNatClampNeg x4))] h12 (fun h24 => xext h12 h24 → bX12_checkVariable_138 G fr lo x0 x1 x3 x4 h24 Q) (fun r h2 => Q (.threw r) h2)))) ∧ ((aI h12 (fR h12 x0 3101) (Int32.toNatClampNeg x4)) = 64 → (((fI h12 x3 3328) = 8 → bX12_checkVariable_203 G fr lo x0 x1 x3 x4 h12 Q) ∧ (¬ (fI h12 x3 3328) = 8 → tg h12 (fR h12 x0 3102) = 100 ∧ vp_in x4 (ln h12 (fR h12 x0 3102)) ∧ 1 ≤ fr ∧ 14 ≤ lo ∧ xRv G YX12_refuse (fr - 1) (lo - 14) [rv x0, .int 7, .int (aI h12 (fR h12 x0 3102) (Int32.toNatClampNeg x4))] h12 (fun h34 => xext h12 h34 → bX12_checkVariable_203 G fr lo x0 x1 x3 x4 h34 Q) (fun r h2 => Q (.threw r) h2)))) ∧ (¬ (aI h12 (fR h12 x0 3101) (Int32.toNatClampNeg x4)) = 63 → ¬ (aI h12 (fR h12 x0 3101) (Int32.toNatClampNeg x4)) = 64 → (((fI h12 x3 3328) = 11 → bX12_checkVariable_291 G fr lo x0 x1 x3 x4 h12 Q) ∧ (¬ (fI h12 x3 3328) = 11 → (((fI h12 x3 3328) = 10 → bX12_checkVariable_291 G fr lo x0 x1 x3 x4 h12 Q) ∧ (¬ (fI h12 x3 3328) = 10 → tg h12 (fR h12 x0 3102) = 100 ∧ vp_in x4 (ln h12 (fR h12 x0 3102)) ∧ 1 ≤ fr ∧ 14 ≤ lo ∧ xRv G YX12_refuse (fr - 1) (lo - 14) [rv x0, .int 7, .int (aI h12 (fR h12 x0 3102) (Int32.toNatClampNeg x4))] h12 (fun h44 => xext h12 h44 → bX12_checkVariable_291 G fr lo x0 x1 x3 x4 h44 Q) (fun r h2 => Q (.threw r) h2))))))))))
set_option maxRecDepth 100000 in
theorem uX12_checkVariable_69 {G : xG} {fr lo : Nat} {x0 : Nat} {x1 : Int32} {x3 : Nat} {x4 : Int32} {h : xH} {Q : Outcome → xH → Prop} (hq : bX12_checkVariable_69 G fr lo x0 x1 x3 x4 h Q) : xP G YX12_checkVariable fr lo 69 [(0, rv x0), (1, .int x1), (3, rv x3), (4, .int x4)] [] h Q := by
  unfold bX12_checkVariable_69 at hq
  refine x_iload 3 dX12_checkVariable_69 rfl ?_
  refine x_iconst (v := (-1)) dX12_checkVariable_71 (by decide) ?_
  refine x_icmp_eq (tgt := 308) dX12_checkVariable_72 (by decide) (fun c1 => ?_) (fun c1 => ?_)
  · replace hq := hq.1 c1
    refine x_aload_n 0 dX12_checkVariable_308 rfl ?_
    obtain ⟨g2, hq⟩ := hq
    refine x_get (v := rv (fR h x0 3113)) fdX12_96 dX12_checkVariable_309 g2 rfl ?_
    refine x_iload_n 1 dX12_checkVariable_312 rfl ?_
    refine x_aload_n 2 dX12_checkVariable_313 rfl ?_
    obtain ⟨g3, hq⟩ := hq
    obtain ⟨g4, hq⟩ := hq
    obtain ⟨i5, hq⟩ := hq
    obtain ⟨h6, e7⟩ : ∃ y, y = tR h (fR h x0 3113) (Int32.toNatClampNeg x1) x3 := ⟨_, rfl⟩
    replace hq := hq h6 e7
    refine x_aast 8 13 as_8_13 g3 (Or.inl (by rw [g3]; rfl)) g4 i5 dX12_checkVariable_314 e7 ?_
    refine x_aload_n 2 dX12_checkVariable_315 rfl ?_
    exact x_aret rfl xty_O dX12_checkVariable_316 hq
  · replace hq := hq.2 c1
    refine x_aload_n 0 dX12_checkVariable_75 rfl ?_
    obtain ⟨g8, hq⟩ := hq
    refine x_get (v := rv (fR h x0 3113)) fdX12_96 dX12_checkVariable_76 g8 rfl ?_
    refine x_iload 3 dX12_checkVariable_79 rfl ?_
    refine x_aload_n 2 dX12_checkVariable_81 rfl ?_
    obtain ⟨g9, hq⟩ := hq
    obtain ⟨g10, hq⟩ := hq
    obtain ⟨i11, hq⟩ := hq
    obtain ⟨h12, e13⟩ : ∃ y, y = tR h (fR h x0 3113) (Int32.toNatClampNeg x4) x3 := ⟨_, rfl⟩
    replace hq := hq h12 e13
    refine x_aast 8 13 as_8_13 g9 (Or.inl (by rw [g9]; rfl)) g10 i11 dX12_checkVariable_82 e13 ?_
    refine x_aload_n 0 dX12_checkVariable_83 rfl ?_
    have t14 : tg h12 x0 = 13 := by rw [e13]; exact g8
    refine x_get (v := rv (fR h12 x0 3101)) fdX12_67 dX12_checkVariable_84 t14 rfl ?_
    refine x_iload 3 dX12_checkVariable_87 rfl ?_
    obtain ⟨g15, hq⟩ := hq
    obtain ⟨i16, hq⟩ := hq
    refine x_iald 0 (Or.inl rfl) g15 i16 dX12_checkVariable_89 ?_
    by_cases c17 : (aI h12 (fR h12 x0 3101) (Int32.toNatClampNeg x4)) = 63
    · replace hq := hq.1 c17
      rw [c17]
      refine x_look (tgt := 116) (off := 26) dX12_checkVariable_90 (by decide) (by decide) (by decide) ?_
      refine x_aload_n 2 dX12_checkVariable_116 rfl ?_
      have t18 : tg h12 x3 = 14 := by rw [e13]; exact g10
      refine x_get (v := .int (fI h12 x3 3328)) fdX12_845 dX12_checkVariable_117 t18 rfl ?_
      refine x_bipush (v := 7) dX12_checkVariable_120 (by decide) ?_
      refine x_icmp_eq (tgt := 138) dX12_checkVariable_122 (by decide) (fun c19 => ?_) (fun c19 => ?_)
      · replace hq := hq.1 c19
        exact uX12_checkVariable_138 hq
      · replace hq := hq.2 c19
        refine x_aload_n 0 dX12_checkVariable_125 rfl ?_
        refine x_bipush (v := 7) dX12_checkVariable_126 (by decide) ?_
        refine x_aload_n 0 dX12_checkVariable_128 rfl ?_
        refine x_get (v := rv (fR h12 x0 3102)) fdX12_70 dX12_checkVariable_129 t14 rfl ?_
        refine x_iload 3 dX12_checkVariable_132 rfl ?_
        obtain ⟨g20, hq⟩ := hq
        obtain ⟨i21, hq⟩ := hq
        refine x_iald 0 (Or.inl rfl) g20 i21 dX12_checkVariable_134 ?_
        obtain ⟨g22, g23, hq⟩ := hq
        refine x_callV (Yc := YX12_refuse) (as := [.int 7, .int (aI h12 (fR h12 x0 3102) (Int32.toNatClampNeg x4))]) (st := []) q4095 mvX12_refuse t14 rfl dX12_checkVariable_135 (xle (xal1 (rv_cat _) (xal1 rfl (xal1 rfl xal0))) (by decide)) (xfr g22) (xlo xsw0 (by decide) g23) (xKv hq (fun h24 hq e26 => ?_) (fun _ _ q _ => q))
        replace hq := hq e26
        exact uX12_checkVariable_138 hq
    replace hq := hq.2
    by_cases c27 : (aI h12 (fR h12 x0 3101) (Int32.toNatClampNeg x4)) = 64
    · replace hq := hq.1 c27
      rw [c27]
      refine x_look (tgt := 181) (off := 91) dX12_checkVariable_90 (by decide) (by decide) (by decide) ?_
      refine x_aload_n 2 dX12_checkVariable_181 rfl ?_
      have t28 : tg h12 x3 = 14 := by rw [e13]; exact g10
      refine x_get (v := .int (fI h12 x3 3328)) fdX12_845 dX12_checkVariable_182 t28 rfl ?_
      refine x_bipush (v := 8) dX12_checkVariable_185 (by decide) ?_
      refine x_icmp_eq (tgt := 203) dX12_checkVariable_187 (by decide) (fun c29 => ?_) (fun c29 => ?_)
      · replace hq := hq.1 c29
        exact uX12_checkVariable_203 hq
      · replace hq := hq.2 c29
        refine x_aload_n 0 dX12_checkVariable_190 rfl ?_
        refine x_bipush (v := 7) dX12_checkVariable_191 (by decide) ?_
        refine x_aload_n 0 dX12_checkVariable_193 rfl ?_
        refine x_get (v := rv (fR h12 x0 3102)) fdX12_70 dX12_checkVariable_194 t14 rfl ?_
        refine x_iload 3 dX12_checkVariable_197 rfl ?_
        obtain ⟨g30, hq⟩ := hq
        obtain ⟨i31, hq⟩ := hq
        refine x_iald 0 (Or.inl rfl) g30 i31 dX12_checkVariable_199 ?_
        obtain ⟨g32, g33, hq⟩ := hq
        refine x_callV (Yc := YX12_refuse) (as := [.int 7, .int (aI h12 (fR h12 x0 3102) (Int32.toNatClampNeg x4))]) (st := []) q4095 mvX12_refuse t14 rfl dX12_checkVariable_200 (xle (xal1 (rv_cat _) (xal1 rfl (xal1 rfl xal0))) (by decide)) (xfr g32) (xlo xsw0 (by decide) g33) (xKv hq (fun h34 hq e36 => ?_) (fun _ _ q _ => q))
        replace hq := hq e36
        exact uX12_checkVariable_203 hq
    replace hq := hq.2
    replace hq := hq c17 c27
    refine x_look (tgt := 260) (off := 170) dX12_checkVariable_90 (by decide) (by rw [lv_osw c17 (show (63 : Int32).toInt = 63 from by decide)]; rw [lv_osw c27 (show (64 : Int32).toInt = 64 from by decide)]; rfl) (by decide) ?_
    refine x_aload_n 2 dX12_checkVariable_260 rfl ?_
    have t37 : tg h12 x3 = 14 := by rw [e13]; exact g10
    refine x_get (v := .int (fI h12 x3 3328)) fdX12_845 dX12_checkVariable_261 t37 rfl ?_
    refine x_bipush (v := 11) dX12_checkVariable_264 (by decide) ?_
    refine x_icmp_eq (tgt := 291) dX12_checkVariable_266 (by decide) (fun c38 => ?_) (fun c38 => ?_)
    · replace hq := hq.1 c38
      exact uX12_checkVariable_291 hq
    · replace hq := hq.2 c38
      refine x_aload_n 2 dX12_checkVariable_269 rfl ?_
      refine x_get (v := .int (fI h12 x3 3328)) fdX12_845 dX12_checkVariable_270 t37 rfl ?_
      refine x_bipush (v := 10) dX12_checkVariable_273 (by decide) ?_
      refine x_icmp_eq (tgt := 291) dX12_checkVariable_275 (by decide) (fun c39 => ?_) (fun c39 => ?_)
      · replace hq := hq.1 c39
        exact uX12_checkVariable_291 hq
      · replace hq := hq.2 c39
        refine x_aload_n 0 dX12_checkVariable_278 rfl ?_
        refine x_bipush (v := 7) dX12_checkVariable_279 (by decide) ?_
        refine x_aload_n 0 dX12_checkVariable_281 rfl ?_
        refine x_get (v := rv (fR h12 x0 3102)) fdX12_70 dX12_checkVariable_282 t14 rfl ?_
        refine x_iload 3 dX12_checkVariable_285 rfl ?_
        obtain ⟨g40, hq⟩ := hq
        obtain ⟨i41, hq⟩ := hq
        refine x_iald 0 (Or.inl rfl) g40 i41 dX12_checkVariable_287 ?_
        obtain ⟨g42, g43, hq⟩ := hq
        refine x_callV (Yc := YX12_refuse) (as := [.int 7, .int (aI h12 (fR h12 x0 3102) (Int32.toNatClampNeg x4))]) (st := []) q4095 mvX12_refuse t14 rfl dX12_checkVariable_288 (xle (xal1 (rv_cat _) (xal1 rfl (xal1 rfl xal0))) (by decide)) (xfr g42) (xlo xsw0 (by decide) g43) (xKv hq (fun h44 hq e46 => ?_) (fun _ _ q _ => q))
        replace hq := hq e46
        exact uX12_checkVariable_291 hq
set_option maxRecDepth 100000 in
def bX12_checkVariable_39 (G : xG) (fr lo : Nat) (x0 : Nat) (x1 : Int32) (x2 : Nat) (h : xH) (Q : Outcome → xH → Prop) : Prop := tg h x0 = 13 ∧ tg h (fR h x0 3114) = 109 ∧ tg h x2 = 24 ∧ vp_in x1 (ln h (fR h x0 3114)) ∧ (∀ h5 : xH, h5 = tR h (fR h x0 3114) (Int32.toNatClampNeg x1) x2 → tg h5 (fR h5 x0 3107) = 100 ∧ vp_in x1 (ln h5 (fR h5 x0 3107)) ∧ (∀ h10 : xH, h10 = tI h5 (fR h5 x0 3107) (Int32.toNatClampNeg x1) (fI h5 x0 3125) → tg h10 (fR h10 x0 3103) = 100 ∧ vp_in x1 (ln h10 (fR h10 x0 3103)) ∧ lX12_checkVariable_69 G fr lo x0 x1 (fR h10 x2 5890) (aI h10 (fR h10 x0 3103) (Int32.toNatClampNeg x1)) h10 Q))
set_option maxRecDepth 100000 in
theorem uX12_checkVariable_39 {G : xG} {fr lo : Nat} {x0 : Nat} {x1 : Int32} {x2 : Nat} {h : xH} {Q : Outcome → xH → Prop} (hq : bX12_checkVariable_39 G fr lo x0 x1 x2 h Q) : xP G YX12_checkVariable fr lo 39 [(0, rv x0), (1, .int x1), (2, rv x2)] [] h Q := by
  unfold bX12_checkVariable_39 at hq
  refine x_aload_n 0 dX12_checkVariable_39 rfl ?_
  obtain ⟨g1, hq⟩ := hq
  refine x_get (v := rv (fR h x0 3114)) fdX12_102 dX12_checkVariable_40 g1 rfl ?_
  refine x_iload_n 1 dX12_checkVariable_43 rfl ?_
  refine x_aload_n 2 dX12_checkVariable_44 rfl ?_
  obtain ⟨g2, hq⟩ := hq
  obtain ⟨g3, hq⟩ := hq
  obtain ⟨i4, hq⟩ := hq
  obtain ⟨h5, e6⟩ : ∃ y, y = tR h (fR h x0 3114) (Int32.toNatClampNeg x1) x2 := ⟨_, rfl⟩
  replace hq := hq h5 e6
  refine x_aast 9 23 as_9_23 g2 (Or.inl (by rw [g2]; rfl)) g3 i4 dX12_checkVariable_45 e6 ?_
  refine x_aload_n 0 dX12_checkVariable_46 rfl ?_
  have t7 : tg h5 x0 = 13 := by rw [e6]; exact g1
  refine x_get (v := rv (fR h5 x0 3107)) fdX12_85 dX12_checkVariable_47 t7 rfl ?_
  refine x_iload_n 1 dX12_checkVariable_50 rfl ?_
  refine x_aload_n 0 dX12_checkVariable_51 rfl ?_
  refine x_get (v := .int (fI h5 x0 3125)) fdX12_563 dX12_checkVariable_52 t7 rfl ?_
  obtain ⟨g8, hq⟩ := hq
  obtain ⟨i9, hq⟩ := hq
  obtain ⟨h10, e11⟩ : ∃ y, y = tI h5 (fR h5 x0 3107) (Int32.toNatClampNeg x1) (fI h5 x0 3125) := ⟨_, rfl⟩
  replace hq := hq h10 e11
  refine x_iast' g8 i9 dX12_checkVariable_55 e11 ?_
  refine x_aload_n 2 dX12_checkVariable_56 rfl ?_
  have t12 : tg h5 x2 = 24 := by rw [e6]; exact g3
  have t13 : tg h10 x2 = 24 := by rw [e11]; exact t12
  refine x_get (v := rv (fR h10 x2 5890)) fdX12_612 dX12_checkVariable_57 t13 rfl ?_
  refine x_astore_n (lv' := [(3, rv (fR h10 x2 5890)), (0, rv x0), (1, .int x1), (2, rv x2)]) dX12_checkVariable_60 (by decide) (by first | rfl | (simp [rv_cat, Value.category]; done) | (simp [rv_cat, Value.category]; decide)) ?_
  refine x_aload_n 1 dX12_checkVariable_61 rfl ?_
  have t14 : tg h10 x0 = 13 := by rw [e11]; exact t7
  refine x_get (v := rv (fR h10 x0 3103)) fdX12_73 dX12_checkVariable_62 t14 rfl ?_
  refine x_iload_n 2 dX12_checkVariable_65 rfl ?_
  obtain ⟨g15, hq⟩ := hq
  obtain ⟨i16, hq⟩ := hq
  refine x_iald 0 (Or.inl rfl) g15 i16 dX12_checkVariable_66 ?_
  refine x_istore (lv' := [(4, .int (aI h10 (fR h10 x0 3103) (Int32.toNatClampNeg x1))), (3, rv (fR h10 x2 5890)), (0, rv x0), (1, .int x1), (2, rv x2)]) dX12_checkVariable_67 (by decide) (by first | rfl | (simp [rv_cat, Value.category]; done) | (simp [rv_cat, Value.category]; decide)) ?_
  refine xP.pick (lv' := [(0, rv x0), (1, .int x1), (3, rv (fR h10 x2 5890)), (4, .int (aI h10 (fR h10 x0 3103) (Int32.toNatClampNeg x1)))]) [2, 3, 1, 0] rfl ?_
  exact hq
set_option maxRecDepth 100000 in
def bX12_checkVariable (G : xG) (fr lo : Nat) (x0 : Nat) (x1 : Int32) (h : xH) (Q : Outcome → xH → Prop) : Prop := tg h x0 = 13 ∧ tg h (fR h x0 3102) = 100 ∧ vp_in x1 (ln h (fR h x0 3102)) ∧ 1 ≤ fr ∧ 15 ≤ lo ∧ xRr G YX12_find (fr - 1) (lo - 15) [rv x0, .int (aI h (fR h x0 3102) (Int32.toNatClampNeg x1))] h (fun x7 h6 => xext h h6 → tg h6 x7 = 24 ∧ (((fI h6 x7 5888) = 3 → bX12_checkVariable_39 G fr lo x0 x1 x7 h6 Q) ∧ (¬ (fI h6 x7 5888) = 3 → (((fI h6 x7 5888) = 4 → bX12_checkVariable_39 G fr lo x0 x1 x7 h6 Q) ∧ (¬ (fI h6 x7 5888) = 4 → tg h6 (fR h6 x0 3102) = 100 ∧ vp_in x1 (ln h6 (fR h6 x0 3102)) ∧ 1 ≤ fr ∧ 14 ≤ lo ∧ xRv G YX12_refuse (fr - 1) (lo - 14) [rv x0, .int 6, .int (aI h6 (fR h6 x0 3102) (Int32.toNatClampNeg x1))] h6 (fun h17 => xext h6 h17 → bX12_checkVariable_39 G fr lo x0 x1 x7 h17 Q) (fun r h2 => Q (.threw r) h2)))))) (fun r h2 => Q (.threw r) h2)
set_option maxRecDepth 100000 in
theorem uX12_checkVariable {G : xG} {fr lo : Nat} {x0 : Nat} {x1 : Int32} {h : xH} {Q : Outcome → xH → Prop} (hq : bX12_checkVariable G fr lo x0 x1 h Q) : xP G YX12_checkVariable fr lo 0 [(0, rv x0), (1, .int x1)] [] h Q := by
  unfold bX12_checkVariable at hq
  refine x_aload_n 0 dX12_checkVariable_0 rfl ?_
  refine x_aload_n 0 dX12_checkVariable_1 rfl ?_
  obtain ⟨g1, hq⟩ := hq
  refine x_get (v := rv (fR h x0 3102)) fdX12_70 dX12_checkVariable_2 g1 rfl ?_
  refine x_iload_n 1 dX12_checkVariable_5 rfl ?_
  obtain ⟨g2, hq⟩ := hq
  obtain ⟨i3, hq⟩ := hq
  refine x_iald 0 (Or.inl rfl) g2 i3 dX12_checkVariable_6 ?_
  obtain ⟨g4, g5, hq⟩ := hq
  refine x_callV (Yc := YX12_find) (as := [.int (aI h (fR h x0 3102) (Int32.toNatClampNeg x1))]) (st := []) q4161 mvX12_find g1 rfl dX12_checkVariable_7 (xle (xal1 (rv_cat _) (xal1 rfl xal0)) (by decide)) (xfr g4) (xlo xsw0 (by decide) g5) (xKr hq (fun x7 h6 hq e8 => ?_) (fun _ _ q _ => q))
  replace hq := hq e8
  refine x_astore_n (lv' := [(2, rv x7), (0, rv x0), (1, .int x1)]) dX12_checkVariable_10 (by decide) rfl ?_
  refine x_aload_n 0 dX12_checkVariable_11 rfl ?_
  obtain ⟨g9, hq⟩ := hq
  refine x_get (v := .int (fI h6 x7 5888)) fdX12_577 dX12_checkVariable_12 g9 rfl ?_
  refine x_iconst (v := 3) dX12_checkVariable_15 (by decide) ?_
  refine x_icmp_eq (tgt := 39) dX12_checkVariable_16 (by decide) (fun c10 => ?_) (fun c10 => ?_)
  · replace hq := hq.1 c10
    refine xP.pick (lv' := [(0, rv x0), (1, .int x1), (2, rv x7)]) [1, 2, 0] rfl ?_
    exact uX12_checkVariable_39 hq
  · replace hq := hq.2 c10
    refine x_aload_n 0 dX12_checkVariable_19 rfl ?_
    refine x_get (v := .int (fI h6 x7 5888)) fdX12_577 dX12_checkVariable_20 g9 rfl ?_
    refine x_iconst (v := 4) dX12_checkVariable_23 (by decide) ?_
    refine x_icmp_eq (tgt := 39) dX12_checkVariable_24 (by decide) (fun c11 => ?_) (fun c11 => ?_)
    · replace hq := hq.1 c11
      refine xP.pick (lv' := [(0, rv x0), (1, .int x1), (2, rv x7)]) [1, 2, 0] rfl ?_
      exact uX12_checkVariable_39 hq
    · replace hq := hq.2 c11
      refine x_aload_n 1 dX12_checkVariable_27 rfl ?_
      refine x_bipush (v := 6) dX12_checkVariable_28 (by decide) ?_
      refine x_aload_n 1 dX12_checkVariable_30 rfl ?_
      have t12 : tg h6 x0 = 13 := e8.tg g1 (by decide)
      refine x_get (v := rv (fR h6 x0 3102)) fdX12_70 dX12_checkVariable_31 t12 rfl ?_
      refine x_iload_n 2 dX12_checkVariable_34 rfl ?_
      obtain ⟨g13, hq⟩ := hq
      obtain ⟨i14, hq⟩ := hq
      refine x_iald 0 (Or.inl rfl) g13 i14 dX12_checkVariable_35 ?_
      obtain ⟨g15, g16, hq⟩ := hq
      refine x_callV (Yc := YX12_refuse) (as := [.int 6, .int (aI h6 (fR h6 x0 3102) (Int32.toNatClampNeg x1))]) (st := []) q4095 mvX12_refuse t12 rfl dX12_checkVariable_36 (xle (xal1 (rv_cat _) (xal1 rfl (xal1 rfl xal0))) (by decide)) (xfr g15) (xlo xsw0 (by decide) g16) (xKv hq (fun h17 hq e19 => ?_) (fun _ _ q _ => q))
      replace hq := hq e19
      refine xP.pick (lv' := [(0, rv x0), (1, .int x1), (2, rv x7)]) [1, 2, 0] rfl ?_
      exact uX12_checkVariable_39 hq
theorem rX12_checkVariable {G : xG} {fr lo : Nat} {x0 : Nat} {x1 : Int32} {h : xH} {Q : Outcome → xH → Prop} (hq : bX12_checkVariable G fr lo x0 x1 h Q) : xR G YX12_checkVariable fr lo [rv x0, .int x1] h Q := by
  show xP _ _ _ _ _ (lv_args 0 _) _ _ _
  rw [show lv_args 0 [rv x0, .int x1] = [(0, rv x0), (1, .int x1)] from (xla1 (rv_cat _) (xla1 rfl xla0))]
  exact uX12_checkVariable hq
set_option maxRecDepth 100000 in
theorem dX12_fits_0 : decode cX12_fits 0 = .ok (.aload_n 2, 1) := by decide +kernel
set_option maxRecDepth 100000 in
theorem dX12_fits_1 : decode cX12_fits 1 = .ok (.aload_n 0, 1) := by decide +kernel
set_option maxRecDepth 100000 in
theorem dX12_fits_2 : decode cX12_fits 2 = .ok (.getfield 113, 3) := by decide +kernel
set_option maxRecDepth 100000 in
theorem dX12_fits_5 : decode cX12_fits 5 = .ok (.if_acmp .ne 16, 3) := by decide +kernel
set_option maxRecDepth 100000 in
theorem dX12_fits_8 : decode cX12_fits 8 = .ok (.aload_n 1, 1) := by decide +kernel
set_option maxRecDepth 100000 in
theorem dX12_fits_9 : decode cX12_fits 9 = .ok (.invokevirtual 867, 3) := by decide +kernel
set_option maxRecDepth 100000 in
theorem dX12_fits_12 : decode cX12_fits 12 = .ok (.aload_n 0, 1) := by decide +kernel
set_option maxRecDepth 100000 in
theorem dX12_fits_13 : decode cX12_fits 13 = .ok (.getfield 109, 3) := by decide +kernel
set_option maxRecDepth 100000 in
theorem dX12_fits_16 : decode cX12_fits 16 = .ok (.if_acmp .ne 5, 3) := by decide +kernel
set_option maxRecDepth 100000 in
theorem dX12_fits_19 : decode cX12_fits 19 = .ok (.iconst 1, 1) := by decide +kernel
set_option maxRecDepth 100000 in
theorem dX12_fits_20 : decode cX12_fits 20 = .ok (.ireturn, 1) := by decide +kernel
set_option maxRecDepth 100000 in
theorem dX12_fits_21 : decode cX12_fits 21 = .ok (.aload_n 1, 1) := by decide +kernel
set_option maxRecDepth 100000 in
theorem dX12_fits_22 : decode cX12_fits 22 = .ok (.getfield 845, 3) := by decide +kernel
set_option maxRecDepth 100000 in
theorem dX12_fits_25 : decode cX12_fits 25 = .ok (.bipush 10, 2) := by decide +kernel
set_option maxRecDepth 100000 in
theorem dX12_fits_27 : decode cX12_fits 27 = .ok (.if_icmp .eq 15, 3) := by decide +kernel
set_option maxRecDepth 100000 in
theorem dX12_fits_30 : decode cX12_fits 30 = .ok (.aload_n 1, 1) := by decide +kernel
set_option maxRecDepth 100000 in
theorem dX12_fits_31 : decode cX12_fits 31 = .ok (.aload_n 2, 1) := by decide +kernel
set_option maxRecDepth 100000 in
theorem dX12_fits_32 : decode cX12_fits 32 = .ok (.invokestatic 1056, 3) := by decide +kernel
set_option maxRecDepth 100000 in
theorem dX12_fits_35 : decode cX12_fits 35 = .ok (.ifCond .eq 7, 3) := by decide +kernel
set_option maxRecDepth 100000 in
theorem dX12_fits_38 : decode cX12_fits 38 = .ok (.iconst 1, 1) := by decide +kernel
set_option maxRecDepth 100000 in
theorem dX12_fits_39 : decode cX12_fits 39 = .ok (.goto 4, 3) := by decide +kernel
set_option maxRecDepth 100000 in
theorem dX12_fits_42 : decode cX12_fits 42 = .ok (.iconst 0, 1) := by decide +kernel
set_option maxRecDepth 100000 in
theorem dX12_fits_43 : decode cX12_fits 43 = .ok (.ireturn, 1) := by decide +kernel
set_option maxRecDepth 100000 in
def bX12_fits_43 (G : xG) (fr lo : Nat) (s0 : Int32) (h : xH) (Q : Outcome → xH → Prop) : Prop := xbz s0 ∧ Q (.returned (some (.int s0))) h
set_option maxRecDepth 100000 in
theorem uX12_fits_43 {G : xG} {fr lo : Nat} {s0 : Int32} {h : xH} {Q : Outcome → xH → Prop} (hq : bX12_fits_43 G fr lo s0 h Q) : xP G YX12_fits fr lo 43 [] [.int s0] h Q := by
  unfold bX12_fits_43 at hq
  obtain ⟨g1, hq⟩ := hq
  exact x_iret rfl (xnZ g1) dX12_fits_43 hq
set_option maxRecDepth 100000 in
def bX12_fits_42 (G : xG) (fr lo : Nat) (h : xH) (Q : Outcome → xH → Prop) : Prop := bX12_fits_43 G fr lo 0 h Q
set_option maxRecDepth 100000 in
theorem uX12_fits_42 {G : xG} {fr lo : Nat} {h : xH} {Q : Outcome → xH → Prop} (hq : bX12_fits_42 G fr lo h Q) : xP G YX12_fits fr lo 42 [] [] h Q := by
  unfold bX12_fits_42 at hq
  refine x_iconst (v := 0) dX12_fits_42 (by decide) ?_
  exact uX12_fits_43 hq
set_option maxRecDepth 100000 in
def bX12_fits_21 (G : xG) (fr lo : Nat) (x1 : Nat) (x2 : Nat) (h : xH) (Q : Outcome → xH → Prop) : Prop := tg h x1 = 14 ∧ (((fI h x1 3328) = 10 → bX12_fits_42 G fr lo h Q) ∧ (¬ (fI h x1 3328) = 10 → 1 ≤ fr ∧ 13 ≤ lo ∧ xRi G YX12_areCompatible (fr - 1) (lo - 13) [rv x1, rv x2] h (fun x6 h5 => xext h h5 → ((x6 = 0 → bX12_fits_42 G fr lo h5 Q) ∧ (¬ x6 = 0 → bX12_fits_43 G fr lo 1 h5 Q))) (fun r h2 => Q (.threw r) h2)))
set_option maxRecDepth 100000 in
theorem uX12_fits_21 {G : xG} {fr lo : Nat} {x1 : Nat} {x2 : Nat} {h : xH} {Q : Outcome → xH → Prop} (hq : bX12_fits_21 G fr lo x1 x2 h Q) : xP G YX12_fits fr lo 21 [(1, rv x1), (2, rv x2)] [] h Q := by
  unfold bX12_fits_21 at hq
  refine x_aload_n 0 dX12_fits_21 rfl ?_
  obtain ⟨g1, hq⟩ := hq
  refine x_get (v := .int (fI h x1 3328)) fdX12_845 dX12_fits_22 g1 rfl ?_
  refine x_bipush (v := 10) dX12_fits_25 (by decide) ?_
  refine x_icmp_eq (tgt := 42) dX12_fits_27 (by decide) (fun c2 => ?_) (fun c2 => ?_)
  · replace hq := hq.1 c2
    refine xP.pick (lv' := []) [] rfl ?_
    exact uX12_fits_42 hq
  · replace hq := hq.2 c2
    refine x_aload_n 0 dX12_fits_30 rfl ?_
    refine x_aload_n 1 dX12_fits_31 rfl ?_
    obtain ⟨g3, g4, hq⟩ := hq
    refine x_callS (Yc := YX12_areCompatible) (as := [rv x1, rv x2]) (st := []) q4375 msX12_areCompatible rfl dX12_fits_32 (xle (xal1 (rv_cat _) (xal1 (rv_cat _) xal0)) (by decide)) (xfr g3) (xlo xsw0 (by decide) g4) (xKi hq (fun x6 h5 hq e7 => ?_) (fun _ _ q _ => q))
    replace hq := hq e7
    refine x_if_eq (tgt := 42) dX12_fits_35 (by decide) (fun c8 => ?_) (fun c8 => ?_)
    · replace hq := hq.1 c8
      refine xP.pick (lv' := []) [] rfl ?_
      exact uX12_fits_42 hq
    · replace hq := hq.2 c8
      refine x_iconst (v := 1) dX12_fits_38 (by decide) ?_
      refine x_goto (tgt := 43) dX12_fits_39 (by decide) ?_
      refine xP.pick (lv' := []) [] rfl ?_
      exact uX12_fits_43 hq
set_option maxRecDepth 100000 in
def bX12_fits (G : xG) (fr lo : Nat) (x0 : Nat) (x1 : Nat) (x2 : Nat) (h : xH) (Q : Outcome → xH → Prop) : Prop := tg h x0 = 13 ∧ ((¬ x2 = (fR h x0 3116) → bX12_fits_21 G fr lo x1 x2 h Q) ∧ (x2 = (fR h x0 3116) → tg h x1 = 14 ∧ 1 ≤ fr ∧ 12 ≤ lo ∧ xRr G YX13_own (fr - 1) (lo - 12) [rv x1] h (fun x7 h6 => xext h h6 → ((¬ x7 = (fR h6 x0 3115) → bX12_fits_21 G fr lo x1 x2 h6 Q) ∧ (x7 = (fR h6 x0 3115) → Q (.returned (some (.int 1))) h6))) (fun r h2 => Q (.threw r) h2)))
set_option maxRecDepth 100000 in
theorem uX12_fits {G : xG} {fr lo : Nat} {x0 : Nat} {x1 : Nat} {x2 : Nat} {h : xH} {Q : Outcome → xH → Prop} (hq : bX12_fits G fr lo x0 x1 x2 h Q) : xP G YX12_fits fr lo 0 [(0, rv x0), (1, rv x1), (2, rv x2)] [] h Q := by
  unfold bX12_fits at hq
  refine x_aload_n 2 dX12_fits_0 rfl ?_
  refine x_aload_n 0 dX12_fits_1 rfl ?_
  obtain ⟨g1, hq⟩ := hq
  refine x_get (v := rv (fR h x0 3116)) fdX12_113 dX12_fits_2 g1 rfl ?_
  refine x_acmp_ne (tgt := 21) dX12_fits_5 (by decide) (fun c2 => ?_) (fun c2 => ?_)
  · replace hq := hq.1 c2
    refine xP.pick (lv' := [(1, rv x1), (2, rv x2)]) [1, 2] rfl ?_
    exact uX12_fits_21 hq
  · replace hq := hq.2 c2
    refine x_aload_n 1 dX12_fits_8 rfl ?_
    obtain ⟨g3, hq⟩ := hq
    obtain ⟨g4, g5, hq⟩ := hq
    refine x_callV (Yc := YX13_own) (as := []) (st := []) q4189 mvX13_own g3 rfl dX12_fits_9 (xle (xal1 (rv_cat _) xal0) (by decide)) (xfr g4) (xlo xsw0 (by decide) g5) (xKr hq (fun x7 h6 hq e8 => ?_) (fun _ _ q _ => q))
    replace hq := hq e8
    refine x_aload_n 0 dX12_fits_12 rfl ?_
    have t9 : tg h6 x0 = 13 := e8.tg g1 (by decide)
    refine x_get (v := rv (fR h6 x0 3115)) fdX12_109 dX12_fits_13 t9 rfl ?_
    refine x_acmp_ne (tgt := 21) dX12_fits_16 (by decide) (fun c10 => ?_) (fun c10 => ?_)
    · replace hq := hq.1 c10
      refine xP.pick (lv' := [(1, rv x1), (2, rv x2)]) [1, 2] rfl ?_
      exact uX12_fits_21 hq
    · replace hq := hq.2 c10
      refine x_iconst (v := 1) dX12_fits_19 (by decide) ?_
      exact x_iret rfl rfl dX12_fits_20 hq
theorem rX12_fits {G : xG} {fr lo : Nat} {x0 : Nat} {x1 : Nat} {x2 : Nat} {h : xH} {Q : Outcome → xH → Prop} (hq : bX12_fits G fr lo x0 x1 x2 h Q) : xR G YX12_fits fr lo [rv x0, rv x1, rv x2] h Q := by
  show xP _ _ _ _ _ (lv_args 0 _) _ _ _
  rw [show lv_args 0 [rv x0, rv x1, rv x2] = [(0, rv x0), (1, rv x1), (2, rv x2)] from (xla1 (rv_cat _) (xla1 (rv_cat _) (xla1 (rv_cat _) xla0)))]
  exact uX12_fits hq
set_option maxRecDepth 100000 in
theorem dX12_areCompatible_0 : decode cX12_areCompatible 0 = .ok (.aload_n 0, 1) := by decide +kernel
set_option maxRecDepth 100000 in
theorem dX12_areCompatible_1 : decode cX12_areCompatible 1 = .ok (.aload_n 1, 1) := by decide +kernel
set_option maxRecDepth 100000 in
theorem dX12_areCompatible_2 : decode cX12_areCompatible 2 = .ok (.if_acmp .eq 36, 3) := by decide +kernel
set_option maxRecDepth 100000 in
theorem dX12_areCompatible_5 : decode cX12_areCompatible 5 = .ok (.aload_n 0, 1) := by decide +kernel
set_option maxRecDepth 100000 in
theorem dX12_areCompatible_6 : decode cX12_areCompatible 6 = .ok (.invokevirtual 861, 3) := by decide +kernel
set_option maxRecDepth 100000 in
theorem dX12_areCompatible_9 : decode cX12_areCompatible 9 = .ok (.ifCond .eq 21, 3) := by decide +kernel
set_option maxRecDepth 100000 in
theorem dX12_areCompatible_12 : decode cX12_areCompatible 12 = .ok (.aload_n 1, 1) := by decide +kernel
set_option maxRecDepth 100000 in
theorem dX12_areCompatible_13 : decode cX12_areCompatible 13 = .ok (.invokevirtual 861, 3) := by decide +kernel
set_option maxRecDepth 100000 in
theorem dX12_areCompatible_16 : decode cX12_areCompatible 16 = .ok (.ifCond .eq 14, 3) := by decide +kernel
set_option maxRecDepth 100000 in
theorem dX12_areCompatible_19 : decode cX12_areCompatible 19 = .ok (.aload_n 0, 1) := by decide +kernel
set_option maxRecDepth 100000 in
theorem dX12_areCompatible_20 : decode cX12_areCompatible 20 = .ok (.invokevirtual 867, 3) := by decide +kernel
set_option maxRecDepth 100000 in
theorem dX12_areCompatible_23 : decode cX12_areCompatible 23 = .ok (.aload_n 1, 1) := by decide +kernel
set_option maxRecDepth 100000 in
theorem dX12_areCompatible_24 : decode cX12_areCompatible 24 = .ok (.invokevirtual 867, 3) := by decide +kernel
set_option maxRecDepth 100000 in
theorem dX12_areCompatible_27 : decode cX12_areCompatible 27 = .ok (.if_acmp .eq 11, 3) := by decide +kernel
set_option maxRecDepth 100000 in
theorem dX12_areCompatible_30 : decode cX12_areCompatible 30 = .ok (.aload_n 0, 1) := by decide +kernel
set_option maxRecDepth 100000 in
theorem dX12_areCompatible_31 : decode cX12_areCompatible 31 = .ok (.aload_n 1, 1) := by decide +kernel
set_option maxRecDepth 100000 in
theorem dX12_areCompatible_32 : decode cX12_areCompatible 32 = .ok (.invokestatic 1053, 3) := by decide +kernel
set_option maxRecDepth 100000 in
theorem dX12_areCompatible_35 : decode cX12_areCompatible 35 = .ok (.ifCond .eq 5, 3) := by decide +kernel
set_option maxRecDepth 100000 in
theorem dX12_areCompatible_38 : decode cX12_areCompatible 38 = .ok (.iconst 1, 1) := by decide +kernel
set_option maxRecDepth 100000 in
theorem dX12_areCompatible_39 : decode cX12_areCompatible 39 = .ok (.ireturn, 1) := by decide +kernel
set_option maxRecDepth 100000 in
theorem dX12_areCompatible_40 : decode cX12_areCompatible 40 = .ok (.aload_n 0, 1) := by decide +kernel
set_option maxRecDepth 100000 in
theorem dX12_areCompatible_41 : decode cX12_areCompatible 41 = .ok (.invokevirtual 1050, 3) := by decide +kernel
set_option maxRecDepth 100000 in
theorem dX12_areCompatible_44 : decode cX12_areCompatible 44 = .ok (.ifCond .le 16, 3) := by decide +kernel
set_option maxRecDepth 100000 in
theorem dX12_areCompatible_47 : decode cX12_areCompatible 47 = .ok (.aload_n 0, 1) := by decide +kernel
set_option maxRecDepth 100000 in
theorem dX12_areCompatible_48 : decode cX12_areCompatible 48 = .ok (.invokevirtual 1050, 3) := by decide +kernel
set_option maxRecDepth 100000 in
theorem dX12_areCompatible_51 : decode cX12_areCompatible 51 = .ok (.aload_n 1, 1) := by decide +kernel
set_option maxRecDepth 100000 in
theorem dX12_areCompatible_52 : decode cX12_areCompatible 52 = .ok (.invokevirtual 1050, 3) := by decide +kernel
set_option maxRecDepth 100000 in
theorem dX12_areCompatible_55 : decode cX12_areCompatible 55 = .ok (.if_icmp .ne 5, 3) := by decide +kernel
set_option maxRecDepth 100000 in
theorem dX12_areCompatible_58 : decode cX12_areCompatible 58 = .ok (.iconst 1, 1) := by decide +kernel
set_option maxRecDepth 100000 in
theorem dX12_areCompatible_59 : decode cX12_areCompatible 59 = .ok (.ireturn, 1) := by decide +kernel
set_option maxRecDepth 100000 in
theorem dX12_areCompatible_60 : decode cX12_areCompatible 60 = .ok (.aload_n 0, 1) := by decide +kernel
set_option maxRecDepth 100000 in
theorem dX12_areCompatible_61 : decode cX12_areCompatible 61 = .ok (.getfield 845, 3) := by decide +kernel
set_option maxRecDepth 100000 in
theorem dX12_areCompatible_64 : decode cX12_areCompatible 64 = .ok (.bipush 12, 2) := by decide +kernel
set_option maxRecDepth 100000 in
theorem dX12_areCompatible_66 : decode cX12_areCompatible 66 = .ok (.if_icmp .ne 21, 3) := by decide +kernel
set_option maxRecDepth 100000 in
theorem dX12_areCompatible_69 : decode cX12_areCompatible 69 = .ok (.aload_n 1, 1) := by decide +kernel
set_option maxRecDepth 100000 in
theorem dX12_areCompatible_70 : decode cX12_areCompatible 70 = .ok (.getfield 845, 3) := by decide +kernel
set_option maxRecDepth 100000 in
theorem dX12_areCompatible_73 : decode cX12_areCompatible 73 = .ok (.bipush 11, 2) := by decide +kernel
set_option maxRecDepth 100000 in
theorem dX12_areCompatible_75 : decode cX12_areCompatible 75 = .ok (.if_icmp .eq 30, 3) := by decide +kernel
set_option maxRecDepth 100000 in
theorem dX12_areCompatible_78 : decode cX12_areCompatible 78 = .ok (.aload_n 1, 1) := by decide +kernel
set_option maxRecDepth 100000 in
theorem dX12_areCompatible_79 : decode cX12_areCompatible 79 = .ok (.getfield 845, 3) := by decide +kernel
set_option maxRecDepth 100000 in
theorem dX12_areCompatible_82 : decode cX12_areCompatible 82 = .ok (.bipush 12, 2) := by decide +kernel
set_option maxRecDepth 100000 in
theorem dX12_areCompatible_84 : decode cX12_areCompatible 84 = .ok (.if_icmp .eq 21, 3) := by decide +kernel
set_option maxRecDepth 100000 in
theorem dX12_areCompatible_87 : decode cX12_areCompatible 87 = .ok (.aload_n 1, 1) := by decide +kernel
set_option maxRecDepth 100000 in
theorem dX12_areCompatible_88 : decode cX12_areCompatible 88 = .ok (.getfield 845, 3) := by decide +kernel
set_option maxRecDepth 100000 in
theorem dX12_areCompatible_91 : decode cX12_areCompatible 91 = .ok (.bipush 12, 2) := by decide +kernel
set_option maxRecDepth 100000 in
theorem dX12_areCompatible_93 : decode cX12_areCompatible 93 = .ok (.if_icmp .ne 16, 3) := by decide +kernel
set_option maxRecDepth 100000 in
theorem dX12_areCompatible_96 : decode cX12_areCompatible 96 = .ok (.aload_n 0, 1) := by decide +kernel
set_option maxRecDepth 100000 in
theorem dX12_areCompatible_97 : decode cX12_areCompatible 97 = .ok (.getfield 845, 3) := by decide +kernel
set_option maxRecDepth 100000 in
theorem dX12_areCompatible_100 : decode cX12_areCompatible 100 = .ok (.bipush 11, 2) := by decide +kernel
set_option maxRecDepth 100000 in
theorem dX12_areCompatible_102 : decode cX12_areCompatible 102 = .ok (.if_icmp .ne 7, 3) := by decide +kernel
set_option maxRecDepth 100000 in
theorem dX12_areCompatible_105 : decode cX12_areCompatible 105 = .ok (.iconst 1, 1) := by decide +kernel
set_option maxRecDepth 100000 in
theorem dX12_areCompatible_106 : decode cX12_areCompatible 106 = .ok (.goto 4, 3) := by decide +kernel
set_option maxRecDepth 100000 in
theorem dX12_areCompatible_109 : decode cX12_areCompatible 109 = .ok (.iconst 0, 1) := by decide +kernel
set_option maxRecDepth 100000 in
theorem dX12_areCompatible_110 : decode cX12_areCompatible 110 = .ok (.ireturn, 1) := by decide +kernel
set_option maxRecDepth 100000 in
def bX12_areCompatible_110 (G : xG) (fr lo : Nat) (s0 : Int32) (h : xH) (Q : Outcome → xH → Prop) : Prop := xbz s0 ∧ Q (.returned (some (.int s0))) h
set_option maxRecDepth 100000 in
theorem uX12_areCompatible_110 {G : xG} {fr lo : Nat} {s0 : Int32} {h : xH} {Q : Outcome → xH → Prop} (hq : bX12_areCompatible_110 G fr lo s0 h Q) : xP G YX12_areCompatible fr lo 110 [] [.int s0] h Q := by
  unfold bX12_areCompatible_110 at hq
  obtain ⟨g1, hq⟩ := hq
  exact x_iret rfl (xnZ g1) dX12_areCompatible_110 hq
set_option maxRecDepth 100000 in
def bX12_areCompatible_109 (G : xG) (fr lo : Nat) (h : xH) (Q : Outcome → xH → Prop) : Prop := bX12_areCompatible_110 G fr lo 0 h Q
set_option maxRecDepth 100000 in
theorem uX12_areCompatible_109 {G : xG} {fr lo : Nat} {h : xH} {Q : Outcome → xH → Prop} (hq : bX12_areCompatible_109 G fr lo h Q) : xP G YX12_areCompatible fr lo 109 [] [] h Q := by
  unfold bX12_areCompatible_109 at hq
  refine x_iconst (v := 0) dX12_areCompatible_109 (by decide) ?_
  exact uX12_areCompatible_110 hq
set_option maxRecDepth 100000 in
def bX12_areCompatible_105 (G : xG) (fr lo : Nat) (h : xH) (Q : Outcome → xH → Prop) : Prop := bX12_areCompatible_110 G fr lo 1 h Q
set_option maxRecDepth 100000 in
theorem uX12_areCompatible_105 {G : xG} {fr lo : Nat} {h : xH} {Q : Outcome → xH → Prop} (hq : bX12_areCompatible_105 G fr lo h Q) : xP G YX12_areCompatible fr lo 105 [] [] h Q := by
  unfold bX12_areCompatible_105 at hq
  refine x_iconst (v := 1) dX12_areCompatible_105 (by decide) ?_
  refine x_goto (tgt := 110) dX12_areCompatible_106 (by decide) ?_
  exact uX12_areCompatible_110 hq
set_option maxRecDepth 100000 in
def bX12_areCompatible_87 (G : xG) (fr lo : Nat) (x0 : Nat) (x1 : Nat) (h : xH) (Q : Outcome → xH → Prop) : Prop := tg h x1 = 14 ∧ ((¬ (fI h x1 3328) = 12 → bX12_areCompatible_109 G fr lo h Q) ∧ ((fI h x1 3328) = 12 → tg h x0 = 14 ∧ ((¬ (fI h x0 3328) = 11 → bX12_areCompatible_109 G fr lo h Q) ∧ ((fI h x0 3328) = 11 → bX12_areCompatible_105 G fr lo h Q))))
set_option maxRecDepth 100000 in
theorem uX12_areCompatible_87 {G : xG} {fr lo : Nat} {x0 : Nat} {x1 : Nat} {h : xH} {Q : Outcome → xH → Prop} (hq : bX12_areCompatible_87 G fr lo x0 x1 h Q) : xP G YX12_areCompatible fr lo 87 [(0, rv x0), (1, rv x1)] [] h Q := by
  unfold bX12_areCompatible_87 at hq
  refine x_aload_n 1 dX12_areCompatible_87 rfl ?_
  obtain ⟨g1, hq⟩ := hq
  refine x_get (v := .int (fI h x1 3328)) fdX12_845 dX12_areCompatible_88 g1 rfl ?_
  refine x_bipush (v := 12) dX12_areCompatible_91 (by decide) ?_
  refine x_icmp_ne (tgt := 109) dX12_areCompatible_93 (by decide) (fun c2 => ?_) (fun c2 => ?_)
  · replace hq := hq.1 c2
    refine xP.pick (lv' := []) [] rfl ?_
    exact uX12_areCompatible_109 hq
  · replace hq := hq.2 c2
    refine x_aload_n 0 dX12_areCompatible_96 rfl ?_
    obtain ⟨g3, hq⟩ := hq
    refine x_get (v := .int (fI h x0 3328)) fdX12_845 dX12_areCompatible_97 g3 rfl ?_
    refine x_bipush (v := 11) dX12_areCompatible_100 (by decide) ?_
    refine x_icmp_ne (tgt := 109) dX12_areCompatible_102 (by decide) (fun c4 => ?_) (fun c4 => ?_)
    · replace hq := hq.1 c4
      refine xP.pick (lv' := []) [] rfl ?_
      exact uX12_areCompatible_109 hq
    · replace hq := hq.2 c4
      refine xP.pick (lv' := []) [] rfl ?_
      exact uX12_areCompatible_105 hq
set_option maxRecDepth 100000 in
def bX12_areCompatible_60 (G : xG) (fr lo : Nat) (x0 : Nat) (x1 : Nat) (h : xH) (Q : Outcome → xH → Prop) : Prop := tg h x0 = 14 ∧ ((¬ (fI h x0 3328) = 12 → bX12_areCompatible_87 G fr lo x0 x1 h Q) ∧ ((fI h x0 3328) = 12 → tg h x1 = 14 ∧ (((fI h x1 3328) = 11 → bX12_areCompatible_105 G fr lo h Q) ∧ (¬ (fI h x1 3328) = 11 → (((fI h x1 3328) = 12 → bX12_areCompatible_105 G fr lo h Q) ∧ (¬ (fI h x1 3328) = 12 → bX12_areCompatible_87 G fr lo x0 x1 h Q))))))
set_option maxRecDepth 100000 in
theorem uX12_areCompatible_60 {G : xG} {fr lo : Nat} {x0 : Nat} {x1 : Nat} {h : xH} {Q : Outcome → xH → Prop} (hq : bX12_areCompatible_60 G fr lo x0 x1 h Q) : xP G YX12_areCompatible fr lo 60 [(0, rv x0), (1, rv x1)] [] h Q := by
  unfold bX12_areCompatible_60 at hq
  refine x_aload_n 0 dX12_areCompatible_60 rfl ?_
  obtain ⟨g1, hq⟩ := hq
  refine x_get (v := .int (fI h x0 3328)) fdX12_845 dX12_areCompatible_61 g1 rfl ?_
  refine x_bipush (v := 12) dX12_areCompatible_64 (by decide) ?_
  refine x_icmp_ne (tgt := 87) dX12_areCompatible_66 (by decide) (fun c2 => ?_) (fun c2 => ?_)
  · replace hq := hq.1 c2
    exact uX12_areCompatible_87 hq
  · replace hq := hq.2 c2
    refine x_aload_n 1 dX12_areCompatible_69 rfl ?_
    obtain ⟨g3, hq⟩ := hq
    refine x_get (v := .int (fI h x1 3328)) fdX12_845 dX12_areCompatible_70 g3 rfl ?_
    refine x_bipush (v := 11) dX12_areCompatible_73 (by decide) ?_
    refine x_icmp_eq (tgt := 105) dX12_areCompatible_75 (by decide) (fun c4 => ?_) (fun c4 => ?_)
    · replace hq := hq.1 c4
      refine xP.pick (lv' := []) [] rfl ?_
      exact uX12_areCompatible_105 hq
    · replace hq := hq.2 c4
      refine x_aload_n 1 dX12_areCompatible_78 rfl ?_
      refine x_get (v := .int (fI h x1 3328)) fdX12_845 dX12_areCompatible_79 g3 rfl ?_
      refine x_bipush (v := 12) dX12_areCompatible_82 (by decide) ?_
      refine x_icmp_eq (tgt := 105) dX12_areCompatible_84 (by decide) (fun c5 => ?_) (fun c5 => ?_)
      · replace hq := hq.1 c5
        refine xP.pick (lv' := []) [] rfl ?_
        exact uX12_areCompatible_105 hq
      · replace hq := hq.2 c5
        exact uX12_areCompatible_87 hq
set_option maxRecDepth 100000 in
def bX12_areCompatible_38 (G : xG) (fr lo : Nat) (h : xH) (Q : Outcome → xH → Prop) : Prop := Q (.returned (some (.int 1))) h
set_option maxRecDepth 100000 in
theorem uX12_areCompatible_38 {G : xG} {fr lo : Nat} {h : xH} {Q : Outcome → xH → Prop} (hq : bX12_areCompatible_38 G fr lo h Q) : xP G YX12_areCompatible fr lo 38 [] [] h Q := by
  unfold bX12_areCompatible_38 at hq
  refine x_iconst (v := 1) dX12_areCompatible_38 (by decide) ?_
  exact x_iret rfl rfl dX12_areCompatible_39 hq
set_option maxRecDepth 100000 in
def bX12_areCompatible_30 (G : xG) (fr lo : Nat) (x0 : Nat) (x1 : Nat) (h : xH) (Q : Outcome → xH → Prop) : Prop := 1 ≤ fr ∧ 13 ≤ lo ∧ xRi G YX12_areSets (fr - 1) (lo - 13) [rv x0, rv x1] h (fun x4 h3 => xext h h3 → ((x4 = 0 → tg h3 x0 = 14 ∧ 1 ≤ fr ∧ 13 ≤ lo ∧ xRi G YX13_characters (fr - 1) (lo - 13) [rv x0] h3 (fun x11 h10 => xext h3 h10 → ((x11 ≤ 0 → bX12_areCompatible_60 G fr lo x0 x1 h10 Q) ∧ (¬ x11 ≤ 0 → 1 ≤ fr ∧ 13 ≤ lo ∧ xRi G YX13_characters (fr - 1) (lo - 13) [rv x0] h10 (fun x18 h17 => xext h10 h17 → tg h17 x1 = 14 ∧ 1 ≤ fr ∧ 14 ≤ lo ∧ xRi G YX13_characters (fr - 1) (lo - 14) [rv x1] h17 (fun x24 h23 => xext h17 h23 → ((¬ x18 = x24 → bX12_areCompatible_60 G fr lo x0 x1 h23 Q) ∧ (x18 = x24 → Q (.returned (some (.int 1))) h23))) (fun r h2 => Q (.threw r) h2)) (fun r h2 => Q (.threw r) h2)))) (fun r h2 => Q (.threw r) h2)) ∧ (¬ x4 = 0 → bX12_areCompatible_38 G fr lo h3 Q))) (fun r h2 => Q (.threw r) h2)
set_option maxRecDepth 100000 in
theorem uX12_areCompatible_30 {G : xG} {fr lo : Nat} {x0 : Nat} {x1 : Nat} {h : xH} {Q : Outcome → xH → Prop} (hq : bX12_areCompatible_30 G fr lo x0 x1 h Q) : xP G YX12_areCompatible fr lo 30 [(0, rv x0), (1, rv x1)] [] h Q := by
  unfold bX12_areCompatible_30 at hq
  refine x_aload_n 0 dX12_areCompatible_30 rfl ?_
  refine x_aload_n 1 dX12_areCompatible_31 rfl ?_
  obtain ⟨g1, g2, hq⟩ := hq
  refine x_callS (Yc := YX12_areSets) (as := [rv x0, rv x1]) (st := []) q4378 msX12_areSets rfl dX12_areCompatible_32 (xle (xal1 (rv_cat _) (xal1 (rv_cat _) xal0)) (by decide)) (xfr g1) (xlo xsw0 (by decide) g2) (xKi hq (fun x4 h3 hq e5 => ?_) (fun _ _ q _ => q))
  replace hq := hq e5
  refine x_if_eq (tgt := 40) dX12_areCompatible_35 (by decide) (fun c6 => ?_) (fun c6 => ?_)
  · replace hq := hq.1 c6
    refine x_aload_n 0 dX12_areCompatible_40 rfl ?_
    obtain ⟨g7, hq⟩ := hq
    obtain ⟨g8, g9, hq⟩ := hq
    refine x_callV (Yc := YX13_characters) (as := []) (st := []) q4381 mvX13_characters g7 rfl dX12_areCompatible_41 (xle (xal1 (rv_cat _) xal0) (by decide)) (xfr g8) (xlo xsw0 (by decide) g9) (xKi hq (fun x11 h10 hq e12 => ?_) (fun _ _ q _ => q))
    replace hq := hq e12
    refine x_if_le (tgt := 60) dX12_areCompatible_44 (by decide) (fun c13 => ?_) (fun c13 => ?_)
    · replace hq := hq.1 c13
      exact uX12_areCompatible_60 hq
    · replace hq := hq.2 c13
      refine x_aload_n 0 dX12_areCompatible_47 rfl ?_
      have t14 : tg h10 x0 = 14 := e12.tg g7 (by decide)
      obtain ⟨g15, g16, hq⟩ := hq
      refine x_callV (Yc := YX13_characters) (as := []) (st := []) q4381 mvX13_characters t14 rfl dX12_areCompatible_48 (xle (xal1 (rv_cat _) xal0) (by decide)) (xfr g15) (xlo xsw0 (by decide) g16) (xKi hq (fun x18 h17 hq e19 => ?_) (fun _ _ q _ => q))
      replace hq := hq e19
      refine x_aload_n 1 dX12_areCompatible_51 rfl ?_
      obtain ⟨g20, hq⟩ := hq
      obtain ⟨g21, g22, hq⟩ := hq
      refine x_callV (Yc := YX13_characters) (as := []) (st := [.int x18]) q4381 mvX13_characters g20 rfl dX12_areCompatible_52 (xle (xal1 (rv_cat _) xal0) (by decide)) (xfr g21) (xlo (xsw1 rfl xsw0) (by decide) g22) (xKi hq (fun x24 h23 hq e25 => ?_) (fun _ _ q _ => q))
      replace hq := hq e25
      refine x_icmp_ne (tgt := 60) dX12_areCompatible_55 (by decide) (fun c26 => ?_) (fun c26 => ?_)
      · replace hq := hq.1 c26
        exact uX12_areCompatible_60 hq
      · replace hq := hq.2 c26
        refine x_iconst (v := 1) dX12_areCompatible_58 (by decide) ?_
        exact x_iret rfl rfl dX12_areCompatible_59 hq
  · replace hq := hq.2 c6
    refine xP.pick (lv' := []) [] rfl ?_
    exact uX12_areCompatible_38 hq
set_option maxRecDepth 100000 in
def bX12_areCompatible (G : xG) (fr lo : Nat) (x0 : Nat) (x1 : Nat) (h : xH) (Q : Outcome → xH → Prop) : Prop := ((x0 = x1 → bX12_areCompatible_38 G fr lo h Q) ∧ (¬ x0 = x1 → tg h x0 = 14 ∧ 1 ≤ fr ∧ 12 ≤ lo ∧ xRi G YX13_isOrdinal (fr - 1) (lo - 12) [rv x0] h (fun x6 h5 => xext h h5 → ((x6 = 0 → bX12_areCompatible_30 G fr lo x0 x1 h5 Q) ∧ (¬ x6 = 0 → tg h5 x1 = 14 ∧ 1 ≤ fr ∧ 12 ≤ lo ∧ xRi G YX13_isOrdinal (fr - 1) (lo - 12) [rv x1] h5 (fun x13 h12 => xext h5 h12 → ((x13 = 0 → bX12_areCompatible_30 G fr lo x0 x1 h12 Q) ∧ (¬ x13 = 0 → 1 ≤ fr ∧ 12 ≤ lo ∧ xRr G YX13_own (fr - 1) (lo - 12) [rv x0] h12 (fun x21 h20 => xext h12 h20 → 1 ≤ fr ∧ 13 ≤ lo ∧ xRr G YX13_own (fr - 1) (lo - 13) [rv x1] h20 (fun x28 h27 => xext h20 h27 → ((x21 = x28 → bX12_areCompatible_38 G fr lo h27 Q) ∧ (¬ x21 = x28 → bX12_areCompatible_30 G fr lo x0 x1 h27 Q))) (fun r h2 => Q (.threw r) h2)) (fun r h2 => Q (.threw r) h2)))) (fun r h2 => Q (.threw r) h2)))) (fun r h2 => Q (.threw r) h2)))
set_option maxRecDepth 100000 in
theorem uX12_areCompatible {G : xG} {fr lo : Nat} {x0 : Nat} {x1 : Nat} {h : xH} {Q : Outcome → xH → Prop} (hq : bX12_areCompatible G fr lo x0 x1 h Q) : xP G YX12_areCompatible fr lo 0 [(0, rv x0), (1, rv x1)] [] h Q := by
  unfold bX12_areCompatible at hq
  refine x_aload_n 0 dX12_areCompatible_0 rfl ?_
  refine x_aload_n 1 dX12_areCompatible_1 rfl ?_
  refine x_acmp_eq (tgt := 38) dX12_areCompatible_2 (by decide) (fun c1 => ?_) (fun c1 => ?_)
  · replace hq := hq.1 c1
    refine xP.pick (lv' := []) [] rfl ?_
    exact uX12_areCompatible_38 hq
  · replace hq := hq.2 c1
    refine x_aload_n 0 dX12_areCompatible_5 rfl ?_
    obtain ⟨g2, hq⟩ := hq
    obtain ⟨g3, g4, hq⟩ := hq
    refine x_callV (Yc := YX13_isOrdinal) (as := []) (st := []) q4185 mvX13_isOrdinal g2 rfl dX12_areCompatible_6 (xle (xal1 (rv_cat _) xal0) (by decide)) (xfr g3) (xlo xsw0 (by decide) g4) (xKi hq (fun x6 h5 hq e7 => ?_) (fun _ _ q _ => q))
    replace hq := hq e7
    refine x_if_eq (tgt := 30) dX12_areCompatible_9 (by decide) (fun c8 => ?_) (fun c8 => ?_)
    · replace hq := hq.1 c8
      exact uX12_areCompatible_30 hq
    · replace hq := hq.2 c8
      refine x_aload_n 1 dX12_areCompatible_12 rfl ?_
      obtain ⟨g9, hq⟩ := hq
      obtain ⟨g10, g11, hq⟩ := hq
      refine x_callV (Yc := YX13_isOrdinal) (as := []) (st := []) q4185 mvX13_isOrdinal g9 rfl dX12_areCompatible_13 (xle (xal1 (rv_cat _) xal0) (by decide)) (xfr g10) (xlo xsw0 (by decide) g11) (xKi hq (fun x13 h12 hq e14 => ?_) (fun _ _ q _ => q))
      replace hq := hq e14
      refine x_if_eq (tgt := 30) dX12_areCompatible_16 (by decide) (fun c15 => ?_) (fun c15 => ?_)
      · replace hq := hq.1 c15
        exact uX12_areCompatible_30 hq
      · replace hq := hq.2 c15
        refine x_aload_n 0 dX12_areCompatible_19 rfl ?_
        have t16 : tg h5 x0 = 14 := e7.tg g2 (by decide)
        have t17 : tg h12 x0 = 14 := e14.tg t16 (by decide)
        obtain ⟨g18, g19, hq⟩ := hq
        refine x_callV (Yc := YX13_own) (as := []) (st := []) q4189 mvX13_own t17 rfl dX12_areCompatible_20 (xle (xal1 (rv_cat _) xal0) (by decide)) (xfr g18) (xlo xsw0 (by decide) g19) (xKr hq (fun x21 h20 hq e22 => ?_) (fun _ _ q _ => q))
        replace hq := hq e22
        refine x_aload_n 1 dX12_areCompatible_23 rfl ?_
        have t23 : tg h12 x1 = 14 := e14.tg g9 (by decide)
        have t24 : tg h20 x1 = 14 := e22.tg t23 (by decide)
        obtain ⟨g25, g26, hq⟩ := hq
        refine x_callV (Yc := YX13_own) (as := []) (st := [rv x21]) q4189 mvX13_own t24 rfl dX12_areCompatible_24 (xle (xal1 (rv_cat _) xal0) (by decide)) (xfr g25) (xlo (xsw1 (rv_cat _) xsw0) (by decide) g26) (xKr hq (fun x28 h27 hq e29 => ?_) (fun _ _ q _ => q))
        replace hq := hq e29
        refine x_acmp_eq (tgt := 38) dX12_areCompatible_27 (by decide) (fun c30 => ?_) (fun c30 => ?_)
        · replace hq := hq.1 c30
          refine xP.pick (lv' := []) [] rfl ?_
          exact uX12_areCompatible_38 hq
        · replace hq := hq.2 c30
          exact uX12_areCompatible_30 hq
theorem rX12_areCompatible {G : xG} {fr lo : Nat} {x0 : Nat} {x1 : Nat} {h : xH} {Q : Outcome → xH → Prop} (hq : bX12_areCompatible G fr lo x0 x1 h Q) : xR G YX12_areCompatible fr lo [rv x0, rv x1] h Q := by
  show xP _ _ _ _ _ (lv_args 0 _) _ _ _
  rw [show lv_args 0 [rv x0, rv x1] = [(0, rv x0), (1, rv x1)] from (xla1 (rv_cat _) (xla1 (rv_cat _) xla0))]
  exact uX12_areCompatible hq
set_option maxRecDepth 100000 in
theorem dX12_areSets_0 : decode cX12_areSets 0 = .ok (.aload_n 0, 1) := by decide +kernel
set_option maxRecDepth 100000 in
theorem dX12_areSets_1 : decode cX12_areSets 1 = .ok (.getfield 845, 3) := by decide +kernel
set_option maxRecDepth 100000 in
theorem dX12_areSets_4 : decode cX12_areSets 4 = .ok (.bipush 9, 2) := by decide +kernel
set_option maxRecDepth 100000 in
theorem dX12_areSets_6 : decode cX12_areSets 6 = .ok (.if_icmp .ne 47, 3) := by decide +kernel
set_option maxRecDepth 100000 in
theorem dX12_areSets_9 : decode cX12_areSets 9 = .ok (.aload_n 1, 1) := by decide +kernel
set_option maxRecDepth 100000 in
theorem dX12_areSets_10 : decode cX12_areSets 10 = .ok (.getfield 845, 3) := by decide +kernel
set_option maxRecDepth 100000 in
theorem dX12_areSets_13 : decode cX12_areSets 13 = .ok (.bipush 9, 2) := by decide +kernel
set_option maxRecDepth 100000 in
theorem dX12_areSets_15 : decode cX12_areSets 15 = .ok (.if_icmp .ne 38, 3) := by decide +kernel
set_option maxRecDepth 100000 in
theorem dX12_areSets_18 : decode cX12_areSets 18 = .ok (.aload_n 0, 1) := by decide +kernel
set_option maxRecDepth 100000 in
theorem dX12_areSets_19 : decode cX12_areSets 19 = .ok (.getfield 864, 3) := by decide +kernel
set_option maxRecDepth 100000 in
theorem dX12_areSets_22 : decode cX12_areSets 22 = .ok (.ifnull 27, 3) := by decide +kernel
set_option maxRecDepth 100000 in
theorem dX12_areSets_25 : decode cX12_areSets 25 = .ok (.aload_n 1, 1) := by decide +kernel
set_option maxRecDepth 100000 in
theorem dX12_areSets_26 : decode cX12_areSets 26 = .ok (.getfield 864, 3) := by decide +kernel
set_option maxRecDepth 100000 in
theorem dX12_areSets_29 : decode cX12_areSets 29 = .ok (.ifnull 20, 3) := by decide +kernel
set_option maxRecDepth 100000 in
theorem dX12_areSets_32 : decode cX12_areSets 32 = .ok (.aload_n 0, 1) := by decide +kernel
set_option maxRecDepth 100000 in
theorem dX12_areSets_33 : decode cX12_areSets 33 = .ok (.getfield 864, 3) := by decide +kernel
set_option maxRecDepth 100000 in
theorem dX12_areSets_36 : decode cX12_areSets 36 = .ok (.invokevirtual 867, 3) := by decide +kernel
set_option maxRecDepth 100000 in
theorem dX12_areSets_39 : decode cX12_areSets 39 = .ok (.aload_n 1, 1) := by decide +kernel
set_option maxRecDepth 100000 in
theorem dX12_areSets_40 : decode cX12_areSets 40 = .ok (.getfield 864, 3) := by decide +kernel
set_option maxRecDepth 100000 in
theorem dX12_areSets_43 : decode cX12_areSets 43 = .ok (.invokevirtual 867, 3) := by decide +kernel
set_option maxRecDepth 100000 in
theorem dX12_areSets_46 : decode cX12_areSets 46 = .ok (.if_acmp .ne 7, 3) := by decide +kernel
set_option maxRecDepth 100000 in
theorem dX12_areSets_49 : decode cX12_areSets 49 = .ok (.iconst 1, 1) := by decide +kernel
set_option maxRecDepth 100000 in
theorem dX12_areSets_50 : decode cX12_areSets 50 = .ok (.goto 4, 3) := by decide +kernel
set_option maxRecDepth 100000 in
theorem dX12_areSets_53 : decode cX12_areSets 53 = .ok (.iconst 0, 1) := by decide +kernel
set_option maxRecDepth 100000 in
theorem dX12_areSets_54 : decode cX12_areSets 54 = .ok (.ireturn, 1) := by decide +kernel
set_option maxRecDepth 100000 in
def bX12_areSets_54 (G : xG) (fr lo : Nat) (s0 : Int32) (h : xH) (Q : Outcome → xH → Prop) : Prop := xbz s0 ∧ Q (.returned (some (.int s0))) h
set_option maxRecDepth 100000 in
theorem uX12_areSets_54 {G : xG} {fr lo : Nat} {s0 : Int32} {h : xH} {Q : Outcome → xH → Prop} (hq : bX12_areSets_54 G fr lo s0 h Q) : xP G YX12_areSets fr lo 54 [] [.int s0] h Q := by
  unfold bX12_areSets_54 at hq
  obtain ⟨g1, hq⟩ := hq
  exact x_iret rfl (xnZ g1) dX12_areSets_54 hq
set_option maxRecDepth 100000 in
def bX12_areSets_53 (G : xG) (fr lo : Nat) (h : xH) (Q : Outcome → xH → Prop) : Prop := bX12_areSets_54 G fr lo 0 h Q
set_option maxRecDepth 100000 in
theorem uX12_areSets_53 {G : xG} {fr lo : Nat} {h : xH} {Q : Outcome → xH → Prop} (hq : bX12_areSets_53 G fr lo h Q) : xP G YX12_areSets fr lo 53 [] [] h Q := by
  unfold bX12_areSets_53 at hq
  refine x_iconst (v := 0) dX12_areSets_53 (by decide) ?_
  exact uX12_areSets_54 hq
set_option maxRecDepth 100000 in
def bX12_areSets_49 (G : xG) (fr lo : Nat) (h : xH) (Q : Outcome → xH → Prop) : Prop := bX12_areSets_54 G fr lo 1 h Q
set_option maxRecDepth 100000 in
theorem uX12_areSets_49 {G : xG} {fr lo : Nat} {h : xH} {Q : Outcome → xH → Prop} (hq : bX12_areSets_49 G fr lo h Q) : xP G YX12_areSets fr lo 49 [] [] h Q := by
  unfold bX12_areSets_49 at hq
  refine x_iconst (v := 1) dX12_areSets_49 (by decide) ?_
  refine x_goto (tgt := 54) dX12_areSets_50 (by decide) ?_
  exact uX12_areSets_54 hq
set_option maxRecDepth 100000 in
def bX12_areSets (G : xG) (fr lo : Nat) (x0 : Nat) (x1 : Nat) (h : xH) (Q : Outcome → xH → Prop) : Prop := tg h x0 = 14 ∧ ((¬ (fI h x0 3328) = 9 → bX12_areSets_53 G fr lo h Q) ∧ ((fI h x0 3328) = 9 → tg h x1 = 14 ∧ ((¬ (fI h x1 3328) = 9 → bX12_areSets_53 G fr lo h Q) ∧ ((fI h x1 3328) = 9 → (((fR h x0 3332) = 0 → bX12_areSets_49 G fr lo h Q) ∧ (¬ (fR h x0 3332) = 0 → (((fR h x1 3332) = 0 → bX12_areSets_49 G fr lo h Q) ∧ (¬ (fR h x1 3332) = 0 → tg h (fR h x0 3332) = 14 ∧ 1 ≤ fr ∧ 12 ≤ lo ∧ xRr G YX13_own (fr - 1) (lo - 12) [rv (fR h x0 3332)] h (fun x11 h10 => xext h h10 → tg h10 (fR h10 x1 3332) = 14 ∧ 1 ≤ fr ∧ 13 ≤ lo ∧ xRr G YX13_own (fr - 1) (lo - 13) [rv (fR h10 x1 3332)] h10 (fun x18 h17 => xext h10 h17 → ((¬ x11 = x18 → bX12_areSets_53 G fr lo h17 Q) ∧ (x11 = x18 → bX12_areSets_49 G fr lo h17 Q))) (fun r h2 => Q (.threw r) h2)) (fun r h2 => Q (.threw r) h2)))))))))
set_option maxRecDepth 100000 in
theorem uX12_areSets {G : xG} {fr lo : Nat} {x0 : Nat} {x1 : Nat} {h : xH} {Q : Outcome → xH → Prop} (hq : bX12_areSets G fr lo x0 x1 h Q) : xP G YX12_areSets fr lo 0 [(0, rv x0), (1, rv x1)] [] h Q := by
  unfold bX12_areSets at hq
  refine x_aload_n 0 dX12_areSets_0 rfl ?_
  obtain ⟨g1, hq⟩ := hq
  refine x_get (v := .int (fI h x0 3328)) fdX12_845 dX12_areSets_1 g1 rfl ?_
  refine x_bipush (v := 9) dX12_areSets_4 (by decide) ?_
  refine x_icmp_ne (tgt := 53) dX12_areSets_6 (by decide) (fun c2 => ?_) (fun c2 => ?_)
  · replace hq := hq.1 c2
    refine xP.pick (lv' := []) [] rfl ?_
    exact uX12_areSets_53 hq
  · replace hq := hq.2 c2
    refine x_aload_n 1 dX12_areSets_9 rfl ?_
    obtain ⟨g3, hq⟩ := hq
    refine x_get (v := .int (fI h x1 3328)) fdX12_845 dX12_areSets_10 g3 rfl ?_
    refine x_bipush (v := 9) dX12_areSets_13 (by decide) ?_
    refine x_icmp_ne (tgt := 53) dX12_areSets_15 (by decide) (fun c4 => ?_) (fun c4 => ?_)
    · replace hq := hq.1 c4
      refine xP.pick (lv' := []) [] rfl ?_
      exact uX12_areSets_53 hq
    · replace hq := hq.2 c4
      refine x_aload_n 0 dX12_areSets_18 rfl ?_
      refine x_get (v := rv (fR h x0 3332)) fdX12_864 dX12_areSets_19 g1 rfl ?_
      refine x_ifnull (tgt := 49) dX12_areSets_22 (by decide) (fun c5 => ?_) (fun c5 => ?_)
      · replace hq := hq.1 c5
        refine xP.pick (lv' := []) [] rfl ?_
        exact uX12_areSets_49 hq
      · replace hq := hq.2 c5
        refine x_aload_n 1 dX12_areSets_25 rfl ?_
        refine x_get (v := rv (fR h x1 3332)) fdX12_864 dX12_areSets_26 g3 rfl ?_
        refine x_ifnull (tgt := 49) dX12_areSets_29 (by decide) (fun c6 => ?_) (fun c6 => ?_)
        · replace hq := hq.1 c6
          refine xP.pick (lv' := []) [] rfl ?_
          exact uX12_areSets_49 hq
        · replace hq := hq.2 c6
          refine x_aload_n 0 dX12_areSets_32 rfl ?_
          refine x_get (v := rv (fR h x0 3332)) fdX12_864 dX12_areSets_33 g1 rfl ?_
          obtain ⟨g7, hq⟩ := hq
          obtain ⟨g8, g9, hq⟩ := hq
          refine x_callV (Yc := YX13_own) (as := []) (st := []) q4189 mvX13_own g7 rfl dX12_areSets_36 (xle (xal1 (rv_cat _) xal0) (by decide)) (xfr g8) (xlo xsw0 (by decide) g9) (xKr hq (fun x11 h10 hq e12 => ?_) (fun _ _ q _ => q))
          replace hq := hq e12
          refine x_aload_n 1 dX12_areSets_39 rfl ?_
          have t13 : tg h10 x1 = 14 := e12.tg g3 (by decide)
          refine x_get (v := rv (fR h10 x1 3332)) fdX12_864 dX12_areSets_40 t13 rfl ?_
          obtain ⟨g14, hq⟩ := hq
          obtain ⟨g15, g16, hq⟩ := hq
          refine x_callV (Yc := YX13_own) (as := []) (st := [rv x11]) q4189 mvX13_own g14 rfl dX12_areSets_43 (xle (xal1 (rv_cat _) xal0) (by decide)) (xfr g15) (xlo (xsw1 (rv_cat _) xsw0) (by decide) g16) (xKr hq (fun x18 h17 hq e19 => ?_) (fun _ _ q _ => q))
          replace hq := hq e19
          refine x_acmp_ne (tgt := 53) dX12_areSets_46 (by decide) (fun c20 => ?_) (fun c20 => ?_)
          · replace hq := hq.1 c20
            refine xP.pick (lv' := []) [] rfl ?_
            exact uX12_areSets_53 hq
          · replace hq := hq.2 c20
            refine xP.pick (lv' := []) [] rfl ?_
            exact uX12_areSets_49 hq
theorem rX12_areSets {G : xG} {fr lo : Nat} {x0 : Nat} {x1 : Nat} {h : xH} {Q : Outcome → xH → Prop} (hq : bX12_areSets G fr lo x0 x1 h Q) : xR G YX12_areSets fr lo [rv x0, rv x1] h Q := by
  show xP _ _ _ _ _ (lv_args 0 _) _ _ _
  rw [show lv_args 0 [rv x0, rv x1] = [(0, rv x0), (1, rv x1)] from (xla1 (rv_cat _) (xla1 (rv_cat _) xla0))]
  exact uX12_areSets hq
set_option maxRecDepth 100000 in
theorem dX12_isTag_0 : decode cX12_isTag 0 = .ok (.aload_n 0, 1) := by decide +kernel
set_option maxRecDepth 100000 in
theorem dX12_isTag_1 : decode cX12_isTag 1 = .ok (.getfield 73, 3) := by decide +kernel
set_option maxRecDepth 100000 in
theorem dX12_isTag_4 : decode cX12_isTag 4 = .ok (.iload_n 1, 1) := by decide +kernel
set_option maxRecDepth 100000 in
theorem dX12_isTag_5 : decode cX12_isTag 5 = .ok (.iaload, 1) := by decide +kernel
set_option maxRecDepth 100000 in
theorem dX12_isTag_6 : decode cX12_isTag 6 = .ok (.iconst (-1), 1) := by decide +kernel
set_option maxRecDepth 100000 in
theorem dX12_isTag_7 : decode cX12_isTag 7 = .ok (.if_icmp .ne 34, 3) := by decide +kernel
set_option maxRecDepth 100000 in
theorem dX12_isTag_10 : decode cX12_isTag 10 = .ok (.aload_n 0, 1) := by decide +kernel
set_option maxRecDepth 100000 in
theorem dX12_isTag_11 : decode cX12_isTag 11 = .ok (.getfield 102, 3) := by decide +kernel
set_option maxRecDepth 100000 in
theorem dX12_isTag_14 : decode cX12_isTag 14 = .ok (.iload_n 1, 1) := by decide +kernel
set_option maxRecDepth 100000 in
theorem dX12_isTag_15 : decode cX12_isTag 15 = .ok (.aaload, 1) := by decide +kernel
set_option maxRecDepth 100000 in
theorem dX12_isTag_16 : decode cX12_isTag 16 = .ok (.getfield 577, 3) := by decide +kernel
set_option maxRecDepth 100000 in
theorem dX12_isTag_19 : decode cX12_isTag 19 = .ok (.iconst 4, 1) := by decide +kernel
set_option maxRecDepth 100000 in
theorem dX12_isTag_20 : decode cX12_isTag 20 = .ok (.if_icmp .ne 19, 3) := by decide +kernel
set_option maxRecDepth 100000 in
theorem dX12_isTag_23 : decode cX12_isTag 23 = .ok (.aload_n 0, 1) := by decide +kernel
set_option maxRecDepth 100000 in
theorem dX12_isTag_24 : decode cX12_isTag 24 = .ok (.getfield 102, 3) := by decide +kernel
set_option maxRecDepth 100000 in
theorem dX12_isTag_27 : decode cX12_isTag 27 = .ok (.iload_n 1, 1) := by decide +kernel
set_option maxRecDepth 100000 in
theorem dX12_isTag_28 : decode cX12_isTag 28 = .ok (.aaload, 1) := by decide +kernel
set_option maxRecDepth 100000 in
theorem dX12_isTag_29 : decode cX12_isTag 29 = .ok (.getfield 911, 3) := by decide +kernel
set_option maxRecDepth 100000 in
theorem dX12_isTag_32 : decode cX12_isTag 32 = .ok (.ifnull 7, 3) := by decide +kernel
set_option maxRecDepth 100000 in
theorem dX12_isTag_35 : decode cX12_isTag 35 = .ok (.iconst 1, 1) := by decide +kernel
set_option maxRecDepth 100000 in
theorem dX12_isTag_36 : decode cX12_isTag 36 = .ok (.goto 4, 3) := by decide +kernel
set_option maxRecDepth 100000 in
theorem dX12_isTag_39 : decode cX12_isTag 39 = .ok (.iconst 0, 1) := by decide +kernel
set_option maxRecDepth 100000 in
theorem dX12_isTag_40 : decode cX12_isTag 40 = .ok (.ireturn, 1) := by decide +kernel
set_option maxRecDepth 100000 in
theorem dX12_isTag_41 : decode cX12_isTag 41 = .ok (.aload_n 0, 1) := by decide +kernel
set_option maxRecDepth 100000 in
theorem dX12_isTag_42 : decode cX12_isTag 42 = .ok (.getfield 67, 3) := by decide +kernel
set_option maxRecDepth 100000 in
theorem dX12_isTag_45 : decode cX12_isTag 45 = .ok (.aload_n 0, 1) := by decide +kernel
set_option maxRecDepth 100000 in
theorem dX12_isTag_46 : decode cX12_isTag 46 = .ok (.getfield 76, 3) := by decide +kernel
set_option maxRecDepth 100000 in
theorem dX12_isTag_49 : decode cX12_isTag 49 = .ok (.iload_n 1, 1) := by decide +kernel
set_option maxRecDepth 100000 in
theorem dX12_isTag_50 : decode cX12_isTag 50 = .ok (.iaload, 1) := by decide +kernel
set_option maxRecDepth 100000 in
theorem dX12_isTag_51 : decode cX12_isTag 51 = .ok (.iaload, 1) := by decide +kernel
set_option maxRecDepth 100000 in
theorem dX12_isTag_52 : decode cX12_isTag 52 = .ok (.bipush 64, 2) := by decide +kernel
set_option maxRecDepth 100000 in
theorem dX12_isTag_54 : decode cX12_isTag 54 = .ok (.if_icmp .ne 24, 3) := by decide +kernel
set_option maxRecDepth 100000 in
theorem dX12_isTag_57 : decode cX12_isTag 57 = .ok (.aload_n 0, 1) := by decide +kernel
set_option maxRecDepth 100000 in
theorem dX12_isTag_58 : decode cX12_isTag 58 = .ok (.getfield 102, 3) := by decide +kernel
set_option maxRecDepth 100000 in
theorem dX12_isTag_61 : decode cX12_isTag 61 = .ok (.aload_n 0, 1) := by decide +kernel
set_option maxRecDepth 100000 in
theorem dX12_isTag_62 : decode cX12_isTag 62 = .ok (.getfield 76, 3) := by decide +kernel
set_option maxRecDepth 100000 in
theorem dX12_isTag_65 : decode cX12_isTag 65 = .ok (.iload_n 1, 1) := by decide +kernel
set_option maxRecDepth 100000 in
theorem dX12_isTag_66 : decode cX12_isTag 66 = .ok (.iaload, 1) := by decide +kernel
set_option maxRecDepth 100000 in
theorem dX12_isTag_67 : decode cX12_isTag 67 = .ok (.aaload, 1) := by decide +kernel
set_option maxRecDepth 100000 in
theorem dX12_isTag_68 : decode cX12_isTag 68 = .ok (.getfield 911, 3) := by decide +kernel
set_option maxRecDepth 100000 in
theorem dX12_isTag_71 : decode cX12_isTag 71 = .ok (.ifnull 7, 3) := by decide +kernel
set_option maxRecDepth 100000 in
theorem dX12_isTag_74 : decode cX12_isTag 74 = .ok (.iconst 1, 1) := by decide +kernel
set_option maxRecDepth 100000 in
theorem dX12_isTag_75 : decode cX12_isTag 75 = .ok (.goto 4, 3) := by decide +kernel
set_option maxRecDepth 100000 in
theorem dX12_isTag_78 : decode cX12_isTag 78 = .ok (.iconst 0, 1) := by decide +kernel
set_option maxRecDepth 100000 in
theorem dX12_isTag_79 : decode cX12_isTag 79 = .ok (.ireturn, 1) := by decide +kernel
set_option maxRecDepth 100000 in
def bX12_isTag_79 (G : xG) (fr lo : Nat) (s0 : Int32) (h : xH) (Q : Outcome → xH → Prop) : Prop := xbz s0 ∧ Q (.returned (some (.int s0))) h
set_option maxRecDepth 100000 in
theorem uX12_isTag_79 {G : xG} {fr lo : Nat} {s0 : Int32} {h : xH} {Q : Outcome → xH → Prop} (hq : bX12_isTag_79 G fr lo s0 h Q) : xP G YX12_isTag fr lo 79 [] [.int s0] h Q := by
  unfold bX12_isTag_79 at hq
  obtain ⟨g1, hq⟩ := hq
  exact x_iret rfl (xnZ g1) dX12_isTag_79 hq
set_option maxRecDepth 100000 in
def bX12_isTag_78 (G : xG) (fr lo : Nat) (h : xH) (Q : Outcome → xH → Prop) : Prop := bX12_isTag_79 G fr lo 0 h Q
set_option maxRecDepth 100000 in
theorem uX12_isTag_78 {G : xG} {fr lo : Nat} {h : xH} {Q : Outcome → xH → Prop} (hq : bX12_isTag_78 G fr lo h Q) : xP G YX12_isTag fr lo 78 [] [] h Q := by
  unfold bX12_isTag_78 at hq
  refine x_iconst (v := 0) dX12_isTag_78 (by decide) ?_
  exact uX12_isTag_79 hq
set_option maxRecDepth 100000 in
def bX12_isTag_40 (G : xG) (fr lo : Nat) (s0 : Int32) (h : xH) (Q : Outcome → xH → Prop) : Prop := xbz s0 ∧ Q (.returned (some (.int s0))) h
set_option maxRecDepth 100000 in
theorem uX12_isTag_40 {G : xG} {fr lo : Nat} {s0 : Int32} {h : xH} {Q : Outcome → xH → Prop} (hq : bX12_isTag_40 G fr lo s0 h Q) : xP G YX12_isTag fr lo 40 [] [.int s0] h Q := by
  unfold bX12_isTag_40 at hq
  obtain ⟨g1, hq⟩ := hq
  exact x_iret rfl (xnZ g1) dX12_isTag_40 hq
set_option maxRecDepth 100000 in
def bX12_isTag_39 (G : xG) (fr lo : Nat) (h : xH) (Q : Outcome → xH → Prop) : Prop := bX12_isTag_40 G fr lo 0 h Q
set_option maxRecDepth 100000 in
theorem uX12_isTag_39 {G : xG} {fr lo : Nat} {h : xH} {Q : Outcome → xH → Prop} (hq : bX12_isTag_39 G fr lo h Q) : xP G YX12_isTag fr lo 39 [] [] h Q := by
  unfold bX12_isTag_39 at hq
  refine x_iconst (v := 0) dX12_isTag_39 (by decide) ?_
  exact uX12_isTag_40 hq
set_option maxRecDepth 100000 in
def bX12_isTag (G : xG) (fr lo : Nat) (x0 : Nat) (x1 : Int32) (h : xH) (Q : Outcome → xH → Prop) : Prop := tg h x0 = 13 ∧ tg h (fR h x0 3103) = 100 ∧ vp_in x1 (ln h (fR h x0 3103)) ∧ ((¬ (aI h (fR h x0 3103) (Int32.toNatClampNeg x1)) = (-1) → tg h (fR h x0 3104) = 100 ∧ vp_in x1 (ln h (fR h x0 3104)) ∧ tg h (fR h x0 3101) = 100 ∧ vp_in (aI h (fR h x0 3104) (Int32.toNatClampNeg x1)) (ln h (fR h x0 3101)) ∧ ((¬ (aI h (fR h x0 3101) (Int32.toNatClampNeg (aI h (fR h x0 3104) (Int32.toNatClampNeg x1)))) = 64 → bX12_isTag_78 G fr lo h Q) ∧ ((aI h (fR h x0 3101) (Int32.toNatClampNeg (aI h (fR h x0 3104) (Int32.toNatClampNeg x1)))) = 64 → vp_in x1 (ln h (fR h x0 3104)) ∧ tg h (fR h x0 3114) = 109 ∧ vp_in (aI h (fR h x0 3104) (Int32.toNatClampNeg x1)) (ln h (fR h x0 3114)) ∧ tg h (aR h (fR h x0 3114) (Int32.toNatClampNeg (aI h (fR h x0 3104) (Int32.toNatClampNeg x1)))) = 24 ∧ (((fR h (aR h (fR h x0 3114) (Int32.toNatClampNeg (aI h (fR h x0 3104) (Int32.toNatClampNeg x1)))) 5901) = 0 → bX12_isTag_78 G fr lo h Q) ∧ (¬ (fR h (aR h (fR h x0 3114) (Int32.toNatClampNeg (aI h (fR h x0 3104) (Int32.toNatClampNeg x1)))) 5901) = 0 → bX12_isTag_79 G fr lo 1 h Q))))) ∧ ((aI h (fR h x0 3103) (Int32.toNatClampNeg x1)) = (-1) → tg h (fR h x0 3114) = 109 ∧ vp_in x1 (ln h (fR h x0 3114)) ∧ tg h (aR h (fR h x0 3114) (Int32.toNatClampNeg x1)) = 24 ∧ ((¬ (fI h (aR h (fR h x0 3114) (Int32.toNatClampNeg x1)) 5888) = 4 → bX12_isTag_39 G fr lo h Q) ∧ ((fI h (aR h (fR h x0 3114) (Int32.toNatClampNeg x1)) 5888) = 4 → vp_in x1 (ln h (fR h x0 3114)) ∧ (((fR h (aR h (fR h x0 3114) (Int32.toNatClampNeg x1)) 5901) = 0 → bX12_isTag_39 G fr lo h Q) ∧ (¬ (fR h (aR h (fR h x0 3114) (Int32.toNatClampNeg x1)) 5901) = 0 → bX12_isTag_40 G fr lo 1 h Q))))))
set_option maxRecDepth 100000 in
theorem uX12_isTag {G : xG} {fr lo : Nat} {x0 : Nat} {x1 : Int32} {h : xH} {Q : Outcome → xH → Prop} (hq : bX12_isTag G fr lo x0 x1 h Q) : xP G YX12_isTag fr lo 0 [(0, rv x0), (1, .int x1)] [] h Q := by
  unfold bX12_isTag at hq
  refine x_aload_n 0 dX12_isTag_0 rfl ?_
  obtain ⟨g1, hq⟩ := hq
  refine x_get (v := rv (fR h x0 3103)) fdX12_73 dX12_isTag_1 g1 rfl ?_
  refine x_iload_n 1 dX12_isTag_4 rfl ?_
  obtain ⟨g2, hq⟩ := hq
  obtain ⟨i3, hq⟩ := hq
  refine x_iald 0 (Or.inl rfl) g2 i3 dX12_isTag_5 ?_
  refine x_iconst (v := (-1)) dX12_isTag_6 (by decide) ?_
  refine x_icmp_ne (tgt := 41) dX12_isTag_7 (by decide) (fun c4 => ?_) (fun c4 => ?_)
  · replace hq := hq.1 c4
    refine x_aload_n 0 dX12_isTag_41 rfl ?_
    refine x_get (v := rv (fR h x0 3101)) fdX12_67 dX12_isTag_42 g1 rfl ?_
    refine x_aload_n 0 dX12_isTag_45 rfl ?_
    refine x_get (v := rv (fR h x0 3104)) fdX12_76 dX12_isTag_46 g1 rfl ?_
    refine x_iload_n 1 dX12_isTag_49 rfl ?_
    obtain ⟨g5, hq⟩ := hq
    obtain ⟨i6, hq⟩ := hq
    refine x_iald 0 (Or.inl rfl) g5 i6 dX12_isTag_50 ?_
    obtain ⟨g7, hq⟩ := hq
    obtain ⟨i8, hq⟩ := hq
    refine x_iald 0 (Or.inl rfl) g7 i8 dX12_isTag_51 ?_
    refine x_bipush (v := 64) dX12_isTag_52 (by decide) ?_
    refine x_icmp_ne (tgt := 78) dX12_isTag_54 (by decide) (fun c9 => ?_) (fun c9 => ?_)
    · replace hq := hq.1 c9
      refine xP.pick (lv' := []) [] rfl ?_
      exact uX12_isTag_78 hq
    · replace hq := hq.2 c9
      refine x_aload_n 0 dX12_isTag_57 rfl ?_
      refine x_get (v := rv (fR h x0 3114)) fdX12_102 dX12_isTag_58 g1 rfl ?_
      refine x_aload_n 0 dX12_isTag_61 rfl ?_
      refine x_get (v := rv (fR h x0 3104)) fdX12_76 dX12_isTag_62 g1 rfl ?_
      refine x_iload_n 1 dX12_isTag_65 rfl ?_
      obtain ⟨i10, hq⟩ := hq
      refine x_iald 0 (Or.inl rfl) g5 i10 dX12_isTag_66 ?_
      obtain ⟨g11, hq⟩ := hq
      obtain ⟨i12, hq⟩ := hq
      refine x_aald 9 rfl g11 (by decide) i12 dX12_isTag_67 ?_
      obtain ⟨g13, hq⟩ := hq
      refine x_get (v := rv (fR h (aR h (fR h x0 3114) (Int32.toNatClampNeg (aI h (fR h x0 3104) (Int32.toNatClampNeg x1)))) 5901)) fdX12_911 dX12_isTag_68 g13 rfl ?_
      refine x_ifnull (tgt := 78) dX12_isTag_71 (by decide) (fun c14 => ?_) (fun c14 => ?_)
      · replace hq := hq.1 c14
        refine xP.pick (lv' := []) [] rfl ?_
        exact uX12_isTag_78 hq
      · replace hq := hq.2 c14
        refine x_iconst (v := 1) dX12_isTag_74 (by decide) ?_
        refine x_goto (tgt := 79) dX12_isTag_75 (by decide) ?_
        refine xP.pick (lv' := []) [] rfl ?_
        exact uX12_isTag_79 hq
  · replace hq := hq.2 c4
    refine x_aload_n 0 dX12_isTag_10 rfl ?_
    refine x_get (v := rv (fR h x0 3114)) fdX12_102 dX12_isTag_11 g1 rfl ?_
    refine x_iload_n 1 dX12_isTag_14 rfl ?_
    obtain ⟨g15, hq⟩ := hq
    obtain ⟨i16, hq⟩ := hq
    refine x_aald 9 rfl g15 (by decide) i16 dX12_isTag_15 ?_
    obtain ⟨g17, hq⟩ := hq
    refine x_get (v := .int (fI h (aR h (fR h x0 3114) (Int32.toNatClampNeg x1)) 5888)) fdX12_577 dX12_isTag_16 g17 rfl ?_
    refine x_iconst (v := 4) dX12_isTag_19 (by decide) ?_
    refine x_icmp_ne (tgt := 39) dX12_isTag_20 (by decide) (fun c18 => ?_) (fun c18 => ?_)
    · replace hq := hq.1 c18
      refine xP.pick (lv' := []) [] rfl ?_
      exact uX12_isTag_39 hq
    · replace hq := hq.2 c18
      refine x_aload_n 0 dX12_isTag_23 rfl ?_
      refine x_get (v := rv (fR h x0 3114)) fdX12_102 dX12_isTag_24 g1 rfl ?_
      refine x_iload_n 1 dX12_isTag_27 rfl ?_
      obtain ⟨i19, hq⟩ := hq
      refine x_aald 9 rfl g15 (by decide) i19 dX12_isTag_28 ?_
      refine x_get (v := rv (fR h (aR h (fR h x0 3114) (Int32.toNatClampNeg x1)) 5901)) fdX12_911 dX12_isTag_29 g17 rfl ?_
      refine x_ifnull (tgt := 39) dX12_isTag_32 (by decide) (fun c20 => ?_) (fun c20 => ?_)
      · replace hq := hq.1 c20
        refine xP.pick (lv' := []) [] rfl ?_
        exact uX12_isTag_39 hq
      · replace hq := hq.2 c20
        refine x_iconst (v := 1) dX12_isTag_35 (by decide) ?_
        refine x_goto (tgt := 40) dX12_isTag_36 (by decide) ?_
        refine xP.pick (lv' := []) [] rfl ?_
        exact uX12_isTag_40 hq
theorem rX12_isTag {G : xG} {fr lo : Nat} {x0 : Nat} {x1 : Int32} {h : xH} {Q : Outcome → xH → Prop} (hq : bX12_isTag G fr lo x0 x1 h Q) : xR G YX12_isTag fr lo [rv x0, .int x1] h Q := by
  show xP _ _ _ _ _ (lv_args 0 _) _ _ _
  rw [show lv_args 0 [rv x0, .int x1] = [(0, rv x0), (1, .int x1)] from (xla1 (rv_cat _) (xla1 rfl xla0))]
  exact uX12_isTag hq
set_option maxRecDepth 100000 in
theorem dX12_threaten_0 : decode cX12_threaten 0 = .ok (.aload_n 1, 1) := by decide +kernel
set_option maxRecDepth 100000 in
theorem dX12_threaten_1 : decode cX12_threaten 1 = .ok (.getfield 577, 3) := by decide +kernel
set_option maxRecDepth 100000 in
theorem dX12_threaten_4 : decode cX12_threaten 4 = .ok (.iconst 3, 1) := by decide +kernel
set_option maxRecDepth 100000 in
theorem dX12_threaten_5 : decode cX12_threaten 5 = .ok (.if_icmp .eq 4, 3) := by decide +kernel
set_option maxRecDepth 100000 in
theorem dX12_threaten_8 : decode cX12_threaten 8 = .ok (.return_, 1) := by decide +kernel
set_option maxRecDepth 100000 in
theorem dX12_threaten_9 : decode cX12_threaten 9 = .ok (.aload_n 0, 1) := by decide +kernel
set_option maxRecDepth 100000 in
theorem dX12_threaten_10 : decode cX12_threaten 10 = .ok (.aload_n 1, 1) := by decide +kernel
set_option maxRecDepth 100000 in
theorem dX12_threaten_11 : decode cX12_threaten 11 = .ok (.invokevirtual 995, 3) := by decide +kernel
set_option maxRecDepth 100000 in
theorem dX12_threaten_14 : decode cX12_threaten 14 = .ok (.ifCond .eq 10, 3) := by decide +kernel
set_option maxRecDepth 100000 in
theorem dX12_threaten_17 : decode cX12_threaten 17 = .ok (.aload_n 0, 1) := by decide +kernel
set_option maxRecDepth 100000 in
theorem dX12_threaten_18 : decode cX12_threaten 18 = .ok (.bipush 11, 2) := by decide +kernel
set_option maxRecDepth 100000 in
theorem dX12_threaten_20 : decode cX12_threaten 20 = .ok (.iload_n 2, 1) := by decide +kernel
set_option maxRecDepth 100000 in
theorem dX12_threaten_21 : decode cX12_threaten 21 = .ok (.invokevirtual 570, 3) := by decide +kernel
set_option maxRecDepth 100000 in
theorem dX12_threaten_24 : decode cX12_threaten 24 = .ok (.aload_n 0, 1) := by decide +kernel
set_option maxRecDepth 100000 in
theorem dX12_threaten_25 : decode cX12_threaten 25 = .ok (.invokevirtual 702, 3) := by decide +kernel
set_option maxRecDepth 100000 in
theorem dX12_threaten_28 : decode cX12_threaten 28 = .ok (.aload_n 1, 1) := by decide +kernel
set_option maxRecDepth 100000 in
theorem dX12_threaten_29 : decode cX12_threaten 29 = .ok (.getfield 705, 3) := by decide +kernel
set_option maxRecDepth 100000 in
theorem dX12_threaten_32 : decode cX12_threaten 32 = .ok (.if_icmp .le 8, 3) := by decide +kernel
set_option maxRecDepth 100000 in
theorem dX12_threaten_35 : decode cX12_threaten 35 = .ok (.aload_n 1, 1) := by decide +kernel
set_option maxRecDepth 100000 in
theorem dX12_threaten_36 : decode cX12_threaten 36 = .ok (.iconst 1, 1) := by decide +kernel
set_option maxRecDepth 100000 in
theorem dX12_threaten_37 : decode cX12_threaten 37 = .ok (.putfield 992, 3) := by decide +kernel
set_option maxRecDepth 100000 in
theorem dX12_threaten_40 : decode cX12_threaten 40 = .ok (.return_, 1) := by decide +kernel
set_option maxRecDepth 100000 in
def bX12_threaten_40 (G : xG) (fr lo : Nat) (h : xH) (Q : Outcome → xH → Prop) : Prop := Q (.returned none) h
set_option maxRecDepth 100000 in
theorem uX12_threaten_40 {G : xG} {fr lo : Nat} {h : xH} {Q : Outcome → xH → Prop} (hq : bX12_threaten_40 G fr lo h Q) : xP G YX12_threaten fr lo 40 [] [] h Q := by
  unfold bX12_threaten_40 at hq
  exact x_vret rfl dX12_threaten_40 hq
set_option maxRecDepth 100000 in
def bX12_threaten_24 (G : xG) (fr lo : Nat) (x0 : Nat) (x1 : Nat) (h : xH) (Q : Outcome → xH → Prop) : Prop := tg h x0 = 13 ∧ 1 ≤ fr ∧ 12 ≤ lo ∧ xRi G YX12_level (fr - 1) (lo - 12) [rv x0] h (fun x5 h4 => xext h h4 → tg h4 x1 = 24 ∧ ((x5 ≤ (fI h4 x1 5893) → bX12_threaten_40 G fr lo h4 Q) ∧ (¬ x5 ≤ (fI h4 x1 5893) → (∀ h9 : xH, h9 = sI h4 x1 5899 1 → bX12_threaten_40 G fr lo h9 Q)))) (fun r h2 => Q (.threw r) h2)
set_option maxRecDepth 100000 in
theorem uX12_threaten_24 {G : xG} {fr lo : Nat} {x0 : Nat} {x1 : Nat} {h : xH} {Q : Outcome → xH → Prop} (hq : bX12_threaten_24 G fr lo x0 x1 h Q) : xP G YX12_threaten fr lo 24 [(0, rv x0), (1, rv x1)] [] h Q := by
  unfold bX12_threaten_24 at hq
  refine x_aload_n 0 dX12_threaten_24 rfl ?_
  obtain ⟨g1, hq⟩ := hq
  obtain ⟨g2, g3, hq⟩ := hq
  refine x_callV (Yc := YX12_level) (as := []) (st := []) q4118 mvX12_level g1 rfl dX12_threaten_25 (xle (xal1 (rv_cat _) xal0) (by decide)) (xfr g2) (xlo xsw0 (by decide) g3) (xKi hq (fun x5 h4 hq e6 => ?_) (fun _ _ q _ => q))
  replace hq := hq e6
  refine x_aload_n 1 dX12_threaten_28 rfl ?_
  obtain ⟨g7, hq⟩ := hq
  refine x_get (v := .int (fI h4 x1 5893)) fdX12_705 dX12_threaten_29 g7 rfl ?_
  refine x_icmp_le (tgt := 40) dX12_threaten_32 (by decide) (fun c8 => ?_) (fun c8 => ?_)
  · replace hq := hq.1 c8
    refine xP.pick (lv' := []) [] rfl ?_
    exact uX12_threaten_40 hq
  · replace hq := hq.2 c8
    refine x_aload_n 1 dX12_threaten_35 rfl ?_
    refine x_iconst (v := 1) dX12_threaten_36 (by decide) ?_
    obtain ⟨h9, e10⟩ : ∃ y, y = sI h4 x1 5899 1 := ⟨_, rfl⟩
    replace hq := hq h9 e10
    refine x_putI fdX12_992 xty_Z1 dX12_threaten_37 g7 (Or.inl (by rw [g7]; rfl)) (xnB (Or.inr rfl)) rfl e10 ?_
    refine xP.pick (lv' := []) [] rfl ?_
    exact uX12_threaten_40 hq
set_option maxRecDepth 100000 in
def bX12_threaten (G : xG) (fr lo : Nat) (x0 : Nat) (x1 : Nat) (x2 : Int32) (h : xH) (Q : Outcome → xH → Prop) : Prop := tg h x1 = 24 ∧ (((fI h x1 5888) = 3 → tg h x0 = 13 ∧ 1 ≤ fr ∧ 15 ≤ lo ∧ xRi G YX12_isControlled (fr - 1) (lo - 15) [rv x0, rv x1] h (fun x7 h6 => xext h h6 → ((x7 = 0 → bX12_threaten_24 G fr lo x0 x1 h6 Q) ∧ (¬ x7 = 0 → 1 ≤ fr ∧ 14 ≤ lo ∧ xRv G YX12_refuse (fr - 1) (lo - 14) [rv x0, .int 11, .int x2] h6 (fun h13 => xext h6 h13 → bX12_threaten_24 G fr lo x0 x1 h13 Q) (fun r h2 => Q (.threw r) h2)))) (fun r h2 => Q (.threw r) h2)) ∧ (¬ (fI h x1 5888) = 3 → Q (.returned none) h))
set_option maxRecDepth 100000 in
theorem uX12_threaten {G : xG} {fr lo : Nat} {x0 : Nat} {x1 : Nat} {x2 : Int32} {h : xH} {Q : Outcome → xH → Prop} (hq : bX12_threaten G fr lo x0 x1 x2 h Q) : xP G YX12_threaten fr lo 0 [(0, rv x0), (1, rv x1), (2, .int x2)] [] h Q := by
  unfold bX12_threaten at hq
  refine x_aload_n 1 dX12_threaten_0 rfl ?_
  obtain ⟨g1, hq⟩ := hq
  refine x_get (v := .int (fI h x1 5888)) fdX12_577 dX12_threaten_1 g1 rfl ?_
  refine x_iconst (v := 3) dX12_threaten_4 (by decide) ?_
  refine x_icmp_eq (tgt := 9) dX12_threaten_5 (by decide) (fun c2 => ?_) (fun c2 => ?_)
  · replace hq := hq.1 c2
    refine x_aload_n 0 dX12_threaten_9 rfl ?_
    refine x_aload_n 1 dX12_threaten_10 rfl ?_
    obtain ⟨g3, hq⟩ := hq
    obtain ⟨g4, g5, hq⟩ := hq
    refine x_callV (Yc := YX12_isControlled) (as := [rv x1]) (st := []) q4393 mvX12_isControlled g3 rfl dX12_threaten_11 (xle (xal1 (rv_cat _) (xal1 (rv_cat _) xal0)) (by decide)) (xfr g4) (xlo xsw0 (by decide) g5) (xKi hq (fun x7 h6 hq e8 => ?_) (fun _ _ q _ => q))
    replace hq := hq e8
    refine x_if_eq (tgt := 24) dX12_threaten_14 (by decide) (fun c9 => ?_) (fun c9 => ?_)
    · replace hq := hq.1 c9
      refine xP.pick (lv' := [(0, rv x0), (1, rv x1)]) [0, 1] rfl ?_
      exact uX12_threaten_24 hq
    · replace hq := hq.2 c9
      refine x_aload_n 0 dX12_threaten_17 rfl ?_
      refine x_bipush (v := 11) dX12_threaten_18 (by decide) ?_
      refine x_iload_n 2 dX12_threaten_20 rfl ?_
      have t10 : tg h6 x0 = 13 := e8.tg g3 (by decide)
      obtain ⟨g11, g12, hq⟩ := hq
      refine x_callV (Yc := YX12_refuse) (as := [.int 11, .int x2]) (st := []) q4095 mvX12_refuse t10 rfl dX12_threaten_21 (xle (xal1 (rv_cat _) (xal1 rfl (xal1 rfl xal0))) (by decide)) (xfr g11) (xlo xsw0 (by decide) g12) (xKv hq (fun h13 hq e15 => ?_) (fun _ _ q _ => q))
      replace hq := hq e15
      refine xP.pick (lv' := [(0, rv x0), (1, rv x1)]) [0, 1] rfl ?_
      exact uX12_threaten_24 hq
  · replace hq := hq.2 c2
    exact x_vret rfl dX12_threaten_8 hq
theorem rX12_threaten {G : xG} {fr lo : Nat} {x0 : Nat} {x1 : Nat} {x2 : Int32} {h : xH} {Q : Outcome → xH → Prop} (hq : bX12_threaten G fr lo x0 x1 x2 h Q) : xR G YX12_threaten fr lo [rv x0, rv x1, .int x2] h Q := by
  show xP _ _ _ _ _ (lv_args 0 _) _ _ _
  rw [show lv_args 0 [rv x0, rv x1, .int x2] = [(0, rv x0), (1, rv x1), (2, .int x2)] from (xla1 (rv_cat _) (xla1 (rv_cat _) (xla1 rfl xla0)))]
  exact uX12_threaten hq
set_option maxRecDepth 100000 in
theorem dX12_isControlled_0 : decode cX12_isControlled 0 = .ok (.iconst 0, 1) := by decide +kernel
set_option maxRecDepth 100000 in
theorem dX12_isControlled_1 : decode cX12_isControlled 1 = .ok (.istore_n 2, 1) := by decide +kernel
set_option maxRecDepth 100000 in
theorem dX12_isControlled_2 : decode cX12_isControlled 2 = .ok (.iconst 0, 1) := by decide +kernel
set_option maxRecDepth 100000 in
theorem dX12_isControlled_3 : decode cX12_isControlled 3 = .ok (.istore_n 3, 1) := by decide +kernel
set_option maxRecDepth 100000 in
theorem dX12_isControlled_4 : decode cX12_isControlled 4 = .ok (.iload_n 3, 1) := by decide +kernel
set_option maxRecDepth 100000 in
theorem dX12_isControlled_5 : decode cX12_isControlled 5 = .ok (.aload_n 0, 1) := by decide +kernel
set_option maxRecDepth 100000 in
theorem dX12_isControlled_6 : decode cX12_isControlled 6 = .ok (.getfield 144, 3) := by decide +kernel
set_option maxRecDepth 100000 in
theorem dX12_isControlled_9 : decode cX12_isControlled 9 = .ok (.invokevirtual 554, 3) := by decide +kernel
set_option maxRecDepth 100000 in
theorem dX12_isControlled_12 : decode cX12_isControlled 12 = .ok (.if_icmp .ge 31, 3) := by decide +kernel
set_option maxRecDepth 100000 in
theorem dX12_isControlled_15 : decode cX12_isControlled 15 = .ok (.iload_n 2, 1) := by decide +kernel
set_option maxRecDepth 100000 in
theorem dX12_isControlled_16 : decode cX12_isControlled 16 = .ok (.ifCond .ne 15, 3) := by decide +kernel
set_option maxRecDepth 100000 in
theorem dX12_isControlled_19 : decode cX12_isControlled 19 = .ok (.aload_n 0, 1) := by decide +kernel
set_option maxRecDepth 100000 in
theorem dX12_isControlled_20 : decode cX12_isControlled 20 = .ok (.getfield 144, 3) := by decide +kernel
set_option maxRecDepth 100000 in
theorem dX12_isControlled_23 : decode cX12_isControlled 23 = .ok (.iload_n 3, 1) := by decide +kernel
set_option maxRecDepth 100000 in
theorem dX12_isControlled_24 : decode cX12_isControlled 24 = .ok (.invokevirtual 556, 3) := by decide +kernel
set_option maxRecDepth 100000 in
theorem dX12_isControlled_27 : decode cX12_isControlled 27 = .ok (.aload_n 1, 1) := by decide +kernel
set_option maxRecDepth 100000 in
theorem dX12_isControlled_28 : decode cX12_isControlled 28 = .ok (.if_acmp .ne 7, 3) := by decide +kernel
set_option maxRecDepth 100000 in
theorem dX12_isControlled_31 : decode cX12_isControlled 31 = .ok (.iconst 1, 1) := by decide +kernel
set_option maxRecDepth 100000 in
theorem dX12_isControlled_32 : decode cX12_isControlled 32 = .ok (.goto 4, 3) := by decide +kernel
set_option maxRecDepth 100000 in
theorem dX12_isControlled_35 : decode cX12_isControlled 35 = .ok (.iconst 0, 1) := by decide +kernel
set_option maxRecDepth 100000 in
theorem dX12_isControlled_36 : decode cX12_isControlled 36 = .ok (.istore_n 2, 1) := by decide +kernel
set_option maxRecDepth 100000 in
theorem dX12_isControlled_37 : decode cX12_isControlled 37 = .ok (.iinc 3 1, 3) := by decide +kernel
set_option maxRecDepth 100000 in
theorem dX12_isControlled_40 : decode cX12_isControlled 40 = .ok (.goto (-36), 3) := by decide +kernel
set_option maxRecDepth 100000 in
theorem dX12_isControlled_43 : decode cX12_isControlled 43 = .ok (.iload_n 2, 1) := by decide +kernel
set_option maxRecDepth 100000 in
theorem dX12_isControlled_44 : decode cX12_isControlled 44 = .ok (.ireturn, 1) := by decide +kernel
def lX12_isControlled_4 (G : xG) (fr lo : Nat) (x0 : Nat) (x1 : Nat) (x2 : Int32) (x3 : Int32) (h : xH) (Q : Outcome → xH → Prop) : Prop := xP G YX12_isControlled fr lo 4 [(0, rv x0), (1, rv x1), (2, .int x2), (3, .int x3)] [] h Q
set_option maxRecDepth 100000 in
def bX12_isControlled_36 (G : xG) (fr lo : Nat) (x0 : Nat) (x1 : Nat) (x3 : Int32) (s0 : Int32) (h : xH) (Q : Outcome → xH → Prop) : Prop := lX12_isControlled_4 G fr lo x0 x1 s0 (x3 + 1) h Q
set_option maxRecDepth 100000 in
theorem uX12_isControlled_36 {G : xG} {fr lo : Nat} {x0 : Nat} {x1 : Nat} {x3 : Int32} {s0 : Int32} {h : xH} {Q : Outcome → xH → Prop} (hq : bX12_isControlled_36 G fr lo x0 x1 x3 s0 h Q) : xP G YX12_isControlled fr lo 36 [(0, rv x0), (1, rv x1), (3, .int x3)] [.int s0] h Q := by
  unfold bX12_isControlled_36 at hq
  refine x_istore_n (lv' := [(2, .int s0), (0, rv x0), (1, rv x1), (3, .int x3)]) dX12_isControlled_36 (by decide) (by first | rfl | (simp [rv_cat, Value.category]; done) | (simp [rv_cat, Value.category]; decide)) ?_
  refine x_iinc (lv' := [(3, .int (x3 + 1)), (2, .int s0), (0, rv x0), (1, rv x1)]) 3 dX12_isControlled_37 rfl (by decide) rfl ?_
  refine x_goto (tgt := 4) dX12_isControlled_40 (by decide) ?_
  refine xP.pick (lv' := [(0, rv x0), (1, rv x1), (2, .int s0), (3, .int (x3 + 1))]) [2, 3, 1, 0] rfl ?_
  exact hq
set_option maxRecDepth 100000 in
def bX12_isControlled_31 (G : xG) (fr lo : Nat) (x0 : Nat) (x1 : Nat) (x3 : Int32) (h : xH) (Q : Outcome → xH → Prop) : Prop := bX12_isControlled_36 G fr lo x0 x1 x3 1 h Q
set_option maxRecDepth 100000 in
theorem uX12_isControlled_31 {G : xG} {fr lo : Nat} {x0 : Nat} {x1 : Nat} {x3 : Int32} {h : xH} {Q : Outcome → xH → Prop} (hq : bX12_isControlled_31 G fr lo x0 x1 x3 h Q) : xP G YX12_isControlled fr lo 31 [(0, rv x0), (1, rv x1), (3, .int x3)] [] h Q := by
  unfold bX12_isControlled_31 at hq
  refine x_iconst (v := 1) dX12_isControlled_31 (by decide) ?_
  refine x_goto (tgt := 36) dX12_isControlled_32 (by decide) ?_
  exact uX12_isControlled_36 hq
set_option maxRecDepth 100000 in
def bX12_isControlled_4 (G : xG) (fr lo : Nat) (x0 : Nat) (x1 : Nat) (x2 : Int32) (x3 : Int32) (h : xH) (Q : Outcome → xH → Prop) : Prop := tg h x0 = 13 ∧ tg h (fR h x0 3127) = 29 ∧ 1 ≤ fr ∧ 13 ≤ lo ∧ xRi G YJ2_size (fr - 1) (lo - 13) [rv (fR h x0 3127)] h (fun x6 h5 => xext h h5 → ((x6 ≤ x3 → xbz x2 ∧ Q (.returned (some (.int x2))) h5) ∧ (¬ x6 ≤ x3 → ((¬ x2 = 0 → bX12_isControlled_31 G fr lo x0 x1 x3 h5 Q) ∧ (x2 = 0 → tg h5 (fR h5 x0 3127) = 29 ∧ 1 ≤ fr ∧ 13 ≤ lo ∧ xRr G YJ2_get (fr - 1) (lo - 13) [rv (fR h5 x0 3127), .int x3] h5 (fun x16 h15 => xext h5 h15 → ((¬ x16 = x1 → bX12_isControlled_36 G fr lo x0 x1 x3 0 h15 Q) ∧ (x16 = x1 → bX12_isControlled_31 G fr lo x0 x1 x3 h15 Q))) (fun r h2 => Q (.threw r) h2)))))) (fun r h2 => Q (.threw r) h2)
set_option maxRecDepth 100000 in
theorem uX12_isControlled_4 {G : xG} {fr lo : Nat} {x0 : Nat} {x1 : Nat} {x2 : Int32} {x3 : Int32} {h : xH} {Q : Outcome → xH → Prop} (hq : bX12_isControlled_4 G fr lo x0 x1 x2 x3 h Q) : xP G YX12_isControlled fr lo 4 [(0, rv x0), (1, rv x1), (2, .int x2), (3, .int x3)] [] h Q := by
  unfold bX12_isControlled_4 at hq
  refine x_iload_n 3 dX12_isControlled_4 rfl ?_
  refine x_aload_n 0 dX12_isControlled_5 rfl ?_
  obtain ⟨g1, hq⟩ := hq
  refine x_get (v := rv (fR h x0 3127)) fdX12_144 dX12_isControlled_6 g1 rfl ?_
  obtain ⟨g2, hq⟩ := hq
  obtain ⟨g3, g4, hq⟩ := hq
  refine x_callV (Yc := YJ2_size) (as := []) (st := [.int x3]) q4067 mvJ2_size g2 rfl dX12_isControlled_9 (xle (xal1 (rv_cat _) xal0) (by decide)) (xfr g3) (xlo (xsw1 rfl xsw0) (by decide) g4) (xKi hq (fun x6 h5 hq e7 => ?_) (fun _ _ q _ => q))
  replace hq := hq e7
  refine x_icmp_ge (tgt := 43) dX12_isControlled_12 (by decide) (fun c8 => ?_) (fun c8 => ?_)
  · replace hq := hq.1 c8
    refine x_iload_n 2 dX12_isControlled_43 rfl ?_
    obtain ⟨g9, hq⟩ := hq
    exact x_iret rfl (xnZ g9) dX12_isControlled_44 hq
  · replace hq := hq.2 c8
    refine x_iload_n 2 dX12_isControlled_15 rfl ?_
    refine x_if_ne (tgt := 31) dX12_isControlled_16 (by decide) (fun c10 => ?_) (fun c10 => ?_)
    · replace hq := hq.1 c10
      refine xP.pick (lv' := [(0, rv x0), (1, rv x1), (3, .int x3)]) [0, 1, 3] rfl ?_
      exact uX12_isControlled_31 hq
    · replace hq := hq.2 c10
      refine x_aload_n 0 dX12_isControlled_19 rfl ?_
      have t11 : tg h5 x0 = 13 := e7.tg g1 (by decide)
      refine x_get (v := rv (fR h5 x0 3127)) fdX12_144 dX12_isControlled_20 t11 rfl ?_
      refine x_iload_n 3 dX12_isControlled_23 rfl ?_
      obtain ⟨g12, hq⟩ := hq
      obtain ⟨g13, g14, hq⟩ := hq
      refine x_callV (Yc := YJ2_get) (as := [.int x3]) (st := []) q4109 mvJ2_get g12 rfl dX12_isControlled_24 (xle (xal1 (rv_cat _) (xal1 rfl xal0)) (by decide)) (xfr g13) (xlo xsw0 (by decide) g14) (xKr hq (fun x16 h15 hq e17 => ?_) (fun _ _ q _ => q))
      replace hq := hq e17
      refine x_aload_n 1 dX12_isControlled_27 rfl ?_
      refine x_acmp_ne (tgt := 35) dX12_isControlled_28 (by decide) (fun c18 => ?_) (fun c18 => ?_)
      · replace hq := hq.1 c18
        refine x_iconst (v := 0) dX12_isControlled_35 (by decide) ?_
        refine xP.pick (lv' := [(0, rv x0), (1, rv x1), (3, .int x3)]) [0, 1, 3] rfl ?_
        exact uX12_isControlled_36 hq
      · replace hq := hq.2 c18
        refine xP.pick (lv' := [(0, rv x0), (1, rv x1), (3, .int x3)]) [0, 1, 3] rfl ?_
        exact uX12_isControlled_31 hq
set_option maxRecDepth 100000 in
def bX12_isControlled (G : xG) (fr lo : Nat) (x0 : Nat) (x1 : Nat) (h : xH) (Q : Outcome → xH → Prop) : Prop := lX12_isControlled_4 G fr lo x0 x1 0 0 h Q
set_option maxRecDepth 100000 in
theorem uX12_isControlled {G : xG} {fr lo : Nat} {x0 : Nat} {x1 : Nat} {h : xH} {Q : Outcome → xH → Prop} (hq : bX12_isControlled G fr lo x0 x1 h Q) : xP G YX12_isControlled fr lo 0 [(0, rv x0), (1, rv x1)] [] h Q := by
  unfold bX12_isControlled at hq
  refine x_iconst (v := 0) dX12_isControlled_0 (by decide) ?_
  refine x_istore_n (lv' := [(2, .int 0), (0, rv x0), (1, rv x1)]) dX12_isControlled_1 (by decide) (by first | rfl | (simp [rv_cat, Value.category]; done) | (simp [rv_cat, Value.category]; decide)) ?_
  refine x_iconst (v := 0) dX12_isControlled_2 (by decide) ?_
  refine x_istore_n (lv' := [(3, .int 0), (2, .int 0), (0, rv x0), (1, rv x1)]) dX12_isControlled_3 (by decide) rfl ?_
  refine xP.pick (lv' := [(0, rv x0), (1, rv x1), (2, .int 0), (3, .int 0)]) [2, 3, 1, 0] rfl ?_
  exact hq
theorem rX12_isControlled {G : xG} {fr lo : Nat} {x0 : Nat} {x1 : Nat} {h : xH} {Q : Outcome → xH → Prop} (hq : bX12_isControlled G fr lo x0 x1 h Q) : xR G YX12_isControlled fr lo [rv x0, rv x1] h Q := by
  show xP _ _ _ _ _ (lv_args 0 _) _ _ _
  rw [show lv_args 0 [rv x0, rv x1] = [(0, rv x0), (1, rv x1)] from (xla1 (rv_cat _) (xla1 (rv_cat _) xla0))]
  exact uX12_isControlled hq
set_option maxRecDepth 100000 in
theorem dX12_nameType_0 : decode cX12_nameType 0 = .ok (.aload_n 0, 1) := by decide +kernel
set_option maxRecDepth 100000 in
theorem dX12_nameType_1 : decode cX12_nameType 1 = .ok (.getfield 73, 3) := by decide +kernel
set_option maxRecDepth 100000 in
theorem dX12_nameType_4 : decode cX12_nameType 4 = .ok (.iload_n 1, 1) := by decide +kernel
set_option maxRecDepth 100000 in
theorem dX12_nameType_5 : decode cX12_nameType 5 = .ok (.iaload, 1) := by decide +kernel
set_option maxRecDepth 100000 in
theorem dX12_nameType_6 : decode cX12_nameType 6 = .ok (.iconst (-1), 1) := by decide +kernel
set_option maxRecDepth 100000 in
theorem dX12_nameType_7 : decode cX12_nameType 7 = .ok (.if_icmp .ne 115, 3) := by decide +kernel
set_option maxRecDepth 100000 in
theorem dX12_nameType_10 : decode cX12_nameType 10 = .ok (.aload_n 0, 1) := by decide +kernel
set_option maxRecDepth 100000 in
theorem dX12_nameType_11 : decode cX12_nameType 11 = .ok (.aload_n 0, 1) := by decide +kernel
set_option maxRecDepth 100000 in
theorem dX12_nameType_12 : decode cX12_nameType 12 = .ok (.getfield 70, 3) := by decide +kernel
set_option maxRecDepth 100000 in
theorem dX12_nameType_15 : decode cX12_nameType 15 = .ok (.iload_n 1, 1) := by decide +kernel
set_option maxRecDepth 100000 in
theorem dX12_nameType_16 : decode cX12_nameType 16 = .ok (.iaload, 1) := by decide +kernel
set_option maxRecDepth 100000 in
theorem dX12_nameType_17 : decode cX12_nameType 17 = .ok (.invokevirtual 573, 3) := by decide +kernel
set_option maxRecDepth 100000 in
theorem dX12_nameType_20 : decode cX12_nameType 20 = .ok (.astore_n 2, 1) := by decide +kernel
set_option maxRecDepth 100000 in
theorem dX12_nameType_21 : decode cX12_nameType 21 = .ok (.aload_n 2, 1) := by decide +kernel
set_option maxRecDepth 100000 in
theorem dX12_nameType_22 : decode cX12_nameType 22 = .ok (.getfield 577, 3) := by decide +kernel
set_option maxRecDepth 100000 in
theorem dX12_nameType_25 : decode cX12_nameType 25 = .ok (.iconst 1, 1) := by decide +kernel
set_option maxRecDepth 100000 in
theorem dX12_nameType_26 : decode cX12_nameType 26 = .ok (.if_icmp .ne 15, 3) := by decide +kernel
set_option maxRecDepth 100000 in
theorem dX12_nameType_29 : decode cX12_nameType 29 = .ok (.aload_n 0, 1) := by decide +kernel
set_option maxRecDepth 100000 in
theorem dX12_nameType_30 : decode cX12_nameType 30 = .ok (.getfield 102, 3) := by decide +kernel
set_option maxRecDepth 100000 in
theorem dX12_nameType_33 : decode cX12_nameType 33 = .ok (.iload_n 1, 1) := by decide +kernel
set_option maxRecDepth 100000 in
theorem dX12_nameType_34 : decode cX12_nameType 34 = .ok (.aload_n 2, 1) := by decide +kernel
set_option maxRecDepth 100000 in
theorem dX12_nameType_35 : decode cX12_nameType 35 = .ok (.aastore, 1) := by decide +kernel
set_option maxRecDepth 100000 in
theorem dX12_nameType_36 : decode cX12_nameType 36 = .ok (.aload_n 2, 1) := by decide +kernel
set_option maxRecDepth 100000 in
theorem dX12_nameType_37 : decode cX12_nameType 37 = .ok (.getfield 612, 3) := by decide +kernel
set_option maxRecDepth 100000 in
theorem dX12_nameType_40 : decode cX12_nameType 40 = .ok (.areturn, 1) := by decide +kernel
set_option maxRecDepth 100000 in
theorem dX12_nameType_41 : decode cX12_nameType 41 = .ok (.aload_n 2, 1) := by decide +kernel
set_option maxRecDepth 100000 in
theorem dX12_nameType_42 : decode cX12_nameType 42 = .ok (.getfield 577, 3) := by decide +kernel
set_option maxRecDepth 100000 in
theorem dX12_nameType_45 : decode cX12_nameType 45 = .ok (.iconst 5, 1) := by decide +kernel
set_option maxRecDepth 100000 in
theorem dX12_nameType_46 : decode cX12_nameType 46 = .ok (.if_icmp .ne 76, 3) := by decide +kernel
set_option maxRecDepth 100000 in
theorem dX12_nameType_49 : decode cX12_nameType 49 = .ok (.aload_n 2, 1) := by decide +kernel
set_option maxRecDepth 100000 in
theorem dX12_nameType_50 : decode cX12_nameType 50 = .ok (.getfield 635, 3) := by decide +kernel
set_option maxRecDepth 100000 in
theorem dX12_nameType_53 : decode cX12_nameType 53 = .ok (.ifCond .ne 15, 3) := by decide +kernel
set_option maxRecDepth 100000 in
theorem dX12_nameType_56 : decode cX12_nameType 56 = .ok (.aload_n 0, 1) := by decide +kernel
set_option maxRecDepth 100000 in
theorem dX12_nameType_57 : decode cX12_nameType 57 = .ok (.bipush 6, 2) := by decide +kernel
set_option maxRecDepth 100000 in
theorem dX12_nameType_59 : decode cX12_nameType 59 = .ok (.aload_n 0, 1) := by decide +kernel
set_option maxRecDepth 100000 in
theorem dX12_nameType_60 : decode cX12_nameType 60 = .ok (.getfield 70, 3) := by decide +kernel
set_option maxRecDepth 100000 in
theorem dX12_nameType_63 : decode cX12_nameType 63 = .ok (.iload_n 1, 1) := by decide +kernel
set_option maxRecDepth 100000 in
theorem dX12_nameType_64 : decode cX12_nameType 64 = .ok (.iaload, 1) := by decide +kernel
set_option maxRecDepth 100000 in
theorem dX12_nameType_65 : decode cX12_nameType 65 = .ok (.invokevirtual 570, 3) := by decide +kernel
set_option maxRecDepth 100000 in
theorem dX12_nameType_68 : decode cX12_nameType 68 = .ok (.aload_n 0, 1) := by decide +kernel
set_option maxRecDepth 100000 in
theorem dX12_nameType_69 : decode cX12_nameType 69 = .ok (.getfield 102, 3) := by decide +kernel
set_option maxRecDepth 100000 in
theorem dX12_nameType_72 : decode cX12_nameType 72 = .ok (.iload_n 1, 1) := by decide +kernel
set_option maxRecDepth 100000 in
theorem dX12_nameType_73 : decode cX12_nameType 73 = .ok (.aload_n 2, 1) := by decide +kernel
set_option maxRecDepth 100000 in
theorem dX12_nameType_74 : decode cX12_nameType 74 = .ok (.aastore, 1) := by decide +kernel
set_option maxRecDepth 100000 in
theorem dX12_nameType_75 : decode cX12_nameType 75 = .ok (.aload_n 2, 1) := by decide +kernel
set_option maxRecDepth 100000 in
theorem dX12_nameType_76 : decode cX12_nameType 76 = .ok (.getfield 632, 3) := by decide +kernel
set_option maxRecDepth 100000 in
theorem dX12_nameType_79 : decode cX12_nameType 79 = .ok (.ifCond .le 16, 3) := by decide +kernel
set_option maxRecDepth 100000 in
theorem dX12_nameType_82 : decode cX12_nameType 82 = .ok (.aload_n 0, 1) := by decide +kernel
set_option maxRecDepth 100000 in
theorem dX12_nameType_83 : decode cX12_nameType 83 = .ok (.aload_n 0, 1) := by decide +kernel
set_option maxRecDepth 100000 in
theorem dX12_nameType_84 : decode cX12_nameType 84 = .ok (.getfield 70, 3) := by decide +kernel
set_option maxRecDepth 100000 in
theorem dX12_nameType_87 : decode cX12_nameType 87 = .ok (.iload_n 1, 1) := by decide +kernel
set_option maxRecDepth 100000 in
theorem dX12_nameType_88 : decode cX12_nameType 88 = .ok (.iaload, 1) := by decide +kernel
set_option maxRecDepth 100000 in
theorem dX12_nameType_89 : decode cX12_nameType 89 = .ok (.aload_n 2, 1) := by decide +kernel
set_option maxRecDepth 100000 in
theorem dX12_nameType_90 : decode cX12_nameType 90 = .ok (.iconst (-1), 1) := by decide +kernel
set_option maxRecDepth 100000 in
theorem dX12_nameType_91 : decode cX12_nameType 91 = .ok (.invokevirtual 1088, 3) := by decide +kernel
set_option maxRecDepth 100000 in
theorem dX12_nameType_94 : decode cX12_nameType 94 = .ok (.areturn, 1) := by decide +kernel
set_option maxRecDepth 100000 in
theorem dX12_nameType_95 : decode cX12_nameType 95 = .ok (.aload_n 2, 1) := by decide +kernel
set_option maxRecDepth 100000 in
theorem dX12_nameType_96 : decode cX12_nameType 96 = .ok (.getfield 949, 3) := by decide +kernel
set_option maxRecDepth 100000 in
theorem dX12_nameType_99 : decode cX12_nameType 99 = .ok (.invokevirtual 554, 3) := by decide +kernel
set_option maxRecDepth 100000 in
theorem dX12_nameType_102 : decode cX12_nameType 102 = .ok (.ifCond .le 15, 3) := by decide +kernel
set_option maxRecDepth 100000 in
theorem dX12_nameType_105 : decode cX12_nameType 105 = .ok (.aload_n 0, 1) := by decide +kernel
set_option maxRecDepth 100000 in
theorem dX12_nameType_106 : decode cX12_nameType 106 = .ok (.bipush 9, 2) := by decide +kernel
set_option maxRecDepth 100000 in
theorem dX12_nameType_108 : decode cX12_nameType 108 = .ok (.aload_n 0, 1) := by decide +kernel
set_option maxRecDepth 100000 in
theorem dX12_nameType_109 : decode cX12_nameType 109 = .ok (.getfield 70, 3) := by decide +kernel
set_option maxRecDepth 100000 in
theorem dX12_nameType_112 : decode cX12_nameType 112 = .ok (.iload_n 1, 1) := by decide +kernel
set_option maxRecDepth 100000 in
theorem dX12_nameType_113 : decode cX12_nameType 113 = .ok (.iaload, 1) := by decide +kernel
set_option maxRecDepth 100000 in
theorem dX12_nameType_114 : decode cX12_nameType 114 = .ok (.invokevirtual 570, 3) := by decide +kernel
set_option maxRecDepth 100000 in
theorem dX12_nameType_117 : decode cX12_nameType 117 = .ok (.aload_n 2, 1) := by decide +kernel
set_option maxRecDepth 100000 in
theorem dX12_nameType_118 : decode cX12_nameType 118 = .ok (.getfield 612, 3) := by decide +kernel
set_option maxRecDepth 100000 in
theorem dX12_nameType_121 : decode cX12_nameType 121 = .ok (.areturn, 1) := by decide +kernel
set_option maxRecDepth 100000 in
theorem dX12_nameType_122 : decode cX12_nameType 122 = .ok (.aload_n 0, 1) := by decide +kernel
set_option maxRecDepth 100000 in
theorem dX12_nameType_123 : decode cX12_nameType 123 = .ok (.iload_n 1, 1) := by decide +kernel
set_option maxRecDepth 100000 in
theorem dX12_nameType_124 : decode cX12_nameType 124 = .ok (.invokevirtual 1003, 3) := by decide +kernel
set_option maxRecDepth 100000 in
theorem dX12_nameType_127 : decode cX12_nameType 127 = .ok (.invokevirtual 867, 3) := by decide +kernel
set_option maxRecDepth 100000 in
theorem dX12_nameType_130 : decode cX12_nameType 130 = .ok (.areturn, 1) := by decide +kernel
set_option maxRecDepth 100000 in
def bX12_nameType_122 (G : xG) (fr lo : Nat) (x0 : Nat) (x1 : Int32) (h : xH) (Q : Outcome → xH → Prop) : Prop := tg h x0 = 13 ∧ 1 ≤ fr ∧ 17 ≤ lo ∧ xRr G YX12_checkVariable (fr - 1) (lo - 17) [rv x0, .int x1] h (fun x5 h4 => xext h h4 → tg h4 x5 = 14 ∧ 1 ≤ fr ∧ 12 ≤ lo ∧ xRr G YX13_own (fr - 1) (lo - 12) [rv x5] h4 (fun x11 h10 => xext h4 h10 → Q (.returned (some (rv x11))) h10) (fun r h2 => Q (.threw r) h2)) (fun r h2 => Q (.threw r) h2)
set_option maxRecDepth 100000 in
theorem uX12_nameType_122 {G : xG} {fr lo : Nat} {x0 : Nat} {x1 : Int32} {h : xH} {Q : Outcome → xH → Prop} (hq : bX12_nameType_122 G fr lo x0 x1 h Q) : xP G YX12_nameType fr lo 122 [(0, rv x0), (1, .int x1)] [] h Q := by
  unfold bX12_nameType_122 at hq
  refine x_aload_n 0 dX12_nameType_122 rfl ?_
  refine x_iload_n 1 dX12_nameType_123 rfl ?_
  obtain ⟨g1, hq⟩ := hq
  obtain ⟨g2, g3, hq⟩ := hq
  refine x_callV (Yc := YX12_checkVariable) (as := [.int x1]) (st := []) q4367 mvX12_checkVariable g1 rfl dX12_nameType_124 (xle (xal1 (rv_cat _) (xal1 rfl xal0)) (by decide)) (xfr g2) (xlo xsw0 (by decide) g3) (xKr hq (fun x5 h4 hq e6 => ?_) (fun _ _ q _ => q))
  replace hq := hq e6
  obtain ⟨g7, hq⟩ := hq
  obtain ⟨g8, g9, hq⟩ := hq
  refine x_callV (Yc := YX13_own) (as := []) (st := []) q4189 mvX13_own g7 rfl dX12_nameType_127 (xle (xal1 (rv_cat _) xal0) (by decide)) (xfr g8) (xlo xsw0 (by decide) g9) (xKr hq (fun x11 h10 hq e12 => ?_) (fun _ _ q _ => q))
  replace hq := hq e12
  exact x_aret rfl xty_O dX12_nameType_130 hq
set_option maxRecDepth 100000 in
def bX12_nameType_117 (G : xG) (fr lo : Nat) (x2 : Nat) (h : xH) (Q : Outcome → xH → Prop) : Prop := tg h x2 = 24 ∧ Q (.returned (some (rv (fR h x2 5890)))) h
set_option maxRecDepth 100000 in
theorem uX12_nameType_117 {G : xG} {fr lo : Nat} {x2 : Nat} {h : xH} {Q : Outcome → xH → Prop} (hq : bX12_nameType_117 G fr lo x2 h Q) : xP G YX12_nameType fr lo 117 [(2, rv x2)] [] h Q := by
  unfold bX12_nameType_117 at hq
  refine x_aload_n 0 dX12_nameType_117 rfl ?_
  obtain ⟨g1, hq⟩ := hq
  refine x_get (v := rv (fR h x2 5890)) fdX12_612 dX12_nameType_118 g1 rfl ?_
  exact x_aret rfl xty_O dX12_nameType_121 hq
set_option maxRecDepth 100000 in
def bX12_nameType_68 (G : xG) (fr lo : Nat) (x0 : Nat) (x1 : Int32) (x2 : Nat) (h : xH) (Q : Outcome → xH → Prop) : Prop := tg h x0 = 13 ∧ tg h (fR h x0 3114) = 109 ∧ tg h x2 = 24 ∧ vp_in x1 (ln h (fR h x0 3114)) ∧ (∀ h5 : xH, h5 = tR h (fR h x0 3114) (Int32.toNatClampNeg x1) x2 → (((fI h5 x2 5903) ≤ 0 → tg h5 (fR h5 x2 5910) = 29 ∧ 1 ≤ fr ∧ 12 ≤ lo ∧ xRi G YJ2_size (fr - 1) (lo - 12) [rv (fR h5 x2 5910)] h5 (fun x13 h12 => xext h5 h12 → ((x13 ≤ 0 → bX12_nameType_117 G fr lo x2 h12 Q) ∧ (¬ x13 ≤ 0 → tg h12 (fR h12 x0 3102) = 100 ∧ vp_in x1 (ln h12 (fR h12 x0 3102)) ∧ 1 ≤ fr ∧ 14 ≤ lo ∧ xRv G YX12_refuse (fr - 1) (lo - 14) [rv x0, .int 9, .int (aI h12 (fR h12 x0 3102) (Int32.toNatClampNeg x1))] h12 (fun h22 => xext h12 h22 → bX12_nameType_117 G fr lo x2 h22 Q) (fun r h2 => Q (.threw r) h2)))) (fun r h2 => Q (.threw r) h2)) ∧ (¬ (fI h5 x2 5903) ≤ 0 → tg h5 (fR h5 x0 3102) = 100 ∧ vp_in x1 (ln h5 (fR h5 x0 3102)) ∧ 1 ≤ fr ∧ 19 ≤ lo ∧ xRr G YX12_functionThere (fr - 1) (lo - 19) [rv x0, .int (aI h5 (fR h5 x0 3102) (Int32.toNatClampNeg x1)), rv x2, .int (-1)] h5 (fun x31 h30 => xext h5 h30 → Q (.returned (some (rv x31))) h30) (fun r h2 => Q (.threw r) h2))))
set_option maxRecDepth 100000 in
theorem uX12_nameType_68 {G : xG} {fr lo : Nat} {x0 : Nat} {x1 : Int32} {x2 : Nat} {h : xH} {Q : Outcome → xH → Prop} (hq : bX12_nameType_68 G fr lo x0 x1 x2 h Q) : xP G YX12_nameType fr lo 68 [(0, rv x0), (1, .int x1), (2, rv x2)] [] h Q := by
  unfold bX12_nameType_68 at hq
  refine x_aload_n 0 dX12_nameType_68 rfl ?_
  obtain ⟨g1, hq⟩ := hq
  refine x_get (v := rv (fR h x0 3114)) fdX12_102 dX12_nameType_69 g1 rfl ?_
  refine x_iload_n 1 dX12_nameType_72 rfl ?_
  refine x_aload_n 2 dX12_nameType_73 rfl ?_
  obtain ⟨g2, hq⟩ := hq
  obtain ⟨g3, hq⟩ := hq
  obtain ⟨i4, hq⟩ := hq
  obtain ⟨h5, e6⟩ : ∃ y, y = tR h (fR h x0 3114) (Int32.toNatClampNeg x1) x2 := ⟨_, rfl⟩
  replace hq := hq h5 e6
  refine x_aast 9 23 as_9_23 g2 (Or.inl (by rw [g2]; rfl)) g3 i4 dX12_nameType_74 e6 ?_
  refine x_aload_n 2 dX12_nameType_75 rfl ?_
  have t7 : tg h5 x2 = 24 := by rw [e6]; exact g3
  refine x_get (v := .int (fI h5 x2 5903)) fdX12_632 dX12_nameType_76 t7 rfl ?_
  refine x_if_le (tgt := 95) dX12_nameType_79 (by decide) (fun c8 => ?_) (fun c8 => ?_)
  · replace hq := hq.1 c8
    refine x_aload_n 2 dX12_nameType_95 rfl ?_
    refine x_get (v := rv (fR h5 x2 5910)) fdX12_949 dX12_nameType_96 t7 rfl ?_
    obtain ⟨g9, hq⟩ := hq
    obtain ⟨g10, g11, hq⟩ := hq
    refine x_callV (Yc := YJ2_size) (as := []) (st := []) q4067 mvJ2_size g9 rfl dX12_nameType_99 (xle (xal1 (rv_cat _) xal0) (by decide)) (xfr g10) (xlo xsw0 (by decide) g11) (xKi hq (fun x13 h12 hq e14 => ?_) (fun _ _ q _ => q))
    replace hq := hq e14
    refine x_if_le (tgt := 117) dX12_nameType_102 (by decide) (fun c15 => ?_) (fun c15 => ?_)
    · replace hq := hq.1 c15
      refine xP.pick (lv' := [(2, rv x2)]) [2] rfl ?_
      exact uX12_nameType_117 hq
    · replace hq := hq.2 c15
      refine x_aload_n 0 dX12_nameType_105 rfl ?_
      refine x_bipush (v := 9) dX12_nameType_106 (by decide) ?_
      refine x_aload_n 0 dX12_nameType_108 rfl ?_
      have t16 : tg h5 x0 = 13 := by rw [e6]; exact g1
      have t17 : tg h12 x0 = 13 := e14.tg t16 (by decide)
      refine x_get (v := rv (fR h12 x0 3102)) fdX12_70 dX12_nameType_109 t17 rfl ?_
      refine x_iload_n 1 dX12_nameType_112 rfl ?_
      obtain ⟨g18, hq⟩ := hq
      obtain ⟨i19, hq⟩ := hq
      refine x_iald 0 (Or.inl rfl) g18 i19 dX12_nameType_113 ?_
      obtain ⟨g20, g21, hq⟩ := hq
      refine x_callV (Yc := YX12_refuse) (as := [.int 9, .int (aI h12 (fR h12 x0 3102) (Int32.toNatClampNeg x1))]) (st := []) q4095 mvX12_refuse t17 rfl dX12_nameType_114 (xle (xal1 (rv_cat _) (xal1 rfl (xal1 rfl xal0))) (by decide)) (xfr g20) (xlo xsw0 (by decide) g21) (xKv hq (fun h22 hq e24 => ?_) (fun _ _ q _ => q))
      replace hq := hq e24
      refine xP.pick (lv' := [(2, rv x2)]) [2] rfl ?_
      exact uX12_nameType_117 hq
  · replace hq := hq.2 c8
    refine x_aload_n 0 dX12_nameType_82 rfl ?_
    refine x_aload_n 0 dX12_nameType_83 rfl ?_
    have t25 : tg h5 x0 = 13 := by rw [e6]; exact g1
    refine x_get (v := rv (fR h5 x0 3102)) fdX12_70 dX12_nameType_84 t25 rfl ?_
    refine x_iload_n 1 dX12_nameType_87 rfl ?_
    obtain ⟨g26, hq⟩ := hq
    obtain ⟨i27, hq⟩ := hq
    refine x_iald 0 (Or.inl rfl) g26 i27 dX12_nameType_88 ?_
    refine x_aload_n 2 dX12_nameType_89 rfl ?_
    refine x_iconst (v := (-1)) dX12_nameType_90 (by decide) ?_
    obtain ⟨g28, g29, hq⟩ := hq
    refine x_callV (Yc := YX12_functionThere) (as := [.int (aI h5 (fR h5 x0 3102) (Int32.toNatClampNeg x1)), rv x2, .int (-1)]) (st := []) q4336 mvX12_functionThere t25 rfl dX12_nameType_91 (xle (xal1 (rv_cat _) (xal1 rfl (xal1 (rv_cat _) (xal1 rfl xal0)))) (by decide)) (xfr g28) (xlo xsw0 (by decide) g29) (xKr hq (fun x31 h30 hq e32 => ?_) (fun _ _ q _ => q))
    replace hq := hq e32
    exact x_aret rfl xty_O dX12_nameType_94 hq
set_option maxRecDepth 100000 in
def bX12_nameType (G : xG) (fr lo : Nat) (x0 : Nat) (x1 : Int32) (h : xH) (Q : Outcome → xH → Prop) : Prop := tg h x0 = 13 ∧ tg h (fR h x0 3103) = 100 ∧ vp_in x1 (ln h (fR h x0 3103)) ∧ ((¬ (aI h (fR h x0 3103) (Int32.toNatClampNeg x1)) = (-1) → bX12_nameType_122 G fr lo x0 x1 h Q) ∧ ((aI h (fR h x0 3103) (Int32.toNatClampNeg x1)) = (-1) → tg h (fR h x0 3102) = 100 ∧ vp_in x1 (ln h (fR h x0 3102)) ∧ 1 ≤ fr ∧ 15 ≤ lo ∧ xRr G YX12_find (fr - 1) (lo - 15) [rv x0, .int (aI h (fR h x0 3102) (Int32.toNatClampNeg x1))] h (fun x10 h9 => xext h h9 → tg h9 x10 = 24 ∧ ((¬ (fI h9 x10 5888) = 1 → ((¬ (fI h9 x10 5888) = 5 → bX12_nameType_122 G fr lo x0 x1 h9 Q) ∧ ((fI h9 x10 5888) = 5 → ((¬ (fI h9 x10 5905) = 0 → bX12_nameType_68 G fr lo x0 x1 x10 h9 Q) ∧ ((fI h9 x10 5905) = 0 → tg h9 (fR h9 x0 3102) = 100 ∧ vp_in x1 (ln h9 (fR h9 x0 3102)) ∧ 1 ≤ fr ∧ 14 ≤ lo ∧ xRv G YX12_refuse (fr - 1) (lo - 14) [rv x0, .int 6, .int (aI h9 (fR h9 x0 3102) (Int32.toNatClampNeg x1))] h9 (fun h21 => xext h9 h21 → bX12_nameType_68 G fr lo x0 x1 x10 h21 Q) (fun r h2 => Q (.threw r) h2)))))) ∧ ((fI h9 x10 5888) = 1 → tg h9 (fR h9 x0 3114) = 109 ∧ vp_in x1 (ln h9 (fR h9 x0 3114)) ∧ (∀ h27 : xH, h27 = tR h9 (fR h9 x0 3114) (Int32.toNatClampNeg x1) x10 → Q (.returned (some (rv (fR h27 x10 5890)))) h27)))) (fun r h2 => Q (.threw r) h2)))
set_option maxRecDepth 100000 in
theorem uX12_nameType {G : xG} {fr lo : Nat} {x0 : Nat} {x1 : Int32} {h : xH} {Q : Outcome → xH → Prop} (hq : bX12_nameType G fr lo x0 x1 h Q) : xP G YX12_nameType fr lo 0 [(0, rv x0), (1, .int x1)] [] h Q := by
  unfold bX12_nameType at hq
  refine x_aload_n 0 dX12_nameType_0 rfl ?_
  obtain ⟨g1, hq⟩ := hq
  refine x_get (v := rv (fR h x0 3103)) fdX12_73 dX12_nameType_1 g1 rfl ?_
  refine x_iload_n 1 dX12_nameType_4 rfl ?_
  obtain ⟨g2, hq⟩ := hq
  obtain ⟨i3, hq⟩ := hq
  refine x_iald 0 (Or.inl rfl) g2 i3 dX12_nameType_5 ?_
  refine x_iconst (v := (-1)) dX12_nameType_6 (by decide) ?_
  refine x_icmp_ne (tgt := 122) dX12_nameType_7 (by decide) (fun c4 => ?_) (fun c4 => ?_)
  · replace hq := hq.1 c4
    exact uX12_nameType_122 hq
  · replace hq := hq.2 c4
    refine x_aload_n 0 dX12_nameType_10 rfl ?_
    refine x_aload_n 0 dX12_nameType_11 rfl ?_
    refine x_get (v := rv (fR h x0 3102)) fdX12_70 dX12_nameType_12 g1 rfl ?_
    refine x_iload_n 1 dX12_nameType_15 rfl ?_
    obtain ⟨g5, hq⟩ := hq
    obtain ⟨i6, hq⟩ := hq
    refine x_iald 0 (Or.inl rfl) g5 i6 dX12_nameType_16 ?_
    obtain ⟨g7, g8, hq⟩ := hq
    refine x_callV (Yc := YX12_find) (as := [.int (aI h (fR h x0 3102) (Int32.toNatClampNeg x1))]) (st := []) q4161 mvX12_find g1 rfl dX12_nameType_17 (xle (xal1 (rv_cat _) (xal1 rfl xal0)) (by decide)) (xfr g7) (xlo xsw0 (by decide) g8) (xKr hq (fun x10 h9 hq e11 => ?_) (fun _ _ q _ => q))
    replace hq := hq e11
    refine x_astore_n (lv' := [(2, rv x10), (0, rv x0), (1, .int x1)]) dX12_nameType_20 (by decide) rfl ?_
    refine x_aload_n 0 dX12_nameType_21 rfl ?_
    obtain ⟨g12, hq⟩ := hq
    refine x_get (v := .int (fI h9 x10 5888)) fdX12_577 dX12_nameType_22 g12 rfl ?_
    refine x_iconst (v := 1) dX12_nameType_25 (by decide) ?_
    refine x_icmp_ne (tgt := 41) dX12_nameType_26 (by decide) (fun c13 => ?_) (fun c13 => ?_)
    · replace hq := hq.1 c13
      refine x_aload_n 0 dX12_nameType_41 rfl ?_
      refine x_get (v := .int (fI h9 x10 5888)) fdX12_577 dX12_nameType_42 g12 rfl ?_
      refine x_iconst (v := 5) dX12_nameType_45 (by decide) ?_
      refine x_icmp_ne (tgt := 122) dX12_nameType_46 (by decide) (fun c14 => ?_) (fun c14 => ?_)
      · replace hq := hq.1 c14
        refine xP.pick (lv' := [(0, rv x0), (1, .int x1)]) [1, 2] rfl ?_
        exact uX12_nameType_122 hq
      · replace hq := hq.2 c14
        refine x_aload_n 0 dX12_nameType_49 rfl ?_
        refine x_get (v := .int (fI h9 x10 5905)) fdX12_635 dX12_nameType_50 g12 rfl ?_
        refine x_if_ne (tgt := 68) dX12_nameType_53 (by decide) (fun c15 => ?_) (fun c15 => ?_)
        · replace hq := hq.1 c15
          refine xP.pick (lv' := [(0, rv x0), (1, .int x1), (2, rv x10)]) [1, 2, 0] rfl ?_
          exact uX12_nameType_68 hq
        · replace hq := hq.2 c15
          refine x_aload_n 1 dX12_nameType_56 rfl ?_
          refine x_bipush (v := 6) dX12_nameType_57 (by decide) ?_
          refine x_aload_n 1 dX12_nameType_59 rfl ?_
          have t16 : tg h9 x0 = 13 := e11.tg g1 (by decide)
          refine x_get (v := rv (fR h9 x0 3102)) fdX12_70 dX12_nameType_60 t16 rfl ?_
          refine x_iload_n 2 dX12_nameType_63 rfl ?_
          obtain ⟨g17, hq⟩ := hq
          obtain ⟨i18, hq⟩ := hq
          refine x_iald 0 (Or.inl rfl) g17 i18 dX12_nameType_64 ?_
          obtain ⟨g19, g20, hq⟩ := hq
          refine x_callV (Yc := YX12_refuse) (as := [.int 6, .int (aI h9 (fR h9 x0 3102) (Int32.toNatClampNeg x1))]) (st := []) q4095 mvX12_refuse t16 rfl dX12_nameType_65 (xle (xal1 (rv_cat _) (xal1 rfl (xal1 rfl xal0))) (by decide)) (xfr g19) (xlo xsw0 (by decide) g20) (xKv hq (fun h21 hq e23 => ?_) (fun _ _ q _ => q))
          replace hq := hq e23
          refine xP.pick (lv' := [(0, rv x0), (1, .int x1), (2, rv x10)]) [1, 2, 0] rfl ?_
          exact uX12_nameType_68 hq
    · replace hq := hq.2 c13
      refine x_aload_n 1 dX12_nameType_29 rfl ?_
      have t24 : tg h9 x0 = 13 := e11.tg g1 (by decide)
      refine x_get (v := rv (fR h9 x0 3114)) fdX12_102 dX12_nameType_30 t24 rfl ?_
      refine x_iload_n 2 dX12_nameType_33 rfl ?_
      refine x_aload_n 0 dX12_nameType_34 rfl ?_
      obtain ⟨g25, hq⟩ := hq
      obtain ⟨i26, hq⟩ := hq
      obtain ⟨h27, e28⟩ : ∃ y, y = tR h9 (fR h9 x0 3114) (Int32.toNatClampNeg x1) x10 := ⟨_, rfl⟩
      replace hq := hq h27 e28
      refine x_aast 9 23 as_9_23 g25 (Or.inl (by rw [g25]; rfl)) g12 i26 dX12_nameType_35 e28 ?_
      refine x_aload_n 0 dX12_nameType_36 rfl ?_
      have t29 : tg h27 x10 = 24 := by rw [e28]; exact g12
      refine x_get (v := rv (fR h27 x10 5890)) fdX12_612 dX12_nameType_37 t29 rfl ?_
      exact x_aret rfl xty_O dX12_nameType_40 hq
theorem rX12_nameType {G : xG} {fr lo : Nat} {x0 : Nat} {x1 : Int32} {h : xH} {Q : Outcome → xH → Prop} (hq : bX12_nameType G fr lo x0 x1 h Q) : xR G YX12_nameType fr lo [rv x0, .int x1] h Q := by
  show xP _ _ _ _ _ (lv_args 0 _) _ _ _
  rw [show lv_args 0 [rv x0, .int x1] = [(0, rv x0), (1, .int x1)] from (xla1 (rv_cat _) (xla1 rfl xla0))]
  exact uX12_nameType hq
set_option maxRecDepth 100000 in
theorem dX12_joined_0 : decode cX12_joined 0 = .ok (.aload_n 1, 1) := by decide +kernel
set_option maxRecDepth 100000 in
theorem dX12_joined_1 : decode cX12_joined 1 = .ok (.invokevirtual 842, 3) := by decide +kernel
set_option maxRecDepth 100000 in
theorem dX12_joined_4 : decode cX12_joined 4 = .ok (.ifCond .eq 14, 3) := by decide +kernel
set_option maxRecDepth 100000 in
theorem dX12_joined_7 : decode cX12_joined 7 = .ok (.aload_n 2, 1) := by decide +kernel
set_option maxRecDepth 100000 in
theorem dX12_joined_8 : decode cX12_joined 8 = .ok (.invokevirtual 842, 3) := by decide +kernel
set_option maxRecDepth 100000 in
theorem dX12_joined_11 : decode cX12_joined 11 = .ok (.ifCond .eq 7, 3) := by decide +kernel
set_option maxRecDepth 100000 in
theorem dX12_joined_14 : decode cX12_joined 14 = .ok (.iconst 1, 1) := by decide +kernel
set_option maxRecDepth 100000 in
theorem dX12_joined_15 : decode cX12_joined 15 = .ok (.goto 4, 3) := by decide +kernel
set_option maxRecDepth 100000 in
theorem dX12_joined_18 : decode cX12_joined 18 = .ok (.iconst 0, 1) := by decide +kernel
set_option maxRecDepth 100000 in
theorem dX12_joined_19 : decode cX12_joined 19 = .ok (.istore 4, 2) := by decide +kernel
set_option maxRecDepth 100000 in
theorem dX12_joined_21 : decode cX12_joined 21 = .ok (.aload_n 1, 1) := by decide +kernel
set_option maxRecDepth 100000 in
theorem dX12_joined_22 : decode cX12_joined 22 = .ok (.invokevirtual 867, 3) := by decide +kernel
set_option maxRecDepth 100000 in
theorem dX12_joined_25 : decode cX12_joined 25 = .ok (.aload_n 0, 1) := by decide +kernel
set_option maxRecDepth 100000 in
theorem dX12_joined_26 : decode cX12_joined 26 = .ok (.getfield 109, 3) := by decide +kernel
set_option maxRecDepth 100000 in
theorem dX12_joined_29 : decode cX12_joined 29 = .ok (.if_acmp .ne 18, 3) := by decide +kernel
set_option maxRecDepth 100000 in
theorem dX12_joined_32 : decode cX12_joined 32 = .ok (.aload_n 2, 1) := by decide +kernel
set_option maxRecDepth 100000 in
theorem dX12_joined_33 : decode cX12_joined 33 = .ok (.invokevirtual 867, 3) := by decide +kernel
set_option maxRecDepth 100000 in
theorem dX12_joined_36 : decode cX12_joined 36 = .ok (.aload_n 0, 1) := by decide +kernel
set_option maxRecDepth 100000 in
theorem dX12_joined_37 : decode cX12_joined 37 = .ok (.getfield 109, 3) := by decide +kernel
set_option maxRecDepth 100000 in
theorem dX12_joined_40 : decode cX12_joined 40 = .ok (.if_acmp .ne 7, 3) := by decide +kernel
set_option maxRecDepth 100000 in
theorem dX12_joined_43 : decode cX12_joined 43 = .ok (.iconst 1, 1) := by decide +kernel
set_option maxRecDepth 100000 in
theorem dX12_joined_44 : decode cX12_joined 44 = .ok (.goto 4, 3) := by decide +kernel
set_option maxRecDepth 100000 in
theorem dX12_joined_47 : decode cX12_joined 47 = .ok (.iconst 0, 1) := by decide +kernel
set_option maxRecDepth 100000 in
theorem dX12_joined_48 : decode cX12_joined 48 = .ok (.istore 5, 2) := by decide +kernel
set_option maxRecDepth 100000 in
theorem dX12_joined_50 : decode cX12_joined 50 = .ok (.aload_n 0, 1) := by decide +kernel
set_option maxRecDepth 100000 in
theorem dX12_joined_51 : decode cX12_joined 51 = .ok (.getfield 26, 3) := by decide +kernel
set_option maxRecDepth 100000 in
theorem dX12_joined_54 : decode cX12_joined 54 = .ok (.iload_n 3, 1) := by decide +kernel
set_option maxRecDepth 100000 in
theorem dX12_joined_55 : decode cX12_joined 55 = .ok (.iaload, 1) := by decide +kernel
set_option maxRecDepth 100000 in
theorem dX12_joined_56 : decode cX12_joined 56 = .ok (.lookupswitch 123 #[(6, 113), (18, 113), (50, 60), (51, 60), (52, 60), (53, 103)], 60) := by decide +kernel
set_option maxRecDepth 100000 in
theorem dX12_joined_116 : decode cX12_joined 116 = .ok (.iload 4, 2) := by decide +kernel
set_option maxRecDepth 100000 in
theorem dX12_joined_118 : decode cX12_joined 118 = .ok (.ifCond .eq 20, 3) := by decide +kernel
set_option maxRecDepth 100000 in
theorem dX12_joined_121 : decode cX12_joined 121 = .ok (.iload 5, 2) := by decide +kernel
set_option maxRecDepth 100000 in
theorem dX12_joined_123 : decode cX12_joined 123 = .ok (.ifCond .eq 10, 3) := by decide +kernel
set_option maxRecDepth 100000 in
theorem dX12_joined_126 : decode cX12_joined 126 = .ok (.aload_n 0, 1) := by decide +kernel
set_option maxRecDepth 100000 in
theorem dX12_joined_127 : decode cX12_joined 127 = .ok (.getfield 109, 3) := by decide +kernel
set_option maxRecDepth 100000 in
theorem dX12_joined_130 : decode cX12_joined 130 = .ok (.goto 7, 3) := by decide +kernel
set_option maxRecDepth 100000 in
theorem dX12_joined_133 : decode cX12_joined 133 = .ok (.aload_n 0, 1) := by decide +kernel
set_option maxRecDepth 100000 in
theorem dX12_joined_134 : decode cX12_joined 134 = .ok (.getfield 113, 3) := by decide +kernel
set_option maxRecDepth 100000 in
theorem dX12_joined_137 : decode cX12_joined 137 = .ok (.areturn, 1) := by decide +kernel
set_option maxRecDepth 100000 in
theorem dX12_joined_138 : decode cX12_joined 138 = .ok (.aload_n 1, 1) := by decide +kernel
set_option maxRecDepth 100000 in
theorem dX12_joined_139 : decode cX12_joined 139 = .ok (.aload_n 2, 1) := by decide +kernel
set_option maxRecDepth 100000 in
theorem dX12_joined_140 : decode cX12_joined 140 = .ok (.invokestatic 1053, 3) := by decide +kernel
set_option maxRecDepth 100000 in
theorem dX12_joined_143 : decode cX12_joined 143 = .ok (.ifCond .eq 63, 3) := by decide +kernel
set_option maxRecDepth 100000 in
theorem dX12_joined_146 : decode cX12_joined 146 = .ok (.aload_n 1, 1) := by decide +kernel
set_option maxRecDepth 100000 in
theorem dX12_joined_147 : decode cX12_joined 147 = .ok (.getfield 864, 3) := by decide +kernel
set_option maxRecDepth 100000 in
theorem dX12_joined_150 : decode cX12_joined 150 = .ok (.ifnonnull 7, 3) := by decide +kernel
set_option maxRecDepth 100000 in
theorem dX12_joined_153 : decode cX12_joined 153 = .ok (.aload_n 2, 1) := by decide +kernel
set_option maxRecDepth 100000 in
theorem dX12_joined_154 : decode cX12_joined 154 = .ok (.goto 4, 3) := by decide +kernel
set_option maxRecDepth 100000 in
theorem dX12_joined_157 : decode cX12_joined 157 = .ok (.aload_n 1, 1) := by decide +kernel
set_option maxRecDepth 100000 in
theorem dX12_joined_158 : decode cX12_joined 158 = .ok (.areturn, 1) := by decide +kernel
set_option maxRecDepth 100000 in
theorem dX12_joined_159 : decode cX12_joined 159 = .ok (.iload 4, 2) := by decide +kernel
set_option maxRecDepth 100000 in
theorem dX12_joined_161 : decode cX12_joined 161 = .ok (.ifCond .eq 45, 3) := by decide +kernel
set_option maxRecDepth 100000 in
theorem dX12_joined_164 : decode cX12_joined 164 = .ok (.aload_n 0, 1) := by decide +kernel
set_option maxRecDepth 100000 in
theorem dX12_joined_165 : decode cX12_joined 165 = .ok (.getfield 113, 3) := by decide +kernel
set_option maxRecDepth 100000 in
theorem dX12_joined_168 : decode cX12_joined 168 = .ok (.areturn, 1) := by decide +kernel
set_option maxRecDepth 100000 in
theorem dX12_joined_169 : decode cX12_joined 169 = .ok (.iload 5, 2) := by decide +kernel
set_option maxRecDepth 100000 in
theorem dX12_joined_171 : decode cX12_joined 171 = .ok (.ifCond .eq 35, 3) := by decide +kernel
set_option maxRecDepth 100000 in
theorem dX12_joined_174 : decode cX12_joined 174 = .ok (.aload_n 0, 1) := by decide +kernel
set_option maxRecDepth 100000 in
theorem dX12_joined_175 : decode cX12_joined 175 = .ok (.getfield 109, 3) := by decide +kernel
set_option maxRecDepth 100000 in
theorem dX12_joined_178 : decode cX12_joined 178 = .ok (.areturn, 1) := by decide +kernel
set_option maxRecDepth 100000 in
theorem dX12_joined_179 : decode cX12_joined 179 = .ok (.aload_n 1, 1) := by decide +kernel
set_option maxRecDepth 100000 in
theorem dX12_joined_180 : decode cX12_joined 180 = .ok (.invokevirtual 867, 3) := by decide +kernel
set_option maxRecDepth 100000 in
theorem dX12_joined_183 : decode cX12_joined 183 = .ok (.aload_n 0, 1) := by decide +kernel
set_option maxRecDepth 100000 in
theorem dX12_joined_184 : decode cX12_joined 184 = .ok (.getfield 116, 3) := by decide +kernel
set_option maxRecDepth 100000 in
theorem dX12_joined_187 : decode cX12_joined 187 = .ok (.if_acmp .ne 19, 3) := by decide +kernel
set_option maxRecDepth 100000 in
theorem dX12_joined_190 : decode cX12_joined 190 = .ok (.aload_n 2, 1) := by decide +kernel
set_option maxRecDepth 100000 in
theorem dX12_joined_191 : decode cX12_joined 191 = .ok (.invokevirtual 867, 3) := by decide +kernel
set_option maxRecDepth 100000 in
theorem dX12_joined_194 : decode cX12_joined 194 = .ok (.aload_n 0, 1) := by decide +kernel
set_option maxRecDepth 100000 in
theorem dX12_joined_195 : decode cX12_joined 195 = .ok (.getfield 116, 3) := by decide +kernel
set_option maxRecDepth 100000 in
theorem dX12_joined_198 : decode cX12_joined 198 = .ok (.if_acmp .ne 8, 3) := by decide +kernel
set_option maxRecDepth 100000 in
theorem dX12_joined_201 : decode cX12_joined 201 = .ok (.aload_n 0, 1) := by decide +kernel
set_option maxRecDepth 100000 in
theorem dX12_joined_202 : decode cX12_joined 202 = .ok (.getfield 116, 3) := by decide +kernel
set_option maxRecDepth 100000 in
theorem dX12_joined_205 : decode cX12_joined 205 = .ok (.areturn, 1) := by decide +kernel
set_option maxRecDepth 100000 in
theorem dX12_joined_206 : decode cX12_joined 206 = .ok (.aload_n 0, 1) := by decide +kernel
set_option maxRecDepth 100000 in
theorem dX12_joined_207 : decode cX12_joined 207 = .ok (.bipush 7, 2) := by decide +kernel
set_option maxRecDepth 100000 in
theorem dX12_joined_209 : decode cX12_joined 209 = .ok (.iload_n 3, 1) := by decide +kernel
set_option maxRecDepth 100000 in
theorem dX12_joined_210 : decode cX12_joined 210 = .ok (.invokevirtual 570, 3) := by decide +kernel
set_option maxRecDepth 100000 in
theorem dX12_joined_213 : decode cX12_joined 213 = .ok (.aconst_null, 1) := by decide +kernel
set_option maxRecDepth 100000 in
theorem dX12_joined_214 : decode cX12_joined 214 = .ok (.areturn, 1) := by decide +kernel
set_option maxRecDepth 100000 in
def bX12_joined_206 (G : xG) (fr lo : Nat) (x0 : Nat) (x3 : Int32) (h : xH) (Q : Outcome → xH → Prop) : Prop := tg h x0 = 13 ∧ 1 ≤ fr ∧ 14 ≤ lo ∧ xRv G YX12_refuse (fr - 1) (lo - 14) [rv x0, .int 7, .int x3] h (fun h4 => xext h h4 → Q (.returned (some (rv 0))) h4) (fun r h2 => Q (.threw r) h2)
set_option maxRecDepth 100000 in
theorem uX12_joined_206 {G : xG} {fr lo : Nat} {x0 : Nat} {x3 : Int32} {h : xH} {Q : Outcome → xH → Prop} (hq : bX12_joined_206 G fr lo x0 x3 h Q) : xP G YX12_joined fr lo 206 [(0, rv x0), (3, .int x3)] [] h Q := by
  unfold bX12_joined_206 at hq
  refine x_aload_n 0 dX12_joined_206 rfl ?_
  refine x_bipush (v := 7) dX12_joined_207 (by decide) ?_
  refine x_iload_n 1 dX12_joined_209 rfl ?_
  obtain ⟨g1, hq⟩ := hq
  obtain ⟨g2, g3, hq⟩ := hq
  refine x_callV (Yc := YX12_refuse) (as := [.int 7, .int x3]) (st := []) q4095 mvX12_refuse g1 rfl dX12_joined_210 (xle (xal1 (rv_cat _) (xal1 rfl (xal1 rfl xal0))) (by decide)) (xfr g2) (xlo xsw0 (by decide) g3) (xKv hq (fun h4 hq e6 => ?_) (fun _ _ q _ => q))
  replace hq := hq e6
  refine x_null dX12_joined_213 ?_
  exact x_aret rfl xty_O dX12_joined_214 hq
set_option maxRecDepth 100000 in
def bX12_joined_158 (G : xG) (fr lo : Nat) (s0 : Nat) (h : xH) (Q : Outcome → xH → Prop) : Prop := Q (.returned (some (rv s0))) h
set_option maxRecDepth 100000 in
theorem uX12_joined_158 {G : xG} {fr lo : Nat} {s0 : Nat} {h : xH} {Q : Outcome → xH → Prop} (hq : bX12_joined_158 G fr lo s0 h Q) : xP G YX12_joined fr lo 158 [] [rv s0] h Q := by
  unfold bX12_joined_158 at hq
  exact x_aret rfl xty_O dX12_joined_158 hq
set_option maxRecDepth 100000 in
def bX12_joined_137 (G : xG) (fr lo : Nat) (s0 : Nat) (h : xH) (Q : Outcome → xH → Prop) : Prop := Q (.returned (some (rv s0))) h
set_option maxRecDepth 100000 in
theorem uX12_joined_137 {G : xG} {fr lo : Nat} {s0 : Nat} {h : xH} {Q : Outcome → xH → Prop} (hq : bX12_joined_137 G fr lo s0 h Q) : xP G YX12_joined fr lo 137 [] [rv s0] h Q := by
  unfold bX12_joined_137 at hq
  exact x_aret rfl xty_O dX12_joined_137 hq
set_option maxRecDepth 100000 in
def bX12_joined_48 (G : xG) (fr lo : Nat) (x0 : Nat) (x1 : Nat) (x2 : Nat) (x3 : Int32) (x4 : Int32) (s0 : Int32) (h : xH) (Q : Outcome → xH → Prop) : Prop := tg h x0 = 13 ∧ tg h (fR h x0 3082) = 100 ∧ vp_in x3 (ln h (fR h x0 3082)) ∧ (((aI h (fR h x0 3082) (Int32.toNatClampNeg x3)) = 6 → ((s0 = 0 → bX12_joined_206 G fr lo x0 x3 h Q) ∧ (¬ s0 = 0 → Q (.returned (some (rv (fR h x0 3115)))) h))) ∧ ((aI h (fR h x0 3082) (Int32.toNatClampNeg x3)) = 18 → ((s0 = 0 → bX12_joined_206 G fr lo x0 x3 h Q) ∧ (¬ s0 = 0 → Q (.returned (some (rv (fR h x0 3115)))) h))) ∧ ((aI h (fR h x0 3082) (Int32.toNatClampNeg x3)) = 50 → ((x4 = 0 → 1 ≤ fr ∧ 13 ≤ lo ∧ xRi G YX12_areSets (fr - 1) (lo - 13) [rv x1, rv x2] h (fun x13 h12 => xext h h12 → ((x13 = 0 → bX12_joined_206 G fr lo x0 x3 h12 Q) ∧ (¬ x13 = 0 → tg h12 x1 = 14 ∧ ((¬ (fR h12 x1 3332) = 0 → bX12_joined_158 G fr lo x1 h12 Q) ∧ ((fR h12 x1 3332) = 0 → bX12_joined_158 G fr lo x2 h12 Q))))) (fun r h2 => Q (.threw r) h2)) ∧ (¬ x4 = 0 → ((s0 = 0 → bX12_joined_137 G fr lo (fR h x0 3116) h Q) ∧ (¬ s0 = 0 → bX12_joined_137 G fr lo (fR h x0 3115) h Q))))) ∧ ((aI h (fR h x0 3082) (Int32.toNatClampNeg x3)) = 51 → ((x4 = 0 → 1 ≤ fr ∧ 13 ≤ lo ∧ xRi G YX12_areSets (fr - 1) (lo - 13) [rv x1, rv x2] h (fun x24 h23 => xext h h23 → ((x24 = 0 → bX12_joined_206 G fr lo x0 x3 h23 Q) ∧ (¬ x24 = 0 → tg h23 x1 = 14 ∧ ((¬ (fR h23 x1 3332) = 0 → bX12_joined_158 G fr lo x1 h23 Q) ∧ ((fR h23 x1 3332) = 0 → bX12_joined_158 G fr lo x2 h23 Q))))) (fun r h2 => Q (.threw r) h2)) ∧ (¬ x4 = 0 → ((s0 = 0 → bX12_joined_137 G fr lo (fR h x0 3116) h Q) ∧ (¬ s0 = 0 → bX12_joined_137 G fr lo (fR h x0 3115) h Q))))) ∧ ((aI h (fR h x0 3082) (Int32.toNatClampNeg x3)) = 52 → ((x4 = 0 → 1 ≤ fr ∧ 13 ≤ lo ∧ xRi G YX12_areSets (fr - 1) (lo - 13) [rv x1, rv x2] h (fun x35 h34 => xext h h34 → ((x35 = 0 → bX12_joined_206 G fr lo x0 x3 h34 Q) ∧ (¬ x35 = 0 → tg h34 x1 = 14 ∧ ((¬ (fR h34 x1 3332) = 0 → bX12_joined_158 G fr lo x1 h34 Q) ∧ ((fR h34 x1 3332) = 0 → bX12_joined_158 G fr lo x2 h34 Q))))) (fun r h2 => Q (.threw r) h2)) ∧ (¬ x4 = 0 → ((s0 = 0 → bX12_joined_137 G fr lo (fR h x0 3116) h Q) ∧ (¬ s0 = 0 → bX12_joined_137 G fr lo (fR h x0 3115) h Q))))) ∧ ((aI h (fR h x0 3082) (Int32.toNatClampNeg x3)) = 53 → ((x4 = 0 → bX12_joined_206 G fr lo x0 x3 h Q) ∧ (¬ x4 = 0 → Q (.returned (some (rv (fR h x0 3116)))) h))) ∧ (¬ (aI h (fR h x0 3082) (Int32.toNatClampNeg x3)) = 6 → ¬ (aI h (fR h x0 3082) (Int32.toNatClampNeg x3)) = 18 → ¬ (aI h (fR h x0 3082) (Int32.toNatClampNeg x3)) = 50 → ¬ (aI h (fR h x0 3082) (Int32.toNatClampNeg x3)) = 51 → ¬ (aI h (fR h x0 3082) (Int32.toNatClampNeg x3)) = 52 → ¬ (aI h (fR h x0 3082) (Int32.toNatClampNeg x3)) = 53 → tg h x1 = 14 ∧ 1 ≤ fr ∧ 12 ≤ lo ∧ xRr G YX13_own (fr - 1) (lo - 12) [rv x1] h (fun x47 h46 => xext h h46 → ((¬ x47 = (fR h46 x0 3117) → bX12_joined_206 G fr lo x0 x3 h46 Q) ∧ (x47 = (fR h46 x0 3117) → tg h46 x2 = 14 ∧ 1 ≤ fr ∧ 12 ≤ lo ∧ xRr G YX13_own (fr - 1) (lo - 12) [rv x2] h46 (fun x55 h54 => xext h46 h54 → ((¬ x55 = (fR h54 x0 3117) → bX12_joined_206 G fr lo x0 x3 h54 Q) ∧ (x55 = (fR h54 x0 3117) → Q (.returned (some (rv (fR h54 x0 3117)))) h54))) (fun r h2 => Q (.threw r) h2)))) (fun r h2 => Q (.threw r) h2)))
set_option maxRecDepth 100000 in
theorem uX12_joined_48 {G : xG} {fr lo : Nat} {x0 : Nat} {x1 : Nat} {x2 : Nat} {x3 : Int32} {x4 : Int32} {s0 : Int32} {h : xH} {Q : Outcome → xH → Prop} (hq : bX12_joined_48 G fr lo x0 x1 x2 x3 x4 s0 h Q) : xP G YX12_joined fr lo 48 [(0, rv x0), (1, rv x1), (2, rv x2), (3, .int x3), (4, .int x4)] [.int s0] h Q := by
  unfold bX12_joined_48 at hq
  refine x_istore (lv' := [(5, .int s0), (0, rv x0), (1, rv x1), (2, rv x2), (3, .int x3), (4, .int x4)]) dX12_joined_48 (by decide) rfl ?_
  refine x_aload_n 1 dX12_joined_50 rfl ?_
  obtain ⟨g1, hq⟩ := hq
  refine x_get (v := rv (fR h x0 3082)) fdX12_26 dX12_joined_51 g1 rfl ?_
  refine x_iload_n 4 dX12_joined_54 rfl ?_
  obtain ⟨g2, hq⟩ := hq
  obtain ⟨i3, hq⟩ := hq
  refine x_iald 0 (Or.inl rfl) g2 i3 dX12_joined_55 ?_
  by_cases c4 : (aI h (fR h x0 3082) (Int32.toNatClampNeg x3)) = 6
  · replace hq := hq.1 c4
    rw [c4]
    refine x_look (tgt := 169) (off := 113) dX12_joined_56 (by decide) (by decide) (by decide) ?_
    refine x_iload 0 dX12_joined_169 rfl ?_
    refine x_if_eq (tgt := 206) dX12_joined_171 (by decide) (fun c5 => ?_) (fun c5 => ?_)
    · replace hq := hq.1 c5
      refine xP.pick (lv' := [(0, rv x0), (3, .int x3)]) [1, 4] rfl ?_
      exact uX12_joined_206 hq
    · replace hq := hq.2 c5
      refine x_aload_n 1 dX12_joined_174 rfl ?_
      refine x_get (v := rv (fR h x0 3115)) fdX12_109 dX12_joined_175 g1 rfl ?_
      exact x_aret rfl xty_O dX12_joined_178 hq
  replace hq := hq.2
  by_cases c6 : (aI h (fR h x0 3082) (Int32.toNatClampNeg x3)) = 18
  · replace hq := hq.1 c6
    rw [c6]
    refine x_look (tgt := 169) (off := 113) dX12_joined_56 (by decide) (by decide) (by decide) ?_
    refine x_iload 0 dX12_joined_169 rfl ?_
    refine x_if_eq (tgt := 206) dX12_joined_171 (by decide) (fun c7 => ?_) (fun c7 => ?_)
    · replace hq := hq.1 c7
      refine xP.pick (lv' := [(0, rv x0), (3, .int x3)]) [1, 4] rfl ?_
      exact uX12_joined_206 hq
    · replace hq := hq.2 c7
      refine x_aload_n 1 dX12_joined_174 rfl ?_
      refine x_get (v := rv (fR h x0 3115)) fdX12_109 dX12_joined_175 g1 rfl ?_
      exact x_aret rfl xty_O dX12_joined_178 hq
  replace hq := hq.2
  by_cases c8 : (aI h (fR h x0 3082) (Int32.toNatClampNeg x3)) = 50
  · replace hq := hq.1 c8
    rw [c8]
    refine x_look (tgt := 116) (off := 60) dX12_joined_56 (by decide) (by decide) (by decide) ?_
    refine x_iload 5 dX12_joined_116 rfl ?_
    refine x_if_eq (tgt := 138) dX12_joined_118 (by decide) (fun c9 => ?_) (fun c9 => ?_)
    · replace hq := hq.1 c9
      refine x_aload_n 2 dX12_joined_138 rfl ?_
      refine x_aload_n 3 dX12_joined_139 rfl ?_
      obtain ⟨g10, g11, hq⟩ := hq
      refine x_callS (Yc := YX12_areSets) (as := [rv x1, rv x2]) (st := []) q4378 msX12_areSets rfl dX12_joined_140 (xle (xal1 (rv_cat _) (xal1 (rv_cat _) xal0)) (by decide)) (xfr g10) (xlo xsw0 (by decide) g11) (xKi hq (fun x13 h12 hq e14 => ?_) (fun _ _ q _ => q))
      replace hq := hq e14
      refine x_if_eq (tgt := 206) dX12_joined_143 (by decide) (fun c15 => ?_) (fun c15 => ?_)
      · replace hq := hq.1 c15
        refine xP.pick (lv' := [(0, rv x0), (3, .int x3)]) [1, 4] rfl ?_
        exact uX12_joined_206 hq
      · replace hq := hq.2 c15
        refine x_aload_n 2 dX12_joined_146 rfl ?_
        obtain ⟨g16, hq⟩ := hq
        refine x_get (v := rv (fR h12 x1 3332)) fdX12_864 dX12_joined_147 g16 rfl ?_
        refine x_ifnonnull (tgt := 157) dX12_joined_150 (by decide) (fun c17 => ?_) (fun c17 => ?_)
        · replace hq := hq.1 c17
          refine x_aload_n 2 dX12_joined_157 rfl ?_
          refine xP.pick (lv' := []) [] rfl ?_
          exact uX12_joined_158 hq
        · replace hq := hq.2 c17
          refine x_aload_n 3 dX12_joined_153 rfl ?_
          refine x_goto (tgt := 158) dX12_joined_154 (by decide) ?_
          refine xP.pick (lv' := []) [] rfl ?_
          exact uX12_joined_158 hq
    · replace hq := hq.2 c9
      refine x_iload 0 dX12_joined_121 rfl ?_
      refine x_if_eq (tgt := 133) dX12_joined_123 (by decide) (fun c18 => ?_) (fun c18 => ?_)
      · replace hq := hq.1 c18
        refine x_aload_n 1 dX12_joined_133 rfl ?_
        refine x_get (v := rv (fR h x0 3116)) fdX12_113 dX12_joined_134 g1 rfl ?_
        refine xP.pick (lv' := []) [] rfl ?_
        exact uX12_joined_137 hq
      · replace hq := hq.2 c18
        refine x_aload_n 1 dX12_joined_126 rfl ?_
        refine x_get (v := rv (fR h x0 3115)) fdX12_109 dX12_joined_127 g1 rfl ?_
        refine x_goto (tgt := 137) dX12_joined_130 (by decide) ?_
        refine xP.pick (lv' := []) [] rfl ?_
        exact uX12_joined_137 hq
  replace hq := hq.2
  by_cases c19 : (aI h (fR h x0 3082) (Int32.toNatClampNeg x3)) = 51
  · replace hq := hq.1 c19
    rw [c19]
    refine x_look (tgt := 116) (off := 60) dX12_joined_56 (by decide) (by decide) (by decide) ?_
    refine x_iload 5 dX12_joined_116 rfl ?_
    refine x_if_eq (tgt := 138) dX12_joined_118 (by decide) (fun c20 => ?_) (fun c20 => ?_)
    · replace hq := hq.1 c20
      refine x_aload_n 2 dX12_joined_138 rfl ?_
      refine x_aload_n 3 dX12_joined_139 rfl ?_
      obtain ⟨g21, g22, hq⟩ := hq
      refine x_callS (Yc := YX12_areSets) (as := [rv x1, rv x2]) (st := []) q4378 msX12_areSets rfl dX12_joined_140 (xle (xal1 (rv_cat _) (xal1 (rv_cat _) xal0)) (by decide)) (xfr g21) (xlo xsw0 (by decide) g22) (xKi hq (fun x24 h23 hq e25 => ?_) (fun _ _ q _ => q))
      replace hq := hq e25
      refine x_if_eq (tgt := 206) dX12_joined_143 (by decide) (fun c26 => ?_) (fun c26 => ?_)
      · replace hq := hq.1 c26
        refine xP.pick (lv' := [(0, rv x0), (3, .int x3)]) [1, 4] rfl ?_
        exact uX12_joined_206 hq
      · replace hq := hq.2 c26
        refine x_aload_n 2 dX12_joined_146 rfl ?_
        obtain ⟨g27, hq⟩ := hq
        refine x_get (v := rv (fR h23 x1 3332)) fdX12_864 dX12_joined_147 g27 rfl ?_
        refine x_ifnonnull (tgt := 157) dX12_joined_150 (by decide) (fun c28 => ?_) (fun c28 => ?_)
        · replace hq := hq.1 c28
          refine x_aload_n 2 dX12_joined_157 rfl ?_
          refine xP.pick (lv' := []) [] rfl ?_
          exact uX12_joined_158 hq
        · replace hq := hq.2 c28
          refine x_aload_n 3 dX12_joined_153 rfl ?_
          refine x_goto (tgt := 158) dX12_joined_154 (by decide) ?_
          refine xP.pick (lv' := []) [] rfl ?_
          exact uX12_joined_158 hq
    · replace hq := hq.2 c20
      refine x_iload 0 dX12_joined_121 rfl ?_
      refine x_if_eq (tgt := 133) dX12_joined_123 (by decide) (fun c29 => ?_) (fun c29 => ?_)
      · replace hq := hq.1 c29
        refine x_aload_n 1 dX12_joined_133 rfl ?_
        refine x_get (v := rv (fR h x0 3116)) fdX12_113 dX12_joined_134 g1 rfl ?_
        refine xP.pick (lv' := []) [] rfl ?_
        exact uX12_joined_137 hq
      · replace hq := hq.2 c29
        refine x_aload_n 1 dX12_joined_126 rfl ?_
        refine x_get (v := rv (fR h x0 3115)) fdX12_109 dX12_joined_127 g1 rfl ?_
        refine x_goto (tgt := 137) dX12_joined_130 (by decide) ?_
        refine xP.pick (lv' := []) [] rfl ?_
        exact uX12_joined_137 hq
  replace hq := hq.2
  by_cases c30 : (aI h (fR h x0 3082) (Int32.toNatClampNeg x3)) = 52
  · replace hq := hq.1 c30
    rw [c30]
    refine x_look (tgt := 116) (off := 60) dX12_joined_56 (by decide) (by decide) (by decide) ?_
    refine x_iload 5 dX12_joined_116 rfl ?_
    refine x_if_eq (tgt := 138) dX12_joined_118 (by decide) (fun c31 => ?_) (fun c31 => ?_)
    · replace hq := hq.1 c31
      refine x_aload_n 2 dX12_joined_138 rfl ?_
      refine x_aload_n 3 dX12_joined_139 rfl ?_
      obtain ⟨g32, g33, hq⟩ := hq
      refine x_callS (Yc := YX12_areSets) (as := [rv x1, rv x2]) (st := []) q4378 msX12_areSets rfl dX12_joined_140 (xle (xal1 (rv_cat _) (xal1 (rv_cat _) xal0)) (by decide)) (xfr g32) (xlo xsw0 (by decide) g33) (xKi hq (fun x35 h34 hq e36 => ?_) (fun _ _ q _ => q))
      replace hq := hq e36
      refine x_if_eq (tgt := 206) dX12_joined_143 (by decide) (fun c37 => ?_) (fun c37 => ?_)
      · replace hq := hq.1 c37
        refine xP.pick (lv' := [(0, rv x0), (3, .int x3)]) [1, 4] rfl ?_
        exact uX12_joined_206 hq
      · replace hq := hq.2 c37
        refine x_aload_n 2 dX12_joined_146 rfl ?_
        obtain ⟨g38, hq⟩ := hq
        refine x_get (v := rv (fR h34 x1 3332)) fdX12_864 dX12_joined_147 g38 rfl ?_
        refine x_ifnonnull (tgt := 157) dX12_joined_150 (by decide) (fun c39 => ?_) (fun c39 => ?_)
        · replace hq := hq.1 c39
          refine x_aload_n 2 dX12_joined_157 rfl ?_
          refine xP.pick (lv' := []) [] rfl ?_
          exact uX12_joined_158 hq
        · replace hq := hq.2 c39
          refine x_aload_n 3 dX12_joined_153 rfl ?_
          refine x_goto (tgt := 158) dX12_joined_154 (by decide) ?_
          refine xP.pick (lv' := []) [] rfl ?_
          exact uX12_joined_158 hq
    · replace hq := hq.2 c31
      refine x_iload 0 dX12_joined_121 rfl ?_
      refine x_if_eq (tgt := 133) dX12_joined_123 (by decide) (fun c40 => ?_) (fun c40 => ?_)
      · replace hq := hq.1 c40
        refine x_aload_n 1 dX12_joined_133 rfl ?_
        refine x_get (v := rv (fR h x0 3116)) fdX12_113 dX12_joined_134 g1 rfl ?_
        refine xP.pick (lv' := []) [] rfl ?_
        exact uX12_joined_137 hq
      · replace hq := hq.2 c40
        refine x_aload_n 1 dX12_joined_126 rfl ?_
        refine x_get (v := rv (fR h x0 3115)) fdX12_109 dX12_joined_127 g1 rfl ?_
        refine x_goto (tgt := 137) dX12_joined_130 (by decide) ?_
        refine xP.pick (lv' := []) [] rfl ?_
        exact uX12_joined_137 hq
  replace hq := hq.2
  by_cases c41 : (aI h (fR h x0 3082) (Int32.toNatClampNeg x3)) = 53
  · replace hq := hq.1 c41
    rw [c41]
    refine x_look (tgt := 159) (off := 103) dX12_joined_56 (by decide) (by decide) (by decide) ?_
    refine x_iload 5 dX12_joined_159 rfl ?_
    refine x_if_eq (tgt := 206) dX12_joined_161 (by decide) (fun c42 => ?_) (fun c42 => ?_)
    · replace hq := hq.1 c42
      refine xP.pick (lv' := [(0, rv x0), (3, .int x3)]) [1, 4] rfl ?_
      exact uX12_joined_206 hq
    · replace hq := hq.2 c42
      refine x_aload_n 1 dX12_joined_164 rfl ?_
      refine x_get (v := rv (fR h x0 3116)) fdX12_113 dX12_joined_165 g1 rfl ?_
      exact x_aret rfl xty_O dX12_joined_168 hq
  replace hq := hq.2
  replace hq := hq c4 c6 c8 c19 c30 c41
  refine x_look (tgt := 179) (off := 123) dX12_joined_56 (by decide) (by rw [lv_osw c4 (show (6 : Int32).toInt = 6 from by decide)]; rw [lv_osw c6 (show (18 : Int32).toInt = 18 from by decide)]; rw [lv_osw c8 (show (50 : Int32).toInt = 50 from by decide)]; rw [lv_osw c19 (show (51 : Int32).toInt = 51 from by decide)]; rw [lv_osw c30 (show (52 : Int32).toInt = 52 from by decide)]; rw [lv_osw c41 (show (53 : Int32).toInt = 53 from by decide)]; rfl) (by decide) ?_
  refine x_aload_n 2 dX12_joined_179 rfl ?_
  obtain ⟨g43, hq⟩ := hq
  obtain ⟨g44, g45, hq⟩ := hq
  refine x_callV (Yc := YX13_own) (as := []) (st := []) q4189 mvX13_own g43 rfl dX12_joined_180 (xle (xal1 (rv_cat _) xal0) (by decide)) (xfr g44) (xlo xsw0 (by decide) g45) (xKr hq (fun x47 h46 hq e48 => ?_) (fun _ _ q _ => q))
  replace hq := hq e48
  refine x_aload_n 1 dX12_joined_183 rfl ?_
  have t49 : tg h46 x0 = 13 := e48.tg g1 (by decide)
  refine x_get (v := rv (fR h46 x0 3117)) fdX12_116 dX12_joined_184 t49 rfl ?_
  refine x_acmp_ne (tgt := 206) dX12_joined_187 (by decide) (fun c50 => ?_) (fun c50 => ?_)
  · replace hq := hq.1 c50
    refine xP.pick (lv' := [(0, rv x0), (3, .int x3)]) [1, 4] rfl ?_
    exact uX12_joined_206 hq
  · replace hq := hq.2 c50
    refine x_aload_n 3 dX12_joined_190 rfl ?_
    obtain ⟨g51, hq⟩ := hq
    obtain ⟨g52, g53, hq⟩ := hq
    refine x_callV (Yc := YX13_own) (as := []) (st := []) q4189 mvX13_own g51 rfl dX12_joined_191 (xle (xal1 (rv_cat _) xal0) (by decide)) (xfr g52) (xlo xsw0 (by decide) g53) (xKr hq (fun x55 h54 hq e56 => ?_) (fun _ _ q _ => q))
    replace hq := hq e56
    refine x_aload_n 1 dX12_joined_194 rfl ?_
    have t57 : tg h54 x0 = 13 := e56.tg t49 (by decide)
    refine x_get (v := rv (fR h54 x0 3117)) fdX12_116 dX12_joined_195 t57 rfl ?_
    refine x_acmp_ne (tgt := 206) dX12_joined_198 (by decide) (fun c58 => ?_) (fun c58 => ?_)
    · replace hq := hq.1 c58
      refine xP.pick (lv' := [(0, rv x0), (3, .int x3)]) [1, 4] rfl ?_
      exact uX12_joined_206 hq
    · replace hq := hq.2 c58
      refine x_aload_n 1 dX12_joined_201 rfl ?_
      refine x_get (v := rv (fR h54 x0 3117)) fdX12_116 dX12_joined_202 t57 rfl ?_
      exact x_aret rfl xty_O dX12_joined_205 hq
set_option maxRecDepth 100000 in
def bX12_joined_47 (G : xG) (fr lo : Nat) (x0 : Nat) (x1 : Nat) (x2 : Nat) (x3 : Int32) (x4 : Int32) (h : xH) (Q : Outcome → xH → Prop) : Prop := bX12_joined_48 G fr lo x0 x1 x2 x3 x4 0 h Q
set_option maxRecDepth 100000 in
theorem uX12_joined_47 {G : xG} {fr lo : Nat} {x0 : Nat} {x1 : Nat} {x2 : Nat} {x3 : Int32} {x4 : Int32} {h : xH} {Q : Outcome → xH → Prop} (hq : bX12_joined_47 G fr lo x0 x1 x2 x3 x4 h Q) : xP G YX12_joined fr lo 47 [(0, rv x0), (1, rv x1), (2, rv x2), (3, .int x3), (4, .int x4)] [] h Q := by
  unfold bX12_joined_47 at hq
  refine x_iconst (v := 0) dX12_joined_47 (by decide) ?_
  exact uX12_joined_48 hq
set_option maxRecDepth 100000 in
def bX12_joined_19 (G : xG) (fr lo : Nat) (x0 : Nat) (x1 : Nat) (x2 : Nat) (x3 : Int32) (s0 : Int32) (h : xH) (Q : Outcome → xH → Prop) : Prop := tg h x1 = 14 ∧ 1 ≤ fr ∧ 12 ≤ lo ∧ xRr G YX13_own (fr - 1) (lo - 12) [rv x1] h (fun x5 h4 => xext h h4 → tg h4 x0 = 13 ∧ ((¬ x5 = (fR h4 x0 3115) → bX12_joined_47 G fr lo x0 x1 x2 x3 s0 h4 Q) ∧ (x5 = (fR h4 x0 3115) → tg h4 x2 = 14 ∧ 1 ≤ fr ∧ 12 ≤ lo ∧ xRr G YX13_own (fr - 1) (lo - 12) [rv x2] h4 (fun x13 h12 => xext h4 h12 → ((¬ x13 = (fR h12 x0 3115) → bX12_joined_47 G fr lo x0 x1 x2 x3 s0 h12 Q) ∧ (x13 = (fR h12 x0 3115) → bX12_joined_48 G fr lo x0 x1 x2 x3 s0 1 h12 Q))) (fun r h2 => Q (.threw r) h2)))) (fun r h2 => Q (.threw r) h2)
set_option maxRecDepth 100000 in
theorem uX12_joined_19 {G : xG} {fr lo : Nat} {x0 : Nat} {x1 : Nat} {x2 : Nat} {x3 : Int32} {s0 : Int32} {h : xH} {Q : Outcome → xH → Prop} (hq : bX12_joined_19 G fr lo x0 x1 x2 x3 s0 h Q) : xP G YX12_joined fr lo 19 [(0, rv x0), (1, rv x1), (2, rv x2), (3, .int x3)] [.int s0] h Q := by
  unfold bX12_joined_19 at hq
  refine x_istore (lv' := [(4, .int s0), (0, rv x0), (1, rv x1), (2, rv x2), (3, .int x3)]) dX12_joined_19 (by decide) rfl ?_
  refine x_aload_n 2 dX12_joined_21 rfl ?_
  obtain ⟨g1, hq⟩ := hq
  obtain ⟨g2, g3, hq⟩ := hq
  refine x_callV (Yc := YX13_own) (as := []) (st := []) q4189 mvX13_own g1 rfl dX12_joined_22 (xle (xal1 (rv_cat _) xal0) (by decide)) (xfr g2) (xlo xsw0 (by decide) g3) (xKr hq (fun x5 h4 hq e6 => ?_) (fun _ _ q _ => q))
  replace hq := hq e6
  refine x_aload_n 1 dX12_joined_25 rfl ?_
  obtain ⟨g7, hq⟩ := hq
  refine x_get (v := rv (fR h4 x0 3115)) fdX12_109 dX12_joined_26 g7 rfl ?_
  refine x_acmp_ne (tgt := 47) dX12_joined_29 (by decide) (fun c8 => ?_) (fun c8 => ?_)
  · replace hq := hq.1 c8
    refine xP.pick (lv' := [(0, rv x0), (1, rv x1), (2, rv x2), (3, .int x3), (4, .int s0)]) [1, 2, 3, 4, 0] rfl ?_
    exact uX12_joined_47 hq
  · replace hq := hq.2 c8
    refine x_aload_n 3 dX12_joined_32 rfl ?_
    obtain ⟨g9, hq⟩ := hq
    obtain ⟨g10, g11, hq⟩ := hq
    refine x_callV (Yc := YX13_own) (as := []) (st := []) q4189 mvX13_own g9 rfl dX12_joined_33 (xle (xal1 (rv_cat _) xal0) (by decide)) (xfr g10) (xlo xsw0 (by decide) g11) (xKr hq (fun x13 h12 hq e14 => ?_) (fun _ _ q _ => q))
    replace hq := hq e14
    refine x_aload_n 1 dX12_joined_36 rfl ?_
    have t15 : tg h12 x0 = 13 := e14.tg g7 (by decide)
    refine x_get (v := rv (fR h12 x0 3115)) fdX12_109 dX12_joined_37 t15 rfl ?_
    refine x_acmp_ne (tgt := 47) dX12_joined_40 (by decide) (fun c16 => ?_) (fun c16 => ?_)
    · replace hq := hq.1 c16
      refine xP.pick (lv' := [(0, rv x0), (1, rv x1), (2, rv x2), (3, .int x3), (4, .int s0)]) [1, 2, 3, 4, 0] rfl ?_
      exact uX12_joined_47 hq
    · replace hq := hq.2 c16
      refine x_iconst (v := 1) dX12_joined_43 (by decide) ?_
      refine x_goto (tgt := 48) dX12_joined_44 (by decide) ?_
      refine xP.pick (lv' := [(0, rv x0), (1, rv x1), (2, rv x2), (3, .int x3), (4, .int s0)]) [1, 2, 3, 4, 0] rfl ?_
      exact uX12_joined_48 hq
set_option maxRecDepth 100000 in
def bX12_joined_18 (G : xG) (fr lo : Nat) (x0 : Nat) (x1 : Nat) (x2 : Nat) (x3 : Int32) (h : xH) (Q : Outcome → xH → Prop) : Prop := bX12_joined_19 G fr lo x0 x1 x2 x3 0 h Q
set_option maxRecDepth 100000 in
theorem uX12_joined_18 {G : xG} {fr lo : Nat} {x0 : Nat} {x1 : Nat} {x2 : Nat} {x3 : Int32} {h : xH} {Q : Outcome → xH → Prop} (hq : bX12_joined_18 G fr lo x0 x1 x2 x3 h Q) : xP G YX12_joined fr lo 18 [(0, rv x0), (1, rv x1), (2, rv x2), (3, .int x3)] [] h Q := by
  unfold bX12_joined_18 at hq
  refine x_iconst (v := 0) dX12_joined_18 (by decide) ?_
  exact uX12_joined_19 hq
set_option maxRecDepth 100000 in
def bX12_joined (G : xG) (fr lo : Nat) (x0 : Nat) (x1 : Nat) (x2 : Nat) (x3 : Int32) (h : xH) (Q : Outcome → xH → Prop) : Prop := tg h x1 = 14 ∧ 1 ≤ fr ∧ 12 ≤ lo ∧ xRi G YX13_isNumber (fr - 1) (lo - 12) [rv x1] h (fun x5 h4 => xext h h4 → ((x5 = 0 → bX12_joined_18 G fr lo x0 x1 x2 x3 h4 Q) ∧ (¬ x5 = 0 → tg h4 x2 = 14 ∧ 1 ≤ fr ∧ 12 ≤ lo ∧ xRi G YX13_isNumber (fr - 1) (lo - 12) [rv x2] h4 (fun x12 h11 => xext h4 h11 → ((x12 = 0 → bX12_joined_18 G fr lo x0 x1 x2 x3 h11 Q) ∧ (¬ x12 = 0 → bX12_joined_19 G fr lo x0 x1 x2 x3 1 h11 Q))) (fun r h2 => Q (.threw r) h2)))) (fun r h2 => Q (.threw r) h2)
set_option maxRecDepth 100000 in
theorem uX12_joined {G : xG} {fr lo : Nat} {x0 : Nat} {x1 : Nat} {x2 : Nat} {x3 : Int32} {h : xH} {Q : Outcome → xH → Prop} (hq : bX12_joined G fr lo x0 x1 x2 x3 h Q) : xP G YX12_joined fr lo 0 [(0, rv x0), (1, rv x1), (2, rv x2), (3, .int x3)] [] h Q := by
  unfold bX12_joined at hq
  refine x_aload_n 1 dX12_joined_0 rfl ?_
  obtain ⟨g1, hq⟩ := hq
  obtain ⟨g2, g3, hq⟩ := hq
  refine x_callV (Yc := YX13_isNumber) (as := []) (st := []) q4165 mvX13_isNumber g1 rfl dX12_joined_1 (xle (xal1 (rv_cat _) xal0) (by decide)) (xfr g2) (xlo xsw0 (by decide) g3) (xKi hq (fun x5 h4 hq e6 => ?_) (fun _ _ q _ => q))
  replace hq := hq e6
  refine x_if_eq (tgt := 18) dX12_joined_4 (by decide) (fun c7 => ?_) (fun c7 => ?_)
  · replace hq := hq.1 c7
    exact uX12_joined_18 hq
  · replace hq := hq.2 c7
    refine x_aload_n 2 dX12_joined_7 rfl ?_
    obtain ⟨g8, hq⟩ := hq
    obtain ⟨g9, g10, hq⟩ := hq
    refine x_callV (Yc := YX13_isNumber) (as := []) (st := []) q4165 mvX13_isNumber g8 rfl dX12_joined_8 (xle (xal1 (rv_cat _) xal0) (by decide)) (xfr g9) (xlo xsw0 (by decide) g10) (xKi hq (fun x12 h11 hq e13 => ?_) (fun _ _ q _ => q))
    replace hq := hq e13
    refine x_if_eq (tgt := 18) dX12_joined_11 (by decide) (fun c14 => ?_) (fun c14 => ?_)
    · replace hq := hq.1 c14
      exact uX12_joined_18 hq
    · replace hq := hq.2 c14
      refine x_iconst (v := 1) dX12_joined_14 (by decide) ?_
      refine x_goto (tgt := 19) dX12_joined_15 (by decide) ?_
      exact uX12_joined_19 hq
theorem rX12_joined {G : xG} {fr lo : Nat} {x0 : Nat} {x1 : Nat} {x2 : Nat} {x3 : Int32} {h : xH} {Q : Outcome → xH → Prop} (hq : bX12_joined G fr lo x0 x1 x2 x3 h Q) : xR G YX12_joined fr lo [rv x0, rv x1, rv x2, .int x3] h Q := by
  show xP _ _ _ _ _ (lv_args 0 _) _ _ _
  rw [show lv_args 0 [rv x0, rv x1, rv x2, .int x3] = [(0, rv x0), (1, rv x1), (2, rv x2), (3, .int x3)] from (xla1 (rv_cat _) (xla1 (rv_cat _) (xla1 (rv_cat _) (xla1 rfl xla0))))]
  exact uX12_joined hq
set_option maxRecDepth 100000 in
theorem dX12_areRelated_0 : decode cX12_areRelated 0 = .ok (.iload_n 3, 1) := by decide +kernel
set_option maxRecDepth 100000 in
theorem dX12_areRelated_1 : decode cX12_areRelated 1 = .ok (.bipush 16, 2) := by decide +kernel
set_option maxRecDepth 100000 in
theorem dX12_areRelated_3 : decode cX12_areRelated 3 = .ok (.if_icmp .ne 46, 3) := by decide +kernel
set_option maxRecDepth 100000 in
theorem dX12_areRelated_6 : decode cX12_areRelated 6 = .ok (.aload_n 1, 1) := by decide +kernel
set_option maxRecDepth 100000 in
theorem dX12_areRelated_7 : decode cX12_areRelated 7 = .ok (.invokevirtual 861, 3) := by decide +kernel
set_option maxRecDepth 100000 in
theorem dX12_areRelated_10 : decode cX12_areRelated 10 = .ok (.ifCond .eq 37, 3) := by decide +kernel
set_option maxRecDepth 100000 in
theorem dX12_areRelated_13 : decode cX12_areRelated 13 = .ok (.aload_n 2, 1) := by decide +kernel
set_option maxRecDepth 100000 in
theorem dX12_areRelated_14 : decode cX12_areRelated 14 = .ok (.getfield 845, 3) := by decide +kernel
set_option maxRecDepth 100000 in
theorem dX12_areRelated_17 : decode cX12_areRelated 17 = .ok (.bipush 9, 2) := by decide +kernel
set_option maxRecDepth 100000 in
theorem dX12_areRelated_19 : decode cX12_areRelated 19 = .ok (.if_icmp .ne 28, 3) := by decide +kernel
set_option maxRecDepth 100000 in
theorem dX12_areRelated_22 : decode cX12_areRelated 22 = .ok (.aload_n 2, 1) := by decide +kernel
set_option maxRecDepth 100000 in
theorem dX12_areRelated_23 : decode cX12_areRelated 23 = .ok (.getfield 864, 3) := by decide +kernel
set_option maxRecDepth 100000 in
theorem dX12_areRelated_26 : decode cX12_areRelated 26 = .ok (.ifnull 17, 3) := by decide +kernel
set_option maxRecDepth 100000 in
theorem dX12_areRelated_29 : decode cX12_areRelated 29 = .ok (.aload_n 2, 1) := by decide +kernel
set_option maxRecDepth 100000 in
theorem dX12_areRelated_30 : decode cX12_areRelated 30 = .ok (.getfield 864, 3) := by decide +kernel
set_option maxRecDepth 100000 in
theorem dX12_areRelated_33 : decode cX12_areRelated 33 = .ok (.invokevirtual 867, 3) := by decide +kernel
set_option maxRecDepth 100000 in
theorem dX12_areRelated_36 : decode cX12_areRelated 36 = .ok (.aload_n 1, 1) := by decide +kernel
set_option maxRecDepth 100000 in
theorem dX12_areRelated_37 : decode cX12_areRelated 37 = .ok (.invokevirtual 867, 3) := by decide +kernel
set_option maxRecDepth 100000 in
theorem dX12_areRelated_40 : decode cX12_areRelated 40 = .ok (.if_acmp .ne 7, 3) := by decide +kernel
set_option maxRecDepth 100000 in
theorem dX12_areRelated_43 : decode cX12_areRelated 43 = .ok (.iconst 1, 1) := by decide +kernel
set_option maxRecDepth 100000 in
theorem dX12_areRelated_44 : decode cX12_areRelated 44 = .ok (.goto 4, 3) := by decide +kernel
set_option maxRecDepth 100000 in
theorem dX12_areRelated_47 : decode cX12_areRelated 47 = .ok (.iconst 0, 1) := by decide +kernel
set_option maxRecDepth 100000 in
theorem dX12_areRelated_48 : decode cX12_areRelated 48 = .ok (.ireturn, 1) := by decide +kernel
set_option maxRecDepth 100000 in
theorem dX12_areRelated_49 : decode cX12_areRelated 49 = .ok (.aload_n 1, 1) := by decide +kernel
set_option maxRecDepth 100000 in
theorem dX12_areRelated_50 : decode cX12_areRelated 50 = .ok (.invokevirtual 842, 3) := by decide +kernel
set_option maxRecDepth 100000 in
theorem dX12_areRelated_53 : decode cX12_areRelated 53 = .ok (.ifCond .eq 12, 3) := by decide +kernel
set_option maxRecDepth 100000 in
theorem dX12_areRelated_56 : decode cX12_areRelated 56 = .ok (.aload_n 2, 1) := by decide +kernel
set_option maxRecDepth 100000 in
theorem dX12_areRelated_57 : decode cX12_areRelated 57 = .ok (.invokevirtual 842, 3) := by decide +kernel
set_option maxRecDepth 100000 in
theorem dX12_areRelated_60 : decode cX12_areRelated 60 = .ok (.ifCond .eq 5, 3) := by decide +kernel
set_option maxRecDepth 100000 in
theorem dX12_areRelated_63 : decode cX12_areRelated 63 = .ok (.iconst 1, 1) := by decide +kernel
set_option maxRecDepth 100000 in
theorem dX12_areRelated_64 : decode cX12_areRelated 64 = .ok (.ireturn, 1) := by decide +kernel
set_option maxRecDepth 100000 in
theorem dX12_areRelated_65 : decode cX12_areRelated 65 = .ok (.aload_n 1, 1) := by decide +kernel
set_option maxRecDepth 100000 in
theorem dX12_areRelated_66 : decode cX12_areRelated 66 = .ok (.invokevirtual 861, 3) := by decide +kernel
set_option maxRecDepth 100000 in
theorem dX12_areRelated_69 : decode cX12_areRelated 69 = .ok (.ifCond .eq 27, 3) := by decide +kernel
set_option maxRecDepth 100000 in
theorem dX12_areRelated_72 : decode cX12_areRelated 72 = .ok (.aload_n 2, 1) := by decide +kernel
set_option maxRecDepth 100000 in
theorem dX12_areRelated_73 : decode cX12_areRelated 73 = .ok (.invokevirtual 861, 3) := by decide +kernel
set_option maxRecDepth 100000 in
theorem dX12_areRelated_76 : decode cX12_areRelated 76 = .ok (.ifCond .eq 20, 3) := by decide +kernel
set_option maxRecDepth 100000 in
theorem dX12_areRelated_79 : decode cX12_areRelated 79 = .ok (.aload_n 1, 1) := by decide +kernel
set_option maxRecDepth 100000 in
theorem dX12_areRelated_80 : decode cX12_areRelated 80 = .ok (.invokevirtual 867, 3) := by decide +kernel
set_option maxRecDepth 100000 in
theorem dX12_areRelated_83 : decode cX12_areRelated 83 = .ok (.aload_n 2, 1) := by decide +kernel
set_option maxRecDepth 100000 in
theorem dX12_areRelated_84 : decode cX12_areRelated 84 = .ok (.invokevirtual 867, 3) := by decide +kernel
set_option maxRecDepth 100000 in
theorem dX12_areRelated_87 : decode cX12_areRelated 87 = .ok (.if_acmp .ne 7, 3) := by decide +kernel
set_option maxRecDepth 100000 in
theorem dX12_areRelated_90 : decode cX12_areRelated 90 = .ok (.iconst 1, 1) := by decide +kernel
set_option maxRecDepth 100000 in
theorem dX12_areRelated_91 : decode cX12_areRelated 91 = .ok (.goto 4, 3) := by decide +kernel
set_option maxRecDepth 100000 in
theorem dX12_areRelated_94 : decode cX12_areRelated 94 = .ok (.iconst 0, 1) := by decide +kernel
set_option maxRecDepth 100000 in
theorem dX12_areRelated_95 : decode cX12_areRelated 95 = .ok (.ireturn, 1) := by decide +kernel
set_option maxRecDepth 100000 in
theorem dX12_areRelated_96 : decode cX12_areRelated 96 = .ok (.aload_n 1, 1) := by decide +kernel
set_option maxRecDepth 100000 in
theorem dX12_areRelated_97 : decode cX12_areRelated 97 = .ok (.invokevirtual 1050, 3) := by decide +kernel
set_option maxRecDepth 100000 in
theorem dX12_areRelated_100 : decode cX12_areRelated 100 = .ok (.ifCond .le 16, 3) := by decide +kernel
set_option maxRecDepth 100000 in
theorem dX12_areRelated_103 : decode cX12_areRelated 103 = .ok (.aload_n 1, 1) := by decide +kernel
set_option maxRecDepth 100000 in
theorem dX12_areRelated_104 : decode cX12_areRelated 104 = .ok (.invokevirtual 1050, 3) := by decide +kernel
set_option maxRecDepth 100000 in
theorem dX12_areRelated_107 : decode cX12_areRelated 107 = .ok (.aload_n 2, 1) := by decide +kernel
set_option maxRecDepth 100000 in
theorem dX12_areRelated_108 : decode cX12_areRelated 108 = .ok (.invokevirtual 1050, 3) := by decide +kernel
set_option maxRecDepth 100000 in
theorem dX12_areRelated_111 : decode cX12_areRelated 111 = .ok (.if_icmp .ne 5, 3) := by decide +kernel
set_option maxRecDepth 100000 in
theorem dX12_areRelated_114 : decode cX12_areRelated 114 = .ok (.iconst 1, 1) := by decide +kernel
set_option maxRecDepth 100000 in
theorem dX12_areRelated_115 : decode cX12_areRelated 115 = .ok (.ireturn, 1) := by decide +kernel
set_option maxRecDepth 100000 in
theorem dX12_areRelated_116 : decode cX12_areRelated 116 = .ok (.aload_n 1, 1) := by decide +kernel
set_option maxRecDepth 100000 in
theorem dX12_areRelated_117 : decode cX12_areRelated 117 = .ok (.getfield 845, 3) := by decide +kernel
set_option maxRecDepth 100000 in
theorem dX12_areRelated_120 : decode cX12_areRelated 120 = .ok (.bipush 11, 2) := by decide +kernel
set_option maxRecDepth 100000 in
theorem dX12_areRelated_122 : decode cX12_areRelated 122 = .ok (.if_icmp .eq 12, 3) := by decide +kernel
set_option maxRecDepth 100000 in
theorem dX12_areRelated_125 : decode cX12_areRelated 125 = .ok (.aload_n 1, 1) := by decide +kernel
set_option maxRecDepth 100000 in
theorem dX12_areRelated_126 : decode cX12_areRelated 126 = .ok (.getfield 845, 3) := by decide +kernel
set_option maxRecDepth 100000 in
theorem dX12_areRelated_129 : decode cX12_areRelated 129 = .ok (.bipush 12, 2) := by decide +kernel
set_option maxRecDepth 100000 in
theorem dX12_areRelated_131 : decode cX12_areRelated 131 = .ok (.if_icmp .ne 15, 3) := by decide +kernel
set_option maxRecDepth 100000 in
theorem dX12_areRelated_134 : decode cX12_areRelated 134 = .ok (.aload_n 1, 1) := by decide +kernel
set_option maxRecDepth 100000 in
theorem dX12_areRelated_135 : decode cX12_areRelated 135 = .ok (.aload_n 2, 1) := by decide +kernel
set_option maxRecDepth 100000 in
theorem dX12_areRelated_136 : decode cX12_areRelated 136 = .ok (.invokestatic 1056, 3) := by decide +kernel
set_option maxRecDepth 100000 in
theorem dX12_areRelated_139 : decode cX12_areRelated 139 = .ok (.ifCond .eq 7, 3) := by decide +kernel
set_option maxRecDepth 100000 in
theorem dX12_areRelated_142 : decode cX12_areRelated 142 = .ok (.iconst 1, 1) := by decide +kernel
set_option maxRecDepth 100000 in
theorem dX12_areRelated_143 : decode cX12_areRelated 143 = .ok (.goto 4, 3) := by decide +kernel
set_option maxRecDepth 100000 in
theorem dX12_areRelated_146 : decode cX12_areRelated 146 = .ok (.iconst 0, 1) := by decide +kernel
set_option maxRecDepth 100000 in
theorem dX12_areRelated_147 : decode cX12_areRelated 147 = .ok (.istore 4, 2) := by decide +kernel
set_option maxRecDepth 100000 in
theorem dX12_areRelated_149 : decode cX12_areRelated 149 = .ok (.iload_n 3, 1) := by decide +kernel
set_option maxRecDepth 100000 in
theorem dX12_areRelated_150 : decode cX12_areRelated 150 = .ok (.bipush 54, 2) := by decide +kernel
set_option maxRecDepth 100000 in
theorem dX12_areRelated_152 : decode cX12_areRelated 152 = .ok (.if_icmp .eq 9, 3) := by decide +kernel
set_option maxRecDepth 100000 in
theorem dX12_areRelated_155 : decode cX12_areRelated 155 = .ok (.iload_n 3, 1) := by decide +kernel
set_option maxRecDepth 100000 in
theorem dX12_areRelated_156 : decode cX12_areRelated 156 = .ok (.bipush 59, 2) := by decide +kernel
set_option maxRecDepth 100000 in
theorem dX12_areRelated_158 : decode cX12_areRelated 158 = .ok (.if_icmp .ne 7, 3) := by decide +kernel
set_option maxRecDepth 100000 in
theorem dX12_areRelated_161 : decode cX12_areRelated 161 = .ok (.iconst 1, 1) := by decide +kernel
set_option maxRecDepth 100000 in
theorem dX12_areRelated_162 : decode cX12_areRelated 162 = .ok (.goto 4, 3) := by decide +kernel
set_option maxRecDepth 100000 in
theorem dX12_areRelated_165 : decode cX12_areRelated 165 = .ok (.iconst 0, 1) := by decide +kernel
set_option maxRecDepth 100000 in
theorem dX12_areRelated_166 : decode cX12_areRelated 166 = .ok (.istore 5, 2) := by decide +kernel
set_option maxRecDepth 100000 in
theorem dX12_areRelated_168 : decode cX12_areRelated 168 = .ok (.iload 4, 2) := by decide +kernel
set_option maxRecDepth 100000 in
theorem dX12_areRelated_170 : decode cX12_areRelated 170 = .ok (.ifCond .eq 6, 3) := by decide +kernel
set_option maxRecDepth 100000 in
theorem dX12_areRelated_173 : decode cX12_areRelated 173 = .ok (.iload 5, 2) := by decide +kernel
set_option maxRecDepth 100000 in
theorem dX12_areRelated_175 : decode cX12_areRelated 175 = .ok (.ireturn, 1) := by decide +kernel
set_option maxRecDepth 100000 in
theorem dX12_areRelated_176 : decode cX12_areRelated 176 = .ok (.aload_n 1, 1) := by decide +kernel
set_option maxRecDepth 100000 in
theorem dX12_areRelated_177 : decode cX12_areRelated 177 = .ok (.aload_n 2, 1) := by decide +kernel
set_option maxRecDepth 100000 in
theorem dX12_areRelated_178 : decode cX12_areRelated 178 = .ok (.invokestatic 1053, 3) := by decide +kernel
set_option maxRecDepth 100000 in
theorem dX12_areRelated_181 : decode cX12_areRelated 181 = .ok (.ifCond .eq 19, 3) := by decide +kernel
set_option maxRecDepth 100000 in
theorem dX12_areRelated_184 : decode cX12_areRelated 184 = .ok (.iload_n 3, 1) := by decide +kernel
set_option maxRecDepth 100000 in
theorem dX12_areRelated_185 : decode cX12_areRelated 185 = .ok (.bipush 55, 2) := by decide +kernel
set_option maxRecDepth 100000 in
theorem dX12_areRelated_187 : decode cX12_areRelated 187 = .ok (.if_icmp .eq 13, 3) := by decide +kernel
set_option maxRecDepth 100000 in
theorem dX12_areRelated_190 : decode cX12_areRelated 190 = .ok (.iload_n 3, 1) := by decide +kernel
set_option maxRecDepth 100000 in
theorem dX12_areRelated_191 : decode cX12_areRelated 191 = .ok (.bipush 56, 2) := by decide +kernel
set_option maxRecDepth 100000 in
theorem dX12_areRelated_193 : decode cX12_areRelated 193 = .ok (.if_icmp .eq 7, 3) := by decide +kernel
set_option maxRecDepth 100000 in
theorem dX12_areRelated_196 : decode cX12_areRelated 196 = .ok (.iconst 1, 1) := by decide +kernel
set_option maxRecDepth 100000 in
theorem dX12_areRelated_197 : decode cX12_areRelated 197 = .ok (.goto 4, 3) := by decide +kernel
set_option maxRecDepth 100000 in
theorem dX12_areRelated_200 : decode cX12_areRelated 200 = .ok (.iconst 0, 1) := by decide +kernel
set_option maxRecDepth 100000 in
theorem dX12_areRelated_201 : decode cX12_areRelated 201 = .ok (.ireturn, 1) := by decide +kernel
set_option maxRecDepth 100000 in
def bX12_areRelated_201 (G : xG) (fr lo : Nat) (s0 : Int32) (h : xH) (Q : Outcome → xH → Prop) : Prop := xbz s0 ∧ Q (.returned (some (.int s0))) h
set_option maxRecDepth 100000 in
theorem uX12_areRelated_201 {G : xG} {fr lo : Nat} {s0 : Int32} {h : xH} {Q : Outcome → xH → Prop} (hq : bX12_areRelated_201 G fr lo s0 h Q) : xP G YX12_areRelated fr lo 201 [] [.int s0] h Q := by
  unfold bX12_areRelated_201 at hq
  obtain ⟨g1, hq⟩ := hq
  exact x_iret rfl (xnZ g1) dX12_areRelated_201 hq
set_option maxRecDepth 100000 in
def bX12_areRelated_200 (G : xG) (fr lo : Nat) (h : xH) (Q : Outcome → xH → Prop) : Prop := bX12_areRelated_201 G fr lo 0 h Q
set_option maxRecDepth 100000 in
theorem uX12_areRelated_200 {G : xG} {fr lo : Nat} {h : xH} {Q : Outcome → xH → Prop} (hq : bX12_areRelated_200 G fr lo h Q) : xP G YX12_areRelated fr lo 200 [] [] h Q := by
  unfold bX12_areRelated_200 at hq
  refine x_iconst (v := 0) dX12_areRelated_200 (by decide) ?_
  exact uX12_areRelated_201 hq
set_option maxRecDepth 100000 in
def bX12_areRelated_166 (G : xG) (fr lo : Nat) (x1 : Nat) (x2 : Nat) (x3 : Int32) (x4 : Int32) (s0 : Int32) (h : xH) (Q : Outcome → xH → Prop) : Prop := ((x4 = 0 → 1 ≤ fr ∧ 13 ≤ lo ∧ xRi G YX12_areSets (fr - 1) (lo - 13) [rv x1, rv x2] h (fun x5 h4 => xext h h4 → ((x5 = 0 → bX12_areRelated_200 G fr lo h4 Q) ∧ (¬ x5 = 0 → ((x3 = 55 → bX12_areRelated_200 G fr lo h4 Q) ∧ (¬ x3 = 55 → ((x3 = 56 → bX12_areRelated_200 G fr lo h4 Q) ∧ (¬ x3 = 56 → bX12_areRelated_201 G fr lo 1 h4 Q))))))) (fun r h2 => Q (.threw r) h2)) ∧ (¬ x4 = 0 → xbz s0 ∧ Q (.returned (some (.int s0))) h))
set_option maxRecDepth 100000 in
theorem uX12_areRelated_166 {G : xG} {fr lo : Nat} {x1 : Nat} {x2 : Nat} {x3 : Int32} {x4 : Int32} {s0 : Int32} {h : xH} {Q : Outcome → xH → Prop} (hq : bX12_areRelated_166 G fr lo x1 x2 x3 x4 s0 h Q) : xP G YX12_areRelated fr lo 166 [(1, rv x1), (2, rv x2), (3, .int x3), (4, .int x4)] [.int s0] h Q := by
  unfold bX12_areRelated_166 at hq
  refine x_istore (lv' := [(5, .int s0), (1, rv x1), (2, rv x2), (3, .int x3), (4, .int x4)]) dX12_areRelated_166 (by decide) rfl ?_
  refine x_iload 4 dX12_areRelated_168 rfl ?_
  refine x_if_eq (tgt := 176) dX12_areRelated_170 (by decide) (fun c1 => ?_) (fun c1 => ?_)
  · replace hq := hq.1 c1
    refine x_aload_n 1 dX12_areRelated_176 rfl ?_
    refine x_aload_n 2 dX12_areRelated_177 rfl ?_
    obtain ⟨g2, g3, hq⟩ := hq
    refine x_callS (Yc := YX12_areSets) (as := [rv x1, rv x2]) (st := []) q4378 msX12_areSets rfl dX12_areRelated_178 (xle (xal1 (rv_cat _) (xal1 (rv_cat _) xal0)) (by decide)) (xfr g2) (xlo xsw0 (by decide) g3) (xKi hq (fun x5 h4 hq e6 => ?_) (fun _ _ q _ => q))
    replace hq := hq e6
    refine x_if_eq (tgt := 200) dX12_areRelated_181 (by decide) (fun c7 => ?_) (fun c7 => ?_)
    · replace hq := hq.1 c7
      refine xP.pick (lv' := []) [] rfl ?_
      exact uX12_areRelated_200 hq
    · replace hq := hq.2 c7
      refine x_iload_n 3 dX12_areRelated_184 rfl ?_
      refine x_bipush (v := 55) dX12_areRelated_185 (by decide) ?_
      refine x_icmp_eq (tgt := 200) dX12_areRelated_187 (by decide) (fun c8 => ?_) (fun c8 => ?_)
      · replace hq := hq.1 c8
        refine xP.pick (lv' := []) [] rfl ?_
        exact uX12_areRelated_200 hq
      · replace hq := hq.2 c8
        refine x_iload_n 3 dX12_areRelated_190 rfl ?_
        refine x_bipush (v := 56) dX12_areRelated_191 (by decide) ?_
        refine x_icmp_eq (tgt := 200) dX12_areRelated_193 (by decide) (fun c9 => ?_) (fun c9 => ?_)
        · replace hq := hq.1 c9
          refine xP.pick (lv' := []) [] rfl ?_
          exact uX12_areRelated_200 hq
        · replace hq := hq.2 c9
          refine x_iconst (v := 1) dX12_areRelated_196 (by decide) ?_
          refine x_goto (tgt := 201) dX12_areRelated_197 (by decide) ?_
          refine xP.pick (lv' := []) [] rfl ?_
          exact uX12_areRelated_201 hq
  · replace hq := hq.2 c1
    refine x_iload 0 dX12_areRelated_173 rfl ?_
    obtain ⟨g10, hq⟩ := hq
    exact x_iret rfl (xnZ g10) dX12_areRelated_175 hq
set_option maxRecDepth 100000 in
def bX12_areRelated_161 (G : xG) (fr lo : Nat) (x1 : Nat) (x2 : Nat) (x3 : Int32) (x4 : Int32) (h : xH) (Q : Outcome → xH → Prop) : Prop := bX12_areRelated_166 G fr lo x1 x2 x3 x4 1 h Q
set_option maxRecDepth 100000 in
theorem uX12_areRelated_161 {G : xG} {fr lo : Nat} {x1 : Nat} {x2 : Nat} {x3 : Int32} {x4 : Int32} {h : xH} {Q : Outcome → xH → Prop} (hq : bX12_areRelated_161 G fr lo x1 x2 x3 x4 h Q) : xP G YX12_areRelated fr lo 161 [(1, rv x1), (2, rv x2), (3, .int x3), (4, .int x4)] [] h Q := by
  unfold bX12_areRelated_161 at hq
  refine x_iconst (v := 1) dX12_areRelated_161 (by decide) ?_
  refine x_goto (tgt := 166) dX12_areRelated_162 (by decide) ?_
  exact uX12_areRelated_166 hq
set_option maxRecDepth 100000 in
def bX12_areRelated_147 (G : xG) (fr lo : Nat) (x1 : Nat) (x2 : Nat) (x3 : Int32) (s0 : Int32) (h : xH) (Q : Outcome → xH → Prop) : Prop := ((x3 = 54 → bX12_areRelated_161 G fr lo x1 x2 x3 s0 h Q) ∧ (¬ x3 = 54 → ((¬ x3 = 59 → bX12_areRelated_166 G fr lo x1 x2 x3 s0 0 h Q) ∧ (x3 = 59 → bX12_areRelated_161 G fr lo x1 x2 x3 s0 h Q))))
set_option maxRecDepth 100000 in
theorem uX12_areRelated_147 {G : xG} {fr lo : Nat} {x1 : Nat} {x2 : Nat} {x3 : Int32} {s0 : Int32} {h : xH} {Q : Outcome → xH → Prop} (hq : bX12_areRelated_147 G fr lo x1 x2 x3 s0 h Q) : xP G YX12_areRelated fr lo 147 [(1, rv x1), (2, rv x2), (3, .int x3)] [.int s0] h Q := by
  unfold bX12_areRelated_147 at hq
  refine x_istore (lv' := [(4, .int s0), (1, rv x1), (2, rv x2), (3, .int x3)]) dX12_areRelated_147 (by decide) rfl ?_
  refine x_iload_n 3 dX12_areRelated_149 rfl ?_
  refine x_bipush (v := 54) dX12_areRelated_150 (by decide) ?_
  refine x_icmp_eq (tgt := 161) dX12_areRelated_152 (by decide) (fun c1 => ?_) (fun c1 => ?_)
  · replace hq := hq.1 c1
    refine xP.pick (lv' := [(1, rv x1), (2, rv x2), (3, .int x3), (4, .int s0)]) [1, 2, 3, 0] rfl ?_
    exact uX12_areRelated_161 hq
  · replace hq := hq.2 c1
    refine x_iload_n 3 dX12_areRelated_155 rfl ?_
    refine x_bipush (v := 59) dX12_areRelated_156 (by decide) ?_
    refine x_icmp_ne (tgt := 165) dX12_areRelated_158 (by decide) (fun c2 => ?_) (fun c2 => ?_)
    · replace hq := hq.1 c2
      refine x_iconst (v := 0) dX12_areRelated_165 (by decide) ?_
      refine xP.pick (lv' := [(1, rv x1), (2, rv x2), (3, .int x3), (4, .int s0)]) [1, 2, 3, 0] rfl ?_
      exact uX12_areRelated_166 hq
    · replace hq := hq.2 c2
      refine xP.pick (lv' := [(1, rv x1), (2, rv x2), (3, .int x3), (4, .int s0)]) [1, 2, 3, 0] rfl ?_
      exact uX12_areRelated_161 hq
set_option maxRecDepth 100000 in
def bX12_areRelated_146 (G : xG) (fr lo : Nat) (x1 : Nat) (x2 : Nat) (x3 : Int32) (h : xH) (Q : Outcome → xH → Prop) : Prop := bX12_areRelated_147 G fr lo x1 x2 x3 0 h Q
set_option maxRecDepth 100000 in
theorem uX12_areRelated_146 {G : xG} {fr lo : Nat} {x1 : Nat} {x2 : Nat} {x3 : Int32} {h : xH} {Q : Outcome → xH → Prop} (hq : bX12_areRelated_146 G fr lo x1 x2 x3 h Q) : xP G YX12_areRelated fr lo 146 [(1, rv x1), (2, rv x2), (3, .int x3)] [] h Q := by
  unfold bX12_areRelated_146 at hq
  refine x_iconst (v := 0) dX12_areRelated_146 (by decide) ?_
  exact uX12_areRelated_147 hq
set_option maxRecDepth 100000 in
def bX12_areRelated_134 (G : xG) (fr lo : Nat) (x1 : Nat) (x2 : Nat) (x3 : Int32) (h : xH) (Q : Outcome → xH → Prop) : Prop := 1 ≤ fr ∧ 13 ≤ lo ∧ xRi G YX12_areCompatible (fr - 1) (lo - 13) [rv x1, rv x2] h (fun x4 h3 => xext h h3 → ((x4 = 0 → bX12_areRelated_146 G fr lo x1 x2 x3 h3 Q) ∧ (¬ x4 = 0 → bX12_areRelated_147 G fr lo x1 x2 x3 1 h3 Q))) (fun r h2 => Q (.threw r) h2)
set_option maxRecDepth 100000 in
theorem uX12_areRelated_134 {G : xG} {fr lo : Nat} {x1 : Nat} {x2 : Nat} {x3 : Int32} {h : xH} {Q : Outcome → xH → Prop} (hq : bX12_areRelated_134 G fr lo x1 x2 x3 h Q) : xP G YX12_areRelated fr lo 134 [(1, rv x1), (2, rv x2), (3, .int x3)] [] h Q := by
  unfold bX12_areRelated_134 at hq
  refine x_aload_n 0 dX12_areRelated_134 rfl ?_
  refine x_aload_n 1 dX12_areRelated_135 rfl ?_
  obtain ⟨g1, g2, hq⟩ := hq
  refine x_callS (Yc := YX12_areCompatible) (as := [rv x1, rv x2]) (st := []) q4375 msX12_areCompatible rfl dX12_areRelated_136 (xle (xal1 (rv_cat _) (xal1 (rv_cat _) xal0)) (by decide)) (xfr g1) (xlo xsw0 (by decide) g2) (xKi hq (fun x4 h3 hq e5 => ?_) (fun _ _ q _ => q))
  replace hq := hq e5
  refine x_if_eq (tgt := 146) dX12_areRelated_139 (by decide) (fun c6 => ?_) (fun c6 => ?_)
  · replace hq := hq.1 c6
    exact uX12_areRelated_146 hq
  · replace hq := hq.2 c6
    refine x_iconst (v := 1) dX12_areRelated_142 (by decide) ?_
    refine x_goto (tgt := 147) dX12_areRelated_143 (by decide) ?_
    exact uX12_areRelated_147 hq
set_option maxRecDepth 100000 in
def bX12_areRelated_116 (G : xG) (fr lo : Nat) (x1 : Nat) (x2 : Nat) (x3 : Int32) (h : xH) (Q : Outcome → xH → Prop) : Prop := tg h x1 = 14 ∧ (((fI h x1 3328) = 11 → bX12_areRelated_134 G fr lo x1 x2 x3 h Q) ∧ (¬ (fI h x1 3328) = 11 → ((¬ (fI h x1 3328) = 12 → bX12_areRelated_146 G fr lo x1 x2 x3 h Q) ∧ ((fI h x1 3328) = 12 → bX12_areRelated_134 G fr lo x1 x2 x3 h Q))))
set_option maxRecDepth 100000 in
theorem uX12_areRelated_116 {G : xG} {fr lo : Nat} {x1 : Nat} {x2 : Nat} {x3 : Int32} {h : xH} {Q : Outcome → xH → Prop} (hq : bX12_areRelated_116 G fr lo x1 x2 x3 h Q) : xP G YX12_areRelated fr lo 116 [(1, rv x1), (2, rv x2), (3, .int x3)] [] h Q := by
  unfold bX12_areRelated_116 at hq
  refine x_aload_n 0 dX12_areRelated_116 rfl ?_
  obtain ⟨g1, hq⟩ := hq
  refine x_get (v := .int (fI h x1 3328)) fdX12_845 dX12_areRelated_117 g1 rfl ?_
  refine x_bipush (v := 11) dX12_areRelated_120 (by decide) ?_
  refine x_icmp_eq (tgt := 134) dX12_areRelated_122 (by decide) (fun c2 => ?_) (fun c2 => ?_)
  · replace hq := hq.1 c2
    exact uX12_areRelated_134 hq
  · replace hq := hq.2 c2
    refine x_aload_n 0 dX12_areRelated_125 rfl ?_
    refine x_get (v := .int (fI h x1 3328)) fdX12_845 dX12_areRelated_126 g1 rfl ?_
    refine x_bipush (v := 12) dX12_areRelated_129 (by decide) ?_
    refine x_icmp_ne (tgt := 146) dX12_areRelated_131 (by decide) (fun c3 => ?_) (fun c3 => ?_)
    · replace hq := hq.1 c3
      exact uX12_areRelated_146 hq
    · replace hq := hq.2 c3
      exact uX12_areRelated_134 hq
set_option maxRecDepth 100000 in
def bX12_areRelated_96 (G : xG) (fr lo : Nat) (x1 : Nat) (x2 : Nat) (x3 : Int32) (h : xH) (Q : Outcome → xH → Prop) : Prop := tg h x1 = 14 ∧ 1 ≤ fr ∧ 13 ≤ lo ∧ xRi G YX13_characters (fr - 1) (lo - 13) [rv x1] h (fun x5 h4 => xext h h4 → ((x5 ≤ 0 → bX12_areRelated_116 G fr lo x1 x2 x3 h4 Q) ∧ (¬ x5 ≤ 0 → 1 ≤ fr ∧ 13 ≤ lo ∧ xRi G YX13_characters (fr - 1) (lo - 13) [rv x1] h4 (fun x12 h11 => xext h4 h11 → tg h11 x2 = 14 ∧ 1 ≤ fr ∧ 14 ≤ lo ∧ xRi G YX13_characters (fr - 1) (lo - 14) [rv x2] h11 (fun x18 h17 => xext h11 h17 → ((¬ x12 = x18 → bX12_areRelated_116 G fr lo x1 x2 x3 h17 Q) ∧ (x12 = x18 → Q (.returned (some (.int 1))) h17))) (fun r h2 => Q (.threw r) h2)) (fun r h2 => Q (.threw r) h2)))) (fun r h2 => Q (.threw r) h2)
set_option maxRecDepth 100000 in
theorem uX12_areRelated_96 {G : xG} {fr lo : Nat} {x1 : Nat} {x2 : Nat} {x3 : Int32} {h : xH} {Q : Outcome → xH → Prop} (hq : bX12_areRelated_96 G fr lo x1 x2 x3 h Q) : xP G YX12_areRelated fr lo 96 [(1, rv x1), (2, rv x2), (3, .int x3)] [] h Q := by
  unfold bX12_areRelated_96 at hq
  refine x_aload_n 0 dX12_areRelated_96 rfl ?_
  obtain ⟨g1, hq⟩ := hq
  obtain ⟨g2, g3, hq⟩ := hq
  refine x_callV (Yc := YX13_characters) (as := []) (st := []) q4381 mvX13_characters g1 rfl dX12_areRelated_97 (xle (xal1 (rv_cat _) xal0) (by decide)) (xfr g2) (xlo xsw0 (by decide) g3) (xKi hq (fun x5 h4 hq e6 => ?_) (fun _ _ q _ => q))
  replace hq := hq e6
  refine x_if_le (tgt := 116) dX12_areRelated_100 (by decide) (fun c7 => ?_) (fun c7 => ?_)
  · replace hq := hq.1 c7
    exact uX12_areRelated_116 hq
  · replace hq := hq.2 c7
    refine x_aload_n 0 dX12_areRelated_103 rfl ?_
    have t8 : tg h4 x1 = 14 := e6.tg g1 (by decide)
    obtain ⟨g9, g10, hq⟩ := hq
    refine x_callV (Yc := YX13_characters) (as := []) (st := []) q4381 mvX13_characters t8 rfl dX12_areRelated_104 (xle (xal1 (rv_cat _) xal0) (by decide)) (xfr g9) (xlo xsw0 (by decide) g10) (xKi hq (fun x12 h11 hq e13 => ?_) (fun _ _ q _ => q))
    replace hq := hq e13
    refine x_aload_n 1 dX12_areRelated_107 rfl ?_
    obtain ⟨g14, hq⟩ := hq
    obtain ⟨g15, g16, hq⟩ := hq
    refine x_callV (Yc := YX13_characters) (as := []) (st := [.int x12]) q4381 mvX13_characters g14 rfl dX12_areRelated_108 (xle (xal1 (rv_cat _) xal0) (by decide)) (xfr g15) (xlo (xsw1 rfl xsw0) (by decide) g16) (xKi hq (fun x18 h17 hq e19 => ?_) (fun _ _ q _ => q))
    replace hq := hq e19
    refine x_icmp_ne (tgt := 116) dX12_areRelated_111 (by decide) (fun c20 => ?_) (fun c20 => ?_)
    · replace hq := hq.1 c20
      exact uX12_areRelated_116 hq
    · replace hq := hq.2 c20
      refine x_iconst (v := 1) dX12_areRelated_114 (by decide) ?_
      exact x_iret rfl rfl dX12_areRelated_115 hq
set_option maxRecDepth 100000 in
def bX12_areRelated_95 (G : xG) (fr lo : Nat) (s0 : Int32) (h : xH) (Q : Outcome → xH → Prop) : Prop := xbz s0 ∧ Q (.returned (some (.int s0))) h
set_option maxRecDepth 100000 in
theorem uX12_areRelated_95 {G : xG} {fr lo : Nat} {s0 : Int32} {h : xH} {Q : Outcome → xH → Prop} (hq : bX12_areRelated_95 G fr lo s0 h Q) : xP G YX12_areRelated fr lo 95 [] [.int s0] h Q := by
  unfold bX12_areRelated_95 at hq
  obtain ⟨g1, hq⟩ := hq
  exact x_iret rfl (xnZ g1) dX12_areRelated_95 hq
set_option maxRecDepth 100000 in
def bX12_areRelated_65 (G : xG) (fr lo : Nat) (x1 : Nat) (x2 : Nat) (x3 : Int32) (h : xH) (Q : Outcome → xH → Prop) : Prop := tg h x1 = 14 ∧ 1 ≤ fr ∧ 12 ≤ lo ∧ xRi G YX13_isOrdinal (fr - 1) (lo - 12) [rv x1] h (fun x5 h4 => xext h h4 → ((x5 = 0 → bX12_areRelated_96 G fr lo x1 x2 x3 h4 Q) ∧ (¬ x5 = 0 → tg h4 x2 = 14 ∧ 1 ≤ fr ∧ 12 ≤ lo ∧ xRi G YX13_isOrdinal (fr - 1) (lo - 12) [rv x2] h4 (fun x12 h11 => xext h4 h11 → ((x12 = 0 → bX12_areRelated_96 G fr lo x1 x2 x3 h11 Q) ∧ (¬ x12 = 0 → 1 ≤ fr ∧ 12 ≤ lo ∧ xRr G YX13_own (fr - 1) (lo - 12) [rv x1] h11 (fun x20 h19 => xext h11 h19 → 1 ≤ fr ∧ 13 ≤ lo ∧ xRr G YX13_own (fr - 1) (lo - 13) [rv x2] h19 (fun x27 h26 => xext h19 h26 → ((¬ x20 = x27 → bX12_areRelated_95 G fr lo 0 h26 Q) ∧ (x20 = x27 → bX12_areRelated_95 G fr lo 1 h26 Q))) (fun r h2 => Q (.threw r) h2)) (fun r h2 => Q (.threw r) h2)))) (fun r h2 => Q (.threw r) h2)))) (fun r h2 => Q (.threw r) h2)
set_option maxRecDepth 100000 in
theorem uX12_areRelated_65 {G : xG} {fr lo : Nat} {x1 : Nat} {x2 : Nat} {x3 : Int32} {h : xH} {Q : Outcome → xH → Prop} (hq : bX12_areRelated_65 G fr lo x1 x2 x3 h Q) : xP G YX12_areRelated fr lo 65 [(1, rv x1), (2, rv x2), (3, .int x3)] [] h Q := by
  unfold bX12_areRelated_65 at hq
  refine x_aload_n 0 dX12_areRelated_65 rfl ?_
  obtain ⟨g1, hq⟩ := hq
  obtain ⟨g2, g3, hq⟩ := hq
  refine x_callV (Yc := YX13_isOrdinal) (as := []) (st := []) q4185 mvX13_isOrdinal g1 rfl dX12_areRelated_66 (xle (xal1 (rv_cat _) xal0) (by decide)) (xfr g2) (xlo xsw0 (by decide) g3) (xKi hq (fun x5 h4 hq e6 => ?_) (fun _ _ q _ => q))
  replace hq := hq e6
  refine x_if_eq (tgt := 96) dX12_areRelated_69 (by decide) (fun c7 => ?_) (fun c7 => ?_)
  · replace hq := hq.1 c7
    exact uX12_areRelated_96 hq
  · replace hq := hq.2 c7
    refine x_aload_n 1 dX12_areRelated_72 rfl ?_
    obtain ⟨g8, hq⟩ := hq
    obtain ⟨g9, g10, hq⟩ := hq
    refine x_callV (Yc := YX13_isOrdinal) (as := []) (st := []) q4185 mvX13_isOrdinal g8 rfl dX12_areRelated_73 (xle (xal1 (rv_cat _) xal0) (by decide)) (xfr g9) (xlo xsw0 (by decide) g10) (xKi hq (fun x12 h11 hq e13 => ?_) (fun _ _ q _ => q))
    replace hq := hq e13
    refine x_if_eq (tgt := 96) dX12_areRelated_76 (by decide) (fun c14 => ?_) (fun c14 => ?_)
    · replace hq := hq.1 c14
      exact uX12_areRelated_96 hq
    · replace hq := hq.2 c14
      refine x_aload_n 0 dX12_areRelated_79 rfl ?_
      have t15 : tg h4 x1 = 14 := e6.tg g1 (by decide)
      have t16 : tg h11 x1 = 14 := e13.tg t15 (by decide)
      obtain ⟨g17, g18, hq⟩ := hq
      refine x_callV (Yc := YX13_own) (as := []) (st := []) q4189 mvX13_own t16 rfl dX12_areRelated_80 (xle (xal1 (rv_cat _) xal0) (by decide)) (xfr g17) (xlo xsw0 (by decide) g18) (xKr hq (fun x20 h19 hq e21 => ?_) (fun _ _ q _ => q))
      replace hq := hq e21
      refine x_aload_n 1 dX12_areRelated_83 rfl ?_
      have t22 : tg h11 x2 = 14 := e13.tg g8 (by decide)
      have t23 : tg h19 x2 = 14 := e21.tg t22 (by decide)
      obtain ⟨g24, g25, hq⟩ := hq
      refine x_callV (Yc := YX13_own) (as := []) (st := [rv x20]) q4189 mvX13_own t23 rfl dX12_areRelated_84 (xle (xal1 (rv_cat _) xal0) (by decide)) (xfr g24) (xlo (xsw1 (rv_cat _) xsw0) (by decide) g25) (xKr hq (fun x27 h26 hq e28 => ?_) (fun _ _ q _ => q))
      replace hq := hq e28
      refine x_acmp_ne (tgt := 94) dX12_areRelated_87 (by decide) (fun c29 => ?_) (fun c29 => ?_)
      · replace hq := hq.1 c29
        refine x_iconst (v := 0) dX12_areRelated_94 (by decide) ?_
        refine xP.pick (lv' := []) [] rfl ?_
        exact uX12_areRelated_95 hq
      · replace hq := hq.2 c29
        refine x_iconst (v := 1) dX12_areRelated_90 (by decide) ?_
        refine x_goto (tgt := 95) dX12_areRelated_91 (by decide) ?_
        refine xP.pick (lv' := []) [] rfl ?_
        exact uX12_areRelated_95 hq
set_option maxRecDepth 100000 in
def bX12_areRelated_48 (G : xG) (fr lo : Nat) (s0 : Int32) (h : xH) (Q : Outcome → xH → Prop) : Prop := xbz s0 ∧ Q (.returned (some (.int s0))) h
set_option maxRecDepth 100000 in
theorem uX12_areRelated_48 {G : xG} {fr lo : Nat} {s0 : Int32} {h : xH} {Q : Outcome → xH → Prop} (hq : bX12_areRelated_48 G fr lo s0 h Q) : xP G YX12_areRelated fr lo 48 [] [.int s0] h Q := by
  unfold bX12_areRelated_48 at hq
  obtain ⟨g1, hq⟩ := hq
  exact x_iret rfl (xnZ g1) dX12_areRelated_48 hq
set_option maxRecDepth 100000 in
def bX12_areRelated_47 (G : xG) (fr lo : Nat) (h : xH) (Q : Outcome → xH → Prop) : Prop := bX12_areRelated_48 G fr lo 0 h Q
set_option maxRecDepth 100000 in
theorem uX12_areRelated_47 {G : xG} {fr lo : Nat} {h : xH} {Q : Outcome → xH → Prop} (hq : bX12_areRelated_47 G fr lo h Q) : xP G YX12_areRelated fr lo 47 [] [] h Q := by
  unfold bX12_areRelated_47 at hq
  refine x_iconst (v := 0) dX12_areRelated_47 (by decide) ?_
  exact uX12_areRelated_48 hq
set_option maxRecDepth 100000 in
def bX12_areRelated_43 (G : xG) (fr lo : Nat) (h : xH) (Q : Outcome → xH → Prop) : Prop := bX12_areRelated_48 G fr lo 1 h Q
set_option maxRecDepth 100000 in
theorem uX12_areRelated_43 {G : xG} {fr lo : Nat} {h : xH} {Q : Outcome → xH → Prop} (hq : bX12_areRelated_43 G fr lo h Q) : xP G YX12_areRelated fr lo 43 [] [] h Q := by
  unfold bX12_areRelated_43 at hq
  refine x_iconst (v := 1) dX12_areRelated_43 (by decide) ?_
  refine x_goto (tgt := 48) dX12_areRelated_44 (by decide) ?_
  exact uX12_areRelated_48 hq
set_option maxRecDepth 100000 in
def bX12_areRelated (G : xG) (fr lo : Nat) (x0 : Nat) (x1 : Nat) (x2 : Nat) (x3 : Int32) (h : xH) (Q : Outcome → xH → Prop) : Prop := ((¬ x3 = 16 → tg h x1 = 14 ∧ 1 ≤ fr ∧ 12 ≤ lo ∧ xRi G YX13_isNumber (fr - 1) (lo - 12) [rv x1] h (fun x6 h5 => xext h h5 → ((x6 = 0 → bX12_areRelated_65 G fr lo x1 x2 x3 h5 Q) ∧ (¬ x6 = 0 → tg h5 x2 = 14 ∧ 1 ≤ fr ∧ 12 ≤ lo ∧ xRi G YX13_isNumber (fr - 1) (lo - 12) [rv x2] h5 (fun x13 h12 => xext h5 h12 → ((x13 = 0 → bX12_areRelated_65 G fr lo x1 x2 x3 h12 Q) ∧ (¬ x13 = 0 → Q (.returned (some (.int 1))) h12))) (fun r h2 => Q (.threw r) h2)))) (fun r h2 => Q (.threw r) h2)) ∧ (x3 = 16 → tg h x1 = 14 ∧ 1 ≤ fr ∧ 12 ≤ lo ∧ xRi G YX13_isOrdinal (fr - 1) (lo - 12) [rv x1] h (fun x20 h19 => xext h h19 → ((x20 = 0 → bX12_areRelated_47 G fr lo h19 Q) ∧ (¬ x20 = 0 → tg h19 x2 = 14 ∧ ((¬ (fI h19 x2 3328) = 9 → bX12_areRelated_47 G fr lo h19 Q) ∧ ((fI h19 x2 3328) = 9 → (((fR h19 x2 3332) = 0 → bX12_areRelated_43 G fr lo h19 Q) ∧ (¬ (fR h19 x2 3332) = 0 → tg h19 (fR h19 x2 3332) = 14 ∧ 1 ≤ fr ∧ 12 ≤ lo ∧ xRr G YX13_own (fr - 1) (lo - 12) [rv (fR h19 x2 3332)] h19 (fun x30 h29 => xext h19 h29 → 1 ≤ fr ∧ 13 ≤ lo ∧ xRr G YX13_own (fr - 1) (lo - 13) [rv x1] h29 (fun x37 h36 => xext h29 h36 → ((¬ x30 = x37 → bX12_areRelated_47 G fr lo h36 Q) ∧ (x30 = x37 → bX12_areRelated_43 G fr lo h36 Q))) (fun r h2 => Q (.threw r) h2)) (fun r h2 => Q (.threw r) h2)))))))) (fun r h2 => Q (.threw r) h2)))
set_option maxRecDepth 100000 in
theorem uX12_areRelated {G : xG} {fr lo : Nat} {x0 : Nat} {x1 : Nat} {x2 : Nat} {x3 : Int32} {h : xH} {Q : Outcome → xH → Prop} (hq : bX12_areRelated G fr lo x0 x1 x2 x3 h Q) : xP G YX12_areRelated fr lo 0 [(0, rv x0), (1, rv x1), (2, rv x2), (3, .int x3)] [] h Q := by
  unfold bX12_areRelated at hq
  refine x_iload_n 3 dX12_areRelated_0 rfl ?_
  refine x_bipush (v := 16) dX12_areRelated_1 (by decide) ?_
  refine x_icmp_ne (tgt := 49) dX12_areRelated_3 (by decide) (fun c1 => ?_) (fun c1 => ?_)
  · replace hq := hq.1 c1
    refine x_aload_n 1 dX12_areRelated_49 rfl ?_
    obtain ⟨g2, hq⟩ := hq
    obtain ⟨g3, g4, hq⟩ := hq
    refine x_callV (Yc := YX13_isNumber) (as := []) (st := []) q4165 mvX13_isNumber g2 rfl dX12_areRelated_50 (xle (xal1 (rv_cat _) xal0) (by decide)) (xfr g3) (xlo xsw0 (by decide) g4) (xKi hq (fun x6 h5 hq e7 => ?_) (fun _ _ q _ => q))
    replace hq := hq e7
    refine x_if_eq (tgt := 65) dX12_areRelated_53 (by decide) (fun c8 => ?_) (fun c8 => ?_)
    · replace hq := hq.1 c8
      refine xP.pick (lv' := [(1, rv x1), (2, rv x2), (3, .int x3)]) [1, 2, 3] rfl ?_
      exact uX12_areRelated_65 hq
    · replace hq := hq.2 c8
      refine x_aload_n 2 dX12_areRelated_56 rfl ?_
      obtain ⟨g9, hq⟩ := hq
      obtain ⟨g10, g11, hq⟩ := hq
      refine x_callV (Yc := YX13_isNumber) (as := []) (st := []) q4165 mvX13_isNumber g9 rfl dX12_areRelated_57 (xle (xal1 (rv_cat _) xal0) (by decide)) (xfr g10) (xlo xsw0 (by decide) g11) (xKi hq (fun x13 h12 hq e14 => ?_) (fun _ _ q _ => q))
      replace hq := hq e14
      refine x_if_eq (tgt := 65) dX12_areRelated_60 (by decide) (fun c15 => ?_) (fun c15 => ?_)
      · replace hq := hq.1 c15
        refine xP.pick (lv' := [(1, rv x1), (2, rv x2), (3, .int x3)]) [1, 2, 3] rfl ?_
        exact uX12_areRelated_65 hq
      · replace hq := hq.2 c15
        refine x_iconst (v := 1) dX12_areRelated_63 (by decide) ?_
        exact x_iret rfl rfl dX12_areRelated_64 hq
  · replace hq := hq.2 c1
    refine x_aload_n 1 dX12_areRelated_6 rfl ?_
    obtain ⟨g16, hq⟩ := hq
    obtain ⟨g17, g18, hq⟩ := hq
    refine x_callV (Yc := YX13_isOrdinal) (as := []) (st := []) q4185 mvX13_isOrdinal g16 rfl dX12_areRelated_7 (xle (xal1 (rv_cat _) xal0) (by decide)) (xfr g17) (xlo xsw0 (by decide) g18) (xKi hq (fun x20 h19 hq e21 => ?_) (fun _ _ q _ => q))
    replace hq := hq e21
    refine x_if_eq (tgt := 47) dX12_areRelated_10 (by decide) (fun c22 => ?_) (fun c22 => ?_)
    · replace hq := hq.1 c22
      refine xP.pick (lv' := []) [] rfl ?_
      exact uX12_areRelated_47 hq
    · replace hq := hq.2 c22
      refine x_aload_n 2 dX12_areRelated_13 rfl ?_
      obtain ⟨g23, hq⟩ := hq
      refine x_get (v := .int (fI h19 x2 3328)) fdX12_845 dX12_areRelated_14 g23 rfl ?_
      refine x_bipush (v := 9) dX12_areRelated_17 (by decide) ?_
      refine x_icmp_ne (tgt := 47) dX12_areRelated_19 (by decide) (fun c24 => ?_) (fun c24 => ?_)
      · replace hq := hq.1 c24
        refine xP.pick (lv' := []) [] rfl ?_
        exact uX12_areRelated_47 hq
      · replace hq := hq.2 c24
        refine x_aload_n 2 dX12_areRelated_22 rfl ?_
        refine x_get (v := rv (fR h19 x2 3332)) fdX12_864 dX12_areRelated_23 g23 rfl ?_
        refine x_ifnull (tgt := 43) dX12_areRelated_26 (by decide) (fun c25 => ?_) (fun c25 => ?_)
        · replace hq := hq.1 c25
          refine xP.pick (lv' := []) [] rfl ?_
          exact uX12_areRelated_43 hq
        · replace hq := hq.2 c25
          refine x_aload_n 2 dX12_areRelated_29 rfl ?_
          refine x_get (v := rv (fR h19 x2 3332)) fdX12_864 dX12_areRelated_30 g23 rfl ?_
          obtain ⟨g26, hq⟩ := hq
          obtain ⟨g27, g28, hq⟩ := hq
          refine x_callV (Yc := YX13_own) (as := []) (st := []) q4189 mvX13_own g26 rfl dX12_areRelated_33 (xle (xal1 (rv_cat _) xal0) (by decide)) (xfr g27) (xlo xsw0 (by decide) g28) (xKr hq (fun x30 h29 hq e31 => ?_) (fun _ _ q _ => q))
          replace hq := hq e31
          refine x_aload_n 1 dX12_areRelated_36 rfl ?_
          have t32 : tg h19 x1 = 14 := e21.tg g16 (by decide)
          have t33 : tg h29 x1 = 14 := e31.tg t32 (by decide)
          obtain ⟨g34, g35, hq⟩ := hq
          refine x_callV (Yc := YX13_own) (as := []) (st := [rv x30]) q4189 mvX13_own t33 rfl dX12_areRelated_37 (xle (xal1 (rv_cat _) xal0) (by decide)) (xfr g34) (xlo (xsw1 (rv_cat _) xsw0) (by decide) g35) (xKr hq (fun x37 h36 hq e38 => ?_) (fun _ _ q _ => q))
          replace hq := hq e38
          refine x_acmp_ne (tgt := 47) dX12_areRelated_40 (by decide) (fun c39 => ?_) (fun c39 => ?_)
          · replace hq := hq.1 c39
            refine xP.pick (lv' := []) [] rfl ?_
            exact uX12_areRelated_47 hq
          · replace hq := hq.2 c39
            refine xP.pick (lv' := []) [] rfl ?_
            exact uX12_areRelated_43 hq
theorem rX12_areRelated {G : xG} {fr lo : Nat} {x0 : Nat} {x1 : Nat} {x2 : Nat} {x3 : Int32} {h : xH} {Q : Outcome → xH → Prop} (hq : bX12_areRelated G fr lo x0 x1 x2 x3 h Q) : xR G YX12_areRelated fr lo [rv x0, rv x1, rv x2, .int x3] h Q := by
  show xP _ _ _ _ _ (lv_args 0 _) _ _ _
  rw [show lv_args 0 [rv x0, rv x1, rv x2, .int x3] = [(0, rv x0), (1, rv x1), (2, rv x2), (3, .int x3)] from (xla1 (rv_cat _) (xla1 (rv_cat _) (xla1 (rv_cat _) (xla1 rfl xla0))))]
  exact uX12_areRelated hq
set_option maxRecDepth 100000 in
theorem dX12_checkCase_0 : decode cX12_checkCase 0 = .ok (.aload_n 0, 1) := by decide +kernel
set_option maxRecDepth 100000 in
theorem dX12_checkCase_1 : decode cX12_checkCase 1 = .ok (.aload_n 0, 1) := by decide +kernel
set_option maxRecDepth 100000 in
theorem dX12_checkCase_2 : decode cX12_checkCase 2 = .ok (.getfield 73, 3) := by decide +kernel
set_option maxRecDepth 100000 in
theorem dX12_checkCase_5 : decode cX12_checkCase 5 = .ok (.iload_n 1, 1) := by decide +kernel
set_option maxRecDepth 100000 in
theorem dX12_checkCase_6 : decode cX12_checkCase 6 = .ok (.iaload, 1) := by decide +kernel
set_option maxRecDepth 100000 in
theorem dX12_checkCase_7 : decode cX12_checkCase 7 = .ok (.invokevirtual 989, 3) := by decide +kernel
set_option maxRecDepth 100000 in
theorem dX12_checkCase_10 : decode cX12_checkCase 10 = .ok (.astore_n 2, 1) := by decide +kernel
set_option maxRecDepth 100000 in
theorem dX12_checkCase_11 : decode cX12_checkCase 11 = .ok (.aload_n 2, 1) := by decide +kernel
set_option maxRecDepth 100000 in
theorem dX12_checkCase_12 : decode cX12_checkCase 12 = .ok (.invokevirtual 861, 3) := by decide +kernel
set_option maxRecDepth 100000 in
theorem dX12_checkCase_15 : decode cX12_checkCase 15 = .ok (.ifCond .ne 15, 3) := by decide +kernel
set_option maxRecDepth 100000 in
theorem dX12_checkCase_18 : decode cX12_checkCase 18 = .ok (.aload_n 0, 1) := by decide +kernel
set_option maxRecDepth 100000 in
theorem dX12_checkCase_19 : decode cX12_checkCase 19 = .ok (.bipush 7, 2) := by decide +kernel
set_option maxRecDepth 100000 in
theorem dX12_checkCase_21 : decode cX12_checkCase 21 = .ok (.aload_n 0, 1) := by decide +kernel
set_option maxRecDepth 100000 in
theorem dX12_checkCase_22 : decode cX12_checkCase 22 = .ok (.getfield 70, 3) := by decide +kernel
set_option maxRecDepth 100000 in
theorem dX12_checkCase_25 : decode cX12_checkCase 25 = .ok (.iload_n 1, 1) := by decide +kernel
set_option maxRecDepth 100000 in
theorem dX12_checkCase_26 : decode cX12_checkCase 26 = .ok (.iaload, 1) := by decide +kernel
set_option maxRecDepth 100000 in
theorem dX12_checkCase_27 : decode cX12_checkCase 27 = .ok (.invokevirtual 570, 3) := by decide +kernel
set_option maxRecDepth 100000 in
theorem dX12_checkCase_30 : decode cX12_checkCase 30 = .ok (.aload_n 0, 1) := by decide +kernel
set_option maxRecDepth 100000 in
theorem dX12_checkCase_31 : decode cX12_checkCase 31 = .ok (.getfield 79, 3) := by decide +kernel
set_option maxRecDepth 100000 in
theorem dX12_checkCase_34 : decode cX12_checkCase 34 = .ok (.aload_n 0, 1) := by decide +kernel
set_option maxRecDepth 100000 in
theorem dX12_checkCase_35 : decode cX12_checkCase 35 = .ok (.getfield 73, 3) := by decide +kernel
set_option maxRecDepth 100000 in
theorem dX12_checkCase_38 : decode cX12_checkCase 38 = .ok (.iload_n 1, 1) := by decide +kernel
set_option maxRecDepth 100000 in
theorem dX12_checkCase_39 : decode cX12_checkCase 39 = .ok (.iaload, 1) := by decide +kernel
set_option maxRecDepth 100000 in
theorem dX12_checkCase_40 : decode cX12_checkCase 40 = .ok (.iaload, 1) := by decide +kernel
set_option maxRecDepth 100000 in
theorem dX12_checkCase_41 : decode cX12_checkCase 41 = .ok (.istore_n 3, 1) := by decide +kernel
set_option maxRecDepth 100000 in
theorem dX12_checkCase_42 : decode cX12_checkCase 42 = .ok (.iload_n 3, 1) := by decide +kernel
set_option maxRecDepth 100000 in
theorem dX12_checkCase_43 : decode cX12_checkCase 43 = .ok (.iconst (-1), 1) := by decide +kernel
set_option maxRecDepth 100000 in
theorem dX12_checkCase_44 : decode cX12_checkCase 44 = .ok (.if_icmp .eq 218, 3) := by decide +kernel
set_option maxRecDepth 100000 in
theorem dX12_checkCase_47 : decode cX12_checkCase 47 = .ok (.aload_n 0, 1) := by decide +kernel
set_option maxRecDepth 100000 in
theorem dX12_checkCase_48 : decode cX12_checkCase 48 = .ok (.getfield 73, 3) := by decide +kernel
set_option maxRecDepth 100000 in
theorem dX12_checkCase_51 : decode cX12_checkCase 51 = .ok (.aload_n 0, 1) := by decide +kernel
set_option maxRecDepth 100000 in
theorem dX12_checkCase_52 : decode cX12_checkCase 52 = .ok (.getfield 73, 3) := by decide +kernel
set_option maxRecDepth 100000 in
theorem dX12_checkCase_55 : decode cX12_checkCase 55 = .ok (.iload_n 3, 1) := by decide +kernel
set_option maxRecDepth 100000 in
theorem dX12_checkCase_56 : decode cX12_checkCase 56 = .ok (.iaload, 1) := by decide +kernel
set_option maxRecDepth 100000 in
theorem dX12_checkCase_57 : decode cX12_checkCase 57 = .ok (.iaload, 1) := by decide +kernel
set_option maxRecDepth 100000 in
theorem dX12_checkCase_58 : decode cX12_checkCase 58 = .ok (.istore 4, 2) := by decide +kernel
set_option maxRecDepth 100000 in
theorem dX12_checkCase_60 : decode cX12_checkCase 60 = .ok (.iload 4, 2) := by decide +kernel
set_option maxRecDepth 100000 in
theorem dX12_checkCase_62 : decode cX12_checkCase 62 = .ok (.iconst (-1), 1) := by decide +kernel
set_option maxRecDepth 100000 in
theorem dX12_checkCase_63 : decode cX12_checkCase 63 = .ok (.if_icmp .eq 179, 3) := by decide +kernel
set_option maxRecDepth 100000 in
theorem dX12_checkCase_66 : decode cX12_checkCase 66 = .ok (.aload_n 0, 1) := by decide +kernel
set_option maxRecDepth 100000 in
theorem dX12_checkCase_67 : decode cX12_checkCase 67 = .ok (.iload 4, 2) := by decide +kernel
set_option maxRecDepth 100000 in
theorem dX12_checkCase_69 : decode cX12_checkCase 69 = .ok (.invokevirtual 754, 3) := by decide +kernel
set_option maxRecDepth 100000 in
theorem dX12_checkCase_72 : decode cX12_checkCase 72 = .ok (.aload_n 0, 1) := by decide +kernel
set_option maxRecDepth 100000 in
theorem dX12_checkCase_73 : decode cX12_checkCase 73 = .ok (.getfield 757, 3) := by decide +kernel
set_option maxRecDepth 100000 in
theorem dX12_checkCase_76 : decode cX12_checkCase 76 = .ok (.invokevirtual 861, 3) := by decide +kernel
set_option maxRecDepth 100000 in
theorem dX12_checkCase_79 : decode cX12_checkCase 79 = .ok (.ifCond .eq 17, 3) := by decide +kernel
set_option maxRecDepth 100000 in
theorem dX12_checkCase_82 : decode cX12_checkCase 82 = .ok (.aload_n 0, 1) := by decide +kernel
set_option maxRecDepth 100000 in
theorem dX12_checkCase_83 : decode cX12_checkCase 83 = .ok (.getfield 757, 3) := by decide +kernel
set_option maxRecDepth 100000 in
theorem dX12_checkCase_86 : decode cX12_checkCase 86 = .ok (.invokevirtual 867, 3) := by decide +kernel
set_option maxRecDepth 100000 in
theorem dX12_checkCase_89 : decode cX12_checkCase 89 = .ok (.aload_n 2, 1) := by decide +kernel
set_option maxRecDepth 100000 in
theorem dX12_checkCase_90 : decode cX12_checkCase 90 = .ok (.invokevirtual 867, 3) := by decide +kernel
set_option maxRecDepth 100000 in
theorem dX12_checkCase_93 : decode cX12_checkCase 93 = .ok (.if_acmp .eq 16, 3) := by decide +kernel
set_option maxRecDepth 100000 in
theorem dX12_checkCase_96 : decode cX12_checkCase 96 = .ok (.aload_n 0, 1) := by decide +kernel
set_option maxRecDepth 100000 in
theorem dX12_checkCase_97 : decode cX12_checkCase 97 = .ok (.bipush 7, 2) := by decide +kernel
set_option maxRecDepth 100000 in
theorem dX12_checkCase_99 : decode cX12_checkCase 99 = .ok (.aload_n 0, 1) := by decide +kernel
set_option maxRecDepth 100000 in
theorem dX12_checkCase_100 : decode cX12_checkCase 100 = .ok (.getfield 70, 3) := by decide +kernel
set_option maxRecDepth 100000 in
theorem dX12_checkCase_103 : decode cX12_checkCase 103 = .ok (.iload 4, 2) := by decide +kernel
set_option maxRecDepth 100000 in
theorem dX12_checkCase_105 : decode cX12_checkCase 105 = .ok (.iaload, 1) := by decide +kernel
set_option maxRecDepth 100000 in
theorem dX12_checkCase_106 : decode cX12_checkCase 106 = .ok (.invokevirtual 570, 3) := by decide +kernel
set_option maxRecDepth 100000 in
theorem dX12_checkCase_109 : decode cX12_checkCase 109 = .ok (.aload_n 0, 1) := by decide +kernel
set_option maxRecDepth 100000 in
theorem dX12_checkCase_110 : decode cX12_checkCase 110 = .ok (.getfield 88, 3) := by decide +kernel
set_option maxRecDepth 100000 in
theorem dX12_checkCase_113 : decode cX12_checkCase 113 = .ok (.iload 4, 2) := by decide +kernel
set_option maxRecDepth 100000 in
theorem dX12_checkCase_115 : decode cX12_checkCase 115 = .ok (.aload_n 0, 1) := by decide +kernel
set_option maxRecDepth 100000 in
theorem dX12_checkCase_116 : decode cX12_checkCase 116 = .ok (.getfield 760, 3) := by decide +kernel
set_option maxRecDepth 100000 in
theorem dX12_checkCase_119 : decode cX12_checkCase 119 = .ok (.l2i, 1) := by decide +kernel
set_option maxRecDepth 100000 in
theorem dX12_checkCase_120 : decode cX12_checkCase 120 = .ok (.iastore, 1) := by decide +kernel
set_option maxRecDepth 100000 in
theorem dX12_checkCase_121 : decode cX12_checkCase 121 = .ok (.aload_n 0, 1) := by decide +kernel
set_option maxRecDepth 100000 in
theorem dX12_checkCase_122 : decode cX12_checkCase 122 = .ok (.getfield 79, 3) := by decide +kernel
set_option maxRecDepth 100000 in
theorem dX12_checkCase_125 : decode cX12_checkCase 125 = .ok (.aload_n 0, 1) := by decide +kernel
set_option maxRecDepth 100000 in
theorem dX12_checkCase_126 : decode cX12_checkCase 126 = .ok (.getfield 73, 3) := by decide +kernel
set_option maxRecDepth 100000 in
theorem dX12_checkCase_129 : decode cX12_checkCase 129 = .ok (.iload_n 1, 1) := by decide +kernel
set_option maxRecDepth 100000 in
theorem dX12_checkCase_130 : decode cX12_checkCase 130 = .ok (.iaload, 1) := by decide +kernel
set_option maxRecDepth 100000 in
theorem dX12_checkCase_131 : decode cX12_checkCase 131 = .ok (.iaload, 1) := by decide +kernel
set_option maxRecDepth 100000 in
theorem dX12_checkCase_132 : decode cX12_checkCase 132 = .ok (.istore 5, 2) := by decide +kernel
set_option maxRecDepth 100000 in
theorem dX12_checkCase_134 : decode cX12_checkCase 134 = .ok (.iload 5, 2) := by decide +kernel
set_option maxRecDepth 100000 in
theorem dX12_checkCase_136 : decode cX12_checkCase 136 = .ok (.iconst (-1), 1) := by decide +kernel
set_option maxRecDepth 100000 in
theorem dX12_checkCase_137 : decode cX12_checkCase 137 = .ok (.if_icmp .eq 93, 3) := by decide +kernel
set_option maxRecDepth 100000 in
theorem dX12_checkCase_140 : decode cX12_checkCase 140 = .ok (.aload_n 0, 1) := by decide +kernel
set_option maxRecDepth 100000 in
theorem dX12_checkCase_141 : decode cX12_checkCase 141 = .ok (.getfield 73, 3) := by decide +kernel
set_option maxRecDepth 100000 in
theorem dX12_checkCase_144 : decode cX12_checkCase 144 = .ok (.aload_n 0, 1) := by decide +kernel
set_option maxRecDepth 100000 in
theorem dX12_checkCase_145 : decode cX12_checkCase 145 = .ok (.getfield 73, 3) := by decide +kernel
set_option maxRecDepth 100000 in
theorem dX12_checkCase_148 : decode cX12_checkCase 148 = .ok (.iload 5, 2) := by decide +kernel
set_option maxRecDepth 100000 in
theorem dX12_checkCase_150 : decode cX12_checkCase 150 = .ok (.iaload, 1) := by decide +kernel
set_option maxRecDepth 100000 in
theorem dX12_checkCase_151 : decode cX12_checkCase 151 = .ok (.iaload, 1) := by decide +kernel
set_option maxRecDepth 100000 in
theorem dX12_checkCase_152 : decode cX12_checkCase 152 = .ok (.istore 6, 2) := by decide +kernel
set_option maxRecDepth 100000 in
theorem dX12_checkCase_154 : decode cX12_checkCase 154 = .ok (.iload 6, 2) := by decide +kernel
set_option maxRecDepth 100000 in
theorem dX12_checkCase_156 : decode cX12_checkCase 156 = .ok (.iconst (-1), 1) := by decide +kernel
set_option maxRecDepth 100000 in
theorem dX12_checkCase_157 : decode cX12_checkCase 157 = .ok (.if_icmp .eq 51, 3) := by decide +kernel
set_option maxRecDepth 100000 in
theorem dX12_checkCase_160 : decode cX12_checkCase 160 = .ok (.iload 6, 2) := by decide +kernel
set_option maxRecDepth 100000 in
theorem dX12_checkCase_162 : decode cX12_checkCase 162 = .ok (.iload 4, 2) := by decide +kernel
set_option maxRecDepth 100000 in
theorem dX12_checkCase_164 : decode cX12_checkCase 164 = .ok (.if_icmp .eq 44, 3) := by decide +kernel
set_option maxRecDepth 100000 in
theorem dX12_checkCase_167 : decode cX12_checkCase 167 = .ok (.aload_n 0, 1) := by decide +kernel
set_option maxRecDepth 100000 in
theorem dX12_checkCase_168 : decode cX12_checkCase 168 = .ok (.getfield 88, 3) := by decide +kernel
set_option maxRecDepth 100000 in
theorem dX12_checkCase_171 : decode cX12_checkCase 171 = .ok (.iload 6, 2) := by decide +kernel
set_option maxRecDepth 100000 in
theorem dX12_checkCase_173 : decode cX12_checkCase 173 = .ok (.iaload, 1) := by decide +kernel
set_option maxRecDepth 100000 in
theorem dX12_checkCase_174 : decode cX12_checkCase 174 = .ok (.aload_n 0, 1) := by decide +kernel
set_option maxRecDepth 100000 in
theorem dX12_checkCase_175 : decode cX12_checkCase 175 = .ok (.getfield 88, 3) := by decide +kernel
set_option maxRecDepth 100000 in
theorem dX12_checkCase_178 : decode cX12_checkCase 178 = .ok (.iload 4, 2) := by decide +kernel
set_option maxRecDepth 100000 in
theorem dX12_checkCase_180 : decode cX12_checkCase 180 = .ok (.iaload, 1) := by decide +kernel
set_option maxRecDepth 100000 in
theorem dX12_checkCase_181 : decode cX12_checkCase 181 = .ok (.if_icmp .ne 15, 3) := by decide +kernel
set_option maxRecDepth 100000 in
theorem dX12_checkCase_184 : decode cX12_checkCase 184 = .ok (.aload_n 0, 1) := by decide +kernel
set_option maxRecDepth 100000 in
theorem dX12_checkCase_185 : decode cX12_checkCase 185 = .ok (.iconst 5, 1) := by decide +kernel
set_option maxRecDepth 100000 in
theorem dX12_checkCase_186 : decode cX12_checkCase 186 = .ok (.aload_n 0, 1) := by decide +kernel
set_option maxRecDepth 100000 in
theorem dX12_checkCase_187 : decode cX12_checkCase 187 = .ok (.getfield 70, 3) := by decide +kernel
set_option maxRecDepth 100000 in
theorem dX12_checkCase_190 : decode cX12_checkCase 190 = .ok (.iload 4, 2) := by decide +kernel
set_option maxRecDepth 100000 in
theorem dX12_checkCase_192 : decode cX12_checkCase 192 = .ok (.iaload, 1) := by decide +kernel
set_option maxRecDepth 100000 in
theorem dX12_checkCase_193 : decode cX12_checkCase 193 = .ok (.invokevirtual 570, 3) := by decide +kernel
set_option maxRecDepth 100000 in
theorem dX12_checkCase_196 : decode cX12_checkCase 196 = .ok (.aload_n 0, 1) := by decide +kernel
set_option maxRecDepth 100000 in
theorem dX12_checkCase_197 : decode cX12_checkCase 197 = .ok (.getfield 79, 3) := by decide +kernel
set_option maxRecDepth 100000 in
theorem dX12_checkCase_200 : decode cX12_checkCase 200 = .ok (.iload 6, 2) := by decide +kernel
set_option maxRecDepth 100000 in
theorem dX12_checkCase_202 : decode cX12_checkCase 202 = .ok (.iaload, 1) := by decide +kernel
set_option maxRecDepth 100000 in
theorem dX12_checkCase_203 : decode cX12_checkCase 203 = .ok (.istore 6, 2) := by decide +kernel
set_option maxRecDepth 100000 in
theorem dX12_checkCase_205 : decode cX12_checkCase 205 = .ok (.goto (-51), 3) := by decide +kernel
set_option maxRecDepth 100000 in
theorem dX12_checkCase_208 : decode cX12_checkCase 208 = .ok (.iload 5, 2) := by decide +kernel
set_option maxRecDepth 100000 in
theorem dX12_checkCase_210 : decode cX12_checkCase 210 = .ok (.iload_n 3, 1) := by decide +kernel
set_option maxRecDepth 100000 in
theorem dX12_checkCase_211 : decode cX12_checkCase 211 = .ok (.if_icmp .ne 7, 3) := by decide +kernel
set_option maxRecDepth 100000 in
theorem dX12_checkCase_214 : decode cX12_checkCase 214 = .ok (.iconst (-1), 1) := by decide +kernel
set_option maxRecDepth 100000 in
theorem dX12_checkCase_215 : decode cX12_checkCase 215 = .ok (.goto 10, 3) := by decide +kernel
set_option maxRecDepth 100000 in
theorem dX12_checkCase_218 : decode cX12_checkCase 218 = .ok (.aload_n 0, 1) := by decide +kernel
set_option maxRecDepth 100000 in
theorem dX12_checkCase_219 : decode cX12_checkCase 219 = .ok (.getfield 79, 3) := by decide +kernel
set_option maxRecDepth 100000 in
theorem dX12_checkCase_222 : decode cX12_checkCase 222 = .ok (.iload 5, 2) := by decide +kernel
set_option maxRecDepth 100000 in
theorem dX12_checkCase_224 : decode cX12_checkCase 224 = .ok (.iaload, 1) := by decide +kernel
set_option maxRecDepth 100000 in
theorem dX12_checkCase_225 : decode cX12_checkCase 225 = .ok (.istore 5, 2) := by decide +kernel
set_option maxRecDepth 100000 in
theorem dX12_checkCase_227 : decode cX12_checkCase 227 = .ok (.goto (-93), 3) := by decide +kernel
set_option maxRecDepth 100000 in
theorem dX12_checkCase_230 : decode cX12_checkCase 230 = .ok (.aload_n 0, 1) := by decide +kernel
set_option maxRecDepth 100000 in
theorem dX12_checkCase_231 : decode cX12_checkCase 231 = .ok (.getfield 79, 3) := by decide +kernel
set_option maxRecDepth 100000 in
theorem dX12_checkCase_234 : decode cX12_checkCase 234 = .ok (.iload 4, 2) := by decide +kernel
set_option maxRecDepth 100000 in
theorem dX12_checkCase_236 : decode cX12_checkCase 236 = .ok (.iaload, 1) := by decide +kernel
set_option maxRecDepth 100000 in
theorem dX12_checkCase_237 : decode cX12_checkCase 237 = .ok (.istore 4, 2) := by decide +kernel
set_option maxRecDepth 100000 in
theorem dX12_checkCase_239 : decode cX12_checkCase 239 = .ok (.goto (-179), 3) := by decide +kernel
set_option maxRecDepth 100000 in
theorem dX12_checkCase_242 : decode cX12_checkCase 242 = .ok (.aload_n 0, 1) := by decide +kernel
set_option maxRecDepth 100000 in
theorem dX12_checkCase_243 : decode cX12_checkCase 243 = .ok (.aload_n 0, 1) := by decide +kernel
set_option maxRecDepth 100000 in
theorem dX12_checkCase_244 : decode cX12_checkCase 244 = .ok (.iload_n 3, 1) := by decide +kernel
set_option maxRecDepth 100000 in
theorem dX12_checkCase_245 : decode cX12_checkCase 245 = .ok (.iconst 1, 1) := by decide +kernel
set_option maxRecDepth 100000 in
theorem dX12_checkCase_246 : decode cX12_checkCase 246 = .ok (.invokevirtual 734, 3) := by decide +kernel
set_option maxRecDepth 100000 in
theorem dX12_checkCase_249 : decode cX12_checkCase 249 = .ok (.invokevirtual 808, 3) := by decide +kernel
set_option maxRecDepth 100000 in
theorem dX12_checkCase_252 : decode cX12_checkCase 252 = .ok (.aload_n 0, 1) := by decide +kernel
set_option maxRecDepth 100000 in
theorem dX12_checkCase_253 : decode cX12_checkCase 253 = .ok (.getfield 79, 3) := by decide +kernel
set_option maxRecDepth 100000 in
theorem dX12_checkCase_256 : decode cX12_checkCase 256 = .ok (.iload_n 3, 1) := by decide +kernel
set_option maxRecDepth 100000 in
theorem dX12_checkCase_257 : decode cX12_checkCase 257 = .ok (.iaload, 1) := by decide +kernel
set_option maxRecDepth 100000 in
theorem dX12_checkCase_258 : decode cX12_checkCase 258 = .ok (.istore_n 3, 1) := by decide +kernel
set_option maxRecDepth 100000 in
theorem dX12_checkCase_259 : decode cX12_checkCase 259 = .ok (.goto (-217), 3) := by decide +kernel
set_option maxRecDepth 100000 in
theorem dX12_checkCase_262 : decode cX12_checkCase 262 = .ok (.return_, 1) := by decide +kernel
def lX12_checkCase_42 (G : xG) (fr lo : Nat) (x0 : Nat) (x1 : Int32) (x2 : Nat) (x3 : Int32) (h : xH) (Q : Outcome → xH → Prop) : Prop := xP G YX12_checkCase fr lo 42 [(0, rv x0), (1, .int x1), (2, rv x2), (3, .int x3)] [] h Q
def lX12_checkCase_60 (G : xG) (fr lo : Nat) (x0 : Nat) (x1 : Int32) (x2 : Nat) (x3 : Int32) (x4 : Int32) (h : xH) (Q : Outcome → xH → Prop) : Prop := xP G YX12_checkCase fr lo 60 [(0, rv x0), (1, .int x1), (2, rv x2), (3, .int x3), (4, .int x4)] [] h Q
def lX12_checkCase_134 (G : xG) (fr lo : Nat) (x0 : Nat) (x1 : Int32) (x2 : Nat) (x3 : Int32) (x4 : Int32) (x5 : Int32) (h : xH) (Q : Outcome → xH → Prop) : Prop := xP G YX12_checkCase fr lo 134 [(0, rv x0), (1, .int x1), (2, rv x2), (3, .int x3), (4, .int x4), (5, .int x5)] [] h Q
def lX12_checkCase_154 (G : xG) (fr lo : Nat) (x0 : Nat) (x1 : Int32) (x2 : Nat) (x3 : Int32) (x4 : Int32) (x5 : Int32) (x6 : Int32) (h : xH) (Q : Outcome → xH → Prop) : Prop := xP G YX12_checkCase fr lo 154 [(0, rv x0), (1, .int x1), (2, rv x2), (3, .int x3), (4, .int x4), (5, .int x5), (6, .int x6)] [] h Q
set_option maxRecDepth 100000 in
def bX12_checkCase_225 (G : xG) (fr lo : Nat) (x0 : Nat) (x1 : Int32) (x2 : Nat) (x3 : Int32) (x4 : Int32) (s0 : Int32) (h : xH) (Q : Outcome → xH → Prop) : Prop := lX12_checkCase_134 G fr lo x0 x1 x2 x3 x4 s0 h Q
set_option maxRecDepth 100000 in
theorem uX12_checkCase_225 {G : xG} {fr lo : Nat} {x0 : Nat} {x1 : Int32} {x2 : Nat} {x3 : Int32} {x4 : Int32} {s0 : Int32} {h : xH} {Q : Outcome → xH → Prop} (hq : bX12_checkCase_225 G fr lo x0 x1 x2 x3 x4 s0 h Q) : xP G YX12_checkCase fr lo 225 [(0, rv x0), (1, .int x1), (2, rv x2), (3, .int x3), (4, .int x4)] [.int s0] h Q := by
  unfold bX12_checkCase_225 at hq
  refine x_istore (lv' := [(5, .int s0), (0, rv x0), (1, .int x1), (2, rv x2), (3, .int x3), (4, .int x4)]) dX12_checkCase_225 (by decide) rfl ?_
  refine x_goto (tgt := 134) dX12_checkCase_227 (by decide) ?_
  refine xP.pick (lv' := [(0, rv x0), (1, .int x1), (2, rv x2), (3, .int x3), (4, .int x4), (5, .int s0)]) [1, 2, 3, 4, 5, 0] rfl ?_
  exact hq
set_option maxRecDepth 100000 in
def bX12_checkCase_208 (G : xG) (fr lo : Nat) (x0 : Nat) (x1 : Int32) (x2 : Nat) (x3 : Int32) (x4 : Int32) (x5 : Int32) (h : xH) (Q : Outcome → xH → Prop) : Prop := ((¬ x5 = x3 → tg h x0 = 13 ∧ tg h (fR h x0 3105) = 100 ∧ vp_in x5 (ln h (fR h x0 3105)) ∧ bX12_checkCase_225 G fr lo x0 x1 x2 x3 x4 (aI h (fR h x0 3105) (Int32.toNatClampNeg x5)) h Q) ∧ (x5 = x3 → bX12_checkCase_225 G fr lo x0 x1 x2 x3 x4 (-1) h Q))
set_option maxRecDepth 100000 in
theorem uX12_checkCase_208 {G : xG} {fr lo : Nat} {x0 : Nat} {x1 : Int32} {x2 : Nat} {x3 : Int32} {x4 : Int32} {x5 : Int32} {h : xH} {Q : Outcome → xH → Prop} (hq : bX12_checkCase_208 G fr lo x0 x1 x2 x3 x4 x5 h Q) : xP G YX12_checkCase fr lo 208 [(0, rv x0), (1, .int x1), (2, rv x2), (3, .int x3), (4, .int x4), (5, .int x5)] [] h Q := by
  unfold bX12_checkCase_208 at hq
  refine x_iload 5 dX12_checkCase_208 rfl ?_
  refine x_iload_n 3 dX12_checkCase_210 rfl ?_
  refine x_icmp_ne (tgt := 218) dX12_checkCase_211 (by decide) (fun c1 => ?_) (fun c1 => ?_)
  · replace hq := hq.1 c1
    refine x_aload_n 0 dX12_checkCase_218 rfl ?_
    obtain ⟨g2, hq⟩ := hq
    refine x_get (v := rv (fR h x0 3105)) fdX12_79 dX12_checkCase_219 g2 rfl ?_
    refine x_iload 5 dX12_checkCase_222 rfl ?_
    obtain ⟨g3, hq⟩ := hq
    obtain ⟨i4, hq⟩ := hq
    refine x_iald 0 (Or.inl rfl) g3 i4 dX12_checkCase_224 ?_
    refine xP.pick (lv' := [(0, rv x0), (1, .int x1), (2, rv x2), (3, .int x3), (4, .int x4)]) [0, 1, 2, 3, 4] rfl ?_
    exact uX12_checkCase_225 hq
  · replace hq := hq.2 c1
    refine x_iconst (v := (-1)) dX12_checkCase_214 (by decide) ?_
    refine x_goto (tgt := 225) dX12_checkCase_215 (by decide) ?_
    refine xP.pick (lv' := [(0, rv x0), (1, .int x1), (2, rv x2), (3, .int x3), (4, .int x4)]) [0, 1, 2, 3, 4] rfl ?_
    exact uX12_checkCase_225 hq
set_option maxRecDepth 100000 in
def bX12_checkCase_196 (G : xG) (fr lo : Nat) (x0 : Nat) (x1 : Int32) (x2 : Nat) (x3 : Int32) (x4 : Int32) (x5 : Int32) (x6 : Int32) (h : xH) (Q : Outcome → xH → Prop) : Prop := tg h x0 = 13 ∧ tg h (fR h x0 3105) = 100 ∧ vp_in x6 (ln h (fR h x0 3105)) ∧ lX12_checkCase_154 G fr lo x0 x1 x2 x3 x4 x5 (aI h (fR h x0 3105) (Int32.toNatClampNeg x6)) h Q
set_option maxRecDepth 100000 in
theorem uX12_checkCase_196 {G : xG} {fr lo : Nat} {x0 : Nat} {x1 : Int32} {x2 : Nat} {x3 : Int32} {x4 : Int32} {x5 : Int32} {x6 : Int32} {h : xH} {Q : Outcome → xH → Prop} (hq : bX12_checkCase_196 G fr lo x0 x1 x2 x3 x4 x5 x6 h Q) : xP G YX12_checkCase fr lo 196 [(0, rv x0), (1, .int x1), (2, rv x2), (3, .int x3), (4, .int x4), (5, .int x5), (6, .int x6)] [] h Q := by
  unfold bX12_checkCase_196 at hq
  refine x_aload_n 0 dX12_checkCase_196 rfl ?_
  obtain ⟨g1, hq⟩ := hq
  refine x_get (v := rv (fR h x0 3105)) fdX12_79 dX12_checkCase_197 g1 rfl ?_
  refine x_iload 6 dX12_checkCase_200 rfl ?_
  obtain ⟨g2, hq⟩ := hq
  obtain ⟨i3, hq⟩ := hq
  refine x_iald 0 (Or.inl rfl) g2 i3 dX12_checkCase_202 ?_
  refine x_istore (lv' := [(6, .int (aI h (fR h x0 3105) (Int32.toNatClampNeg x6))), (0, rv x0), (1, .int x1), (2, rv x2), (3, .int x3), (4, .int x4), (5, .int x5)]) dX12_checkCase_203 (by decide) rfl ?_
  refine x_goto (tgt := 154) dX12_checkCase_205 (by decide) ?_
  refine xP.pick (lv' := [(0, rv x0), (1, .int x1), (2, rv x2), (3, .int x3), (4, .int x4), (5, .int x5), (6, .int (aI h (fR h x0 3105) (Int32.toNatClampNeg x6)))]) [1, 2, 3, 4, 5, 6, 0] rfl ?_
  exact hq
set_option maxRecDepth 100000 in
def bX12_checkCase_154 (G : xG) (fr lo : Nat) (x0 : Nat) (x1 : Int32) (x2 : Nat) (x3 : Int32) (x4 : Int32) (x5 : Int32) (x6 : Int32) (h : xH) (Q : Outcome → xH → Prop) : Prop := ((x6 = (-1) → bX12_checkCase_208 G fr lo x0 x1 x2 x3 x4 x5 h Q) ∧ (¬ x6 = (-1) → ((x6 = x4 → bX12_checkCase_208 G fr lo x0 x1 x2 x3 x4 x5 h Q) ∧ (¬ x6 = x4 → tg h x0 = 13 ∧ tg h (fR h x0 3108) = 100 ∧ vp_in x6 (ln h (fR h x0 3108)) ∧ vp_in x4 (ln h (fR h x0 3108)) ∧ ((¬ (aI h (fR h x0 3108) (Int32.toNatClampNeg x6)) = (aI h (fR h x0 3108) (Int32.toNatClampNeg x4)) → bX12_checkCase_196 G fr lo x0 x1 x2 x3 x4 x5 x6 h Q) ∧ ((aI h (fR h x0 3108) (Int32.toNatClampNeg x6)) = (aI h (fR h x0 3108) (Int32.toNatClampNeg x4)) → tg h (fR h x0 3102) = 100 ∧ vp_in x4 (ln h (fR h x0 3102)) ∧ 1 ≤ fr ∧ 14 ≤ lo ∧ xRv G YX12_refuse (fr - 1) (lo - 14) [rv x0, .int 5, .int (aI h (fR h x0 3102) (Int32.toNatClampNeg x4))] h (fun h12 => xext h h12 → bX12_checkCase_196 G fr lo x0 x1 x2 x3 x4 x5 x6 h12 Q) (fun r h2 => Q (.threw r) h2)))))))
set_option maxRecDepth 100000 in
theorem uX12_checkCase_154 {G : xG} {fr lo : Nat} {x0 : Nat} {x1 : Int32} {x2 : Nat} {x3 : Int32} {x4 : Int32} {x5 : Int32} {x6 : Int32} {h : xH} {Q : Outcome → xH → Prop} (hq : bX12_checkCase_154 G fr lo x0 x1 x2 x3 x4 x5 x6 h Q) : xP G YX12_checkCase fr lo 154 [(0, rv x0), (1, .int x1), (2, rv x2), (3, .int x3), (4, .int x4), (5, .int x5), (6, .int x6)] [] h Q := by
  unfold bX12_checkCase_154 at hq
  refine x_iload 6 dX12_checkCase_154 rfl ?_
  refine x_iconst (v := (-1)) dX12_checkCase_156 (by decide) ?_
  refine x_icmp_eq (tgt := 208) dX12_checkCase_157 (by decide) (fun c1 => ?_) (fun c1 => ?_)
  · replace hq := hq.1 c1
    refine xP.pick (lv' := [(0, rv x0), (1, .int x1), (2, rv x2), (3, .int x3), (4, .int x4), (5, .int x5)]) [0, 1, 2, 3, 4, 5] rfl ?_
    exact uX12_checkCase_208 hq
  · replace hq := hq.2 c1
    refine x_iload 6 dX12_checkCase_160 rfl ?_
    refine x_iload 4 dX12_checkCase_162 rfl ?_
    refine x_icmp_eq (tgt := 208) dX12_checkCase_164 (by decide) (fun c2 => ?_) (fun c2 => ?_)
    · replace hq := hq.1 c2
      refine xP.pick (lv' := [(0, rv x0), (1, .int x1), (2, rv x2), (3, .int x3), (4, .int x4), (5, .int x5)]) [0, 1, 2, 3, 4, 5] rfl ?_
      exact uX12_checkCase_208 hq
    · replace hq := hq.2 c2
      refine x_aload_n 0 dX12_checkCase_167 rfl ?_
      obtain ⟨g3, hq⟩ := hq
      refine x_get (v := rv (fR h x0 3108)) fdX12_88 dX12_checkCase_168 g3 rfl ?_
      refine x_iload 6 dX12_checkCase_171 rfl ?_
      obtain ⟨g4, hq⟩ := hq
      obtain ⟨i5, hq⟩ := hq
      refine x_iald 0 (Or.inl rfl) g4 i5 dX12_checkCase_173 ?_
      refine x_aload_n 0 dX12_checkCase_174 rfl ?_
      refine x_get (v := rv (fR h x0 3108)) fdX12_88 dX12_checkCase_175 g3 rfl ?_
      refine x_iload 4 dX12_checkCase_178 rfl ?_
      obtain ⟨i6, hq⟩ := hq
      refine x_iald 0 (Or.inl rfl) g4 i6 dX12_checkCase_180 ?_
      refine x_icmp_ne (tgt := 196) dX12_checkCase_181 (by decide) (fun c7 => ?_) (fun c7 => ?_)
      · replace hq := hq.1 c7
        exact uX12_checkCase_196 hq
      · replace hq := hq.2 c7
        refine x_aload_n 0 dX12_checkCase_184 rfl ?_
        refine x_iconst (v := 5) dX12_checkCase_185 (by decide) ?_
        refine x_aload_n 0 dX12_checkCase_186 rfl ?_
        refine x_get (v := rv (fR h x0 3102)) fdX12_70 dX12_checkCase_187 g3 rfl ?_
        refine x_iload 4 dX12_checkCase_190 rfl ?_
        obtain ⟨g8, hq⟩ := hq
        obtain ⟨i9, hq⟩ := hq
        refine x_iald 0 (Or.inl rfl) g8 i9 dX12_checkCase_192 ?_
        obtain ⟨g10, g11, hq⟩ := hq
        refine x_callV (Yc := YX12_refuse) (as := [.int 5, .int (aI h (fR h x0 3102) (Int32.toNatClampNeg x4))]) (st := []) q4095 mvX12_refuse g3 rfl dX12_checkCase_193 (xle (xal1 (rv_cat _) (xal1 rfl (xal1 rfl xal0))) (by decide)) (xfr g10) (xlo xsw0 (by decide) g11) (xKv hq (fun h12 hq e14 => ?_) (fun _ _ q _ => q))
        replace hq := hq e14
        exact uX12_checkCase_196 hq
set_option maxRecDepth 100000 in
def bX12_checkCase_134 (G : xG) (fr lo : Nat) (x0 : Nat) (x1 : Int32) (x2 : Nat) (x3 : Int32) (x4 : Int32) (x5 : Int32) (h : xH) (Q : Outcome → xH → Prop) : Prop := ((x5 = (-1) → tg h x0 = 13 ∧ tg h (fR h x0 3105) = 100 ∧ vp_in x4 (ln h (fR h x0 3105)) ∧ lX12_checkCase_60 G fr lo x0 x1 x2 x3 (aI h (fR h x0 3105) (Int32.toNatClampNeg x4)) h Q) ∧ (¬ x5 = (-1) → tg h x0 = 13 ∧ tg h (fR h x0 3103) = 100 ∧ vp_in x5 (ln h (fR h x0 3103)) ∧ vp_in (aI h (fR h x0 3103) (Int32.toNatClampNeg x5)) (ln h (fR h x0 3103)) ∧ lX12_checkCase_154 G fr lo x0 x1 x2 x3 x4 x5 (aI h (fR h x0 3103) (Int32.toNatClampNeg (aI h (fR h x0 3103) (Int32.toNatClampNeg x5)))) h Q))
set_option maxRecDepth 100000 in
theorem uX12_checkCase_134 {G : xG} {fr lo : Nat} {x0 : Nat} {x1 : Int32} {x2 : Nat} {x3 : Int32} {x4 : Int32} {x5 : Int32} {h : xH} {Q : Outcome → xH → Prop} (hq : bX12_checkCase_134 G fr lo x0 x1 x2 x3 x4 x5 h Q) : xP G YX12_checkCase fr lo 134 [(0, rv x0), (1, .int x1), (2, rv x2), (3, .int x3), (4, .int x4), (5, .int x5)] [] h Q := by
  unfold bX12_checkCase_134 at hq
  refine x_iload 5 dX12_checkCase_134 rfl ?_
  refine x_iconst (v := (-1)) dX12_checkCase_136 (by decide) ?_
  refine x_icmp_eq (tgt := 230) dX12_checkCase_137 (by decide) (fun c1 => ?_) (fun c1 => ?_)
  · replace hq := hq.1 c1
    refine x_aload_n 0 dX12_checkCase_230 rfl ?_
    obtain ⟨g2, hq⟩ := hq
    refine x_get (v := rv (fR h x0 3105)) fdX12_79 dX12_checkCase_231 g2 rfl ?_
    refine x_iload 4 dX12_checkCase_234 rfl ?_
    obtain ⟨g3, hq⟩ := hq
    obtain ⟨i4, hq⟩ := hq
    refine x_iald 0 (Or.inl rfl) g3 i4 dX12_checkCase_236 ?_
    refine x_istore (lv' := [(4, .int (aI h (fR h x0 3105) (Int32.toNatClampNeg x4))), (0, rv x0), (1, .int x1), (2, rv x2), (3, .int x3), (5, .int x5)]) dX12_checkCase_237 (by decide) rfl ?_
    refine x_goto (tgt := 60) dX12_checkCase_239 (by decide) ?_
    refine xP.pick (lv' := [(0, rv x0), (1, .int x1), (2, rv x2), (3, .int x3), (4, .int (aI h (fR h x0 3105) (Int32.toNatClampNeg x4)))]) [1, 2, 3, 4, 0] rfl ?_
    exact hq
  · replace hq := hq.2 c1
    refine x_aload_n 0 dX12_checkCase_140 rfl ?_
    obtain ⟨g5, hq⟩ := hq
    refine x_get (v := rv (fR h x0 3103)) fdX12_73 dX12_checkCase_141 g5 rfl ?_
    refine x_aload_n 0 dX12_checkCase_144 rfl ?_
    refine x_get (v := rv (fR h x0 3103)) fdX12_73 dX12_checkCase_145 g5 rfl ?_
    refine x_iload 5 dX12_checkCase_148 rfl ?_
    obtain ⟨g6, hq⟩ := hq
    obtain ⟨i7, hq⟩ := hq
    refine x_iald 0 (Or.inl rfl) g6 i7 dX12_checkCase_150 ?_
    obtain ⟨i8, hq⟩ := hq
    refine x_iald 0 (Or.inl rfl) g6 i8 dX12_checkCase_151 ?_
    refine x_istore (lv' := [(6, .int (aI h (fR h x0 3103) (Int32.toNatClampNeg (aI h (fR h x0 3103) (Int32.toNatClampNeg x5))))), (0, rv x0), (1, .int x1), (2, rv x2), (3, .int x3), (4, .int x4), (5, .int x5)]) dX12_checkCase_152 (by decide) rfl ?_
    refine xP.pick (lv' := [(0, rv x0), (1, .int x1), (2, rv x2), (3, .int x3), (4, .int x4), (5, .int x5), (6, .int (aI h (fR h x0 3103) (Int32.toNatClampNeg (aI h (fR h x0 3103) (Int32.toNatClampNeg x5)))))]) [1, 2, 3, 4, 5, 6, 0] rfl ?_
    exact hq
set_option maxRecDepth 100000 in
def bX12_checkCase_109 (G : xG) (fr lo : Nat) (x0 : Nat) (x1 : Int32) (x2 : Nat) (x3 : Int32) (x4 : Int32) (h : xH) (Q : Outcome → xH → Prop) : Prop := tg h x0 = 13 ∧ tg h (fR h x0 3108) = 100 ∧ vp_in x4 (ln h (fR h x0 3108)) ∧ (∀ h4 : xH, h4 = tI h (fR h x0 3108) (Int32.toNatClampNeg x4) (Int64.toInt32 (fJ h x0 3139)) → tg h4 (fR h4 x0 3103) = 100 ∧ vp_in x1 (ln h4 (fR h4 x0 3103)) ∧ tg h4 (fR h4 x0 3105) = 100 ∧ vp_in (aI h4 (fR h4 x0 3103) (Int32.toNatClampNeg x1)) (ln h4 (fR h4 x0 3105)) ∧ lX12_checkCase_134 G fr lo x0 x1 x2 x3 x4 (aI h4 (fR h4 x0 3105) (Int32.toNatClampNeg (aI h4 (fR h4 x0 3103) (Int32.toNatClampNeg x1)))) h4 Q)
set_option maxRecDepth 100000 in
theorem uX12_checkCase_109 {G : xG} {fr lo : Nat} {x0 : Nat} {x1 : Int32} {x2 : Nat} {x3 : Int32} {x4 : Int32} {h : xH} {Q : Outcome → xH → Prop} (hq : bX12_checkCase_109 G fr lo x0 x1 x2 x3 x4 h Q) : xP G YX12_checkCase fr lo 109 [(0, rv x0), (1, .int x1), (2, rv x2), (3, .int x3), (4, .int x4)] [] h Q := by
  unfold bX12_checkCase_109 at hq
  refine x_aload_n 0 dX12_checkCase_109 rfl ?_
  obtain ⟨g1, hq⟩ := hq
  refine x_get (v := rv (fR h x0 3108)) fdX12_88 dX12_checkCase_110 g1 rfl ?_
  refine x_iload 4 dX12_checkCase_113 rfl ?_
  refine x_aload_n 0 dX12_checkCase_115 rfl ?_
  refine x_get (v := .long (fJ h x0 3139)) fdX12_760 dX12_checkCase_116 g1 rfl ?_
  refine x_l2i dX12_checkCase_119 ?_
  obtain ⟨g2, hq⟩ := hq
  obtain ⟨i3, hq⟩ := hq
  obtain ⟨h4, e5⟩ : ∃ y, y = tI h (fR h x0 3108) (Int32.toNatClampNeg x4) (Int64.toInt32 (fJ h x0 3139)) := ⟨_, rfl⟩
  replace hq := hq h4 e5
  refine x_iast' g2 i3 dX12_checkCase_120 e5 ?_
  refine x_aload_n 0 dX12_checkCase_121 rfl ?_
  have t6 : tg h4 x0 = 13 := by rw [e5]; exact g1
  refine x_get (v := rv (fR h4 x0 3105)) fdX12_79 dX12_checkCase_122 t6 rfl ?_
  refine x_aload_n 0 dX12_checkCase_125 rfl ?_
  refine x_get (v := rv (fR h4 x0 3103)) fdX12_73 dX12_checkCase_126 t6 rfl ?_
  refine x_iload_n 1 dX12_checkCase_129 rfl ?_
  obtain ⟨g7, hq⟩ := hq
  obtain ⟨i8, hq⟩ := hq
  refine x_iald 0 (Or.inl rfl) g7 i8 dX12_checkCase_130 ?_
  obtain ⟨g9, hq⟩ := hq
  obtain ⟨i10, hq⟩ := hq
  refine x_iald 0 (Or.inl rfl) g9 i10 dX12_checkCase_131 ?_
  refine x_istore (lv' := [(5, .int (aI h4 (fR h4 x0 3105) (Int32.toNatClampNeg (aI h4 (fR h4 x0 3103) (Int32.toNatClampNeg x1))))), (0, rv x0), (1, .int x1), (2, rv x2), (3, .int x3), (4, .int x4)]) dX12_checkCase_132 (by decide) rfl ?_
  refine xP.pick (lv' := [(0, rv x0), (1, .int x1), (2, rv x2), (3, .int x3), (4, .int x4), (5, .int (aI h4 (fR h4 x0 3105) (Int32.toNatClampNeg (aI h4 (fR h4 x0 3103) (Int32.toNatClampNeg x1)))))]) [1, 2, 3, 4, 5, 0] rfl ?_
  exact hq
set_option maxRecDepth 100000 in
def bX12_checkCase_96 (G : xG) (fr lo : Nat) (x0 : Nat) (x1 : Int32) (x2 : Nat) (x3 : Int32) (x4 : Int32) (h : xH) (Q : Outcome → xH → Prop) : Prop := tg h x0 = 13 ∧ tg h (fR h x0 3102) = 100 ∧ vp_in x4 (ln h (fR h x0 3102)) ∧ 1 ≤ fr ∧ 14 ≤ lo ∧ xRv G YX12_refuse (fr - 1) (lo - 14) [rv x0, .int 7, .int (aI h (fR h x0 3102) (Int32.toNatClampNeg x4))] h (fun h6 => xext h h6 → bX12_checkCase_109 G fr lo x0 x1 x2 x3 x4 h6 Q) (fun r h2 => Q (.threw r) h2)
set_option maxRecDepth 100000 in
theorem uX12_checkCase_96 {G : xG} {fr lo : Nat} {x0 : Nat} {x1 : Int32} {x2 : Nat} {x3 : Int32} {x4 : Int32} {h : xH} {Q : Outcome → xH → Prop} (hq : bX12_checkCase_96 G fr lo x0 x1 x2 x3 x4 h Q) : xP G YX12_checkCase fr lo 96 [(0, rv x0), (1, .int x1), (2, rv x2), (3, .int x3), (4, .int x4)] [] h Q := by
  unfold bX12_checkCase_96 at hq
  refine x_aload_n 0 dX12_checkCase_96 rfl ?_
  refine x_bipush (v := 7) dX12_checkCase_97 (by decide) ?_
  refine x_aload_n 0 dX12_checkCase_99 rfl ?_
  obtain ⟨g1, hq⟩ := hq
  refine x_get (v := rv (fR h x0 3102)) fdX12_70 dX12_checkCase_100 g1 rfl ?_
  refine x_iload 4 dX12_checkCase_103 rfl ?_
  obtain ⟨g2, hq⟩ := hq
  obtain ⟨i3, hq⟩ := hq
  refine x_iald 0 (Or.inl rfl) g2 i3 dX12_checkCase_105 ?_
  obtain ⟨g4, g5, hq⟩ := hq
  refine x_callV (Yc := YX12_refuse) (as := [.int 7, .int (aI h (fR h x0 3102) (Int32.toNatClampNeg x4))]) (st := []) q4095 mvX12_refuse g1 rfl dX12_checkCase_106 (xle (xal1 (rv_cat _) (xal1 rfl (xal1 rfl xal0))) (by decide)) (xfr g4) (xlo xsw0 (by decide) g5) (xKv hq (fun h6 hq e8 => ?_) (fun _ _ q _ => q))
  replace hq := hq e8
  exact uX12_checkCase_109 hq
set_option maxRecDepth 100000 in
def bX12_checkCase_60 (G : xG) (fr lo : Nat) (x0 : Nat) (x1 : Int32) (x2 : Nat) (x3 : Int32) (x4 : Int32) (h : xH) (Q : Outcome → xH → Prop) : Prop := ((x4 = (-1) → tg h x0 = 13 ∧ 1 ≤ fr ∧ 17 ≤ lo ∧ xRi G YX12_child (fr - 1) (lo - 17) [rv x0, .int x3, .int 1] h (fun x6 h5 => xext h h5 → 1 ≤ fr ∧ 14 ≤ lo ∧ xRv G YX12_checkStatement (fr - 1) (lo - 14) [rv x0, .int x6] h5 (fun h11 => xext h5 h11 → tg h11 (fR h11 x0 3105) = 100 ∧ vp_in x3 (ln h11 (fR h11 x0 3105)) ∧ lX12_checkCase_42 G fr lo x0 x1 x2 (aI h11 (fR h11 x0 3105) (Int32.toNatClampNeg x3)) h11 Q) (fun r h2 => Q (.threw r) h2)) (fun r h2 => Q (.threw r) h2)) ∧ (¬ x4 = (-1) → tg h x0 = 13 ∧ 1 ≤ fr ∧ 15 ≤ lo ∧ xRv G YX12_constant (fr - 1) (lo - 15) [rv x0, .int x4] h (fun h20 => xext h h20 → tg h20 (fR h20 x0 3138) = 14 ∧ 1 ≤ fr ∧ 12 ≤ lo ∧ xRi G YX13_isOrdinal (fr - 1) (lo - 12) [rv (fR h20 x0 3138)] h20 (fun x28 h27 => xext h20 h27 → ((x28 = 0 → bX12_checkCase_96 G fr lo x0 x1 x2 x3 x4 h27 Q) ∧ (¬ x28 = 0 → tg h27 (fR h27 x0 3138) = 14 ∧ 1 ≤ fr ∧ 12 ≤ lo ∧ xRr G YX13_own (fr - 1) (lo - 12) [rv (fR h27 x0 3138)] h27 (fun x36 h35 => xext h27 h35 → tg h35 x2 = 14 ∧ 1 ≤ fr ∧ 13 ≤ lo ∧ xRr G YX13_own (fr - 1) (lo - 13) [rv x2] h35 (fun x42 h41 => xext h35 h41 → ((x36 = x42 → bX12_checkCase_109 G fr lo x0 x1 x2 x3 x4 h41 Q) ∧ (¬ x36 = x42 → bX12_checkCase_96 G fr lo x0 x1 x2 x3 x4 h41 Q))) (fun r h2 => Q (.threw r) h2)) (fun r h2 => Q (.threw r) h2)))) (fun r h2 => Q (.threw r) h2)) (fun r h2 => Q (.threw r) h2)))
set_option maxRecDepth 100000 in
theorem uX12_checkCase_60 {G : xG} {fr lo : Nat} {x0 : Nat} {x1 : Int32} {x2 : Nat} {x3 : Int32} {x4 : Int32} {h : xH} {Q : Outcome → xH → Prop} (hq : bX12_checkCase_60 G fr lo x0 x1 x2 x3 x4 h Q) : xP G YX12_checkCase fr lo 60 [(0, rv x0), (1, .int x1), (2, rv x2), (3, .int x3), (4, .int x4)] [] h Q := by
  unfold bX12_checkCase_60 at hq
  refine x_iload 4 dX12_checkCase_60 rfl ?_
  refine x_iconst (v := (-1)) dX12_checkCase_62 (by decide) ?_
  refine x_icmp_eq (tgt := 242) dX12_checkCase_63 (by decide) (fun c1 => ?_) (fun c1 => ?_)
  · replace hq := hq.1 c1
    refine x_aload_n 0 dX12_checkCase_242 rfl ?_
    refine x_aload_n 0 dX12_checkCase_243 rfl ?_
    refine x_iload_n 3 dX12_checkCase_244 rfl ?_
    refine x_iconst (v := 1) dX12_checkCase_245 (by decide) ?_
    obtain ⟨g2, hq⟩ := hq
    obtain ⟨g3, g4, hq⟩ := hq
    refine x_callV (Yc := YX12_child) (as := [.int x3, .int 1]) (st := [rv x0]) q4126 mvX12_child g2 rfl dX12_checkCase_246 (xle (xal1 (rv_cat _) (xal1 rfl (xal1 rfl xal0))) (by decide)) (xfr g3) (xlo (xsw1 (rv_cat _) xsw0) (by decide) g4) (xKi hq (fun x6 h5 hq e7 => ?_) (fun _ _ q _ => q))
    replace hq := hq e7
    have t8 : tg h5 x0 = 13 := e7.tg g2 (by decide)
    obtain ⟨g9, g10, hq⟩ := hq
    refine x_callV (Yc := YX12_checkStatement) (as := [.int x6]) (st := []) q4300 mvX12_checkStatement t8 rfl dX12_checkCase_249 (xle (xal1 (rv_cat _) (xal1 rfl xal0)) (by decide)) (xfr g9) (xlo xsw0 (by decide) g10) (xKv hq (fun h11 hq e13 => ?_) (fun _ _ q _ => q))
    replace hq := hq e13
    refine x_aload_n 0 dX12_checkCase_252 rfl ?_
    have t14 : tg h11 x0 = 13 := e13.tg t8 (by decide)
    refine x_get (v := rv (fR h11 x0 3105)) fdX12_79 dX12_checkCase_253 t14 rfl ?_
    refine x_iload_n 3 dX12_checkCase_256 rfl ?_
    obtain ⟨g15, hq⟩ := hq
    obtain ⟨i16, hq⟩ := hq
    refine x_iald 0 (Or.inl rfl) g15 i16 dX12_checkCase_257 ?_
    refine x_istore_n (lv' := [(3, .int (aI h11 (fR h11 x0 3105) (Int32.toNatClampNeg x3))), (0, rv x0), (1, .int x1), (2, rv x2), (4, .int x4)]) dX12_checkCase_258 (by decide) (by first | rfl | (simp [rv_cat, Value.category]; done) | (simp [rv_cat, Value.category]; decide)) ?_
    refine x_goto (tgt := 42) dX12_checkCase_259 (by decide) ?_
    refine xP.pick (lv' := [(0, rv x0), (1, .int x1), (2, rv x2), (3, .int (aI h11 (fR h11 x0 3105) (Int32.toNatClampNeg x3)))]) [1, 2, 3, 0] rfl ?_
    exact hq
  · replace hq := hq.2 c1
    refine x_aload_n 0 dX12_checkCase_66 rfl ?_
    refine x_iload 4 dX12_checkCase_67 rfl ?_
    obtain ⟨g17, hq⟩ := hq
    obtain ⟨g18, g19, hq⟩ := hq
    refine x_callV (Yc := YX12_constant) (as := [.int x4]) (st := []) q4153 mvX12_constant g17 rfl dX12_checkCase_69 (xle (xal1 (rv_cat _) (xal1 rfl xal0)) (by decide)) (xfr g18) (xlo xsw0 (by decide) g19) (xKv hq (fun h20 hq e22 => ?_) (fun _ _ q _ => q))
    replace hq := hq e22
    refine x_aload_n 0 dX12_checkCase_72 rfl ?_
    have t23 : tg h20 x0 = 13 := e22.tg g17 (by decide)
    refine x_get (v := rv (fR h20 x0 3138)) fdX12_757 dX12_checkCase_73 t23 rfl ?_
    obtain ⟨g24, hq⟩ := hq
    obtain ⟨g25, g26, hq⟩ := hq
    refine x_callV (Yc := YX13_isOrdinal) (as := []) (st := []) q4185 mvX13_isOrdinal g24 rfl dX12_checkCase_76 (xle (xal1 (rv_cat _) xal0) (by decide)) (xfr g25) (xlo xsw0 (by decide) g26) (xKi hq (fun x28 h27 hq e29 => ?_) (fun _ _ q _ => q))
    replace hq := hq e29
    refine x_if_eq (tgt := 96) dX12_checkCase_79 (by decide) (fun c30 => ?_) (fun c30 => ?_)
    · replace hq := hq.1 c30
      exact uX12_checkCase_96 hq
    · replace hq := hq.2 c30
      refine x_aload_n 0 dX12_checkCase_82 rfl ?_
      have t31 : tg h27 x0 = 13 := e29.tg t23 (by decide)
      refine x_get (v := rv (fR h27 x0 3138)) fdX12_757 dX12_checkCase_83 t31 rfl ?_
      obtain ⟨g32, hq⟩ := hq
      obtain ⟨g33, g34, hq⟩ := hq
      refine x_callV (Yc := YX13_own) (as := []) (st := []) q4189 mvX13_own g32 rfl dX12_checkCase_86 (xle (xal1 (rv_cat _) xal0) (by decide)) (xfr g33) (xlo xsw0 (by decide) g34) (xKr hq (fun x36 h35 hq e37 => ?_) (fun _ _ q _ => q))
      replace hq := hq e37
      refine x_aload_n 2 dX12_checkCase_89 rfl ?_
      obtain ⟨g38, hq⟩ := hq
      obtain ⟨g39, g40, hq⟩ := hq
      refine x_callV (Yc := YX13_own) (as := []) (st := [rv x36]) q4189 mvX13_own g38 rfl dX12_checkCase_90 (xle (xal1 (rv_cat _) xal0) (by decide)) (xfr g39) (xlo (xsw1 (rv_cat _) xsw0) (by decide) g40) (xKr hq (fun x42 h41 hq e43 => ?_) (fun _ _ q _ => q))
      replace hq := hq e43
      refine x_acmp_eq (tgt := 109) dX12_checkCase_93 (by decide) (fun c44 => ?_) (fun c44 => ?_)
      · replace hq := hq.1 c44
        exact uX12_checkCase_109 hq
      · replace hq := hq.2 c44
        exact uX12_checkCase_96 hq
set_option maxRecDepth 100000 in
def bX12_checkCase_42 (G : xG) (fr lo : Nat) (x0 : Nat) (x1 : Int32) (x2 : Nat) (x3 : Int32) (h : xH) (Q : Outcome → xH → Prop) : Prop := ((x3 = (-1) → Q (.returned none) h) ∧ (¬ x3 = (-1) → tg h x0 = 13 ∧ tg h (fR h x0 3103) = 100 ∧ vp_in x3 (ln h (fR h x0 3103)) ∧ vp_in (aI h (fR h x0 3103) (Int32.toNatClampNeg x3)) (ln h (fR h x0 3103)) ∧ lX12_checkCase_60 G fr lo x0 x1 x2 x3 (aI h (fR h x0 3103) (Int32.toNatClampNeg (aI h (fR h x0 3103) (Int32.toNatClampNeg x3)))) h Q))
set_option maxRecDepth 100000 in
theorem uX12_checkCase_42 {G : xG} {fr lo : Nat} {x0 : Nat} {x1 : Int32} {x2 : Nat} {x3 : Int32} {h : xH} {Q : Outcome → xH → Prop} (hq : bX12_checkCase_42 G fr lo x0 x1 x2 x3 h Q) : xP G YX12_checkCase fr lo 42 [(0, rv x0), (1, .int x1), (2, rv x2), (3, .int x3)] [] h Q := by
  unfold bX12_checkCase_42 at hq
  refine x_iload_n 3 dX12_checkCase_42 rfl ?_
  refine x_iconst (v := (-1)) dX12_checkCase_43 (by decide) ?_
  refine x_icmp_eq (tgt := 262) dX12_checkCase_44 (by decide) (fun c1 => ?_) (fun c1 => ?_)
  · replace hq := hq.1 c1
    exact x_vret rfl dX12_checkCase_262 hq
  · replace hq := hq.2 c1
    refine x_aload_n 0 dX12_checkCase_47 rfl ?_
    obtain ⟨g2, hq⟩ := hq
    refine x_get (v := rv (fR h x0 3103)) fdX12_73 dX12_checkCase_48 g2 rfl ?_
    refine x_aload_n 0 dX12_checkCase_51 rfl ?_
    refine x_get (v := rv (fR h x0 3103)) fdX12_73 dX12_checkCase_52 g2 rfl ?_
    refine x_iload_n 3 dX12_checkCase_55 rfl ?_
    obtain ⟨g3, hq⟩ := hq
    obtain ⟨i4, hq⟩ := hq
    refine x_iald 0 (Or.inl rfl) g3 i4 dX12_checkCase_56 ?_
    obtain ⟨i5, hq⟩ := hq
    refine x_iald 0 (Or.inl rfl) g3 i5 dX12_checkCase_57 ?_
    refine x_istore (lv' := [(4, .int (aI h (fR h x0 3103) (Int32.toNatClampNeg (aI h (fR h x0 3103) (Int32.toNatClampNeg x3))))), (0, rv x0), (1, .int x1), (2, rv x2), (3, .int x3)]) dX12_checkCase_58 (by decide) rfl ?_
    refine xP.pick (lv' := [(0, rv x0), (1, .int x1), (2, rv x2), (3, .int x3), (4, .int (aI h (fR h x0 3103) (Int32.toNatClampNeg (aI h (fR h x0 3103) (Int32.toNatClampNeg x3)))))]) [1, 2, 3, 4, 0] rfl ?_
    exact hq
set_option maxRecDepth 100000 in
def bX12_checkCase_30 (G : xG) (fr lo : Nat) (x0 : Nat) (x1 : Int32) (x2 : Nat) (h : xH) (Q : Outcome → xH → Prop) : Prop := tg h x0 = 13 ∧ tg h (fR h x0 3103) = 100 ∧ vp_in x1 (ln h (fR h x0 3103)) ∧ tg h (fR h x0 3105) = 100 ∧ vp_in (aI h (fR h x0 3103) (Int32.toNatClampNeg x1)) (ln h (fR h x0 3105)) ∧ lX12_checkCase_42 G fr lo x0 x1 x2 (aI h (fR h x0 3105) (Int32.toNatClampNeg (aI h (fR h x0 3103) (Int32.toNatClampNeg x1)))) h Q
set_option maxRecDepth 100000 in
theorem uX12_checkCase_30 {G : xG} {fr lo : Nat} {x0 : Nat} {x1 : Int32} {x2 : Nat} {h : xH} {Q : Outcome → xH → Prop} (hq : bX12_checkCase_30 G fr lo x0 x1 x2 h Q) : xP G YX12_checkCase fr lo 30 [(0, rv x0), (1, .int x1), (2, rv x2)] [] h Q := by
  unfold bX12_checkCase_30 at hq
  refine x_aload_n 0 dX12_checkCase_30 rfl ?_
  obtain ⟨g1, hq⟩ := hq
  refine x_get (v := rv (fR h x0 3105)) fdX12_79 dX12_checkCase_31 g1 rfl ?_
  refine x_aload_n 0 dX12_checkCase_34 rfl ?_
  refine x_get (v := rv (fR h x0 3103)) fdX12_73 dX12_checkCase_35 g1 rfl ?_
  refine x_iload_n 1 dX12_checkCase_38 rfl ?_
  obtain ⟨g2, hq⟩ := hq
  obtain ⟨i3, hq⟩ := hq
  refine x_iald 0 (Or.inl rfl) g2 i3 dX12_checkCase_39 ?_
  obtain ⟨g4, hq⟩ := hq
  obtain ⟨i5, hq⟩ := hq
  refine x_iald 0 (Or.inl rfl) g4 i5 dX12_checkCase_40 ?_
  refine x_istore_n (lv' := [(3, .int (aI h (fR h x0 3105) (Int32.toNatClampNeg (aI h (fR h x0 3103) (Int32.toNatClampNeg x1))))), (0, rv x0), (1, .int x1), (2, rv x2)]) dX12_checkCase_41 (by decide) (by first | rfl | (simp [rv_cat, Value.category]; done) | (simp [rv_cat, Value.category]; decide)) ?_
  refine xP.pick (lv' := [(0, rv x0), (1, .int x1), (2, rv x2), (3, .int (aI h (fR h x0 3105) (Int32.toNatClampNeg (aI h (fR h x0 3103) (Int32.toNatClampNeg x1)))))]) [1, 2, 3, 0] rfl ?_
  exact hq
set_option maxRecDepth 100000 in
def bX12_checkCase (G : xG) (fr lo : Nat) (x0 : Nat) (x1 : Int32) (h : xH) (Q : Outcome → xH → Prop) : Prop := tg h x0 = 13 ∧ tg h (fR h x0 3103) = 100 ∧ vp_in x1 (ln h (fR h x0 3103)) ∧ 1 ≤ fr ∧ 15 ≤ lo ∧ xRr G YX12_checkE (fr - 1) (lo - 15) [rv x0, .int (aI h (fR h x0 3103) (Int32.toNatClampNeg x1))] h (fun x7 h6 => xext h h6 → tg h6 x7 = 14 ∧ 1 ≤ fr ∧ 12 ≤ lo ∧ xRi G YX13_isOrdinal (fr - 1) (lo - 12) [rv x7] h6 (fun x13 h12 => xext h6 h12 → ((¬ x13 = 0 → bX12_checkCase_30 G fr lo x0 x1 x7 h12 Q) ∧ (x13 = 0 → tg h12 (fR h12 x0 3102) = 100 ∧ vp_in x1 (ln h12 (fR h12 x0 3102)) ∧ 1 ≤ fr ∧ 14 ≤ lo ∧ xRv G YX12_refuse (fr - 1) (lo - 14) [rv x0, .int 7, .int (aI h12 (fR h12 x0 3102) (Int32.toNatClampNeg x1))] h12 (fun h22 => xext h12 h22 → bX12_checkCase_30 G fr lo x0 x1 x7 h22 Q) (fun r h2 => Q (.threw r) h2)))) (fun r h2 => Q (.threw r) h2)) (fun r h2 => Q (.threw r) h2)
set_option maxRecDepth 100000 in
theorem uX12_checkCase {G : xG} {fr lo : Nat} {x0 : Nat} {x1 : Int32} {h : xH} {Q : Outcome → xH → Prop} (hq : bX12_checkCase G fr lo x0 x1 h Q) : xP G YX12_checkCase fr lo 0 [(0, rv x0), (1, .int x1)] [] h Q := by
  unfold bX12_checkCase at hq
  refine x_aload_n 0 dX12_checkCase_0 rfl ?_
  refine x_aload_n 0 dX12_checkCase_1 rfl ?_
  obtain ⟨g1, hq⟩ := hq
  refine x_get (v := rv (fR h x0 3103)) fdX12_73 dX12_checkCase_2 g1 rfl ?_
  refine x_iload_n 1 dX12_checkCase_5 rfl ?_
  obtain ⟨g2, hq⟩ := hq
  obtain ⟨i3, hq⟩ := hq
  refine x_iald 0 (Or.inl rfl) g2 i3 dX12_checkCase_6 ?_
  obtain ⟨g4, g5, hq⟩ := hq
  refine x_callV (Yc := YX12_checkE) (as := [.int (aI h (fR h x0 3103) (Int32.toNatClampNeg x1))]) (st := []) q4308 mvX12_checkE g1 rfl dX12_checkCase_7 (xle (xal1 (rv_cat _) (xal1 rfl xal0)) (by decide)) (xfr g4) (xlo xsw0 (by decide) g5) (xKr hq (fun x7 h6 hq e8 => ?_) (fun _ _ q _ => q))
  replace hq := hq e8
  refine x_astore_n (lv' := [(2, rv x7), (0, rv x0), (1, .int x1)]) dX12_checkCase_10 (by decide) rfl ?_
  refine x_aload_n 0 dX12_checkCase_11 rfl ?_
  obtain ⟨g9, hq⟩ := hq
  obtain ⟨g10, g11, hq⟩ := hq
  refine x_callV (Yc := YX13_isOrdinal) (as := []) (st := []) q4185 mvX13_isOrdinal g9 rfl dX12_checkCase_12 (xle (xal1 (rv_cat _) xal0) (by decide)) (xfr g10) (xlo xsw0 (by decide) g11) (xKi hq (fun x13 h12 hq e14 => ?_) (fun _ _ q _ => q))
  replace hq := hq e14
  refine x_if_ne (tgt := 30) dX12_checkCase_15 (by decide) (fun c15 => ?_) (fun c15 => ?_)
  · replace hq := hq.1 c15
    refine xP.pick (lv' := [(0, rv x0), (1, .int x1), (2, rv x7)]) [1, 2, 0] rfl ?_
    exact uX12_checkCase_30 hq
  · replace hq := hq.2 c15
    refine x_aload_n 1 dX12_checkCase_18 rfl ?_
    refine x_bipush (v := 7) dX12_checkCase_19 (by decide) ?_
    refine x_aload_n 1 dX12_checkCase_21 rfl ?_
    have t16 : tg h6 x0 = 13 := e8.tg g1 (by decide)
    have t17 : tg h12 x0 = 13 := e14.tg t16 (by decide)
    refine x_get (v := rv (fR h12 x0 3102)) fdX12_70 dX12_checkCase_22 t17 rfl ?_
    refine x_iload_n 2 dX12_checkCase_25 rfl ?_
    obtain ⟨g18, hq⟩ := hq
    obtain ⟨i19, hq⟩ := hq
    refine x_iald 0 (Or.inl rfl) g18 i19 dX12_checkCase_26 ?_
    obtain ⟨g20, g21, hq⟩ := hq
    refine x_callV (Yc := YX12_refuse) (as := [.int 7, .int (aI h12 (fR h12 x0 3102) (Int32.toNatClampNeg x1))]) (st := []) q4095 mvX12_refuse t17 rfl dX12_checkCase_27 (xle (xal1 (rv_cat _) (xal1 rfl (xal1 rfl xal0))) (by decide)) (xfr g20) (xlo xsw0 (by decide) g21) (xKv hq (fun h22 hq e24 => ?_) (fun _ _ q _ => q))
    replace hq := hq e24
    refine xP.pick (lv' := [(0, rv x0), (1, .int x1), (2, rv x7)]) [1, 2, 0] rfl ?_
    exact uX12_checkCase_30 hq
theorem rX12_checkCase {G : xG} {fr lo : Nat} {x0 : Nat} {x1 : Int32} {h : xH} {Q : Outcome → xH → Prop} (hq : bX12_checkCase G fr lo x0 x1 h Q) : xR G YX12_checkCase fr lo [rv x0, .int x1] h Q := by
  show xP _ _ _ _ _ (lv_args 0 _) _ _ _
  rw [show lv_args 0 [rv x0, .int x1] = [(0, rv x0), (1, .int x1)] from (xla1 (rv_cat _) (xla1 rfl xla0))]
  exact uX12_checkCase hq
set_option maxRecDepth 100000 in
theorem dX12_checkFor_0 : decode cX12_checkFor 0 = .ok (.aload_n 0, 1) := by decide +kernel
set_option maxRecDepth 100000 in
theorem dX12_checkFor_1 : decode cX12_checkFor 1 = .ok (.getfield 70, 3) := by decide +kernel
set_option maxRecDepth 100000 in
theorem dX12_checkFor_4 : decode cX12_checkFor 4 = .ok (.aload_n 0, 1) := by decide +kernel
set_option maxRecDepth 100000 in
theorem dX12_checkFor_5 : decode cX12_checkFor 5 = .ok (.getfield 73, 3) := by decide +kernel
set_option maxRecDepth 100000 in
theorem dX12_checkFor_8 : decode cX12_checkFor 8 = .ok (.iload_n 1, 1) := by decide +kernel
set_option maxRecDepth 100000 in
theorem dX12_checkFor_9 : decode cX12_checkFor 9 = .ok (.iaload, 1) := by decide +kernel
set_option maxRecDepth 100000 in
theorem dX12_checkFor_10 : decode cX12_checkFor 10 = .ok (.iaload, 1) := by decide +kernel
set_option maxRecDepth 100000 in
theorem dX12_checkFor_11 : decode cX12_checkFor 11 = .ok (.istore_n 2, 1) := by decide +kernel
set_option maxRecDepth 100000 in
theorem dX12_checkFor_12 : decode cX12_checkFor 12 = .ok (.aload_n 0, 1) := by decide +kernel
set_option maxRecDepth 100000 in
theorem dX12_checkFor_13 : decode cX12_checkFor 13 = .ok (.iload_n 2, 1) := by decide +kernel
set_option maxRecDepth 100000 in
theorem dX12_checkFor_14 : decode cX12_checkFor 14 = .ok (.iconst 3, 1) := by decide +kernel
set_option maxRecDepth 100000 in
theorem dX12_checkFor_15 : decode cX12_checkFor 15 = .ok (.invokevirtual 838, 3) := by decide +kernel
set_option maxRecDepth 100000 in
theorem dX12_checkFor_18 : decode cX12_checkFor 18 = .ok (.astore_n 3, 1) := by decide +kernel
set_option maxRecDepth 100000 in
theorem dX12_checkFor_19 : decode cX12_checkFor 19 = .ok (.aload_n 3, 1) := by decide +kernel
set_option maxRecDepth 100000 in
theorem dX12_checkFor_20 : decode cX12_checkFor 20 = .ok (.getfield 787, 3) := by decide +kernel
set_option maxRecDepth 100000 in
theorem dX12_checkFor_23 : decode cX12_checkFor 23 = .ok (.ifCond .eq 14, 3) := by decide +kernel
set_option maxRecDepth 100000 in
theorem dX12_checkFor_26 : decode cX12_checkFor 26 = .ok (.aload_n 3, 1) := by decide +kernel
set_option maxRecDepth 100000 in
theorem dX12_checkFor_27 : decode cX12_checkFor 27 = .ok (.getfield 705, 3) := by decide +kernel
set_option maxRecDepth 100000 in
theorem dX12_checkFor_30 : decode cX12_checkFor 30 = .ok (.aload_n 0, 1) := by decide +kernel
set_option maxRecDepth 100000 in
theorem dX12_checkFor_31 : decode cX12_checkFor 31 = .ok (.invokevirtual 702, 3) := by decide +kernel
set_option maxRecDepth 100000 in
theorem dX12_checkFor_34 : decode cX12_checkFor 34 = .ok (.if_icmp .eq 10, 3) := by decide +kernel
set_option maxRecDepth 100000 in
theorem dX12_checkFor_37 : decode cX12_checkFor 37 = .ok (.aload_n 0, 1) := by decide +kernel
set_option maxRecDepth 100000 in
theorem dX12_checkFor_38 : decode cX12_checkFor 38 = .ok (.bipush 6, 2) := by decide +kernel
set_option maxRecDepth 100000 in
theorem dX12_checkFor_40 : decode cX12_checkFor 40 = .ok (.iload_n 2, 1) := by decide +kernel
set_option maxRecDepth 100000 in
theorem dX12_checkFor_41 : decode cX12_checkFor 41 = .ok (.invokevirtual 570, 3) := by decide +kernel
set_option maxRecDepth 100000 in
theorem dX12_checkFor_44 : decode cX12_checkFor 44 = .ok (.aload_n 3, 1) := by decide +kernel
set_option maxRecDepth 100000 in
theorem dX12_checkFor_45 : decode cX12_checkFor 45 = .ok (.getfield 612, 3) := by decide +kernel
set_option maxRecDepth 100000 in
theorem dX12_checkFor_48 : decode cX12_checkFor 48 = .ok (.invokevirtual 861, 3) := by decide +kernel
set_option maxRecDepth 100000 in
theorem dX12_checkFor_51 : decode cX12_checkFor 51 = .ok (.ifCond .ne 10, 3) := by decide +kernel
set_option maxRecDepth 100000 in
theorem dX12_checkFor_54 : decode cX12_checkFor 54 = .ok (.aload_n 0, 1) := by decide +kernel
set_option maxRecDepth 100000 in
theorem dX12_checkFor_55 : decode cX12_checkFor 55 = .ok (.bipush 7, 2) := by decide +kernel
set_option maxRecDepth 100000 in
theorem dX12_checkFor_57 : decode cX12_checkFor 57 = .ok (.iload_n 2, 1) := by decide +kernel
set_option maxRecDepth 100000 in
theorem dX12_checkFor_58 : decode cX12_checkFor 58 = .ok (.invokevirtual 570, 3) := by decide +kernel
set_option maxRecDepth 100000 in
theorem dX12_checkFor_61 : decode cX12_checkFor 61 = .ok (.aload_n 3, 1) := by decide +kernel
set_option maxRecDepth 100000 in
theorem dX12_checkFor_62 : decode cX12_checkFor 62 = .ok (.getfield 992, 3) := by decide +kernel
set_option maxRecDepth 100000 in
theorem dX12_checkFor_65 : decode cX12_checkFor 65 = .ok (.ifCond .ne 11, 3) := by decide +kernel
set_option maxRecDepth 100000 in
theorem dX12_checkFor_68 : decode cX12_checkFor 68 = .ok (.aload_n 0, 1) := by decide +kernel
set_option maxRecDepth 100000 in
theorem dX12_checkFor_69 : decode cX12_checkFor 69 = .ok (.aload_n 3, 1) := by decide +kernel
set_option maxRecDepth 100000 in
theorem dX12_checkFor_70 : decode cX12_checkFor 70 = .ok (.invokevirtual 995, 3) := by decide +kernel
set_option maxRecDepth 100000 in
theorem dX12_checkFor_73 : decode cX12_checkFor 73 = .ok (.ifCond .eq 10, 3) := by decide +kernel
set_option maxRecDepth 100000 in
theorem dX12_checkFor_76 : decode cX12_checkFor 76 = .ok (.aload_n 0, 1) := by decide +kernel
set_option maxRecDepth 100000 in
theorem dX12_checkFor_77 : decode cX12_checkFor 77 = .ok (.bipush 11, 2) := by decide +kernel
set_option maxRecDepth 100000 in
theorem dX12_checkFor_79 : decode cX12_checkFor 79 = .ok (.iload_n 2, 1) := by decide +kernel
set_option maxRecDepth 100000 in
theorem dX12_checkFor_80 : decode cX12_checkFor 80 = .ok (.invokevirtual 570, 3) := by decide +kernel
set_option maxRecDepth 100000 in
theorem dX12_checkFor_83 : decode cX12_checkFor 83 = .ok (.aload_n 0, 1) := by decide +kernel
set_option maxRecDepth 100000 in
theorem dX12_checkFor_84 : decode cX12_checkFor 84 = .ok (.getfield 102, 3) := by decide +kernel
set_option maxRecDepth 100000 in
theorem dX12_checkFor_87 : decode cX12_checkFor 87 = .ok (.iload_n 1, 1) := by decide +kernel
set_option maxRecDepth 100000 in
theorem dX12_checkFor_88 : decode cX12_checkFor 88 = .ok (.aload_n 3, 1) := by decide +kernel
set_option maxRecDepth 100000 in
theorem dX12_checkFor_89 : decode cX12_checkFor 89 = .ok (.aastore, 1) := by decide +kernel
set_option maxRecDepth 100000 in
theorem dX12_checkFor_90 : decode cX12_checkFor 90 = .ok (.aload_n 0, 1) := by decide +kernel
set_option maxRecDepth 100000 in
theorem dX12_checkFor_91 : decode cX12_checkFor 91 = .ok (.getfield 79, 3) := by decide +kernel
set_option maxRecDepth 100000 in
theorem dX12_checkFor_94 : decode cX12_checkFor 94 = .ok (.aload_n 0, 1) := by decide +kernel
set_option maxRecDepth 100000 in
theorem dX12_checkFor_95 : decode cX12_checkFor 95 = .ok (.getfield 73, 3) := by decide +kernel
set_option maxRecDepth 100000 in
theorem dX12_checkFor_98 : decode cX12_checkFor 98 = .ok (.iload_n 1, 1) := by decide +kernel
set_option maxRecDepth 100000 in
theorem dX12_checkFor_99 : decode cX12_checkFor 99 = .ok (.iaload, 1) := by decide +kernel
set_option maxRecDepth 100000 in
theorem dX12_checkFor_100 : decode cX12_checkFor 100 = .ok (.iaload, 1) := by decide +kernel
set_option maxRecDepth 100000 in
theorem dX12_checkFor_101 : decode cX12_checkFor 101 = .ok (.istore 4, 2) := by decide +kernel
set_option maxRecDepth 100000 in
theorem dX12_checkFor_103 : decode cX12_checkFor 103 = .ok (.aload_n 0, 1) := by decide +kernel
set_option maxRecDepth 100000 in
theorem dX12_checkFor_104 : decode cX12_checkFor 104 = .ok (.aload_n 0, 1) := by decide +kernel
set_option maxRecDepth 100000 in
theorem dX12_checkFor_105 : decode cX12_checkFor 105 = .ok (.iload 4, 2) := by decide +kernel
set_option maxRecDepth 100000 in
theorem dX12_checkFor_107 : decode cX12_checkFor 107 = .ok (.invokevirtual 989, 3) := by decide +kernel
set_option maxRecDepth 100000 in
theorem dX12_checkFor_110 : decode cX12_checkFor 110 = .ok (.aload_n 3, 1) := by decide +kernel
set_option maxRecDepth 100000 in
theorem dX12_checkFor_111 : decode cX12_checkFor 111 = .ok (.getfield 612, 3) := by decide +kernel
set_option maxRecDepth 100000 in
theorem dX12_checkFor_114 : decode cX12_checkFor 114 = .ok (.invokevirtual 999, 3) := by decide +kernel
set_option maxRecDepth 100000 in
theorem dX12_checkFor_117 : decode cX12_checkFor 117 = .ok (.ifCond .ne 16, 3) := by decide +kernel
set_option maxRecDepth 100000 in
theorem dX12_checkFor_120 : decode cX12_checkFor 120 = .ok (.aload_n 0, 1) := by decide +kernel
set_option maxRecDepth 100000 in
theorem dX12_checkFor_121 : decode cX12_checkFor 121 = .ok (.bipush 7, 2) := by decide +kernel
set_option maxRecDepth 100000 in
theorem dX12_checkFor_123 : decode cX12_checkFor 123 = .ok (.aload_n 0, 1) := by decide +kernel
set_option maxRecDepth 100000 in
theorem dX12_checkFor_124 : decode cX12_checkFor 124 = .ok (.getfield 70, 3) := by decide +kernel
set_option maxRecDepth 100000 in
theorem dX12_checkFor_127 : decode cX12_checkFor 127 = .ok (.iload 4, 2) := by decide +kernel
set_option maxRecDepth 100000 in
theorem dX12_checkFor_129 : decode cX12_checkFor 129 = .ok (.iaload, 1) := by decide +kernel
set_option maxRecDepth 100000 in
theorem dX12_checkFor_130 : decode cX12_checkFor 130 = .ok (.invokevirtual 570, 3) := by decide +kernel
set_option maxRecDepth 100000 in
theorem dX12_checkFor_133 : decode cX12_checkFor 133 = .ok (.aload_n 0, 1) := by decide +kernel
set_option maxRecDepth 100000 in
theorem dX12_checkFor_134 : decode cX12_checkFor 134 = .ok (.getfield 79, 3) := by decide +kernel
set_option maxRecDepth 100000 in
theorem dX12_checkFor_137 : decode cX12_checkFor 137 = .ok (.iload 4, 2) := by decide +kernel
set_option maxRecDepth 100000 in
theorem dX12_checkFor_139 : decode cX12_checkFor 139 = .ok (.iaload, 1) := by decide +kernel
set_option maxRecDepth 100000 in
theorem dX12_checkFor_140 : decode cX12_checkFor 140 = .ok (.istore 4, 2) := by decide +kernel
set_option maxRecDepth 100000 in
theorem dX12_checkFor_142 : decode cX12_checkFor 142 = .ok (.aload_n 0, 1) := by decide +kernel
set_option maxRecDepth 100000 in
theorem dX12_checkFor_143 : decode cX12_checkFor 143 = .ok (.aload_n 0, 1) := by decide +kernel
set_option maxRecDepth 100000 in
theorem dX12_checkFor_144 : decode cX12_checkFor 144 = .ok (.iload 4, 2) := by decide +kernel
set_option maxRecDepth 100000 in
theorem dX12_checkFor_146 : decode cX12_checkFor 146 = .ok (.invokevirtual 989, 3) := by decide +kernel
set_option maxRecDepth 100000 in
theorem dX12_checkFor_149 : decode cX12_checkFor 149 = .ok (.aload_n 3, 1) := by decide +kernel
set_option maxRecDepth 100000 in
theorem dX12_checkFor_150 : decode cX12_checkFor 150 = .ok (.getfield 612, 3) := by decide +kernel
set_option maxRecDepth 100000 in
theorem dX12_checkFor_153 : decode cX12_checkFor 153 = .ok (.invokevirtual 999, 3) := by decide +kernel
set_option maxRecDepth 100000 in
theorem dX12_checkFor_156 : decode cX12_checkFor 156 = .ok (.ifCond .ne 16, 3) := by decide +kernel
set_option maxRecDepth 100000 in
theorem dX12_checkFor_159 : decode cX12_checkFor 159 = .ok (.aload_n 0, 1) := by decide +kernel
set_option maxRecDepth 100000 in
theorem dX12_checkFor_160 : decode cX12_checkFor 160 = .ok (.bipush 7, 2) := by decide +kernel
set_option maxRecDepth 100000 in
theorem dX12_checkFor_162 : decode cX12_checkFor 162 = .ok (.aload_n 0, 1) := by decide +kernel
set_option maxRecDepth 100000 in
theorem dX12_checkFor_163 : decode cX12_checkFor 163 = .ok (.getfield 70, 3) := by decide +kernel
set_option maxRecDepth 100000 in
theorem dX12_checkFor_166 : decode cX12_checkFor 166 = .ok (.iload 4, 2) := by decide +kernel
set_option maxRecDepth 100000 in
theorem dX12_checkFor_168 : decode cX12_checkFor 168 = .ok (.iaload, 1) := by decide +kernel
set_option maxRecDepth 100000 in
theorem dX12_checkFor_169 : decode cX12_checkFor 169 = .ok (.invokevirtual 570, 3) := by decide +kernel
set_option maxRecDepth 100000 in
theorem dX12_checkFor_172 : decode cX12_checkFor 172 = .ok (.aload_n 0, 1) := by decide +kernel
set_option maxRecDepth 100000 in
theorem dX12_checkFor_173 : decode cX12_checkFor 173 = .ok (.getfield 144, 3) := by decide +kernel
set_option maxRecDepth 100000 in
theorem dX12_checkFor_176 : decode cX12_checkFor 176 = .ok (.aload_n 3, 1) := by decide +kernel
set_option maxRecDepth 100000 in
theorem dX12_checkFor_177 : decode cX12_checkFor 177 = .ok (.invokevirtual 579, 3) := by decide +kernel
set_option maxRecDepth 100000 in
theorem dX12_checkFor_180 : decode cX12_checkFor 180 = .ok (.pop, 1) := by decide +kernel
set_option maxRecDepth 100000 in
theorem dX12_checkFor_181 : decode cX12_checkFor 181 = .ok (.aload_n 0, 1) := by decide +kernel
set_option maxRecDepth 100000 in
theorem dX12_checkFor_182 : decode cX12_checkFor 182 = .ok (.aload_n 0, 1) := by decide +kernel
set_option maxRecDepth 100000 in
theorem dX12_checkFor_183 : decode cX12_checkFor 183 = .ok (.getfield 79, 3) := by decide +kernel
set_option maxRecDepth 100000 in
theorem dX12_checkFor_186 : decode cX12_checkFor 186 = .ok (.iload 4, 2) := by decide +kernel
set_option maxRecDepth 100000 in
theorem dX12_checkFor_188 : decode cX12_checkFor 188 = .ok (.iaload, 1) := by decide +kernel
set_option maxRecDepth 100000 in
theorem dX12_checkFor_189 : decode cX12_checkFor 189 = .ok (.invokevirtual 808, 3) := by decide +kernel
set_option maxRecDepth 100000 in
theorem dX12_checkFor_192 : decode cX12_checkFor 192 = .ok (.aload_n 0, 1) := by decide +kernel
set_option maxRecDepth 100000 in
theorem dX12_checkFor_193 : decode cX12_checkFor 193 = .ok (.getfield 144, 3) := by decide +kernel
set_option maxRecDepth 100000 in
theorem dX12_checkFor_196 : decode cX12_checkFor 196 = .ok (.aload_n 0, 1) := by decide +kernel
set_option maxRecDepth 100000 in
theorem dX12_checkFor_197 : decode cX12_checkFor 197 = .ok (.getfield 144, 3) := by decide +kernel
set_option maxRecDepth 100000 in
theorem dX12_checkFor_200 : decode cX12_checkFor 200 = .ok (.invokevirtual 554, 3) := by decide +kernel
set_option maxRecDepth 100000 in
theorem dX12_checkFor_203 : decode cX12_checkFor 203 = .ok (.iconst 1, 1) := by decide +kernel
set_option maxRecDepth 100000 in
theorem dX12_checkFor_204 : decode cX12_checkFor 204 = .ok (.isub, 1) := by decide +kernel
set_option maxRecDepth 100000 in
theorem dX12_checkFor_205 : decode cX12_checkFor 205 = .ok (.invokevirtual 582, 3) := by decide +kernel
set_option maxRecDepth 100000 in
theorem dX12_checkFor_208 : decode cX12_checkFor 208 = .ok (.pop, 1) := by decide +kernel
set_option maxRecDepth 100000 in
theorem dX12_checkFor_209 : decode cX12_checkFor 209 = .ok (.return_, 1) := by decide +kernel
set_option maxRecDepth 100000 in
def bX12_checkFor_172 (G : xG) (fr lo : Nat) (x0 : Nat) (x3 : Nat) (x4 : Int32) (h : xH) (Q : Outcome → xH → Prop) : Prop := tg h x0 = 13 ∧ tg h (fR h x0 3127) = 29 ∧ 1 ≤ fr ∧ 13 ≤ lo ∧ xRi G YJ2_add (fr - 1) (lo - 13) [rv (fR h x0 3127), rv x3] h (fun x6 h5 => xext h h5 → tg h5 (fR h5 x0 3105) = 100 ∧ vp_in x4 (ln h5 (fR h5 x0 3105)) ∧ 1 ≤ fr ∧ 14 ≤ lo ∧ xRv G YX12_checkStatement (fr - 1) (lo - 14) [rv x0, .int (aI h5 (fR h5 x0 3105) (Int32.toNatClampNeg x4))] h5 (fun h13 => xext h5 h13 → tg h13 (fR h13 x0 3127) = 29 ∧ 1 ≤ fr ∧ 13 ≤ lo ∧ xRi G YJ2_size (fr - 1) (lo - 13) [rv (fR h13 x0 3127)] h13 (fun x21 h20 => xext h13 h20 → 1 ≤ fr ∧ 15 ≤ lo ∧ xRr G YJ2_remove (fr - 1) (lo - 15) [rv (fR h13 x0 3127), .int (x21 - 1)] h20 (fun x27 h26 => xext h20 h26 → Q (.returned none) h26) (fun r h2 => Q (.threw r) h2)) (fun r h2 => Q (.threw r) h2)) (fun r h2 => Q (.threw r) h2)) (fun r h2 => Q (.threw r) h2)
set_option maxRecDepth 100000 in
theorem uX12_checkFor_172 {G : xG} {fr lo : Nat} {x0 : Nat} {x3 : Nat} {x4 : Int32} {h : xH} {Q : Outcome → xH → Prop} (hq : bX12_checkFor_172 G fr lo x0 x3 x4 h Q) : xP G YX12_checkFor fr lo 172 [(0, rv x0), (3, rv x3), (4, .int x4)] [] h Q := by
  unfold bX12_checkFor_172 at hq
  refine x_aload_n 0 dX12_checkFor_172 rfl ?_
  obtain ⟨g1, hq⟩ := hq
  refine x_get (v := rv (fR h x0 3127)) fdX12_144 dX12_checkFor_173 g1 rfl ?_
  refine x_aload_n 1 dX12_checkFor_176 rfl ?_
  obtain ⟨g2, hq⟩ := hq
  obtain ⟨g3, g4, hq⟩ := hq
  refine x_callV (Yc := YJ2_add) (as := [rv x3]) (st := []) q4030 mvJ2_add g2 rfl dX12_checkFor_177 (xle (xal1 (rv_cat _) (xal1 (rv_cat _) xal0)) (by decide)) (xfr g3) (xlo xsw0 (by decide) g4) (xKi hq (fun x6 h5 hq e7 => ?_) (fun _ _ q _ => q))
  replace hq := hq e7
  refine x_pop dX12_checkFor_180 rfl ?_
  refine x_aload_n 0 dX12_checkFor_181 rfl ?_
  refine x_aload_n 0 dX12_checkFor_182 rfl ?_
  have t8 : tg h5 x0 = 13 := e7.tg g1 (by decide)
  refine x_get (v := rv (fR h5 x0 3105)) fdX12_79 dX12_checkFor_183 t8 rfl ?_
  refine x_iload 2 dX12_checkFor_186 rfl ?_
  obtain ⟨g9, hq⟩ := hq
  obtain ⟨i10, hq⟩ := hq
  refine x_iald 0 (Or.inl rfl) g9 i10 dX12_checkFor_188 ?_
  obtain ⟨g11, g12, hq⟩ := hq
  refine x_callV (Yc := YX12_checkStatement) (as := [.int (aI h5 (fR h5 x0 3105) (Int32.toNatClampNeg x4))]) (st := []) q4300 mvX12_checkStatement t8 rfl dX12_checkFor_189 (xle (xal1 (rv_cat _) (xal1 rfl xal0)) (by decide)) (xfr g11) (xlo xsw0 (by decide) g12) (xKv hq (fun h13 hq e15 => ?_) (fun _ _ q _ => q))
  replace hq := hq e15
  refine x_aload_n 0 dX12_checkFor_192 rfl ?_
  have t16 : tg h13 x0 = 13 := e15.tg t8 (by decide)
  refine x_get (v := rv (fR h13 x0 3127)) fdX12_144 dX12_checkFor_193 t16 rfl ?_
  refine x_aload_n 0 dX12_checkFor_196 rfl ?_
  refine x_get (v := rv (fR h13 x0 3127)) fdX12_144 dX12_checkFor_197 t16 rfl ?_
  obtain ⟨g17, hq⟩ := hq
  obtain ⟨g18, g19, hq⟩ := hq
  refine x_callV (Yc := YJ2_size) (as := []) (st := [rv (fR h13 x0 3127)]) q4067 mvJ2_size g17 rfl dX12_checkFor_200 (xle (xal1 (rv_cat _) xal0) (by decide)) (xfr g18) (xlo (xsw1 (rv_cat _) xsw0) (by decide) g19) (xKi hq (fun x21 h20 hq e22 => ?_) (fun _ _ q _ => q))
  replace hq := hq e22
  refine x_iconst (v := 1) dX12_checkFor_203 (by decide) ?_
  refine x_isub dX12_checkFor_204 ?_
  have t23 : tg h20 (fR h13 x0 3127) = 29 := e22.tg g17 (by decide)
  obtain ⟨g24, g25, hq⟩ := hq
  refine x_callV (Yc := YJ2_remove) (as := [.int (x21 - 1)]) (st := []) q4287 mvJ2_remove t23 rfl dX12_checkFor_205 (xle (xal1 (rv_cat _) (xal1 rfl xal0)) (by decide)) (xfr g24) (xlo xsw0 (by decide) g25) (xKr hq (fun x27 h26 hq e28 => ?_) (fun _ _ q _ => q))
  replace hq := hq e28
  refine x_pop dX12_checkFor_208 (rv_cat _) ?_
  exact x_vret rfl dX12_checkFor_209 hq
set_option maxRecDepth 100000 in
def bX12_checkFor_133 (G : xG) (fr lo : Nat) (x0 : Nat) (x3 : Nat) (x4 : Int32) (h : xH) (Q : Outcome → xH → Prop) : Prop := tg h x0 = 13 ∧ tg h (fR h x0 3105) = 100 ∧ vp_in x4 (ln h (fR h x0 3105)) ∧ 1 ≤ fr ∧ 16 ≤ lo ∧ xRr G YX12_checkE (fr - 1) (lo - 16) [rv x0, .int (aI h (fR h x0 3105) (Int32.toNatClampNeg x4))] h (fun x7 h6 => xext h h6 → tg h6 x3 = 24 ∧ 1 ≤ fr ∧ 14 ≤ lo ∧ xRi G YX12_fits (fr - 1) (lo - 14) [rv x0, rv x7, rv (fR h6 x3 5890)] h6 (fun x14 h13 => xext h6 h13 → ((¬ x14 = 0 → bX12_checkFor_172 G fr lo x0 x3 (aI h (fR h x0 3105) (Int32.toNatClampNeg x4)) h13 Q) ∧ (x14 = 0 → tg h13 (fR h13 x0 3102) = 100 ∧ vp_in (aI h (fR h x0 3105) (Int32.toNatClampNeg x4)) (ln h13 (fR h13 x0 3102)) ∧ 1 ≤ fr ∧ 14 ≤ lo ∧ xRv G YX12_refuse (fr - 1) (lo - 14) [rv x0, .int 7, .int (aI h13 (fR h13 x0 3102) (Int32.toNatClampNeg (aI h (fR h x0 3105) (Int32.toNatClampNeg x4))))] h13 (fun h22 => xext h13 h22 → bX12_checkFor_172 G fr lo x0 x3 (aI h (fR h x0 3105) (Int32.toNatClampNeg x4)) h22 Q) (fun r h2 => Q (.threw r) h2)))) (fun r h2 => Q (.threw r) h2)) (fun r h2 => Q (.threw r) h2)
set_option maxRecDepth 100000 in
theorem uX12_checkFor_133 {G : xG} {fr lo : Nat} {x0 : Nat} {x3 : Nat} {x4 : Int32} {h : xH} {Q : Outcome → xH → Prop} (hq : bX12_checkFor_133 G fr lo x0 x3 x4 h Q) : xP G YX12_checkFor fr lo 133 [(0, rv x0), (3, rv x3), (4, .int x4)] [] h Q := by
  unfold bX12_checkFor_133 at hq
  refine x_aload_n 0 dX12_checkFor_133 rfl ?_
  obtain ⟨g1, hq⟩ := hq
  refine x_get (v := rv (fR h x0 3105)) fdX12_79 dX12_checkFor_134 g1 rfl ?_
  refine x_iload 2 dX12_checkFor_137 rfl ?_
  obtain ⟨g2, hq⟩ := hq
  obtain ⟨i3, hq⟩ := hq
  refine x_iald 0 (Or.inl rfl) g2 i3 dX12_checkFor_139 ?_
  refine x_istore (lv' := [(4, .int (aI h (fR h x0 3105) (Int32.toNatClampNeg x4))), (0, rv x0), (3, rv x3)]) dX12_checkFor_140 (by decide) (by first | rfl | (simp [rv_cat, Value.category]; done) | (simp [rv_cat, Value.category]; decide)) ?_
  refine x_aload_n 1 dX12_checkFor_142 rfl ?_
  refine x_aload_n 1 dX12_checkFor_143 rfl ?_
  refine x_iload 0 dX12_checkFor_144 rfl ?_
  obtain ⟨g4, g5, hq⟩ := hq
  refine x_callV (Yc := YX12_checkE) (as := [.int (aI h (fR h x0 3105) (Int32.toNatClampNeg x4))]) (st := [rv x0]) q4308 mvX12_checkE g1 rfl dX12_checkFor_146 (xle (xal1 (rv_cat _) (xal1 rfl xal0)) (by decide)) (xfr g4) (xlo (xsw1 (rv_cat _) xsw0) (by decide) g5) (xKr hq (fun x7 h6 hq e8 => ?_) (fun _ _ q _ => q))
  replace hq := hq e8
  refine x_aload_n 2 dX12_checkFor_149 rfl ?_
  obtain ⟨g9, hq⟩ := hq
  refine x_get (v := rv (fR h6 x3 5890)) fdX12_612 dX12_checkFor_150 g9 rfl ?_
  have t10 : tg h6 x0 = 13 := e8.tg g1 (by decide)
  obtain ⟨g11, g12, hq⟩ := hq
  refine x_callV (Yc := YX12_fits) (as := [rv x7, rv (fR h6 x3 5890)]) (st := []) q4371 mvX12_fits t10 rfl dX12_checkFor_153 (xle (xal1 (rv_cat _) (xal1 (rv_cat _) (xal1 (rv_cat _) xal0))) (by decide)) (xfr g11) (xlo xsw0 (by decide) g12) (xKi hq (fun x14 h13 hq e15 => ?_) (fun _ _ q _ => q))
  replace hq := hq e15
  refine x_if_ne (tgt := 172) dX12_checkFor_156 (by decide) (fun c16 => ?_) (fun c16 => ?_)
  · replace hq := hq.1 c16
    refine xP.pick (lv' := [(0, rv x0), (3, rv x3), (4, .int (aI h (fR h x0 3105) (Int32.toNatClampNeg x4)))]) [1, 2, 0] rfl ?_
    exact uX12_checkFor_172 hq
  · replace hq := hq.2 c16
    refine x_aload_n 1 dX12_checkFor_159 rfl ?_
    refine x_bipush (v := 7) dX12_checkFor_160 (by decide) ?_
    refine x_aload_n 1 dX12_checkFor_162 rfl ?_
    have t17 : tg h13 x0 = 13 := e15.tg t10 (by decide)
    refine x_get (v := rv (fR h13 x0 3102)) fdX12_70 dX12_checkFor_163 t17 rfl ?_
    refine x_iload 0 dX12_checkFor_166 rfl ?_
    obtain ⟨g18, hq⟩ := hq
    obtain ⟨i19, hq⟩ := hq
    refine x_iald 0 (Or.inl rfl) g18 i19 dX12_checkFor_168 ?_
    obtain ⟨g20, g21, hq⟩ := hq
    refine x_callV (Yc := YX12_refuse) (as := [.int 7, .int (aI h13 (fR h13 x0 3102) (Int32.toNatClampNeg (aI h (fR h x0 3105) (Int32.toNatClampNeg x4))))]) (st := []) q4095 mvX12_refuse t17 rfl dX12_checkFor_169 (xle (xal1 (rv_cat _) (xal1 rfl (xal1 rfl xal0))) (by decide)) (xfr g20) (xlo xsw0 (by decide) g21) (xKv hq (fun h22 hq e24 => ?_) (fun _ _ q _ => q))
    replace hq := hq e24
    refine xP.pick (lv' := [(0, rv x0), (3, rv x3), (4, .int (aI h (fR h x0 3105) (Int32.toNatClampNeg x4)))]) [1, 2, 0] rfl ?_
    exact uX12_checkFor_172 hq
set_option maxRecDepth 100000 in
def bX12_checkFor_83 (G : xG) (fr lo : Nat) (x0 : Nat) (x1 : Int32) (x3 : Nat) (h : xH) (Q : Outcome → xH → Prop) : Prop := tg h x0 = 13 ∧ tg h (fR h x0 3114) = 109 ∧ tg h x3 = 24 ∧ vp_in x1 (ln h (fR h x0 3114)) ∧ (∀ h5 : xH, h5 = tR h (fR h x0 3114) (Int32.toNatClampNeg x1) x3 → tg h5 (fR h5 x0 3103) = 100 ∧ vp_in x1 (ln h5 (fR h5 x0 3103)) ∧ tg h5 (fR h5 x0 3105) = 100 ∧ vp_in (aI h5 (fR h5 x0 3103) (Int32.toNatClampNeg x1)) (ln h5 (fR h5 x0 3105)) ∧ 1 ≤ fr ∧ 16 ≤ lo ∧ xRr G YX12_checkE (fr - 1) (lo - 16) [rv x0, .int (aI h5 (fR h5 x0 3105) (Int32.toNatClampNeg (aI h5 (fR h5 x0 3103) (Int32.toNatClampNeg x1))))] h5 (fun x15 h14 => xext h5 h14 → 1 ≤ fr ∧ 14 ≤ lo ∧ xRi G YX12_fits (fr - 1) (lo - 14) [rv x0, rv x15, rv (fR h14 x3 5890)] h14 (fun x23 h22 => xext h14 h22 → ((¬ x23 = 0 → bX12_checkFor_133 G fr lo x0 x3 (aI h5 (fR h5 x0 3105) (Int32.toNatClampNeg (aI h5 (fR h5 x0 3103) (Int32.toNatClampNeg x1)))) h22 Q) ∧ (x23 = 0 → tg h22 (fR h22 x0 3102) = 100 ∧ vp_in (aI h5 (fR h5 x0 3105) (Int32.toNatClampNeg (aI h5 (fR h5 x0 3103) (Int32.toNatClampNeg x1)))) (ln h22 (fR h22 x0 3102)) ∧ 1 ≤ fr ∧ 14 ≤ lo ∧ xRv G YX12_refuse (fr - 1) (lo - 14) [rv x0, .int 7, .int (aI h22 (fR h22 x0 3102) (Int32.toNatClampNeg (aI h5 (fR h5 x0 3105) (Int32.toNatClampNeg (aI h5 (fR h5 x0 3103) (Int32.toNatClampNeg x1))))))] h22 (fun h31 => xext h22 h31 → bX12_checkFor_133 G fr lo x0 x3 (aI h5 (fR h5 x0 3105) (Int32.toNatClampNeg (aI h5 (fR h5 x0 3103) (Int32.toNatClampNeg x1)))) h31 Q) (fun r h2 => Q (.threw r) h2)))) (fun r h2 => Q (.threw r) h2)) (fun r h2 => Q (.threw r) h2))
set_option maxRecDepth 100000 in
theorem uX12_checkFor_83 {G : xG} {fr lo : Nat} {x0 : Nat} {x1 : Int32} {x3 : Nat} {h : xH} {Q : Outcome → xH → Prop} (hq : bX12_checkFor_83 G fr lo x0 x1 x3 h Q) : xP G YX12_checkFor fr lo 83 [(0, rv x0), (1, .int x1), (3, rv x3)] [] h Q := by
  unfold bX12_checkFor_83 at hq
  refine x_aload_n 0 dX12_checkFor_83 rfl ?_
  obtain ⟨g1, hq⟩ := hq
  refine x_get (v := rv (fR h x0 3114)) fdX12_102 dX12_checkFor_84 g1 rfl ?_
  refine x_iload_n 1 dX12_checkFor_87 rfl ?_
  refine x_aload_n 2 dX12_checkFor_88 rfl ?_
  obtain ⟨g2, hq⟩ := hq
  obtain ⟨g3, hq⟩ := hq
  obtain ⟨i4, hq⟩ := hq
  obtain ⟨h5, e6⟩ : ∃ y, y = tR h (fR h x0 3114) (Int32.toNatClampNeg x1) x3 := ⟨_, rfl⟩
  replace hq := hq h5 e6
  refine x_aast 9 23 as_9_23 g2 (Or.inl (by rw [g2]; rfl)) g3 i4 dX12_checkFor_89 e6 ?_
  refine x_aload_n 0 dX12_checkFor_90 rfl ?_
  have t7 : tg h5 x0 = 13 := by rw [e6]; exact g1
  refine x_get (v := rv (fR h5 x0 3105)) fdX12_79 dX12_checkFor_91 t7 rfl ?_
  refine x_aload_n 0 dX12_checkFor_94 rfl ?_
  refine x_get (v := rv (fR h5 x0 3103)) fdX12_73 dX12_checkFor_95 t7 rfl ?_
  refine x_iload_n 1 dX12_checkFor_98 rfl ?_
  obtain ⟨g8, hq⟩ := hq
  obtain ⟨i9, hq⟩ := hq
  refine x_iald 0 (Or.inl rfl) g8 i9 dX12_checkFor_99 ?_
  obtain ⟨g10, hq⟩ := hq
  obtain ⟨i11, hq⟩ := hq
  refine x_iald 0 (Or.inl rfl) g10 i11 dX12_checkFor_100 ?_
  refine x_istore (lv' := [(4, .int (aI h5 (fR h5 x0 3105) (Int32.toNatClampNeg (aI h5 (fR h5 x0 3103) (Int32.toNatClampNeg x1))))), (0, rv x0), (1, .int x1), (3, rv x3)]) dX12_checkFor_101 (by decide) (by first | rfl | (simp [rv_cat, Value.category]; done) | (simp [rv_cat, Value.category]; decide)) ?_
  refine x_aload_n 1 dX12_checkFor_103 rfl ?_
  refine x_aload_n 1 dX12_checkFor_104 rfl ?_
  refine x_iload 0 dX12_checkFor_105 rfl ?_
  obtain ⟨g12, g13, hq⟩ := hq
  refine x_callV (Yc := YX12_checkE) (as := [.int (aI h5 (fR h5 x0 3105) (Int32.toNatClampNeg (aI h5 (fR h5 x0 3103) (Int32.toNatClampNeg x1))))]) (st := [rv x0]) q4308 mvX12_checkE t7 rfl dX12_checkFor_107 (xle (xal1 (rv_cat _) (xal1 rfl xal0)) (by decide)) (xfr g12) (xlo (xsw1 (rv_cat _) xsw0) (by decide) g13) (xKr hq (fun x15 h14 hq e16 => ?_) (fun _ _ q _ => q))
  replace hq := hq e16
  refine x_aload_n 3 dX12_checkFor_110 rfl ?_
  have t17 : tg h5 x3 = 24 := by rw [e6]; exact g3
  have t18 : tg h14 x3 = 24 := e16.tg t17 (by decide)
  refine x_get (v := rv (fR h14 x3 5890)) fdX12_612 dX12_checkFor_111 t18 rfl ?_
  have t19 : tg h14 x0 = 13 := e16.tg t7 (by decide)
  obtain ⟨g20, g21, hq⟩ := hq
  refine x_callV (Yc := YX12_fits) (as := [rv x15, rv (fR h14 x3 5890)]) (st := []) q4371 mvX12_fits t19 rfl dX12_checkFor_114 (xle (xal1 (rv_cat _) (xal1 (rv_cat _) (xal1 (rv_cat _) xal0))) (by decide)) (xfr g20) (xlo xsw0 (by decide) g21) (xKi hq (fun x23 h22 hq e24 => ?_) (fun _ _ q _ => q))
  replace hq := hq e24
  refine x_if_ne (tgt := 133) dX12_checkFor_117 (by decide) (fun c25 => ?_) (fun c25 => ?_)
  · replace hq := hq.1 c25
    refine xP.pick (lv' := [(0, rv x0), (3, rv x3), (4, .int (aI h5 (fR h5 x0 3105) (Int32.toNatClampNeg (aI h5 (fR h5 x0 3103) (Int32.toNatClampNeg x1)))))]) [1, 3, 0] rfl ?_
    exact uX12_checkFor_133 hq
  · replace hq := hq.2 c25
    refine x_aload_n 1 dX12_checkFor_120 rfl ?_
    refine x_bipush (v := 7) dX12_checkFor_121 (by decide) ?_
    refine x_aload_n 1 dX12_checkFor_123 rfl ?_
    have t26 : tg h22 x0 = 13 := e24.tg t19 (by decide)
    refine x_get (v := rv (fR h22 x0 3102)) fdX12_70 dX12_checkFor_124 t26 rfl ?_
    refine x_iload 0 dX12_checkFor_127 rfl ?_
    obtain ⟨g27, hq⟩ := hq
    obtain ⟨i28, hq⟩ := hq
    refine x_iald 0 (Or.inl rfl) g27 i28 dX12_checkFor_129 ?_
    obtain ⟨g29, g30, hq⟩ := hq
    refine x_callV (Yc := YX12_refuse) (as := [.int 7, .int (aI h22 (fR h22 x0 3102) (Int32.toNatClampNeg (aI h5 (fR h5 x0 3105) (Int32.toNatClampNeg (aI h5 (fR h5 x0 3103) (Int32.toNatClampNeg x1))))))]) (st := []) q4095 mvX12_refuse t26 rfl dX12_checkFor_130 (xle (xal1 (rv_cat _) (xal1 rfl (xal1 rfl xal0))) (by decide)) (xfr g29) (xlo xsw0 (by decide) g30) (xKv hq (fun h31 hq e33 => ?_) (fun _ _ q _ => q))
    replace hq := hq e33
    refine xP.pick (lv' := [(0, rv x0), (3, rv x3), (4, .int (aI h5 (fR h5 x0 3105) (Int32.toNatClampNeg (aI h5 (fR h5 x0 3103) (Int32.toNatClampNeg x1)))))]) [1, 3, 0] rfl ?_
    exact uX12_checkFor_133 hq
set_option maxRecDepth 100000 in
def bX12_checkFor_76 (G : xG) (fr lo : Nat) (x0 : Nat) (x1 : Int32) (x2 : Int32) (x3 : Nat) (h : xH) (Q : Outcome → xH → Prop) : Prop := tg h x0 = 13 ∧ 1 ≤ fr ∧ 14 ≤ lo ∧ xRv G YX12_refuse (fr - 1) (lo - 14) [rv x0, .int 11, .int x2] h (fun h4 => xext h h4 → bX12_checkFor_83 G fr lo x0 x1 x3 h4 Q) (fun r h2 => Q (.threw r) h2)
set_option maxRecDepth 100000 in
theorem uX12_checkFor_76 {G : xG} {fr lo : Nat} {x0 : Nat} {x1 : Int32} {x2 : Int32} {x3 : Nat} {h : xH} {Q : Outcome → xH → Prop} (hq : bX12_checkFor_76 G fr lo x0 x1 x2 x3 h Q) : xP G YX12_checkFor fr lo 76 [(0, rv x0), (1, .int x1), (2, .int x2), (3, rv x3)] [] h Q := by
  unfold bX12_checkFor_76 at hq
  refine x_aload_n 0 dX12_checkFor_76 rfl ?_
  refine x_bipush (v := 11) dX12_checkFor_77 (by decide) ?_
  refine x_iload_n 2 dX12_checkFor_79 rfl ?_
  obtain ⟨g1, hq⟩ := hq
  obtain ⟨g2, g3, hq⟩ := hq
  refine x_callV (Yc := YX12_refuse) (as := [.int 11, .int x2]) (st := []) q4095 mvX12_refuse g1 rfl dX12_checkFor_80 (xle (xal1 (rv_cat _) (xal1 rfl (xal1 rfl xal0))) (by decide)) (xfr g2) (xlo xsw0 (by decide) g3) (xKv hq (fun h4 hq e6 => ?_) (fun _ _ q _ => q))
  replace hq := hq e6
  refine xP.pick (lv' := [(0, rv x0), (1, .int x1), (3, rv x3)]) [0, 1, 3] rfl ?_
  exact uX12_checkFor_83 hq
set_option maxRecDepth 100000 in
def bX12_checkFor_61 (G : xG) (fr lo : Nat) (x0 : Nat) (x1 : Int32) (x2 : Int32) (x3 : Nat) (h : xH) (Q : Outcome → xH → Prop) : Prop := tg h x3 = 24 ∧ ((¬ (fI h x3 5899) = 0 → bX12_checkFor_76 G fr lo x0 x1 x2 x3 h Q) ∧ ((fI h x3 5899) = 0 → tg h x0 = 13 ∧ 1 ≤ fr ∧ 15 ≤ lo ∧ xRi G YX12_isControlled (fr - 1) (lo - 15) [rv x0, rv x3] h (fun x7 h6 => xext h h6 → ((x7 = 0 → bX12_checkFor_83 G fr lo x0 x1 x3 h6 Q) ∧ (¬ x7 = 0 → bX12_checkFor_76 G fr lo x0 x1 x2 x3 h6 Q))) (fun r h2 => Q (.threw r) h2)))
set_option maxRecDepth 100000 in
theorem uX12_checkFor_61 {G : xG} {fr lo : Nat} {x0 : Nat} {x1 : Int32} {x2 : Int32} {x3 : Nat} {h : xH} {Q : Outcome → xH → Prop} (hq : bX12_checkFor_61 G fr lo x0 x1 x2 x3 h Q) : xP G YX12_checkFor fr lo 61 [(0, rv x0), (1, .int x1), (2, .int x2), (3, rv x3)] [] h Q := by
  unfold bX12_checkFor_61 at hq
  refine x_aload_n 3 dX12_checkFor_61 rfl ?_
  obtain ⟨g1, hq⟩ := hq
  refine x_get (v := .int (fI h x3 5899)) fdX12_992 dX12_checkFor_62 g1 rfl ?_
  refine x_if_ne (tgt := 76) dX12_checkFor_65 (by decide) (fun c2 => ?_) (fun c2 => ?_)
  · replace hq := hq.1 c2
    exact uX12_checkFor_76 hq
  · replace hq := hq.2 c2
    refine x_aload_n 0 dX12_checkFor_68 rfl ?_
    refine x_aload_n 3 dX12_checkFor_69 rfl ?_
    obtain ⟨g3, hq⟩ := hq
    obtain ⟨g4, g5, hq⟩ := hq
    refine x_callV (Yc := YX12_isControlled) (as := [rv x3]) (st := []) q4393 mvX12_isControlled g3 rfl dX12_checkFor_70 (xle (xal1 (rv_cat _) (xal1 (rv_cat _) xal0)) (by decide)) (xfr g4) (xlo xsw0 (by decide) g5) (xKi hq (fun x7 h6 hq e8 => ?_) (fun _ _ q _ => q))
    replace hq := hq e8
    refine x_if_eq (tgt := 83) dX12_checkFor_73 (by decide) (fun c9 => ?_) (fun c9 => ?_)
    · replace hq := hq.1 c9
      refine xP.pick (lv' := [(0, rv x0), (1, .int x1), (3, rv x3)]) [0, 1, 3] rfl ?_
      exact uX12_checkFor_83 hq
    · replace hq := hq.2 c9
      exact uX12_checkFor_76 hq
set_option maxRecDepth 100000 in
def bX12_checkFor_44 (G : xG) (fr lo : Nat) (x0 : Nat) (x1 : Int32) (x2 : Int32) (x3 : Nat) (h : xH) (Q : Outcome → xH → Prop) : Prop := tg h x3 = 24 ∧ tg h (fR h x3 5890) = 14 ∧ 1 ≤ fr ∧ 12 ≤ lo ∧ xRi G YX13_isOrdinal (fr - 1) (lo - 12) [rv (fR h x3 5890)] h (fun x6 h5 => xext h h5 → ((¬ x6 = 0 → bX12_checkFor_61 G fr lo x0 x1 x2 x3 h5 Q) ∧ (x6 = 0 → tg h5 x0 = 13 ∧ 1 ≤ fr ∧ 14 ≤ lo ∧ xRv G YX12_refuse (fr - 1) (lo - 14) [rv x0, .int 7, .int x2] h5 (fun h12 => xext h5 h12 → bX12_checkFor_61 G fr lo x0 x1 x2 x3 h12 Q) (fun r h2 => Q (.threw r) h2)))) (fun r h2 => Q (.threw r) h2)
set_option maxRecDepth 100000 in
theorem uX12_checkFor_44 {G : xG} {fr lo : Nat} {x0 : Nat} {x1 : Int32} {x2 : Int32} {x3 : Nat} {h : xH} {Q : Outcome → xH → Prop} (hq : bX12_checkFor_44 G fr lo x0 x1 x2 x3 h Q) : xP G YX12_checkFor fr lo 44 [(0, rv x0), (1, .int x1), (2, .int x2), (3, rv x3)] [] h Q := by
  unfold bX12_checkFor_44 at hq
  refine x_aload_n 3 dX12_checkFor_44 rfl ?_
  obtain ⟨g1, hq⟩ := hq
  refine x_get (v := rv (fR h x3 5890)) fdX12_612 dX12_checkFor_45 g1 rfl ?_
  obtain ⟨g2, hq⟩ := hq
  obtain ⟨g3, g4, hq⟩ := hq
  refine x_callV (Yc := YX13_isOrdinal) (as := []) (st := []) q4185 mvX13_isOrdinal g2 rfl dX12_checkFor_48 (xle (xal1 (rv_cat _) xal0) (by decide)) (xfr g3) (xlo xsw0 (by decide) g4) (xKi hq (fun x6 h5 hq e7 => ?_) (fun _ _ q _ => q))
  replace hq := hq e7
  refine x_if_ne (tgt := 61) dX12_checkFor_51 (by decide) (fun c8 => ?_) (fun c8 => ?_)
  · replace hq := hq.1 c8
    exact uX12_checkFor_61 hq
  · replace hq := hq.2 c8
    refine x_aload_n 0 dX12_checkFor_54 rfl ?_
    refine x_bipush (v := 7) dX12_checkFor_55 (by decide) ?_
    refine x_iload_n 2 dX12_checkFor_57 rfl ?_
    obtain ⟨g9, hq⟩ := hq
    obtain ⟨g10, g11, hq⟩ := hq
    refine x_callV (Yc := YX12_refuse) (as := [.int 7, .int x2]) (st := []) q4095 mvX12_refuse g9 rfl dX12_checkFor_58 (xle (xal1 (rv_cat _) (xal1 rfl (xal1 rfl xal0))) (by decide)) (xfr g10) (xlo xsw0 (by decide) g11) (xKv hq (fun h12 hq e14 => ?_) (fun _ _ q _ => q))
    replace hq := hq e14
    exact uX12_checkFor_61 hq
set_option maxRecDepth 100000 in
def bX12_checkFor_37 (G : xG) (fr lo : Nat) (x0 : Nat) (x1 : Int32) (x2 : Int32) (x3 : Nat) (h : xH) (Q : Outcome → xH → Prop) : Prop := tg h x0 = 13 ∧ 1 ≤ fr ∧ 14 ≤ lo ∧ xRv G YX12_refuse (fr - 1) (lo - 14) [rv x0, .int 6, .int x2] h (fun h4 => xext h h4 → bX12_checkFor_44 G fr lo x0 x1 x2 x3 h4 Q) (fun r h2 => Q (.threw r) h2)
set_option maxRecDepth 100000 in
theorem uX12_checkFor_37 {G : xG} {fr lo : Nat} {x0 : Nat} {x1 : Int32} {x2 : Int32} {x3 : Nat} {h : xH} {Q : Outcome → xH → Prop} (hq : bX12_checkFor_37 G fr lo x0 x1 x2 x3 h Q) : xP G YX12_checkFor fr lo 37 [(0, rv x0), (1, .int x1), (2, .int x2), (3, rv x3)] [] h Q := by
  unfold bX12_checkFor_37 at hq
  refine x_aload_n 0 dX12_checkFor_37 rfl ?_
  refine x_bipush (v := 6) dX12_checkFor_38 (by decide) ?_
  refine x_iload_n 2 dX12_checkFor_40 rfl ?_
  obtain ⟨g1, hq⟩ := hq
  obtain ⟨g2, g3, hq⟩ := hq
  refine x_callV (Yc := YX12_refuse) (as := [.int 6, .int x2]) (st := []) q4095 mvX12_refuse g1 rfl dX12_checkFor_41 (xle (xal1 (rv_cat _) (xal1 rfl (xal1 rfl xal0))) (by decide)) (xfr g2) (xlo xsw0 (by decide) g3) (xKv hq (fun h4 hq e6 => ?_) (fun _ _ q _ => q))
  replace hq := hq e6
  exact uX12_checkFor_44 hq
set_option maxRecDepth 100000 in
def bX12_checkFor (G : xG) (fr lo : Nat) (x0 : Nat) (x1 : Int32) (h : xH) (Q : Outcome → xH → Prop) : Prop := tg h x0 = 13 ∧ tg h (fR h x0 3103) = 100 ∧ vp_in x1 (ln h (fR h x0 3103)) ∧ tg h (fR h x0 3102) = 100 ∧ vp_in (aI h (fR h x0 3103) (Int32.toNatClampNeg x1)) (ln h (fR h x0 3102)) ∧ 1 ≤ fr ∧ 15 ≤ lo ∧ xRr G YX12_findOf (fr - 1) (lo - 15) [rv x0, .int (aI h (fR h x0 3102) (Int32.toNatClampNeg (aI h (fR h x0 3103) (Int32.toNatClampNeg x1)))), .int 3] h (fun x9 h8 => xext h h8 → tg h8 x9 = 24 ∧ (((fI h8 x9 5898) = 0 → bX12_checkFor_37 G fr lo x0 x1 (aI h (fR h x0 3102) (Int32.toNatClampNeg (aI h (fR h x0 3103) (Int32.toNatClampNeg x1)))) x9 h8 Q) ∧ (¬ (fI h8 x9 5898) = 0 → 1 ≤ fr ∧ 13 ≤ lo ∧ xRi G YX12_level (fr - 1) (lo - 13) [rv x0] h8 (fun x17 h16 => xext h8 h16 → (((fI h8 x9 5893) = x17 → bX12_checkFor_44 G fr lo x0 x1 (aI h (fR h x0 3102) (Int32.toNatClampNeg (aI h (fR h x0 3103) (Int32.toNatClampNeg x1)))) x9 h16 Q) ∧ (¬ (fI h8 x9 5893) = x17 → bX12_checkFor_37 G fr lo x0 x1 (aI h (fR h x0 3102) (Int32.toNatClampNeg (aI h (fR h x0 3103) (Int32.toNatClampNeg x1)))) x9 h16 Q))) (fun r h2 => Q (.threw r) h2)))) (fun r h2 => Q (.threw r) h2)
set_option maxRecDepth 100000 in
theorem uX12_checkFor {G : xG} {fr lo : Nat} {x0 : Nat} {x1 : Int32} {h : xH} {Q : Outcome → xH → Prop} (hq : bX12_checkFor G fr lo x0 x1 h Q) : xP G YX12_checkFor fr lo 0 [(0, rv x0), (1, .int x1)] [] h Q := by
  unfold bX12_checkFor at hq
  refine x_aload_n 0 dX12_checkFor_0 rfl ?_
  obtain ⟨g1, hq⟩ := hq
  refine x_get (v := rv (fR h x0 3102)) fdX12_70 dX12_checkFor_1 g1 rfl ?_
  refine x_aload_n 0 dX12_checkFor_4 rfl ?_
  refine x_get (v := rv (fR h x0 3103)) fdX12_73 dX12_checkFor_5 g1 rfl ?_
  refine x_iload_n 1 dX12_checkFor_8 rfl ?_
  obtain ⟨g2, hq⟩ := hq
  obtain ⟨i3, hq⟩ := hq
  refine x_iald 0 (Or.inl rfl) g2 i3 dX12_checkFor_9 ?_
  obtain ⟨g4, hq⟩ := hq
  obtain ⟨i5, hq⟩ := hq
  refine x_iald 0 (Or.inl rfl) g4 i5 dX12_checkFor_10 ?_
  refine x_istore_n (lv' := [(2, .int (aI h (fR h x0 3102) (Int32.toNatClampNeg (aI h (fR h x0 3103) (Int32.toNatClampNeg x1))))), (0, rv x0), (1, .int x1)]) dX12_checkFor_11 (by decide) rfl ?_
  refine x_aload_n 1 dX12_checkFor_12 rfl ?_
  refine x_iload_n 0 dX12_checkFor_13 rfl ?_
  refine x_iconst (v := 3) dX12_checkFor_14 (by decide) ?_
  obtain ⟨g6, g7, hq⟩ := hq
  refine x_callV (Yc := YX12_findOf) (as := [.int (aI h (fR h x0 3102) (Int32.toNatClampNeg (aI h (fR h x0 3103) (Int32.toNatClampNeg x1)))), .int 3]) (st := []) q4157 mvX12_findOf g1 rfl dX12_checkFor_15 (xle (xal1 (rv_cat _) (xal1 rfl (xal1 rfl xal0))) (by decide)) (xfr g6) (xlo xsw0 (by decide) g7) (xKr hq (fun x9 h8 hq e10 => ?_) (fun _ _ q _ => q))
  replace hq := hq e10
  refine x_astore_n (lv' := [(3, rv x9), (2, .int (aI h (fR h x0 3102) (Int32.toNatClampNeg (aI h (fR h x0 3103) (Int32.toNatClampNeg x1))))), (0, rv x0), (1, .int x1)]) dX12_checkFor_18 (by decide) rfl ?_
  refine x_aload_n 0 dX12_checkFor_19 rfl ?_
  obtain ⟨g11, hq⟩ := hq
  refine x_get (v := .int (fI h8 x9 5898)) fdX12_787 dX12_checkFor_20 g11 rfl ?_
  refine x_if_eq (tgt := 37) dX12_checkFor_23 (by decide) (fun c12 => ?_) (fun c12 => ?_)
  · replace hq := hq.1 c12
    refine xP.pick (lv' := [(0, rv x0), (1, .int x1), (2, .int (aI h (fR h x0 3102) (Int32.toNatClampNeg (aI h (fR h x0 3103) (Int32.toNatClampNeg x1))))), (3, rv x9)]) [2, 3, 1, 0] rfl ?_
    exact uX12_checkFor_37 hq
  · replace hq := hq.2 c12
    refine x_aload_n 0 dX12_checkFor_26 rfl ?_
    refine x_get (v := .int (fI h8 x9 5893)) fdX12_705 dX12_checkFor_27 g11 rfl ?_
    refine x_aload_n 2 dX12_checkFor_30 rfl ?_
    have t13 : tg h8 x0 = 13 := e10.tg g1 (by decide)
    obtain ⟨g14, g15, hq⟩ := hq
    refine x_callV (Yc := YX12_level) (as := []) (st := [.int (fI h8 x9 5893)]) q4118 mvX12_level t13 rfl dX12_checkFor_31 (xle (xal1 (rv_cat _) xal0) (by decide)) (xfr g14) (xlo (xsw1 rfl xsw0) (by decide) g15) (xKi hq (fun x17 h16 hq e18 => ?_) (fun _ _ q _ => q))
    replace hq := hq e18
    refine x_icmp_eq (tgt := 44) dX12_checkFor_34 (by decide) (fun c19 => ?_) (fun c19 => ?_)
    · replace hq := hq.1 c19
      refine xP.pick (lv' := [(0, rv x0), (1, .int x1), (2, .int (aI h (fR h x0 3102) (Int32.toNatClampNeg (aI h (fR h x0 3103) (Int32.toNatClampNeg x1))))), (3, rv x9)]) [2, 3, 1, 0] rfl ?_
      exact uX12_checkFor_44 hq
    · replace hq := hq.2 c19
      refine xP.pick (lv' := [(0, rv x0), (1, .int x1), (2, .int (aI h (fR h x0 3102) (Int32.toNatClampNeg (aI h (fR h x0 3103) (Int32.toNatClampNeg x1))))), (3, rv x9)]) [2, 3, 1, 0] rfl ?_
      exact uX12_checkFor_37 hq
theorem rX12_checkFor {G : xG} {fr lo : Nat} {x0 : Nat} {x1 : Int32} {h : xH} {Q : Outcome → xH → Prop} (hq : bX12_checkFor G fr lo x0 x1 h Q) : xR G YX12_checkFor fr lo [rv x0, .int x1] h Q := by
  show xP _ _ _ _ _ (lv_args 0 _) _ _ _
  rw [show lv_args 0 [rv x0, .int x1] = [(0, rv x0), (1, .int x1)] from (xla1 (rv_cat _) (xla1 rfl xla0))]
  exact uX12_checkFor hq
set_option maxRecDepth 100000 in
theorem dX12_checkWith_0 : decode cX12_checkWith 0 = .ok (.iconst 0, 1) := by decide +kernel
set_option maxRecDepth 100000 in
theorem dX12_checkWith_1 : decode cX12_checkWith 1 = .ok (.istore_n 2, 1) := by decide +kernel
set_option maxRecDepth 100000 in
theorem dX12_checkWith_2 : decode cX12_checkWith 2 = .ok (.aload_n 0, 1) := by decide +kernel
set_option maxRecDepth 100000 in
theorem dX12_checkWith_3 : decode cX12_checkWith 3 = .ok (.getfield 73, 3) := by decide +kernel
set_option maxRecDepth 100000 in
theorem dX12_checkWith_6 : decode cX12_checkWith 6 = .ok (.iload_n 1, 1) := by decide +kernel
set_option maxRecDepth 100000 in
theorem dX12_checkWith_7 : decode cX12_checkWith 7 = .ok (.iaload, 1) := by decide +kernel
set_option maxRecDepth 100000 in
theorem dX12_checkWith_8 : decode cX12_checkWith 8 = .ok (.istore_n 3, 1) := by decide +kernel
set_option maxRecDepth 100000 in
theorem dX12_checkWith_9 : decode cX12_checkWith 9 = .ok (.aload_n 0, 1) := by decide +kernel
set_option maxRecDepth 100000 in
theorem dX12_checkWith_10 : decode cX12_checkWith 10 = .ok (.getfield 79, 3) := by decide +kernel
set_option maxRecDepth 100000 in
theorem dX12_checkWith_13 : decode cX12_checkWith 13 = .ok (.iload_n 3, 1) := by decide +kernel
set_option maxRecDepth 100000 in
theorem dX12_checkWith_14 : decode cX12_checkWith 14 = .ok (.iaload, 1) := by decide +kernel
set_option maxRecDepth 100000 in
theorem dX12_checkWith_15 : decode cX12_checkWith 15 = .ok (.iconst (-1), 1) := by decide +kernel
set_option maxRecDepth 100000 in
theorem dX12_checkWith_16 : decode cX12_checkWith 16 = .ok (.if_icmp .eq 78, 3) := by decide +kernel
set_option maxRecDepth 100000 in
theorem dX12_checkWith_19 : decode cX12_checkWith 19 = .ok (.aload_n 0, 1) := by decide +kernel
set_option maxRecDepth 100000 in
theorem dX12_checkWith_20 : decode cX12_checkWith 20 = .ok (.iload_n 3, 1) := by decide +kernel
set_option maxRecDepth 100000 in
theorem dX12_checkWith_21 : decode cX12_checkWith 21 = .ok (.invokevirtual 1003, 3) := by decide +kernel
set_option maxRecDepth 100000 in
theorem dX12_checkWith_24 : decode cX12_checkWith 24 = .ok (.astore 4, 2) := by decide +kernel
set_option maxRecDepth 100000 in
theorem dX12_checkWith_26 : decode cX12_checkWith 26 = .ok (.aload 4, 2) := by decide +kernel
set_option maxRecDepth 100000 in
theorem dX12_checkWith_28 : decode cX12_checkWith 28 = .ok (.getfield 845, 3) := by decide +kernel
set_option maxRecDepth 100000 in
theorem dX12_checkWith_31 : decode cX12_checkWith 31 = .ok (.bipush 8, 2) := by decide +kernel
set_option maxRecDepth 100000 in
theorem dX12_checkWith_33 : decode cX12_checkWith 33 = .ok (.if_icmp .eq 15, 3) := by decide +kernel
set_option maxRecDepth 100000 in
theorem dX12_checkWith_36 : decode cX12_checkWith 36 = .ok (.aload_n 0, 1) := by decide +kernel
set_option maxRecDepth 100000 in
theorem dX12_checkWith_37 : decode cX12_checkWith 37 = .ok (.bipush 7, 2) := by decide +kernel
set_option maxRecDepth 100000 in
theorem dX12_checkWith_39 : decode cX12_checkWith 39 = .ok (.aload_n 0, 1) := by decide +kernel
set_option maxRecDepth 100000 in
theorem dX12_checkWith_40 : decode cX12_checkWith 40 = .ok (.getfield 70, 3) := by decide +kernel
set_option maxRecDepth 100000 in
theorem dX12_checkWith_43 : decode cX12_checkWith 43 = .ok (.iload_n 3, 1) := by decide +kernel
set_option maxRecDepth 100000 in
theorem dX12_checkWith_44 : decode cX12_checkWith 44 = .ok (.iaload, 1) := by decide +kernel
set_option maxRecDepth 100000 in
theorem dX12_checkWith_45 : decode cX12_checkWith 45 = .ok (.invokevirtual 570, 3) := by decide +kernel
set_option maxRecDepth 100000 in
theorem dX12_checkWith_48 : decode cX12_checkWith 48 = .ok (.aload_n 0, 1) := by decide +kernel
set_option maxRecDepth 100000 in
theorem dX12_checkWith_49 : decode cX12_checkWith 49 = .ok (.getfield 82, 3) := by decide +kernel
set_option maxRecDepth 100000 in
theorem dX12_checkWith_52 : decode cX12_checkWith 52 = .ok (.iload_n 3, 1) := by decide +kernel
set_option maxRecDepth 100000 in
theorem dX12_checkWith_53 : decode cX12_checkWith 53 = .ok (.aload_n 0, 1) := by decide +kernel
set_option maxRecDepth 100000 in
theorem dX12_checkWith_54 : decode cX12_checkWith 54 = .ok (.getfield 805, 3) := by decide +kernel
set_option maxRecDepth 100000 in
theorem dX12_checkWith_57 : decode cX12_checkWith 57 = .ok (.iastore, 1) := by decide +kernel
set_option maxRecDepth 100000 in
theorem dX12_checkWith_58 : decode cX12_checkWith 58 = .ok (.aload_n 0, 1) := by decide +kernel
set_option maxRecDepth 100000 in
theorem dX12_checkWith_59 : decode cX12_checkWith 59 = .ok (.aload 4, 2) := by decide +kernel
set_option maxRecDepth 100000 in
theorem dX12_checkWith_61 : decode cX12_checkWith 61 = .ok (.getfield 852, 3) := by decide +kernel
set_option maxRecDepth 100000 in
theorem dX12_checkWith_64 : decode cX12_checkWith 64 = .ok (.aload_n 0, 1) := by decide +kernel
set_option maxRecDepth 100000 in
theorem dX12_checkWith_65 : decode cX12_checkWith 65 = .ok (.getfield 805, 3) := by decide +kernel
set_option maxRecDepth 100000 in
theorem dX12_checkWith_68 : decode cX12_checkWith 68 = .ok (.invokevirtual 639, 3) := by decide +kernel
set_option maxRecDepth 100000 in
theorem dX12_checkWith_71 : decode cX12_checkWith 71 = .ok (.aload_n 0, 1) := by decide +kernel
set_option maxRecDepth 100000 in
theorem dX12_checkWith_72 : decode cX12_checkWith 72 = .ok (.dup, 1) := by decide +kernel
set_option maxRecDepth 100000 in
theorem dX12_checkWith_73 : decode cX12_checkWith 73 = .ok (.getfield 805, 3) := by decide +kernel
set_option maxRecDepth 100000 in
theorem dX12_checkWith_76 : decode cX12_checkWith 76 = .ok (.iconst 1, 1) := by decide +kernel
set_option maxRecDepth 100000 in
theorem dX12_checkWith_77 : decode cX12_checkWith 77 = .ok (.iadd, 1) := by decide +kernel
set_option maxRecDepth 100000 in
theorem dX12_checkWith_78 : decode cX12_checkWith 78 = .ok (.putfield 805, 3) := by decide +kernel
set_option maxRecDepth 100000 in
theorem dX12_checkWith_81 : decode cX12_checkWith 81 = .ok (.iinc 2 1, 3) := by decide +kernel
set_option maxRecDepth 100000 in
theorem dX12_checkWith_84 : decode cX12_checkWith 84 = .ok (.aload_n 0, 1) := by decide +kernel
set_option maxRecDepth 100000 in
theorem dX12_checkWith_85 : decode cX12_checkWith 85 = .ok (.getfield 79, 3) := by decide +kernel
set_option maxRecDepth 100000 in
theorem dX12_checkWith_88 : decode cX12_checkWith 88 = .ok (.iload_n 3, 1) := by decide +kernel
set_option maxRecDepth 100000 in
theorem dX12_checkWith_89 : decode cX12_checkWith 89 = .ok (.iaload, 1) := by decide +kernel
set_option maxRecDepth 100000 in
theorem dX12_checkWith_90 : decode cX12_checkWith 90 = .ok (.istore_n 3, 1) := by decide +kernel
set_option maxRecDepth 100000 in
theorem dX12_checkWith_91 : decode cX12_checkWith 91 = .ok (.goto (-82), 3) := by decide +kernel
set_option maxRecDepth 100000 in
theorem dX12_checkWith_94 : decode cX12_checkWith 94 = .ok (.aload_n 0, 1) := by decide +kernel
set_option maxRecDepth 100000 in
theorem dX12_checkWith_95 : decode cX12_checkWith 95 = .ok (.iload_n 3, 1) := by decide +kernel
set_option maxRecDepth 100000 in
theorem dX12_checkWith_96 : decode cX12_checkWith 96 = .ok (.invokevirtual 808, 3) := by decide +kernel
set_option maxRecDepth 100000 in
theorem dX12_checkWith_99 : decode cX12_checkWith 99 = .ok (.iconst 0, 1) := by decide +kernel
set_option maxRecDepth 100000 in
theorem dX12_checkWith_100 : decode cX12_checkWith 100 = .ok (.istore 4, 2) := by decide +kernel
set_option maxRecDepth 100000 in
theorem dX12_checkWith_102 : decode cX12_checkWith 102 = .ok (.iload 4, 2) := by decide +kernel
set_option maxRecDepth 100000 in
theorem dX12_checkWith_104 : decode cX12_checkWith 104 = .ok (.iload_n 2, 1) := by decide +kernel
set_option maxRecDepth 100000 in
theorem dX12_checkWith_105 : decode cX12_checkWith 105 = .ok (.if_icmp .ge 14, 3) := by decide +kernel
set_option maxRecDepth 100000 in
theorem dX12_checkWith_108 : decode cX12_checkWith 108 = .ok (.aload_n 0, 1) := by decide +kernel
set_option maxRecDepth 100000 in
theorem dX12_checkWith_109 : decode cX12_checkWith 109 = .ok (.invokevirtual 746, 3) := by decide +kernel
set_option maxRecDepth 100000 in
theorem dX12_checkWith_112 : decode cX12_checkWith 112 = .ok (.pop, 1) := by decide +kernel
set_option maxRecDepth 100000 in
theorem dX12_checkWith_113 : decode cX12_checkWith 113 = .ok (.iinc 4 1, 3) := by decide +kernel
set_option maxRecDepth 100000 in
theorem dX12_checkWith_116 : decode cX12_checkWith 116 = .ok (.goto (-14), 3) := by decide +kernel
set_option maxRecDepth 100000 in
theorem dX12_checkWith_119 : decode cX12_checkWith 119 = .ok (.aload_n 0, 1) := by decide +kernel
set_option maxRecDepth 100000 in
theorem dX12_checkWith_120 : decode cX12_checkWith 120 = .ok (.dup, 1) := by decide +kernel
set_option maxRecDepth 100000 in
theorem dX12_checkWith_121 : decode cX12_checkWith 121 = .ok (.getfield 805, 3) := by decide +kernel
set_option maxRecDepth 100000 in
theorem dX12_checkWith_124 : decode cX12_checkWith 124 = .ok (.iload_n 2, 1) := by decide +kernel
set_option maxRecDepth 100000 in
theorem dX12_checkWith_125 : decode cX12_checkWith 125 = .ok (.isub, 1) := by decide +kernel
set_option maxRecDepth 100000 in
theorem dX12_checkWith_126 : decode cX12_checkWith 126 = .ok (.putfield 805, 3) := by decide +kernel
set_option maxRecDepth 100000 in
theorem dX12_checkWith_129 : decode cX12_checkWith 129 = .ok (.return_, 1) := by decide +kernel
def lX12_checkWith_9 (G : xG) (fr lo : Nat) (x0 : Nat) (x2 : Int32) (x3 : Int32) (h : xH) (Q : Outcome → xH → Prop) : Prop := xP G YX12_checkWith fr lo 9 [(0, rv x0), (2, .int x2), (3, .int x3)] [] h Q
def lX12_checkWith_102 (G : xG) (fr lo : Nat) (x0 : Nat) (x2 : Int32) (x4 : Int32) (h : xH) (Q : Outcome → xH → Prop) : Prop := xP G YX12_checkWith fr lo 102 [(0, rv x0), (2, .int x2), (4, .int x4)] [] h Q
set_option maxRecDepth 100000 in
def bX12_checkWith_102 (G : xG) (fr lo : Nat) (x0 : Nat) (x2 : Int32) (x4 : Int32) (h : xH) (Q : Outcome → xH → Prop) : Prop := ((x2 ≤ x4 → tg h x0 = 13 ∧ (∀ h3 : xH, h3 = sI h x0 3124 ((fI h x0 3124) - x2) → Q (.returned none) h3)) ∧ (¬ x2 ≤ x4 → tg h x0 = 13 ∧ 1 ≤ fr ∧ 12 ≤ lo ∧ xRr G YX12_pop (fr - 1) (lo - 12) [rv x0] h (fun x9 h8 => xext h h8 → lX12_checkWith_102 G fr lo x0 x2 (x4 + 1) h8 Q) (fun r h2 => Q (.threw r) h2)))
set_option maxRecDepth 100000 in
theorem uX12_checkWith_102 {G : xG} {fr lo : Nat} {x0 : Nat} {x2 : Int32} {x4 : Int32} {h : xH} {Q : Outcome → xH → Prop} (hq : bX12_checkWith_102 G fr lo x0 x2 x4 h Q) : xP G YX12_checkWith fr lo 102 [(0, rv x0), (2, .int x2), (4, .int x4)] [] h Q := by
  unfold bX12_checkWith_102 at hq
  refine x_iload 2 dX12_checkWith_102 rfl ?_
  refine x_iload_n 1 dX12_checkWith_104 rfl ?_
  refine x_icmp_ge (tgt := 119) dX12_checkWith_105 (by decide) (fun c1 => ?_) (fun c1 => ?_)
  · replace hq := hq.1 c1
    refine x_aload_n 0 dX12_checkWith_119 rfl ?_
    refine x_dup dX12_checkWith_120 (rv_cat _) ?_
    obtain ⟨g2, hq⟩ := hq
    refine x_get (v := .int (fI h x0 3124)) fdX12_805 dX12_checkWith_121 g2 rfl ?_
    refine x_iload_n 1 dX12_checkWith_124 rfl ?_
    refine x_isub dX12_checkWith_125 ?_
    obtain ⟨h3, e4⟩ : ∃ y, y = sI h x0 3124 ((fI h x0 3124) - x2) := ⟨_, rfl⟩
    replace hq := hq h3 e4
    refine x_putI fdX12_805 xty_I1 dX12_checkWith_126 g2 (Or.inl (by rw [g2]; rfl)) xnI rfl e4 ?_
    exact x_vret rfl dX12_checkWith_129 hq
  · replace hq := hq.2 c1
    refine x_aload_n 0 dX12_checkWith_108 rfl ?_
    obtain ⟨g5, hq⟩ := hq
    obtain ⟨g6, g7, hq⟩ := hq
    refine x_callV (Yc := YX12_pop) (as := []) (st := []) q4283 mvX12_pop g5 rfl dX12_checkWith_109 (xle (xal1 (rv_cat _) xal0) (by decide)) (xfr g6) (xlo xsw0 (by decide) g7) (xKr hq (fun x9 h8 hq e10 => ?_) (fun _ _ q _ => q))
    replace hq := hq e10
    refine x_pop dX12_checkWith_112 (rv_cat _) ?_
    refine x_iinc (lv' := [(4, .int (x4 + 1)), (0, rv x0), (2, .int x2)]) 2 dX12_checkWith_113 rfl (by decide) rfl ?_
    refine x_goto (tgt := 102) dX12_checkWith_116 (by decide) ?_
    refine xP.pick (lv' := [(0, rv x0), (2, .int x2), (4, .int (x4 + 1))]) [1, 2, 0] rfl ?_
    exact hq
set_option maxRecDepth 100000 in
def bX12_checkWith_48 (G : xG) (fr lo : Nat) (x0 : Nat) (x2 : Int32) (x3 : Int32) (x4 : Nat) (h : xH) (Q : Outcome → xH → Prop) : Prop := tg h x0 = 13 ∧ tg h (fR h x0 3106) = 100 ∧ vp_in x3 (ln h (fR h x0 3106)) ∧ (∀ h4 : xH, h4 = tI h (fR h x0 3106) (Int32.toNatClampNeg x3) (fI h x0 3124) → tg h4 x4 = 14 ∧ 1 ≤ fr ∧ 14 ≤ lo ∧ xRv G YX12_push (fr - 1) (lo - 14) [rv x0, rv (fR h4 x4 3335), .int (fI h4 x0 3124)] h4 (fun h10 => xext h4 h10 → (∀ h14 : xH, h14 = sI h10 x0 3124 ((fI h10 x0 3124) + 1) → tg h14 (fR h14 x0 3105) = 100 ∧ vp_in x3 (ln h14 (fR h14 x0 3105)) ∧ lX12_checkWith_9 G fr lo x0 (x2 + 1) (aI h14 (fR h14 x0 3105) (Int32.toNatClampNeg x3)) h14 Q)) (fun r h2 => Q (.threw r) h2))
set_option maxRecDepth 100000 in
theorem uX12_checkWith_48 {G : xG} {fr lo : Nat} {x0 : Nat} {x2 : Int32} {x3 : Int32} {x4 : Nat} {h : xH} {Q : Outcome → xH → Prop} (hq : bX12_checkWith_48 G fr lo x0 x2 x3 x4 h Q) : xP G YX12_checkWith fr lo 48 [(0, rv x0), (2, .int x2), (3, .int x3), (4, rv x4)] [] h Q := by
  unfold bX12_checkWith_48 at hq
  refine x_aload_n 0 dX12_checkWith_48 rfl ?_
  obtain ⟨g1, hq⟩ := hq
  refine x_get (v := rv (fR h x0 3106)) fdX12_82 dX12_checkWith_49 g1 rfl ?_
  refine x_iload_n 2 dX12_checkWith_52 rfl ?_
  refine x_aload_n 0 dX12_checkWith_53 rfl ?_
  refine x_get (v := .int (fI h x0 3124)) fdX12_805 dX12_checkWith_54 g1 rfl ?_
  obtain ⟨g2, hq⟩ := hq
  obtain ⟨i3, hq⟩ := hq
  obtain ⟨h4, e5⟩ : ∃ y, y = tI h (fR h x0 3106) (Int32.toNatClampNeg x3) (fI h x0 3124) := ⟨_, rfl⟩
  replace hq := hq h4 e5
  refine x_iast' g2 i3 dX12_checkWith_57 e5 ?_
  refine x_aload_n 0 dX12_checkWith_58 rfl ?_
  refine x_aload 3 dX12_checkWith_59 rfl ?_
  obtain ⟨g6, hq⟩ := hq
  refine x_get (v := rv (fR h4 x4 3335)) fdX12_852 dX12_checkWith_61 g6 rfl ?_
  refine x_aload_n 0 dX12_checkWith_64 rfl ?_
  have t7 : tg h4 x0 = 13 := by rw [e5]; exact g1
  refine x_get (v := .int (fI h4 x0 3124)) fdX12_805 dX12_checkWith_65 t7 rfl ?_
  obtain ⟨g8, g9, hq⟩ := hq
  refine x_callV (Yc := YX12_push) (as := [rv (fR h4 x4 3335), .int (fI h4 x0 3124)]) (st := []) q4063 mvX12_push t7 rfl dX12_checkWith_68 (xle (xal1 (rv_cat _) (xal1 (rv_cat _) (xal1 rfl xal0))) (by decide)) (xfr g8) (xlo xsw0 (by decide) g9) (xKv hq (fun h10 hq e12 => ?_) (fun _ _ q _ => q))
  replace hq := hq e12
  refine x_aload_n 0 dX12_checkWith_71 rfl ?_
  refine x_dup dX12_checkWith_72 (rv_cat _) ?_
  have t13 : tg h10 x0 = 13 := e12.tg t7 (by decide)
  refine x_get (v := .int (fI h10 x0 3124)) fdX12_805 dX12_checkWith_73 t13 rfl ?_
  refine x_iconst (v := 1) dX12_checkWith_76 (by decide) ?_
  refine x_iadd dX12_checkWith_77 ?_
  obtain ⟨h14, e15⟩ : ∃ y, y = sI h10 x0 3124 ((fI h10 x0 3124) + 1) := ⟨_, rfl⟩
  replace hq := hq h14 e15
  refine x_putI fdX12_805 xty_I1 dX12_checkWith_78 t13 (Or.inl (by rw [t13]; rfl)) xnI rfl e15 ?_
  refine x_iinc (lv' := [(2, .int (x2 + 1)), (0, rv x0), (3, .int x3), (4, rv x4)]) 1 dX12_checkWith_81 rfl (by decide) rfl ?_
  refine x_aload_n 1 dX12_checkWith_84 rfl ?_
  have t16 : tg h14 x0 = 13 := by rw [e15]; exact t13
  refine x_get (v := rv (fR h14 x0 3105)) fdX12_79 dX12_checkWith_85 t16 rfl ?_
  refine x_iload_n 2 dX12_checkWith_88 rfl ?_
  obtain ⟨g17, hq⟩ := hq
  obtain ⟨i18, hq⟩ := hq
  refine x_iald 0 (Or.inl rfl) g17 i18 dX12_checkWith_89 ?_
  refine x_istore_n (lv' := [(3, .int (aI h14 (fR h14 x0 3105) (Int32.toNatClampNeg x3))), (2, .int (x2 + 1)), (0, rv x0), (4, rv x4)]) dX12_checkWith_90 (by decide) rfl ?_
  refine x_goto (tgt := 9) dX12_checkWith_91 (by decide) ?_
  refine xP.pick (lv' := [(0, rv x0), (2, .int (x2 + 1)), (3, .int (aI h14 (fR h14 x0 3105) (Int32.toNatClampNeg x3)))]) [2, 1, 0] rfl ?_
  exact hq
set_option maxRecDepth 100000 in
def bX12_checkWith_9 (G : xG) (fr lo : Nat) (x0 : Nat) (x2 : Int32) (x3 : Int32) (h : xH) (Q : Outcome → xH → Prop) : Prop := tg h x0 = 13 ∧ tg h (fR h x0 3105) = 100 ∧ vp_in x3 (ln h (fR h x0 3105)) ∧ (((aI h (fR h x0 3105) (Int32.toNatClampNeg x3)) = (-1) → 1 ≤ fr ∧ 14 ≤ lo ∧ xRv G YX12_checkStatement (fr - 1) (lo - 14) [rv x0, .int x3] h (fun h7 => xext h h7 → lX12_checkWith_102 G fr lo x0 x2 0 h7 Q) (fun r h2 => Q (.threw r) h2)) ∧ (¬ (aI h (fR h x0 3105) (Int32.toNatClampNeg x3)) = (-1) → 1 ≤ fr ∧ 17 ≤ lo ∧ xRr G YX12_checkVariable (fr - 1) (lo - 17) [rv x0, .int x3] h (fun x13 h12 => xext h h12 → tg h12 x13 = 14 ∧ (((fI h12 x13 3328) = 8 → bX12_checkWith_48 G fr lo x0 x2 x3 x13 h12 Q) ∧ (¬ (fI h12 x13 3328) = 8 → tg h12 (fR h12 x0 3102) = 100 ∧ vp_in x3 (ln h12 (fR h12 x0 3102)) ∧ 1 ≤ fr ∧ 14 ≤ lo ∧ xRv G YX12_refuse (fr - 1) (lo - 14) [rv x0, .int 7, .int (aI h12 (fR h12 x0 3102) (Int32.toNatClampNeg x3))] h12 (fun h22 => xext h12 h22 → bX12_checkWith_48 G fr lo x0 x2 x3 x13 h22 Q) (fun r h2 => Q (.threw r) h2)))) (fun r h2 => Q (.threw r) h2)))
set_option maxRecDepth 100000 in
theorem uX12_checkWith_9 {G : xG} {fr lo : Nat} {x0 : Nat} {x2 : Int32} {x3 : Int32} {h : xH} {Q : Outcome → xH → Prop} (hq : bX12_checkWith_9 G fr lo x0 x2 x3 h Q) : xP G YX12_checkWith fr lo 9 [(0, rv x0), (2, .int x2), (3, .int x3)] [] h Q := by
  unfold bX12_checkWith_9 at hq
  refine x_aload_n 0 dX12_checkWith_9 rfl ?_
  obtain ⟨g1, hq⟩ := hq
  refine x_get (v := rv (fR h x0 3105)) fdX12_79 dX12_checkWith_10 g1 rfl ?_
  refine x_iload_n 2 dX12_checkWith_13 rfl ?_
  obtain ⟨g2, hq⟩ := hq
  obtain ⟨i3, hq⟩ := hq
  refine x_iald 0 (Or.inl rfl) g2 i3 dX12_checkWith_14 ?_
  refine x_iconst (v := (-1)) dX12_checkWith_15 (by decide) ?_
  refine x_icmp_eq (tgt := 94) dX12_checkWith_16 (by decide) (fun c4 => ?_) (fun c4 => ?_)
  · replace hq := hq.1 c4
    refine x_aload_n 0 dX12_checkWith_94 rfl ?_
    refine x_iload_n 2 dX12_checkWith_95 rfl ?_
    obtain ⟨g5, g6, hq⟩ := hq
    refine x_callV (Yc := YX12_checkStatement) (as := [.int x3]) (st := []) q4300 mvX12_checkStatement g1 rfl dX12_checkWith_96 (xle (xal1 (rv_cat _) (xal1 rfl xal0)) (by decide)) (xfr g5) (xlo xsw0 (by decide) g6) (xKv hq (fun h7 hq e9 => ?_) (fun _ _ q _ => q))
    replace hq := hq e9
    refine x_iconst (v := 0) dX12_checkWith_99 (by decide) ?_
    refine x_istore (lv' := [(4, .int 0), (0, rv x0), (2, .int x2), (3, .int x3)]) dX12_checkWith_100 (by decide) rfl ?_
    refine xP.pick (lv' := [(0, rv x0), (2, .int x2), (4, .int 0)]) [1, 2, 0] rfl ?_
    exact hq
  · replace hq := hq.2 c4
    refine x_aload_n 0 dX12_checkWith_19 rfl ?_
    refine x_iload_n 2 dX12_checkWith_20 rfl ?_
    obtain ⟨g10, g11, hq⟩ := hq
    refine x_callV (Yc := YX12_checkVariable) (as := [.int x3]) (st := []) q4367 mvX12_checkVariable g1 rfl dX12_checkWith_21 (xle (xal1 (rv_cat _) (xal1 rfl xal0)) (by decide)) (xfr g10) (xlo xsw0 (by decide) g11) (xKr hq (fun x13 h12 hq e14 => ?_) (fun _ _ q _ => q))
    replace hq := hq e14
    refine x_astore (lv' := [(4, rv x13), (0, rv x0), (2, .int x2), (3, .int x3)]) dX12_checkWith_24 (by decide) rfl ?_
    refine x_aload 0 dX12_checkWith_26 rfl ?_
    obtain ⟨g15, hq⟩ := hq
    refine x_get (v := .int (fI h12 x13 3328)) fdX12_845 dX12_checkWith_28 g15 rfl ?_
    refine x_bipush (v := 8) dX12_checkWith_31 (by decide) ?_
    refine x_icmp_eq (tgt := 48) dX12_checkWith_33 (by decide) (fun c16 => ?_) (fun c16 => ?_)
    · replace hq := hq.1 c16
      refine xP.pick (lv' := [(0, rv x0), (2, .int x2), (3, .int x3), (4, rv x13)]) [1, 2, 3, 0] rfl ?_
      exact uX12_checkWith_48 hq
    · replace hq := hq.2 c16
      refine x_aload_n 1 dX12_checkWith_36 rfl ?_
      refine x_bipush (v := 7) dX12_checkWith_37 (by decide) ?_
      refine x_aload_n 1 dX12_checkWith_39 rfl ?_
      have t17 : tg h12 x0 = 13 := e14.tg g1 (by decide)
      refine x_get (v := rv (fR h12 x0 3102)) fdX12_70 dX12_checkWith_40 t17 rfl ?_
      refine x_iload_n 3 dX12_checkWith_43 rfl ?_
      obtain ⟨g18, hq⟩ := hq
      obtain ⟨i19, hq⟩ := hq
      refine x_iald 0 (Or.inl rfl) g18 i19 dX12_checkWith_44 ?_
      obtain ⟨g20, g21, hq⟩ := hq
      refine x_callV (Yc := YX12_refuse) (as := [.int 7, .int (aI h12 (fR h12 x0 3102) (Int32.toNatClampNeg x3))]) (st := []) q4095 mvX12_refuse t17 rfl dX12_checkWith_45 (xle (xal1 (rv_cat _) (xal1 rfl (xal1 rfl xal0))) (by decide)) (xfr g20) (xlo xsw0 (by decide) g21) (xKv hq (fun h22 hq e24 => ?_) (fun _ _ q _ => q))
      replace hq := hq e24
      refine xP.pick (lv' := [(0, rv x0), (2, .int x2), (3, .int x3), (4, rv x13)]) [1, 2, 3, 0] rfl ?_
      exact uX12_checkWith_48 hq
set_option maxRecDepth 100000 in
def bX12_checkWith (G : xG) (fr lo : Nat) (x0 : Nat) (x1 : Int32) (h : xH) (Q : Outcome → xH → Prop) : Prop := tg h x0 = 13 ∧ tg h (fR h x0 3103) = 100 ∧ vp_in x1 (ln h (fR h x0 3103)) ∧ lX12_checkWith_9 G fr lo x0 0 (aI h (fR h x0 3103) (Int32.toNatClampNeg x1)) h Q
set_option maxRecDepth 100000 in
theorem uX12_checkWith {G : xG} {fr lo : Nat} {x0 : Nat} {x1 : Int32} {h : xH} {Q : Outcome → xH → Prop} (hq : bX12_checkWith G fr lo x0 x1 h Q) : xP G YX12_checkWith fr lo 0 [(0, rv x0), (1, .int x1)] [] h Q := by
  unfold bX12_checkWith at hq
  refine x_iconst (v := 0) dX12_checkWith_0 (by decide) ?_
  refine x_istore_n (lv' := [(2, .int 0), (0, rv x0), (1, .int x1)]) dX12_checkWith_1 (by decide) rfl ?_
  refine x_aload_n 1 dX12_checkWith_2 rfl ?_
  obtain ⟨g1, hq⟩ := hq
  refine x_get (v := rv (fR h x0 3103)) fdX12_73 dX12_checkWith_3 g1 rfl ?_
  refine x_iload_n 2 dX12_checkWith_6 rfl ?_
  obtain ⟨g2, hq⟩ := hq
  obtain ⟨i3, hq⟩ := hq
  refine x_iald 0 (Or.inl rfl) g2 i3 dX12_checkWith_7 ?_
  refine x_istore_n (lv' := [(3, .int (aI h (fR h x0 3103) (Int32.toNatClampNeg x1))), (2, .int 0), (0, rv x0), (1, .int x1)]) dX12_checkWith_8 (by decide) rfl ?_
  refine xP.pick (lv' := [(0, rv x0), (2, .int 0), (3, .int (aI h (fR h x0 3103) (Int32.toNatClampNeg x1)))]) [2, 1, 0] rfl ?_
  exact hq
theorem rX12_checkWith {G : xG} {fr lo : Nat} {x0 : Nat} {x1 : Int32} {h : xH} {Q : Outcome → xH → Prop} (hq : bX12_checkWith G fr lo x0 x1 h Q) : xR G YX12_checkWith fr lo [rv x0, .int x1] h Q := by
  show xP _ _ _ _ _ (lv_args 0 _) _ _ _
  rw [show lv_args 0 [rv x0, .int x1] = [(0, rv x0), (1, .int x1)] from (xla1 (rv_cat _) (xla1 rfl xla0))]
  exact uX12_checkWith hq
set_option maxRecDepth 100000 in
theorem dX12_checkGoto_0 : decode cX12_checkGoto 0 = .ok (.aload_n 0, 1) := by decide +kernel
set_option maxRecDepth 100000 in
theorem dX12_checkGoto_1 : decode cX12_checkGoto 1 = .ok (.getfield 70, 3) := by decide +kernel
set_option maxRecDepth 100000 in
theorem dX12_checkGoto_4 : decode cX12_checkGoto 4 = .ok (.aload_n 0, 1) := by decide +kernel
set_option maxRecDepth 100000 in
theorem dX12_checkGoto_5 : decode cX12_checkGoto 5 = .ok (.getfield 73, 3) := by decide +kernel
set_option maxRecDepth 100000 in
theorem dX12_checkGoto_8 : decode cX12_checkGoto 8 = .ok (.iload_n 1, 1) := by decide +kernel
set_option maxRecDepth 100000 in
theorem dX12_checkGoto_9 : decode cX12_checkGoto 9 = .ok (.iaload, 1) := by decide +kernel
set_option maxRecDepth 100000 in
theorem dX12_checkGoto_10 : decode cX12_checkGoto 10 = .ok (.iaload, 1) := by decide +kernel
set_option maxRecDepth 100000 in
theorem dX12_checkGoto_11 : decode cX12_checkGoto 11 = .ok (.istore_n 2, 1) := by decide +kernel
set_option maxRecDepth 100000 in
theorem dX12_checkGoto_12 : decode cX12_checkGoto 12 = .ok (.aload_n 0, 1) := by decide +kernel
set_option maxRecDepth 100000 in
theorem dX12_checkGoto_13 : decode cX12_checkGoto 13 = .ok (.getfield 141, 3) := by decide +kernel
set_option maxRecDepth 100000 in
theorem dX12_checkGoto_16 : decode cX12_checkGoto 16 = .ok (.invokevirtual 554, 3) := by decide +kernel
set_option maxRecDepth 100000 in
theorem dX12_checkGoto_19 : decode cX12_checkGoto 19 = .ok (.iconst 1, 1) := by decide +kernel
set_option maxRecDepth 100000 in
theorem dX12_checkGoto_20 : decode cX12_checkGoto 20 = .ok (.isub, 1) := by decide +kernel
set_option maxRecDepth 100000 in
theorem dX12_checkGoto_21 : decode cX12_checkGoto 21 = .ok (.istore_n 3, 1) := by decide +kernel
set_option maxRecDepth 100000 in
theorem dX12_checkGoto_22 : decode cX12_checkGoto 22 = .ok (.iload_n 3, 1) := by decide +kernel
set_option maxRecDepth 100000 in
theorem dX12_checkGoto_23 : decode cX12_checkGoto 23 = .ok (.ifCond .lt 94, 3) := by decide +kernel
set_option maxRecDepth 100000 in
theorem dX12_checkGoto_26 : decode cX12_checkGoto 26 = .ok (.aload_n 0, 1) := by decide +kernel
set_option maxRecDepth 100000 in
theorem dX12_checkGoto_27 : decode cX12_checkGoto 27 = .ok (.aload_n 0, 1) := by decide +kernel
set_option maxRecDepth 100000 in
theorem dX12_checkGoto_28 : decode cX12_checkGoto 28 = .ok (.getfield 141, 3) := by decide +kernel
set_option maxRecDepth 100000 in
theorem dX12_checkGoto_31 : decode cX12_checkGoto 31 = .ok (.iload_n 3, 1) := by decide +kernel
set_option maxRecDepth 100000 in
theorem dX12_checkGoto_32 : decode cX12_checkGoto 32 = .ok (.invokevirtual 556, 3) := by decide +kernel
set_option maxRecDepth 100000 in
theorem dX12_checkGoto_35 : decode cX12_checkGoto 35 = .ok (.checkcast 685, 3) := by decide +kernel
set_option maxRecDepth 100000 in
theorem dX12_checkGoto_38 : decode cX12_checkGoto 38 = .ok (.aload_n 0, 1) := by decide +kernel
set_option maxRecDepth 100000 in
theorem dX12_checkGoto_39 : decode cX12_checkGoto 39 = .ok (.getfield 32, 3) := by decide +kernel
set_option maxRecDepth 100000 in
theorem dX12_checkGoto_42 : decode cX12_checkGoto 42 = .ok (.iload_n 2, 1) := by decide +kernel
set_option maxRecDepth 100000 in
theorem dX12_checkGoto_43 : decode cX12_checkGoto 43 = .ok (.iaload, 1) := by decide +kernel
set_option maxRecDepth 100000 in
theorem dX12_checkGoto_44 : decode cX12_checkGoto 44 = .ok (.invokevirtual 749, 3) := by decide +kernel
set_option maxRecDepth 100000 in
theorem dX12_checkGoto_47 : decode cX12_checkGoto 47 = .ok (.astore 4, 2) := by decide +kernel
set_option maxRecDepth 100000 in
theorem dX12_checkGoto_49 : decode cX12_checkGoto 49 = .ok (.aload 4, 2) := by decide +kernel
set_option maxRecDepth 100000 in
theorem dX12_checkGoto_51 : decode cX12_checkGoto 51 = .ok (.ifnonnull 6, 3) := by decide +kernel
set_option maxRecDepth 100000 in
theorem dX12_checkGoto_54 : decode cX12_checkGoto 54 = .ok (.goto 57, 3) := by decide +kernel
set_option maxRecDepth 100000 in
theorem dX12_checkGoto_57 : decode cX12_checkGoto 57 = .ok (.aload_n 0, 1) := by decide +kernel
set_option maxRecDepth 100000 in
theorem dX12_checkGoto_58 : decode cX12_checkGoto 58 = .ok (.getfield 85, 3) := by decide +kernel
set_option maxRecDepth 100000 in
theorem dX12_checkGoto_61 : decode cX12_checkGoto 61 = .ok (.iload_n 1, 1) := by decide +kernel
set_option maxRecDepth 100000 in
theorem dX12_checkGoto_62 : decode cX12_checkGoto 62 = .ok (.iload_n 3, 1) := by decide +kernel
set_option maxRecDepth 100000 in
theorem dX12_checkGoto_63 : decode cX12_checkGoto 63 = .ok (.iastore, 1) := by decide +kernel
set_option maxRecDepth 100000 in
theorem dX12_checkGoto_64 : decode cX12_checkGoto 64 = .ok (.aload_n 0, 1) := by decide +kernel
set_option maxRecDepth 100000 in
theorem dX12_checkGoto_65 : decode cX12_checkGoto 65 = .ok (.getfield 141, 3) := by decide +kernel
set_option maxRecDepth 100000 in
theorem dX12_checkGoto_68 : decode cX12_checkGoto 68 = .ok (.iload_n 3, 1) := by decide +kernel
set_option maxRecDepth 100000 in
theorem dX12_checkGoto_69 : decode cX12_checkGoto 69 = .ok (.invokevirtual 556, 3) := by decide +kernel
set_option maxRecDepth 100000 in
theorem dX12_checkGoto_72 : decode cX12_checkGoto 72 = .ok (.checkcast 685, 3) := by decide +kernel
set_option maxRecDepth 100000 in
theorem dX12_checkGoto_75 : decode cX12_checkGoto 75 = .ok (.getfield 811, 3) := by decide +kernel
set_option maxRecDepth 100000 in
theorem dX12_checkGoto_78 : decode cX12_checkGoto 78 = .ok (.new 814, 3) := by decide +kernel
set_option maxRecDepth 100000 in
theorem dX12_checkGoto_81 : decode cX12_checkGoto 81 = .ok (.dup, 1) := by decide +kernel
set_option maxRecDepth 100000 in
theorem dX12_checkGoto_82 : decode cX12_checkGoto 82 = .ok (.iload_n 1, 1) := by decide +kernel
set_option maxRecDepth 100000 in
theorem dX12_checkGoto_83 : decode cX12_checkGoto 83 = .ok (.aload 4, 2) := by decide +kernel
set_option maxRecDepth 100000 in
theorem dX12_checkGoto_85 : decode cX12_checkGoto 85 = .ok (.iload_n 3, 1) := by decide +kernel
set_option maxRecDepth 100000 in
theorem dX12_checkGoto_86 : decode cX12_checkGoto 86 = .ok (.aload_n 0, 1) := by decide +kernel
set_option maxRecDepth 100000 in
theorem dX12_checkGoto_87 : decode cX12_checkGoto 87 = .ok (.getfield 141, 3) := by decide +kernel
set_option maxRecDepth 100000 in
theorem dX12_checkGoto_90 : decode cX12_checkGoto 90 = .ok (.invokevirtual 554, 3) := by decide +kernel
set_option maxRecDepth 100000 in
theorem dX12_checkGoto_93 : decode cX12_checkGoto 93 = .ok (.iconst 1, 1) := by decide +kernel
set_option maxRecDepth 100000 in
theorem dX12_checkGoto_94 : decode cX12_checkGoto 94 = .ok (.isub, 1) := by decide +kernel
set_option maxRecDepth 100000 in
theorem dX12_checkGoto_95 : decode cX12_checkGoto 95 = .ok (.if_icmp .ge 7, 3) := by decide +kernel
set_option maxRecDepth 100000 in
theorem dX12_checkGoto_98 : decode cX12_checkGoto 98 = .ok (.iconst 1, 1) := by decide +kernel
set_option maxRecDepth 100000 in
theorem dX12_checkGoto_99 : decode cX12_checkGoto 99 = .ok (.goto 4, 3) := by decide +kernel
set_option maxRecDepth 100000 in
theorem dX12_checkGoto_102 : decode cX12_checkGoto 102 = .ok (.iconst 0, 1) := by decide +kernel
set_option maxRecDepth 100000 in
theorem dX12_checkGoto_103 : decode cX12_checkGoto 103 = .ok (.invokespecial 1006, 3) := by decide +kernel
set_option maxRecDepth 100000 in
theorem dX12_checkGoto_106 : decode cX12_checkGoto 106 = .ok (.invokevirtual 579, 3) := by decide +kernel
set_option maxRecDepth 100000 in
theorem dX12_checkGoto_109 : decode cX12_checkGoto 109 = .ok (.pop, 1) := by decide +kernel
set_option maxRecDepth 100000 in
theorem dX12_checkGoto_110 : decode cX12_checkGoto 110 = .ok (.return_, 1) := by decide +kernel
set_option maxRecDepth 100000 in
theorem dX12_checkGoto_111 : decode cX12_checkGoto 111 = .ok (.iinc 3 (-1), 3) := by decide +kernel
set_option maxRecDepth 100000 in
theorem dX12_checkGoto_114 : decode cX12_checkGoto 114 = .ok (.goto (-92), 3) := by decide +kernel
set_option maxRecDepth 100000 in
theorem dX12_checkGoto_117 : decode cX12_checkGoto 117 = .ok (.aload_n 0, 1) := by decide +kernel
set_option maxRecDepth 100000 in
theorem dX12_checkGoto_118 : decode cX12_checkGoto 118 = .ok (.bipush 12, 2) := by decide +kernel
set_option maxRecDepth 100000 in
theorem dX12_checkGoto_120 : decode cX12_checkGoto 120 = .ok (.iload_n 2, 1) := by decide +kernel
set_option maxRecDepth 100000 in
theorem dX12_checkGoto_121 : decode cX12_checkGoto 121 = .ok (.invokevirtual 570, 3) := by decide +kernel
set_option maxRecDepth 100000 in
theorem dX12_checkGoto_124 : decode cX12_checkGoto 124 = .ok (.return_, 1) := by decide +kernel
def lX12_checkGoto_22 (G : xG) (fr lo : Nat) (x0 : Nat) (x1 : Int32) (x2 : Int32) (x3 : Int32) (h : xH) (Q : Outcome → xH → Prop) : Prop := xP G YX12_checkGoto fr lo 22 [(0, rv x0), (1, .int x1), (2, .int x2), (3, .int x3)] [] h Q
set_option maxRecDepth 100000 in
def bX12_checkGoto_103 (G : xG) (fr lo : Nat) (s0 : Int32) (s1 : Nat) (s2 : Int32) (s3 : Nat) (s4 : Nat) (s5 : Nat) (h : xH) (Q : Outcome → xH → Prop) : Prop := tg h s3 = 28 ∧ 1 ≤ fr ∧ 17 ≤ lo ∧ xRv G YX27_init (fr - 1) (lo - 17) [rv s3, .int s2, rv s1, .int s0] h (fun h4 => xext h h4 → tg h4 s5 = 29 ∧ 1 ≤ fr ∧ 13 ≤ lo ∧ xRi G YJ2_add (fr - 1) (lo - 13) [rv s5, rv s4] h4 (fun x11 h10 => xext h4 h10 → Q (.returned none) h10) (fun r h2 => Q (.threw r) h2)) (fun r h2 => Q (.threw r) h2)
set_option maxRecDepth 100000 in
theorem uX12_checkGoto_103 {G : xG} {fr lo : Nat} {s0 : Int32} {s1 : Nat} {s2 : Int32} {s3 : Nat} {s4 : Nat} {s5 : Nat} {h : xH} {Q : Outcome → xH → Prop} (hq : bX12_checkGoto_103 G fr lo s0 s1 s2 s3 s4 s5 h Q) : xP G YX12_checkGoto fr lo 103 [] [.int s0, rv s1, .int s2, rv s3, rv s4, rv s5] h Q := by
  unfold bX12_checkGoto_103 at hq
  obtain ⟨g1, hq⟩ := hq
  obtain ⟨g2, g3, hq⟩ := hq
  refine x_callI (Yc := YX27_init) (as := [.int s2, rv s1, .int s0]) (st := [rv s4, rv s5]) q4427 miX27_init (by rw [g1]; decide) rfl dX12_checkGoto_103 (xle (xal1 (rv_cat _) (xal1 rfl (xal1 (rv_cat _) (xal1 rfl xal0)))) (by decide)) (xfr g2) (xlo (xsw1 (rv_cat _) (xsw1 (rv_cat _) xsw0)) (by decide) g3) (xKv hq (fun h4 hq e6 => ?_) (fun _ _ q _ => q))
  replace hq := hq e6
  obtain ⟨g7, hq⟩ := hq
  obtain ⟨g8, g9, hq⟩ := hq
  refine x_callV (Yc := YJ2_add) (as := [rv s4]) (st := []) q4030 mvJ2_add g7 rfl dX12_checkGoto_106 (xle (xal1 (rv_cat _) (xal1 (rv_cat _) xal0)) (by decide)) (xfr g8) (xlo xsw0 (by decide) g9) (xKi hq (fun x11 h10 hq e12 => ?_) (fun _ _ q _ => q))
  replace hq := hq e12
  refine x_pop dX12_checkGoto_109 rfl ?_
  exact x_vret rfl dX12_checkGoto_110 hq
set_option maxRecDepth 100000 in
def bX12_checkGoto_22 (G : xG) (fr lo : Nat) (x0 : Nat) (x1 : Int32) (x2 : Int32) (x3 : Int32) (h : xH) (Q : Outcome → xH → Prop) : Prop := ((x3 < 0 → tg h x0 = 13 ∧ 1 ≤ fr ∧ 14 ≤ lo ∧ xRv G YX12_refuse (fr - 1) (lo - 14) [rv x0, .int 12, .int x2] h (fun h5 => xext h h5 → Q (.returned none) h5) (fun r h2 => Q (.threw r) h2)) ∧ (¬ x3 < 0 → tg h x0 = 13 ∧ tg h (fR h x0 3126) = 29 ∧ 1 ≤ fr ∧ 14 ≤ lo ∧ xRr G YJ2_get (fr - 1) (lo - 14) [rv (fR h x0 3126), .int x3] h (fun x13 h12 => xext h h12 → tg h12 x13 = 25 ∧ tg h12 (fR h12 x0 3084) = 100 ∧ vp_in x2 (ln h12 (fR h12 x0 3084)) ∧ 1 ≤ fr ∧ 15 ≤ lo ∧ xRr G YX12_labelIn (fr - 1) (lo - 15) [rv x0, rv x13, .int (aI h12 (fR h12 x0 3084) (Int32.toNatClampNeg x2))] h12 (fun x22 h21 => xext h12 h21 → ((¬ x22 = 0 → tg h21 (fR h21 x0 3107) = 100 ∧ vp_in x1 (ln h21 (fR h21 x0 3107)) ∧ (∀ h28 : xH, h28 = tI h21 (fR h21 x0 3107) (Int32.toNatClampNeg x1) x3 → tg h28 (fR h28 x0 3126) = 29 ∧ 1 ≤ fr ∧ 13 ≤ lo ∧ xRr G YJ2_get (fr - 1) (lo - 13) [rv (fR h28 x0 3126), .int x3] h28 (fun x35 h34 => xext h28 h34 → tg h34 x35 = 25 ∧ nx h34 + 1 ≤ xGN G ∧ us h34 + 3 ≤ xGU G ∧ (∀ (a40 : Nat) (h41 : xH), a40 = nx h34 + 1 → h41 = nO h34 28 3 → xfresh h34 a40 → tg h41 (fR h41 x0 3126) = 29 ∧ 1 ≤ fr ∧ 18 ≤ lo ∧ xRi G YJ2_size (fr - 1) (lo - 18) [rv (fR h41 x0 3126)] h41 (fun x52 h51 => xext h41 h51 → (((x52 - 1) ≤ x3 → bX12_checkGoto_103 G fr lo 0 x22 x1 a40 a40 (fR h34 x35 6145) h51 Q) ∧ (¬ (x52 - 1) ≤ x3 → bX12_checkGoto_103 G fr lo 1 x22 x1 a40 a40 (fR h34 x35 6145) h51 Q))) (fun r h2 => Q (.threw r) h2))) (fun r h2 => Q (.threw r) h2))) ∧ (x22 = 0 → lX12_checkGoto_22 G fr lo x0 x1 x2 (x3 + (-1)) h21 Q))) (fun r h2 => Q (.threw r) h2)) (fun r h2 => Q (.threw r) h2)))
set_option maxRecDepth 100000 in
theorem uX12_checkGoto_22 {G : xG} {fr lo : Nat} {x0 : Nat} {x1 : Int32} {x2 : Int32} {x3 : Int32} {h : xH} {Q : Outcome → xH → Prop} (hq : bX12_checkGoto_22 G fr lo x0 x1 x2 x3 h Q) : xP G YX12_checkGoto fr lo 22 [(0, rv x0), (1, .int x1), (2, .int x2), (3, .int x3)] [] h Q := by
  unfold bX12_checkGoto_22 at hq
  refine x_iload_n 3 dX12_checkGoto_22 rfl ?_
  refine x_if_lt (tgt := 117) dX12_checkGoto_23 (by decide) (fun c1 => ?_) (fun c1 => ?_)
  · replace hq := hq.1 c1
    refine x_aload_n 0 dX12_checkGoto_117 rfl ?_
    refine x_bipush (v := 12) dX12_checkGoto_118 (by decide) ?_
    refine x_iload_n 2 dX12_checkGoto_120 rfl ?_
    obtain ⟨g2, hq⟩ := hq
    obtain ⟨g3, g4, hq⟩ := hq
    refine x_callV (Yc := YX12_refuse) (as := [.int 12, .int x2]) (st := []) q4095 mvX12_refuse g2 rfl dX12_checkGoto_121 (xle (xal1 (rv_cat _) (xal1 rfl (xal1 rfl xal0))) (by decide)) (xfr g3) (xlo xsw0 (by decide) g4) (xKv hq (fun h5 hq e7 => ?_) (fun _ _ q _ => q))
    replace hq := hq e7
    exact x_vret rfl dX12_checkGoto_124 hq
  · replace hq := hq.2 c1
    refine x_aload_n 0 dX12_checkGoto_26 rfl ?_
    refine x_aload_n 0 dX12_checkGoto_27 rfl ?_
    obtain ⟨g8, hq⟩ := hq
    refine x_get (v := rv (fR h x0 3126)) fdX12_141 dX12_checkGoto_28 g8 rfl ?_
    refine x_iload_n 3 dX12_checkGoto_31 rfl ?_
    obtain ⟨g9, hq⟩ := hq
    obtain ⟨g10, g11, hq⟩ := hq
    refine x_callV (Yc := YJ2_get) (as := [.int x3]) (st := [rv x0]) q4109 mvJ2_get g9 rfl dX12_checkGoto_32 (xle (xal1 (rv_cat _) (xal1 rfl xal0)) (by decide)) (xfr g10) (xlo (xsw1 (rv_cat _) xsw0) (by decide) g11) (xKr hq (fun x13 h12 hq e14 => ?_) (fun _ _ q _ => q))
    replace hq := hq e14
    obtain ⟨g15, hq⟩ := hq
    refine x_cast (ci := 24) (by decide) rfl q4072 g15 dX12_checkGoto_35 ?_
    refine x_aload_n 0 dX12_checkGoto_38 rfl ?_
    have t16 : tg h12 x0 = 13 := e14.tg g8 (by decide)
    refine x_get (v := rv (fR h12 x0 3084)) fdX12_32 dX12_checkGoto_39 t16 rfl ?_
    refine x_iload_n 2 dX12_checkGoto_42 rfl ?_
    obtain ⟨g17, hq⟩ := hq
    obtain ⟨i18, hq⟩ := hq
    refine x_iald 0 (Or.inl rfl) g17 i18 dX12_checkGoto_43 ?_
    obtain ⟨g19, g20, hq⟩ := hq
    refine x_callV (Yc := YX12_labelIn) (as := [rv x13, .int (aI h12 (fR h12 x0 3084) (Int32.toNatClampNeg x2))]) (st := []) q4134 mvX12_labelIn t16 rfl dX12_checkGoto_44 (xle (xal1 (rv_cat _) (xal1 (rv_cat _) (xal1 rfl xal0))) (by decide)) (xfr g19) (xlo xsw0 (by decide) g20) (xKr hq (fun x22 h21 hq e23 => ?_) (fun _ _ q _ => q))
    replace hq := hq e23
    refine x_astore (lv' := [(4, rv x22), (0, rv x0), (1, .int x1), (2, .int x2), (3, .int x3)]) dX12_checkGoto_47 (by decide) rfl ?_
    refine x_aload 0 dX12_checkGoto_49 rfl ?_
    refine x_ifnonnull (tgt := 57) dX12_checkGoto_51 (by decide) (fun c24 => ?_) (fun c24 => ?_)
    · replace hq := hq.1 c24
      refine x_aload_n 1 dX12_checkGoto_57 rfl ?_
      have t25 : tg h21 x0 = 13 := e23.tg t16 (by decide)
      refine x_get (v := rv (fR h21 x0 3107)) fdX12_85 dX12_checkGoto_58 t25 rfl ?_
      refine x_iload_n 2 dX12_checkGoto_61 rfl ?_
      refine x_iload_n 4 dX12_checkGoto_62 rfl ?_
      obtain ⟨g26, hq⟩ := hq
      obtain ⟨i27, hq⟩ := hq
      obtain ⟨h28, e29⟩ : ∃ y, y = tI h21 (fR h21 x0 3107) (Int32.toNatClampNeg x1) x3 := ⟨_, rfl⟩
      replace hq := hq h28 e29
      refine x_iast' g26 i27 dX12_checkGoto_63 e29 ?_
      refine x_aload_n 1 dX12_checkGoto_64 rfl ?_
      have t30 : tg h28 x0 = 13 := by rw [e29]; exact t25
      refine x_get (v := rv (fR h28 x0 3126)) fdX12_141 dX12_checkGoto_65 t30 rfl ?_
      refine x_iload_n 4 dX12_checkGoto_68 rfl ?_
      obtain ⟨g31, hq⟩ := hq
      obtain ⟨g32, g33, hq⟩ := hq
      refine x_callV (Yc := YJ2_get) (as := [.int x3]) (st := []) q4109 mvJ2_get g31 rfl dX12_checkGoto_69 (xle (xal1 (rv_cat _) (xal1 rfl xal0)) (by decide)) (xfr g32) (xlo xsw0 (by decide) g33) (xKr hq (fun x35 h34 hq e36 => ?_) (fun _ _ q _ => q))
      replace hq := hq e36
      obtain ⟨g37, hq⟩ := hq
      refine x_cast (ci := 24) (by decide) rfl q4072 g37 dX12_checkGoto_72 ?_
      refine x_get (v := rv (fR h34 x35 6145)) fdX12_811 dX12_checkGoto_75 g37 rfl ?_
      obtain ⟨g38, g39, hq⟩ := hq
      obtain ⟨a40, e42⟩ : ∃ y, y = nx h34 + 1 := ⟨_, rfl⟩
      obtain ⟨h41, e43⟩ : ∃ y, y = nO h34 28 3 := ⟨_, rfl⟩
      refine x_new' cdX12_814 dX12_checkGoto_78 g38 g39 e42 e43 (fun f44 => ?_)
      replace hq := hq a40 h41 e42 e43 f44
      have t45 : tg h41 a40 = 28 := by rw [e43, e42]; exact tg_nO
      refine x_dup dX12_checkGoto_81 (rv_cat _) ?_
      refine x_iload_n 2 dX12_checkGoto_82 rfl ?_
      refine x_aload 0 dX12_checkGoto_83 rfl ?_
      refine x_iload_n 4 dX12_checkGoto_85 rfl ?_
      refine x_aload_n 1 dX12_checkGoto_86 rfl ?_
      have t46 : tg h34 x0 = 13 := e36.tg t30 (by decide)
      have t47 : tg h41 x0 = 13 := by rw [e43]; exact tg_nO_ne e42 f44 t46 (by decide)
      refine x_get (v := rv (fR h41 x0 3126)) fdX12_141 dX12_checkGoto_87 t47 rfl ?_
      obtain ⟨g48, hq⟩ := hq
      obtain ⟨g49, g50, hq⟩ := hq
      refine x_callV (Yc := YJ2_size) (as := []) (st := [.int x3, rv x22, .int x1, rv a40, rv a40, rv (fR h34 x35 6145)]) q4067 mvJ2_size g48 rfl dX12_checkGoto_90 (xle (xal1 (rv_cat _) xal0) (by decide)) (xfr g49) (xlo (xsw1 rfl (xsw1 (rv_cat _) (xsw1 rfl (xsw1 (rv_cat _) (xsw1 (rv_cat _) (xsw1 (rv_cat _) xsw0)))))) (by decide) g50) (xKi hq (fun x52 h51 hq e53 => ?_) (fun _ _ q _ => q))
      replace hq := hq e53
      refine x_iconst (v := 1) dX12_checkGoto_93 (by decide) ?_
      refine x_isub dX12_checkGoto_94 ?_
      refine x_icmp_ge (tgt := 102) dX12_checkGoto_95 (by decide) (fun c54 => ?_) (fun c54 => ?_)
      · replace hq := hq.1 c54
        refine x_iconst (v := 0) dX12_checkGoto_102 (by decide) ?_
        refine xP.pick (lv' := []) [] rfl ?_
        exact uX12_checkGoto_103 hq
      · replace hq := hq.2 c54
        refine x_iconst (v := 1) dX12_checkGoto_98 (by decide) ?_
        refine x_goto (tgt := 103) dX12_checkGoto_99 (by decide) ?_
        refine xP.pick (lv' := []) [] rfl ?_
        exact uX12_checkGoto_103 hq
    · replace hq := hq.2 c24
      refine x_goto (tgt := 111) dX12_checkGoto_54 (by decide) ?_
      refine x_iinc (lv' := [(3, .int (x3 + (-1))), (4, rv x22), (0, rv x0), (1, .int x1), (2, .int x2)]) 4 dX12_checkGoto_111 rfl (by decide) rfl ?_
      refine x_goto (tgt := 22) dX12_checkGoto_114 (by decide) ?_
      refine xP.pick (lv' := [(0, rv x0), (1, .int x1), (2, .int x2), (3, .int (x3 + (-1)))]) [2, 3, 4, 0] rfl ?_
      exact hq
set_option maxRecDepth 100000 in
def bX12_checkGoto (G : xG) (fr lo : Nat) (x0 : Nat) (x1 : Int32) (h : xH) (Q : Outcome → xH → Prop) : Prop := tg h x0 = 13 ∧ tg h (fR h x0 3103) = 100 ∧ vp_in x1 (ln h (fR h x0 3103)) ∧ tg h (fR h x0 3102) = 100 ∧ vp_in (aI h (fR h x0 3103) (Int32.toNatClampNeg x1)) (ln h (fR h x0 3102)) ∧ tg h (fR h x0 3126) = 29 ∧ 1 ≤ fr ∧ 12 ≤ lo ∧ xRi G YJ2_size (fr - 1) (lo - 12) [rv (fR h x0 3126)] h (fun x10 h9 => xext h h9 → lX12_checkGoto_22 G fr lo x0 x1 (aI h (fR h x0 3102) (Int32.toNatClampNeg (aI h (fR h x0 3103) (Int32.toNatClampNeg x1)))) (x10 - 1) h9 Q) (fun r h2 => Q (.threw r) h2)
set_option maxRecDepth 100000 in
theorem uX12_checkGoto {G : xG} {fr lo : Nat} {x0 : Nat} {x1 : Int32} {h : xH} {Q : Outcome → xH → Prop} (hq : bX12_checkGoto G fr lo x0 x1 h Q) : xP G YX12_checkGoto fr lo 0 [(0, rv x0), (1, .int x1)] [] h Q := by
  unfold bX12_checkGoto at hq
  refine x_aload_n 0 dX12_checkGoto_0 rfl ?_
  obtain ⟨g1, hq⟩ := hq
  refine x_get (v := rv (fR h x0 3102)) fdX12_70 dX12_checkGoto_1 g1 rfl ?_
  refine x_aload_n 0 dX12_checkGoto_4 rfl ?_
  refine x_get (v := rv (fR h x0 3103)) fdX12_73 dX12_checkGoto_5 g1 rfl ?_
  refine x_iload_n 1 dX12_checkGoto_8 rfl ?_
  obtain ⟨g2, hq⟩ := hq
  obtain ⟨i3, hq⟩ := hq
  refine x_iald 0 (Or.inl rfl) g2 i3 dX12_checkGoto_9 ?_
  obtain ⟨g4, hq⟩ := hq
  obtain ⟨i5, hq⟩ := hq
  refine x_iald 0 (Or.inl rfl) g4 i5 dX12_checkGoto_10 ?_
  refine x_istore_n (lv' := [(2, .int (aI h (fR h x0 3102) (Int32.toNatClampNeg (aI h (fR h x0 3103) (Int32.toNatClampNeg x1))))), (0, rv x0), (1, .int x1)]) dX12_checkGoto_11 (by decide) rfl ?_
  refine x_aload_n 1 dX12_checkGoto_12 rfl ?_
  refine x_get (v := rv (fR h x0 3126)) fdX12_141 dX12_checkGoto_13 g1 rfl ?_
  obtain ⟨g6, hq⟩ := hq
  obtain ⟨g7, g8, hq⟩ := hq
  refine x_callV (Yc := YJ2_size) (as := []) (st := []) q4067 mvJ2_size g6 rfl dX12_checkGoto_16 (xle (xal1 (rv_cat _) xal0) (by decide)) (xfr g7) (xlo xsw0 (by decide) g8) (xKi hq (fun x10 h9 hq e11 => ?_) (fun _ _ q _ => q))
  replace hq := hq e11
  refine x_iconst (v := 1) dX12_checkGoto_19 (by decide) ?_
  refine x_isub dX12_checkGoto_20 ?_
  refine x_istore_n (lv' := [(3, .int (x10 - 1)), (2, .int (aI h (fR h x0 3102) (Int32.toNatClampNeg (aI h (fR h x0 3103) (Int32.toNatClampNeg x1))))), (0, rv x0), (1, .int x1)]) dX12_checkGoto_21 (by decide) rfl ?_
  refine xP.pick (lv' := [(0, rv x0), (1, .int x1), (2, .int (aI h (fR h x0 3102) (Int32.toNatClampNeg (aI h (fR h x0 3103) (Int32.toNatClampNeg x1))))), (3, .int (x10 - 1))]) [2, 3, 1, 0] rfl ?_
  exact hq
theorem rX12_checkGoto {G : xG} {fr lo : Nat} {x0 : Nat} {x1 : Int32} {h : xH} {Q : Outcome → xH → Prop} (hq : bX12_checkGoto G fr lo x0 x1 h Q) : xR G YX12_checkGoto fr lo [rv x0, .int x1] h Q := by
  show xP _ _ _ _ _ (lv_args 0 _) _ _ _
  rw [show lv_args 0 [rv x0, .int x1] = [(0, rv x0), (1, .int x1)] from (xla1 (rv_cat _) (xla1 rfl xla0))]
  exact uX12_checkGoto hq
set_option maxRecDepth 100000 in
theorem dX12_checkAssign_0 : decode cX12_checkAssign 0 = .ok (.aload_n 0, 1) := by decide +kernel
set_option maxRecDepth 100000 in
theorem dX12_checkAssign_1 : decode cX12_checkAssign 1 = .ok (.getfield 73, 3) := by decide +kernel
set_option maxRecDepth 100000 in
theorem dX12_checkAssign_4 : decode cX12_checkAssign 4 = .ok (.iload_n 1, 1) := by decide +kernel
set_option maxRecDepth 100000 in
theorem dX12_checkAssign_5 : decode cX12_checkAssign 5 = .ok (.iaload, 1) := by decide +kernel
set_option maxRecDepth 100000 in
theorem dX12_checkAssign_6 : decode cX12_checkAssign 6 = .ok (.istore_n 2, 1) := by decide +kernel
set_option maxRecDepth 100000 in
theorem dX12_checkAssign_7 : decode cX12_checkAssign 7 = .ok (.aload_n 0, 1) := by decide +kernel
set_option maxRecDepth 100000 in
theorem dX12_checkAssign_8 : decode cX12_checkAssign 8 = .ok (.getfield 73, 3) := by decide +kernel
set_option maxRecDepth 100000 in
theorem dX12_checkAssign_11 : decode cX12_checkAssign 11 = .ok (.iload_n 2, 1) := by decide +kernel
set_option maxRecDepth 100000 in
theorem dX12_checkAssign_12 : decode cX12_checkAssign 12 = .ok (.iaload, 1) := by decide +kernel
set_option maxRecDepth 100000 in
theorem dX12_checkAssign_13 : decode cX12_checkAssign 13 = .ok (.iconst (-1), 1) := by decide +kernel
set_option maxRecDepth 100000 in
theorem dX12_checkAssign_14 : decode cX12_checkAssign 14 = .ok (.if_icmp .ne 16, 3) := by decide +kernel
set_option maxRecDepth 100000 in
theorem dX12_checkAssign_17 : decode cX12_checkAssign 17 = .ok (.aload_n 0, 1) := by decide +kernel
set_option maxRecDepth 100000 in
theorem dX12_checkAssign_18 : decode cX12_checkAssign 18 = .ok (.aload_n 0, 1) := by decide +kernel
set_option maxRecDepth 100000 in
theorem dX12_checkAssign_19 : decode cX12_checkAssign 19 = .ok (.getfield 70, 3) := by decide +kernel
set_option maxRecDepth 100000 in
theorem dX12_checkAssign_22 : decode cX12_checkAssign 22 = .ok (.iload_n 2, 1) := by decide +kernel
set_option maxRecDepth 100000 in
theorem dX12_checkAssign_23 : decode cX12_checkAssign 23 = .ok (.iaload, 1) := by decide +kernel
set_option maxRecDepth 100000 in
theorem dX12_checkAssign_24 : decode cX12_checkAssign 24 = .ok (.invokevirtual 573, 3) := by decide +kernel
set_option maxRecDepth 100000 in
theorem dX12_checkAssign_27 : decode cX12_checkAssign 27 = .ok (.goto 4, 3) := by decide +kernel
set_option maxRecDepth 100000 in
theorem dX12_checkAssign_30 : decode cX12_checkAssign 30 = .ok (.aconst_null, 1) := by decide +kernel
set_option maxRecDepth 100000 in
theorem dX12_checkAssign_31 : decode cX12_checkAssign 31 = .ok (.astore_n 3, 1) := by decide +kernel
set_option maxRecDepth 100000 in
theorem dX12_checkAssign_32 : decode cX12_checkAssign 32 = .ok (.aload_n 3, 1) := by decide +kernel
set_option maxRecDepth 100000 in
theorem dX12_checkAssign_33 : decode cX12_checkAssign 33 = .ok (.ifnull 53, 3) := by decide +kernel
set_option maxRecDepth 100000 in
theorem dX12_checkAssign_36 : decode cX12_checkAssign 36 = .ok (.aload_n 3, 1) := by decide +kernel
set_option maxRecDepth 100000 in
theorem dX12_checkAssign_37 : decode cX12_checkAssign 37 = .ok (.getfield 577, 3) := by decide +kernel
set_option maxRecDepth 100000 in
theorem dX12_checkAssign_40 : decode cX12_checkAssign 40 = .ok (.iconst 5, 1) := by decide +kernel
set_option maxRecDepth 100000 in
theorem dX12_checkAssign_41 : decode cX12_checkAssign 41 = .ok (.if_icmp .ne 45, 3) := by decide +kernel
set_option maxRecDepth 100000 in
theorem dX12_checkAssign_44 : decode cX12_checkAssign 44 = .ok (.aload_n 3, 1) := by decide +kernel
set_option maxRecDepth 100000 in
theorem dX12_checkAssign_45 : decode cX12_checkAssign 45 = .ok (.getfield 635, 3) := by decide +kernel
set_option maxRecDepth 100000 in
theorem dX12_checkAssign_48 : decode cX12_checkAssign 48 = .ok (.ifCond .eq 38, 3) := by decide +kernel
set_option maxRecDepth 100000 in
theorem dX12_checkAssign_51 : decode cX12_checkAssign 51 = .ok (.aload_n 3, 1) := by decide +kernel
set_option maxRecDepth 100000 in
theorem dX12_checkAssign_52 : decode cX12_checkAssign 52 = .ok (.getfield 940, 3) := by decide +kernel
set_option maxRecDepth 100000 in
theorem dX12_checkAssign_55 : decode cX12_checkAssign 55 = .ok (.ifCond .eq 31, 3) := by decide +kernel
set_option maxRecDepth 100000 in
theorem dX12_checkAssign_58 : decode cX12_checkAssign 58 = .ok (.aload_n 3, 1) := by decide +kernel
set_option maxRecDepth 100000 in
theorem dX12_checkAssign_59 : decode cX12_checkAssign 59 = .ok (.getfield 958, 3) := by decide +kernel
set_option maxRecDepth 100000 in
theorem dX12_checkAssign_62 : decode cX12_checkAssign 62 = .ok (.ifCond .ne 24, 3) := by decide +kernel
set_option maxRecDepth 100000 in
theorem dX12_checkAssign_65 : decode cX12_checkAssign 65 = .ok (.aload_n 0, 1) := by decide +kernel
set_option maxRecDepth 100000 in
theorem dX12_checkAssign_66 : decode cX12_checkAssign 66 = .ok (.getfield 102, 3) := by decide +kernel
set_option maxRecDepth 100000 in
theorem dX12_checkAssign_69 : decode cX12_checkAssign 69 = .ok (.iload_n 2, 1) := by decide +kernel
set_option maxRecDepth 100000 in
theorem dX12_checkAssign_70 : decode cX12_checkAssign 70 = .ok (.aload_n 3, 1) := by decide +kernel
set_option maxRecDepth 100000 in
theorem dX12_checkAssign_71 : decode cX12_checkAssign 71 = .ok (.aastore, 1) := by decide +kernel
set_option maxRecDepth 100000 in
theorem dX12_checkAssign_72 : decode cX12_checkAssign 72 = .ok (.aload_n 3, 1) := by decide +kernel
set_option maxRecDepth 100000 in
theorem dX12_checkAssign_73 : decode cX12_checkAssign 73 = .ok (.iconst 1, 1) := by decide +kernel
set_option maxRecDepth 100000 in
theorem dX12_checkAssign_74 : decode cX12_checkAssign 74 = .ok (.putfield 946, 3) := by decide +kernel
set_option maxRecDepth 100000 in
theorem dX12_checkAssign_77 : decode cX12_checkAssign 77 = .ok (.aload_n 3, 1) := by decide +kernel
set_option maxRecDepth 100000 in
theorem dX12_checkAssign_78 : decode cX12_checkAssign 78 = .ok (.getfield 612, 3) := by decide +kernel
set_option maxRecDepth 100000 in
theorem dX12_checkAssign_81 : decode cX12_checkAssign 81 = .ok (.astore 4, 2) := by decide +kernel
set_option maxRecDepth 100000 in
theorem dX12_checkAssign_83 : decode cX12_checkAssign 83 = .ok (.goto 36, 3) := by decide +kernel
set_option maxRecDepth 100000 in
theorem dX12_checkAssign_86 : decode cX12_checkAssign 86 = .ok (.aload_n 0, 1) := by decide +kernel
set_option maxRecDepth 100000 in
theorem dX12_checkAssign_87 : decode cX12_checkAssign 87 = .ok (.iload_n 2, 1) := by decide +kernel
set_option maxRecDepth 100000 in
theorem dX12_checkAssign_88 : decode cX12_checkAssign 88 = .ok (.invokevirtual 1003, 3) := by decide +kernel
set_option maxRecDepth 100000 in
theorem dX12_checkAssign_91 : decode cX12_checkAssign 91 = .ok (.astore 4, 2) := by decide +kernel
set_option maxRecDepth 100000 in
theorem dX12_checkAssign_93 : decode cX12_checkAssign 93 = .ok (.aload_n 0, 1) := by decide +kernel
set_option maxRecDepth 100000 in
theorem dX12_checkAssign_94 : decode cX12_checkAssign 94 = .ok (.getfield 73, 3) := by decide +kernel
set_option maxRecDepth 100000 in
theorem dX12_checkAssign_97 : decode cX12_checkAssign 97 = .ok (.iload_n 2, 1) := by decide +kernel
set_option maxRecDepth 100000 in
theorem dX12_checkAssign_98 : decode cX12_checkAssign 98 = .ok (.iaload, 1) := by decide +kernel
set_option maxRecDepth 100000 in
theorem dX12_checkAssign_99 : decode cX12_checkAssign 99 = .ok (.iconst (-1), 1) := by decide +kernel
set_option maxRecDepth 100000 in
theorem dX12_checkAssign_100 : decode cX12_checkAssign 100 = .ok (.if_icmp .ne 19, 3) := by decide +kernel
set_option maxRecDepth 100000 in
theorem dX12_checkAssign_103 : decode cX12_checkAssign 103 = .ok (.aload_n 0, 1) := by decide +kernel
set_option maxRecDepth 100000 in
theorem dX12_checkAssign_104 : decode cX12_checkAssign 104 = .ok (.aload_n 0, 1) := by decide +kernel
set_option maxRecDepth 100000 in
theorem dX12_checkAssign_105 : decode cX12_checkAssign 105 = .ok (.getfield 102, 3) := by decide +kernel
set_option maxRecDepth 100000 in
theorem dX12_checkAssign_108 : decode cX12_checkAssign 108 = .ok (.iload_n 2, 1) := by decide +kernel
set_option maxRecDepth 100000 in
theorem dX12_checkAssign_109 : decode cX12_checkAssign 109 = .ok (.aaload, 1) := by decide +kernel
set_option maxRecDepth 100000 in
theorem dX12_checkAssign_110 : decode cX12_checkAssign 110 = .ok (.aload_n 0, 1) := by decide +kernel
set_option maxRecDepth 100000 in
theorem dX12_checkAssign_111 : decode cX12_checkAssign 111 = .ok (.getfield 70, 3) := by decide +kernel
set_option maxRecDepth 100000 in
theorem dX12_checkAssign_114 : decode cX12_checkAssign 114 = .ok (.iload_n 2, 1) := by decide +kernel
set_option maxRecDepth 100000 in
theorem dX12_checkAssign_115 : decode cX12_checkAssign 115 = .ok (.iaload, 1) := by decide +kernel
set_option maxRecDepth 100000 in
theorem dX12_checkAssign_116 : decode cX12_checkAssign 116 = .ok (.invokevirtual 1009, 3) := by decide +kernel
set_option maxRecDepth 100000 in
theorem dX12_checkAssign_119 : decode cX12_checkAssign 119 = .ok (.aload_n 0, 1) := by decide +kernel
set_option maxRecDepth 100000 in
theorem dX12_checkAssign_120 : decode cX12_checkAssign 120 = .ok (.getfield 96, 3) := by decide +kernel
set_option maxRecDepth 100000 in
theorem dX12_checkAssign_123 : decode cX12_checkAssign 123 = .ok (.iload_n 2, 1) := by decide +kernel
set_option maxRecDepth 100000 in
theorem dX12_checkAssign_124 : decode cX12_checkAssign 124 = .ok (.aload 4, 2) := by decide +kernel
set_option maxRecDepth 100000 in
theorem dX12_checkAssign_126 : decode cX12_checkAssign 126 = .ok (.aastore, 1) := by decide +kernel
set_option maxRecDepth 100000 in
theorem dX12_checkAssign_127 : decode cX12_checkAssign 127 = .ok (.aload_n 0, 1) := by decide +kernel
set_option maxRecDepth 100000 in
theorem dX12_checkAssign_128 : decode cX12_checkAssign 128 = .ok (.aload_n 0, 1) := by decide +kernel
set_option maxRecDepth 100000 in
theorem dX12_checkAssign_129 : decode cX12_checkAssign 129 = .ok (.iload_n 1, 1) := by decide +kernel
set_option maxRecDepth 100000 in
theorem dX12_checkAssign_130 : decode cX12_checkAssign 130 = .ok (.iconst 1, 1) := by decide +kernel
set_option maxRecDepth 100000 in
theorem dX12_checkAssign_131 : decode cX12_checkAssign 131 = .ok (.invokevirtual 734, 3) := by decide +kernel
set_option maxRecDepth 100000 in
theorem dX12_checkAssign_134 : decode cX12_checkAssign 134 = .ok (.invokevirtual 989, 3) := by decide +kernel
set_option maxRecDepth 100000 in
theorem dX12_checkAssign_137 : decode cX12_checkAssign 137 = .ok (.astore 5, 2) := by decide +kernel
set_option maxRecDepth 100000 in
theorem dX12_checkAssign_139 : decode cX12_checkAssign 139 = .ok (.aload_n 0, 1) := by decide +kernel
set_option maxRecDepth 100000 in
theorem dX12_checkAssign_140 : decode cX12_checkAssign 140 = .ok (.aload 5, 2) := by decide +kernel
set_option maxRecDepth 100000 in
theorem dX12_checkAssign_142 : decode cX12_checkAssign 142 = .ok (.aload 4, 2) := by decide +kernel
set_option maxRecDepth 100000 in
theorem dX12_checkAssign_144 : decode cX12_checkAssign 144 = .ok (.invokevirtual 999, 3) := by decide +kernel
set_option maxRecDepth 100000 in
theorem dX12_checkAssign_147 : decode cX12_checkAssign 147 = .ok (.ifCond .ne 15, 3) := by decide +kernel
set_option maxRecDepth 100000 in
theorem dX12_checkAssign_150 : decode cX12_checkAssign 150 = .ok (.aload_n 0, 1) := by decide +kernel
set_option maxRecDepth 100000 in
theorem dX12_checkAssign_151 : decode cX12_checkAssign 151 = .ok (.bipush 7, 2) := by decide +kernel
set_option maxRecDepth 100000 in
theorem dX12_checkAssign_153 : decode cX12_checkAssign 153 = .ok (.aload_n 0, 1) := by decide +kernel
set_option maxRecDepth 100000 in
theorem dX12_checkAssign_154 : decode cX12_checkAssign 154 = .ok (.getfield 82, 3) := by decide +kernel
set_option maxRecDepth 100000 in
theorem dX12_checkAssign_157 : decode cX12_checkAssign 157 = .ok (.iload_n 1, 1) := by decide +kernel
set_option maxRecDepth 100000 in
theorem dX12_checkAssign_158 : decode cX12_checkAssign 158 = .ok (.iaload, 1) := by decide +kernel
set_option maxRecDepth 100000 in
theorem dX12_checkAssign_159 : decode cX12_checkAssign 159 = .ok (.invokevirtual 570, 3) := by decide +kernel
set_option maxRecDepth 100000 in
theorem dX12_checkAssign_162 : decode cX12_checkAssign 162 = .ok (.return_, 1) := by decide +kernel
set_option maxRecDepth 100000 in
def bX12_checkAssign_162 (G : xG) (fr lo : Nat) (h : xH) (Q : Outcome → xH → Prop) : Prop := Q (.returned none) h
set_option maxRecDepth 100000 in
theorem uX12_checkAssign_162 {G : xG} {fr lo : Nat} {h : xH} {Q : Outcome → xH → Prop} (hq : bX12_checkAssign_162 G fr lo h Q) : xP G YX12_checkAssign fr lo 162 [] [] h Q := by
  unfold bX12_checkAssign_162 at hq
  exact x_vret rfl dX12_checkAssign_162 hq
set_option maxRecDepth 100000 in
def bX12_checkAssign_119 (G : xG) (fr lo : Nat) (x0 : Nat) (x1 : Int32) (x2 : Int32) (x4 : Nat) (h : xH) (Q : Outcome → xH → Prop) : Prop := tg h x0 = 13 ∧ tg h (fR h x0 3113) = 108 ∧ tg h x4 = 14 ∧ vp_in x2 (ln h (fR h x0 3113)) ∧ (∀ h5 : xH, h5 = tR h (fR h x0 3113) (Int32.toNatClampNeg x2) x4 → 1 ≤ fr ∧ 17 ≤ lo ∧ xRi G YX12_child (fr - 1) (lo - 17) [rv x0, .int x1, .int 1] h5 (fun x11 h10 => xext h5 h10 → 1 ≤ fr ∧ 15 ≤ lo ∧ xRr G YX12_checkE (fr - 1) (lo - 15) [rv x0, .int x11] h10 (fun x17 h16 => xext h10 h16 → 1 ≤ fr ∧ 14 ≤ lo ∧ xRi G YX12_fits (fr - 1) (lo - 14) [rv x0, rv x17, rv x4] h16 (fun x23 h22 => xext h16 h22 → ((¬ x23 = 0 → bX12_checkAssign_162 G fr lo h22 Q) ∧ (x23 = 0 → tg h22 (fR h22 x0 3106) = 100 ∧ vp_in x1 (ln h22 (fR h22 x0 3106)) ∧ 1 ≤ fr ∧ 14 ≤ lo ∧ xRv G YX12_refuse (fr - 1) (lo - 14) [rv x0, .int 7, .int (aI h22 (fR h22 x0 3106) (Int32.toNatClampNeg x1))] h22 (fun h31 => xext h22 h31 → bX12_checkAssign_162 G fr lo h31 Q) (fun r h2 => Q (.threw r) h2)))) (fun r h2 => Q (.threw r) h2)) (fun r h2 => Q (.threw r) h2)) (fun r h2 => Q (.threw r) h2))
set_option maxRecDepth 100000 in
theorem uX12_checkAssign_119 {G : xG} {fr lo : Nat} {x0 : Nat} {x1 : Int32} {x2 : Int32} {x4 : Nat} {h : xH} {Q : Outcome → xH → Prop} (hq : bX12_checkAssign_119 G fr lo x0 x1 x2 x4 h Q) : xP G YX12_checkAssign fr lo 119 [(0, rv x0), (1, .int x1), (2, .int x2), (4, rv x4)] [] h Q := by
  unfold bX12_checkAssign_119 at hq
  refine x_aload_n 0 dX12_checkAssign_119 rfl ?_
  obtain ⟨g1, hq⟩ := hq
  refine x_get (v := rv (fR h x0 3113)) fdX12_96 dX12_checkAssign_120 g1 rfl ?_
  refine x_iload_n 2 dX12_checkAssign_123 rfl ?_
  refine x_aload 3 dX12_checkAssign_124 rfl ?_
  obtain ⟨g2, hq⟩ := hq
  obtain ⟨g3, hq⟩ := hq
  obtain ⟨i4, hq⟩ := hq
  obtain ⟨h5, e6⟩ : ∃ y, y = tR h (fR h x0 3113) (Int32.toNatClampNeg x2) x4 := ⟨_, rfl⟩
  replace hq := hq h5 e6
  refine x_aast 8 13 as_8_13 g2 (Or.inl (by rw [g2]; rfl)) g3 i4 dX12_checkAssign_126 e6 ?_
  refine x_aload_n 0 dX12_checkAssign_127 rfl ?_
  refine x_aload_n 0 dX12_checkAssign_128 rfl ?_
  refine x_iload_n 1 dX12_checkAssign_129 rfl ?_
  refine x_iconst (v := 1) dX12_checkAssign_130 (by decide) ?_
  have t7 : tg h5 x0 = 13 := by rw [e6]; exact g1
  obtain ⟨g8, g9, hq⟩ := hq
  refine x_callV (Yc := YX12_child) (as := [.int x1, .int 1]) (st := [rv x0]) q4126 mvX12_child t7 rfl dX12_checkAssign_131 (xle (xal1 (rv_cat _) (xal1 rfl (xal1 rfl xal0))) (by decide)) (xfr g8) (xlo (xsw1 (rv_cat _) xsw0) (by decide) g9) (xKi hq (fun x11 h10 hq e12 => ?_) (fun _ _ q _ => q))
  replace hq := hq e12
  have t13 : tg h10 x0 = 13 := e12.tg t7 (by decide)
  obtain ⟨g14, g15, hq⟩ := hq
  refine x_callV (Yc := YX12_checkE) (as := [.int x11]) (st := []) q4308 mvX12_checkE t13 rfl dX12_checkAssign_134 (xle (xal1 (rv_cat _) (xal1 rfl xal0)) (by decide)) (xfr g14) (xlo xsw0 (by decide) g15) (xKr hq (fun x17 h16 hq e18 => ?_) (fun _ _ q _ => q))
  replace hq := hq e18
  refine x_astore (lv' := [(5, rv x17), (0, rv x0), (1, .int x1), (2, .int x2), (4, rv x4)]) dX12_checkAssign_137 (by decide) (by first | rfl | (simp [rv_cat, Value.category]; done) | (simp [rv_cat, Value.category]; decide)) ?_
  refine x_aload_n 1 dX12_checkAssign_139 rfl ?_
  refine x_aload 0 dX12_checkAssign_140 rfl ?_
  refine x_aload 4 dX12_checkAssign_142 rfl ?_
  have t19 : tg h16 x0 = 13 := e18.tg t13 (by decide)
  obtain ⟨g20, g21, hq⟩ := hq
  refine x_callV (Yc := YX12_fits) (as := [rv x17, rv x4]) (st := []) q4371 mvX12_fits t19 rfl dX12_checkAssign_144 (xle (xal1 (rv_cat _) (xal1 (rv_cat _) (xal1 (rv_cat _) xal0))) (by decide)) (xfr g20) (xlo xsw0 (by decide) g21) (xKi hq (fun x23 h22 hq e24 => ?_) (fun _ _ q _ => q))
  replace hq := hq e24
  refine x_if_ne (tgt := 162) dX12_checkAssign_147 (by decide) (fun c25 => ?_) (fun c25 => ?_)
  · replace hq := hq.1 c25
    refine xP.pick (lv' := []) [] rfl ?_
    exact uX12_checkAssign_162 hq
  · replace hq := hq.2 c25
    refine x_aload_n 1 dX12_checkAssign_150 rfl ?_
    refine x_bipush (v := 7) dX12_checkAssign_151 (by decide) ?_
    refine x_aload_n 1 dX12_checkAssign_153 rfl ?_
    have t26 : tg h22 x0 = 13 := e24.tg t19 (by decide)
    refine x_get (v := rv (fR h22 x0 3106)) fdX12_82 dX12_checkAssign_154 t26 rfl ?_
    refine x_iload_n 2 dX12_checkAssign_157 rfl ?_
    obtain ⟨g27, hq⟩ := hq
    obtain ⟨i28, hq⟩ := hq
    refine x_iald 0 (Or.inl rfl) g27 i28 dX12_checkAssign_158 ?_
    obtain ⟨g29, g30, hq⟩ := hq
    refine x_callV (Yc := YX12_refuse) (as := [.int 7, .int (aI h22 (fR h22 x0 3106) (Int32.toNatClampNeg x1))]) (st := []) q4095 mvX12_refuse t26 rfl dX12_checkAssign_159 (xle (xal1 (rv_cat _) (xal1 rfl (xal1 rfl xal0))) (by decide)) (xfr g29) (xlo xsw0 (by decide) g30) (xKv hq (fun h31 hq e33 => ?_) (fun _ _ q _ => q))
    replace hq := hq e33
    refine xP.pick (lv' := []) [] rfl ?_
    exact uX12_checkAssign_162 hq
set_option maxRecDepth 100000 in
def bX12_checkAssign_86 (G : xG) (fr lo : Nat) (x0 : Nat) (x1 : Int32) (x2 : Int32) (h : xH) (Q : Outcome → xH → Prop) : Prop := tg h x0 = 13 ∧ 1 ≤ fr ∧ 17 ≤ lo ∧ xRr G YX12_checkVariable (fr - 1) (lo - 17) [rv x0, .int x2] h (fun x5 h4 => xext h h4 → tg h4 (fR h4 x0 3103) = 100 ∧ vp_in x2 (ln h4 (fR h4 x0 3103)) ∧ ((¬ (aI h4 (fR h4 x0 3103) (Int32.toNatClampNeg x2)) = (-1) → bX12_checkAssign_119 G fr lo x0 x1 x2 x5 h4 Q) ∧ ((aI h4 (fR h4 x0 3103) (Int32.toNatClampNeg x2)) = (-1) → tg h4 (fR h4 x0 3114) = 109 ∧ vp_in x2 (ln h4 (fR h4 x0 3114)) ∧ tg h4 (fR h4 x0 3102) = 100 ∧ vp_in x2 (ln h4 (fR h4 x0 3102)) ∧ 1 ≤ fr ∧ 14 ≤ lo ∧ xRv G YX12_threaten (fr - 1) (lo - 14) [rv x0, rv (aR h4 (fR h4 x0 3114) (Int32.toNatClampNeg x2)), .int (aI h4 (fR h4 x0 3102) (Int32.toNatClampNeg x2))] h4 (fun h17 => xext h4 h17 → bX12_checkAssign_119 G fr lo x0 x1 x2 x5 h17 Q) (fun r h2 => Q (.threw r) h2)))) (fun r h2 => Q (.threw r) h2)
set_option maxRecDepth 100000 in
theorem uX12_checkAssign_86 {G : xG} {fr lo : Nat} {x0 : Nat} {x1 : Int32} {x2 : Int32} {h : xH} {Q : Outcome → xH → Prop} (hq : bX12_checkAssign_86 G fr lo x0 x1 x2 h Q) : xP G YX12_checkAssign fr lo 86 [(0, rv x0), (1, .int x1), (2, .int x2)] [] h Q := by
  unfold bX12_checkAssign_86 at hq
  refine x_aload_n 0 dX12_checkAssign_86 rfl ?_
  refine x_iload_n 2 dX12_checkAssign_87 rfl ?_
  obtain ⟨g1, hq⟩ := hq
  obtain ⟨g2, g3, hq⟩ := hq
  refine x_callV (Yc := YX12_checkVariable) (as := [.int x2]) (st := []) q4367 mvX12_checkVariable g1 rfl dX12_checkAssign_88 (xle (xal1 (rv_cat _) (xal1 rfl xal0)) (by decide)) (xfr g2) (xlo xsw0 (by decide) g3) (xKr hq (fun x5 h4 hq e6 => ?_) (fun _ _ q _ => q))
  replace hq := hq e6
  refine x_astore (lv' := [(4, rv x5), (0, rv x0), (1, .int x1), (2, .int x2)]) dX12_checkAssign_91 (by decide) rfl ?_
  refine x_aload_n 1 dX12_checkAssign_93 rfl ?_
  have t7 : tg h4 x0 = 13 := e6.tg g1 (by decide)
  refine x_get (v := rv (fR h4 x0 3103)) fdX12_73 dX12_checkAssign_94 t7 rfl ?_
  refine x_iload_n 3 dX12_checkAssign_97 rfl ?_
  obtain ⟨g8, hq⟩ := hq
  obtain ⟨i9, hq⟩ := hq
  refine x_iald 0 (Or.inl rfl) g8 i9 dX12_checkAssign_98 ?_
  refine x_iconst (v := (-1)) dX12_checkAssign_99 (by decide) ?_
  refine x_icmp_ne (tgt := 119) dX12_checkAssign_100 (by decide) (fun c10 => ?_) (fun c10 => ?_)
  · replace hq := hq.1 c10
    refine xP.pick (lv' := [(0, rv x0), (1, .int x1), (2, .int x2), (4, rv x5)]) [1, 2, 3, 0] rfl ?_
    exact uX12_checkAssign_119 hq
  · replace hq := hq.2 c10
    refine x_aload_n 1 dX12_checkAssign_103 rfl ?_
    refine x_aload_n 1 dX12_checkAssign_104 rfl ?_
    refine x_get (v := rv (fR h4 x0 3114)) fdX12_102 dX12_checkAssign_105 t7 rfl ?_
    refine x_iload_n 3 dX12_checkAssign_108 rfl ?_
    obtain ⟨g11, hq⟩ := hq
    obtain ⟨i12, hq⟩ := hq
    refine x_aald 9 rfl g11 (by decide) i12 dX12_checkAssign_109 ?_
    refine x_aload_n 1 dX12_checkAssign_110 rfl ?_
    refine x_get (v := rv (fR h4 x0 3102)) fdX12_70 dX12_checkAssign_111 t7 rfl ?_
    refine x_iload_n 3 dX12_checkAssign_114 rfl ?_
    obtain ⟨g13, hq⟩ := hq
    obtain ⟨i14, hq⟩ := hq
    refine x_iald 0 (Or.inl rfl) g13 i14 dX12_checkAssign_115 ?_
    obtain ⟨g15, g16, hq⟩ := hq
    refine x_callV (Yc := YX12_threaten) (as := [rv (aR h4 (fR h4 x0 3114) (Int32.toNatClampNeg x2)), .int (aI h4 (fR h4 x0 3102) (Int32.toNatClampNeg x2))]) (st := []) q4389 mvX12_threaten t7 rfl dX12_checkAssign_116 (xle (xal1 (rv_cat _) (xal1 (rv_cat _) (xal1 rfl xal0))) (by decide)) (xfr g15) (xlo xsw0 (by decide) g16) (xKv hq (fun h17 hq e19 => ?_) (fun _ _ q _ => q))
    replace hq := hq e19
    refine xP.pick (lv' := [(0, rv x0), (1, .int x1), (2, .int x2), (4, rv x5)]) [1, 2, 3, 0] rfl ?_
    exact uX12_checkAssign_119 hq
set_option maxRecDepth 100000 in
def bX12_checkAssign_31 (G : xG) (fr lo : Nat) (x0 : Nat) (x1 : Int32) (x2 : Int32) (s0 : Nat) (h : xH) (Q : Outcome → xH → Prop) : Prop := ((s0 = 0 → bX12_checkAssign_86 G fr lo x0 x1 x2 h Q) ∧ (¬ s0 = 0 → tg h s0 = 24 ∧ ((¬ (fI h s0 5888) = 5 → bX12_checkAssign_86 G fr lo x0 x1 x2 h Q) ∧ ((fI h s0 5888) = 5 → (((fI h s0 5905) = 0 → bX12_checkAssign_86 G fr lo x0 x1 x2 h Q) ∧ (¬ (fI h s0 5905) = 0 → (((fI h s0 5909) = 0 → bX12_checkAssign_86 G fr lo x0 x1 x2 h Q) ∧ (¬ (fI h s0 5909) = 0 → ((¬ (fI h s0 5897) = 0 → bX12_checkAssign_86 G fr lo x0 x1 x2 h Q) ∧ ((fI h s0 5897) = 0 → tg h x0 = 13 ∧ tg h (fR h x0 3114) = 109 ∧ vp_in x2 (ln h (fR h x0 3114)) ∧ (∀ h10 : xH, h10 = tR h (fR h x0 3114) (Int32.toNatClampNeg x2) s0 → (∀ h13 : xH, h13 = sI h10 s0 5908 1 → bX12_checkAssign_119 G fr lo x0 x1 x2 (fR h13 s0 5890) h13 Q))))))))))))
set_option maxRecDepth 100000 in
theorem uX12_checkAssign_31 {G : xG} {fr lo : Nat} {x0 : Nat} {x1 : Int32} {x2 : Int32} {s0 : Nat} {h : xH} {Q : Outcome → xH → Prop} (hq : bX12_checkAssign_31 G fr lo x0 x1 x2 s0 h Q) : xP G YX12_checkAssign fr lo 31 [(0, rv x0), (1, .int x1), (2, .int x2)] [rv s0] h Q := by
  unfold bX12_checkAssign_31 at hq
  refine x_astore_n (lv' := [(3, rv s0), (0, rv x0), (1, .int x1), (2, .int x2)]) dX12_checkAssign_31 (by decide) rfl ?_
  refine x_aload_n 0 dX12_checkAssign_32 rfl ?_
  refine x_ifnull (tgt := 86) dX12_checkAssign_33 (by decide) (fun c1 => ?_) (fun c1 => ?_)
  · replace hq := hq.1 c1
    refine xP.pick (lv' := [(0, rv x0), (1, .int x1), (2, .int x2)]) [1, 2, 3] rfl ?_
    exact uX12_checkAssign_86 hq
  · replace hq := hq.2 c1
    refine x_aload_n 0 dX12_checkAssign_36 rfl ?_
    obtain ⟨g2, hq⟩ := hq
    refine x_get (v := .int (fI h s0 5888)) fdX12_577 dX12_checkAssign_37 g2 rfl ?_
    refine x_iconst (v := 5) dX12_checkAssign_40 (by decide) ?_
    refine x_icmp_ne (tgt := 86) dX12_checkAssign_41 (by decide) (fun c3 => ?_) (fun c3 => ?_)
    · replace hq := hq.1 c3
      refine xP.pick (lv' := [(0, rv x0), (1, .int x1), (2, .int x2)]) [1, 2, 3] rfl ?_
      exact uX12_checkAssign_86 hq
    · replace hq := hq.2 c3
      refine x_aload_n 0 dX12_checkAssign_44 rfl ?_
      refine x_get (v := .int (fI h s0 5905)) fdX12_635 dX12_checkAssign_45 g2 rfl ?_
      refine x_if_eq (tgt := 86) dX12_checkAssign_48 (by decide) (fun c4 => ?_) (fun c4 => ?_)
      · replace hq := hq.1 c4
        refine xP.pick (lv' := [(0, rv x0), (1, .int x1), (2, .int x2)]) [1, 2, 3] rfl ?_
        exact uX12_checkAssign_86 hq
      · replace hq := hq.2 c4
        refine x_aload_n 0 dX12_checkAssign_51 rfl ?_
        refine x_get (v := .int (fI h s0 5909)) fdX12_940 dX12_checkAssign_52 g2 rfl ?_
        refine x_if_eq (tgt := 86) dX12_checkAssign_55 (by decide) (fun c5 => ?_) (fun c5 => ?_)
        · replace hq := hq.1 c5
          refine xP.pick (lv' := [(0, rv x0), (1, .int x1), (2, .int x2)]) [1, 2, 3] rfl ?_
          exact uX12_checkAssign_86 hq
        · replace hq := hq.2 c5
          refine x_aload_n 0 dX12_checkAssign_58 rfl ?_
          refine x_get (v := .int (fI h s0 5897)) fdX12_958 dX12_checkAssign_59 g2 rfl ?_
          refine x_if_ne (tgt := 86) dX12_checkAssign_62 (by decide) (fun c6 => ?_) (fun c6 => ?_)
          · replace hq := hq.1 c6
            refine xP.pick (lv' := [(0, rv x0), (1, .int x1), (2, .int x2)]) [1, 2, 3] rfl ?_
            exact uX12_checkAssign_86 hq
          · replace hq := hq.2 c6
            refine x_aload_n 1 dX12_checkAssign_65 rfl ?_
            obtain ⟨g7, hq⟩ := hq
            refine x_get (v := rv (fR h x0 3114)) fdX12_102 dX12_checkAssign_66 g7 rfl ?_
            refine x_iload_n 3 dX12_checkAssign_69 rfl ?_
            refine x_aload_n 0 dX12_checkAssign_70 rfl ?_
            obtain ⟨g8, hq⟩ := hq
            obtain ⟨i9, hq⟩ := hq
            obtain ⟨h10, e11⟩ : ∃ y, y = tR h (fR h x0 3114) (Int32.toNatClampNeg x2) s0 := ⟨_, rfl⟩
            replace hq := hq h10 e11
            refine x_aast 9 23 as_9_23 g8 (Or.inl (by rw [g8]; rfl)) g2 i9 dX12_checkAssign_71 e11 ?_
            refine x_aload_n 0 dX12_checkAssign_72 rfl ?_
            refine x_iconst (v := 1) dX12_checkAssign_73 (by decide) ?_
            have t12 : tg h10 s0 = 24 := by rw [e11]; exact g2
            obtain ⟨h13, e14⟩ : ∃ y, y = sI h10 s0 5908 1 := ⟨_, rfl⟩
            replace hq := hq h13 e14
            refine x_putI fdX12_946 xty_Z1 dX12_checkAssign_74 t12 (Or.inl (by rw [t12]; rfl)) (xnB (Or.inr rfl)) rfl e14 ?_
            refine x_aload_n 0 dX12_checkAssign_77 rfl ?_
            have t15 : tg h13 s0 = 24 := by rw [e14]; exact t12
            refine x_get (v := rv (fR h13 s0 5890)) fdX12_612 dX12_checkAssign_78 t15 rfl ?_
            refine x_astore (lv' := [(4, rv (fR h13 s0 5890)), (3, rv s0), (0, rv x0), (1, .int x1), (2, .int x2)]) dX12_checkAssign_81 (by decide) (by first | rfl | (simp [rv_cat, Value.category]; done) | (simp [rv_cat, Value.category]; decide)) ?_
            refine x_goto (tgt := 119) dX12_checkAssign_83 (by decide) ?_
            refine xP.pick (lv' := [(0, rv x0), (1, .int x1), (2, .int x2), (4, rv (fR h13 s0 5890))]) [2, 3, 4, 0] rfl ?_
            exact uX12_checkAssign_119 hq
set_option maxRecDepth 100000 in
def bX12_checkAssign (G : xG) (fr lo : Nat) (x0 : Nat) (x1 : Int32) (h : xH) (Q : Outcome → xH → Prop) : Prop := tg h x0 = 13 ∧ tg h (fR h x0 3103) = 100 ∧ vp_in x1 (ln h (fR h x0 3103)) ∧ vp_in (aI h (fR h x0 3103) (Int32.toNatClampNeg x1)) (ln h (fR h x0 3103)) ∧ ((¬ (aI h (fR h x0 3103) (Int32.toNatClampNeg (aI h (fR h x0 3103) (Int32.toNatClampNeg x1)))) = (-1) → bX12_checkAssign_31 G fr lo x0 x1 (aI h (fR h x0 3103) (Int32.toNatClampNeg x1)) 0 h Q) ∧ ((aI h (fR h x0 3103) (Int32.toNatClampNeg (aI h (fR h x0 3103) (Int32.toNatClampNeg x1)))) = (-1) → tg h (fR h x0 3102) = 100 ∧ vp_in (aI h (fR h x0 3103) (Int32.toNatClampNeg x1)) (ln h (fR h x0 3102)) ∧ 1 ≤ fr ∧ 15 ≤ lo ∧ xRr G YX12_find (fr - 1) (lo - 15) [rv x0, .int (aI h (fR h x0 3102) (Int32.toNatClampNeg (aI h (fR h x0 3103) (Int32.toNatClampNeg x1))))] h (fun x11 h10 => xext h h10 → bX12_checkAssign_31 G fr lo x0 x1 (aI h (fR h x0 3103) (Int32.toNatClampNeg x1)) x11 h10 Q) (fun r h2 => Q (.threw r) h2)))
set_option maxRecDepth 100000 in
theorem uX12_checkAssign {G : xG} {fr lo : Nat} {x0 : Nat} {x1 : Int32} {h : xH} {Q : Outcome → xH → Prop} (hq : bX12_checkAssign G fr lo x0 x1 h Q) : xP G YX12_checkAssign fr lo 0 [(0, rv x0), (1, .int x1)] [] h Q := by
  unfold bX12_checkAssign at hq
  refine x_aload_n 0 dX12_checkAssign_0 rfl ?_
  obtain ⟨g1, hq⟩ := hq
  refine x_get (v := rv (fR h x0 3103)) fdX12_73 dX12_checkAssign_1 g1 rfl ?_
  refine x_iload_n 1 dX12_checkAssign_4 rfl ?_
  obtain ⟨g2, hq⟩ := hq
  obtain ⟨i3, hq⟩ := hq
  refine x_iald 0 (Or.inl rfl) g2 i3 dX12_checkAssign_5 ?_
  refine x_istore_n (lv' := [(2, .int (aI h (fR h x0 3103) (Int32.toNatClampNeg x1))), (0, rv x0), (1, .int x1)]) dX12_checkAssign_6 (by decide) rfl ?_
  refine x_aload_n 1 dX12_checkAssign_7 rfl ?_
  refine x_get (v := rv (fR h x0 3103)) fdX12_73 dX12_checkAssign_8 g1 rfl ?_
  refine x_iload_n 0 dX12_checkAssign_11 rfl ?_
  obtain ⟨i4, hq⟩ := hq
  refine x_iald 0 (Or.inl rfl) g2 i4 dX12_checkAssign_12 ?_
  refine x_iconst (v := (-1)) dX12_checkAssign_13 (by decide) ?_
  refine x_icmp_ne (tgt := 30) dX12_checkAssign_14 (by decide) (fun c5 => ?_) (fun c5 => ?_)
  · replace hq := hq.1 c5
    refine x_null dX12_checkAssign_30 ?_
    refine xP.pick (lv' := [(0, rv x0), (1, .int x1), (2, .int (aI h (fR h x0 3103) (Int32.toNatClampNeg x1)))]) [1, 2, 0] rfl ?_
    exact uX12_checkAssign_31 hq
  · replace hq := hq.2 c5
    refine x_aload_n 1 dX12_checkAssign_17 rfl ?_
    refine x_aload_n 1 dX12_checkAssign_18 rfl ?_
    refine x_get (v := rv (fR h x0 3102)) fdX12_70 dX12_checkAssign_19 g1 rfl ?_
    refine x_iload_n 0 dX12_checkAssign_22 rfl ?_
    obtain ⟨g6, hq⟩ := hq
    obtain ⟨i7, hq⟩ := hq
    refine x_iald 0 (Or.inl rfl) g6 i7 dX12_checkAssign_23 ?_
    obtain ⟨g8, g9, hq⟩ := hq
    refine x_callV (Yc := YX12_find) (as := [.int (aI h (fR h x0 3102) (Int32.toNatClampNeg (aI h (fR h x0 3103) (Int32.toNatClampNeg x1))))]) (st := []) q4161 mvX12_find g1 rfl dX12_checkAssign_24 (xle (xal1 (rv_cat _) (xal1 rfl xal0)) (by decide)) (xfr g8) (xlo xsw0 (by decide) g9) (xKr hq (fun x11 h10 hq e12 => ?_) (fun _ _ q _ => q))
    replace hq := hq e12
    refine x_goto (tgt := 31) dX12_checkAssign_27 (by decide) ?_
    refine xP.pick (lv' := [(0, rv x0), (1, .int x1), (2, .int (aI h (fR h x0 3103) (Int32.toNatClampNeg x1)))]) [1, 2, 0] rfl ?_
    exact uX12_checkAssign_31 hq
theorem rX12_checkAssign {G : xG} {fr lo : Nat} {x0 : Nat} {x1 : Int32} {h : xH} {Q : Outcome → xH → Prop} (hq : bX12_checkAssign G fr lo x0 x1 h Q) : xR G YX12_checkAssign fr lo [rv x0, .int x1] h Q := by
  show xP _ _ _ _ _ (lv_args 0 _) _ _ _
  rw [show lv_args 0 [rv x0, .int x1] = [(0, rv x0), (1, .int x1)] from (xla1 (rv_cat _) (xla1 rfl xla0))]
  exact uX12_checkAssign hq
set_option maxRecDepth 100000 in
theorem dX12_checkCall_0 : decode cX12_checkCall 0 = .ok (.aload_n 0, 1) := by decide +kernel
set_option maxRecDepth 100000 in
theorem dX12_checkCall_1 : decode cX12_checkCall 1 = .ok (.aload_n 0, 1) := by decide +kernel
set_option maxRecDepth 100000 in
theorem dX12_checkCall_2 : decode cX12_checkCall 2 = .ok (.getfield 70, 3) := by decide +kernel
set_option maxRecDepth 100000 in
theorem dX12_checkCall_5 : decode cX12_checkCall 5 = .ok (.iload_n 1, 1) := by decide +kernel
set_option maxRecDepth 100000 in
theorem dX12_checkCall_6 : decode cX12_checkCall 6 = .ok (.iaload, 1) := by decide +kernel
set_option maxRecDepth 100000 in
theorem dX12_checkCall_7 : decode cX12_checkCall 7 = .ok (.iconst 5, 1) := by decide +kernel
set_option maxRecDepth 100000 in
theorem dX12_checkCall_8 : decode cX12_checkCall 8 = .ok (.invokevirtual 838, 3) := by decide +kernel
set_option maxRecDepth 100000 in
theorem dX12_checkCall_11 : decode cX12_checkCall 11 = .ok (.astore_n 2, 1) := by decide +kernel
set_option maxRecDepth 100000 in
theorem dX12_checkCall_12 : decode cX12_checkCall 12 = .ok (.aload_n 2, 1) := by decide +kernel
set_option maxRecDepth 100000 in
theorem dX12_checkCall_13 : decode cX12_checkCall 13 = .ok (.getfield 635, 3) := by decide +kernel
set_option maxRecDepth 100000 in
theorem dX12_checkCall_16 : decode cX12_checkCall 16 = .ok (.ifCond .eq 15, 3) := by decide +kernel
set_option maxRecDepth 100000 in
theorem dX12_checkCall_19 : decode cX12_checkCall 19 = .ok (.aload_n 0, 1) := by decide +kernel
set_option maxRecDepth 100000 in
theorem dX12_checkCall_20 : decode cX12_checkCall 20 = .ok (.bipush 6, 2) := by decide +kernel
set_option maxRecDepth 100000 in
theorem dX12_checkCall_22 : decode cX12_checkCall 22 = .ok (.aload_n 0, 1) := by decide +kernel
set_option maxRecDepth 100000 in
theorem dX12_checkCall_23 : decode cX12_checkCall 23 = .ok (.getfield 70, 3) := by decide +kernel
set_option maxRecDepth 100000 in
theorem dX12_checkCall_26 : decode cX12_checkCall 26 = .ok (.iload_n 1, 1) := by decide +kernel
set_option maxRecDepth 100000 in
theorem dX12_checkCall_27 : decode cX12_checkCall 27 = .ok (.iaload, 1) := by decide +kernel
set_option maxRecDepth 100000 in
theorem dX12_checkCall_28 : decode cX12_checkCall 28 = .ok (.invokevirtual 570, 3) := by decide +kernel
set_option maxRecDepth 100000 in
theorem dX12_checkCall_31 : decode cX12_checkCall 31 = .ok (.aload_n 0, 1) := by decide +kernel
set_option maxRecDepth 100000 in
theorem dX12_checkCall_32 : decode cX12_checkCall 32 = .ok (.getfield 102, 3) := by decide +kernel
set_option maxRecDepth 100000 in
theorem dX12_checkCall_35 : decode cX12_checkCall 35 = .ok (.iload_n 1, 1) := by decide +kernel
set_option maxRecDepth 100000 in
theorem dX12_checkCall_36 : decode cX12_checkCall 36 = .ok (.aload_n 2, 1) := by decide +kernel
set_option maxRecDepth 100000 in
theorem dX12_checkCall_37 : decode cX12_checkCall 37 = .ok (.aastore, 1) := by decide +kernel
set_option maxRecDepth 100000 in
theorem dX12_checkCall_38 : decode cX12_checkCall 38 = .ok (.aload_n 2, 1) := by decide +kernel
set_option maxRecDepth 100000 in
theorem dX12_checkCall_39 : decode cX12_checkCall 39 = .ok (.getfield 632, 3) := by decide +kernel
set_option maxRecDepth 100000 in
theorem dX12_checkCall_42 : decode cX12_checkCall 42 = .ok (.ifCond .le 10, 3) := by decide +kernel
set_option maxRecDepth 100000 in
theorem dX12_checkCall_45 : decode cX12_checkCall 45 = .ok (.aload_n 0, 1) := by decide +kernel
set_option maxRecDepth 100000 in
theorem dX12_checkCall_46 : decode cX12_checkCall 46 = .ok (.iload_n 1, 1) := by decide +kernel
set_option maxRecDepth 100000 in
theorem dX12_checkCall_47 : decode cX12_checkCall 47 = .ok (.aload_n 2, 1) := by decide +kernel
set_option maxRecDepth 100000 in
theorem dX12_checkCall_48 : decode cX12_checkCall 48 = .ok (.invokevirtual 1013, 3) := by decide +kernel
set_option maxRecDepth 100000 in
theorem dX12_checkCall_51 : decode cX12_checkCall 51 = .ok (.return_, 1) := by decide +kernel
set_option maxRecDepth 100000 in
theorem dX12_checkCall_52 : decode cX12_checkCall 52 = .ok (.iconst 0, 1) := by decide +kernel
set_option maxRecDepth 100000 in
theorem dX12_checkCall_53 : decode cX12_checkCall 53 = .ok (.istore_n 3, 1) := by decide +kernel
set_option maxRecDepth 100000 in
theorem dX12_checkCall_54 : decode cX12_checkCall 54 = .ok (.aload_n 0, 1) := by decide +kernel
set_option maxRecDepth 100000 in
theorem dX12_checkCall_55 : decode cX12_checkCall 55 = .ok (.getfield 73, 3) := by decide +kernel
set_option maxRecDepth 100000 in
theorem dX12_checkCall_58 : decode cX12_checkCall 58 = .ok (.iload_n 1, 1) := by decide +kernel
set_option maxRecDepth 100000 in
theorem dX12_checkCall_59 : decode cX12_checkCall 59 = .ok (.iaload, 1) := by decide +kernel
set_option maxRecDepth 100000 in
theorem dX12_checkCall_60 : decode cX12_checkCall 60 = .ok (.istore 4, 2) := by decide +kernel
set_option maxRecDepth 100000 in
theorem dX12_checkCall_62 : decode cX12_checkCall 62 = .ok (.iload 4, 2) := by decide +kernel
set_option maxRecDepth 100000 in
theorem dX12_checkCall_64 : decode cX12_checkCall 64 = .ok (.iconst (-1), 1) := by decide +kernel
set_option maxRecDepth 100000 in
theorem dX12_checkCall_65 : decode cX12_checkCall 65 = .ok (.if_icmp .eq 18, 3) := by decide +kernel
set_option maxRecDepth 100000 in
theorem dX12_checkCall_68 : decode cX12_checkCall 68 = .ok (.iinc 3 1, 3) := by decide +kernel
set_option maxRecDepth 100000 in
theorem dX12_checkCall_71 : decode cX12_checkCall 71 = .ok (.aload_n 0, 1) := by decide +kernel
set_option maxRecDepth 100000 in
theorem dX12_checkCall_72 : decode cX12_checkCall 72 = .ok (.getfield 79, 3) := by decide +kernel
set_option maxRecDepth 100000 in
theorem dX12_checkCall_75 : decode cX12_checkCall 75 = .ok (.iload 4, 2) := by decide +kernel
set_option maxRecDepth 100000 in
theorem dX12_checkCall_77 : decode cX12_checkCall 77 = .ok (.iaload, 1) := by decide +kernel
set_option maxRecDepth 100000 in
theorem dX12_checkCall_78 : decode cX12_checkCall 78 = .ok (.istore 4, 2) := by decide +kernel
set_option maxRecDepth 100000 in
theorem dX12_checkCall_80 : decode cX12_checkCall 80 = .ok (.goto (-18), 3) := by decide +kernel
set_option maxRecDepth 100000 in
theorem dX12_checkCall_83 : decode cX12_checkCall 83 = .ok (.iload_n 3, 1) := by decide +kernel
set_option maxRecDepth 100000 in
theorem dX12_checkCall_84 : decode cX12_checkCall 84 = .ok (.aload_n 2, 1) := by decide +kernel
set_option maxRecDepth 100000 in
theorem dX12_checkCall_85 : decode cX12_checkCall 85 = .ok (.getfield 949, 3) := by decide +kernel
set_option maxRecDepth 100000 in
theorem dX12_checkCall_88 : decode cX12_checkCall 88 = .ok (.invokevirtual 554, 3) := by decide +kernel
set_option maxRecDepth 100000 in
theorem dX12_checkCall_91 : decode cX12_checkCall 91 = .ok (.if_icmp .eq 15, 3) := by decide +kernel
set_option maxRecDepth 100000 in
theorem dX12_checkCall_94 : decode cX12_checkCall 94 = .ok (.aload_n 0, 1) := by decide +kernel
set_option maxRecDepth 100000 in
theorem dX12_checkCall_95 : decode cX12_checkCall 95 = .ok (.bipush 9, 2) := by decide +kernel
set_option maxRecDepth 100000 in
theorem dX12_checkCall_97 : decode cX12_checkCall 97 = .ok (.aload_n 0, 1) := by decide +kernel
set_option maxRecDepth 100000 in
theorem dX12_checkCall_98 : decode cX12_checkCall 98 = .ok (.getfield 70, 3) := by decide +kernel
set_option maxRecDepth 100000 in
theorem dX12_checkCall_101 : decode cX12_checkCall 101 = .ok (.iload_n 1, 1) := by decide +kernel
set_option maxRecDepth 100000 in
theorem dX12_checkCall_102 : decode cX12_checkCall 102 = .ok (.iaload, 1) := by decide +kernel
set_option maxRecDepth 100000 in
theorem dX12_checkCall_103 : decode cX12_checkCall 103 = .ok (.invokevirtual 570, 3) := by decide +kernel
set_option maxRecDepth 100000 in
theorem dX12_checkCall_106 : decode cX12_checkCall 106 = .ok (.iconst 0, 1) := by decide +kernel
set_option maxRecDepth 100000 in
theorem dX12_checkCall_107 : decode cX12_checkCall 107 = .ok (.istore 4, 2) := by decide +kernel
set_option maxRecDepth 100000 in
theorem dX12_checkCall_109 : decode cX12_checkCall 109 = .ok (.aload_n 0, 1) := by decide +kernel
set_option maxRecDepth 100000 in
theorem dX12_checkCall_110 : decode cX12_checkCall 110 = .ok (.getfield 73, 3) := by decide +kernel
set_option maxRecDepth 100000 in
theorem dX12_checkCall_113 : decode cX12_checkCall 113 = .ok (.iload_n 1, 1) := by decide +kernel
set_option maxRecDepth 100000 in
theorem dX12_checkCall_114 : decode cX12_checkCall 114 = .ok (.iaload, 1) := by decide +kernel
set_option maxRecDepth 100000 in
theorem dX12_checkCall_115 : decode cX12_checkCall 115 = .ok (.istore 5, 2) := by decide +kernel
set_option maxRecDepth 100000 in
theorem dX12_checkCall_117 : decode cX12_checkCall 117 = .ok (.iload 5, 2) := by decide +kernel
set_option maxRecDepth 100000 in
theorem dX12_checkCall_119 : decode cX12_checkCall 119 = .ok (.iconst (-1), 1) := by decide +kernel
set_option maxRecDepth 100000 in
theorem dX12_checkCall_120 : decode cX12_checkCall 120 = .ok (.if_icmp .eq 47, 3) := by decide +kernel
set_option maxRecDepth 100000 in
theorem dX12_checkCall_123 : decode cX12_checkCall 123 = .ok (.aload_n 0, 1) := by decide +kernel
set_option maxRecDepth 100000 in
theorem dX12_checkCall_124 : decode cX12_checkCall 124 = .ok (.aload_n 0, 1) := by decide +kernel
set_option maxRecDepth 100000 in
theorem dX12_checkCall_125 : decode cX12_checkCall 125 = .ok (.getfield 73, 3) := by decide +kernel
set_option maxRecDepth 100000 in
theorem dX12_checkCall_128 : decode cX12_checkCall 128 = .ok (.iload 5, 2) := by decide +kernel
set_option maxRecDepth 100000 in
theorem dX12_checkCall_130 : decode cX12_checkCall 130 = .ok (.iaload, 1) := by decide +kernel
set_option maxRecDepth 100000 in
theorem dX12_checkCall_131 : decode cX12_checkCall 131 = .ok (.aload_n 2, 1) := by decide +kernel
set_option maxRecDepth 100000 in
theorem dX12_checkCall_132 : decode cX12_checkCall 132 = .ok (.getfield 949, 3) := by decide +kernel
set_option maxRecDepth 100000 in
theorem dX12_checkCall_135 : decode cX12_checkCall 135 = .ok (.iload 4, 2) := by decide +kernel
set_option maxRecDepth 100000 in
theorem dX12_checkCall_137 : decode cX12_checkCall 137 = .ok (.invokevirtual 556, 3) := by decide +kernel
set_option maxRecDepth 100000 in
theorem dX12_checkCall_140 : decode cX12_checkCall 140 = .ok (.checkcast 100, 3) := by decide +kernel
set_option maxRecDepth 100000 in
theorem dX12_checkCall_143 : decode cX12_checkCall 143 = .ok (.invokevirtual 1017, 3) := by decide +kernel
set_option maxRecDepth 100000 in
theorem dX12_checkCall_146 : decode cX12_checkCall 146 = .ok (.aload_n 0, 1) := by decide +kernel
set_option maxRecDepth 100000 in
theorem dX12_checkCall_147 : decode cX12_checkCall 147 = .ok (.iload 5, 2) := by decide +kernel
set_option maxRecDepth 100000 in
theorem dX12_checkCall_149 : decode cX12_checkCall 149 = .ok (.invokevirtual 1019, 3) := by decide +kernel
set_option maxRecDepth 100000 in
theorem dX12_checkCall_152 : decode cX12_checkCall 152 = .ok (.iinc 4 1, 3) := by decide +kernel
set_option maxRecDepth 100000 in
theorem dX12_checkCall_155 : decode cX12_checkCall 155 = .ok (.aload_n 0, 1) := by decide +kernel
set_option maxRecDepth 100000 in
theorem dX12_checkCall_156 : decode cX12_checkCall 156 = .ok (.getfield 79, 3) := by decide +kernel
set_option maxRecDepth 100000 in
theorem dX12_checkCall_159 : decode cX12_checkCall 159 = .ok (.iload 5, 2) := by decide +kernel
set_option maxRecDepth 100000 in
theorem dX12_checkCall_161 : decode cX12_checkCall 161 = .ok (.iaload, 1) := by decide +kernel
set_option maxRecDepth 100000 in
theorem dX12_checkCall_162 : decode cX12_checkCall 162 = .ok (.istore 5, 2) := by decide +kernel
set_option maxRecDepth 100000 in
theorem dX12_checkCall_164 : decode cX12_checkCall 164 = .ok (.goto (-47), 3) := by decide +kernel
set_option maxRecDepth 100000 in
theorem dX12_checkCall_167 : decode cX12_checkCall 167 = .ok (.return_, 1) := by decide +kernel
def lX12_checkCall_62 (G : xG) (fr lo : Nat) (x0 : Nat) (x1 : Int32) (x2 : Nat) (x3 : Int32) (x4 : Int32) (h : xH) (Q : Outcome → xH → Prop) : Prop := xP G YX12_checkCall fr lo 62 [(0, rv x0), (1, .int x1), (2, rv x2), (3, .int x3), (4, .int x4)] [] h Q
def lX12_checkCall_117 (G : xG) (fr lo : Nat) (x0 : Nat) (x2 : Nat) (x4 : Int32) (x5 : Int32) (h : xH) (Q : Outcome → xH → Prop) : Prop := xP G YX12_checkCall fr lo 117 [(0, rv x0), (2, rv x2), (4, .int x4), (5, .int x5)] [] h Q
set_option maxRecDepth 100000 in
def bX12_checkCall_117 (G : xG) (fr lo : Nat) (x0 : Nat) (x2 : Nat) (x4 : Int32) (x5 : Int32) (h : xH) (Q : Outcome → xH → Prop) : Prop := ((x5 = (-1) → Q (.returned none) h) ∧ (¬ x5 = (-1) → tg h x0 = 13 ∧ tg h (fR h x0 3103) = 100 ∧ vp_in x5 (ln h (fR h x0 3103)) ∧ tg h x2 = 24 ∧ tg h (fR h x2 5910) = 29 ∧ 1 ≤ fr ∧ 15 ≤ lo ∧ xRr G YJ2_get (fr - 1) (lo - 15) [rv (fR h x2 5910), .int x4] h (fun x10 h9 => xext h h9 → tg h9 x10 = 24 ∧ 1 ≤ fr ∧ 16 ≤ lo ∧ xRv G YX12_argument (fr - 1) (lo - 16) [rv x0, .int (aI h (fR h x0 3103) (Int32.toNatClampNeg x5)), rv x10] h9 (fun h16 => xext h9 h16 → 1 ≤ fr ∧ 13 ≤ lo ∧ xRv G YX12_colon (fr - 1) (lo - 13) [rv x0, .int x5] h16 (fun h22 => xext h16 h22 → tg h22 (fR h22 x0 3105) = 100 ∧ vp_in x5 (ln h22 (fR h22 x0 3105)) ∧ lX12_checkCall_117 G fr lo x0 x2 (x4 + 1) (aI h22 (fR h22 x0 3105) (Int32.toNatClampNeg x5)) h22 Q) (fun r h2 => Q (.threw r) h2)) (fun r h2 => Q (.threw r) h2)) (fun r h2 => Q (.threw r) h2)))
set_option maxRecDepth 100000 in
theorem uX12_checkCall_117 {G : xG} {fr lo : Nat} {x0 : Nat} {x2 : Nat} {x4 : Int32} {x5 : Int32} {h : xH} {Q : Outcome → xH → Prop} (hq : bX12_checkCall_117 G fr lo x0 x2 x4 x5 h Q) : xP G YX12_checkCall fr lo 117 [(0, rv x0), (2, rv x2), (4, .int x4), (5, .int x5)] [] h Q := by
  unfold bX12_checkCall_117 at hq
  refine x_iload 3 dX12_checkCall_117 rfl ?_
  refine x_iconst (v := (-1)) dX12_checkCall_119 (by decide) ?_
  refine x_icmp_eq (tgt := 167) dX12_checkCall_120 (by decide) (fun c1 => ?_) (fun c1 => ?_)
  · replace hq := hq.1 c1
    exact x_vret rfl dX12_checkCall_167 hq
  · replace hq := hq.2 c1
    refine x_aload_n 0 dX12_checkCall_123 rfl ?_
    refine x_aload_n 0 dX12_checkCall_124 rfl ?_
    obtain ⟨g2, hq⟩ := hq
    refine x_get (v := rv (fR h x0 3103)) fdX12_73 dX12_checkCall_125 g2 rfl ?_
    refine x_iload 3 dX12_checkCall_128 rfl ?_
    obtain ⟨g3, hq⟩ := hq
    obtain ⟨i4, hq⟩ := hq
    refine x_iald 0 (Or.inl rfl) g3 i4 dX12_checkCall_130 ?_
    refine x_aload_n 1 dX12_checkCall_131 rfl ?_
    obtain ⟨g5, hq⟩ := hq
    refine x_get (v := rv (fR h x2 5910)) fdX12_949 dX12_checkCall_132 g5 rfl ?_
    refine x_iload 2 dX12_checkCall_135 rfl ?_
    obtain ⟨g6, hq⟩ := hq
    obtain ⟨g7, g8, hq⟩ := hq
    refine x_callV (Yc := YJ2_get) (as := [.int x4]) (st := [.int (aI h (fR h x0 3103) (Int32.toNatClampNeg x5)), rv x0]) q4109 mvJ2_get g6 rfl dX12_checkCall_137 (xle (xal1 (rv_cat _) (xal1 rfl xal0)) (by decide)) (xfr g7) (xlo (xsw1 rfl (xsw1 (rv_cat _) xsw0)) (by decide) g8) (xKr hq (fun x10 h9 hq e11 => ?_) (fun _ _ q _ => q))
    replace hq := hq e11
    obtain ⟨g12, hq⟩ := hq
    refine x_cast (ci := 23) (by decide) rfl q3206 g12 dX12_checkCall_140 ?_
    have t13 : tg h9 x0 = 13 := e11.tg g2 (by decide)
    obtain ⟨g14, g15, hq⟩ := hq
    refine x_callV (Yc := YX12_argument) (as := [.int (aI h (fR h x0 3103) (Int32.toNatClampNeg x5)), rv x10]) (st := []) q4356 mvX12_argument t13 rfl dX12_checkCall_143 (xle (xal1 (rv_cat _) (xal1 rfl (xal1 (rv_cat _) xal0))) (by decide)) (xfr g14) (xlo xsw0 (by decide) g15) (xKv hq (fun h16 hq e18 => ?_) (fun _ _ q _ => q))
    replace hq := hq e18
    refine x_aload_n 0 dX12_checkCall_146 rfl ?_
    refine x_iload 3 dX12_checkCall_147 rfl ?_
    have t19 : tg h16 x0 = 13 := e18.tg t13 (by decide)
    obtain ⟨g20, g21, hq⟩ := hq
    refine x_callV (Yc := YX12_colon) (as := [.int x5]) (st := []) q4460 mvX12_colon t19 rfl dX12_checkCall_149 (xle (xal1 (rv_cat _) (xal1 rfl xal0)) (by decide)) (xfr g20) (xlo xsw0 (by decide) g21) (xKv hq (fun h22 hq e24 => ?_) (fun _ _ q _ => q))
    replace hq := hq e24
    refine x_iinc (lv' := [(4, .int (x4 + 1)), (0, rv x0), (2, rv x2), (5, .int x5)]) 2 dX12_checkCall_152 rfl (by decide) rfl ?_
    refine x_aload_n 1 dX12_checkCall_155 rfl ?_
    have t25 : tg h22 x0 = 13 := e24.tg t19 (by decide)
    refine x_get (v := rv (fR h22 x0 3105)) fdX12_79 dX12_checkCall_156 t25 rfl ?_
    refine x_iload 3 dX12_checkCall_159 rfl ?_
    obtain ⟨g26, hq⟩ := hq
    obtain ⟨i27, hq⟩ := hq
    refine x_iald 0 (Or.inl rfl) g26 i27 dX12_checkCall_161 ?_
    refine x_istore (lv' := [(5, .int (aI h22 (fR h22 x0 3105) (Int32.toNatClampNeg x5))), (4, .int (x4 + 1)), (0, rv x0), (2, rv x2)]) dX12_checkCall_162 (by decide) rfl ?_
    refine x_goto (tgt := 117) dX12_checkCall_164 (by decide) ?_
    refine xP.pick (lv' := [(0, rv x0), (2, rv x2), (4, .int (x4 + 1)), (5, .int (aI h22 (fR h22 x0 3105) (Int32.toNatClampNeg x5)))]) [2, 3, 1, 0] rfl ?_
    exact hq
set_option maxRecDepth 100000 in
def bX12_checkCall_106 (G : xG) (fr lo : Nat) (x0 : Nat) (x1 : Int32) (x2 : Nat) (h : xH) (Q : Outcome → xH → Prop) : Prop := tg h x0 = 13 ∧ tg h (fR h x0 3103) = 100 ∧ vp_in x1 (ln h (fR h x0 3103)) ∧ lX12_checkCall_117 G fr lo x0 x2 0 (aI h (fR h x0 3103) (Int32.toNatClampNeg x1)) h Q
set_option maxRecDepth 100000 in
theorem uX12_checkCall_106 {G : xG} {fr lo : Nat} {x0 : Nat} {x1 : Int32} {x2 : Nat} {h : xH} {Q : Outcome → xH → Prop} (hq : bX12_checkCall_106 G fr lo x0 x1 x2 h Q) : xP G YX12_checkCall fr lo 106 [(0, rv x0), (1, .int x1), (2, rv x2)] [] h Q := by
  unfold bX12_checkCall_106 at hq
  refine x_iconst (v := 0) dX12_checkCall_106 (by decide) ?_
  refine x_istore (lv' := [(4, .int 0), (0, rv x0), (1, .int x1), (2, rv x2)]) dX12_checkCall_107 (by decide) rfl ?_
  refine x_aload_n 1 dX12_checkCall_109 rfl ?_
  obtain ⟨g1, hq⟩ := hq
  refine x_get (v := rv (fR h x0 3103)) fdX12_73 dX12_checkCall_110 g1 rfl ?_
  refine x_iload_n 2 dX12_checkCall_113 rfl ?_
  obtain ⟨g2, hq⟩ := hq
  obtain ⟨i3, hq⟩ := hq
  refine x_iald 0 (Or.inl rfl) g2 i3 dX12_checkCall_114 ?_
  refine x_istore (lv' := [(5, .int (aI h (fR h x0 3103) (Int32.toNatClampNeg x1))), (4, .int 0), (0, rv x0), (1, .int x1), (2, rv x2)]) dX12_checkCall_115 (by decide) rfl ?_
  refine xP.pick (lv' := [(0, rv x0), (2, rv x2), (4, .int 0), (5, .int (aI h (fR h x0 3103) (Int32.toNatClampNeg x1)))]) [2, 4, 1, 0] rfl ?_
  exact hq
set_option maxRecDepth 100000 in
def bX12_checkCall_62 (G : xG) (fr lo : Nat) (x0 : Nat) (x1 : Int32) (x2 : Nat) (x3 : Int32) (x4 : Int32) (h : xH) (Q : Outcome → xH → Prop) : Prop := ((x4 = (-1) → tg h x2 = 24 ∧ tg h (fR h x2 5910) = 29 ∧ 1 ≤ fr ∧ 13 ≤ lo ∧ xRi G YJ2_size (fr - 1) (lo - 13) [rv (fR h x2 5910)] h (fun x7 h6 => xext h h6 → ((x3 = x7 → bX12_checkCall_106 G fr lo x0 x1 x2 h6 Q) ∧ (¬ x3 = x7 → tg h6 x0 = 13 ∧ tg h6 (fR h6 x0 3102) = 100 ∧ vp_in x1 (ln h6 (fR h6 x0 3102)) ∧ 1 ≤ fr ∧ 14 ≤ lo ∧ xRv G YX12_refuse (fr - 1) (lo - 14) [rv x0, .int 9, .int (aI h6 (fR h6 x0 3102) (Int32.toNatClampNeg x1))] h6 (fun h15 => xext h6 h15 → bX12_checkCall_106 G fr lo x0 x1 x2 h15 Q) (fun r h2 => Q (.threw r) h2)))) (fun r h2 => Q (.threw r) h2)) ∧ (¬ x4 = (-1) → tg h x0 = 13 ∧ tg h (fR h x0 3105) = 100 ∧ vp_in x4 (ln h (fR h x0 3105)) ∧ lX12_checkCall_62 G fr lo x0 x1 x2 (x3 + 1) (aI h (fR h x0 3105) (Int32.toNatClampNeg x4)) h Q))
set_option maxRecDepth 100000 in
theorem uX12_checkCall_62 {G : xG} {fr lo : Nat} {x0 : Nat} {x1 : Int32} {x2 : Nat} {x3 : Int32} {x4 : Int32} {h : xH} {Q : Outcome → xH → Prop} (hq : bX12_checkCall_62 G fr lo x0 x1 x2 x3 x4 h Q) : xP G YX12_checkCall fr lo 62 [(0, rv x0), (1, .int x1), (2, rv x2), (3, .int x3), (4, .int x4)] [] h Q := by
  unfold bX12_checkCall_62 at hq
  refine x_iload 4 dX12_checkCall_62 rfl ?_
  refine x_iconst (v := (-1)) dX12_checkCall_64 (by decide) ?_
  refine x_icmp_eq (tgt := 83) dX12_checkCall_65 (by decide) (fun c1 => ?_) (fun c1 => ?_)
  · replace hq := hq.1 c1
    refine x_iload_n 3 dX12_checkCall_83 rfl ?_
    refine x_aload_n 2 dX12_checkCall_84 rfl ?_
    obtain ⟨g2, hq⟩ := hq
    refine x_get (v := rv (fR h x2 5910)) fdX12_949 dX12_checkCall_85 g2 rfl ?_
    obtain ⟨g3, hq⟩ := hq
    obtain ⟨g4, g5, hq⟩ := hq
    refine x_callV (Yc := YJ2_size) (as := []) (st := [.int x3]) q4067 mvJ2_size g3 rfl dX12_checkCall_88 (xle (xal1 (rv_cat _) xal0) (by decide)) (xfr g4) (xlo (xsw1 rfl xsw0) (by decide) g5) (xKi hq (fun x7 h6 hq e8 => ?_) (fun _ _ q _ => q))
    replace hq := hq e8
    refine x_icmp_eq (tgt := 106) dX12_checkCall_91 (by decide) (fun c9 => ?_) (fun c9 => ?_)
    · replace hq := hq.1 c9
      refine xP.pick (lv' := [(0, rv x0), (1, .int x1), (2, rv x2)]) [0, 1, 2] rfl ?_
      exact uX12_checkCall_106 hq
    · replace hq := hq.2 c9
      refine x_aload_n 0 dX12_checkCall_94 rfl ?_
      refine x_bipush (v := 9) dX12_checkCall_95 (by decide) ?_
      refine x_aload_n 0 dX12_checkCall_97 rfl ?_
      obtain ⟨g10, hq⟩ := hq
      refine x_get (v := rv (fR h6 x0 3102)) fdX12_70 dX12_checkCall_98 g10 rfl ?_
      refine x_iload_n 1 dX12_checkCall_101 rfl ?_
      obtain ⟨g11, hq⟩ := hq
      obtain ⟨i12, hq⟩ := hq
      refine x_iald 0 (Or.inl rfl) g11 i12 dX12_checkCall_102 ?_
      obtain ⟨g13, g14, hq⟩ := hq
      refine x_callV (Yc := YX12_refuse) (as := [.int 9, .int (aI h6 (fR h6 x0 3102) (Int32.toNatClampNeg x1))]) (st := []) q4095 mvX12_refuse g10 rfl dX12_checkCall_103 (xle (xal1 (rv_cat _) (xal1 rfl (xal1 rfl xal0))) (by decide)) (xfr g13) (xlo xsw0 (by decide) g14) (xKv hq (fun h15 hq e17 => ?_) (fun _ _ q _ => q))
      replace hq := hq e17
      refine xP.pick (lv' := [(0, rv x0), (1, .int x1), (2, rv x2)]) [0, 1, 2] rfl ?_
      exact uX12_checkCall_106 hq
  · replace hq := hq.2 c1
    refine x_iinc (lv' := [(3, .int (x3 + 1)), (0, rv x0), (1, .int x1), (2, rv x2), (4, .int x4)]) 3 dX12_checkCall_68 rfl (by decide) (by first | rfl | (simp [rv_cat, Value.category]; done) | (simp [rv_cat, Value.category]; decide)) ?_
    refine x_aload_n 1 dX12_checkCall_71 rfl ?_
    obtain ⟨g18, hq⟩ := hq
    refine x_get (v := rv (fR h x0 3105)) fdX12_79 dX12_checkCall_72 g18 rfl ?_
    refine x_iload 4 dX12_checkCall_75 rfl ?_
    obtain ⟨g19, hq⟩ := hq
    obtain ⟨i20, hq⟩ := hq
    refine x_iald 0 (Or.inl rfl) g19 i20 dX12_checkCall_77 ?_
    refine x_istore (lv' := [(4, .int (aI h (fR h x0 3105) (Int32.toNatClampNeg x4))), (3, .int (x3 + 1)), (0, rv x0), (1, .int x1), (2, rv x2)]) dX12_checkCall_78 (by decide) rfl ?_
    refine x_goto (tgt := 62) dX12_checkCall_80 (by decide) ?_
    refine xP.pick (lv' := [(0, rv x0), (1, .int x1), (2, rv x2), (3, .int (x3 + 1)), (4, .int (aI h (fR h x0 3105) (Int32.toNatClampNeg x4)))]) [2, 3, 4, 1, 0] rfl ?_
    exact hq
set_option maxRecDepth 100000 in
def bX12_checkCall_31 (G : xG) (fr lo : Nat) (x0 : Nat) (x1 : Int32) (x2 : Nat) (h : xH) (Q : Outcome → xH → Prop) : Prop := tg h x0 = 13 ∧ tg h (fR h x0 3114) = 109 ∧ tg h x2 = 24 ∧ vp_in x1 (ln h (fR h x0 3114)) ∧ (∀ h5 : xH, h5 = tR h (fR h x0 3114) (Int32.toNatClampNeg x1) x2 → (((fI h5 x2 5903) ≤ 0 → tg h5 (fR h5 x0 3103) = 100 ∧ vp_in x1 (ln h5 (fR h5 x0 3103)) ∧ lX12_checkCall_62 G fr lo x0 x1 x2 0 (aI h5 (fR h5 x0 3103) (Int32.toNatClampNeg x1)) h5 Q) ∧ (¬ (fI h5 x2 5903) ≤ 0 → 1 ≤ fr ∧ 17 ≤ lo ∧ xRv G YX12_checkThere (fr - 1) (lo - 17) [rv x0, .int x1, rv x2] h5 (fun h15 => xext h5 h15 → Q (.returned none) h15) (fun r h2 => Q (.threw r) h2))))
set_option maxRecDepth 100000 in
theorem uX12_checkCall_31 {G : xG} {fr lo : Nat} {x0 : Nat} {x1 : Int32} {x2 : Nat} {h : xH} {Q : Outcome → xH → Prop} (hq : bX12_checkCall_31 G fr lo x0 x1 x2 h Q) : xP G YX12_checkCall fr lo 31 [(0, rv x0), (1, .int x1), (2, rv x2)] [] h Q := by
  unfold bX12_checkCall_31 at hq
  refine x_aload_n 0 dX12_checkCall_31 rfl ?_
  obtain ⟨g1, hq⟩ := hq
  refine x_get (v := rv (fR h x0 3114)) fdX12_102 dX12_checkCall_32 g1 rfl ?_
  refine x_iload_n 1 dX12_checkCall_35 rfl ?_
  refine x_aload_n 2 dX12_checkCall_36 rfl ?_
  obtain ⟨g2, hq⟩ := hq
  obtain ⟨g3, hq⟩ := hq
  obtain ⟨i4, hq⟩ := hq
  obtain ⟨h5, e6⟩ : ∃ y, y = tR h (fR h x0 3114) (Int32.toNatClampNeg x1) x2 := ⟨_, rfl⟩
  replace hq := hq h5 e6
  refine x_aast 9 23 as_9_23 g2 (Or.inl (by rw [g2]; rfl)) g3 i4 dX12_checkCall_37 e6 ?_
  refine x_aload_n 2 dX12_checkCall_38 rfl ?_
  have t7 : tg h5 x2 = 24 := by rw [e6]; exact g3
  refine x_get (v := .int (fI h5 x2 5903)) fdX12_632 dX12_checkCall_39 t7 rfl ?_
  refine x_if_le (tgt := 52) dX12_checkCall_42 (by decide) (fun c8 => ?_) (fun c8 => ?_)
  · replace hq := hq.1 c8
    refine x_iconst (v := 0) dX12_checkCall_52 (by decide) ?_
    refine x_istore_n (lv' := [(3, .int 0), (0, rv x0), (1, .int x1), (2, rv x2)]) dX12_checkCall_53 (by decide) (by first | rfl | (simp [rv_cat, Value.category]; done) | (simp [rv_cat, Value.category]; decide)) ?_
    refine x_aload_n 1 dX12_checkCall_54 rfl ?_
    have t9 : tg h5 x0 = 13 := by rw [e6]; exact g1
    refine x_get (v := rv (fR h5 x0 3103)) fdX12_73 dX12_checkCall_55 t9 rfl ?_
    refine x_iload_n 2 dX12_checkCall_58 rfl ?_
    obtain ⟨g10, hq⟩ := hq
    obtain ⟨i11, hq⟩ := hq
    refine x_iald 0 (Or.inl rfl) g10 i11 dX12_checkCall_59 ?_
    refine x_istore (lv' := [(4, .int (aI h5 (fR h5 x0 3103) (Int32.toNatClampNeg x1))), (3, .int 0), (0, rv x0), (1, .int x1), (2, rv x2)]) dX12_checkCall_60 (by decide) rfl ?_
    refine xP.pick (lv' := [(0, rv x0), (1, .int x1), (2, rv x2), (3, .int 0), (4, .int (aI h5 (fR h5 x0 3103) (Int32.toNatClampNeg x1)))]) [2, 3, 4, 1, 0] rfl ?_
    exact hq
  · replace hq := hq.2 c8
    refine x_aload_n 0 dX12_checkCall_45 rfl ?_
    refine x_iload_n 1 dX12_checkCall_46 rfl ?_
    refine x_aload_n 2 dX12_checkCall_47 rfl ?_
    have t12 : tg h5 x0 = 13 := by rw [e6]; exact g1
    obtain ⟨g13, g14, hq⟩ := hq
    refine x_callV (Yc := YX12_checkThere) (as := [.int x1, rv x2]) (st := []) q4452 mvX12_checkThere t12 rfl dX12_checkCall_48 (xle (xal1 (rv_cat _) (xal1 rfl (xal1 (rv_cat _) xal0))) (by decide)) (xfr g13) (xlo xsw0 (by decide) g14) (xKv hq (fun h15 hq e17 => ?_) (fun _ _ q _ => q))
    replace hq := hq e17
    exact x_vret rfl dX12_checkCall_51 hq
set_option maxRecDepth 100000 in
def bX12_checkCall (G : xG) (fr lo : Nat) (x0 : Nat) (x1 : Int32) (h : xH) (Q : Outcome → xH → Prop) : Prop := tg h x0 = 13 ∧ tg h (fR h x0 3102) = 100 ∧ vp_in x1 (ln h (fR h x0 3102)) ∧ 1 ≤ fr ∧ 15 ≤ lo ∧ xRr G YX12_findOf (fr - 1) (lo - 15) [rv x0, .int (aI h (fR h x0 3102) (Int32.toNatClampNeg x1)), .int 5] h (fun x7 h6 => xext h h6 → tg h6 x7 = 24 ∧ (((fI h6 x7 5905) = 0 → bX12_checkCall_31 G fr lo x0 x1 x7 h6 Q) ∧ (¬ (fI h6 x7 5905) = 0 → tg h6 (fR h6 x0 3102) = 100 ∧ vp_in x1 (ln h6 (fR h6 x0 3102)) ∧ 1 ≤ fr ∧ 14 ≤ lo ∧ xRv G YX12_refuse (fr - 1) (lo - 14) [rv x0, .int 6, .int (aI h6 (fR h6 x0 3102) (Int32.toNatClampNeg x1))] h6 (fun h16 => xext h6 h16 → bX12_checkCall_31 G fr lo x0 x1 x7 h16 Q) (fun r h2 => Q (.threw r) h2)))) (fun r h2 => Q (.threw r) h2)
set_option maxRecDepth 100000 in
theorem uX12_checkCall {G : xG} {fr lo : Nat} {x0 : Nat} {x1 : Int32} {h : xH} {Q : Outcome → xH → Prop} (hq : bX12_checkCall G fr lo x0 x1 h Q) : xP G YX12_checkCall fr lo 0 [(0, rv x0), (1, .int x1)] [] h Q := by
  unfold bX12_checkCall at hq
  refine x_aload_n 0 dX12_checkCall_0 rfl ?_
  refine x_aload_n 0 dX12_checkCall_1 rfl ?_
  obtain ⟨g1, hq⟩ := hq
  refine x_get (v := rv (fR h x0 3102)) fdX12_70 dX12_checkCall_2 g1 rfl ?_
  refine x_iload_n 1 dX12_checkCall_5 rfl ?_
  obtain ⟨g2, hq⟩ := hq
  obtain ⟨i3, hq⟩ := hq
  refine x_iald 0 (Or.inl rfl) g2 i3 dX12_checkCall_6 ?_
  refine x_iconst (v := 5) dX12_checkCall_7 (by decide) ?_
  obtain ⟨g4, g5, hq⟩ := hq
  refine x_callV (Yc := YX12_findOf) (as := [.int (aI h (fR h x0 3102) (Int32.toNatClampNeg x1)), .int 5]) (st := []) q4157 mvX12_findOf g1 rfl dX12_checkCall_8 (xle (xal1 (rv_cat _) (xal1 rfl (xal1 rfl xal0))) (by decide)) (xfr g4) (xlo xsw0 (by decide) g5) (xKr hq (fun x7 h6 hq e8 => ?_) (fun _ _ q _ => q))
  replace hq := hq e8
  refine x_astore_n (lv' := [(2, rv x7), (0, rv x0), (1, .int x1)]) dX12_checkCall_11 (by decide) rfl ?_
  refine x_aload_n 0 dX12_checkCall_12 rfl ?_
  obtain ⟨g9, hq⟩ := hq
  refine x_get (v := .int (fI h6 x7 5905)) fdX12_635 dX12_checkCall_13 g9 rfl ?_
  refine x_if_eq (tgt := 31) dX12_checkCall_16 (by decide) (fun c10 => ?_) (fun c10 => ?_)
  · replace hq := hq.1 c10
    refine xP.pick (lv' := [(0, rv x0), (1, .int x1), (2, rv x7)]) [1, 2, 0] rfl ?_
    exact uX12_checkCall_31 hq
  · replace hq := hq.2 c10
    refine x_aload_n 1 dX12_checkCall_19 rfl ?_
    refine x_bipush (v := 6) dX12_checkCall_20 (by decide) ?_
    refine x_aload_n 1 dX12_checkCall_22 rfl ?_
    have t11 : tg h6 x0 = 13 := e8.tg g1 (by decide)
    refine x_get (v := rv (fR h6 x0 3102)) fdX12_70 dX12_checkCall_23 t11 rfl ?_
    refine x_iload_n 2 dX12_checkCall_26 rfl ?_
    obtain ⟨g12, hq⟩ := hq
    obtain ⟨i13, hq⟩ := hq
    refine x_iald 0 (Or.inl rfl) g12 i13 dX12_checkCall_27 ?_
    obtain ⟨g14, g15, hq⟩ := hq
    refine x_callV (Yc := YX12_refuse) (as := [.int 6, .int (aI h6 (fR h6 x0 3102) (Int32.toNatClampNeg x1))]) (st := []) q4095 mvX12_refuse t11 rfl dX12_checkCall_28 (xle (xal1 (rv_cat _) (xal1 rfl (xal1 rfl xal0))) (by decide)) (xfr g14) (xlo xsw0 (by decide) g15) (xKv hq (fun h16 hq e18 => ?_) (fun _ _ q _ => q))
    replace hq := hq e18
    refine xP.pick (lv' := [(0, rv x0), (1, .int x1), (2, rv x7)]) [1, 2, 0] rfl ?_
    exact uX12_checkCall_31 hq
theorem rX12_checkCall {G : xG} {fr lo : Nat} {x0 : Nat} {x1 : Int32} {h : xH} {Q : Outcome → xH → Prop} (hq : bX12_checkCall G fr lo x0 x1 h Q) : xR G YX12_checkCall fr lo [rv x0, .int x1] h Q := by
  show xP _ _ _ _ _ (lv_args 0 _) _ _ _
  rw [show lv_args 0 [rv x0, .int x1] = [(0, rv x0), (1, .int x1)] from (xla1 (rv_cat _) (xla1 rfl xla0))]
  exact uX12_checkCall hq
set_option maxRecDepth 100000 in
theorem dX12_checkThere_0 : decode cX12_checkThere 0 = .ok (.aload_n 2, 1) := by decide +kernel
set_option maxRecDepth 100000 in
theorem dX12_checkThere_1 : decode cX12_checkThere 1 = .ok (.getfield 632, 3) := by decide +kernel
set_option maxRecDepth 100000 in
theorem dX12_checkThere_4 : decode cX12_checkThere 4 = .ok (.iconst 4, 1) := by decide +kernel
set_option maxRecDepth 100000 in
theorem dX12_checkThere_5 : decode cX12_checkThere 5 = .ok (.if_icmp .gt 13, 3) := by decide +kernel
set_option maxRecDepth 100000 in
theorem dX12_checkThere_8 : decode cX12_checkThere 8 = .ok (.aload_n 0, 1) := by decide +kernel
set_option maxRecDepth 100000 in
theorem dX12_checkThere_9 : decode cX12_checkThere 9 = .ok (.iload_n 1, 1) := by decide +kernel
set_option maxRecDepth 100000 in
theorem dX12_checkThere_10 : decode cX12_checkThere 10 = .ok (.aload_n 2, 1) := by decide +kernel
set_option maxRecDepth 100000 in
theorem dX12_checkThere_11 : decode cX12_checkThere 11 = .ok (.getfield 632, 3) := by decide +kernel
set_option maxRecDepth 100000 in
theorem dX12_checkThere_14 : decode cX12_checkThere 14 = .ok (.invokevirtual 1034, 3) := by decide +kernel
set_option maxRecDepth 100000 in
theorem dX12_checkThere_17 : decode cX12_checkThere 17 = .ok (.return_, 1) := by decide +kernel
set_option maxRecDepth 100000 in
theorem dX12_checkThere_18 : decode cX12_checkThere 18 = .ok (.aload_n 0, 1) := by decide +kernel
set_option maxRecDepth 100000 in
theorem dX12_checkThere_19 : decode cX12_checkThere 19 = .ok (.getfield 73, 3) := by decide +kernel
set_option maxRecDepth 100000 in
theorem dX12_checkThere_22 : decode cX12_checkThere 22 = .ok (.iload_n 1, 1) := by decide +kernel
set_option maxRecDepth 100000 in
theorem dX12_checkThere_23 : decode cX12_checkThere 23 = .ok (.iaload, 1) := by decide +kernel
set_option maxRecDepth 100000 in
theorem dX12_checkThere_24 : decode cX12_checkThere 24 = .ok (.istore_n 3, 1) := by decide +kernel
set_option maxRecDepth 100000 in
theorem dX12_checkThere_25 : decode cX12_checkThere 25 = .ok (.iload_n 3, 1) := by decide +kernel
set_option maxRecDepth 100000 in
theorem dX12_checkThere_26 : decode cX12_checkThere 26 = .ok (.iconst (-1), 1) := by decide +kernel
set_option maxRecDepth 100000 in
theorem dX12_checkThere_27 : decode cX12_checkThere 27 = .ok (.if_icmp .eq 13, 3) := by decide +kernel
set_option maxRecDepth 100000 in
theorem dX12_checkThere_30 : decode cX12_checkThere 30 = .ok (.aload_n 0, 1) := by decide +kernel
set_option maxRecDepth 100000 in
theorem dX12_checkThere_31 : decode cX12_checkThere 31 = .ok (.getfield 79, 3) := by decide +kernel
set_option maxRecDepth 100000 in
theorem dX12_checkThere_34 : decode cX12_checkThere 34 = .ok (.iload_n 3, 1) := by decide +kernel
set_option maxRecDepth 100000 in
theorem dX12_checkThere_35 : decode cX12_checkThere 35 = .ok (.iaload, 1) := by decide +kernel
set_option maxRecDepth 100000 in
theorem dX12_checkThere_36 : decode cX12_checkThere 36 = .ok (.iconst (-1), 1) := by decide +kernel
set_option maxRecDepth 100000 in
theorem dX12_checkThere_37 : decode cX12_checkThere 37 = .ok (.if_icmp .eq 15, 3) := by decide +kernel
set_option maxRecDepth 100000 in
theorem dX12_checkThere_40 : decode cX12_checkThere 40 = .ok (.aload_n 0, 1) := by decide +kernel
set_option maxRecDepth 100000 in
theorem dX12_checkThere_41 : decode cX12_checkThere 41 = .ok (.bipush 9, 2) := by decide +kernel
set_option maxRecDepth 100000 in
theorem dX12_checkThere_43 : decode cX12_checkThere 43 = .ok (.aload_n 0, 1) := by decide +kernel
set_option maxRecDepth 100000 in
theorem dX12_checkThere_44 : decode cX12_checkThere 44 = .ok (.getfield 70, 3) := by decide +kernel
set_option maxRecDepth 100000 in
theorem dX12_checkThere_47 : decode cX12_checkThere 47 = .ok (.iload_n 1, 1) := by decide +kernel
set_option maxRecDepth 100000 in
theorem dX12_checkThere_48 : decode cX12_checkThere 48 = .ok (.iaload, 1) := by decide +kernel
set_option maxRecDepth 100000 in
theorem dX12_checkThere_49 : decode cX12_checkThere 49 = .ok (.invokevirtual 570, 3) := by decide +kernel
set_option maxRecDepth 100000 in
theorem dX12_checkThere_52 : decode cX12_checkThere 52 = .ok (.aload_n 0, 1) := by decide +kernel
set_option maxRecDepth 100000 in
theorem dX12_checkThere_53 : decode cX12_checkThere 53 = .ok (.getfield 73, 3) := by decide +kernel
set_option maxRecDepth 100000 in
theorem dX12_checkThere_56 : decode cX12_checkThere 56 = .ok (.iload_n 3, 1) := by decide +kernel
set_option maxRecDepth 100000 in
theorem dX12_checkThere_57 : decode cX12_checkThere 57 = .ok (.iaload, 1) := by decide +kernel
set_option maxRecDepth 100000 in
theorem dX12_checkThere_58 : decode cX12_checkThere 58 = .ok (.istore 4, 2) := by decide +kernel
set_option maxRecDepth 100000 in
theorem dX12_checkThere_60 : decode cX12_checkThere 60 = .ok (.aload_n 2, 1) := by decide +kernel
set_option maxRecDepth 100000 in
theorem dX12_checkThere_61 : decode cX12_checkThere 61 = .ok (.getfield 632, 3) := by decide +kernel
set_option maxRecDepth 100000 in
theorem dX12_checkThere_64 : decode cX12_checkThere 64 = .ok (.bipush 8, 2) := by decide +kernel
set_option maxRecDepth 100000 in
theorem dX12_checkThere_66 : decode cX12_checkThere 66 = .ok (.if_icmp .gt 13, 3) := by decide +kernel
set_option maxRecDepth 100000 in
theorem dX12_checkThere_69 : decode cX12_checkThere 69 = .ok (.aload_n 0, 1) := by decide +kernel
set_option maxRecDepth 100000 in
theorem dX12_checkThere_70 : decode cX12_checkThere 70 = .ok (.iload 4, 2) := by decide +kernel
set_option maxRecDepth 100000 in
theorem dX12_checkThere_72 : decode cX12_checkThere 72 = .ok (.invokevirtual 1037, 3) := by decide +kernel
set_option maxRecDepth 100000 in
theorem dX12_checkThere_75 : decode cX12_checkThere 75 = .ok (.pop, 1) := by decide +kernel
set_option maxRecDepth 100000 in
theorem dX12_checkThere_76 : decode cX12_checkThere 76 = .ok (.goto 110, 3) := by decide +kernel
set_option maxRecDepth 100000 in
theorem dX12_checkThere_79 : decode cX12_checkThere 79 = .ok (.aload_n 2, 1) := by decide +kernel
set_option maxRecDepth 100000 in
theorem dX12_checkThere_80 : decode cX12_checkThere 80 = .ok (.getfield 632, 3) := by decide +kernel
set_option maxRecDepth 100000 in
theorem dX12_checkThere_83 : decode cX12_checkThere 83 = .ok (.bipush 9, 2) := by decide +kernel
set_option maxRecDepth 100000 in
theorem dX12_checkThere_85 : decode cX12_checkThere 85 = .ok (.if_icmp .ne 60, 3) := by decide +kernel
set_option maxRecDepth 100000 in
theorem dX12_checkThere_88 : decode cX12_checkThere 88 = .ok (.aload_n 0, 1) := by decide +kernel
set_option maxRecDepth 100000 in
theorem dX12_checkThere_89 : decode cX12_checkThere 89 = .ok (.iload 4, 2) := by decide +kernel
set_option maxRecDepth 100000 in
theorem dX12_checkThere_91 : decode cX12_checkThere 91 = .ok (.invokevirtual 1022, 3) := by decide +kernel
set_option maxRecDepth 100000 in
theorem dX12_checkThere_94 : decode cX12_checkThere 94 = .ok (.istore 5, 2) := by decide +kernel
set_option maxRecDepth 100000 in
theorem dX12_checkThere_96 : decode cX12_checkThere 96 = .ok (.iload 5, 2) := by decide +kernel
set_option maxRecDepth 100000 in
theorem dX12_checkThere_98 : decode cX12_checkThere 98 = .ok (.iconst (-1), 1) := by decide +kernel
set_option maxRecDepth 100000 in
theorem dX12_checkThere_99 : decode cX12_checkThere 99 = .ok (.if_icmp .ne 16, 3) := by decide +kernel
set_option maxRecDepth 100000 in
theorem dX12_checkThere_102 : decode cX12_checkThere 102 = .ok (.aload_n 0, 1) := by decide +kernel
set_option maxRecDepth 100000 in
theorem dX12_checkThere_103 : decode cX12_checkThere 103 = .ok (.bipush 6, 2) := by decide +kernel
set_option maxRecDepth 100000 in
theorem dX12_checkThere_105 : decode cX12_checkThere 105 = .ok (.aload_n 0, 1) := by decide +kernel
set_option maxRecDepth 100000 in
theorem dX12_checkThere_106 : decode cX12_checkThere 106 = .ok (.getfield 70, 3) := by decide +kernel
set_option maxRecDepth 100000 in
theorem dX12_checkThere_109 : decode cX12_checkThere 109 = .ok (.iload 4, 2) := by decide +kernel
set_option maxRecDepth 100000 in
theorem dX12_checkThere_111 : decode cX12_checkThere 111 = .ok (.iaload, 1) := by decide +kernel
set_option maxRecDepth 100000 in
theorem dX12_checkThere_112 : decode cX12_checkThere 112 = .ok (.invokevirtual 570, 3) := by decide +kernel
set_option maxRecDepth 100000 in
theorem dX12_checkThere_115 : decode cX12_checkThere 115 = .ok (.aload_n 0, 1) := by decide +kernel
set_option maxRecDepth 100000 in
theorem dX12_checkThere_116 : decode cX12_checkThere 116 = .ok (.iload 5, 2) := by decide +kernel
set_option maxRecDepth 100000 in
theorem dX12_checkThere_118 : decode cX12_checkThere 118 = .ok (.invokevirtual 1003, 3) := by decide +kernel
set_option maxRecDepth 100000 in
theorem dX12_checkThere_121 : decode cX12_checkThere 121 = .ok (.getfield 845, 3) := by decide +kernel
set_option maxRecDepth 100000 in
theorem dX12_checkThere_124 : decode cX12_checkThere 124 = .ok (.bipush 11, 2) := by decide +kernel
set_option maxRecDepth 100000 in
theorem dX12_checkThere_126 : decode cX12_checkThere 126 = .ok (.if_icmp .eq 16, 3) := by decide +kernel
set_option maxRecDepth 100000 in
theorem dX12_checkThere_129 : decode cX12_checkThere 129 = .ok (.aload_n 0, 1) := by decide +kernel
set_option maxRecDepth 100000 in
theorem dX12_checkThere_130 : decode cX12_checkThere 130 = .ok (.bipush 7, 2) := by decide +kernel
set_option maxRecDepth 100000 in
theorem dX12_checkThere_132 : decode cX12_checkThere 132 = .ok (.aload_n 0, 1) := by decide +kernel
set_option maxRecDepth 100000 in
theorem dX12_checkThere_133 : decode cX12_checkThere 133 = .ok (.getfield 70, 3) := by decide +kernel
set_option maxRecDepth 100000 in
theorem dX12_checkThere_136 : decode cX12_checkThere 136 = .ok (.iload 4, 2) := by decide +kernel
set_option maxRecDepth 100000 in
theorem dX12_checkThere_138 : decode cX12_checkThere 138 = .ok (.iaload, 1) := by decide +kernel
set_option maxRecDepth 100000 in
theorem dX12_checkThere_139 : decode cX12_checkThere 139 = .ok (.invokevirtual 570, 3) := by decide +kernel
set_option maxRecDepth 100000 in
theorem dX12_checkThere_142 : decode cX12_checkThere 142 = .ok (.goto 44, 3) := by decide +kernel
set_option maxRecDepth 100000 in
theorem dX12_checkThere_145 : decode cX12_checkThere 145 = .ok (.aload_n 0, 1) := by decide +kernel
set_option maxRecDepth 100000 in
theorem dX12_checkThere_146 : decode cX12_checkThere 146 = .ok (.iload 4, 2) := by decide +kernel
set_option maxRecDepth 100000 in
theorem dX12_checkThere_148 : decode cX12_checkThere 148 = .ok (.invokevirtual 989, 3) := by decide +kernel
set_option maxRecDepth 100000 in
theorem dX12_checkThere_151 : decode cX12_checkThere 151 = .ok (.astore 5, 2) := by decide +kernel
set_option maxRecDepth 100000 in
theorem dX12_checkThere_153 : decode cX12_checkThere 153 = .ok (.aload 5, 2) := by decide +kernel
set_option maxRecDepth 100000 in
theorem dX12_checkThere_155 : decode cX12_checkThere 155 = .ok (.getfield 845, 3) := by decide +kernel
set_option maxRecDepth 100000 in
theorem dX12_checkThere_158 : decode cX12_checkThere 158 = .ok (.bipush 11, 2) := by decide +kernel
set_option maxRecDepth 100000 in
theorem dX12_checkThere_160 : decode cX12_checkThere 160 = .ok (.if_icmp .eq 26, 3) := by decide +kernel
set_option maxRecDepth 100000 in
theorem dX12_checkThere_163 : decode cX12_checkThere 163 = .ok (.aload 5, 2) := by decide +kernel
set_option maxRecDepth 100000 in
theorem dX12_checkThere_165 : decode cX12_checkThere 165 = .ok (.getfield 845, 3) := by decide +kernel
set_option maxRecDepth 100000 in
theorem dX12_checkThere_168 : decode cX12_checkThere 168 = .ok (.bipush 12, 2) := by decide +kernel
set_option maxRecDepth 100000 in
theorem dX12_checkThere_170 : decode cX12_checkThere 170 = .ok (.if_icmp .eq 16, 3) := by decide +kernel
set_option maxRecDepth 100000 in
theorem dX12_checkThere_173 : decode cX12_checkThere 173 = .ok (.aload_n 0, 1) := by decide +kernel
set_option maxRecDepth 100000 in
theorem dX12_checkThere_174 : decode cX12_checkThere 174 = .ok (.bipush 7, 2) := by decide +kernel
set_option maxRecDepth 100000 in
theorem dX12_checkThere_176 : decode cX12_checkThere 176 = .ok (.aload_n 0, 1) := by decide +kernel
set_option maxRecDepth 100000 in
theorem dX12_checkThere_177 : decode cX12_checkThere 177 = .ok (.getfield 70, 3) := by decide +kernel
set_option maxRecDepth 100000 in
theorem dX12_checkThere_180 : decode cX12_checkThere 180 = .ok (.iload 4, 2) := by decide +kernel
set_option maxRecDepth 100000 in
theorem dX12_checkThere_182 : decode cX12_checkThere 182 = .ok (.iaload, 1) := by decide +kernel
set_option maxRecDepth 100000 in
theorem dX12_checkThere_183 : decode cX12_checkThere 183 = .ok (.invokevirtual 570, 3) := by decide +kernel
set_option maxRecDepth 100000 in
theorem dX12_checkThere_186 : decode cX12_checkThere 186 = .ok (.aload_n 0, 1) := by decide +kernel
set_option maxRecDepth 100000 in
theorem dX12_checkThere_187 : decode cX12_checkThere 187 = .ok (.iload_n 3, 1) := by decide +kernel
set_option maxRecDepth 100000 in
theorem dX12_checkThere_188 : decode cX12_checkThere 188 = .ok (.invokevirtual 1019, 3) := by decide +kernel
set_option maxRecDepth 100000 in
theorem dX12_checkThere_191 : decode cX12_checkThere 191 = .ok (.return_, 1) := by decide +kernel
set_option maxRecDepth 100000 in
def bX12_checkThere_186 (G : xG) (fr lo : Nat) (x0 : Nat) (x3 : Int32) (h : xH) (Q : Outcome → xH → Prop) : Prop := tg h x0 = 13 ∧ 1 ≤ fr ∧ 13 ≤ lo ∧ xRv G YX12_colon (fr - 1) (lo - 13) [rv x0, .int x3] h (fun h4 => xext h h4 → Q (.returned none) h4) (fun r h2 => Q (.threw r) h2)
set_option maxRecDepth 100000 in
theorem uX12_checkThere_186 {G : xG} {fr lo : Nat} {x0 : Nat} {x3 : Int32} {h : xH} {Q : Outcome → xH → Prop} (hq : bX12_checkThere_186 G fr lo x0 x3 h Q) : xP G YX12_checkThere fr lo 186 [(0, rv x0), (3, .int x3)] [] h Q := by
  unfold bX12_checkThere_186 at hq
  refine x_aload_n 0 dX12_checkThere_186 rfl ?_
  refine x_iload_n 1 dX12_checkThere_187 rfl ?_
  obtain ⟨g1, hq⟩ := hq
  obtain ⟨g2, g3, hq⟩ := hq
  refine x_callV (Yc := YX12_colon) (as := [.int x3]) (st := []) q4460 mvX12_colon g1 rfl dX12_checkThere_188 (xle (xal1 (rv_cat _) (xal1 rfl xal0)) (by decide)) (xfr g2) (xlo xsw0 (by decide) g3) (xKv hq (fun h4 hq e6 => ?_) (fun _ _ q _ => q))
  replace hq := hq e6
  exact x_vret rfl dX12_checkThere_191 hq
set_option maxRecDepth 100000 in
def bX12_checkThere_142 (G : xG) (fr lo : Nat) (x0 : Nat) (x3 : Int32) (h : xH) (Q : Outcome → xH → Prop) : Prop := bX12_checkThere_186 G fr lo x0 x3 h Q
set_option maxRecDepth 100000 in
theorem uX12_checkThere_142 {G : xG} {fr lo : Nat} {x0 : Nat} {x3 : Int32} {h : xH} {Q : Outcome → xH → Prop} (hq : bX12_checkThere_142 G fr lo x0 x3 h Q) : xP G YX12_checkThere fr lo 142 [(0, rv x0), (3, .int x3)] [] h Q := by
  unfold bX12_checkThere_142 at hq
  refine x_goto (tgt := 186) dX12_checkThere_142 (by decide) ?_
  exact uX12_checkThere_186 hq
set_option maxRecDepth 100000 in
def bX12_checkThere_115 (G : xG) (fr lo : Nat) (x0 : Nat) (x3 : Int32) (x4 : Int32) (x5 : Int32) (h : xH) (Q : Outcome → xH → Prop) : Prop := tg h x0 = 13 ∧ 1 ≤ fr ∧ 17 ≤ lo ∧ xRr G YX12_checkVariable (fr - 1) (lo - 17) [rv x0, .int x5] h (fun x5 h4 => xext h h4 → tg h4 x5 = 14 ∧ (((fI h4 x5 3328) = 11 → bX12_checkThere_142 G fr lo x0 x3 h4 Q) ∧ (¬ (fI h4 x5 3328) = 11 → tg h4 (fR h4 x0 3102) = 100 ∧ vp_in x4 (ln h4 (fR h4 x0 3102)) ∧ 1 ≤ fr ∧ 14 ≤ lo ∧ xRv G YX12_refuse (fr - 1) (lo - 14) [rv x0, .int 7, .int (aI h4 (fR h4 x0 3102) (Int32.toNatClampNeg x4))] h4 (fun h14 => xext h4 h14 → bX12_checkThere_142 G fr lo x0 x3 h14 Q) (fun r h2 => Q (.threw r) h2)))) (fun r h2 => Q (.threw r) h2)
set_option maxRecDepth 100000 in
theorem uX12_checkThere_115 {G : xG} {fr lo : Nat} {x0 : Nat} {x3 : Int32} {x4 : Int32} {x5 : Int32} {h : xH} {Q : Outcome → xH → Prop} (hq : bX12_checkThere_115 G fr lo x0 x3 x4 x5 h Q) : xP G YX12_checkThere fr lo 115 [(0, rv x0), (3, .int x3), (4, .int x4), (5, .int x5)] [] h Q := by
  unfold bX12_checkThere_115 at hq
  refine x_aload_n 0 dX12_checkThere_115 rfl ?_
  refine x_iload 3 dX12_checkThere_116 rfl ?_
  obtain ⟨g1, hq⟩ := hq
  obtain ⟨g2, g3, hq⟩ := hq
  refine x_callV (Yc := YX12_checkVariable) (as := [.int x5]) (st := []) q4367 mvX12_checkVariable g1 rfl dX12_checkThere_118 (xle (xal1 (rv_cat _) (xal1 rfl xal0)) (by decide)) (xfr g2) (xlo xsw0 (by decide) g3) (xKr hq (fun x5 h4 hq e6 => ?_) (fun _ _ q _ => q))
  replace hq := hq e6
  obtain ⟨g7, hq⟩ := hq
  refine x_get (v := .int (fI h4 x5 3328)) fdX12_845 dX12_checkThere_121 g7 rfl ?_
  refine x_bipush (v := 11) dX12_checkThere_124 (by decide) ?_
  refine x_icmp_eq (tgt := 142) dX12_checkThere_126 (by decide) (fun c8 => ?_) (fun c8 => ?_)
  · replace hq := hq.1 c8
    refine xP.pick (lv' := [(0, rv x0), (3, .int x3)]) [0, 1] rfl ?_
    exact uX12_checkThere_142 hq
  · replace hq := hq.2 c8
    refine x_aload_n 0 dX12_checkThere_129 rfl ?_
    refine x_bipush (v := 7) dX12_checkThere_130 (by decide) ?_
    refine x_aload_n 0 dX12_checkThere_132 rfl ?_
    have t9 : tg h4 x0 = 13 := e6.tg g1 (by decide)
    refine x_get (v := rv (fR h4 x0 3102)) fdX12_70 dX12_checkThere_133 t9 rfl ?_
    refine x_iload 2 dX12_checkThere_136 rfl ?_
    obtain ⟨g10, hq⟩ := hq
    obtain ⟨i11, hq⟩ := hq
    refine x_iald 0 (Or.inl rfl) g10 i11 dX12_checkThere_138 ?_
    obtain ⟨g12, g13, hq⟩ := hq
    refine x_callV (Yc := YX12_refuse) (as := [.int 7, .int (aI h4 (fR h4 x0 3102) (Int32.toNatClampNeg x4))]) (st := []) q4095 mvX12_refuse t9 rfl dX12_checkThere_139 (xle (xal1 (rv_cat _) (xal1 rfl (xal1 rfl xal0))) (by decide)) (xfr g12) (xlo xsw0 (by decide) g13) (xKv hq (fun h14 hq e16 => ?_) (fun _ _ q _ => q))
    replace hq := hq e16
    refine xP.pick (lv' := [(0, rv x0), (3, .int x3)]) [0, 1] rfl ?_
    exact uX12_checkThere_142 hq
set_option maxRecDepth 100000 in
def bX12_checkThere_52 (G : xG) (fr lo : Nat) (x0 : Nat) (x2 : Nat) (x3 : Int32) (h : xH) (Q : Outcome → xH → Prop) : Prop := tg h x0 = 13 ∧ tg h (fR h x0 3103) = 100 ∧ vp_in x3 (ln h (fR h x0 3103)) ∧ tg h x2 = 24 ∧ ((8 < (fI h x2 5903) → ((¬ (fI h x2 5903) = 9 → 1 ≤ fr ∧ 15 ≤ lo ∧ xRr G YX12_checkE (fr - 1) (lo - 15) [rv x0, .int (aI h (fR h x0 3103) (Int32.toNatClampNeg x3))] h (fun x10 h9 => xext h h9 → tg h9 x10 = 14 ∧ (((fI h9 x10 3328) = 11 → bX12_checkThere_186 G fr lo x0 x3 h9 Q) ∧ (¬ (fI h9 x10 3328) = 11 → (((fI h9 x10 3328) = 12 → bX12_checkThere_186 G fr lo x0 x3 h9 Q) ∧ (¬ (fI h9 x10 3328) = 12 → tg h9 (fR h9 x0 3102) = 100 ∧ vp_in (aI h (fR h x0 3103) (Int32.toNatClampNeg x3)) (ln h9 (fR h9 x0 3102)) ∧ 1 ≤ fr ∧ 14 ≤ lo ∧ xRv G YX12_refuse (fr - 1) (lo - 14) [rv x0, .int 7, .int (aI h9 (fR h9 x0 3102) (Int32.toNatClampNeg (aI h (fR h x0 3103) (Int32.toNatClampNeg x3))))] h9 (fun h20 => xext h9 h20 → bX12_checkThere_186 G fr lo x0 x3 h20 Q) (fun r h2 => Q (.threw r) h2)))))) (fun r h2 => Q (.threw r) h2)) ∧ ((fI h x2 5903) = 9 → 1 ≤ fr ∧ 15 ≤ lo ∧ xRi G YX12_loneVariable (fr - 1) (lo - 15) [rv x0, .int (aI h (fR h x0 3103) (Int32.toNatClampNeg x3))] h (fun x26 h25 => xext h h25 → ((¬ x26 = (-1) → bX12_checkThere_115 G fr lo x0 x3 (aI h (fR h x0 3103) (Int32.toNatClampNeg x3)) x26 h25 Q) ∧ (x26 = (-1) → tg h25 (fR h25 x0 3102) = 100 ∧ vp_in (aI h (fR h x0 3103) (Int32.toNatClampNeg x3)) (ln h25 (fR h25 x0 3102)) ∧ 1 ≤ fr ∧ 14 ≤ lo ∧ xRv G YX12_refuse (fr - 1) (lo - 14) [rv x0, .int 6, .int (aI h25 (fR h25 x0 3102) (Int32.toNatClampNeg (aI h (fR h x0 3103) (Int32.toNatClampNeg x3))))] h25 (fun h34 => xext h25 h34 → bX12_checkThere_115 G fr lo x0 x3 (aI h (fR h x0 3103) (Int32.toNatClampNeg x3)) x26 h34 Q) (fun r h2 => Q (.threw r) h2)))) (fun r h2 => Q (.threw r) h2)))) ∧ (¬ 8 < (fI h x2 5903) → 1 ≤ fr ∧ 14 ≤ lo ∧ xRr G YX12_fileArgument (fr - 1) (lo - 14) [rv x0, .int (aI h (fR h x0 3103) (Int32.toNatClampNeg x3))] h (fun x40 h39 => xext h h39 → bX12_checkThere_186 G fr lo x0 x3 h39 Q) (fun r h2 => Q (.threw r) h2)))
set_option maxRecDepth 100000 in
theorem uX12_checkThere_52 {G : xG} {fr lo : Nat} {x0 : Nat} {x2 : Nat} {x3 : Int32} {h : xH} {Q : Outcome → xH → Prop} (hq : bX12_checkThere_52 G fr lo x0 x2 x3 h Q) : xP G YX12_checkThere fr lo 52 [(0, rv x0), (2, rv x2), (3, .int x3)] [] h Q := by
  unfold bX12_checkThere_52 at hq
  refine x_aload_n 0 dX12_checkThere_52 rfl ?_
  obtain ⟨g1, hq⟩ := hq
  refine x_get (v := rv (fR h x0 3103)) fdX12_73 dX12_checkThere_53 g1 rfl ?_
  refine x_iload_n 2 dX12_checkThere_56 rfl ?_
  obtain ⟨g2, hq⟩ := hq
  obtain ⟨i3, hq⟩ := hq
  refine x_iald 0 (Or.inl rfl) g2 i3 dX12_checkThere_57 ?_
  refine x_istore (lv' := [(4, .int (aI h (fR h x0 3103) (Int32.toNatClampNeg x3))), (0, rv x0), (2, rv x2), (3, .int x3)]) dX12_checkThere_58 (by decide) rfl ?_
  refine x_aload_n 2 dX12_checkThere_60 rfl ?_
  obtain ⟨g4, hq⟩ := hq
  refine x_get (v := .int (fI h x2 5903)) fdX12_632 dX12_checkThere_61 g4 rfl ?_
  refine x_bipush (v := 8) dX12_checkThere_64 (by decide) ?_
  refine x_icmp_gt (tgt := 79) dX12_checkThere_66 (by decide) (fun c5 => ?_) (fun c5 => ?_)
  · replace hq := hq.1 c5
    refine x_aload_n 2 dX12_checkThere_79 rfl ?_
    refine x_get (v := .int (fI h x2 5903)) fdX12_632 dX12_checkThere_80 g4 rfl ?_
    refine x_bipush (v := 9) dX12_checkThere_83 (by decide) ?_
    refine x_icmp_ne (tgt := 145) dX12_checkThere_85 (by decide) (fun c6 => ?_) (fun c6 => ?_)
    · replace hq := hq.1 c6
      refine x_aload_n 1 dX12_checkThere_145 rfl ?_
      refine x_iload 0 dX12_checkThere_146 rfl ?_
      obtain ⟨g7, g8, hq⟩ := hq
      refine x_callV (Yc := YX12_checkE) (as := [.int (aI h (fR h x0 3103) (Int32.toNatClampNeg x3))]) (st := []) q4308 mvX12_checkE g1 rfl dX12_checkThere_148 (xle (xal1 (rv_cat _) (xal1 rfl xal0)) (by decide)) (xfr g7) (xlo xsw0 (by decide) g8) (xKr hq (fun x10 h9 hq e11 => ?_) (fun _ _ q _ => q))
      replace hq := hq e11
      refine x_astore (lv' := [(5, rv x10), (4, .int (aI h (fR h x0 3103) (Int32.toNatClampNeg x3))), (0, rv x0), (2, rv x2), (3, .int x3)]) dX12_checkThere_151 (by decide) rfl ?_
      refine x_aload 0 dX12_checkThere_153 rfl ?_
      obtain ⟨g12, hq⟩ := hq
      refine x_get (v := .int (fI h9 x10 3328)) fdX12_845 dX12_checkThere_155 g12 rfl ?_
      refine x_bipush (v := 11) dX12_checkThere_158 (by decide) ?_
      refine x_icmp_eq (tgt := 186) dX12_checkThere_160 (by decide) (fun c13 => ?_) (fun c13 => ?_)
      · replace hq := hq.1 c13
        refine xP.pick (lv' := [(0, rv x0), (3, .int x3)]) [2, 4] rfl ?_
        exact uX12_checkThere_186 hq
      · replace hq := hq.2 c13
        refine x_aload 0 dX12_checkThere_163 rfl ?_
        refine x_get (v := .int (fI h9 x10 3328)) fdX12_845 dX12_checkThere_165 g12 rfl ?_
        refine x_bipush (v := 12) dX12_checkThere_168 (by decide) ?_
        refine x_icmp_eq (tgt := 186) dX12_checkThere_170 (by decide) (fun c14 => ?_) (fun c14 => ?_)
        · replace hq := hq.1 c14
          refine xP.pick (lv' := [(0, rv x0), (3, .int x3)]) [2, 4] rfl ?_
          exact uX12_checkThere_186 hq
        · replace hq := hq.2 c14
          refine x_aload_n 2 dX12_checkThere_173 rfl ?_
          refine x_bipush (v := 7) dX12_checkThere_174 (by decide) ?_
          refine x_aload_n 2 dX12_checkThere_176 rfl ?_
          have t15 : tg h9 x0 = 13 := e11.tg g1 (by decide)
          refine x_get (v := rv (fR h9 x0 3102)) fdX12_70 dX12_checkThere_177 t15 rfl ?_
          refine x_iload 1 dX12_checkThere_180 rfl ?_
          obtain ⟨g16, hq⟩ := hq
          obtain ⟨i17, hq⟩ := hq
          refine x_iald 0 (Or.inl rfl) g16 i17 dX12_checkThere_182 ?_
          obtain ⟨g18, g19, hq⟩ := hq
          refine x_callV (Yc := YX12_refuse) (as := [.int 7, .int (aI h9 (fR h9 x0 3102) (Int32.toNatClampNeg (aI h (fR h x0 3103) (Int32.toNatClampNeg x3))))]) (st := []) q4095 mvX12_refuse t15 rfl dX12_checkThere_183 (xle (xal1 (rv_cat _) (xal1 rfl (xal1 rfl xal0))) (by decide)) (xfr g18) (xlo xsw0 (by decide) g19) (xKv hq (fun h20 hq e22 => ?_) (fun _ _ q _ => q))
          replace hq := hq e22
          refine xP.pick (lv' := [(0, rv x0), (3, .int x3)]) [2, 4] rfl ?_
          exact uX12_checkThere_186 hq
    · replace hq := hq.2 c6
      refine x_aload_n 1 dX12_checkThere_88 rfl ?_
      refine x_iload 0 dX12_checkThere_89 rfl ?_
      obtain ⟨g23, g24, hq⟩ := hq
      refine x_callV (Yc := YX12_loneVariable) (as := [.int (aI h (fR h x0 3103) (Int32.toNatClampNeg x3))]) (st := []) q4348 mvX12_loneVariable g1 rfl dX12_checkThere_91 (xle (xal1 (rv_cat _) (xal1 rfl xal0)) (by decide)) (xfr g23) (xlo xsw0 (by decide) g24) (xKi hq (fun x26 h25 hq e27 => ?_) (fun _ _ q _ => q))
      replace hq := hq e27
      refine x_istore (lv' := [(5, .int x26), (4, .int (aI h (fR h x0 3103) (Int32.toNatClampNeg x3))), (0, rv x0), (2, rv x2), (3, .int x3)]) dX12_checkThere_94 (by decide) rfl ?_
      refine x_iload 0 dX12_checkThere_96 rfl ?_
      refine x_iconst (v := (-1)) dX12_checkThere_98 (by decide) ?_
      refine x_icmp_ne (tgt := 115) dX12_checkThere_99 (by decide) (fun c28 => ?_) (fun c28 => ?_)
      · replace hq := hq.1 c28
        refine xP.pick (lv' := [(0, rv x0), (3, .int x3), (4, .int (aI h (fR h x0 3103) (Int32.toNatClampNeg x3))), (5, .int x26)]) [2, 4, 1, 0] rfl ?_
        exact uX12_checkThere_115 hq
      · replace hq := hq.2 c28
        refine x_aload_n 2 dX12_checkThere_102 rfl ?_
        refine x_bipush (v := 6) dX12_checkThere_103 (by decide) ?_
        refine x_aload_n 2 dX12_checkThere_105 rfl ?_
        have t29 : tg h25 x0 = 13 := e27.tg g1 (by decide)
        refine x_get (v := rv (fR h25 x0 3102)) fdX12_70 dX12_checkThere_106 t29 rfl ?_
        refine x_iload 1 dX12_checkThere_109 rfl ?_
        obtain ⟨g30, hq⟩ := hq
        obtain ⟨i31, hq⟩ := hq
        refine x_iald 0 (Or.inl rfl) g30 i31 dX12_checkThere_111 ?_
        obtain ⟨g32, g33, hq⟩ := hq
        refine x_callV (Yc := YX12_refuse) (as := [.int 6, .int (aI h25 (fR h25 x0 3102) (Int32.toNatClampNeg (aI h (fR h x0 3103) (Int32.toNatClampNeg x3))))]) (st := []) q4095 mvX12_refuse t29 rfl dX12_checkThere_112 (xle (xal1 (rv_cat _) (xal1 rfl (xal1 rfl xal0))) (by decide)) (xfr g32) (xlo xsw0 (by decide) g33) (xKv hq (fun h34 hq e36 => ?_) (fun _ _ q _ => q))
        replace hq := hq e36
        refine xP.pick (lv' := [(0, rv x0), (3, .int x3), (4, .int (aI h (fR h x0 3103) (Int32.toNatClampNeg x3))), (5, .int x26)]) [2, 4, 1, 0] rfl ?_
        exact uX12_checkThere_115 hq
  · replace hq := hq.2 c5
    refine x_aload_n 1 dX12_checkThere_69 rfl ?_
    refine x_iload 0 dX12_checkThere_70 rfl ?_
    obtain ⟨g37, g38, hq⟩ := hq
    refine x_callV (Yc := YX12_fileArgument) (as := [.int (aI h (fR h x0 3103) (Int32.toNatClampNeg x3))]) (st := []) q4340 mvX12_fileArgument g1 rfl dX12_checkThere_72 (xle (xal1 (rv_cat _) (xal1 rfl xal0)) (by decide)) (xfr g37) (xlo xsw0 (by decide) g38) (xKr hq (fun x40 h39 hq e41 => ?_) (fun _ _ q _ => q))
    replace hq := hq e41
    refine x_pop dX12_checkThere_75 (rv_cat _) ?_
    refine x_goto (tgt := 186) dX12_checkThere_76 (by decide) ?_
    refine xP.pick (lv' := [(0, rv x0), (3, .int x3)]) [1, 3] rfl ?_
    exact uX12_checkThere_186 hq
set_option maxRecDepth 100000 in
def bX12_checkThere_40 (G : xG) (fr lo : Nat) (x0 : Nat) (x1 : Int32) (x2 : Nat) (x3 : Int32) (h : xH) (Q : Outcome → xH → Prop) : Prop := tg h x0 = 13 ∧ tg h (fR h x0 3102) = 100 ∧ vp_in x1 (ln h (fR h x0 3102)) ∧ 1 ≤ fr ∧ 14 ≤ lo ∧ xRv G YX12_refuse (fr - 1) (lo - 14) [rv x0, .int 9, .int (aI h (fR h x0 3102) (Int32.toNatClampNeg x1))] h (fun h6 => xext h h6 → bX12_checkThere_52 G fr lo x0 x2 x3 h6 Q) (fun r h2 => Q (.threw r) h2)
set_option maxRecDepth 100000 in
theorem uX12_checkThere_40 {G : xG} {fr lo : Nat} {x0 : Nat} {x1 : Int32} {x2 : Nat} {x3 : Int32} {h : xH} {Q : Outcome → xH → Prop} (hq : bX12_checkThere_40 G fr lo x0 x1 x2 x3 h Q) : xP G YX12_checkThere fr lo 40 [(0, rv x0), (1, .int x1), (2, rv x2), (3, .int x3)] [] h Q := by
  unfold bX12_checkThere_40 at hq
  refine x_aload_n 0 dX12_checkThere_40 rfl ?_
  refine x_bipush (v := 9) dX12_checkThere_41 (by decide) ?_
  refine x_aload_n 0 dX12_checkThere_43 rfl ?_
  obtain ⟨g1, hq⟩ := hq
  refine x_get (v := rv (fR h x0 3102)) fdX12_70 dX12_checkThere_44 g1 rfl ?_
  refine x_iload_n 1 dX12_checkThere_47 rfl ?_
  obtain ⟨g2, hq⟩ := hq
  obtain ⟨i3, hq⟩ := hq
  refine x_iald 0 (Or.inl rfl) g2 i3 dX12_checkThere_48 ?_
  obtain ⟨g4, g5, hq⟩ := hq
  refine x_callV (Yc := YX12_refuse) (as := [.int 9, .int (aI h (fR h x0 3102) (Int32.toNatClampNeg x1))]) (st := []) q4095 mvX12_refuse g1 rfl dX12_checkThere_49 (xle (xal1 (rv_cat _) (xal1 rfl (xal1 rfl xal0))) (by decide)) (xfr g4) (xlo xsw0 (by decide) g5) (xKv hq (fun h6 hq e8 => ?_) (fun _ _ q _ => q))
  replace hq := hq e8
  refine xP.pick (lv' := [(0, rv x0), (2, rv x2), (3, .int x3)]) [0, 2, 3] rfl ?_
  exact uX12_checkThere_52 hq
set_option maxRecDepth 100000 in
def bX12_checkThere (G : xG) (fr lo : Nat) (x0 : Nat) (x1 : Int32) (x2 : Nat) (h : xH) (Q : Outcome → xH → Prop) : Prop := tg h x2 = 24 ∧ ((4 < (fI h x2 5903) → tg h x0 = 13 ∧ tg h (fR h x0 3103) = 100 ∧ vp_in x1 (ln h (fR h x0 3103)) ∧ (((aI h (fR h x0 3103) (Int32.toNatClampNeg x1)) = (-1) → bX12_checkThere_40 G fr lo x0 x1 x2 (aI h (fR h x0 3103) (Int32.toNatClampNeg x1)) h Q) ∧ (¬ (aI h (fR h x0 3103) (Int32.toNatClampNeg x1)) = (-1) → tg h (fR h x0 3105) = 100 ∧ vp_in (aI h (fR h x0 3103) (Int32.toNatClampNeg x1)) (ln h (fR h x0 3105)) ∧ (((aI h (fR h x0 3105) (Int32.toNatClampNeg (aI h (fR h x0 3103) (Int32.toNatClampNeg x1)))) = (-1) → bX12_checkThere_52 G fr lo x0 x2 (aI h (fR h x0 3103) (Int32.toNatClampNeg x1)) h Q) ∧ (¬ (aI h (fR h x0 3105) (Int32.toNatClampNeg (aI h (fR h x0 3103) (Int32.toNatClampNeg x1)))) = (-1) → bX12_checkThere_40 G fr lo x0 x1 x2 (aI h (fR h x0 3103) (Int32.toNatClampNeg x1)) h Q))))) ∧ (¬ 4 < (fI h x2 5903) → tg h x0 = 13 ∧ 1 ≤ fr ∧ 19 ≤ lo ∧ xRv G YX12_checkTransfer (fr - 1) (lo - 19) [rv x0, .int x1, .int (fI h x2 5903)] h (fun h13 => xext h h13 → Q (.returned none) h13) (fun r h2 => Q (.threw r) h2)))
set_option maxRecDepth 100000 in
theorem uX12_checkThere {G : xG} {fr lo : Nat} {x0 : Nat} {x1 : Int32} {x2 : Nat} {h : xH} {Q : Outcome → xH → Prop} (hq : bX12_checkThere G fr lo x0 x1 x2 h Q) : xP G YX12_checkThere fr lo 0 [(0, rv x0), (1, .int x1), (2, rv x2)] [] h Q := by
  unfold bX12_checkThere at hq
  refine x_aload_n 2 dX12_checkThere_0 rfl ?_
  obtain ⟨g1, hq⟩ := hq
  refine x_get (v := .int (fI h x2 5903)) fdX12_632 dX12_checkThere_1 g1 rfl ?_
  refine x_iconst (v := 4) dX12_checkThere_4 (by decide) ?_
  refine x_icmp_gt (tgt := 18) dX12_checkThere_5 (by decide) (fun c2 => ?_) (fun c2 => ?_)
  · replace hq := hq.1 c2
    refine x_aload_n 0 dX12_checkThere_18 rfl ?_
    obtain ⟨g3, hq⟩ := hq
    refine x_get (v := rv (fR h x0 3103)) fdX12_73 dX12_checkThere_19 g3 rfl ?_
    refine x_iload_n 1 dX12_checkThere_22 rfl ?_
    obtain ⟨g4, hq⟩ := hq
    obtain ⟨i5, hq⟩ := hq
    refine x_iald 0 (Or.inl rfl) g4 i5 dX12_checkThere_23 ?_
    refine x_istore_n (lv' := [(3, .int (aI h (fR h x0 3103) (Int32.toNatClampNeg x1))), (0, rv x0), (1, .int x1), (2, rv x2)]) dX12_checkThere_24 (by decide) (by first | rfl | (simp [rv_cat, Value.category]; done) | (simp [rv_cat, Value.category]; decide)) ?_
    refine x_iload_n 0 dX12_checkThere_25 rfl ?_
    refine x_iconst (v := (-1)) dX12_checkThere_26 (by decide) ?_
    refine x_icmp_eq (tgt := 40) dX12_checkThere_27 (by decide) (fun c6 => ?_) (fun c6 => ?_)
    · replace hq := hq.1 c6
      refine xP.pick (lv' := [(0, rv x0), (1, .int x1), (2, rv x2), (3, .int (aI h (fR h x0 3103) (Int32.toNatClampNeg x1)))]) [1, 2, 3, 0] rfl ?_
      exact uX12_checkThere_40 hq
    · replace hq := hq.2 c6
      refine x_aload_n 1 dX12_checkThere_30 rfl ?_
      refine x_get (v := rv (fR h x0 3105)) fdX12_79 dX12_checkThere_31 g3 rfl ?_
      refine x_iload_n 0 dX12_checkThere_34 rfl ?_
      obtain ⟨g7, hq⟩ := hq
      obtain ⟨i8, hq⟩ := hq
      refine x_iald 0 (Or.inl rfl) g7 i8 dX12_checkThere_35 ?_
      refine x_iconst (v := (-1)) dX12_checkThere_36 (by decide) ?_
      refine x_icmp_eq (tgt := 52) dX12_checkThere_37 (by decide) (fun c9 => ?_) (fun c9 => ?_)
      · replace hq := hq.1 c9
        refine xP.pick (lv' := [(0, rv x0), (2, rv x2), (3, .int (aI h (fR h x0 3103) (Int32.toNatClampNeg x1)))]) [1, 3, 0] rfl ?_
        exact uX12_checkThere_52 hq
      · replace hq := hq.2 c9
        refine xP.pick (lv' := [(0, rv x0), (1, .int x1), (2, rv x2), (3, .int (aI h (fR h x0 3103) (Int32.toNatClampNeg x1)))]) [1, 2, 3, 0] rfl ?_
        exact uX12_checkThere_40 hq
  · replace hq := hq.2 c2
    refine x_aload_n 0 dX12_checkThere_8 rfl ?_
    refine x_iload_n 1 dX12_checkThere_9 rfl ?_
    refine x_aload_n 2 dX12_checkThere_10 rfl ?_
    refine x_get (v := .int (fI h x2 5903)) fdX12_632 dX12_checkThere_11 g1 rfl ?_
    obtain ⟨g10, hq⟩ := hq
    obtain ⟨g11, g12, hq⟩ := hq
    refine x_callV (Yc := YX12_checkTransfer) (as := [.int x1, .int (fI h x2 5903)]) (st := []) q4456 mvX12_checkTransfer g10 rfl dX12_checkThere_14 (xle (xal1 (rv_cat _) (xal1 rfl (xal1 rfl xal0))) (by decide)) (xfr g11) (xlo xsw0 (by decide) g12) (xKv hq (fun h13 hq e15 => ?_) (fun _ _ q _ => q))
    replace hq := hq e15
    exact x_vret rfl dX12_checkThere_17 hq
theorem rX12_checkThere {G : xG} {fr lo : Nat} {x0 : Nat} {x1 : Int32} {x2 : Nat} {h : xH} {Q : Outcome → xH → Prop} (hq : bX12_checkThere G fr lo x0 x1 x2 h Q) : xR G YX12_checkThere fr lo [rv x0, .int x1, rv x2] h Q := by
  show xP _ _ _ _ _ (lv_args 0 _) _ _ _
  rw [show lv_args 0 [rv x0, .int x1, rv x2] = [(0, rv x0), (1, .int x1), (2, rv x2)] from (xla1 (rv_cat _) (xla1 rfl (xla1 (rv_cat _) xla0)))]
  exact uX12_checkThere hq
