/-! glue for printed walks: picks of locals, calls by the kind of their answer, words of argument lists, new heaps by name -/
def xRi (G : xG) (Y : xY) (fr lo : Nat) (as : List Value) (h : xH) (k : Int32 → xH → Prop) (e : Nat → xH → Prop) : Prop := xR G Y fr lo as h (fun o h1 => match o with
  | .returned (some (.int x)) => k x h1
  | .threw r => e r h1
  | _ => False)
def xRj (G : xG) (Y : xY) (fr lo : Nat) (as : List Value) (h : xH) (k : Int64 → xH → Prop) (e : Nat → xH → Prop) : Prop := xR G Y fr lo as h (fun o h1 => match o with
  | .returned (some (.long x)) => k x h1
  | .threw r => e r h1
  | _ => False)
def xRd (G : xG) (Y : xY) (fr lo : Nat) (as : List Value) (h : xH) (k : UInt64 → xH → Prop) (e : Nat → xH → Prop) : Prop := xR G Y fr lo as h (fun o h1 => match o with
  | .returned (some (.double x)) => k x h1
  | .threw r => e r h1
  | _ => False)
def xRr (G : xG) (Y : xY) (fr lo : Nat) (as : List Value) (h : xH) (k : Nat → xH → Prop) (e : Nat → xH → Prop) : Prop := xR G Y fr lo as h (fun o h1 => match o with
  | .returned (some .null) => k 0 h1
  | .returned (some (.ref r)) => k (r + 1) h1
  | .threw r => e r h1
  | _ => False)
def xRv (G : xG) (Y : xY) (fr lo : Nat) (as : List Value) (h : xH) (k : xH → Prop) (e : Nat → xH → Prop) : Prop := xR G Y fr lo as h (fun o h1 => match o with
  | .returned none => k h1
  | .threw r => e r h1
  | _ => False)
def xsw (st : List Value) (w : Nat) : Prop := (st.map fun v => v.category).sum = w
theorem xsw0 : xsw [] 0 := rfl
theorem xsw1 {v : Value} {st : List Value} {w : Nat} (hv : v.category = 1) (h : xsw st w) : xsw (v :: st) (1 + w) := by
  unfold xsw at h ⊢
  rw [List.map_cons, List.sum_cons, hv, h]
theorem xsw2 {v : Value} {st : List Value} {w : Nat} (hv : v.category = 2) (h : xsw st w) : xsw (v :: st) (2 + w) := by
  unfold xsw at h ⊢
  rw [List.map_cons, List.sum_cons, hv, h]
def xal (as : List Value) (n : Nat) : Prop := (lg_sl as).length = n
theorem xal0 : xal [] 0 := rfl
theorem xal1 {v : Value} {as : List Value} {n : Nat} (hv : v.category = 1) (h : xal as n) : xal (v :: as) (1 + n) := by
  unfold xal lg_sl at h ⊢
  rw [List.flatMap_cons, if_neg (by omega), List.length_append, h]
  rfl
theorem xal2 {v : Value} {as : List Value} {n : Nat} (hv : v.category = 2) (h : xal as n) : xal (v :: as) (2 + n) := by
  unfold xal lg_sl at h ⊢
  rw [List.flatMap_cons, if_pos hv, List.length_append, h]
  rfl
theorem xla0 {i : Nat} : lv_args i [] = [] := rfl
theorem xla1 {i : Nat} {v : Value} {vs : List Value} {r : List (Nat × Value)} (hv : v.category = 1) (h : lv_args (i + 1) vs = r) : lv_args i (v :: vs) = (i, v) :: r := by
  show (i, v) :: lv_args (if v.category = 2 then i + 2 else i + 1) vs = _
  rw [if_neg (by omega), h]
theorem xla2 {i : Nat} {v : Value} {vs : List Value} {r : List (Nat × Value)} (hv : v.category = 2) (h : lv_args (i + 2) vs = r) : lv_args i (v :: vs) = (i, v) :: r := by
  show (i, v) :: lv_args (if v.category = 2 then i + 2 else i + 1) vs = _
  rw [if_pos hv, h]
/-- an int fits a small type -/
def xni (ty : FieldType) (x : Int32) : Prop := narrow ty (.int x) = .int x ∧ fits ty (.int x) = true
theorem xnI {x : Int32} : xni .int x := ⟨rfl, rfl⟩
theorem xnB {x : Int32} (hx : x = 0 ∨ x = 1) : xni .boolean x := by rcases hx with rfl | rfl <;> exact ⟨rfl, rfl⟩
/-- an address at which nothing lies, nor behind it -/
def xfresh (h : xH) (a : Nat) : Prop := ∀ b, tg h b ≠ 0 → b < a
theorem xfresh.of {h : xH} (w : xwf h) : xfresh h (nx h + 1) := fun b hb => by
  rcases Nat.lt_or_ge (nx h) b with q | q
  · exact absurd (w.2 b q) hb
  · omega
theorem tg_nO {h : xH} {t n : Nat} : tg (nO h t n) (nx h + 1) = t := by show up1 (tg h) (nx h + 1) t (nx h + 1) = t; simp [up1]
theorem tg_nA {h : xH} {t n : Nat} : tg (nA h t n) (nx h + 1) = t := by show up1 (tg h) (nx h + 1) t (nx h + 1) = t; simp [up1]
theorem ln_nA {h : xH} {t n : Nat} : ln (nA h t n) (nx h + 1) = n := by show up1 (ln h) (nx h + 1) n (nx h + 1) = n; simp [up1]
theorem tg_nO_ne {h : xH} {t n b a : Nat} (e : a = nx h + 1) (f : xfresh h a) {u : Nat} (g : tg h b = u) (hu : u ≠ 0) : tg (nO h t n) b = u := by
  have := f b (by rw [g]; exact hu)
  show up1 (tg h) (nx h + 1) t b = u
  simp only [up1, if_neg (show b ≠ nx h + 1 by omega)]
  exact g
theorem tg_nA_ne {h : xH} {t n b a : Nat} (e : a = nx h + 1) (f : xfresh h a) {u : Nat} (g : tg h b = u) (hu : u ≠ 0) : tg (nA h t n) b = u := by
  have := f b (by rw [g]; exact hu)
  show up1 (tg h) (nx h + 1) t b = u
  simp only [up1, if_neg (show b ≠ nx h + 1 by omega)]
  exact g
theorem xext.tg {h h1 : xH} (x : xext h h1) {b u : Nat} (g : Jvm.Pilot.CPascalHouseLaw_law_r6220_298041.tg h b = u) (hu : u ≠ 0) : Jvm.Pilot.CPascalHouseLaw_law_r6220_298041.tg h1 b = u := ((x.2.2 b (by rw [g]; exact hu)).1).trans g
section XGL
variable {G : xG} {Y Yc : xY} {fr lo pc fc lc : Nat} {lv lv' : List (Nat × Value)} {as st : List Value} {h h1 : xH} {Q : Outcome → xH → Prop}
theorem xP.pick (ks : List Nat) (hk : lv_pick lv ks = lv') (k : xP G Y fr lo pc lv' st h Q) : xP G Y fr lo pc lv st h Q := by
  intro hw0
  obtain ⟨o, h', w1, w2, q, w⟩ := k hw0
  exact ⟨o, h', w1, w2, q, fun p l e R s m args below meth c u0 C E H locs ls a1 a2 a3 a4 a5 => w p l e R s m args below meth c u0 C E H locs ls a1 a2 a3 a4 (lv_sub a5 ks hk)⟩
theorem xKi {k : Int32 → xH → Prop} {e : Nat → xH → Prop} (K : xRi G Yc fc lc as h k e) (hk : ∀ x h1, k x h1 → xext h h1 → xP G Y fr lo pc lv (.int x :: st) h1 Q) (he : ∀ r h1, e r h1 → xext h h1 → Q (.threw r) h1) : xR G Yc fc lc as h (fun o h1 => xext h h1 → match o with
    | .returned v => xP G Y fr lo pc lv (v.toList ++ st) h1 Q
    | .threw x => Q (.threw x) h1) :=
  xP.mono K fun o h1 q xe => by
    match o, q with
    | .returned (some (.int x)), q => exact hk x h1 q xe
    | .threw r, q => exact he r h1 q xe
theorem xKj {k : Int64 → xH → Prop} {e : Nat → xH → Prop} (K : xRj G Yc fc lc as h k e) (hk : ∀ x h1, k x h1 → xext h h1 → xP G Y fr lo pc lv (.long x :: st) h1 Q) (he : ∀ r h1, e r h1 → xext h h1 → Q (.threw r) h1) : xR G Yc fc lc as h (fun o h1 => xext h h1 → match o with
    | .returned v => xP G Y fr lo pc lv (v.toList ++ st) h1 Q
    | .threw x => Q (.threw x) h1) :=
  xP.mono K fun o h1 q xe => by
    match o, q with
    | .returned (some (.long x)), q => exact hk x h1 q xe
    | .threw r, q => exact he r h1 q xe
theorem xKd {k : UInt64 → xH → Prop} {e : Nat → xH → Prop} (K : xRd G Yc fc lc as h k e) (hk : ∀ x h1, k x h1 → xext h h1 → xP G Y fr lo pc lv (.double x :: st) h1 Q) (he : ∀ r h1, e r h1 → xext h h1 → Q (.threw r) h1) : xR G Yc fc lc as h (fun o h1 => xext h h1 → match o with
    | .returned v => xP G Y fr lo pc lv (v.toList ++ st) h1 Q
    | .threw x => Q (.threw x) h1) :=
  xP.mono K fun o h1 q xe => by
    match o, q with
    | .returned (some (.double x)), q => exact hk x h1 q xe
    | .threw r, q => exact he r h1 q xe
theorem xKr {k : Nat → xH → Prop} {e : Nat → xH → Prop} (K : xRr G Yc fc lc as h k e) (hk : ∀ x h1, k x h1 → xext h h1 → xP G Y fr lo pc lv (rv x :: st) h1 Q) (he : ∀ r h1, e r h1 → xext h h1 → Q (.threw r) h1) : xR G Yc fc lc as h (fun o h1 => xext h h1 → match o with
    | .returned v => xP G Y fr lo pc lv (v.toList ++ st) h1 Q
    | .threw x => Q (.threw x) h1) :=
  xP.mono K fun o h1 q xe => by
    match o, q with
    | .returned (some .null), q => exact hk 0 h1 q xe
    | .returned (some (.ref r)), q => exact hk (r + 1) h1 q xe
    | .threw r, q => exact he r h1 q xe
theorem xKv {k : xH → Prop} {e : Nat → xH → Prop} (K : xRv G Yc fc lc as h k e) (hk : ∀ h1, k h1 → xext h h1 → xP G Y fr lo pc lv st h1 Q) (he : ∀ r h1, e r h1 → xext h h1 → Q (.threw r) h1) : xR G Yc fc lc as h (fun o h1 => xext h h1 → match o with
    | .returned v => xP G Y fr lo pc lv (v.toList ++ st) h1 Q
    | .threw x => Q (.threw x) h1) :=
  xP.mono K fun o h1 q xe => by
    match o, q with
    | .returned none, q => exact hk h1 q xe
    | .threw r, q => exact he r h1 q xe
/-- what a call weighs: K words of the stack -/
theorem xlo {w K : Nat} (hs : xsw st w) (hk : w + (yL Yc + 11) = K) (hl : K ≤ lo) : (st.map fun v => v.category).sum + (yL Yc + 11) + (lo - K) ≤ lo := by
  unfold xsw at hs
  omega
theorem xfr (hf : 1 ≤ fr) : fr - 1 + 1 ≤ fr := by omega
theorem xle {n : Nat} (ha : xal as n) (hn : n ≤ yL Yc) : (lg_sl as).length ≤ yL Yc := by
  unfold xal at ha
  omega
theorem x_iast' {a : Nat} {i x : Int32} (ht : tg h a = 100) (hi : vp_in i (ln h a)) (d : decode (yC Y) pc = .ok (.iastore, 1)) (e1 : h1 = tI h a i.toNatClampNeg x) (kk : xP G Y fr lo (pc + 1) lv st h1 Q) : xP G Y fr lo pc lv (.int x :: .int i :: rv a :: st) h Q := by
  subst e1; exact x_iast ht hi d kk
theorem x_bast' {a : Nat} {i x : Int32} (ht : tg h a = 103) (hw : xwr G h a) (hi : vp_in i (ln h a)) (d : decode (yC Y) pc = .ok (.bastore, 1)) (e1 : h1 = tI h a i.toNatClampNeg (vp_nar .byte x)) (kk : xP G Y fr lo (pc + 1) lv st h1 Q) : xP G Y fr lo pc lv (.int x :: .int i :: rv a :: st) h Q := by
  subst e1; exact x_bast ht hw hi d kk
theorem x_zast' {a : Nat} {i x : Int32} (ht : tg h a = 104) (hi : vp_in i (ln h a)) (d : decode (yC Y) pc = .ok (.bastore, 1)) (e1 : h1 = tI h a i.toNatClampNeg (vp_nar .boolean x)) (kk : xP G Y fr lo (pc + 1) lv st h1 Q) : xP G Y fr lo pc lv (.int x :: .int i :: rv a :: st) h Q := by
  subst e1; exact x_zast ht hi d kk
theorem x_last' {a : Nat} {i : Int32} {x : Int64} (ht : tg h a = 101) (hi : vp_in i (ln h a)) (d : decode (yC Y) pc = .ok (.lastore, 1)) (e1 : h1 = tJ h a i.toNatClampNeg x) (kk : xP G Y fr lo (pc + 1) lv st h1 Q) : xP G Y fr lo pc lv (.long x :: .int i :: rv a :: st) h Q := by
  subst e1; exact x_last ht hi d kk
theorem x_dast' {a : Nat} {i : Int32} {x : UInt64} (ht : tg h a = 102) (hi : vp_in i (ln h a)) (d : decode (yC Y) pc = .ok (.dastore, 1)) (e1 : h1 = tD h a i.toNatClampNeg x) (kk : xP G Y fr lo (pc + 1) lv st h1 Q) : xP G Y fr lo pc lv (.double x :: .int i :: rv a :: st) h Q := by
  subst e1; exact x_dast ht hi d kk
theorem x_putI {index ci k f : Nat} {ty : FieldType} {a : Nat} {x : Int32} (hf : xFd (yN Y).cls index ci k ty false) (hty : ty = .int ∨ ty = .boolean ∨ ty = .byte ∨ ty = .char ∨ ty = .short) (d : decode (yC Y) pc = .ok (.putfield index, 3)) (ht : tg h a = ci + 1) (hw : xwr G h a) (hn : xni ty x) (hfi : 256 * ci + k = f) (e1 : h1 = sI h a f x) (kk : xP G Y fr lo (pc + 3) lv st h1 Q) : xP G Y fr lo pc lv (.int x :: rv a :: st) h Q := by
  subst e1; subst hfi
  exact x_put hf d ht hw hn.1 hn.2 (xset_I h a _ x hty) kk
theorem x_putJ {index ci k f : Nat} {a : Nat} {x : Int64} (hf : xFd (yN Y).cls index ci k .long false) (d : decode (yC Y) pc = .ok (.putfield index, 3)) (ht : tg h a = ci + 1) (hw : xwr G h a) (hfi : 256 * ci + k = f) (e1 : h1 = sJ h a f x) (kk : xP G Y fr lo (pc + 3) lv st h1 Q) : xP G Y fr lo pc lv (.long x :: rv a :: st) h Q := by
  subst e1; subst hfi
  exact x_put hf d ht hw rfl rfl (xset_J h a _ x) kk
theorem x_putD {index ci k f : Nat} {a : Nat} {x : UInt64} (hf : xFd (yN Y).cls index ci k .double false) (d : decode (yC Y) pc = .ok (.putfield index, 3)) (ht : tg h a = ci + 1) (hw : xwr G h a) (hfi : 256 * ci + k = f) (e1 : h1 = sD h a f x) (kk : xP G Y fr lo (pc + 3) lv st h1 Q) : xP G Y fr lo pc lv (.double x :: rv a :: st) h Q := by
  subst e1; subst hfi
  exact x_put hf d ht hw rfl rfl (xset_D h a _ x) kk
theorem rv_nar {ty : FieldType} (hty : (∃ C, ty = .object C) ∨ ∃ t, ty = .array t) (x : Nat) : narrow ty (rv x) = rv x ∧ fits ty (rv x) = true := by
  rcases hty with ⟨C, rfl⟩ | ⟨t, rfl⟩ <;> cases x <;> exact ⟨rfl, rfl⟩
theorem x_putR {index ci k f : Nat} {ty : FieldType} {a : Nat} {x : Nat} (hf : xFd (yN Y).cls index ci k ty false) (hty : (∃ C, ty = .object C) ∨ ∃ t, ty = .array t) (d : decode (yC Y) pc = .ok (.putfield index, 3)) (ht : tg h a = ci + 1) (hw : xwr G h a) (hfi : 256 * ci + k = f) (e1 : h1 = sR h a f x) (kk : xP G Y fr lo (pc + 3) lv st h1 Q) : xP G Y fr lo pc lv (rv x :: rv a :: st) h Q := by
  subst e1; subst hfi
  exact x_put hf d ht hw (rv_nar hty x).1 (rv_nar hty x).2 (xset_R h a _ x hty) kk
theorem x_putNI {index ci k f : Nat} {ty : FieldType} {a : Nat} {x : Int32} (hf : xFn (yN Y).cls index ci k ty false) (hty : ty = .int ∨ ty = .boolean ∨ ty = .byte ∨ ty = .char ∨ ty = .short) (d : decode (yC Y) pc = .ok (.putfield index, 3)) (ht : tg h a = ci + 1) (hw : xwr G h a) (hn : xni ty x) (hfi : 256 * ci + k = f) (e1 : h1 = sI h a f x) (kk : xP G Y fr lo (pc + 3) lv st h1 Q) : xP G Y fr lo pc lv (.int x :: rv a :: st) h Q := by
  subst e1; subst hfi
  exact x_putN hf d ht hw hn.1 hn.2 (xset_I h a _ x hty) kk
theorem x_putND {index ci k f : Nat} {a : Nat} {x : UInt64} (hf : xFn (yN Y).cls index ci k .double false) (d : decode (yC Y) pc = .ok (.putfield index, 3)) (ht : tg h a = ci + 1) (hw : xwr G h a) (hfi : 256 * ci + k = f) (e1 : h1 = sD h a f x) (kk : xP G Y fr lo (pc + 3) lv st h1 Q) : xP G Y fr lo pc lv (.double x :: rv a :: st) h Q := by
  subst e1; subst hfi
  exact x_putN hf d ht hw rfl rfl (xset_D h a _ x) kk
theorem x_putNJ {index ci k f : Nat} {a : Nat} {x : Int64} (hf : xFn (yN Y).cls index ci k .long false) (d : decode (yC Y) pc = .ok (.putfield index, 3)) (ht : tg h a = ci + 1) (hw : xwr G h a) (hfi : 256 * ci + k = f) (e1 : h1 = sJ h a f x) (kk : xP G Y fr lo (pc + 3) lv st h1 Q) : xP G Y fr lo pc lv (.long x :: rv a :: st) h Q := by
  subst e1; subst hfi
  exact x_putN hf d ht hw rfl rfl (xset_J h a _ x) kk
theorem x_putNR {index ci k f : Nat} {ty : FieldType} {a : Nat} {x : Nat} (hf : xFn (yN Y).cls index ci k ty false) (hty : (∃ C, ty = .object C) ∨ ∃ t, ty = .array t) (d : decode (yC Y) pc = .ok (.putfield index, 3)) (ht : tg h a = ci + 1) (hw : xwr G h a) (hfi : 256 * ci + k = f) (e1 : h1 = sR h a f x) (kk : xP G Y fr lo (pc + 3) lv st h1 Q) : xP G Y fr lo pc lv (rv x :: rv a :: st) h Q := by
  subst e1; subst hfi
  exact x_putN hf d ht hw (rv_nar hty x).1 (rv_nar hty x).2 (xset_R h a _ x hty) kk
/-- a final field, in its class's own constructor -/
def xOwn (Y : xY) (ci k : Nat) : Prop := (yN Y).name = "<init>" ∧ ∃ (T : u_T) (N : Nat), xcl[ci]? = some ((yN Y).cls, T, N) ∧ (T k).1 = (yN Y).cls
theorem x_putFI {index ci k f : Nat} {ty : FieldType} {a : Nat} {x : Int32} (hf : xFd (yN Y).cls index ci k ty true) (ho : xOwn Y ci k) (hty : ty = .int ∨ ty = .boolean ∨ ty = .byte ∨ ty = .char ∨ ty = .short) (d : decode (yC Y) pc = .ok (.putfield index, 3)) (ht : tg h a = ci + 1) (hw : xwr G h a) (hn : xni ty x) (hfi : 256 * ci + k = f) (e1 : h1 = sI h a f x) (kk : xP G Y fr lo (pc + 3) lv st h1 Q) : xP G Y fr lo pc lv (.int x :: rv a :: st) h Q := by
  subst e1; subst hfi
  exact x_putF hf ho.1 ho.2 d ht hw hn.1 hn.2 (xset_I h a _ x hty) kk
theorem x_putFD {index ci k f : Nat} {a : Nat} {x : UInt64} (hf : xFd (yN Y).cls index ci k .double true) (ho : xOwn Y ci k) (d : decode (yC Y) pc = .ok (.putfield index, 3)) (ht : tg h a = ci + 1) (hw : xwr G h a) (hfi : 256 * ci + k = f) (e1 : h1 = sD h a f x) (kk : xP G Y fr lo (pc + 3) lv st h1 Q) : xP G Y fr lo pc lv (.double x :: rv a :: st) h Q := by
  subst e1; subst hfi
  exact x_putF hf ho.1 ho.2 d ht hw rfl rfl (xset_D h a _ x) kk
theorem x_putFR {index ci k f : Nat} {ty : FieldType} {a : Nat} {x : Nat} (hf : xFd (yN Y).cls index ci k ty true) (ho : xOwn Y ci k) (hty : (∃ C, ty = .object C) ∨ ∃ t, ty = .array t) (d : decode (yC Y) pc = .ok (.putfield index, 3)) (ht : tg h a = ci + 1) (hw : xwr G h a) (hfi : 256 * ci + k = f) (e1 : h1 = sR h a f x) (kk : xP G Y fr lo (pc + 3) lv st h1 Q) : xP G Y fr lo pc lv (rv x :: rv a :: st) h Q := by
  subst e1; subst hfi
  exact x_putF hf ho.1 ho.2 d ht hw (rv_nar hty x).1 (rv_nar hty x).2 (xset_R h a _ x hty) kk
theorem x_new' {index ci N a1 : Nat} (hcd : xCd (yN Y).cls index ci N) (d : decode (yC Y) pc = .ok (.new index, 3)) (g1 : nx h + 1 ≤ xGN G) (g2 : us h + N ≤ xGU G) (e0 : a1 = nx h + 1) (e1 : h1 = nO h (ci + 1) N) (kk : xfresh h a1 → xP G Y fr lo (pc + 3) lv (rv a1 :: st) h1 Q) : xP G Y fr lo pc lv st h Q := by
  subst e0; subst e1; exact fun w => x_new hcd d g1 g2 (kk (xfresh.of w)) w
theorem x_newa' {at_ : ArrayType} {n : Int32} {a1 : Nat} (j : Nat) (hk : xpk j at_) (d : decode (yC Y) pc = .ok (.newarray at_, 2)) (hn : ¬ n < 0) (hb : n.toNatClampNeg ≤ 1000000) (g1 : nx h + 1 ≤ xGN G) (g2 : us h + n.toNatClampNeg ≤ xGU G) (e0 : a1 = nx h + 1) (e1 : h1 = nA h (100 + j) n.toNatClampNeg) (kk : xfresh h a1 → xP G Y fr lo (pc + 2) lv (rv a1 :: st) h1 Q) : xP G Y fr lo pc lv (.int n :: st) h Q := by
  subst e0; subst e1; exact fun w => x_newa j hk d hn hb g1 g2 (kk (xfresh.of w)) w
end XGL
theorem xty_I1 : FieldType.int = .int ∨ FieldType.int = .boolean ∨ FieldType.int = .byte ∨ FieldType.int = .char ∨ FieldType.int = .short := Or.inl rfl
theorem xty_Z1 : FieldType.boolean = .int ∨ FieldType.boolean = .boolean ∨ FieldType.boolean = .byte ∨ FieldType.boolean = .char ∨ FieldType.boolean = .short := Or.inr (Or.inl rfl)
theorem xty_B1 : FieldType.byte = .int ∨ FieldType.byte = .boolean ∨ FieldType.byte = .byte ∨ FieldType.byte = .char ∨ FieldType.byte = .short := Or.inr (Or.inr (Or.inl rfl))
theorem xty_O {C : String} : (∃ D, FieldType.object C = .object D) ∨ ∃ t, FieldType.object C = .array t := Or.inl ⟨_, rfl⟩
theorem xty_A {t : FieldType} : (∃ D, FieldType.array t = .object D) ∨ ∃ u, FieldType.array t = .array u := Or.inr ⟨_, rfl⟩
theorem xnZ {x : Int32} (hx : x = 0 ∨ x = 1) : narrow .boolean (.int x) = .int x := by rcases hx with rfl | rfl <;> rfl
/-- a truth as an int -/
def xbz (x : Int32) : Prop := x = 0 ∨ x = 1
/-- what a lookup switch comes to, where no key fits -/
theorem xlook0 {d x : Int} : Op.lookupswitch.offset [] d x = d := rfl
