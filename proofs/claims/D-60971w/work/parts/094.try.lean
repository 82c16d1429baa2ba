/-! glue for calls under a handler -/
section XTG
variable {G : xG} {Y Yc : xY} {fr lo pc fc lc hp ci : Nat} {lv : List (Nat × Value)} {as st : List Value} {h h1 : xH} {Q : Outcome → xH → Prop}
theorem xTi {k : Int32 → xH → Prop} {e : Nat → xH → Prop} (K : xRi G Yc fc lc as h k e) (hk : ∀ x h1, k x h1 → xext h h1 → xP G Y fr lo pc lv (.int x :: st) h1 Q) (he : ∀ r h1, e r h1 → xext h h1 → tg h1 (r + 1) = ci + 1 ∧ xP G Y fr lo hp lv [rv (r + 1)] h1 Q) : xR G Yc fc lc as h (fun o h1 => xext h h1 → match o with
    | .returned v => xP G Y fr lo pc lv (v.toList ++ st) h1 Q
    | .threw x => tg h1 (x + 1) = ci + 1 ∧ xP G Y fr lo hp lv [rv (x + 1)] h1 Q) :=
  xP.mono K fun o h1 q xe => by
    match o, q with
    | .returned (some (.int x)), q => exact hk x h1 q xe
    | .threw r, q => exact he r h1 q xe
theorem xTj {k : Int64 → xH → Prop} {e : Nat → xH → Prop} (K : xRj G Yc fc lc as h k e) (hk : ∀ x h1, k x h1 → xext h h1 → xP G Y fr lo pc lv (.long x :: st) h1 Q) (he : ∀ r h1, e r h1 → xext h h1 → tg h1 (r + 1) = ci + 1 ∧ xP G Y fr lo hp lv [rv (r + 1)] h1 Q) : xR G Yc fc lc as h (fun o h1 => xext h h1 → match o with
    | .returned v => xP G Y fr lo pc lv (v.toList ++ st) h1 Q
    | .threw x => tg h1 (x + 1) = ci + 1 ∧ xP G Y fr lo hp lv [rv (x + 1)] h1 Q) :=
  xP.mono K fun o h1 q xe => by
    match o, q with
    | .returned (some (.long x)), q => exact hk x h1 q xe
    | .threw r, q => exact he r h1 q xe
theorem xTd {k : UInt64 → xH → Prop} {e : Nat → xH → Prop} (K : xRd G Yc fc lc as h k e) (hk : ∀ x h1, k x h1 → xext h h1 → xP G Y fr lo pc lv (.double x :: st) h1 Q) (he : ∀ r h1, e r h1 → xext h h1 → tg h1 (r + 1) = ci + 1 ∧ xP G Y fr lo hp lv [rv (r + 1)] h1 Q) : xR G Yc fc lc as h (fun o h1 => xext h h1 → match o with
    | .returned v => xP G Y fr lo pc lv (v.toList ++ st) h1 Q
    | .threw x => tg h1 (x + 1) = ci + 1 ∧ xP G Y fr lo hp lv [rv (x + 1)] h1 Q) :=
  xP.mono K fun o h1 q xe => by
    match o, q with
    | .returned (some (.double x)), q => exact hk x h1 q xe
    | .threw r, q => exact he r h1 q xe
theorem xTr {k : Nat → xH → Prop} {e : Nat → xH → Prop} (K : xRr G Yc fc lc as h k e) (hk : ∀ x h1, k x h1 → xext h h1 → xP G Y fr lo pc lv (rv x :: st) h1 Q) (he : ∀ r h1, e r h1 → xext h h1 → tg h1 (r + 1) = ci + 1 ∧ xP G Y fr lo hp lv [rv (r + 1)] h1 Q) : xR G Yc fc lc as h (fun o h1 => xext h h1 → match o with
    | .returned v => xP G Y fr lo pc lv (v.toList ++ st) h1 Q
    | .threw x => tg h1 (x + 1) = ci + 1 ∧ xP G Y fr lo hp lv [rv (x + 1)] h1 Q) :=
  xP.mono K fun o h1 q xe => by
    match o, q with
    | .returned (some .null), q => exact hk 0 h1 q xe
    | .returned (some (.ref r)), q => exact hk (r + 1) h1 q xe
    | .threw r, q => exact he r h1 q xe
theorem xTv {k : xH → Prop} {e : Nat → xH → Prop} (K : xRv G Yc fc lc as h k e) (hk : ∀ h1, k h1 → xext h h1 → xP G Y fr lo pc lv st h1 Q) (he : ∀ r h1, e r h1 → xext h h1 → tg h1 (r + 1) = ci + 1 ∧ xP G Y fr lo hp lv [rv (r + 1)] h1 Q) : xR G Yc fc lc as h (fun o h1 => xext h h1 → match o with
    | .returned v => xP G Y fr lo pc lv (v.toList ++ st) h1 Q
    | .threw x => tg h1 (x + 1) = ci + 1 ∧ xP G Y fr lo hp lv [rv (x + 1)] h1 Q) :=
  xP.mono K fun o h1 q xe => by
    match o, q with
    | .returned none, q => exact hk h1 q xe
    | .threw r, q => exact he r h1 q xe
end XTG
