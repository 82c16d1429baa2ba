/-! ends and calls -/
theorem W.monoQ {p : Program} {l : Launch} {e : Env} {R : Room} {s : State} {m : MethodId} {args : Array Value} {below : List Frame} {meth : Method} {c : Code} {H : Heap} {locs : List Loc} {cells slots : Nat} {Q Q' : State → Prop} {g : JFrame}
    (k : W p l e R s m args below meth c H locs cells slots Q g) (h : ∀ t, Q t → Q' t) : W p l e R s m args below meth c H locs cells slots Q' g := by
  intro T hT X
  obtain ⟨t, a, b⟩ := k T hT X
  exact ⟨t, a, h t b⟩
def xQe (G : xG) (o : Outcome) (h : xH) : Array Value → State → Outcome → State → Prop := fun _ _ o' t => o' = o ∧ xRel G h t.heap
theorem xZ.of {G : xG} {below : List Frame} {s : State} {u0 : Nat} {o : Outcome} {h : xH} {args : Array Value} (hu : u0 ≤ us h) {t : State} (hq : MQ below (xQe G o h) args s (nx h - s.heap.size) (us h - u0) (fun q => xGB G ≤ q) t) : xZ G below s u0 o h t := by
  obtain ⟨o', a1, a2, ⟨rfl, a3⟩, L, ⟨-, a4, a5⟩, a6⟩ := hq
  exact ⟨a1, a2, a3, a4, hu, L, a5, a6⟩
section XE
variable {G : xG} {Y : xY} {fr lo pc : Nat} {lv : List (Nat × Value)} {st : List Value} {h h1 : xH} {Q : Outcome → xH → Prop}
theorem x_iret {v : Int32} {ty : FieldType} (hr : yR Y = some ty) (hn : narrow ty (.int v) = .int v) (d : decode (yC Y) pc = .ok (.ireturn, 1)) (q : Q (.returned (some (.int v))) h) : xP G Y fr lo pc lv [.int v] h Q := by
  refine fun hw => ⟨_, h, hw, xext.rf, q, fun p l e R s m args below meth c u0 C E H locs ls a1 a2 a3 a4 a5 => ?_⟩
  have hlocks : meth.locks = false := C.2.2.2.2.1
  exact (W.zret (Qc := xQe G (.returned (some (.int v))) h) (free := fun q => xGB G ≤ q) C.1 C.2.1 (C.2.2.2.1.trans hr) hn (fun t ht _ => ⟨rfl, by rw [ht]; exact a1⟩) a4 d).monoQ fun t => xZ.of a3
theorem x_vret (hr : yR Y = none) (d : decode (yC Y) pc = .ok (.return_, 1)) (q : Q (.returned none) h) : xP G Y fr lo pc lv [] h Q := by
  refine fun hw => ⟨_, h, hw, xext.rf, q, fun p l e R s m args below meth c u0 C E H locs ls a1 a2 a3 a4 a5 => ?_⟩
  have hlocks : meth.locks = false := C.2.2.2.2.1
  exact (W.vret (Qc := xQe G (.returned none) h) (free := fun q => xGB G ≤ q) C.1 C.2.1 (C.2.2.2.1.trans hr) (fun t ht _ => ⟨rfl, by rw [ht]; exact a1⟩) a4 d).monoQ fun t => xZ.of a3
theorem x_lret {v : Int64} (hr : yR Y = some .long) (d : decode (yC Y) pc = .ok (.lreturn, 1)) (q : Q (.returned (some (.long v))) h) : xP G Y fr lo pc lv [.long v] h Q := by
  refine fun hw => ⟨_, h, hw, xext.rf, q, fun p l e R s m args below meth c u0 C E H locs ls a1 a2 a3 a4 a5 => ?_⟩
  have hlocks : meth.locks = false := C.2.2.2.2.1
  exact (W.lret (Qc := xQe G (.returned (some (.long v))) h) (free := fun q => xGB G ≤ q) C.1 C.2.1 (C.2.2.2.1.trans hr) (fun t ht _ => ⟨rfl, by rw [ht]; exact a1⟩) a4 d).monoQ fun t => xZ.of a3
theorem x_dret {v : UInt64} (hr : yR Y = some .double) (d : decode (yC Y) pc = .ok (.dreturn, 1)) (q : Q (.returned (some (.double v))) h) : xP G Y fr lo pc lv [.double v] h Q := by
  refine fun hw => ⟨_, h, hw, xext.rf, q, fun p l e R s m args below meth c u0 C E H locs ls a1 a2 a3 a4 a5 => ?_⟩
  have hlocks : meth.locks = false := C.2.2.2.2.1
  exact (W.dret (Qc := xQe G (.returned (some (.double v))) h) (free := fun q => xGB G ≤ q) C.1 C.2.1 (C.2.2.2.1.trans hr) (fun t ht _ => ⟨rfl, by rw [ht]; exact a1⟩) a4 d).monoQ fun t => xZ.of a3
theorem x_aret {r : Nat} {ty : FieldType} (hr : yR Y = some ty) (hty : (∃ n, ty = .object n) ∨ ∃ t, ty = .array t) (d : decode (yC Y) pc = .ok (.areturn, 1)) (q : Q (.returned (some (rv r))) h) : xP G Y fr lo pc lv [rv r] h Q := by
  refine fun hw => ⟨_, h, hw, xext.rf, q, fun p l e R s m args below meth c u0 C E H locs ls a1 a2 a3 a4 a5 => ?_⟩
  have hlocks : meth.locks = false := C.2.2.2.2.1
  exact (W.aret (Qc := xQe G (.returned (some (rv r))) h) (free := fun q => xGB G ≤ q) C.1 C.2.1 (C.2.2.2.1.trans hr) hty (by cases r; exact Or.inl rfl; exact Or.inr ⟨_, rfl⟩) (fun t ht _ => ⟨rfl, by rw [ht]; exact a1⟩) a4 d).monoQ fun t => xZ.of a3
theorem x_athrow {r : Nat} (d : decode (yC Y) pc = .ok (.athrow, 1)) (q : Q (.threw r) h) (hnc : xnc Y pc := by exact fun _ h => absurd h List.not_mem_nil) : xP G Y fr lo pc lv (rv (r + 1) :: st) h Q := by
  refine fun hw => ⟨_, h, hw, xext.rf, q, fun p l e R s m args below meth c u0 C E H locs ls a1 a2 a3 a4 a5 => ?_⟩
  intro T hT X
  subst hT
  have hlocks : meth.locks = false := C.2.2.2.2.1
  obtain ⟨b1, b2, b3, b4, b5⟩ := X.athrowLeaves C.1 (g := F0 m pc ls (rv (r + 1) :: st)) rfl rfl rfl (E.1.out hnc) (a := r) (rest := st) rfl (by rw [C.2.1]; exact d)
  exact ⟨_, b1, b2, b3, a1, b4, a3, locs, b5, a4⟩
/-- how the machine enters a callee -/
def xEnter (G : xG) (Y Yc : xY) (fr lo pc : Nat) (st st0 as : List Value) (h : xH) : Prop :=
  ∀ (p : Program) (l : Launch) (e : Env) (R : Room) (s : State) (m : MethodId) (args : Array Value) (below : List Frame) (meth : Method) (c : Code) (u0 : Nat) (T : State) (locs : List Loc) (cells slots : Nat) (ls : Array Slot), xC G Y fr lo u0 p R s m args meth c → Stand p l e R s m args below meth c T locs cells slots → xRel G h T.heap →
      ∃ (vm₁ : Vm) (mk : MethodId), Stand p l e R s m args below meth c (T.setVm vm₁) locs cells slots ∧ (T.setVm vm₁).methodNamed? (yN Yc) = some mk ∧
        ∀ target, (∀ acts, Steps p.tables e below (doInvoke e ((T.setVm vm₁).setTop (F0 m pc ls st)) acts mk as.toArray).1 target) → Steps p.tables e below (T.setTop (F0 m pc ls st0)) target
/-- into a callee and out of it again, whatever it comes to -/
def xIn (G : xG) (Y : xY) (fr lo pc : Nat) (st st0 as : List Value) (h h1 : xH) (o : Outcome) : Prop :=
  ∀ (p : Program) (l : Launch) (e : Env) (R : Room) (s : State) (m : MethodId) (args : Array Value) (below : List Frame) (meth : Method) (c : Code) (u0 : Nat) (T : State) (locs : List Loc) (ls : Array Slot), xC G Y fr lo u0 p R s m args meth c → l.stackTraces = false → Stand p l e R s m args below meth c T locs (nx h - s.heap.size) (us h - u0) → xRel G h T.heap → s.heap.size ≤ nx h → u0 ≤ us h → (∀ q ∈ locs, xGB G ≤ q.base) → ls.size = c.maxLocals →
      ∃ (T₁ : State) (mk : MethodId) (t : State) (L : List Loc), Stand p l e R s m args below meth c T₁ locs (nx h - s.heap.size) (us h - u0) ∧ T₁.heap = T.heap ∧ Ended t (.java (F0 m pc ls st) :: below) o ∧ xRel G h1 t.heap ∧ (T₁.calling (F0 m pc ls st) mk as.toArray).WarmedH t.vm ∧ us h ≤ us h1 ∧ nx h ≤ nx h1 ∧
        (T₁.calling (F0 m pc ls st) mk as.toArray).sameButNew ({ t with vm := (T₁.calling (F0 m pc ls st) mk as.toArray).vm } : State) L (nx h1 - nx h) (us h1 - us h) ∧ (∀ q ∈ L, xGB G ≤ q.base) ∧
        ∀ target, Steps p.tables e below t target → Steps p.tables e below (T.setTop (F0 m pc ls st0)) target
theorem x_in {Yc : xY} {fc lc : Nat} {as st0 : List Value} {ig : Instr} {o : Outcome}
    (enter : xEnter G Y Yc fr lo pc st st0 as h)
    (d : decode (yC Y) pc = .ok (ig, 3)) (hcode : xcw Yc ∈ lw_all) (hpl : plainFor (yN Yc) = true) (hlen : (lg_sl as).length ≤ yL Yc) (hfr : fc + 1 ≤ fr) (hlo : (st.map fun v => v.category).sum + (yL Yc + 11) + lc ≤ lo)
    (w : ∀ (p : Program) (l : Launch) (e : Env) (R : Room) (s : State) (m : MethodId) (args : Array Value) (below : List Frame) (meth : Method) (c : Code) (u0 : Nat), xC G Yc fc lc u0 p R s m args meth c → xEl Yc c l → xW G (yL Yc) u0 p l e R s m args below meth c (xZ G below s u0 o h1) h 0 (lv_args 0 as) []) : xIn G Y fr lo pc st st0 as h h1 o := by
  intro p l e R s m args below meth c u0 T locs ls C hl X a1 a2 a3 a4 hsz
  obtain ⟨vm₁, mk, X₁, hn, hstep⟩ := enter p l e R s m args below meth c u0 T locs _ _ ls C X a1
  have hx := C.1
  have hcw : (xcw Yc).before as.toArray (T.setVm vm₁) = true := word_at X₁.warmed (lw_self _ hcode).2 (C.2.2.2.2.2.2.2.1 _ hcode)
  obtain ⟨mk', methk, ck, k0, k1, k2, k3, k4, k5, k6, k7, k8⟩ := xcw_spec hcw
  cases hn.symm.trans k0
  have hh : (T.setVm vm₁).heap = T.heap := rfl
  obtain ⟨e1, e2, e3, e4, e5⟩ := a1.1
  obtain ⟨-, cb, cml, -, -, -, cown, chts, cK, cfr, clo, cce, csl, cbs, cold⟩ := C
  obtain ⟨Y₀, hin⟩ := X₁.into (g := F0 m pc ls st) rfl hsz (by rw [cb]; exact d) as.toArray (R' := { frames := fc, cells := xGN G - nx h, slots := xGU G - us h, locals := lc }) k1 k2 k6 (State.plainMethod.of_named hpl hn k1)
    (by show fc + 1 ≤ _; omega) (by
      have h0 : (F0 m pc ls st).monitorRoom = 0 := rfl
      rw [k4]
      show 2 * (F0 m pc ls st).monitorRoom + (st.map fun v => v.category).sum + (yL Yc + 11) + lc ≤ _
      omega) (by show _ + (xGN G - nx h) ≤ _; omega) (by show _ + (xGU G - us h) ≤ _; omega)
  have hcs : ((T.setVm vm₁).calling (F0 m pc ls st) mk as.toArray).heap.size = nx h := by
    show T.heap.size = nx h
    exact e1.symm
  have Cc : xC G Yc fc lc (us h) p { frames := fc, cells := xGN G - nx h, slots := xGU G - us h, locals := lc } ((T.setVm vm₁).calling (F0 m pc ls st) mk as.toArray) mk as.toArray methk ck := by
    refine ⟨hx, k3, k4, k5, k6, (name_of_methodNamed hn k1).1, findClass_of_methodNamed hn, fun v hv => word_at (U := (T.setVm vm₁).calling (F0 m pc ls st) mk as.toArray) X₁.warmed (lw_self _ hv).2 (chts _ hv), xK.warm (U := (T.setVm vm₁).calling (F0 m pc ls st) mk as.toArray) X₁.warmed cK, Nat.le_refl _, Nat.le_refl _, ?_, ?_, ?_, fun q hq => a1.2.1 q hq⟩
    · rw [hcs]; show (xGN G - nx h) + nx h = _; omega
    · show (xGU G - us h) + us h = _; omega
    · rw [hcs]; omega
  have hW := w p l e _ _ mk as.toArray (.java (F0 m pc ls st) :: below) methk ck (us h) Cc ⟨k7, hl⟩ T.heap [] _ a1 (by rw [hcs]; exact Nat.le_refl _) (Nat.le_refl _) (fun q hq => absurd hq List.not_mem_nil) (lv_entry as hlen)
  rw [hcs, Nat.sub_self, Nat.sub_self] at hW
  rw [show entryFrame mk as.toArray ck.maxLocals = F0 mk 0 ((lg_sl as ++ List.replicate (yL Yc - (lg_sl as).length) Slot.unset).toArray) [] from by rw [k4]; exact lg_entry_eq _ _ _] at hin Y₀
  obtain ⟨t, s1, t1, t2, t3, t4, t5, L, t6, t7⟩ := hW _ (by rfl) Y₀
  rw [hcs] at t6
  have hnx : nx h ≤ nx h1 := by
    have := t6.2.1
    rw [hcs] at this
    rw [t3.1.1]
    exact this
  refine ⟨T.setVm vm₁, mk, t, L, X₁, rfl, t2, t3, t4, t5, hnx, t6, t7, fun target hs => hstep target fun acts => ?_⟩
  rw [hin acts]
  exact (Steps.weaken (mid := [.java (F0 m pc ls st)]) s1).trans hs
/-- THE CALL: what the callee comes to (Kc), how the machine enters it (enter) -/
theorem x_call {Yc : xY} {fc lc : Nat} {as st0 : List Value} {ig : Instr}
    (enter : xEnter G Y Yc fr lo pc st st0 as h)
    (d : decode (yC Y) pc = .ok (ig, 3)) (hcode : xcw Yc ∈ lw_all) (hpl : plainFor (yN Yc) = true) (hlen : (lg_sl as).length ≤ yL Yc) (hfr : fc + 1 ≤ fr) (hlo : (st.map fun v => v.category).sum + (yL Yc + 11) + lc ≤ lo)
    (Kc : xR G Yc fc lc as h (fun o h1 => xext h h1 → match o with
      | .returned v => xP G Y fr lo (pc + 3) lv (v.toList ++ st) h1 Q
      | .threw x => Q (.threw x) h1)) (hnc : xnc Y pc) : xP G Y fr lo pc lv st0 h Q := by
  intro hw0
  obtain ⟨o, h1, v1, v2, q0, w⟩ := Kc hw0
  have q0 := q0 v2
  have main := x_in (h1 := h1) (o := o) enter d hcode hpl hlen hfr hlo w
  cases o with
  | returned v =>
    obtain ⟨o2, h2, v3, v4, q, w2⟩ := q0 v1
    refine ⟨o2, h2, v3, v2.tr v4, q, fun p l e R s m args below meth c u0 C E H locs ls a1 a2 a3 a4 a5 => ?_⟩
    intro T hT X
    subst hT
    obtain ⟨T₁, mk, t, L, X₁, f1, f2, f3, f4, f5, f6, f7, f8, f9⟩ := main p l e R s m args below meth c u0 T locs ls C E.2 X a1 a2 a3 a4 (by rw [C.2.2.1]; exact a5.1)
    obtain ⟨T', X', -, -, ht⟩ := X₁.outOf (g := F0 m pc ls st) rfl (by rw [C.2.1]; exact d) f2 f4 f7
    have hth : t.heap = T'.heap := by rw [ht]; rfl
    have hk := w2 p l e R s m args below meth c u0 C E T'.heap (locs ++ L) ls (by rw [← hth]; exact f3) (by omega) (by omega) (fun q hq => by
      rcases List.mem_append.mp hq with y | y
      · exact a4 q y
      · exact f8 q y) a5
    rw [show nx h1 - s.heap.size = nx h - s.heap.size + (nx h1 - nx h) by omega, show us h1 - u0 = us h - u0 + (us h1 - us h) by omega] at hk
    obtain ⟨t2, b1, b2⟩ := hk T' rfl X'
    refine ⟨t2, f9 t2 ?_, b2⟩
    rw [ht]
    exact b1
  | threw x =>
    refine ⟨.threw x, h1, v1, v2, q0, fun p l e R s m args below meth c u0 C E H locs ls a1 a2 a3 a4 a5 => ?_⟩
    intro T hT X
    subst hT
    obtain ⟨T₁, mk, t, L, X₁, f1, f2, f3, f4, f5, f6, f7, f8, f9⟩ := main p l e R s m args below meth c u0 T locs ls C E.2 X a1 a2 a3 a4 (by rw [C.2.2.1]; exact a5.1)
    obtain ⟨T', X', -, -, ht⟩ := X₁.outOfThrown (g := F0 m pc ls st) rfl f2 f4 f7
    have hth : t.heap = T'.heap := by
      rw [ht]
      rfl
    have hlocks : meth.locks = false := C.2.2.2.2.1
    obtain ⟨b1, b2, b3, b4, b5⟩ := X'.leaveThrown x (g := F0 m pc ls st) rfl rfl rfl (E.1.out hnc)
    rw [show nx h - s.heap.size + (nx h1 - nx h) = nx h1 - s.heap.size by omega, show us h - u0 + (us h1 - us h) = us h1 - u0 by omega] at b5
    refine ⟨_, f9 _ (by rw [ht]; exact b1), b2, b3, by rw [hth] at f3; exact f3, b4, by omega, locs ++ L, b5, fun q hq => ?_⟩
    rcases List.mem_append.mp hq with y | y
    · exact a4 q y
    · exact f8 q y
end XE
