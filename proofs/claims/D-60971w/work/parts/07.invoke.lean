/-! calls by their kinds; new objects and arrays -/
/-- a method that can be called: its code word, its name's class plain, its parameters' number -/
def xMc (Yc : xY) (n : Nat) : Prop := xcw Yc ∈ lw_all ∧ plainFor (yN Yc) = true ∧ ((yN Yc).cls ≠ "java/lang/invoke/MethodHandle" ∧ (yN Yc).cls ≠ "java/lang/invoke/VarHandle") ∧ (parseMethodDescriptor (yN Yc).desc).map (fun s => s.parameters.length) = some n
theorem xMc.len {Yc : xY} {n : Nat} (h : xMc Yc n) : ∀ sig, parseMethodDescriptor (yN Yc).desc = some sig → n = sig.parameters.length := by
  intro sig hs
  have := h.2.2.2
  rw [hs] at this
  exact (Option.some.inj this).symm
/-- a method of the objects of class ci -/
def xMv (Yc : xY) (ci n : Nat) : Prop := ∃ (C : String) (T : u_T) (N : Nat), ci < 99 ∧ xcl[ci]? = some (C, T, N) ∧ xMc Yc n ∧ Cond.instanceMethod (yN Yc) ∈ lw_all ∧ Cond.selects C (yN Yc) (yN Yc) ∈ lw_all
theorem xMv.mc {Yc : xY} {ci n : Nat} (h : xMv Yc ci n) : xMc Yc n := by
  obtain ⟨C, T, N, h0, hc, hmc, hin, hsl⟩ := h
  exact hmc
def xMs (Yc : xY) (n : Nat) : Prop := xMc Yc n ∧ Cond.static (yN Yc) ∈ lw_all ∧ Cond.initialized (yN Yc).cls ∈ lw_all
def xMi (Yc : xY) (n : Nat) : Prop := xMc Yc n ∧ Cond.instanceMethod (yN Yc) ∈ lw_all ∧ (yN Yc).name = "<init>" ∧ yR Yc = none ∧ yH Yc = []
section XI
variable {G : xG} {Y Yc : xY} {fr lo fc lc pc : Nat} {lv : List (Nat × Value)} {as st : List Value} {h : xH} {Q : Outcome → xH → Prop}
theorem x_recv {H : Heap} {s : State} {r ci N : Nat} {C : String} {T : u_T} (hR : xRel G h H) (hK : xK G s) (ht : tg h (r + 1) = ci + 1) (h0 : ci < 99) (hc : xcl[ci]? = some (C, T, N)) : ∃ cell : Cell, H[r]? = some cell ∧ cell.vm.isStatics = false ∧ s.vm.findClass C = some cell.cls := by
  obtain ⟨q, j1, cell, g1, g2, -, g3, -⟩ := hR.2.2.2.1 r ci ht h0
  exact ⟨cell, g1, g3, by rw [g2]; exact (hK.1.1 ci _ hc).2.1⟩
theorem x_entV {index ci n a : Nat} (hl : Cond.methodLink (yN Y).cls index (yN Yc) ∈ lw_all) (hm : xMv Yc ci n) (ht : tg h a = ci + 1) (hn : as.length = n) (d : decode (yC Y) pc = .ok (.invokevirtual index, 3)) : xEnter G Y Yc fr lo pc st (as.reverse ++ rv a :: st) ((rv a :: as)) h := by
  obtain ⟨C, T, N, h0, hc, hmc, hin, hsl⟩ := hm
  refine fun p l e R s m args below meth c u0 U locs cells slots ls C X hR => ?_
  obtain ⟨r, rfl⟩ := tg_pos hR ht (by omega)
  obtain ⟨cx, cb, -, -, -, -, cown, chts, cK, -⟩ := C
  obtain ⟨cellB, b1, b2, b3⟩ := x_recv hR cK ht h0 hc
  obtain ⟨mk, methM, hnamed, hmethM, hstM, habM⟩ := Cond.instanceMethod_spec (chts _ hin)
  obtain ⟨mM, methM', cM, hnM, hmethM', -, -, -, -, -, -, hsigM⟩ := xcw_spec (chts _ hmc.1)
  cases hnamed.symm.trans hnM
  cases hmethM.symm.trans hmethM'
  obtain ⟨c2, r2, m2, q1, q2, q3, q4, kP, hkP, hkPi⟩ := Cond.selects_spec (chts _ hsl)
  cases b3.symm.trans q1
  cases (State.methodFound?_of_named hnamed hmc.2.2.1).symm.trans q2
  cases hnamed.symm.trans q3
  have hselP : selectMethod e.platform s.vm cellB.cls mk = .method mk := by rw [Launch.admits_selectMethod X.admits]; exact q4
  obtain ⟨vm₁, X₁, hstep₁⟩ := X.invokevirtual cx cown (chts _ hl) hnamed hmethM hstM hkP hkPi hmc.2.2.1 (a := r) (cell := cellB) b1
    (fun z h => by rw [h] at b2; cases b2) hselP hmethM habM hkP hkPi (g := F0 m pc ls (as.reverse ++ rv (r + 1) :: st)) rfl (argsL := as) (rest := st) (by rw [hn]; exact hmc.len _ hsigM) rfl (by rw [cb]; exact d)
  exact ⟨vm₁, mk, X₁, X₁.named hnamed, hstep₁⟩
theorem x_callV {index ci n a : Nat} (hl : Cond.methodLink (yN Y).cls index (yN Yc) ∈ lw_all) (hm : xMv Yc ci n) (ht : tg h a = ci + 1) (hn : as.length = n) (d : decode (yC Y) pc = .ok (.invokevirtual index, 3)) (hlen : (lg_sl (rv a :: as)).length ≤ yL Yc) (hfr : fc + 1 ≤ fr) (hlo : (st.map fun v => v.category).sum + (yL Yc + 11) + lc ≤ lo)
    (Kc : xR G Yc fc lc (rv a :: as) h (fun o h1 => xext h h1 → match o with
      | .returned v => xP G Y fr lo (pc + 3) lv (v.toList ++ st) h1 Q
      | .threw x => Q (.threw x) h1)) (hnc : xnc Y pc := by exact fun _ h => absurd h List.not_mem_nil) : xP G Y fr lo pc lv (as.reverse ++ rv a :: st) h Q :=
  x_call (x_entV hl hm ht hn d) d hm.mc.1 hm.mc.2.1 hlen hfr hlo Kc hnc
theorem x_entVN {index ci n a : Nat} {host : String} (hl : Cond.methodLinkNest (yN Y).cls index (yN Yc) host ∈ xnest) (hm : xMv Yc ci n) (ht : tg h a = ci + 1) (hn : as.length = n) (d : decode (yC Y) pc = .ok (.invokevirtual index, 3)) : xEnter G Y Yc fr lo pc st (as.reverse ++ rv a :: st) ((rv a :: as)) h := by
  obtain ⟨C, T, N, h0, hc, hmc, hin, hsl⟩ := hm
  refine fun p l e R s m args below meth c u0 U locs cells slots ls C X hR => ?_
  obtain ⟨r, rfl⟩ := tg_pos hR ht (by omega)
  obtain ⟨cx, cb, -, -, -, -, cown, chts, cK, -⟩ := C
  obtain ⟨cellB, b1, b2, b3⟩ := x_recv hR cK ht h0 hc
  obtain ⟨mk, methM, hnamed, hmethM, hstM, habM⟩ := Cond.instanceMethod_spec (chts _ hin)
  obtain ⟨mM, methM', cM, hnM, hmethM', -, -, -, -, -, -, hsigM⟩ := xcw_spec (chts _ hmc.1)
  cases hnamed.symm.trans hnM
  cases hmethM.symm.trans hmethM'
  obtain ⟨c2, r2, m2, q1, q2, q3, q4, kP, hkP, hkPi⟩ := Cond.selects_spec (chts _ hsl)
  cases b3.symm.trans q1
  cases (State.methodFound?_of_named hnamed hmc.2.2.1).symm.trans q2
  cases hnamed.symm.trans q3
  have hselP : selectMethod e.platform s.vm cellB.cls mk = .method mk := by rw [Launch.admits_selectMethod X.admits]; exact q4
  obtain ⟨vm₁, X₁, hstep₁⟩ := X.invokevirtualNest cx cown (va_Nw.use rfl (cK.2.1 _ hl)) hnamed hmethM hstM hkP hkPi hmc.2.2.1 (a := r) (cell := cellB) b1
    (fun z h => by rw [h] at b2; cases b2) hselP hmethM habM hkP hkPi (g := F0 m pc ls (as.reverse ++ rv (r + 1) :: st)) rfl (argsL := as) (rest := st) (by rw [hn]; exact hmc.len _ hsigM) rfl (by rw [cb]; exact d)
  exact ⟨vm₁, mk, X₁, X₁.named hnamed, hstep₁⟩
theorem x_callVN {index ci n a : Nat} {host : String} (hl : Cond.methodLinkNest (yN Y).cls index (yN Yc) host ∈ xnest) (hm : xMv Yc ci n) (ht : tg h a = ci + 1) (hn : as.length = n) (d : decode (yC Y) pc = .ok (.invokevirtual index, 3)) (hlen : (lg_sl (rv a :: as)).length ≤ yL Yc) (hfr : fc + 1 ≤ fr) (hlo : (st.map fun v => v.category).sum + (yL Yc + 11) + lc ≤ lo)
    (Kc : xR G Yc fc lc (rv a :: as) h (fun o h1 => xext h h1 → match o with
      | .returned v => xP G Y fr lo (pc + 3) lv (v.toList ++ st) h1 Q
      | .threw x => Q (.threw x) h1)) (hnc : xnc Y pc := by exact fun _ h => absurd h List.not_mem_nil) : xP G Y fr lo pc lv (as.reverse ++ rv a :: st) h Q :=
  x_call (x_entVN hl hm ht hn d) d hm.mc.1 hm.mc.2.1 hlen hfr hlo Kc hnc
theorem x_entS {index n : Nat} (hl : Cond.methodLink (yN Y).cls index (yN Yc) ∈ lw_all) (hm : xMs Yc n) (hn : as.length = n) (d : decode (yC Y) pc = .ok (.invokestatic index, 3)) : xEnter G Y Yc fr lo pc st (as.reverse ++ st) (as) h := by
  obtain ⟨hmc, hst, hini⟩ := hm
  refine fun p l e R s m args below meth c u0 U locs cells slots ls C X hR => ?_
  obtain ⟨cx, cb, -, -, -, -, cown, chts, cK, -⟩ := C
  obtain ⟨mk, methM, cM, hnamed, hmethM, -, -, -, -, -, -, hsigM⟩ := xcw_spec (chts _ hmc.1)
  have hstatic : methM.isStatic = true := Cond.static_spec hnamed hmethM (chts _ hst)
  obtain ⟨kP, hkP, -⟩ := className_of_methodNamed hnamed
  have hinitP : kP.init = .initialized := Cond.initialized_spec (findClass_of_methodNamed hnamed) hkP (chts _ hini)
  obtain ⟨vm₁, X₁, hstep₁⟩ := X.invokestatic cx cown (chts _ hl) hnamed hmethM hstatic hkP hinitP hmc.2.2.1 (g := F0 m pc ls (as.reverse ++ st)) rfl (argsL := as) (rest := st) (by rw [hn]; exact hmc.len _ hsigM) rfl (by rw [cb]; exact d)
  exact ⟨vm₁, mk, X₁, X₁.named hnamed, hstep₁⟩
theorem x_callS {index n : Nat} (hl : Cond.methodLink (yN Y).cls index (yN Yc) ∈ lw_all) (hm : xMs Yc n) (hn : as.length = n) (d : decode (yC Y) pc = .ok (.invokestatic index, 3)) (hlen : (lg_sl as).length ≤ yL Yc) (hfr : fc + 1 ≤ fr) (hlo : (st.map fun v => v.category).sum + (yL Yc + 11) + lc ≤ lo)
    (Kc : xR G Yc fc lc as h (fun o h1 => xext h h1 → match o with
      | .returned v => xP G Y fr lo (pc + 3) lv (v.toList ++ st) h1 Q
      | .threw x => Q (.threw x) h1)) (hnc : xnc Y pc := by exact fun _ h => absurd h List.not_mem_nil) : xP G Y fr lo pc lv (as.reverse ++ st) h Q :=
  x_call (x_entS hl hm hn d) d hm.1.1 hm.1.2.1 hlen hfr hlo Kc hnc
theorem x_entSN {index n : Nat} {host : String} (hl : Cond.methodLinkNest (yN Y).cls index (yN Yc) host ∈ xnest) (hm : xMs Yc n) (hn : as.length = n) (d : decode (yC Y) pc = .ok (.invokestatic index, 3)) : xEnter G Y Yc fr lo pc st (as.reverse ++ st) (as) h := by
  obtain ⟨hmc, hst, hini⟩ := hm
  refine fun p l e R s m args below meth c u0 U locs cells slots ls C X hR => ?_
  obtain ⟨cx, cb, -, -, -, -, cown, chts, cK, -⟩ := C
  obtain ⟨mk, methM, cM, hnamed, hmethM, -, -, -, -, -, -, hsigM⟩ := xcw_spec (chts _ hmc.1)
  have hstatic : methM.isStatic = true := Cond.static_spec hnamed hmethM (chts _ hst)
  obtain ⟨kP, hkP, -⟩ := className_of_methodNamed hnamed
  have hinitP : kP.init = .initialized := Cond.initialized_spec (findClass_of_methodNamed hnamed) hkP (chts _ hini)
  obtain ⟨vm₁, X₁, hstep₁⟩ := X.invokestaticNest cx cown (va_Nw.use rfl (cK.2.1 _ hl)) hnamed hmethM hstatic hkP hinitP hmc.2.2.1 (g := F0 m pc ls (as.reverse ++ st)) rfl (argsL := as) (rest := st) (by rw [hn]; exact hmc.len _ hsigM) rfl (by rw [cb]; exact d)
  exact ⟨vm₁, mk, X₁, X₁.named hnamed, hstep₁⟩
theorem x_callSN {index n : Nat} {host : String} (hl : Cond.methodLinkNest (yN Y).cls index (yN Yc) host ∈ xnest) (hm : xMs Yc n) (hn : as.length = n) (d : decode (yC Y) pc = .ok (.invokestatic index, 3)) (hlen : (lg_sl as).length ≤ yL Yc) (hfr : fc + 1 ≤ fr) (hlo : (st.map fun v => v.category).sum + (yL Yc + 11) + lc ≤ lo)
    (Kc : xR G Yc fc lc as h (fun o h1 => xext h h1 → match o with
      | .returned v => xP G Y fr lo (pc + 3) lv (v.toList ++ st) h1 Q
      | .threw x => Q (.threw x) h1)) (hnc : xnc Y pc := by exact fun _ h => absurd h List.not_mem_nil) : xP G Y fr lo pc lv (as.reverse ++ st) h Q :=
  x_call (x_entSN hl hm hn d) d hm.1.1 hm.1.2.1 hlen hfr hlo Kc hnc
theorem x_entI {index n a : Nat} (hl : Cond.methodLink (yN Y).cls index (yN Yc) ∈ lw_all) (hm : xMi Yc n) (ht : tg h a ≠ 0) (hn : as.length = n) (d : decode (yC Y) pc = .ok (.invokespecial index, 3)) : xEnter G Y Yc fr lo pc st (as.reverse ++ rv a :: st) ((rv a :: as)) h := by
  obtain ⟨hmc, hin, hy1, hy2, hy3⟩ := hm
  refine fun p l e R s m args below meth c u0 U locs cells slots ls C X hR => ?_
  obtain ⟨r, rfl⟩ := tg_pos hR rfl ht
  obtain ⟨cx, cb, -, -, -, -, cown, chts, cK, -⟩ := C
  have hpl : e.platform.magicAccessors = ({} : Platform).magicAccessors := by rw [X.admits.platform]
  have hcd := chts _ hmc.1
  unfold xcw at hcd
  rw [hy3] at hcd
  rw [hy2] at hcd
  obtain ⟨mk, methM, cM, kP, vm₁, hnamed, hmethM, hcodeM, -, hlocalsM, -, hkP, -, hW₁, hstep₁⟩ := Steps.initColdArgs (e := e) (X.here) cx X.warmed hpl cown hy1 hmc.2.2.1 (chts _ hl) (chts _ hin) hcd (f := F0 m pc ls (as.reverse ++ rv (r + 1) :: st)) rfl (argsL := as) (rest := st) (a := r) (fun sig hs => by rw [hn]; exact hmc.len sig hs) rfl (by rw [cb]; exact d)
  have X₁ := X.noted hW₁
  exact ⟨vm₁, mk, X₁, X₁.named hnamed, hstep₁⟩
theorem x_callI {index n a : Nat} (hl : Cond.methodLink (yN Y).cls index (yN Yc) ∈ lw_all) (hm : xMi Yc n) (ht : tg h a ≠ 0) (hn : as.length = n) (d : decode (yC Y) pc = .ok (.invokespecial index, 3)) (hlen : (lg_sl (rv a :: as)).length ≤ yL Yc) (hfr : fc + 1 ≤ fr) (hlo : (st.map fun v => v.category).sum + (yL Yc + 11) + lc ≤ lo)
    (Kc : xR G Yc fc lc (rv a :: as) h (fun o h1 => xext h h1 → match o with
      | .returned v => xP G Y fr lo (pc + 3) lv (v.toList ++ st) h1 Q
      | .threw x => Q (.threw x) h1)) (hnc : xnc Y pc := by exact fun _ h => absurd h List.not_mem_nil) : xP G Y fr lo pc lv (as.reverse ++ rv a :: st) h Q :=
  x_call (x_entI hl hm ht hn d) d hm.1.1 hm.1.2.1 hlen hfr hlo Kc hnc
theorem x_entIN {index n a : Nat} {host : String} (hl : Cond.methodLinkNest (yN Y).cls index (yN Yc) host ∈ xnest) (hm : xMi Yc n) (ht : tg h a ≠ 0) (hn : as.length = n) (d : decode (yC Y) pc = .ok (.invokespecial index, 3)) : xEnter G Y Yc fr lo pc st (as.reverse ++ rv a :: st) ((rv a :: as)) h := by
  obtain ⟨hmc, hin, hy1, hy2, hy3⟩ := hm
  refine fun p l e R s m args below meth c u0 U locs cells slots ls C X hR => ?_
  obtain ⟨r, rfl⟩ := tg_pos hR rfl ht
  obtain ⟨cx, cb, -, -, -, -, cown, chts, cK, -⟩ := C
  have hpl : e.platform.magicAccessors = ({} : Platform).magicAccessors := by rw [X.admits.platform]
  have hcd := chts _ hmc.1
  unfold xcw at hcd
  rw [hy3] at hcd
  rw [hy2] at hcd
  obtain ⟨mk, methM, cM, kP, vm₁, hnamed, hmethM, hcodeM, -, hlocalsM, -, hkP, -, hW₁, hstep₁⟩ := Steps.initColdArgsNest (e := e) (X.here) cx X.warmed hpl cown hy1 hmc.2.2.1 (va_Nw.use rfl (cK.2.1 _ hl)) (chts _ hin) hcd (f := F0 m pc ls (as.reverse ++ rv (r + 1) :: st)) rfl (argsL := as) (rest := st) (a := r) (fun sig hs => by rw [hn]; exact hmc.len sig hs) rfl (by rw [cb]; exact d)
  have X₁ := X.noted hW₁
  exact ⟨vm₁, mk, X₁, X₁.named hnamed, hstep₁⟩
theorem x_callIN {index n a : Nat} {host : String} (hl : Cond.methodLinkNest (yN Y).cls index (yN Yc) host ∈ xnest) (hm : xMi Yc n) (ht : tg h a ≠ 0) (hn : as.length = n) (d : decode (yC Y) pc = .ok (.invokespecial index, 3)) (hlen : (lg_sl (rv a :: as)).length ≤ yL Yc) (hfr : fc + 1 ≤ fr) (hlo : (st.map fun v => v.category).sum + (yL Yc + 11) + lc ≤ lo)
    (Kc : xR G Yc fc lc (rv a :: as) h (fun o h1 => xext h h1 → match o with
      | .returned v => xP G Y fr lo (pc + 3) lv (v.toList ++ st) h1 Q
      | .threw x => Q (.threw x) h1)) (hnc : xnc Y pc := by exact fun _ h => absurd h List.not_mem_nil) : xP G Y fr lo pc lv (as.reverse ++ rv a :: st) h Q :=
  x_call (x_entIN hl hm ht hn d) d hm.1.1 hm.1.2.1 hlen hfr hlo Kc hnc
theorem xwf_nO {t n : Nat} (w : xwf h) : xwf (nO h t n) := by
  refine ⟨?_, fun a ha => ?_⟩
  · show up1 (tg h) (nx h + 1) t 0 = 0
    simp [up1, w.1]
  · have ha : nx h + 1 < a := ha
    show up1 (tg h) (nx h + 1) t a = 0
    simp only [up1, if_neg (show a ≠ nx h + 1 by omega)]
    exact w.2 a (by omega)
theorem xext_nO {t n : Nat} (w : xwf h) : xext h (nO h t n) := by
  refine ⟨Nat.le_succ _, Nat.le_add_right _ _, fun b hb => ⟨?_, rfl⟩⟩
  show up1 (tg h) (nx h + 1) t b = tg h b
  have : b ≠ nx h + 1 := fun q => hb (w.2 b (by omega))
  simp [up1, this]
theorem xwf_nA {t n : Nat} (w : xwf h) : xwf (nA h t n) := by
  refine ⟨?_, fun a ha => ?_⟩
  · show up1 (tg h) (nx h + 1) t 0 = 0
    simp [up1, w.1]
  · have ha : nx h + 1 < a := ha
    show up1 (tg h) (nx h + 1) t a = 0
    simp only [up1, if_neg (show a ≠ nx h + 1 by omega)]
    exact w.2 a (by omega)
theorem xext_nA {t n : Nat} (w : xwf h) : xext h (nA h t n) := by
  refine ⟨Nat.le_succ _, Nat.le_add_right _ _, fun b hb => ?_⟩
  have : b ≠ nx h + 1 := fun q => hb (w.2 b (by omega))
  refine ⟨?_, ?_⟩
  · show up1 (tg h) (nx h + 1) t b = tg h b
    simp [up1, this]
  · show up1 (ln h) (nx h + 1) n b = ln h b
    simp [up1, this]
/-- a class that the method makes objects of -/
def xCd (own : String) (index ci N : Nat) : Prop :=
  ∃ (C : String) (T : u_T) (N' : Nat), ci < 99 ∧ xcl[ci]? = some (C, T, N') ∧ (∀ w ∈ u_ws C T N', w ∈ lw_all) ∧ (∀ j, j < N' → parseFieldDescriptor (T j).2.2.1 = some (xty ci j)) ∧ Cond.classLink own index C ∈ lw_all ∧ Cond.instantiable C N ∈ lw_all ∧ Cond.initialized C ∈ lw_all
theorem nO_fv (h : xH) (t n f : Nat) (ty : FieldType) : xfv ty (nO h t n) (nx h + 1) f = defaultValue ty := by
  cases ty <;> simp [xfv, nO, fI, fJ, fD, fR, xmk, cl2, rv, defaultValue]
theorem nO_fv_ne (h : xH) (t n f : Nat) (ty : FieldType) {a : Nat} (ha : a ≠ nx h + 1) : xfv ty (nO h t n) a f = xfv ty h a f := by
  cases ty <;> simp [xfv, nO, fI, fJ, fD, fR, xmk, cl2, ha]
theorem nO_ev (h : xH) (t n : Nat) (ty : FieldType) (a : Nat) : xev ty (nO h t n) a = xev ty h a := by cases ty <;> rfl
theorem nA_fv (h : xH) (t n f : Nat) (ty : FieldType) (a : Nat) : xfv ty (nA h t n) a f = xfv ty h a f := by cases ty <;> rfl
theorem nA_ev_ne (h : xH) (t n : Nat) (ty : FieldType) {a : Nat} (ha : a ≠ nx h + 1) : xev ty (nA h t n) a = xev ty h a := by
  have e1 : ∀ {α : Type} (f : Nat → Nat → α) (v : α), cl2 f (nx h + 1) v a = f a := fun f v => by funext j; simp [cl2, ha]
  cases ty <;> simp [xev, nA, aI, aJ, aD, aR, xmk, e1]
theorem xRel.newO {H H1 : Heap} {ci N M : Nat} {C : String} {T : u_T} (hR : xRel G h H) (hc : xcl[ci]? = some (C, T, N)) (h0 : ci < 99) (e : t_OB H.size ((xGD G).1 ci) N ((xGD G).2 ci) H1 (fun k => defaultValue (xty ci k))) (z : H1.size = H.size + 1) (o : ∀ q : Nat, q < H.size → H1[q]? = H[q]?) (g1 : nx h + 1 ≤ xGN G) (g2 : us h + M ≤ xGU G) : xRel G (nO h (ci + 1) M) H1 := by
  obtain ⟨⟨a1, a2, a3, a4, a5⟩, b, c, d, f⟩ := hR
  have htg : ∀ r, tg (nO h (ci + 1) M) (r + 1) = if r = nx h then ci + 1 else tg h (r + 1) := fun r => by
    show up1 (tg h) (nx h + 1) (ci + 1) (r + 1) = _
    simp [up1]
  have hno : ∀ r, tg h (r + 1) ≠ 0 → r ≠ nx h := fun r hr => by have := (c r hr).1; omega
  refine ⟨⟨by rw [z, ← a1]; rfl, g1, g2, by show up1 (tg h) (nx h + 1) (ci + 1) 0 = 0; simp [up1, a4], by omega⟩, fun q hq => by rw [o q (by omega)]; exact b q hq, ?_, ?_, ?_⟩
  · intro r hr
    rw [htg] at hr ⊢
    by_cases hx : r = nx h
    · rw [if_pos hx]
      exact ⟨by omega, fun _ => by omega⟩
    · rw [if_neg hx] at hr ⊢
      exact ⟨by have := (c r hr).1; omega, (c r hr).2⟩
  · intro r cj hr hcj
    rw [htg] at hr
    by_cases hx : r = nx h
    · rw [if_pos hx] at hr
      obtain rfl : cj = ci := by omega
      rw [hx]
      refine xobj.mk hc ?_
      rw [a1]
      refine e.to fun k _ => ?_
      have := nO_fv h (cj + 1) M (256 * cj + k) (xty cj k)
      rw [a1] at this
      exact this.symm
    · rw [if_neg hx] at hr
      have hlt := (c r (by omega)).1
      exact (d r cj hr hcj).same (o r hlt) fun k => nO_fv_ne h _ _ _ _ (by omega)
  · intro r j hr
    rw [htg] at hr
    by_cases hx : r = nx h
    · rw [if_pos hx] at hr
      omega
    · rw [if_neg hx] at hr
      have hlt := (c r (by omega)).1
      exact (f r j hr).same (o r hlt) rfl fun t => nO_ev h _ _ t _
theorem x_new {index ci N : Nat} (hcd : xCd (yN Y).cls index ci N) (d : decode (yC Y) pc = .ok (.new index, 3)) (g1 : nx h + 1 ≤ xGN G) (g2 : us h + N ≤ xGU G) (kk : xP G Y fr lo (pc + 3) lv (rv (nx h + 1) :: st) (nO h (ci + 1) N) Q) : xP G Y fr lo pc lv st h Q := by
  obtain ⟨C, T, N', h0, hc, hin, hty, hcl, hins, hini⟩ := hcd
  intro hw0
  obtain ⟨o, h', w1, w2, q, w⟩ := kk (xwf_nO hw0)
  refine ⟨o, h', w1, (xext_nO hw0).tr w2, q, fun p l e R s m args below meth c u0 C E H locs ls a1 a2 a3 a4 a5 => ?_⟩
  have C' := C
  obtain ⟨cx, cb, -, -, -, -, cown, chts, cK, -, -, cce, csl, -⟩ := C
  have hKn := cK.1.1 ci _ hc
  refine W.newcK cx cb cown (chts _ hcl) (chts _ hins) (chts _ hini) rfl d (by omega) (by omega) hKn.2.1 a1.1.1.symm fun H1 kC hkC e1 z1 o1 => ?_
  have e1' := e1
  rw [a1.1.1] at e1' z1 o1
  have hk := w p l e R s m args below meth c u0 C' E H1 locs ls (a1.newO hc h0 (u_born (xty ci) chts hin hKn hkC e1' hty) z1 o1 g1 g2) (by show _ ≤ nx h + 1; omega) (by show _ ≤ us h + N; omega) a4 a5
  rw [show nx (nO h (ci + 1) N) - s.heap.size = nx h - s.heap.size + 1 from by show nx h + 1 - _ = _; omega, show us (nO h (ci + 1) N) - u0 = us h - u0 + N from by show us h + N - _ = _; omega] at hk
  exact hk
theorem xRel.newA {H H1 : Heap} {j n : Nat} {ty : FieldType} (hR : xRel G h H) (hty : xar[j]? = some ty) (e : H1[H.size]? = some (vp_cell (xGA G j) (n, xev ty (nA h (100 + j) n) (nx h + 1)))) (z : H1.size = H.size + 1) (o : ∀ q : Nat, q < H.size → H1[q]? = H[q]?) (g1 : nx h + 1 ≤ xGN G) (g2 : us h + n ≤ xGU G) : xRel G (nA h (100 + j) n) H1 := by
  obtain ⟨⟨a1, a2, a3, a4, a5⟩, b, c, d, f⟩ := hR
  have htg : ∀ r, tg (nA h (100 + j) n) (r + 1) = if r = nx h then 100 + j else tg h (r + 1) := fun r => by
    show up1 (tg h) (nx h + 1) (100 + j) (r + 1) = _
    simp [up1]
  refine ⟨⟨by rw [z, ← a1]; rfl, g1, g2, by show up1 (tg h) (nx h + 1) (100 + j) 0 = 0; simp [up1, a4], by omega⟩, fun q hq => by rw [o q (by omega)]; exact b q hq, ?_, ?_, ?_⟩
  · intro r hr
    rw [htg] at hr ⊢
    by_cases hx : r = nx h
    · rw [if_pos hx]
      exact ⟨by omega, fun _ => by omega⟩
    · rw [if_neg hx] at hr ⊢
      exact ⟨by have := (c r hr).1; omega, (c r hr).2⟩
  · intro r cj hr hcj
    rw [htg] at hr
    by_cases hx : r = nx h
    · rw [if_pos hx] at hr
      omega
    · rw [if_neg hx] at hr
      have hlt := (c r (by omega)).1
      exact (d r cj hr hcj).same (o r hlt) fun k => nA_fv h _ _ _ _ _
  · intro r j' hr
    rw [htg] at hr
    by_cases hx : r = nx h
    · rw [if_pos hx] at hr
      obtain rfl : j' = j := by omega
      refine xarr.mk hty (by omega) ?_
      rw [hx, a1, e, a1]
      show some (vp_cell (xGA G j') (n, _)) = some (vp_cell (xGA G j') (up1 (ln h) (nx h + 1) n (H.size + 1), _))
      rw [← a1]
      simp [up1]
    · rw [if_neg hx] at hr
      have hlt := (c r (by omega)).1
      refine (f r j' hr).same (o r hlt) ?_ fun t => nA_ev_ne h _ _ t (by omega)
      show up1 (ln h) (nx h + 1) n (r + 1) = ln h (r + 1)
      simp [up1, hx]
/-- the kinds of arrays of plain values that are made here -/
def xpk (j : Nat) (at_ : ArrayType) : Prop := j < 12 ∧ xar[j]? = some (newarray.typeOf at_) ∧ Cond.arrayClass (newarray.typeOf at_) ∈ lw_all ∧ (∀ C, newarray.typeOf at_ ≠ .object C) ∧ componentBytes (newarray.typeOf at_) ≤ 8
theorem nA_ev (h : xH) (t n : Nat) (cA : ClassId) {ty : FieldType} (hf : ty ≠ .float) : vp_cell cA (n, xev ty (nA h t n) (nx h + 1)) = arrV cA n (fun _ => defaultValue ty) := by
  cases ty <;> first | exact absurd rfl hf | (simp [xev, nA, aI, aJ, aD, aR, xmk, cl2, vp_cell, defaultValue, va_rf, ro])
theorem x_newa {at_ : ArrayType} {n : Int32} (j : Nat) (hk : xpk j at_) (d : decode (yC Y) pc = .ok (.newarray at_, 2)) (hn : ¬ n < 0) (hb : n.toNatClampNeg ≤ 1000000) (g1 : nx h + 1 ≤ xGN G) (g2 : us h + n.toNatClampNeg ≤ xGU G) (kk : xP G Y fr lo (pc + 2) lv (rv (nx h + 1) :: st) (nA h (100 + j) n.toNatClampNeg) Q) : xP G Y fr lo pc lv (.int n :: st) h Q := by
  obtain ⟨hj, hty, hw, hno, hby⟩ := hk
  intro hw0
  obtain ⟨o, h', w1, w2, q, w⟩ := kk (xwf_nA hw0)
  refine ⟨o, h', w1, (xext_nA hw0).tr w2, q, fun p l e R s m args below meth c u0 C E H locs ls a1 a2 a3 a4 a5 => ?_⟩
  have C' := C
  obtain ⟨cx, cb, -, -, -, -, cown, chts, cK, -, -, cce, csl, -⟩ := C
  refine va_newaK cx cb (chts _ hw) rfl d rfl hn rfl (by have := Nat.mul_le_mul hb hby; omega) (by omega) (by omega) a1.1.1.symm fun H1 cA e1 z1 o1 r1 r2 => ?_
  have e1' := e1
  rw [a1.1.1] at e1' z1 o1
  have hcA : cA = xGA G j := by
    have h9 := (cK.1.2 j _ (xtys_at G hj hty)).2
    have h8 : s.vm.findClass ("[" ++ (newarray.typeOf at_).toString) = some (xGA G j) := by
      unfold va_RA at h9
      revert h9
      cases hx : newarray.typeOf at_ with
      | object C => exact absurd hx (hno C)
      | _ => exact fun h => h
    exact Option.some.inj (r2.symm.trans h8)
  subst hcA
  have hf : newarray.typeOf at_ ≠ .float := by
    intro hx
    rw [hx] at hty
    have : ∀ q ∈ xar, q ≠ FieldType.float := by decide
    exact this _ (List.mem_of_getElem? hty) rfl
  have hk := w p l e R s m args below meth c u0 C' E H1 locs ls (a1.newA hty (by rw [e1', nA_ev h _ _ _ hf]) z1 o1 g1 g2) (by show _ ≤ nx h + 1; omega) (by show _ ≤ us h + _; omega) a4 a5
  rw [show nx (nA h (100 + j) n.toNatClampNeg) - s.heap.size = nx h - s.heap.size + 1 from by show nx h + 1 - _ = _; omega, show us (nA h (100 + j) n.toNatClampNeg) - u0 = us h - u0 + n.toNatClampNeg from by show us h + _ - _ = _; omega] at hk
  exact hk
end XI
