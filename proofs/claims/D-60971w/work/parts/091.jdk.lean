/-! handlers; calls of other kinds; natives; the JDK's own -/
section XCA
variable {p : Program} {l : Launch} {e : Env} {R : Room} {s : State} {m : MethodId} {args : Array Value} {below : List Frame} {meth : Method} {c : Code} {T : State} {locs : List Loc} {cells slots : Nat}
/-- caught by the method's one handler, whose class is named by an entry of the pool, resolved or not -/
theorem x_caught (X : Stand p l e R s m args below meth c T locs cells slots) (a : Addr) {g : JFrame} (hg : g.method = m) {own name : String} (hown : s.vm.findClass own = some m.cls)
    (x : ExceptionTableEntry) (htab : c.exceptionTable.toList = [x]) (hx : covers x g.pc = true) (h0 : x.catchType ≠ 0) (hlink : (Cond.classLink own x.catchType name).before args s = true)
    {cT : ClassId} {cell : Cell} (hcT : s.vm.findClass name = some cT) (hcell : T.heap[a]? = some cell) (hobj : cell.vm.isStatics = false) (hfit : s.vm.assignable cell.cls cT = true) :
    ∃ vm', Stand p l e R s m args below meth c (T.setVm vm') locs cells slots ∧
      ∀ target, Steps p.tables e below ((T.setVm vm').setTop { g with pc := x.handlerPc, stack := [.ref a] }) target → Steps p.tables e below ((T.setTop g).pushFrame (.throwing a)) target := by
  have hpl : e.platform.magicAccessors = ({} : Platform).magicAccessors := by rw [X.admits.platform]
  obtain ⟨c', hc', hcl⟩ := Cond.classLink_spec hown hlink e.platform hpl
  cases hcT.symm.trans hc'
  obtain ⟨dk, _, _, kt, hd, _, _, _, _, hkt, _, hopen⟩ := hcl.here
  have hclT := X.warmed.classLinks hcl
  have hW' : s.WarmedH (T.vm.noted m.cls x.catchType (.cls cT)) := X.warmed.noted hd hopen (State.rightAt_cls hcl)
  have hal := X.warmed.alike
  have hal2 : T.vm.Alike (T.vm.noted m.cls x.catchType (.cls cT)) := (Vm.Alike.refl T.vm).noted _ _ _
  obtain ⟨kt', hkt', -⟩ := hal.2.2 _ _ hkt
  have hfit' : T.vm.assignable cell.cls cT = true := by rw [hal.assignable]; exact hfit
  obtain ⟨ko, hko⟩ := Vm.classAt_of_assignable hfit' ⟨kt', hkt'⟩
  obtain ⟨ko2, hko2, -⟩ := hal2.2.2 _ _ hko
  obtain ⟨kt2, hkt2, -⟩ := hal2.2.2 _ _ hkt'
  have hfit2 : (T.vm.noted m.cls x.catchType (.cls cT)).assignable cell.cls cT = true := by rw [hal2.assignable]; exact hfit'
  refine ⟨_, X.noted hW', fun target hrest => ?_⟩
  subst hg
  have hne := VmData.ne_statics_of hobj
  have hcov := hx
  simp only [covers] at hcov
  obtain ⟨ha, ht⟩ := (resolveClass_links e.toSetting hclT).op (op := VmOp.resolveClass g.method.cls x.catchType) rfl
  have hfind : ∀ (Q : Handler → Pre) (E : CtlPost) (d : Bool) (acts : List Action), wp (findHandler g a) Q E e d acts ((T.setTop g).pushFrame (.throwing a)) ↔ Q (.found x.handlerPc) d acts (((T.setTop g).pushFrame (.throwing a)).setVm (T.vm.noted g.method.cls x.catchType (.cls cT))) := by
    intro Q E d acts
    rw [W.findHandler_eq (s := (T.setTop g).pushFrame (.throwing a)) (meth := meth) (code := c) X.method' X.code, htab]
    have hv : ((T.setTop g).pushFrame (.throwing a)).vm = T.vm := rfl
    have hh : ((T.setTop g).pushFrame (.throwing a)).heap = T.heap := rfl
    simp [findHandler.go, hcov, h0, hv, hh, ha, ht, hcell, hne, hko2, hkt2, hfit2, VmOp.dirties, VmOp.acts]
  obtain ⟨hgo, hw⟩ := X.here.throwing (g := g) a
  refine Steps.head hgo hw ?_
  have hstep : (stepThrowing e ((T.setTop g).pushFrame (.throwing a)) a (.java g :: T.frames.tail)).Is ((((T.setTop g).pushFrame (.throwing a)).setVm (T.vm.noted g.method.cls x.catchType (.cls cT))).setFrames (.java { g with pc := x.handlerPc, stack := [.ref a] } :: T.frames.tail)) [] := by
    simp only [stepThrowing, searchFrame, vmDo]
    generalize hr : Sem.go _ e false [] _ = res
    obtain ⟨as, rfl, ha9⟩ := Sem.eq_ok_of hr (a := Handler.found x.handlerPc) (s' := ((T.setTop g).pushFrame (.throwing a)).setVm (T.vm.noted g.method.cls x.catchType (.cls cT))) (acts' := []) (by simp [hfind _ _ _ _])
    exact ⟨rfl, ha9⟩
  rw [stepThread_throwing (frames_entered X.here.top _), hstep.1]
  obtain ⟨g₀, hg0⟩ := Option.isSome_iff_exists.mp X.here.top
  obtain ⟨r, hr⟩ := State.topJava?_eq_some.mp hg0
  have hr' : (T.setVm (T.vm.noted g.method.cls x.catchType (.cls cT))).frames = .java g₀ :: r := hr
  rw [State.setTop_of_frames _ hr'] at hrest
  have e1 : ((T.setTop g).pushFrame (.throwing a)).setVm (T.vm.noted g.method.cls x.catchType (.cls cT)) = ((T.setVm (T.vm.noted g.method.cls x.catchType (.cls cT))).setTop g).pushFrame (.throwing a) := rfl
  rw [e1, hr, List.tail_cons, State.pushFrame, State.setFrames_setFrames, State.setTop_of_frames _ hr', State.setFrames_setFrames]
  exact hrest
end XCA
section XJ
variable {G : xG} {Y Yc : xY} {fr lo fc lc pc : Nat} {lv : List (Nat × Value)} {as st st0 : List Value} {h h1 : xH} {Q : Outcome → xH → Prop}
/-- a call under the method's one handler, which catches what the callee throws -/
theorem x_try {ig : Instr} {ci N : Nat} {C : String} {T : u_T} (q : Nat × Nat × Nat × Nat) (hq : yH Y = [q]) (hcov : q.1 ≤ pc ∧ pc < q.2.1) (hct : q.2.2.2 ≠ 0) (h0 : ci < 99) (hc : xcl[ci]? = some (C, T, N)) (hcl : Cond.classLink (yN Y).cls q.2.2.2 C ∈ lw_all)
    (enter : xEnter G Y Yc fr lo pc st st0 as h) (d : decode (yC Y) pc = .ok (ig, 3)) (hcode : xcw Yc ∈ lw_all) (hpl : plainFor (yN Yc) = true) (hlen : (lg_sl as).length ≤ yL Yc) (hfr : fc + 1 ≤ fr) (hlo : (st.map fun v => v.category).sum + (yL Yc + 11) + lc ≤ lo)
    (Kc : xR G Yc fc lc as h (fun o h1 => xext h h1 → match o with
      | .returned v => xP G Y fr lo (pc + 3) lv (v.toList ++ st) h1 Q
      | .threw x => tg h1 (x + 1) = ci + 1 ∧ xP G Y fr lo q.2.2.1 lv [rv (x + 1)] h1 Q)) : xP G Y fr lo pc lv st0 h Q := by
  intro hw0
  obtain ⟨o, h1, v1, v2, q0, w⟩ := Kc hw0
  have q0 := q0 v2
  have main := x_in (h1 := h1) (o := o) enter d hcode hpl hlen hfr hlo w
  cases o with
  | returned v =>
    obtain ⟨o2, h2, v3, v4, q, w2⟩ := q0 v1
    refine ⟨o2, h2, v3, v2.tr v4, q, fun p l e R s m args below meth c u0 C E H locs ls a1 a2 a3 a4 a5 => ?_⟩
    intro T hT X
    subst hT
    obtain ⟨T₁, mk, t, L, X₁, f1, f2, f3, f4, f5, f6, f7, f8, f9⟩ := main p l e R s m args below meth c u0 T locs ls C E.2 X a1 a2 a3 a4 (by rw [C.2.2.1]; exact a5.1)
    obtain ⟨T', X', -, -, ht⟩ := X₁.outOf (g := F0 m pc ls st) rfl (by rw [C.2.1]; exact d) f2 f4 f7
    have hth : t.heap = T'.heap := by rw [ht]; rfl
    have hk := w2 p l e R s m args below meth c u0 C E T'.heap (locs ++ L) ls (by rw [← hth]; exact f3) (by omega) (by omega) (fun q hq => by
      rcases List.mem_append.mp hq with y | y
      · exact a4 q y
      · exact f8 q y) a5
    rw [show nx h1 - s.heap.size = nx h - s.heap.size + (nx h1 - nx h) by omega, show us h1 - u0 = us h - u0 + (us h1 - us h) by omega] at hk
    obtain ⟨t2, b1, b2⟩ := hk T' rfl X'
    refine ⟨t2, f9 t2 ?_, b2⟩
    rw [ht]
    exact b1
  | threw x =>
    obtain ⟨htg, kk⟩ := q0
    obtain ⟨o2, h2, v3, v4, q9, w2⟩ := kk v1
    refine ⟨o2, h2, v3, v2.tr v4, q9, fun p l e R s m args below meth c u0 C E H locs ls a1 a2 a3 a4 a5 => ?_⟩
    intro T hT X
    subst hT
    obtain ⟨T₁, mk, t, L, X₁, f1, f2, f3, f4, f5, f6, f7, f8, f9⟩ := main p l e R s m args below meth c u0 T locs ls C E.2 X a1 a2 a3 a4 (by rw [C.2.2.1]; exact a5.1)
    obtain ⟨T', X', -, -, ht⟩ := X₁.outOfThrown (g := F0 m pc ls st) rfl f2 f4 f7
    have hth : t.heap = T'.heap := by
      rw [ht]
      rfl
    have hR1 : xRel G h1 T'.heap := by rw [← hth]; exact f3
    have C' := C
    obtain ⟨cx, cb, cml, -, -, -, cown, chts, cK, -⟩ := C
    obtain ⟨cell, g1, g2, g3⟩ := x_recv hR1 cK htg h0 hc
    have hE := E.1
    unfold xE at hE
    rw [hq] at hE
    obtain ⟨x9, hx9, hx91⟩ : ∃ x9, c.exceptionTable.toList = [x9] ∧ (x9.startPc, x9.endPc, x9.handlerPc, x9.catchType) = q := by
      cases hl : c.exceptionTable.toList with
      | nil => rw [hl] at hE; cases hE
      | cons y r =>
        rw [hl] at hE
        cases r with
        | nil => exact ⟨y, rfl, by simpa using hE⟩
        | cons z r => simp at hE
    obtain ⟨e1, e2, e3, e4⟩ : x9.startPc = q.1 ∧ x9.endPc = q.2.1 ∧ x9.handlerPc = q.2.2.1 ∧ x9.catchType = q.2.2.2 := by rw [← hx91]; exact ⟨rfl, rfl, rfl, rfl⟩
    obtain ⟨vm', X2, st2⟩ := x_caught X' x (g := F0 m pc ls st) rfl cown x9 hx9 (by simp only [covers, e1, e2, Bool.and_eq_true, decide_eq_true_eq]; exact hcov) (by rw [e4]; exact hct) (by rw [e4]; exact chts _ hcl) (cK.1.1 ci _ hc).2.1 g1 g2 (by
      have := (cK.1.1 ci _ hc).2
      have h7 : (xGD G).1 ci = cell.cls := Option.some.inj (this.1.symm.trans g3)
      rw [← h7]
      exact va_assign this)
    have hk := w2 p l e R s m args below meth c u0 C' E T'.heap (locs ++ L) ls hR1 (by omega) (by omega) (fun q hq => by
      rcases List.mem_append.mp hq with y | y
      · exact a4 q y
      · exact f8 q y) a5
    rw [show nx h1 - s.heap.size = nx h - s.heap.size + (nx h1 - nx h) by omega, show us h1 - u0 = us h - u0 + (us h1 - us h) by omega] at hk
    obtain ⟨t2, b1, b2⟩ := hk (T'.setVm vm') rfl X2
    refine ⟨t2, f9 t2 ?_, b2⟩
    rw [ht]
    refine st2 t2 ?_
    rw [e3]
    exact b1
/-- a method that is linked by another name than the one it is selected by -/
def xMx (own : String) (index : Nat) (Yc : xY) (ci n : Nat) : Prop := ∃ (C : String) (T : u_T) (N : Nat) (x : MethodName) (Cr : String) (Yr : MethodName), ci < 99 ∧ xcl[ci]? = some (C, T, N) ∧ xMc Yc n ∧ Cond.methodLink own index x ∈ lw_all ∧ (x.cls ≠ "java/lang/invoke/MethodHandle" ∧ x.cls ≠ "java/lang/invoke/VarHandle") ∧ Cond.instanceMethod x ∈ lw_all ∧ Cond.instanceMethod (yN Yc) ∈ lw_all ∧ Cond.selects C x (yN Yc) ∈ lw_all ∧ x.desc = (yN Yc).desc ∧ Cond.selects Cr Yr Yr ∈ lw_all ∧ Yr.cls = x.cls ∧ ∃ b n2 r, Cond.code x b n2 r ∈ lw_all
theorem x_entX {index ci n a : Nat} (hm : xMx (yN Y).cls index Yc ci n) (ht : tg h a = ci + 1) (hn : as.length = n) (d : decode (yC Y) pc = .ok (.invokevirtual index, 3)) : xEnter G Y Yc fr lo pc st (as.reverse ++ rv a :: st) (rv a :: as) h := by
  obtain ⟨C, T, N, x, Cr, Yr, h0, hc, hmc, hl, hx, hix, hin, hsl, hde, hsr, hyr, b, n2, r, hcx⟩ := hm
  refine fun p l e R s m args below meth c u0 U locs cells slots ls C X hR => ?_
  obtain ⟨r, rfl⟩ := tg_pos hR ht (by omega)
  obtain ⟨cx, cb, -, -, -, -, cown, chts, cK, -⟩ := C
  obtain ⟨cellB, b1, b2, b3⟩ := x_recv hR cK ht h0 hc
  obtain ⟨mk, methM, hnamed, hmethM, hstM, habM⟩ := Cond.instanceMethod_spec (chts _ hin)
  obtain ⟨mM, methM', cM, hnM, hmethM', -, -, -, -, -, -, hsigM⟩ := xcw_spec (chts _ hmc.1)
  cases hnamed.symm.trans hnM
  cases hmethM.symm.trans hmethM'
  obtain ⟨m0, meth0, hnamed0, hmeth0, hst0, hab0⟩ := Cond.instanceMethod_spec (chts _ hix)
  obtain ⟨meth0', -, hmeth0', -, -, -, -, -, -, hsig0⟩ := Cond.code_spec hnamed0 (chts _ hcx)
  cases hmeth0.symm.trans hmeth0'
  obtain ⟨c2, r2, m2, q1, q2, q3, q4, kP, hkP, hkPi⟩ := Cond.selects_spec (chts _ hsl)
  cases b3.symm.trans q1
  cases (State.methodFound?_of_named hnamed0 hx).symm.trans q2
  cases hnamed.symm.trans q3
  obtain ⟨-, -, mr, -, -, qr3, -, kR, hkR, hkRi⟩ := Cond.selects_spec (chts _ hsr)
  have ecl : mr.cls = m0.cls := by
    have e1 := findClass_of_methodNamed qr3
    have e2 := findClass_of_methodNamed hnamed0
    rw [hyr] at e1
    exact Option.some.inj (e1.symm.trans e2)
  rw [ecl] at hkR
  have hselP : selectMethod e.platform s.vm cellB.cls m0 = .method mk := by rw [Launch.admits_selectMethod X.admits]; exact q4
  obtain ⟨vm₁, X₁, hstep₁⟩ := X.invokevirtual cx cown (chts _ hl) hnamed0 hmeth0 hst0 hkR hkRi hx (a := r) (cell := cellB) b1
    (fun z h => by rw [h] at b2; cases b2) hselP hmethM habM hkP hkPi (g := F0 m pc ls (as.reverse ++ rv (r + 1) :: st)) rfl (argsL := as) (rest := st) (by rw [hn]; rw [hde] at hsig0; exact hmc.len _ hsig0) rfl (by rw [cb]; exact d)
  exact ⟨vm₁, mk, X₁, X₁.named hnamed, hstep₁⟩
/-- a private method, on an object of a class below -/
def xMp (Yc : xY) (ci n : Nat) : Prop := ∃ (C : String) (T : u_T) (N : Nat) (Cr : String) (Yr : MethodName), ci < 99 ∧ xcl[ci]? = some (C, T, N) ∧ xMc Yc n ∧ Cond.instanceMethod (yN Yc) ∈ lw_all ∧ Cond.privateMethod (yN Yc) ∈ xnest ∧ Cond.selects Cr Yr Yr ∈ lw_all ∧ Yr.cls = (yN Yc).cls
theorem x_entP {index ci n a : Nat} (hl : Cond.methodLink (yN Y).cls index (yN Yc) ∈ lw_all) (hm : xMp Yc ci n) (ht : tg h a = ci + 1) (hn : as.length = n) (d : decode (yC Y) pc = .ok (.invokevirtual index, 3)) : xEnter G Y Yc fr lo pc st (as.reverse ++ rv a :: st) (rv a :: as) h := by
  obtain ⟨C, T, N, Cr, Yr, h0, hc, hmc, hin, hpv, hsr, hyr⟩ := hm
  refine fun p l e R s m args below meth c u0 U locs cells slots ls C X hR => ?_
  obtain ⟨r, rfl⟩ := tg_pos hR ht (by omega)
  obtain ⟨cx, cb, -, -, -, -, cown, chts, cK, -⟩ := C
  obtain ⟨cellB, b1, b2, b3⟩ := x_recv hR cK ht h0 hc
  obtain ⟨mk, methM, hnamed, hmethM, hstM, habM⟩ := Cond.instanceMethod_spec (chts _ hin)
  obtain ⟨mM, methM', cM, hnM, hmethM', -, -, -, -, -, -, hsigM⟩ := xcw_spec (chts _ hmc.1)
  cases hnamed.symm.trans hnM
  cases hmethM.symm.trans hmethM'
  obtain ⟨-, -, mr, -, -, qr3, -, kR, hkR, hkRi⟩ := Cond.selects_spec (chts _ hsr)
  have ecl : mr.cls = mk.cls := by
    have e1 := findClass_of_methodNamed qr3
    have e2 := findClass_of_methodNamed hnamed
    rw [hyr] at e1
    exact Option.some.inj (e1.symm.trans e2)
  rw [ecl] at hkR
  have hpr : methM.isPrivate = true := by
    have h9 := va_Nw.use (A := args) rfl (cK.2.1 _ hpv)
    simpa [Cond.before, Cond.holds, Cond.value, hnamed, hmethM] using h9
  have hselP : selectMethod e.platform s.vm cellB.cls mk = .method mk := by
    unfold selectMethod
    rw [hmethM]
    simp [hpr]
  obtain ⟨vm₁, X₁, hstep₁⟩ := X.invokevirtual cx cown (chts _ hl) hnamed hmethM hstM hkR hkRi hmc.2.2.1 (a := r) (cell := cellB) b1
    (fun z h => by rw [h] at b2; cases b2) hselP hmethM habM hkR hkRi (g := F0 m pc ls (as.reverse ++ rv (r + 1) :: st)) rfl (argsL := as) (rest := st) (by rw [hn]; exact hmc.len _ hsigM) rfl (by rw [cb]; exact d)
  exact ⟨vm₁, mk, X₁, X₁.named hnamed, hstep₁⟩
/-- super.m(..) -/
def xMu (own : String) (Yc : xY) (ci n : Nat) : Prop := ∃ (C : String) (T : u_T) (N : Nat), ci < 99 ∧ xcl[ci]? = some (C, T, N) ∧ xMc Yc n ∧ Cond.instanceMethod (yN Yc) ∈ lw_all ∧ Cond.sameMethod (yN Yc).cls (yN Yc).cls (yN Yc).name (yN Yc).desc ∈ lw_all ∧ Cond.superclass own (yN Yc).cls ∈ lw_all ∧ (yN Yc).name ≠ "<init>"
theorem x_entU {index ci n a : Nat} (hl : Cond.methodLink (yN Y).cls index (yN Yc) ∈ lw_all) (hm : xMu (yN Y).cls Yc ci n) (ht : tg h a = ci + 1) (hn : as.length = n) (d : decode (yC Y) pc = .ok (.invokespecial index, 3)) : xEnter G Y Yc fr lo pc st (as.reverse ++ rv a :: st) (rv a :: as) h := by
  obtain ⟨C, T, N, h0, hc, hmc, hin, hsame, hsup, hno⟩ := hm
  refine fun p l e R s m args below meth c u0 U locs cells slots ls C X hR => ?_
  obtain ⟨r, rfl⟩ := tg_pos hR ht (by omega)
  obtain ⟨cx, cb, -, -, -, -, cown, chts, cK, -⟩ := C
  obtain ⟨cellB, b1, b2, b3⟩ := x_recv hR cK ht h0 hc
  obtain ⟨mk, methM, hnamed, hmethM, hstM, habM⟩ := Cond.instanceMethod_spec (chts _ hin)
  obtain ⟨mM, methM', cM, hnM, hmethM', -, -, -, -, -, -, hsigM⟩ := xcw_spec (chts _ hmc.1)
  cases hnamed.symm.trans hnM
  cases hmethM.symm.trans hmethM'
  obtain ⟨ps, dk, kp, hps, hdk, hkp, hsuper, -, -, hnid⟩ := Cond.superclass_spec cown (chts _ hsup)
  have hpm : ps = mk.cls := Option.some.inj (hps.symm.trans (findClass_of_methodNamed hnamed))
  have hsub : s.vm.isSubclass ps mk.cls = true := by rw [hpm]; simp [Vm.isSubclass, Vm.isSubclassAux]
  obtain ⟨kB, hkB, -⟩ := Vm.findClass_spec b3
  obtain ⟨vm₁, X₁, hstep₁⟩ := X.invokespecialUp cx (owner := (yN Yc).cls) cown (chts _ hl) (chts _ hsame) (show s.methodNamed? ⟨(yN Yc).cls, (yN Yc).name, (yN Yc).desc⟩ = some mk from hnamed) hmethM hstM habM hno hdk hnid hps hsuper hsub (a := r) (cell := cellB) b1
    (fun z h => by rw [h] at b2; cases b2) hkB (g := F0 m pc ls (as.reverse ++ rv (r + 1) :: st)) rfl (argsL := as) (rest := st) (by rw [hn]; exact hmc.len _ hsigM) rfl (by rw [cb]; exact d)
  exact ⟨vm₁, mk, X₁, X₁.named hnamed, fun target hh => hstep₁ target (hh [])⟩
theorem x_callX {index ci n a : Nat} (hm : xMx (yN Y).cls index Yc ci n) (ht : tg h a = ci + 1) (hn : as.length = n) (d : decode (yC Y) pc = .ok (.invokevirtual index, 3)) (hlen : (lg_sl (rv a :: as)).length ≤ yL Yc) (hfr : fc + 1 ≤ fr) (hlo : (st.map fun v => v.category).sum + (yL Yc + 11) + lc ≤ lo)
    (Kc : xR G Yc fc lc (rv a :: as) h (fun o h1 => xext h h1 → match o with
      | .returned v => xP G Y fr lo (pc + 3) lv (v.toList ++ st) h1 Q
      | .threw x => Q (.threw x) h1)) (hnc : xnc Y pc := by exact fun _ h => absurd h List.not_mem_nil) : xP G Y fr lo pc lv (as.reverse ++ rv a :: st) h Q := by
  have hmc : xMc Yc n := by
    obtain ⟨C, T, N, x, Cr, Yr, h0, hc, hmc, -⟩ := hm
    exact hmc
  exact x_call (x_entX hm ht hn d) d hmc.1 hmc.2.1 hlen hfr hlo Kc hnc
theorem x_callP {index ci n a : Nat} (hl : Cond.methodLink (yN Y).cls index (yN Yc) ∈ lw_all) (hm : xMp Yc ci n) (ht : tg h a = ci + 1) (hn : as.length = n) (d : decode (yC Y) pc = .ok (.invokevirtual index, 3)) (hlen : (lg_sl (rv a :: as)).length ≤ yL Yc) (hfr : fc + 1 ≤ fr) (hlo : (st.map fun v => v.category).sum + (yL Yc + 11) + lc ≤ lo)
    (Kc : xR G Yc fc lc (rv a :: as) h (fun o h1 => xext h h1 → match o with
      | .returned v => xP G Y fr lo (pc + 3) lv (v.toList ++ st) h1 Q
      | .threw x => Q (.threw x) h1)) (hnc : xnc Y pc := by exact fun _ h => absurd h List.not_mem_nil) : xP G Y fr lo pc lv (as.reverse ++ rv a :: st) h Q := by
  have hmc : xMc Yc n := by
    obtain ⟨C, T, N, Cr, Yr, h0, hc, hmc, -⟩ := hm
    exact hmc
  exact x_call (x_entP hl hm ht hn d) d hmc.1 hmc.2.1 hlen hfr hlo Kc hnc
theorem x_callU {index ci n a : Nat} (hl : Cond.methodLink (yN Y).cls index (yN Yc) ∈ lw_all) (hm : xMu (yN Y).cls Yc ci n) (ht : tg h a = ci + 1) (hn : as.length = n) (d : decode (yC Y) pc = .ok (.invokespecial index, 3)) (hlen : (lg_sl (rv a :: as)).length ≤ yL Yc) (hfr : fc + 1 ≤ fr) (hlo : (st.map fun v => v.category).sum + (yL Yc + 11) + lc ≤ lo)
    (Kc : xR G Yc fc lc (rv a :: as) h (fun o h1 => xext h h1 → match o with
      | .returned v => xP G Y fr lo (pc + 3) lv (v.toList ++ st) h1 Q
      | .threw x => Q (.threw x) h1)) (hnc : xnc Y pc := by exact fun _ h => absurd h List.not_mem_nil) : xP G Y fr lo pc lv (as.reverse ++ rv a :: st) h Q := by
  have hmc : xMc Yc n := by
    obtain ⟨C, T, N, h0, hc, hmc, -⟩ := hm
    exact hmc
  exact x_call (x_entU hl hm ht hn d) d hmc.1 hmc.2.1 hlen hfr hlo Kc hnc
end XJ
