/-! Math.abs of a double: the machine runs an entry of its table of natives in the bytecode's place -/
def xabr : NativeRow := (Native.java_lang_Math.nans.rows.drop 9).head (by decide)
set_option maxRecDepth 100000 in
theorem xabr_find (p : Program) : NativeRow.find? p.tables.natives "java/lang/Math" "abs" "(D)D" = some xabr := by
  cases p <;> rfl
/-- no NaN -/
def xnn (b : UInt64) : Prop := b &&& 0x7fffffffffffffff ≤ 0x7ff0000000000000
theorem xabr_wp {E : CtlPost} {e : Env} {d : Bool} {acts : List Action} {s : State} {Q : Option Value → Pre} {b : UInt64} (hb : xnn b) (hq : Q (some (.double (b &&& 0x7fffffffffffffff))) d acts s) : wp (xabr.sem #[.double b]) Q E e d acts s := by
  show wp (do let r ← anyNaN64 (b &&& 0x7fffffffffffffff); Jvm.mark "nat.java_lang_Math.abs"; Pure.pure (some (.double r))) Q E e d acts s
  have h2 : b &&& 0x7fffffffffffffff &&& 0x7fffffffffffffff ≤ 0x7ff0000000000000 := by rw [UInt64.and_assoc, UInt64.and_self]; exact hb
  simpa [anyNaN64, h2] using hq
theorem xs_abs (p : Program) {e : Env} {below : List Frame} {s target : State} {g : JFrame} {c : Code} (h : At s g.method c below) {m : MethodId} {meth : Method} {code : Code} {k : Class} (acts : List Action)
    (hk : s.vm.classes[m.cls]? = some k) (hx : k.methods[m.idx]? = some meth) (hkn : k.name = "java/lang/Math") (hboot : k.loader = none) (hmn : meth.name = "abs") (hmd : meth.desc = "(D)D") (hc : meth.code = some code) (hl : meth.locks = false) (hps : meth.sig.parameters.length = 1) (hst : meth.isStatic = true)
    (hroom : e.platform.stackFull (((s.setTop g).threads[(s.setTop g).cur]?).getD { frames := [] }) (s.setTop g).frames code.maxLocals = false) {b : UInt64} (hb : xnn b) {ig : Instr} {len : Nat} (hdg : decode c.code g.pc = .ok (ig, len))
    (hrest : Steps p.tables e below (s.setTop { g with pc := g.pc + len, stack := .double (b &&& 0x7fffffffffffffff) :: g.stack }) target) : Steps p.tables e below (doInvoke e (s.setTop g) acts m #[.double b]).1 target := by
  have hm : (s.setTop g).vm.method? m = some meth := by
    show s.vm.method? m = some meth
    simp [Vm.method?, hk, hx]
  rw [(doInvoke_java (s := s.setTop g) (e := e) (acts := acts) (args := #[.double b]) hm hc hl hroom).1]
  have hfe := frames_entered (g := g) h.top (.java { method := m, pc := 0, locals := argsToLocals #[.double b] code.maxLocals, stack := [], locked := none })
  obtain ⟨mid, hmid⟩ := h.above
  obtain ⟨g₀, hg⟩ := Option.isSome_iff_exists.mp h.top
  obtain ⟨r, hr⟩ := State.topJava?_eq_some.mp hg
  have htl : s.frames.tail = r := by rw [hr]; rfl
  refine Steps.head ⟨h.running, by simpa using h.runnable, by simpa using h.alone⟩
    ⟨.java { method := m, pc := 0, locals := argsToLocals #[.double b] code.maxLocals, stack := [], locked := none } :: .java g :: mid, by rw [hfe, hmid]; rfl, by simp, by simp⟩ ?_
  have hov : overridden p.tables e ((s.setTop g).pushFrame (.java { method := m, pc := 0, locals := argsToLocals #[.double b] code.maxLocals, stack := [], locked := none })) { method := m, pc := 0, locals := argsToLocals #[.double b] code.maxLocals, stack := [], locked := none } = some xabr := by
    have hk9 : ((s.setTop g).pushFrame (.java { method := m, pc := 0, locals := argsToLocals #[.double b] code.maxLocals, stack := [], locked := none })).vm.classes[m.cls]? = some k := hk
    unfold overridden
    simp [hk9, hx, hkn, hboot, hmn, hmd, overriddenIn, xabr_find]
  have hcnt : argCount ((s.setTop g).pushFrame (.java { method := m, pc := 0, locals := argsToLocals #[.double b] code.maxLocals, stack := [], locked := none })) m = 1 := by
    have hk9 : ((s.setTop g).pushFrame (.java { method := m, pc := 0, locals := argsToLocals #[.double b] code.maxLocals, stack := [], locked := none })).vm.classes[m.cls]? = some k := hk
    simp [argCount, hk9, hx, hps, hst]
  have hun : ∀ n : Nat, (List.replicate n Slot.unset).filterMap (fun x => match x with
      | .val v => some v
      | _ => none) = ([] : List Value) := fun n => by
    induction n with
    | zero => rfl
    | succ n ih => simp [List.replicate_succ]
  have hgiv : (((argsToLocals #[.double b] code.maxLocals).toList.filterMap fun x => match x with
      | .val v => some v
      | _ => none).toArray.extract 0 1) = #[.double b] := by
    have e1 : argsToLocals #[.double b] code.maxLocals = #[.val (.double b), .second] ++ Array.replicate (code.maxLocals - 2) .unset := rfl
    rw [e1, Array.toList_append, List.filterMap_append, Array.toList_replicate, hun, List.append_nil]
    rfl
  have hstep : stepThread p.tables e ((s.setTop g).pushFrame (.java { method := m, pc := 0, locals := argsToLocals #[.double b] code.maxLocals, stack := [], locked := none })) = afterNative e { method := m, args := #[.double b], locked := none } (.java g :: s.frames.tail) ((xabr.sem #[.double b]).run e (((s.setTop g).pushFrame (.java { method := m, pc := 0, locals := argsToLocals #[.double b] code.maxLocals, stack := [], locked := none })).setFrames (.native { method := m, args := #[.double b], locked := none } :: .java g :: s.frames.tail))) := by
    unfold stepThread
    simp only [hfe, hov, hcnt]
    generalize hgg : (List.toArray _).extract 0 1 = gv
    obtain rfl : gv = #[.double b] := hgg.symm.trans hgiv
    rfl
  rw [hstep]
  have hS : ((s.setTop g).pushFrame (.java { method := m, pc := 0, locals := argsToLocals #[.double b] code.maxLocals, stack := [], locked := none })).setFrames (.native { method := m, args := #[.double b], locked := none } :: .java g :: s.frames.tail) = s.setFrames (.native { method := m, args := #[.double b], locked := none } :: .java g :: r) := by
    rw [State.pushFrame, State.setFrames_setFrames, State.setTop_of_frames _ hr, State.setFrames_setFrames, htl]
  rw [hS, htl]
  have hcur : s.cur < s.threads.size := State.cur_lt_of_frames hr
  have hw1 : wpRun (xabr.sem #[.double b]) (fun v' s₁ _ => v' = some (.double (b &&& 0x7fffffffffffffff)) ∧ s₁ = s.setFrames (.native { method := m, args := #[.double b], locked := none } :: .java g :: r)) (fun _ _ _ => False) e (s.setFrames (.native { method := m, args := #[.double b], locked := none } :: .java g :: r)) :=
    xabr_wp hb ⟨rfl, rfl⟩
  have hw2 := (wpRun_iff_run _ _ _ _ _).mp hw1
  cases hrun : (xabr.sem #[.double b]).run e (s.setFrames (.native { method := m, args := #[.double b], locked := none } :: .java g :: r)) with
  | ctl x s₁ acts₁ => rw [hrun] at hw2; cases x <;> exact hw2.elim
  | ok v' s₁ acts₁ =>
    rw [hrun] at hw2
    obtain ⟨rfl, rfl⟩ := hw2
    show Steps p.tables e below (doReturn e (s.setFrames (.native { method := m, args := #[.double b], locked := none } :: .java g :: r)) acts₁ _).1 target
    have hfr3 : (s.setFrames (.native { method := m, args := #[.double b], locked := none } :: .java g :: r)).frames = .native { method := m, args := #[.double b], locked := none } :: .java g :: r := State.frames_setFrames _ hcur
    have hcode : (s.setFrames (.native { method := m, args := #[.double b], locked := none } :: .java g :: r)).code? g.method = some c := h.code
    have hfs : handOver (s.setFrames (.native { method := m, args := #[.double b], locked := none } :: .java g :: r)) (some (.double (b &&& 0x7fffffffffffffff))) (.java g :: r) = some (.java { g with pc := g.pc + len, stack := .double (b &&& 0x7fffffffffffffff) :: g.stack } :: r) := by
      simp [handOver, hcode, hdg, Except.toOption]
    rw [doReturn_native (f := { method := m, args := #[.double b], locked := none }) hfr3 rfl hfs, State.setFrames_setFrames, ← State.setTop_of_frames (s := s) _ hr]
    exact hrest
section XAB
variable {G : xG} {Y : xY} {fr lo pc : Nat} {lv : List (Nat × Value)} {st : List Value} {h : xH} {Q : Outcome → xH → Prop}
theorem x_absd {index : Nat} {b : UInt64} {bytes : ByteArray} {ret : Option FieldType} (hl : Cond.methodLink (yN Y).cls index ⟨"java/lang/Math", "abs", "(D)D"⟩ ∈ lw_all) (hcode : Cond.code ⟨"java/lang/Math", "abs", "(D)D"⟩ bytes 2 ret ∈ lw_all) (hstat : Cond.static ⟨"java/lang/Math", "abs", "(D)D"⟩ ∈ lw_all) (hini : Cond.initialized "java/lang/Math" ∈ lw_all) (hb : xnn b) (d : decode (yC Y) pc = .ok (.invokestatic index, 3)) (hfr : 1 ≤ fr) (hlo : (st.map fun v => v.category).sum + 13 ≤ lo)
    (kk : xP G Y fr lo (pc + 3) lv (.double (b &&& 0x7fffffffffffffff) :: st) h Q) : xP G Y fr lo pc lv (.double b :: st) h Q := by
  refine xP.step (fun p l e R s m args below meth c u0 Z H locs ls k n C hR hl9 kk => ?_) kk
  obtain ⟨cx, cb, cml, -, -, -, cown, chts, cK, cfr, clo, -⟩ := C
  intro T hT X
  obtain ⟨mk, hnamed⟩ := Cond.code_named (chts _ hcode)
  obtain ⟨methM, cM, hmethM, hcM, -, hmlM, -, hlkM, -, hsigM⟩ := Cond.code_spec hnamed (chts _ hcode)
  have hstM : methM.isStatic = true := Cond.static_spec hnamed hmethM (chts _ hstat)
  obtain ⟨kP, hkP, hkn⟩ := className_of_methodNamed hnamed
  have hinitP : kP.init = .initialized := Cond.initialized_spec (findClass_of_methodNamed hnamed) hkP (chts _ hini)
  obtain ⟨hmn, hmd⟩ := name_of_methodNamed hnamed hmethM
  have hboot := Vm.findClass_boot (findClass_of_methodNamed hnamed) hkP
  have hps : methM.sig.parameters.length = 1 := by
    have e1 : parseMethodDescriptor "(D)D" = some { parameters := [.double], returnType := some .double } := by decide +kernel
    have e2 := hsigM.symm.trans e1
    rw [Option.some.inj e2]
    rfl
  have hx : kP.methods[mk.idx]? = some methM := by simpa [Vm.method?, hkP] using hmethM
  obtain ⟨vm', X', step⟩ := X.invokestatic cx cown (chts _ hl) hnamed hmethM hstM hkP hinitP (by decide) (g := F0 m pc ls (.double b :: st)) rfl (argsL := [.double b]) (rest := st) (by rw [hps]; rfl) rfl (by rw [cb]; exact d)
  obtain ⟨k', hk', he'⟩ := X'.warmed.alike.2.2 _ _ hkP
  obtain ⟨t, a1, b1⟩ := kk ls hl9 (T.setVm vm') hT X'
  refine ⟨t, step t fun acts => ?_, b1⟩
  exact xs_abs p (g := F0 m pc ls st) X'.here acts hk' (by rw [he']; exact hx) (by rw [he']; exact hkn) (by rw [he']; exact hboot) hmn hmd hcM hlkM hps hstM
    (X'.notFull (g := F0 m pc ls st) (by show ls.size = _; rw [cml]; exact hl9.1) (vars := cM.maxLocals) (by omega) (by show 2 * 0 + (st.map fun v => v.category).sum + (cM.maxLocals + 11) ≤ R.locals; rw [hmlM]; omega)) hb (by rw [cb]; exact d) a1
end XAB
