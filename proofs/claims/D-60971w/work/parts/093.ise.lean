/-! clone of a byte[]; fields under another class's name; the exception that the component makes -/
section XCL
variable {p : Program} {l : Launch} {e : Env} {R : Room} {s : State} {m : MethodId} {args : Array Value} {below : List Frame} {meth : Method} {c : Code} {H : Heap} {locs : List Loc} {cells slots : Nat} {Q : State → Prop}
variable {cc : ByteArray} {pc : Nat} {ls : Array Slot} {rest : List Value} {D : va_G} {a : Nat} {tys : List (ClassId × FieldType)}
theorem xw_clone (hexec : p.tables.exec = Jvm.exec) (hb : c.code = cc) (hml : c.maxLocals = ls.size) {own ad : String} {index : Nat} (hown : s.vm.findClass own = some m.cls)
    (hlink : (Cond.methodLink own index ⟨ad, "clone", "()Ljava/lang/Object;"⟩).before args s = true) (hsame : (Cond.sameMethod ad "java/lang/Object" "clone" "()Ljava/lang/Object;").before args s = true)
    (hnat : (Cond.native ⟨"java/lang/Object", "clone", "()Ljava/lang/Object;"⟩).before args s = true) (hinst : (Cond.instanceMethod ⟨"java/lang/Object", "clone", "()Ljava/lang/Object;"⟩).before args s = true)
    (hsel : (Cond.selects ad ⟨ad, "clone", "()Ljava/lang/Object;"⟩ ⟨"java/lang/Object", "clone", "()Ljava/lang/Object;"⟩).before args s = true) (hcl : va_Nw (.castable ad "java/lang/Cloneable") s)
    (hK : va_K D xcl tys s) (t0 : Nat) {cA : ClassId} {x : vp_A} {ty : FieldType} (hc0 : H[a]? = some (vp_cell cA x)) (ht : tys[t0]? = some (cA, ty))
    (hnm : s.vm.findClass ad = some cA) (hfit : ∀ (i : Nat) (v : Value), (vp_cell cA x).slots[i]? = some v → fits ty v = true)
    (hframes : 1 ≤ R.frames) (hlocals : (rest.map fun v => v.category).sum + 14 ≤ R.locals) (hcells : cells + 1 ≤ R.cells) (hslots : slots + x.1 ≤ R.slots) (hdg : decode cc pc = .ok (.invokevirtual index, 3))
    (kk : ∀ (H1 : Heap), H1[H.size]? = some (vp_cell cA x) → H1.size = H.size + 1 → (∀ q : Nat, q < H.size → H1[q]? = H[q]?) → W p l e R s m args below meth c H1 locs (cells + 1) (slots + x.1) Q (F0 m (pc + 3) ls (.ref H.size :: rest))) : W p l e R s m args below meth c H locs cells slots Q (F0 m pc ls (.ref a :: rest)) := by
  have hsz : (vp_cell cA x).slots.size = x.1 := by
    obtain ⟨n, f | f | f | f | f⟩ := x <;> exact arrV_size _ _ _
  have hvm0 : (vp_cell cA x).vm = .none := by
    obtain ⟨n, f | f | f | f | f⟩ := x <;> rfl
  have hcl0 : (vp_cell cA x).cls = cA := by
    obtain ⟨n, f | f | f | f | f⟩ := x <;> rfl
  have hcellE : ({ cls := (vp_cell cA x).cls, slots := (vp_cell cA x).slots } : Cell) = vp_cell cA x := by
    obtain ⟨n, f | f | f | f | f⟩ := x <;> rfl
  obtain ⟨c0, t0', f1, f2, f3⟩ := Cond.castable_spec (va_Nw.use (A := args) rfl hcl)
  cases hnm.symm.trans f1
  intro T hT X
  have hcellT : T.heap[a]? = some (vp_cell cA x) := by rw [hT]; exact hc0
  obtain ⟨-, kA, hkA, comp, hkind⟩ := State.isArrayOf_alike X.warmed.alike ((hK.2 t0 _ ht).1 0 (fun _ => .null))
  obtain ⟨-, kS, hkS, compS, hkindS⟩ := (hK.2 t0 _ ht).1 0 (fun _ => .null)
  obtain ⟨vm', X', st⟩ := X.cloneArray hexec hown hlink hsame hnat hinst hsel (a := a) (cell := vp_cell cA x) hcellT (fun k h => by rw [hvm0] at h; cases h) (by rw [hvm0]; exact fun h => by cases h) (by rw [hcl0]; exact hnm) f2 (by rw [hcl0]; exact f3)
    (fun i v hv => by
      rw [hcl0]
      have hk' : T.vm.classes[cA]? = some kA := hkA
      simpa [State.fitsSlot, State.slotType?, hk', hkind] using hfit i v hv)
    (g := F0 m pc ls (.ref a :: rest)) rfl (by rw [hml]) rfl (by rw [hb]; exact hdg) hframes (by show 2 * 0 + _ + 14 ≤ _; omega) hcells (by rw [hsz]; exact hslots) (hloader := by rw [hcl0]; exact Vm.clonesLoader_of_array hkS hkindS)
  rw [hcellE, hsz] at X'
  generalize hH1 : H.push (vp_cell cA x) = H1
  obtain ⟨t, b1, b2⟩ := kk H1 (by rw [← hH1, Array.getElem?_push_size]) (by rw [← hH1, Array.size_push]) (fun q hq => by rw [← hH1, Array.getElem?_push, if_neg (Nat.ne_of_lt hq)]) ((T.setVm vm').pushCell (vp_cell cA x)) (by rw [← hH1, ← hT]; rfl) X'
  refine ⟨t, st t ?_, b2⟩
  rw [hcellE, hT]
  exact b1
end XCL
/-- the words of clone, of a byte[] -/
def xclw (own : String) (index : Nat) : Prop := Cond.methodLink own index ⟨"[B", "clone", "()Ljava/lang/Object;"⟩ ∈ lw_all ∧ Cond.sameMethod "[B" "java/lang/Object" "clone" "()Ljava/lang/Object;" ∈ lw_all ∧ Cond.native ⟨"java/lang/Object", "clone", "()Ljava/lang/Object;"⟩ ∈ lw_all ∧ Cond.instanceMethod ⟨"java/lang/Object", "clone", "()Ljava/lang/Object;"⟩ ∈ lw_all ∧ Cond.selects "[B" ⟨"[B", "clone", "()Ljava/lang/Object;"⟩ ⟨"java/lang/Object", "clone", "()Ljava/lang/Object;"⟩ ∈ lw_all ∧ Cond.castable "[B" "java/lang/Cloneable" ∈ xnest
section XCM
variable {G : xG} {Y : xY} {fr lo pc : Nat} {lv : List (Nat × Value)} {st : List Value} {h h1 : xH} {Q : Outcome → xH → Prop}
theorem xRel.newC {H H1 : Heap} {j a : Nat} {f : Nat → Int32} (hR : xRel G h H) (hty : xar[j]? = some .byte) (e : H1[H.size]? = some (vp_cell (xGA G j) (a, .inl f))) (z : H1.size = H.size + 1) (o : ∀ q : Nat, q < H.size → H1[q]? = H[q]?) (g1 : nx h + 1 ≤ xGN G) (g2 : us h + a ≤ xGU G) : xRel G (cI (nA h (100 + j) a) (nx h + 1) f) H1 := by
  obtain ⟨⟨a1, a2, a3, a4, a5⟩, b, c, d, g⟩ := hR
  have htg : ∀ r, tg (cI (nA h (100 + j) a) (nx h + 1) f) (r + 1) = if r = nx h then 100 + j else tg h (r + 1) := fun r => by
    show up1 (tg h) (nx h + 1) (100 + j) (r + 1) = _
    simp [up1]
  have hev : ∀ (t : FieldType) (b : Nat), b ≠ nx h + 1 → xev t (cI (nA h (100 + j) a) (nx h + 1) f) b = xev t h b := fun t b hb => by
    rw [(xsetA_cI (nA h (100 + j) a) (nx h + 1) f).2.2 t b hb, nA_ev_ne h _ _ _ hb]
  have hfv : ∀ (t : FieldType) (b k : Nat), xfv t (cI (nA h (100 + j) a) (nx h + 1) f) b k = xfv t h b k := fun t b k => by
    rw [(xsetA_cI (nA h (100 + j) a) (nx h + 1) f).2.1 t b k, nA_fv]
  refine ⟨⟨by rw [z, ← a1]; rfl, g1, g2, by show up1 (tg h) (nx h + 1) (100 + j) 0 = 0; simp [up1, a4], by omega⟩, fun q hq => by rw [o q (by omega)]; exact b q hq, ?_, ?_, ?_⟩
  · intro r hr
    rw [htg] at hr ⊢
    by_cases hx : r = nx h
    · rw [if_pos hx]
      exact ⟨by omega, fun _ => by omega⟩
    · rw [if_neg hx] at hr ⊢
      exact ⟨by have := (c r hr).1; omega, (c r hr).2⟩
  · intro r cj hr hcj
    rw [htg] at hr
    by_cases hx : r = nx h
    · rw [if_pos hx] at hr
      omega
    · rw [if_neg hx] at hr
      have hlt := (c r (by omega)).1
      exact (d r cj hr hcj).same (o r hlt) fun k => hfv _ _ _
  · intro r j' hr
    rw [htg] at hr
    by_cases hx : r = nx h
    · rw [if_pos hx] at hr
      obtain rfl : j' = j := by omega
      refine xarr.mk hty (by omega) ?_
      rw [hx, a1, e]
      show some (vp_cell (xGA G j') (a, Sum.inl f)) = some (vp_cell (xGA G j') (up1 (ln h) (nx h + 1) a (H.size + 1), Sum.inl (aI (cI (nA h (100 + j') a) (H.size + 1) f) (H.size + 1))))
      rw [aI_cI, a1]
      simp [up1]
    · rw [if_neg hx] at hr
      have hlt := (c r (by omega)).1
      refine (g r j' hr).same (o r hlt) ?_ fun t => hev t _ (by omega)
      show up1 (ln h) (nx h + 1) a (r + 1) = ln h (r + 1)
      simp [up1, hx]
theorem x_cloneB {index a a1 : Nat} (hw : xclw (yN Y).cls index) (d : decode (yC Y) pc = .ok (.invokevirtual index, 3)) (ht : tg h a = 103) (gw : xwr G h a) (hb : ∀ i, i < ln h a → xby (aI h a i)) (hfr : 1 ≤ fr) (hlo : (st.map fun v => v.category).sum + 14 ≤ lo) (g1 : nx h + 1 ≤ xGN G) (g2 : us h + ln h a ≤ xGU G)
    (e0 : a1 = nx h + 1) (e1 : h1 = cI (nA h 103 (ln h a)) (nx h + 1) (aI h a)) (kk : xfresh h a1 → xP G Y fr lo (pc + 3) lv (rv a1 :: st) h1 Q) : xP G Y fr lo pc lv (rv a :: st) h Q := by
  subst e0; subst e1
  obtain ⟨w1, w2, w3, w4, w5, w6⟩ := hw
  intro hw0
  have hsa := (xsetA_cI (nA h 103 (ln h a)) (nx h + 1) (aI h a)).1
  obtain ⟨o, h', v1, v2, q, w⟩ := kk (xfresh.of hw0) (xwf.of hsa (xwf_nA hw0))
  refine ⟨o, h', v1, ((xext_nA hw0).tr (xext.of hsa)).tr v2, q, fun p l e R s m args below meth c u0 C E H locs ls b1 b2 b3 b4 b5 => ?_⟩
  obtain ⟨r, rfl⟩ := tg_pos b1 ht (by omega)
  have C' := C
  obtain ⟨cx, cb, cml, -, -, -, cown, chts, cK, cfr, clo, cce, csl, -⟩ := C
  have hc0 := (b1.2.2.2.2 r 3 ht).str (xwr.ge b1 (by omega) gw) (ty := .byte) rfl
  have h8 : s.vm.findClass "[B" = some (xGA G 3) := (cK.1.2 3 _ (xtys_at G (j := 3) (by omega) rfl)).2
  refine xw_clone cx cb (cml.trans b5.1.symm) cown (chts _ w1) (chts _ w2) (chts _ w3) (chts _ w4) (chts _ w5) (cK.2.1 _ w6) cK.1 3 hc0 (xtys_at G (j := 3) (by omega) rfl) h8 (fun i v hv => ?_) (by omega) (by omega) (by omega) (by show _ + ln h (r + 1) ≤ _; omega) d fun H1 e1 z1 o1 => ?_
  · have hv' : (arrV (xGA G 3) (ln h (r + 1)) (fun j => .int (aI h (r + 1) j))).slots[i]? = some v := hv
    have hi : i < ln h (r + 1) := by
      have := (Array.getElem?_eq_some_iff.mp hv').1
      rw [arrV_size] at this
      exact this
    rw [arrV_read _ _ hi] at hv'
    cases hv'
    exact hb i hi
  · have hk := w p l e R s m args below meth c u0 C' E H1 locs ls (b1.newC (j := 3) rfl e1 z1 o1 g1 g2) (by show _ ≤ nx h + 1; omega) (by show _ ≤ us h + _; omega) b4 b5
    rw [show nx (cI (nA h (100 + 3) (ln h (r + 1))) (nx h + 1) (aI h (r + 1))) - s.heap.size = nx h - s.heap.size + 1 from by show nx h + 1 - _ = _; omega, show us (cI (nA h (100 + 3) (ln h (r + 1))) (nx h + 1) (aI h (r + 1))) - u0 = us h - u0 + ln h (r + 1) from by show us h + _ - _ = _; omega, b1.1.1] at hk
    rw [b1.1.1]
    exact hk
/-- a field that is named by a class below the one that declares it -/
def xFs (own : String) (index ci k : Nat) (ty : FieldType) : Prop :=
  ∃ (C : String) (T : u_T) (N : Nat) (ref : String), ci < 99 ∧ xcl[ci]? = some (C, T, N) ∧ k < N ∧ (∀ w ∈ u_ws C T N, w ∈ lw_all) ∧ Cond.fieldLink own index ref (T k).2.1 (T k).2.2.1 ∈ lw_all ∧ Cond.sameField ref (T k).1 (T k).2.1 (T k).2.2.1 ∈ lw_all ∧ xty ci k = ty ∧
    (∀ j, j < N → parseFieldDescriptor (T j).2.2.1 = some (xty ci j)) ∧ (∀ a, a < N → ∀ b, b < N → a ≠ b → (T a).2.1 ≠ (T b).2.1) ∧ (T k).2.2.2 = false ∧ N ≤ 256
theorem x_getS {index ci k : Nat} {ty : FieldType} {a : Nat} {v : Value} (hf : xFs (yN Y).cls index ci k ty) (d : decode (yC Y) pc = .ok (.getfield index, 3)) (ht : tg h a = ci + 1) (hv : xfv ty h a (256 * ci + k) = v)
    (kk : xP G Y fr lo (pc + 3) lv (v :: st) h Q) : xP G Y fr lo pc lv (rv a :: st) h Q := by
  obtain ⟨C, T, N, ref, h0, h1, h2, h3, h4, h4b, h5, h6, h7, h8, h9⟩ := hf
  refine xP.step (fun p l e R s m args below meth c u0 Z H locs ls k n C hR hl kk => ?_) kk
  obtain ⟨r, rfl⟩ := tg_pos hR ht (by omega)
  obtain ⟨cx, cb, -, -, -, -, cown, chts, cK, -⟩ := C
  obtain ⟨q, j1, cell, b1, b2, -, b4, b5, b6⟩ := hR.2.2.2.1 r ci ht h0
  obtain rfl : q = (_, T, N) := Option.some.inj (j1.symm.trans h1)
  obtain ⟨hS, hfc, kC, hkC, hkind⟩ := cK.1.1 ci _ h1
  obtain ⟨cf, kf, fi, f, hi, hsl⟩ := hS _ h2
  exact W.getf cx cb cown (chts _ h4) (u_same (chts _ h4b) _ hi) (u_facts hfc hkC (u_lays chts h3 h2) hi).1 b1 (b5 (by show N ≠ 0; omega)) (v := v) (by rw [hsl, b6 _ h2, h5, hv]) rfl rfl d (kk ls hl)
theorem x_putSI {index ci k f : Nat} {a : Nat} {x : Int32} (hf : xFs (yN Y).cls index ci k .int) (d : decode (yC Y) pc = .ok (.putfield index, 3)) (ht : tg h a = ci + 1) (hw : xwr G h a) (hfi : 256 * ci + k = f) (e1 : h1 = sI h a f x)
    (kk : xP G Y fr lo (pc + 3) lv st h1 Q) : xP G Y fr lo pc lv (.int x :: rv a :: st) h Q := by
  subst e1; subst hfi
  obtain ⟨C, T, N, ref, h0, g1, h2, h3, h4, h4b, h5, h6, h7, h8, h9⟩ := hf
  have hs := xset_I h a (256 * ci + k) x (ty := .int) (Or.inl rfl)
  rw [← h5] at hs
  refine xP.stepH hs.1 (fun p l e R s m args below meth c u0 Z H locs ls k9 n C hR hl kk => ?_) kk
  obtain ⟨r, rfl⟩ := tg_pos hR ht (by omega)
  obtain ⟨cx, cb, -, -, -, -, cown, chts, cK, -⟩ := C
  have hge := xwr.ge hR (by omega) hw
  have j2 := (hR.2.2.2.1 r ci ht h0).ob hge g1
  have hap := va_apart (own := (yN Y).cls) chts h3 (xty ci) h6 h7 cK.1 g1
  obtain ⟨cell, q1, q2, q3, q4⟩ := j2
  obtain ⟨hS, hfc, kC, hkC, hkind⟩ := cK.1.1 ci _ g1
  obtain ⟨cf, kf, fi, fd, hi, hsl⟩ := hS k h2
  have hlay := chts _ (h3 _ (u_in_lay h2))
  unfold u_lay at hlay
  rw [if_neg (by rw [h8]; decide)] at hlay
  have hst := (u_facts hfc hkC (u_lays chts h3 h2) hi).1
  have h66 := u_store hfc hkC hkind hlay hi (h6 k h2) (v := .int x) (by rw [h5]; rfl) (by rw [h5]; rfl)
  refine W.putK cx cb (f := fd) ⟨cown, chts _ h4, ⟨_, _, _, u_same (chts _ h4b) _ hi⟩, hst⟩ (by rw [q2]; exact h66) q1 q3 (by rw [hsl]; exact k2_hasslot (q4 k h2)) rfl rfl d fun H' e1 e2 e3 => ?_
  rw [hsl] at e1 ⊢
  exact kk H' _ (hR.putf ht g1 h2 h9 ⟨_, e1, q2, q3, t_set q4 hap h2 _⟩ e2 e3 hge hs) (fun q hq => by rw [List.mem_singleton.mp hq]; exact hge)
end XCM
/-! THE EXCEPTION: new IllegalStateException(), in PascalHouse$Faults.at -/
theorem xT1.use {G : xG} {name desc : String} {s : State} {args : Array Value} (h : xT1 G name desc s) (ho : ∀ q : Nat, q < xGB G → s.heap[q]? = (xGO G)[q]?) : (Cond.laysStatic "java/lang/Throwable" name desc).before args s = true ∧ (Cond.isRef (.static "java/lang/Throwable" name desc)).before args s = true := by
  obtain ⟨c, k, i, f, a, cell, v, h1, h2, h3, h4, h5, h6, h7, h8, h9, h10, h11⟩ := h
  have hc : s.heap[a]? = some cell := (ho a h11).trans h6
  have hlt : f.slot < cell.slots.size := (Array.getElem?_eq_some_iff.mp h9).1
  refine ⟨by simp [Cond.before, Cond.holds, Cond.value, h1, h2, h4, hc, h3, h7, h8, hlt, h5], ?_⟩
  have e9 : (Term.static "java/lang/Throwable" name desc).eval args s none [] s = some v := by simp [Term.eval, State.fieldNamed?, h2, h3, h4, hc, h7, h9]
  simp only [Cond.before, Cond.holds, Cond.value, e9]
  revert h10
  cases v <;> simp [Value.isRef]
/-- words that read the heap -/
def xhw : List Cond := [.laysStatic Bundle.tN "UNASSIGNED_STACK" Bundle.steD, .laysStatic Bundle.tN "SUPPRESSED_SENTINEL" Bundle.listD, .isRef (.static Bundle.tN "UNASSIGNED_STACK" Bundle.steD), .isRef (.static Bundle.tN "SUPPRESSED_SENTINEL" Bundle.listD)]
abbrev xic : String := "java/lang/IllegalStateException"
abbrev xin : List String := ["java/lang/RuntimeException", "java/lang/Exception"]
/-- all its words are there -/
def xiw (own : String) (ic : Nat) : Prop := (Bundle.ownAtoms0 own ic xic xin).all (fun w => (decide (w ∈ lw_tbl) && (goodWord w || xnw w)) || decide (w ∈ xhw)) = true
section XIS
variable {G : xG} {Y : xY} {fr lo pc : Nat} {lv : List (Nat × Value)} {st : List Value} {h h1 : xH} {Q : Outcome → xH → Prop}
theorem xiw.at {own : String} {ic u0 : Nat} {p : Program} {R : Room} {s : State} {m : MethodId} {args : Array Value} {meth : Method} {c : Code} (hw : xiw own ic) (C : xC G Y fr lo u0 p R s m args meth c) : ∀ w ∈ Bundle.ownAtoms0 own ic xic xin, w.before args s = true := by
  obtain ⟨cx, cb, cml, -, -, -, cown, chts, cK, cfr, clo, cce, csl, cbs, cold⟩ := C
  have hT1 := cK.2.2.2.2.2.2.1.1.use (args := args) cold
  have hT2 := cK.2.2.2.2.2.2.1.2.use (args := args) cold
  intro w hm
  have h1 := List.all_eq_true.mp hw w hm
  simp only [Bool.or_eq_true, Bool.and_eq_true, decide_eq_true_eq] at h1
  rcases h1 with ⟨h2, h3 | h3⟩ | h2
  · exact chts _ (lw_g h2 h3)
  · have hx : w ∈ xnest := List.mem_filter.mpr ⟨h2, h3⟩
    have h4 := cK.2.1 _ hx
    refine va_Nw.use ?_ h4
    revert h3
    cases w <;> simp [xnw, Cond.onTables]
  · simp only [xhw, List.mem_cons, List.not_mem_nil, or_false] at h2
    rcases h2 with rfl | rfl | rfl | rfl
    · exact hT1.1
    · exact hT2.1
    · exact hT1.2
    · exact hT2.2
set_option maxHeartbeats 1000000 in
theorem x_ise {index ic a1 : Nat} (hcl : Cond.classLink (yN Y).cls index xic ∈ lw_all) (hins : Cond.instantiable xic 6 ∈ lw_all) (hini : Cond.initialized xic ∈ lw_all) (hw : xiw (yN Y).cls ic) (d1 : decode (yC Y) pc = .ok (.new index, 3)) (d2 : decode (yC Y) (pc + 3) = .ok (.dup, 1)) (d3 : decode (yC Y) (pc + 3 + 1) = .ok (.invokespecial ic, 3))
    (g1 : nx h + 1 ≤ xGN G) (g2 : us h + 6 ≤ xGU G) (hfr : 6 ≤ fr) (hlo : (st.map fun v => v.category).sum + 81 ≤ lo) (e0 : a1 = nx h + 1) (e1 : h1 = nO h 32 6) (kk : xfresh h a1 → xP G Y fr lo (pc + 3 + 1 + 3) lv (rv a1 :: st) h1 Q) : xP G Y fr lo pc lv st h Q := by
  subst e0; subst e1
  intro hw0
  obtain ⟨o, h', v1, v2, q, w⟩ := kk (xfresh.of hw0) (xwf_nO hw0)
  refine ⟨o, h', v1, (xext_nO hw0).tr v2, q, fun p l e R s m args below meth c u0 C E H locs ls a1 a2 a3 a4 a5 => ?_⟩
  have C' := C
  have hat := hw.at C
  obtain ⟨cx, cb, cml, -, -, -, cown, chts, cK, cfr, clo, cce, csl, cbs, cold⟩ := C
  have hcc : xcl[31]? = some (RJ15, TJ15, 0) := rfl
  have hKn := cK.1.1 31 _ hcc
  refine W.newcK cx cb cown (chts _ hcl) (chts _ hins) (chts _ hini) rfl d1 (by omega) (by omega) hKn.2.1 a1.1.1.symm fun H1 kX hkX e1 z1 o1 => ?_
  have e1' := e1
  rw [a1.1.1] at e1' z1 o1
  refine lv_dup cx cb d2 rfl ?_
  intro W hW X
  have htr : e.platform.stackTraces = false := by rw [X.admits.platform]; exact E.2
  have howns : e.platform.frameOwnsMonitors = true := by rw [X.admits.platform]
  have hfin : e.platform.finalization = false := by rw [X.admits.platform]
  have hpl : e.platform.magicAccessors = ({} : Platform).magicAccessors := by rw [X.admits.platform]
  have a' : ∀ x, x ∈ Bundle.ownAtoms0 (yN Y).cls ic xic xin → x.holds args s none s [] = true := fun x hx => hat x hx
  obtain ⟨T, Z, L, LZ, Yt⟩ := ThrowableC.of_atoms (args := args) howns hfin hpl (fun x hx => hat x (by simp [Bundle.ownAtoms0, hx]))
  obtain ⟨P1, Ps, hlen, L1, hL, hP1m, hlink1, hlink⟩ := Bundle.chain0 (args := args) hpl Yt.init0 xin xic (by decide +kernel) (by decide +kernel) (fun x hx => hat x (by simp [Bundle.ownAtoms0, hx]))
  have hfound : s.vm.findClass xic = some P1.m.cls := findClass_of_methodNamed hP1m
  have hcX : (xGD G).1 31 = P1.m.cls := Option.some.inj (hKn.2.1.symm.trans hfound)
  rw [hcX] at hkX e1'
  obtain ⟨c1, kX', hc1, hk, hord, -, -, hn6⟩ := Cond.instantiable_spec (a' (.instantiable xic 6) (by simp [Bundle.ownAtoms0]))
  cases Option.some.inj (hc1.symm.trans hfound)
  cases Option.some.inj (hkX.symm.trans hk)
  have hsel0 : selectMethod e.platform s.vm P1.m.cls T.fill0 = .method T.fill0 := by
    obtain ⟨c2, r2, m2, q1, q2, q3, q4, -⟩ := Cond.selects_spec (a' (.selects xic Bundle.tFill0 Bundle.tFill0) (by simp [Bundle.ownAtoms0]))
    cases Option.some.inj (q1.symm.trans hfound)
    cases Option.some.inj (q2.symm.trans (State.methodFound?_of_named Yt.fill0 (by decide)))
    cases Option.some.inj (q3.symm.trans Yt.fill0)
    rw [Launch.admits_selectMethod X.admits]; exact q4
  have hselF : selectMethod e.platform s.vm P1.m.cls T.fill = .method T.fill := by
    obtain ⟨c2, r2, m2, q1, q2, q3, q4, -⟩ := Cond.selects_spec (a' (.selects xic Bundle.tFill Bundle.tFill) (by simp [Bundle.ownAtoms0]))
    cases Option.some.inj (q1.symm.trans hfound)
    cases Option.some.inj (q2.symm.trans (State.methodFound?_of_named Yt.fill (by decide)))
    cases Option.some.inj (q3.symm.trans Yt.fill)
    rw [Launch.admits_selectMethod X.admits]; exact q4
  obtain ⟨cellS0, hcS0, hiss⟩ := Yt.statics
  obtain ⟨u9, hu9⟩ := Cond.staticRefV Yt.unassigned L.unassignedStatic L.statics hcS0 hiss (a' (.isRef (.static Bundle.tN "UNASSIGNED_STACK" Bundle.steD)) (by simp [Bundle.ownAtoms0]))
  obtain ⟨sen, hsen⟩ := Cond.staticRefV Yt.sentinel L.sentinelStatic L.statics hcS0 hiss (a' (.isRef (.static Bundle.tN "SUPPRESSED_SENTINEL" Bundle.listD)) (by simp [Bundle.ownAtoms0]))
  obtain ⟨ci198, i198, fB, hk198, hg198, ha198, hsB, -, hnB, htB, hffB⟩ := Cond.ownField (t := .object "java/lang/Object") Yt.found L.cls (by decide +kernel) (a' (.fieldLink Bundle.tN 198 Bundle.tN "backtrace" "Ljava/lang/Object;") (by simp [Bundle.ownAtoms0])) (a' (.lays Bundle.tN Bundle.tN "backtrace" "Ljava/lang/Object;") (by simp [Bundle.ownAtoms0])) e.platform hpl
  have haS : T.aS < xGB G := by
    obtain ⟨c9, k9, i9, f9, b9, cell9, v9, t1, t2, t3, t4, t5, t6, t7, t8, t9, t10, t11⟩ := cK.2.2.2.2.2.2.1.1
    have e2 := t2.symm.trans Yt.unassigned
    simp only [Option.some.injEq, Prod.mk.injEq] at e2
    obtain ⟨-, rfl, -, -⟩ := e2
    cases t4.symm.trans L.statics
    exact t11
  obtain ⟨cellS, hcS', heS, -, hkeep⟩ := X.same.2.2.2.2.2 T.aS cellS0 hcS0
  have hcellS : W.heap[T.aS]? = some cellS := hcS'
  have hout' : ∀ i, (⟨T.aS, i⟩ : Loc) ∉ locs := fun i hmem => absurd (a4 _ hmem) (Nat.not_le.mpr haS)
  have hknownS : cellS.vm ≠ .unknown := by
    rw [heS]; intro hu
    rw [show cellS0.vm = .unknown from hu] at hiss
    cases hiss
  have hneS : T.aS ≠ H.size := Nat.ne_of_lt (Nat.lt_of_lt_of_le haS a1.1.2.2.2.2)
  obtain ⟨iM, hffM⟩ := Yt.msg
  obtain ⟨tyC, dC, hdC, hdnC⟩ := Cond.laysAt hfound hk Yt.cause (a' (.lays xic Bundle.tN "cause" "Ljava/lang/Throwable;") (by simp [Bundle.ownAtoms0]))
  obtain ⟨tyS, dS, hdS, hdnS⟩ := Cond.laysAt hfound hk Yt.stack (a' (.lays xic Bundle.tN "stackTrace" Bundle.steD) (by simp [Bundle.ownAtoms0]))
  obtain ⟨tyP, dP, hdP, hdnP⟩ := Cond.laysAt hfound hk Yt.supp (a' (.lays xic Bundle.tN "suppressedExceptions" Bundle.listD) (by simp [Bundle.ownAtoms0]))
  obtain ⟨tyB, dB, hdB, hdnB⟩ := Cond.laysAt hfound hk hffB (a' (.lays xic Bundle.tN "backtrace" "Ljava/lang/Object;") (by simp [Bundle.ownAtoms0]))
  have bC := Cond.laysApart hdB hdC hdnB hdnC (by rw [hnB, Yt.causeName]; decide)
  have bS := Cond.laysApart hdB hdS hdnB hdnS (by rw [hnB, Yt.stackName]; decide)
  have bP := Cond.laysApart hdB hdP hdnB hdnP (by rw [hnB, Yt.suppName]; decide)
  have hcellW : W.heap[H.size]? = some (freshCell P1.m.cls kX) := by rw [hW]; exact e1'
  have hskip : SkipFacts T e.platform s (fun u => u) u9 ((preparedCellV T.toThrowableT (freshCell P1.m.cls kX) H.size u9 sen).withEntry W.cur) :=
    ⟨{ ci198 := ci198, i198 := i198, fBack := fB }, ⟨hk198, hg198, ha198, hsB⟩, by
      have := fresh_default (c := P1.m.cls) tyB
      rw [htB] at this
      simpa [preparedCellV, Cell.setSlot, Cell.withEntry, Array.getElem?_setIfInBounds, bC, bS, bP, bC.symm, bS.symm, bP.symm, defaultValue] using this, fun _ _ => rfl⟩
  have d3' : decode c.code (pc + 3 + 1) = .ok (.invokespecial ic, 3) := by rw [cb]; exact d3
  obtain ⟨tm, methC, cdC, kC, vm₁, hnC, -, -, -, -, -, -, -, hW₁, st1⟩ := Steps.initCold (tb := p.tables) (e := e) (below := below) (s := s) (U := W) X.here cx X.warmed hpl cown (t := Bundle.init0 xic) rfl rfl (by decide +kernel)
    (a' (.methodLink (yN Y).cls ic (Bundle.init0 xic)) (by simp [Bundle.ownAtoms0])) (hat (.instanceMethod (Bundle.init0 xic)) (by simp [Bundle.ownAtoms0, Bundle.chain0Atoms, Bundle.passAtoms])) (bytes := Bundle.five) (maxL := 1) (hat (.code (Bundle.init0 xic) Bundle.five 1 none) (by simp [Bundle.ownAtoms0, Bundle.chain0Atoms, Bundle.passAtoms]))
    (f := F0 m (pc + 3 + 1) ls (.ref H.size :: .ref H.size :: st)) rfl (a := H.size) (rest := .ref H.size :: st) rfl d3'
  cases Option.some.inj (hnC.symm.trans hP1m)
  have X₁ := X.noted hW₁
  obtain ⟨vm₂, X₂, st2⟩ := X₁.ctorPlainOffV cx (g := F0 m (pc + 3 + 1) ls (.ref H.size :: st)) rfl (by show ls.size = _; rw [cml]; exact a5.1) T L Z LZ (P1 :: Ps)
    (fun P hP => by rcases List.mem_cons.mp hP with rfl | hP; exact L1; exact hL P hP) ⟨hlink1, hlink⟩ (u0 := u9) (sen := sen) (self := H.size) (cell := freshCell P1.m.cls kX) (cellS := cellS)
    hcellW (fun _ => by simp) (by simp) rfl rfl hsel0 hselF hcellS hneS hknownS (by rw [hkeep _ (hout' _)]; exact hu9) (by rw [hkeep _ (hout' _)]; exact hsen)
    (Takes.of_laid hk hord tyC (by rw [Yt.causeType]; rfl)) (Takes.of_laid hk hord tyS (by rw [Yt.stackType]; exact fits_refV_array _ u9)) (Takes.of_laid hk hord tyP (by rw [Yt.suppType]; exact fits_refV_object _ sen)) Yt.objLocals hskip htr [] d3'
    (by simp only [List.length_cons, hlen]; show 2 + 1 + 2 < _; omega) (by
      simp only [List.length_cons, hlen]
      show 2 * 0 + (1 + (st.map fun v => v.category).sum) + (13 * (2 + 1) + 41) ≤ _
      omega)
  generalize hcell' : (preparedCellV T.toThrowableT (freshCell P1.m.cls kX) H.size u9 sen).setSlot T.fStack.slot u9.v = cell' at X₂ st2
  have hlt : H.size < H1.size := by omega
  have hcv : cell'.cls = P1.m.cls ∧ cell'.vm = .none := by rw [← hcell']; exact ⟨rfl, rfl⟩
  generalize hH2 : H1.setIfInBounds H.size cell' = H2
  have hheap : (((W.setVm vm₁).setVm vm₂).setCell H.size cell').heap = H2 := by rw [← hH2, ← hW]; rfl
  have hz : H2.size = H.size + 1 := by rw [← hH2, Array.size_setIfInBounds]; exact z1
  have ho : ∀ q : Nat, q < H.size → H2[q]? = H[q]? := fun q hq => by
    rw [← hH2]
    simp [Array.getElem?_setIfInBounds, Nat.ne_of_gt hq]
    exact o1 q hq
  have hnew : H2[H.size]? = some cell' := by
    rw [← hH2]
    simp [Array.getElem?_setIfInBounds, hlt]
  have hRn : xRel G (nO h (31 + 1) 6) H2 := by
    exact a1.newO (H1 := H2) (ci := 31) (N := 0) (C := RJ15) (T := TJ15) hcc (by decide) ⟨cell', hnew, by rw [hcX]; exact hcv.1, hcv.2, fun k hk => absurd hk (Nat.not_lt_zero _)⟩ hz ho g1 g2
  have hk9 := w p l e R s m args below meth c u0 C' E H2 (locs ++ [⟨H.size, T.fCause.slot⟩, ⟨H.size, T.fStack.slot⟩, ⟨H.size, T.fSupp.slot⟩, ⟨H.size, T.fStack.slot⟩]) ls hRn (by show _ ≤ nx h + 1; omega) (by show _ ≤ us h + 6; omega) (fun q hq => by
    rcases List.mem_append.mp hq with y | y
    · exact a4 q y
    · have hb : q.base = H.size := by
        simp only [List.mem_cons, List.not_mem_nil, or_false] at y
        rcases y with rfl | rfl | rfl | rfl <;> rfl
      rw [hb]
      exact a1.1.2.2.2.2) a5
  rw [show nx (nO h 32 6) - s.heap.size = nx h - s.heap.size + 1 from by show nx h + 1 - _ = _; omega, show us (nO h 32 6) - u0 = us h - u0 + 6 from by show us h + 6 - _ = _; omega, a1.1.1] at hk9
  obtain ⟨t, s1, s2⟩ := hk9 _ hheap (by rw [a1.1.1] at X₂; exact X₂)
  refine ⟨t, ?_, s2⟩
  show Steps p.tables e below (W.setTop (F0 m (pc + 3 + 1) ls (Value.ref (nx h) :: Value.ref (nx h) :: st))) t
  rw [a1.1.1]
  refine st1 t fun acts => ?_
  rw [doInvoke_state]
  exact st2 t s1
end XIS
