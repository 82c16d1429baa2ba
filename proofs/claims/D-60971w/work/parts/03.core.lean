/-! THE CORE. An abstract heap (typed maps by address and field or place), the real heap under it (xRel), and a judgement over it: xP G Y fr lo pc lv st h Q: method Y, at pc with locals lv and stack st, over the abstract heap h, comes to an end with Q. An address is the real one + 1; 0 is null. -/
def xH : Type := (Nat → Nat → Int32) × (Nat → Nat → Int64) × (Nat → Nat → UInt64) × (Nat → Nat → Nat) × (Nat → Nat → Int32) × (Nat → Nat → Int64) × (Nat → Nat → UInt64) × (Nat → Nat → Nat) × (Nat → Nat) × (Nat → Nat) × Nat × Nat
def xmk (i : Nat → Nat → Int32) (j : Nat → Nat → Int64) (d : Nat → Nat → UInt64) (r : Nat → Nat → Nat) (ai : Nat → Nat → Int32) (aj : Nat → Nat → Int64) (ad : Nat → Nat → UInt64) (ar : Nat → Nat → Nat) (t n : Nat → Nat) (x u : Nat) : xH := (i, j, d, r, ai, aj, ad, ar, t, n, x, u)
/-- fields: ints (and small ones), longs, doubles, references -/
def fI (h : xH) : Nat → Nat → Int32 := h.1
def fJ (h : xH) : Nat → Nat → Int64 := h.2.1
def fD (h : xH) : Nat → Nat → UInt64 := h.2.2.1
def fR (h : xH) : Nat → Nat → Nat := h.2.2.2.1
/-- what arrays hold -/
def aI (h : xH) : Nat → Nat → Int32 := h.2.2.2.2.1
def aJ (h : xH) : Nat → Nat → Int64 := h.2.2.2.2.2.1
def aD (h : xH) : Nat → Nat → UInt64 := h.2.2.2.2.2.2.1
def aR (h : xH) : Nat → Nat → Nat := h.2.2.2.2.2.2.2.1
/-- the tag of what lies at an address (0: nothing that is followed), an array's length; the heap's size; slots made -/
def tg (h : xH) : Nat → Nat := h.2.2.2.2.2.2.2.2.1
def ln (h : xH) : Nat → Nat := h.2.2.2.2.2.2.2.2.2.1
def nx (h : xH) : Nat := h.2.2.2.2.2.2.2.2.2.2.1
def us (h : xH) : Nat := h.2.2.2.2.2.2.2.2.2.2.2
def up2 {α : Type} (f : Nat → Nat → α) (a k : Nat) (v : α) : Nat → Nat → α := fun a' k' => if a' = a ∧ k' = k then v else f a' k'
def cl2 {α : Type} (f : Nat → Nat → α) (a : Nat) (v : α) : Nat → Nat → α := fun a' k' => if a' = a then v else f a' k'
def up1 {α : Type} (f : Nat → α) (a : Nat) (v : α) : Nat → α := fun a' => if a' = a then v else f a'
def sI (h : xH) (a k : Nat) (v : Int32) : xH := xmk (up2 (fI h) a k v) (fJ h) (fD h) (fR h) (aI h) (aJ h) (aD h) (aR h) (tg h) (ln h) (nx h) (us h)
def sJ (h : xH) (a k : Nat) (v : Int64) : xH := xmk (fI h) (up2 (fJ h) a k v) (fD h) (fR h) (aI h) (aJ h) (aD h) (aR h) (tg h) (ln h) (nx h) (us h)
def sD (h : xH) (a k : Nat) (v : UInt64) : xH := xmk (fI h) (fJ h) (up2 (fD h) a k v) (fR h) (aI h) (aJ h) (aD h) (aR h) (tg h) (ln h) (nx h) (us h)
def sR (h : xH) (a k : Nat) (v : Nat) : xH := xmk (fI h) (fJ h) (fD h) (up2 (fR h) a k v) (aI h) (aJ h) (aD h) (aR h) (tg h) (ln h) (nx h) (us h)
def tI (h : xH) (a k : Nat) (v : Int32) : xH := xmk (fI h) (fJ h) (fD h) (fR h) (up2 (aI h) a k v) (aJ h) (aD h) (aR h) (tg h) (ln h) (nx h) (us h)
def tJ (h : xH) (a k : Nat) (v : Int64) : xH := xmk (fI h) (fJ h) (fD h) (fR h) (aI h) (up2 (aJ h) a k v) (aD h) (aR h) (tg h) (ln h) (nx h) (us h)
def tD (h : xH) (a k : Nat) (v : UInt64) : xH := xmk (fI h) (fJ h) (fD h) (fR h) (aI h) (aJ h) (up2 (aD h) a k v) (aR h) (tg h) (ln h) (nx h) (us h)
def tR (h : xH) (a k : Nat) (v : Nat) : xH := xmk (fI h) (fJ h) (fD h) (fR h) (aI h) (aJ h) (aD h) (up2 (aR h) a k v) (tg h) (ln h) (nx h) (us h)
/-- a new object of tag t and n slots; a new array of tag t and n places: it lies at nx h + 1 -/
def nO (h : xH) (t n : Nat) : xH := xmk (cl2 (fI h) (nx h + 1) 0) (cl2 (fJ h) (nx h + 1) 0) (cl2 (fD h) (nx h + 1) 0) (cl2 (fR h) (nx h + 1) 0) (aI h) (aJ h) (aD h) (aR h) (up1 (tg h) (nx h + 1) t) (ln h) (nx h + 1) (us h + n)
def nA (h : xH) (t n : Nat) : xH := xmk (fI h) (fJ h) (fD h) (fR h) (cl2 (aI h) (nx h + 1) 0) (cl2 (aJ h) (nx h + 1) 0) (cl2 (aD h) (nx h + 1) 0) (cl2 (aR h) (nx h + 1) 0) (up1 (tg h) (nx h + 1) t) (up1 (ln h) (nx h + 1) n) (nx h + 1) (us h + n)
/-- a reference as a value -/
def rv (r : Nat) : Value := match r with
  | 0 => .null
  | n + 1 => .ref n
def ro (r : Nat) : Option Nat := match r with
  | 0 => none
  | n + 1 => some n
theorem rv_ro (r : Nat) : va_rf (ro r) = rv r := by cases r <;> rfl
/-- a field's value, by its type -/
def xfv (ty : FieldType) (h : xH) (a f : Nat) : Value := match ty with
  | .long => .long (fJ h a f)
  | .double => .double (fD h a f)
  | .float => .float 0
  | .object _ => rv (fR h a f)
  | .array _ => rv (fR h a f)
  | _ => .int (fI h a f)
/-- what an array holds, by the type of its places -/
def xev (ty : FieldType) (h : xH) (a : Nat) : ((Nat → Int32) ⊕ (Nat → Int64) ⊕ (Nat → UInt32) ⊕ (Nat → UInt64) ⊕ (Nat → Option Nat)) := match ty with
  | .long => .inr (.inl (aJ h a))
  | .double => .inr (.inr (.inr (.inl (aD h a))))
  | .float => .inr (.inr (.inl (fun _ => 0)))
  | .object _ => .inr (.inr (.inr (.inr (fun i => ro (aR h a i)))))
  | .array _ => .inr (.inr (.inr (.inr (fun i => ro (aR h a i)))))
  | _ => .inl (aI h a)
/-- arrays: the tag is 100 and the number of the kind here; place 10 is not used; the last one is an int array that is only read (the script) -/
def xar : List FieldType := [.int, .long, .double, .byte, .boolean, .object "java/lang/Object", .object "java/lang/String", .object "PascalHouse$Routine", .object "PascalHouseModel$Type", .object "PascalHouseModel$Symbol", .byte, .int]
/-- tags of what is never there ahead of the run: all but texts, their bytes, rows of references, the enum's and the script -/
def xwt (t : Nat) : Bool := (decide (t ≤ 29) || t == 30 || t == 100 || t == 101 || t == 102 || t == 104 || t == 107 || t == 108 || t == 109) && decide (t ≠ 0)
/-- what a run is over: classes' numbers and slots, array classes' numbers, the heap's size at its begin, that heap, the most cells, the most slots -/
def xG : Type := va_G × (Nat → ClassId) × Nat × Heap × Nat × Nat × (Nat → Nat) × (Nat → Nat) × Vm
def xGD (G : xG) : va_G := G.1
def xGA (G : xG) : Nat → ClassId := G.2.1
def xGB (G : xG) : Nat := G.2.2.1
def xGO (G : xG) : Heap := G.2.2.2.1
def xGN (G : xG) : Nat := G.2.2.2.2.1
def xGU (G : xG) : Nat := G.2.2.2.2.2.1
/-- where statics' objects lie (0: null), where texts lie (real addresses) -/
def xGS (G : xG) : Nat → Nat := G.2.2.2.2.2.2.1
def xGT (G : xG) : Nat → Nat := G.2.2.2.2.2.2.2.1
/-- the tables at the begin -/
def xGV (G : xG) : Vm := G.2.2.2.2.2.2.2.2
/-- a static's value -/
def xsv (G : xG) (k : Nat) : Value := if k = 9 ∨ k = 10 then .int 1 else if k = 11 then .int 0 else if k = 12 then .int 8 else rv (xGS G k)
def xtys (G : xG) : List (ClassId × FieldType) := (List.range 12).map fun j => (xGA G j, xar.getD j .int)
/-- an array's values -/
def xvv (x : (Nat → Int32) ⊕ (Nat → Int64) ⊕ (Nat → UInt32) ⊕ (Nat → UInt64) ⊕ (Nat → Option Nat)) (i : Nat) : Value := match x with
  | .inl f => .int (f i)
  | .inr (.inl f) => .long (f i)
  | .inr (.inr (.inl f)) => .float (f i)
  | .inr (.inr (.inr (.inl f))) => .double (f i)
  | .inr (.inr (.inr (.inr f))) => va_rf (f i)
theorem vp_xvv (cA : ClassId) (n : Nat) (x : (Nat → Int32) ⊕ (Nat → Int64) ⊕ (Nat → UInt32) ⊕ (Nat → UInt64) ⊕ (Nat → Option Nat)) : vp_cell cA (n, x) = arrV cA n (xvv x) := by
  rcases x with f | f | f | f | f <;> rfl
/-- an object, its fields as h says (one that was there ahead of the run may carry more) -/
def xobj (G : xG) (h : xH) (H : Heap) (r ci : Nat) : Prop := ∃ q : vw_C, xcl[ci]? = some q ∧ ∃ cell : Cell, H[r]? = some cell ∧ cell.cls = (xGD G).1 ci ∧ (xGB G ≤ r → cell.vm = .none) ∧ cell.vm.isStatics = false ∧ (q.2.2 ≠ 0 → cell.vm ≠ .unknown) ∧ ∀ k, k < q.2.2 → cell.slots[(xGD G).2 ci k]? = some (xfv (xty ci k) h (r + 1) (256 * ci + k))
/-- an array; one that was there ahead of the run may carry more -/
def xarr (G : xG) (h : xH) (H : Heap) (r j : Nat) : Prop := ∃ ty : FieldType, xar[j]? = some ty ∧ ((xGB G ≤ r ∧ H[r]? = some (vp_cell (xGA G j) (ln h (r + 1), xev ty h (r + 1)))) ∨
  (r < xGB G ∧ ∃ cell : Cell, H[r]? = some cell ∧ cell.vm ≠ .unknown ∧ cell.vm.isStatics = false ∧ (∃ (k : Class) (comp : ClassId), (xGV G).classes[cell.cls]? = some k ∧ k.kind = .array comp ty) ∧ ln h (r + 1) ≤ cell.slots.size ∧ cell.slots.size.toInt32 = Int32.ofNat (ln h (r + 1)) ∧ ∀ i, i < ln h (r + 1) → cell.slots[i]? = some (xvv (xev ty h (r + 1)) i)))
theorem xobj.mk {G : xG} {h : xH} {H : Heap} {r ci N : Nat} {C : String} {T : u_T} (hc : xcl[ci]? = some (C, T, N)) (e : t_OB r ((xGD G).1 ci) N ((xGD G).2 ci) H (fun k => xfv (xty ci k) h (r + 1) (256 * ci + k))) : xobj G h H r ci := by
  obtain ⟨cell, q1, q2, q3, q4⟩ := e
  exact ⟨_, hc, cell, q1, q2, fun _ => q3, (by rw [q3]; rfl), (fun _ => by rw [q3]; exact (fun h => by cases h)), q4⟩
theorem xobj.ob {G : xG} {h : xH} {H : Heap} {r ci N : Nat} {C : String} {T : u_T} (o : xobj G h H r ci) (hr : xGB G ≤ r) (hc : xcl[ci]? = some (C, T, N)) : t_OB r ((xGD G).1 ci) N ((xGD G).2 ci) H (fun k => xfv (xty ci k) h (r + 1) (256 * ci + k)) := by
  obtain ⟨q, h1, cell, q1, q2, q3, -, -, q4⟩ := o
  obtain rfl : q = (C, T, N) := Option.some.inj (h1.symm.trans hc)
  exact ⟨cell, q1, q2, q3 hr, q4⟩
theorem xobj.same {G : xG} {h h1 : xH} {H H1 : Heap} {r ci : Nat} (o : xobj G h H r ci) (hH : H1[r]? = H[r]?) (hf : ∀ k, xfv (xty ci k) h1 (r + 1) (256 * ci + k) = xfv (xty ci k) h (r + 1) (256 * ci + k)) : xobj G h1 H1 r ci := by
  obtain ⟨q, g1, cell, q1, q2, q3, q4, q5, q6⟩ := o
  exact ⟨q, g1, cell, hH.trans q1, q2, q3, q4, q5, fun k hk => by rw [hf k]; exact q6 k hk⟩
theorem xarr.mk {G : xG} {h : xH} {H : Heap} {r j : Nat} {ty : FieldType} (hty : xar[j]? = some ty) (hr : xGB G ≤ r) (e : H[r]? = some (vp_cell (xGA G j) (ln h (r + 1), xev ty h (r + 1)))) : xarr G h H r j := ⟨ty, hty, Or.inl ⟨hr, e⟩⟩
theorem xarr.str {G : xG} {h : xH} {H : Heap} {r j : Nat} {ty : FieldType} (o : xarr G h H r j) (hr : xGB G ≤ r) (hty : xar[j]? = some ty) : H[r]? = some (vp_cell (xGA G j) (ln h (r + 1), xev ty h (r + 1))) := by
  obtain ⟨ty', h1, ⟨-, h2⟩ | ⟨h2, -⟩⟩ := o
  · obtain rfl : ty' = ty := Option.some.inj (h1.symm.trans hty)
    exact h2
  · omega
theorem xarr.same {G : xG} {h h1 : xH} {H H1 : Heap} {r j : Nat} (o : xarr G h H r j) (hH : H1[r]? = H[r]?) (hl : ln h1 (r + 1) = ln h (r + 1)) (he : ∀ t, xev t h1 (r + 1) = xev t h (r + 1)) : xarr G h1 H1 r j := by
  obtain ⟨ty, g1, ⟨g2, g3⟩ | ⟨g2, cell, g3, g4⟩⟩ := o
  · exact ⟨ty, g1, Or.inl ⟨g2, by rw [hH, g3, hl, he]⟩⟩
  · exact ⟨ty, g1, Or.inr ⟨g2, cell, hH.trans g3, by rw [hl, he]; exact g4⟩⟩
def xRel (G : xG) (h : xH) (H : Heap) : Prop :=
  (nx h = H.size ∧ nx h ≤ xGN G ∧ us h ≤ xGU G ∧ tg h 0 = 0 ∧ xGB G ≤ H.size) ∧ (∀ q : Nat, q < xGB G → H[q]? = (xGO G)[q]?) ∧
  (∀ r : Nat, tg h (r + 1) ≠ 0 → r < H.size ∧ (xwt (tg h (r + 1)) = true → xGB G ≤ r)) ∧
  (∀ r ci : Nat, tg h (r + 1) = ci + 1 → ci < 99 → xobj G h H r ci) ∧ (∀ r j : Nat, tg h (r + 1) = 100 + j → xarr G h H r j)
/-- words that don't ride in the lists: links of nest mates, casts, what is declared, arrays over a class -/
def xnw (w : Cond) : Bool := match w with
  | .fieldLinkNest .. => true
  | .methodLinkNest .. => true
  | .castable .. => true
  | .declares .. => true
  | .privateMethod .. => true
  | _ => false
def xnest : List Cond := lw_tbl.filter xnw
def xao : List String := ["java/lang/Object", "java/lang/String", "PascalHouse$Routine", "PascalHouseModel$Type", "PascalHouseModel$Symbol"]
/-- a static reference of java.lang.Throwable, as it lies in the heap at the begin -/
def xT1 (G : xG) (name desc : String) (s : State) : Prop := ∃ (c : ClassId) (k : Class) (i : Nat) (f : Field) (a : Nat) (cell : Cell) (v : Value), s.vm.findClass "java/lang/Throwable" = some c ∧ s.fieldFound? "java/lang/Throwable" name desc = some (c, k, i, f) ∧ f.isStatic = true ∧ k.statics = some a ∧ k.staticTypes[f.slot]? = some f.type ∧ (xGO G)[a]? = some cell ∧ cell.vm.isStatics = true ∧ cell.cls = c ∧ cell.slots[f.slot]? = some v ∧ v.isRef = true ∧ a < xGB G
theorem xT1.moved {G : xG} {name desc : String} {u U : State} (hvm : u.vm.Alike U.vm) (h : xT1 G name desc u) : xT1 G name desc U := by
  obtain ⟨c, k, i, f, a, cell, v, h1, h2, h3, h4, h5, h6⟩ := h
  obtain ⟨k', hi', he⟩ := State.fieldFound?_setVm hvm h2
  exact ⟨c, k', i, f, a, cell, v, (hvm.findClass _ _).trans h1, hi', h3, by rw [he]; exact h4, by rw [he]; exact h5, h6⟩
def xTh (G : xG) (s : State) : Prop := xT1 G "UNASSIGNED_STACK" "[Ljava/lang/StackTraceElement;" s ∧ xT1 G "SUPPRESSED_SENTINEL" "Ljava/util/List;" s
def xK (G : xG) (s : State) : Prop := va_K (xGD G) xcl (xtys G) s ∧ (∀ w ∈ xnest, va_Nw w s) ∧ (∀ C ∈ xao, va_AO C s) ∧ (∀ q ∈ xstrs, vk_R q.1 q.2.1 q.2.2.1 (xGT G q.2.2.2) s) ∧ va_Mi "[Ljava/lang/Object;" (xGT G 1000) s ∧
  (∀ (k : Nat) (q : String × String × String), xsts[k]? = some q → va_Z q.1 q.2.1 q.2.2 (xsv G k) (fun b => xGB G ≤ b) s (xGO G)) ∧ xTh G s ∧ (xGV G).Alike s.vm
theorem va_Nw.warmP {x : MethodName} {s U : State} (hW : s.WarmedH U.vm) (hZ : va_Nw (.privateMethod x) s) : va_Nw (.privateMethod x) U := va_tabs rfl (rfl : (s.setVm U.vm).vm = U.vm) (by rw [Cond.privateMethod_setVm hW.alike]; exact hZ)
theorem xnw_warm {w : Cond} (hw : xnw w = true) {s U : State} (hW : s.WarmedH U.vm) (h : va_Nw w s) : va_Nw w U := by
  cases w <;> first | (exact va_Nw.warmF hW h) | (exact va_Nw.warmM hW h) | (exact va_Nw.warmC hW h) | (exact va_Nw.warmD hW h) | (exact va_Nw.warmP hW h) | (exact absurd hw (by decide)) | (exact absurd hw (by simp [xnw]))
theorem xK.warm {G : xG} {s U : State} (hW : s.WarmedH U.vm) (h : xK G s) : xK G U :=
  ⟨va_K.moved hW.alike h.1, fun w hw => xnw_warm (List.mem_filter.mp hw).2 hW (h.2.1 w hw), fun C hC => va_AO.moved hW.alike (h.2.2.1 C hC), fun q hq => vk_R.warm hW (h.2.2.2.1 q hq), va_Mi.moved hW.alike h.2.2.2.2.1, fun k q hq => va_Z.moved hW.alike (h.2.2.2.2.2.1 k q hq), ⟨xT1.moved hW.alike h.2.2.2.2.2.2.1.1, xT1.moved hW.alike h.2.2.2.2.2.2.1.2⟩, h.2.2.2.2.2.2.2.trans hW.alike⟩
/-- a method: its name, its code, its locals, its answer, its handlers -/
def xY : Type := MethodName × ByteArray × Nat × Option FieldType × List (Nat × Nat × Nat × Nat)
def yN (Y : xY) : MethodName := Y.1
def yC (Y : xY) : ByteArray := Y.2.1
def yL (Y : xY) : Nat := Y.2.2.1
def yR (Y : xY) : Option FieldType := Y.2.2.2.1
def yH (Y : xY) : List (Nat × Nat × Nat × Nat) := Y.2.2.2.2
/-- its handlers are the code's -/
def xE (Y : xY) (c : Code) : Prop := c.exceptionTable.toList.map (fun h => (h.startPc, h.endPc, h.handlerPc, h.catchType)) = yH Y
/-- its handlers are the code's, and the launch is one without stack traces -/
def xEl (Y : xY) (c : Code) (l : Launch) : Prop := xE Y c ∧ l.stackTraces = false
/-- no handler is over pc -/
def xnc (Y : xY) (pc : Nat) : Prop := ∀ q ∈ yH Y, ¬ (q.1 ≤ pc ∧ pc < q.2.1)
theorem xE.out {Y : xY} {c : Code} {pc : Nat} (h : xE Y c) (hn : xnc Y pc) : ∀ x ∈ c.exceptionTable.toList, covers x pc = false := by
  intro x hx
  have h1 : (x.startPc, x.endPc, x.handlerPc, x.catchType) ∈ yH Y := by
    rw [← h]
    exact List.mem_map.mpr ⟨x, hx, rfl⟩
  have h2 := hn _ h1
  simp only [covers, Bool.and_eq_false_iff, decide_eq_false_iff_not] at h2 ⊢
  omega
/-- its word -/
def xcw (Y : xY) : Cond := match yH Y with
  | [] => Cond.code (yN Y) (yC Y) (yL Y) (yR Y)
  | q :: r => Cond.codeWith (yN Y) (yC Y) (yL Y) (yR Y) (q :: r)
theorem xcw_spec {Y : xY} {a : Array Value} {U : State} (h : (xcw Y).before a U = true) : ∃ (m : MethodId) (meth : Method) (c : Code), U.methodNamed? (yN Y) = some m ∧ U.vm.method? m = some meth ∧ meth.code = some c ∧ c.code = yC Y ∧ c.maxLocals = yL Y ∧ meth.sig.returnType = yR Y ∧ meth.locks = false ∧ xE Y c ∧ parseMethodDescriptor (yN Y).desc = some meth.sig := by
  unfold xcw at h
  cases hy : yH Y with
  | nil =>
    rw [hy] at h
    obtain ⟨m, hn⟩ := Cond.code_named h
    obtain ⟨meth, c, k1, k2, k3, k4, k5, k6, k7, k8⟩ := Cond.code_spec hn h
    refine ⟨m, meth, c, hn, k1, k2, k3, k4, k5, k6, ?_, k8⟩
    unfold xE
    rw [hy]
    have : c.exceptionTable.toList = [] := by simpa using k7
    rw [this]
    rfl
  | cons q r =>
    rw [hy] at h
    obtain ⟨m, meth, c, hn, k1, k2, k3, k4, k5, k6, k7, k8⟩ := Cond.codeWith_spec h
    exact ⟨m, meth, c, hn, k1, k2, k3, k4, k6, k7, by unfold xE; rw [hy]; exact k5, k8⟩
/-- a run's end, exactly -/
def xZ (G : xG) (below : List Frame) (s : State) (u0 : Nat) (o : Outcome) (h' : xH) : State → Prop := fun t =>
  t.status = .running ∧ Ended t below o ∧ xRel G h' t.heap ∧ s.WarmedH t.vm ∧ u0 ≤ us h' ∧
    ∃ L, s.sameButNew ({ t with vm := s.vm } : State) L (nx h' - s.heap.size) (us h' - u0) ∧ ∀ q ∈ L, xGB G ≤ q.base
/-- what is known of an invocation all through -/
def xC (G : xG) (Y : xY) (fr lo u0 : Nat) (p : Program) (R : Room) (s : State) (m : MethodId) (args : Array Value) (meth : Method) (c : Code) : Prop :=
  p.tables.exec = Jvm.exec ∧ c.code = yC Y ∧ c.maxLocals = yL Y ∧ meth.sig.returnType = yR Y ∧ meth.locks = false ∧ meth.name = (yN Y).name ∧ s.vm.findClass (yN Y).cls = some m.cls ∧
    (∀ w ∈ lw_all, w.before args s = true) ∧ xK G s ∧ fr ≤ R.frames ∧ lo ≤ R.locals ∧ R.cells + s.heap.size = xGN G ∧ R.slots + u0 = xGU G ∧ xGB G ≤ s.heap.size ∧ (∀ q : Nat, q < xGB G → s.heap[q]? = (xGO G)[q]?)
/-- the machine, at pc, over every real heap under h -/
def xW (G : xG) (nL u0 : Nat) (p : Program) (l : Launch) (e : Env) (R : Room) (s : State) (m : MethodId) (args : Array Value) (below : List Frame) (meth : Method) (c : Code) (Q : State → Prop) (h : xH) (pc : Nat) (lv : List (Nat × Value)) (st : List Value) : Prop :=
  ∀ (H : Heap) (locs : List Loc) (ls : Array Slot), xRel G h H → s.heap.size ≤ nx h → u0 ≤ us h → (∀ q ∈ locs, xGB G ≤ q.base) → lv_has ls nL lv →
    W p l e R s m args below meth c H locs (nx h - s.heap.size) (us h - u0) Q (F0 m pc ls st)
/-- nothing lies at null, nor behind the heap's end -/
def xwf (h : xH) : Prop := tg h 0 = 0 ∧ ∀ a, nx h < a → tg h a = 0
/-- what lies there goes on lying there, with its tag and its length -/
def xext (h h1 : xH) : Prop := nx h ≤ nx h1 ∧ us h ≤ us h1 ∧ ∀ b, tg h b ≠ 0 → tg h1 b = tg h b ∧ ln h1 b = ln h b
theorem xext.rf {h : xH} : xext h h := ⟨Nat.le_refl _, Nat.le_refl _, fun _ _ => ⟨rfl, rfl⟩⟩
theorem xext.tr {h h1 h2 : xH} (a : xext h h1) (b : xext h1 h2) : xext h h2 :=
  ⟨Nat.le_trans a.1 b.1, Nat.le_trans a.2.1 b.2.1, fun c hc => by
    have h3 := a.2.2 c hc
    have h4 := b.2.2 c (by rw [h3.1]; exact hc)
    exact ⟨h4.1.trans h3.1, h4.2.trans h3.2⟩⟩
theorem xext.of {h h1 : xH} (a : tg h1 = tg h ∧ ln h1 = ln h ∧ nx h1 = nx h ∧ us h1 = us h) : xext h h1 :=
  ⟨by rw [a.2.2.1]; exact Nat.le_refl _, by rw [a.2.2.2]; exact Nat.le_refl _, fun b _ => by rw [a.1, a.2.1]; exact ⟨rfl, rfl⟩⟩
theorem xwf.of {h h1 : xH} (a : tg h1 = tg h ∧ ln h1 = ln h ∧ nx h1 = nx h ∧ us h1 = us h) (w : xwf h) : xwf h1 := ⟨by rw [a.1]; exact w.1, fun b hb => by rw [a.1]; rw [a.2.2.1] at hb; exact w.2 b hb⟩
/-- THE JUDGEMENT -/
def xP (G : xG) (Y : xY) (fr lo pc : Nat) (lv : List (Nat × Value)) (st : List Value) (h : xH) (Q : Outcome → xH → Prop) : Prop :=
  xwf h → ∃ (o : Outcome) (h' : xH), xwf h' ∧ xext h h' ∧ Q o h' ∧ ∀ (p : Program) (l : Launch) (e : Env) (R : Room) (s : State) (m : MethodId) (args : Array Value) (below : List Frame) (meth : Method) (c : Code) (u0 : Nat),
    xC G Y fr lo u0 p R s m args meth c → xEl Y c l → xW G (yL Y) u0 p l e R s m args below meth c (xZ G below s u0 o h') h pc lv st
/-- a call of a method, from its entry -/
def xR (G : xG) (Y : xY) (fr lo : Nat) (as : List Value) (h : xH) (Q : Outcome → xH → Prop) : Prop := xP G Y fr lo 0 (lv_args 0 as) [] h Q
theorem xP.mono {G : xG} {Y : xY} {fr lo pc : Nat} {lv : List (Nat × Value)} {st : List Value} {h : xH} {Q Q' : Outcome → xH → Prop} (k : xP G Y fr lo pc lv st h Q) (hq : ∀ o h', Q o h' → Q' o h') : xP G Y fr lo pc lv st h Q' := by
  intro hw
  obtain ⟨o, h', w1, w2, q, w⟩ := k hw
  exact ⟨o, h', w1, w2, hq o h' q, w⟩
theorem xW.lv {G : xG} {nL u0 : Nat} {p : Program} {l : Launch} {e : Env} {R : Room} {s : State} {m : MethodId} {args : Array Value} {below : List Frame} {meth : Method} {c : Code} {Q : State → Prop} {h : xH} {pc : Nat} {lv lv' : List (Nat × Value)} {st : List Value}
    (hs : ∀ q ∈ lv', q ∈ lv) (k : xW G nL u0 p l e R s m args below meth c Q h pc lv' st) : xW G nL u0 p l e R s m args below meth c Q h pc lv st :=
  fun H locs ls a1 a2 a3 a4 a5 => k H locs ls a1 a2 a3 a4 ⟨a5.1, a5.2.1, fun q hq => a5.2.2 q (hs q hq)⟩
/-- fewer locals, or in another order -/
theorem xP.lv {G : xG} {Y : xY} {fr lo pc : Nat} {lv lv' : List (Nat × Value)} {st : List Value} {h : xH} {Q : Outcome → xH → Prop} (hs : ∀ q ∈ lv', q ∈ lv) (k : xP G Y fr lo pc lv' st h Q) : xP G Y fr lo pc lv st h Q := by
  intro hw
  obtain ⟨o, h', w1, w2, q, w⟩ := k hw
  exact ⟨o, h', w1, w2, q, fun p l e R s m args below meth c u0 C E => (w p l e R s m args below meth c u0 C E).lv hs⟩
/-- the form of every row that leaves the heap as it is -/
theorem xP.step {G : xG} {Y : xY} {fr lo pc pc' : Nat} {lv lv' : List (Nat × Value)} {st st' : List Value} {h : xH} {Q : Outcome → xH → Prop}
    (hs : ∀ (p : Program) (l : Launch) (e : Env) (R : Room) (s : State) (m : MethodId) (args : Array Value) (below : List Frame) (meth : Method) (c : Code) (u0 : Nat) (Z : State → Prop) (H : Heap) (locs : List Loc) (ls : Array Slot) (k n : Nat), xC G Y fr lo u0 p R s m args meth c → xRel G h H → lv_has ls (yL Y) lv →
      (∀ ls' : Array Slot, lv_has ls' (yL Y) lv' → W p l e R s m args below meth c H locs k n Z (F0 m pc' ls' st')) → W p l e R s m args below meth c H locs k n Z (F0 m pc ls st))
    (k : xP G Y fr lo pc' lv' st' h Q) : xP G Y fr lo pc lv st h Q := by
  intro hw
  obtain ⟨o, h', w1, w2, q, w⟩ := k hw
  refine ⟨o, h', w1, w2, q, fun p l e R s m args below meth c u0 C E => ?_⟩
  intro H locs ls a1 a2 a3 a4 a5
  exact hs p l e R s m args below meth c u0 _ H locs ls _ _ C a1 a5 fun ls' h6 => w p l e R s m args below meth c u0 C E H locs ls' a1 a2 a3 a4 h6
/-! the real cells under the abstract ones -/
def xfl (h : xH) (a ci N : Nat) : List Value := (List.range N).map fun k => xfv (xty ci k) h a (256 * ci + k)
theorem xfl_at {h : xH} {a ci N k : Nat} (hk : k < N) : (xfl h a ci N)[k]? = some (xfv (xty ci k) h a (256 * ci + k)) := by simp [xfl, hk]
theorem xfl_V {h : xH} {a ci N k : Nat} (hk : k < N) : vp_V (xfl h a ci N) k = xfv (xty ci k) h a (256 * ci + k) := by
  unfold vp_V
  rw [List.getD_eq_getElem?_getD, xfl_at hk]
  rfl
theorem va_D.one {r : Nat} {e : va_E} : va_D (fun q => q = r) [(r, e)] := by
  refine ⟨fun i j p q hp hq _ => ?_, fun k q hq => ?_⟩
  · have h1 : i < 1 := (List.getElem?_eq_some_iff.mp hp).1
    have h2 : j < 1 := (List.getElem?_eq_some_iff.mp hq).1
    omega
  · have h1 : k < 1 := (List.getElem?_eq_some_iff.mp hq).1
    rw [show k = 0 by omega] at hq
    cases hq
    rfl
theorem va_S.of_same {A : Nat → Prop} {H : Heap} : va_S A H H [] := ⟨Nat.le_refl _, fun _ _ _ => rfl, fun _ h => absurd h List.not_mem_nil⟩
theorem xtys_at (G : xG) {j : Nat} (hj : j < 12) {ty : FieldType} (ht : xar[j]? = some ty) : (xtys G)[j]? = some (xGA G j, ty) := by
  unfold xtys
  rw [List.getElem?_map, List.getElem?_range hj]
  show some (xGA G j, xar.getD j .int) = _
  rw [List.getD_eq_getElem?_getD, ht]
  rfl
theorem xarr.see {G : xG} {h : xH} {H : Heap} {r j : Nat} {s : State} {ty : FieldType} (o : xarr G h H r j) (hK : xK G s) (hj : j < 12) (hty : xar[j]? = some ty) : ∃ cell : Cell, H[r]? = some cell ∧ s.isArrayOf cell ty ∧ cell.vm ≠ .unknown ∧ cell.vm.isStatics = false ∧ ln h (r + 1) ≤ cell.slots.size ∧ cell.slots.size.toInt32 = Int32.ofNat (ln h (r + 1)) ∧ ∀ i, i < ln h (r + 1) → cell.slots[i]? = some (xvv (xev ty h (r + 1)) i) := by
  obtain ⟨ty', h1, ⟨h2, h3⟩ | ⟨h2, cell, h3, h4, h5, ⟨k, comp, h6, h7⟩, h8⟩⟩ := o
  · obtain rfl : ty' = ty := Option.some.inj (h1.symm.trans hty)
    rw [vp_xvv] at h3
    exact ⟨_, h3, (hK.1.2 j _ (xtys_at G hj hty)).1 _ _, (fun q => by cases q), rfl, (by rw [arrV_size]; exact Nat.le_refl _), (by rw [arrV_size]; rfl), fun i hi => arrV_read _ _ hi⟩
  · obtain rfl : ty' = ty := Option.some.inj (h1.symm.trans hty)
    obtain ⟨k', hk', he⟩ := hK.2.2.2.2.2.2.2.2.2 _ _ h6
    exact ⟨cell, h3, ⟨VmData.ne_statics_of h5, k', hk', comp, by rw [he]; exact h7⟩, h4, h5, h8⟩
theorem tg_pos {G : xG} {h : xH} {H : Heap} (hR : xRel G h H) {a t : Nat} (ht : tg h a = t) (h0 : t ≠ 0) : ∃ r, a = r + 1 := by
  cases a with
  | zero => exact absurd (ht.symm.trans hR.1.2.2.2.1) h0
  | succ r => exact ⟨r, rfl⟩
/-- a field of a class, as a method of class own names it by an entry of its pool -/
def xFd (own : String) (index ci k : Nat) (ty : FieldType) (fin : Bool) : Prop :=
  ∃ (C : String) (T : u_T) (N : Nat), ci < 99 ∧ xcl[ci]? = some (C, T, N) ∧ k < N ∧ (∀ w ∈ u_ws C T N, w ∈ lw_all) ∧ Cond.fieldLink own index (T k).1 (T k).2.1 (T k).2.2.1 ∈ lw_all ∧ xty ci k = ty ∧
    (∀ j, j < N → parseFieldDescriptor (T j).2.2.1 = some (xty ci j)) ∧ (∀ a, a < N → ∀ b, b < N → a ≠ b → (T a).2.1 ≠ (T b).2.1) ∧ (T k).2.2.2 = fin ∧ N ≤ 256
def xFn (own : String) (index ci k : Nat) (ty : FieldType) (fin : Bool) : Prop :=
  ∃ (C : String) (T : u_T) (N : Nat) (host : String), ci < 99 ∧ xcl[ci]? = some (C, T, N) ∧ k < N ∧ (∀ w ∈ u_ws C T N, w ∈ lw_all) ∧ Cond.fieldLinkNest own index (T k).1 (T k).2.1 (T k).2.2.1 host ∈ xnest ∧ xty ci k = ty ∧
    (∀ j, j < N → parseFieldDescriptor (T j).2.2.1 = some (xty ci j)) ∧ (∀ a, a < N → ∀ b, b < N → a ≠ b → (T a).2.1 ≠ (T b).2.1) ∧ (T k).2.2.2 = fin ∧ N ≤ 256
section XR
variable {G : xG} {Y : xY} {fr lo pc : Nat} {lv : List (Nat × Value)} {st : List Value} {h : xH} {Q : Outcome → xH → Prop}
theorem x_get {index ci k : Nat} {ty : FieldType} {fin : Bool} {a : Nat} {v : Value} (hf : xFd (yN Y).cls index ci k ty fin) (d : decode (yC Y) pc = .ok (.getfield index, 3)) (ht : tg h a = ci + 1) (hv : xfv ty h a (256 * ci + k) = v)
    (kk : xP G Y fr lo (pc + 3) lv (v :: st) h Q) : xP G Y fr lo pc lv (rv a :: st) h Q := by
  obtain ⟨C, T, N, h0, h1, h2, h3, h4, h5, h6, h7, h8, h9⟩ := hf
  refine xP.step (fun p l e R s m args below meth c u0 Z H locs ls k n C hR hl kk => ?_) kk
  obtain ⟨r, rfl⟩ := tg_pos hR ht (by omega)
  obtain ⟨cx, cb, -, -, -, -, cown, chts, cK, -⟩ := C
  obtain ⟨q, j1, cell, b1, b2, -, b4, b5, b6⟩ := hR.2.2.2.1 r ci ht h0
  obtain rfl : q = (_, T, N) := Option.some.inj (j1.symm.trans h1)
  obtain ⟨hS, hfc, kC, hkC, hkind⟩ := cK.1.1 ci _ h1
  obtain ⟨cf, kf, fi, f, hi, hsl⟩ := hS _ h2
  exact W.getf cx cb cown (chts _ h4) hi (u_facts hfc hkC (u_lays chts h3 h2) hi).1 b1 (b5 (by show N ≠ 0; omega)) (v := v) (by rw [hsl, b6 _ h2, h5, hv]) rfl rfl d (kk ls hl)
theorem x_getN {index ci k : Nat} {ty : FieldType} {fin : Bool} {a : Nat} {v : Value} (hf : xFn (yN Y).cls index ci k ty fin) (d : decode (yC Y) pc = .ok (.getfield index, 3)) (ht : tg h a = ci + 1) (hv : xfv ty h a (256 * ci + k) = v)
    (kk : xP G Y fr lo (pc + 3) lv (v :: st) h Q) : xP G Y fr lo pc lv (rv a :: st) h Q := by
  obtain ⟨C, T, N, host, h0, h1, h2, h3, h4, h5, h6, h7, h8, h9⟩ := hf
  refine xP.step (fun p l e R s m args below meth c u0 Z H locs ls k n C hR hl kk => ?_) kk
  obtain ⟨r, rfl⟩ := tg_pos hR ht (by omega)
  obtain ⟨cx, cb, -, -, -, -, cown, chts, cK, -⟩ := C
  obtain ⟨q, j1, cell, b1, b2, -, b4, b5, b6⟩ := hR.2.2.2.1 r ci ht h0
  obtain rfl : q = (_, T, N) := Option.some.inj (j1.symm.trans h1)
  obtain ⟨hS, hfc, kC, hkC, hkind⟩ := cK.1.1 ci _ h1
  obtain ⟨cf, kf, fi, f, hi, hsl⟩ := hS _ h2
  exact va_Wgetf cx cb cown (va_Nw.use rfl (cK.2.1 _ h4)) hi (u_facts hfc hkC (u_lays chts h3 h2) hi).1 b1 (b5 (by show N ≠ 0; omega)) (v := v) (by rw [hsl, b6 _ h2, h5, hv]) rfl rfl d (kk ls hl)
end XR
/-! writes of fields -/
section XPUT
variable {p : Program} {l : Launch} {e : Env} {R : Room} {s : State} {m : MethodId} {args : Array Value} {below : List Frame} {meth : Method} {c : Code} {H : Heap} {locs : List Loc} {cells slots : Nat} {Q : State → Prop}
variable {cc : ByteArray} {pc : Nat} {ls : Array Slot} {rest : List Value} {D : va_G} {tys : List (ClassId × FieldType)} {a : Nat}
theorem xw_put (hexec : p.tables.exec = Jvm.exec) (hb : c.code = cc) {own C : String} {T : u_T} {N ci index : Nat} (hts : ∀ w ∈ lw_all, w.before args s = true) (hin : ∀ w ∈ u_ws C T N, w ∈ lw_all) (hty : ∀ k, k < N → parseFieldDescriptor (T k).2.2.1 = some (xty ci k)) (hnm : ∀ a, a < N → ∀ b, b < N → a ≠ b → (T a).2.1 ≠ (T b).2.1) (hown : s.vm.findClass own = some m.cls) (hK : va_K D xcl tys s) {V : Nat → Value} (hP : t_OB a (D.1 ci) N (D.2 ci) H V) (hc : xcl[ci]? = some (C, T, N)) {k : Nat} (hk : k < N) (hlink : (Cond.fieldLink own index (T k).1 (T k).2.1 (T k).2.2.1).before args s = true) (hfin : (T k).2.2.2 = false) {v : Value} (hn : narrow (xty ci k) v = v) (hfit : fits (xty ci k) v = true)
    (hdg : decode cc pc = .ok (.putfield index, 3)) (kk : ∀ (H1 : Heap) (i : Nat), t_OB a (D.1 ci) N (D.2 ci) H1 (updV V k v) → H1.size = H.size → (∀ q : Nat, q ≠ a → H1[q]? = H[q]?) → W p l e R s m args below meth c H1 (locs ++ [⟨a, i⟩]) cells slots Q (F0 m (pc + 3) ls rest)) : W p l e R s m args below meth c H locs cells slots Q (F0 m pc ls (v :: .ref a :: rest)) := by
  have hap := va_apart (own := own) hts hin (xty ci) hty hnm hK hc
  obtain ⟨cell, q1, q2, q3, q4⟩ := hP
  obtain ⟨hS, hfc, kC, hkC, hkind⟩ := hK.1 ci _ hc
  obtain ⟨cf, kf, fi, f, hi, hsl⟩ := hS k hk
  have hlay := hts _ (hin _ (u_in_lay hk))
  unfold u_lay at hlay
  rw [if_neg (by rw [hfin]; decide)] at hlay
  have hst := (u_facts hfc hkC (u_lays hts hin hk) hi).1
  have h6 := u_store hfc hkC hkind hlay hi (hty k hk) hn hfit
  refine W.putK hexec hb (f := f) ⟨hown, hlink, ⟨_, _, _, hi⟩, hst⟩ (by rw [q2]; exact h6) q1 q3 (by rw [hsl]; exact k2_hasslot (q4 k hk)) rfl rfl hdg fun H' e1 e2 e3 => ?_
  rw [hsl] at e1 ⊢
  exact kk H' _ ⟨_, e1, q2, q3, t_set q4 hap hk v⟩ e2 e3
theorem xw_putF (hexec : p.tables.exec = Jvm.exec) (hb : c.code = cc) {own C : String} {T : u_T} {N ci index : Nat} (hts : ∀ w ∈ lw_all, w.before args s = true) (hin : ∀ w ∈ u_ws C T N, w ∈ lw_all) (hty : ∀ k, k < N → parseFieldDescriptor (T k).2.2.1 = some (xty ci k)) (hnm : ∀ a, a < N → ∀ b, b < N → a ≠ b → (T a).2.1 ≠ (T b).2.1) (hown : s.vm.findClass own = some m.cls) (hK : va_K D xcl tys s) {V : Nat → Value} (hP : t_OB a (D.1 ci) N (D.2 ci) H V) (hc : xcl[ci]? = some (C, T, N)) {k : Nat} (hk : k < N) (hlink : (Cond.fieldLink own index (T k).1 (T k).2.1 (T k).2.2.1).before args s = true) (hfin : (T k).2.2.2 = true) (hin2 : meth.name = "<init>") (hdecl : (T k).1 = own) {v : Value} (hn : narrow (xty ci k) v = v) (hfit : fits (xty ci k) v = true)
    (hdg : decode cc pc = .ok (.putfield index, 3)) (kk : ∀ (H1 : Heap) (i : Nat), t_OB a (D.1 ci) N (D.2 ci) H1 (updV V k v) → H1.size = H.size → (∀ q : Nat, q ≠ a → H1[q]? = H[q]?) → W p l e R s m args below meth c H1 (locs ++ [⟨a, i⟩]) cells slots Q (F0 m (pc + 3) ls rest)) : W p l e R s m args below meth c H locs cells slots Q (F0 m pc ls (v :: .ref a :: rest)) := by
  have hap := va_apart (own := own) hts hin (xty ci) hty hnm hK hc
  obtain ⟨cell, q1, q2, q3, q4⟩ := hP
  obtain ⟨hS, hfc, kC, hkC, hkind⟩ := hK.1 ci _ hc
  obtain ⟨cf, kf, fi, f, hi, hsl⟩ := hS k hk
  have hlay := hts _ (hin _ (u_in_lay hk))
  unfold u_lay at hlay
  rw [if_pos hfin] at hlay
  have hst := (u_facts hfc hkC (u_lays hts hin hk) hi).1
  have hcf : m.cls = cf := by
    obtain ⟨_, _, c', _, _, _, -, -, hf', -, -, -, hown2, -⟩ := Cond.laysFinal_spec hlay
    have e1 : c' = cf := by have := hi.symm.trans hf'; simp at this; exact this.1.symm
    rw [hdecl] at hown2
    rw [← e1]; exact Option.some.inj (hown.symm.trans hown2)
  have h6 := u_fits hfc hkC hkind (Or.inr hlay) hi (hty k hk) hn hfit
  refine W.putFinK hexec hb hown hlink hi hst hcf hin2 (by rw [q2]; exact h6) q1 q3 (by rw [hsl]; exact k2_hasslot (q4 k hk)) rfl rfl hdg fun H' e1 e2 e3 => ?_
  rw [hsl] at e1 ⊢
  exact kk H' _ ⟨_, e1, q2, q3, t_set q4 hap hk v⟩ e2 e3
theorem xw_putN (hexec : p.tables.exec = Jvm.exec) (hb : c.code = cc) {own C host : String} {T : u_T} {N ci index : Nat} (hts : ∀ w ∈ lw_all, w.before args s = true) (hin : ∀ w ∈ u_ws C T N, w ∈ lw_all) (hty : ∀ k, k < N → parseFieldDescriptor (T k).2.2.1 = some (xty ci k)) (hnm : ∀ a, a < N → ∀ b, b < N → a ≠ b → (T a).2.1 ≠ (T b).2.1) (hown : s.vm.findClass own = some m.cls) (hK : va_K D xcl tys s) {V : Nat → Value} (hP : t_OB a (D.1 ci) N (D.2 ci) H V) (hc : xcl[ci]? = some (C, T, N)) {k : Nat} (hk : k < N) (hlink : (Cond.fieldLinkNest own index (T k).1 (T k).2.1 (T k).2.2.1 host).before args s = true) (hfin : (T k).2.2.2 = false) {v : Value} (hn : narrow (xty ci k) v = v) (hfit : fits (xty ci k) v = true)
    (hdg : decode cc pc = .ok (.putfield index, 3)) (kk : ∀ (H1 : Heap) (i : Nat), t_OB a (D.1 ci) N (D.2 ci) H1 (updV V k v) → H1.size = H.size → (∀ q : Nat, q ≠ a → H1[q]? = H[q]?) → W p l e R s m args below meth c H1 (locs ++ [⟨a, i⟩]) cells slots Q (F0 m (pc + 3) ls rest)) : W p l e R s m args below meth c H locs cells slots Q (F0 m pc ls (v :: .ref a :: rest)) := by
  have hap := va_apart (own := own) hts hin (xty ci) hty hnm hK hc
  obtain ⟨cell, q1, q2, q3, q4⟩ := hP
  obtain ⟨hS, hfc, kC, hkC, hkind⟩ := hK.1 ci _ hc
  obtain ⟨cf, kf, fi, f, hi, hsl⟩ := hS k hk
  have hlay := hts _ (hin _ (u_in_lay hk))
  unfold u_lay at hlay
  rw [if_neg (by rw [hfin]; decide)] at hlay
  have hst := (u_facts hfc hkC (u_lays hts hin hk) hi).1
  have h6 := u_store hfc hkC hkind hlay hi (hty k hk) hn hfit
  refine va_WputK hexec hb (f := f) hown hlink hi hst (by rw [q2]; exact h6) q1 q3 (by rw [hsl]; exact k2_hasslot (q4 k hk)) rfl rfl hdg fun H' e1 e2 e3 => ?_
  rw [hsl] at e1 ⊢
  exact kk H' _ ⟨_, e1, q2, q3, t_set q4 hap hk v⟩ e2 e3
end XPUT
/-- h1 is h but for one field -/
def xset (h h1 : xH) (a f : Nat) (ty : FieldType) (v : Value) : Prop :=
  (tg h1 = tg h ∧ ln h1 = ln h ∧ nx h1 = nx h ∧ us h1 = us h) ∧ (∀ (t : FieldType) (b : Nat), xev t h1 b = xev t h b) ∧ (∀ (t : FieldType) (b g : Nat), ¬ (b = a ∧ g = f) → xfv t h1 b g = xfv t h b g) ∧ xfv ty h1 a f = v
theorem xset_I (h : xH) (a f : Nat) (x : Int32) {ty : FieldType} (ht : ty = .int ∨ ty = .boolean ∨ ty = .byte ∨ ty = .char ∨ ty = .short) : xset h (sI h a f x) a f ty (.int x) := by
  refine ⟨⟨rfl, rfl, rfl, rfl⟩, fun t b => ?_, fun t b g hn => ?_, ?_⟩
  · cases t <;> rfl
  · cases t <;> first | rfl | (show Value.int (up2 (fI h) a f x b g) = Value.int (fI h b g); unfold up2; rw [if_neg hn])
  · rcases ht with rfl | rfl | rfl | rfl | rfl <;> (show Value.int (up2 (fI h) a f x a f) = Value.int x; unfold up2; rw [if_pos ⟨rfl, rfl⟩])
theorem xset_J (h : xH) (a f : Nat) (x : Int64) : xset h (sJ h a f x) a f .long (.long x) := by
  refine ⟨⟨rfl, rfl, rfl, rfl⟩, fun t b => ?_, fun t b g hn => ?_, ?_⟩
  · cases t <;> rfl
  · cases t <;> first | rfl | (show Value.long (up2 (fJ h) a f x b g) = Value.long (fJ h b g); unfold up2; rw [if_neg hn])
  · show Value.long (up2 (fJ h) a f x a f) = Value.long x
    unfold up2
    rw [if_pos ⟨rfl, rfl⟩]
theorem xset_D (h : xH) (a f : Nat) (x : UInt64) : xset h (sD h a f x) a f .double (.double x) := by
  refine ⟨⟨rfl, rfl, rfl, rfl⟩, fun t b => ?_, fun t b g hn => ?_, ?_⟩
  · cases t <;> rfl
  · cases t <;> first | rfl | (show Value.double (up2 (fD h) a f x b g) = Value.double (fD h b g); unfold up2; rw [if_neg hn])
  · show Value.double (up2 (fD h) a f x a f) = Value.double x
    unfold up2
    rw [if_pos ⟨rfl, rfl⟩]
theorem xset_R (h : xH) (a f : Nat) (x : Nat) {ty : FieldType} (ht : (∃ C, ty = .object C) ∨ ∃ t, ty = .array t) : xset h (sR h a f x) a f ty (rv x) := by
  refine ⟨⟨rfl, rfl, rfl, rfl⟩, fun t b => ?_, fun t b g hn => ?_, ?_⟩
  · cases t <;> rfl
  · cases t <;> first | rfl | (show rv (up2 (fR h) a f x b g) = rv (fR h b g); unfold up2; rw [if_neg hn])
  · rcases ht with ⟨C, rfl⟩ | ⟨t, rfl⟩ <;> (show rv (up2 (fR h) a f x a f) = rv x; unfold up2; rw [if_pos ⟨rfl, rfl⟩])
theorem xRel.putf {G : xG} {h h1 : xH} {H H1 : Heap} {r ci k N : Nat} {C : String} {T : u_T} {v : Value} (hR : xRel G h H) (ht : tg h (r + 1) = ci + 1) (hc : xcl[ci]? = some (C, T, N)) (hk : k < N) (hN : N ≤ 256)
    (e : t_OB r ((xGD G).1 ci) N ((xGD G).2 ci) H1 (updV (fun k => xfv (xty ci k) h (r + 1) (256 * ci + k)) k v)) (z : H1.size = H.size) (o : ∀ q : Nat, q ≠ r → H1[q]? = H[q]?) (hw : xGB G ≤ r) (hs : xset h h1 (r + 1) (256 * ci + k) (xty ci k) v) : xRel G h1 H1 := by
  obtain ⟨⟨a1, a2, a3, a4, a5⟩, b, c, d, f⟩ := hR
  obtain ⟨⟨s1, s2, s3, s4⟩, s5, s6, s7⟩ := hs
  refine ⟨⟨by rw [s3, z]; exact a1, by rw [s3]; exact a2, by rw [s4]; exact a3, by rw [s1]; exact a4, by rw [z]; exact a5⟩, fun q hq => by rw [o q (by omega)]; exact b q hq, fun q hq => by rw [s1] at hq ⊢; rw [z]; exact c q hq, ?_, ?_⟩
  · intro q cj hq hcj
    rw [s1] at hq
    by_cases hqr : q = r
    · subst hqr
      obtain rfl : cj = ci := by omega
      refine xobj.mk hc (e.to fun j hj => ?_)
      by_cases hjk : j = k
      · subst hjk
        simp only [updV, if_true]
        exact s7.symm
      · simp only [updV, if_neg hjk]
        exact (s6 _ _ _ (by omega)).symm
    · exact (d q cj hq hcj).same (o q hqr) fun j => s6 _ _ _ (fun w => hqr (by omega))
  · intro q j hq
    rw [s1] at hq
    have hqr : q ≠ r := by
      rintro rfl
      have : xcl.length ≤ 99 := by decide
      have : ci < xcl.length := (List.getElem?_eq_some_iff.mp hc).1
      omega
    exact (f q j hq).same (o q hqr) (by rw [s2]) fun t => s5 t _
/-- the form of the rows that write -/
theorem xP.stepH {G : xG} {Y : xY} {fr lo pc pc' : Nat} {lv : List (Nat × Value)} {st st' : List Value} {h h1 : xH} {Q : Outcome → xH → Prop}
    (ha : tg h1 = tg h ∧ ln h1 = ln h ∧ nx h1 = nx h ∧ us h1 = us h)
    (hs : ∀ (p : Program) (l : Launch) (e : Env) (R : Room) (s : State) (m : MethodId) (args : Array Value) (below : List Frame) (meth : Method) (c : Code) (u0 : Nat) (Z : State → Prop) (H : Heap) (locs : List Loc) (ls : Array Slot) (k n : Nat), xC G Y fr lo u0 p R s m args meth c → xRel G h H → lv_has ls (yL Y) lv →
      (∀ (H1 : Heap) (L : List Loc), xRel G h1 H1 → (∀ q ∈ L, xGB G ≤ q.base) → W p l e R s m args below meth c H1 (locs ++ L) k n Z (F0 m pc' ls st')) → W p l e R s m args below meth c H locs k n Z (F0 m pc ls st))
    (k : xP G Y fr lo pc' lv st' h1 Q) : xP G Y fr lo pc lv st h Q := by
  intro hw
  have hn := ha.2.2.1
  have hu := ha.2.2.2
  obtain ⟨o, h', w1, w2, q, w⟩ := k (xwf.of ha hw)
  refine ⟨o, h', w1, (xext.of ha).tr w2, q, fun p l e R s m args below meth c u0 C E => ?_⟩
  intro H locs ls a1 a2 a3 a4 a5
  refine hs p l e R s m args below meth c u0 _ H locs ls _ _ C a1 a5 fun H1 L r1 hL => ?_
  have hk := w p l e R s m args below meth c u0 C E H1 (locs ++ L) ls r1 (by rw [hn]; exact a2) (by rw [hu]; exact a3) (fun x hx => by
    rcases List.mem_append.mp hx with y | y
    · exact a4 x y
    · exact hL x y) a5
  rw [hn, hu] at hk
  exact hk
section XR2
variable {G : xG} {Y : xY} {fr lo pc : Nat} {lv : List (Nat × Value)} {st : List Value} {h h1 : xH} {Q : Outcome → xH → Prop}
/-- what is written may be: its tag says that it is of this run, or its address -/
def xwr (G : xG) (h : xH) (a : Nat) : Prop := xwt (tg h a) = true ∨ xGB G < a
theorem xwr.ge {H : Heap} {r : Nat} (hR : xRel G h H) (ht : tg h (r + 1) ≠ 0) (hw : xwr G h (r + 1)) : xGB G ≤ r := by
  rcases hw with q | q
  · exact (hR.2.2.1 r ht).2 q
  · omega
theorem x_put {index ci k : Nat} {ty : FieldType} {a : Nat} {v : Value} (hf : xFd (yN Y).cls index ci k ty false) (d : decode (yC Y) pc = .ok (.putfield index, 3)) (ht : tg h a = ci + 1) (hw : xwr G h a) (hn : narrow ty v = v) (hfit : fits ty v = true) (hs : xset h h1 a (256 * ci + k) ty v)
    (kk : xP G Y fr lo (pc + 3) lv st h1 Q) : xP G Y fr lo pc lv (v :: rv a :: st) h Q := by
  obtain ⟨C, T, N, h0, g1, h2, h3, h4, rfl, h6, h7, h8, h9⟩ := hf
  refine xP.stepH hs.1 (fun p l e R s m args below meth c u0 Z H locs ls k n C hR hl kk => ?_) kk
  obtain ⟨r, rfl⟩ := tg_pos hR ht (by omega)
  obtain ⟨cx, cb, -, -, -, -, cown, chts, cK, -⟩ := C
  have hge := xwr.ge hR (by omega) hw
  have j2 := (hR.2.2.2.1 r ci ht h0).ob hge g1
  exact xw_put cx cb chts h3 h6 h7 cown cK.1 j2 g1 h2 (chts _ h4) h8 hn hfit d fun H1 i e1 e2 e3 => kk H1 _ (hR.putf ht g1 h2 h9 e1 e2 e3 hge hs) (fun q hq => by rw [List.mem_singleton.mp hq]; exact hge)
theorem x_putF {index ci k : Nat} {ty : FieldType} {a : Nat} {v : Value} (hf : xFd (yN Y).cls index ci k ty true) (hin : (yN Y).name = "<init>") (hcl : ∃ (T : u_T) (N : Nat), xcl[ci]? = some ((yN Y).cls, T, N) ∧ (T k).1 = (yN Y).cls) (d : decode (yC Y) pc = .ok (.putfield index, 3)) (ht : tg h a = ci + 1) (hw : xwr G h a) (hn : narrow ty v = v) (hfit : fits ty v = true) (hs : xset h h1 a (256 * ci + k) ty v)
    (kk : xP G Y fr lo (pc + 3) lv st h1 Q) : xP G Y fr lo pc lv (v :: rv a :: st) h Q := by
  obtain ⟨C, T, N, h0, g1, h2, h3, h4, rfl, h6, h7, h8, h9⟩ := hf
  obtain ⟨T', N', g2, g3⟩ := hcl
  have e0 := Option.some.inj (g1.symm.trans g2)
  simp only [Prod.mk.injEq] at e0
  obtain ⟨e01, rfl, rfl⟩ := e0
  refine xP.stepH hs.1 (fun p l e R s m args below meth c u0 Z H locs ls k n C hR hl kk => ?_) kk
  obtain ⟨r, rfl⟩ := tg_pos hR ht (by omega)
  obtain ⟨cx, cb, -, -, -, cnm, cown, chts, cK, -⟩ := C
  have hge := xwr.ge hR (by omega) hw
  have j2 := (hR.2.2.2.1 r ci ht h0).ob hge g1
  exact xw_putF cx cb chts h3 h6 h7 cown cK.1 j2 g1 h2 (chts _ h4) h8 (cnm.trans hin) g3 hn hfit d fun H1 i e1 e2 e3 => kk H1 _ (hR.putf ht g1 h2 h9 e1 e2 e3 hge hs) (fun q hq => by rw [List.mem_singleton.mp hq]; exact hge)
theorem x_putN {index ci k : Nat} {ty : FieldType} {a : Nat} {v : Value} (hf : xFn (yN Y).cls index ci k ty false) (d : decode (yC Y) pc = .ok (.putfield index, 3)) (ht : tg h a = ci + 1) (hw : xwr G h a) (hn : narrow ty v = v) (hfit : fits ty v = true) (hs : xset h h1 a (256 * ci + k) ty v)
    (kk : xP G Y fr lo (pc + 3) lv st h1 Q) : xP G Y fr lo pc lv (v :: rv a :: st) h Q := by
  obtain ⟨C, T, N, host, h0, g1, h2, h3, h4, rfl, h6, h7, h8, h9⟩ := hf
  refine xP.stepH hs.1 (fun p l e R s m args below meth c u0 Z H locs ls k n C hR hl kk => ?_) kk
  obtain ⟨r, rfl⟩ := tg_pos hR ht (by omega)
  obtain ⟨cx, cb, -, -, -, -, cown, chts, cK, -⟩ := C
  have hge := xwr.ge hR (by omega) hw
  have j2 := (hR.2.2.2.1 r ci ht h0).ob hge g1
  exact xw_putN cx cb chts h3 h6 h7 cown cK.1 j2 g1 h2 (va_Nw.use rfl (cK.2.1 _ h4)) h8 hn hfit d fun H1 i e1 e2 e3 => kk H1 _ (hR.putf ht g1 h2 h9 e1 e2 e3 hge hs) (fun q hq => by rw [List.mem_singleton.mp hq]; exact hge)
end XR2
/-! arrays -/
def xsetA (h h1 : xH) (a : Nat) : Prop := (tg h1 = tg h ∧ ln h1 = ln h ∧ nx h1 = nx h ∧ us h1 = us h) ∧ (∀ (t : FieldType) (b f : Nat), xfv t h1 b f = xfv t h b f) ∧ (∀ (t : FieldType) (b : Nat), b ≠ a → xev t h1 b = xev t h b)
theorem up2_ne {α : Type} (f : Nat → Nat → α) {a b k : Nat} (v : α) (hb : b ≠ a) : up2 f a k v b = f b := by
  funext j
  unfold up2
  rw [if_neg (fun q => hb q.1)]
theorem xsetA_I (h : xH) (a i : Nat) (x : Int32) : xsetA h (tI h a i x) a :=
  ⟨⟨rfl, rfl, rfl, rfl⟩, fun t b f => by cases t <;> rfl, fun t b hb => by cases t <;> first | rfl | (show Sum.inl (up2 (aI h) a i x b) = Sum.inl (aI h b); rw [up2_ne _ _ hb])⟩
theorem xsetA_J (h : xH) (a i : Nat) (x : Int64) : xsetA h (tJ h a i x) a :=
  ⟨⟨rfl, rfl, rfl, rfl⟩, fun t b f => by cases t <;> rfl, fun t b hb => by cases t <;> first | rfl | (show Sum.inr (Sum.inl (up2 (aJ h) a i x b)) = Sum.inr (Sum.inl (aJ h b)); rw [up2_ne _ _ hb])⟩
theorem xsetA_D (h : xH) (a i : Nat) (x : UInt64) : xsetA h (tD h a i x) a :=
  ⟨⟨rfl, rfl, rfl, rfl⟩, fun t b f => by cases t <;> rfl, fun t b hb => by cases t <;> first | rfl | (show Sum.inr (Sum.inr (Sum.inr (Sum.inl (up2 (aD h) a i x b)))) = Sum.inr (Sum.inr (Sum.inr (Sum.inl (aD h b)))); rw [up2_ne _ _ hb])⟩
theorem xsetA_R (h : xH) (a i : Nat) (x : Nat) : xsetA h (tR h a i x) a :=
  ⟨⟨rfl, rfl, rfl, rfl⟩, fun t b f => by cases t <;> rfl, fun t b hb => by cases t <;> first | rfl | (show Sum.inr (Sum.inr (Sum.inr (Sum.inr (fun j => ro (up2 (aR h) a i x b j))))) = Sum.inr (Sum.inr (Sum.inr (Sum.inr (fun j => ro (aR h b j))))); rw [up2_ne _ _ hb])⟩
theorem xRel.puta {G : xG} {h h1 : xH} {H H1 : Heap} {r j : Nat} {ty : FieldType} (hR : xRel G h H) (ht : tg h (r + 1) = 100 + j) (hty : xar[j]? = some ty)
    (e : H1[r]? = some (vp_cell (xGA G j) (ln h (r + 1), xev ty h1 (r + 1)))) (z : H1.size = H.size) (o : ∀ q : Nat, q ≠ r → H1[q]? = H[q]?) (hw : xGB G ≤ r) (hs : xsetA h h1 (r + 1)) : xRel G h1 H1 := by
  obtain ⟨⟨a1, a2, a3, a4, a5⟩, b, c, d, f⟩ := hR
  obtain ⟨⟨s1, s2, s3, s4⟩, s5, s6⟩ := hs
  refine ⟨⟨by rw [s3, z]; exact a1, by rw [s3]; exact a2, by rw [s4]; exact a3, by rw [s1]; exact a4, by rw [z]; exact a5⟩, fun q hq => by rw [o q (by omega)]; exact b q hq, fun q hq => by rw [s1] at hq ⊢; rw [z]; exact c q hq, ?_, ?_⟩
  · intro q cj hq hcj
    rw [s1] at hq
    have hqr : q ≠ r := by
      rintro rfl
      omega
    exact (d q cj hq hcj).same (o q hqr) fun k => s5 _ _ _
  · intro q j' hq
    rw [s1] at hq
    by_cases hqr : q = r
    · subst hqr
      obtain rfl : j' = j := by omega
      exact xarr.mk hty hw (by rw [s2]; exact e)
    · exact (f q j' hq).same (o q hqr) (by rw [s2]) fun t => s6 t _ (by omega)
theorem xcell_I (cA : ClassId) (n : Nat) (h : xH) (a i : Nat) (x : Int32) : (vp_cell cA (n, .inl (aI h a))).setSlot i (.int x) = vp_cell cA (n, .inl (aI (tI h a i x) a)) := by
  rw [vp_cell_i, vp_cell_i, arrV_store]
  congr 1
  funext q
  show updV _ _ _ _ = Value.int (up2 (aI h) a i x a q)
  by_cases hq : q = i <;> simp [updV, up2, hq]
theorem xcell_J (cA : ClassId) (n : Nat) (h : xH) (a i : Nat) (x : Int64) : (vp_cell cA (n, .inr (.inl (aJ h a)))).setSlot i (.long x) = vp_cell cA (n, .inr (.inl (aJ (tJ h a i x) a))) := by
  rw [vp_cell_l, vp_cell_l, arrV_store]
  congr 1
  funext q
  show updV _ _ _ _ = Value.long (up2 (aJ h) a i x a q)
  by_cases hq : q = i <;> simp [updV, up2, hq]
theorem xcell_D (cA : ClassId) (n : Nat) (h : xH) (a i : Nat) (x : UInt64) : (vp_cell cA (n, .inr (.inr (.inr (.inl (aD h a)))))).setSlot i (.double x) = vp_cell cA (n, .inr (.inr (.inr (.inl (aD (tD h a i x) a))))) := by
  rw [vp_cell_d, vp_cell_d, arrV_store]
  congr 1
  funext q
  show updV _ _ _ _ = Value.double (up2 (aD h) a i x a q)
  by_cases hq : q = i <;> simp [updV, up2, hq]
theorem xcell_R (cA : ClassId) (n : Nat) (h : xH) (a i : Nat) (x : Nat) : (vp_cell cA (n, .inr (.inr (.inr (.inr (fun k => ro (aR h a k))))))).setSlot i (rv x) = vp_cell cA (n, .inr (.inr (.inr (.inr (fun k => ro (aR (tR h a i x) a k)))))) := by
  rw [vp_cell_q, vp_cell_q, arrV_store]
  congr 1
  funext q
  show updV _ _ _ _ = va_rf (ro (up2 (aR h) a i x a q))
  by_cases hq : q = i <;> simp [updV, up2, hq, rv_ro]
section XR3
variable {G : xG} {Y : xY} {fr lo pc : Nat} {lv : List (Nat × Value)} {st : List Value} {h h1 : xH} {Q : Outcome → xH → Prop}
theorem x_alen {a : Nat} (j : Nat) (ht : tg h a = 100 + j) (hj : j < 12) (d : decode (yC Y) pc = .ok (.arraylength, 1)) (kk : xP G Y fr lo (pc + 1) lv (.int (Int32.ofNat (ln h a)) :: st) h Q) : xP G Y fr lo pc lv (rv a :: st) h Q := by
  refine xP.step (fun p l e R s m args below meth c u0 Z H locs ls k n C hR hl kk => ?_) kk
  obtain ⟨r, rfl⟩ := tg_pos hR ht (by omega)
  obtain ⟨cx, cb, -, -, -, -, cown, chts, cK, -⟩ := C
  have ho := hR.2.2.2.2 r j ht
  have hty : ∃ ty, xar[j]? = some ty := ⟨_, ho.choose_spec.1⟩
  obtain ⟨ty, hty⟩ := hty
  obtain ⟨cell, c1, c2, c3, c4, c5, c6, c7⟩ := ho.see cK hj hty
  exact W.alen (n := Int32.ofNat (ln h (r + 1))) cx cb c1 c2 c6 rfl rfl d (kk ls hl)
theorem x_iald {a : Nat} {i : Int32} (j : Nat) (hj : j = 0 ∨ j = 11) (ht : tg h a = 100 + j) (hi : vp_in i (ln h a)) (d : decode (yC Y) pc = .ok (.iaload, 1)) (kk : xP G Y fr lo (pc + 1) lv (.int (aI h a i.toNatClampNeg) :: st) h Q) : xP G Y fr lo pc lv (.int i :: rv a :: st) h Q := by
  refine xP.step (fun p l e R s m args below meth c u0 Z H locs ls k n C hR hl kk => ?_) kk
  obtain ⟨r, rfl⟩ := tg_pos hR ht (by omega)
  obtain ⟨cx, cb, -, -, -, -, cown, chts, cK, -⟩ := C
  have hty : xar[j]? = some .int := by rcases hj with rfl | rfl <;> rfl
  obtain ⟨cell, c1, c2, c3, c4, c5, c6, c7⟩ := (hR.2.2.2.2 r j ht).see cK (by omega) (ty := .int) hty
  have hlt : i.toNatClampNeg < ln h (r + 1) := Nat.not_le.mp fun q => hi (Or.inr q)
  exact W.iald (v := .int (aI h (r + 1) i.toNatClampNeg)) cx cb c1 c2 c3 (fun q => hi (q.imp id fun z => by omega)) (c7 _ hlt) rfl rfl d (kk ls hl)
theorem x_bald {a : Nat} {i : Int32} (ht : tg h a = 103) (hi : vp_in i (ln h a)) (d : decode (yC Y) pc = .ok (.baload, 1)) (kk : xP G Y fr lo (pc + 1) lv (.int (aI h a i.toNatClampNeg) :: st) h Q) : xP G Y fr lo pc lv (.int i :: rv a :: st) h Q := by
  refine xP.step (fun p l e R s m args below meth c u0 Z H locs ls k n C hR hl kk => ?_) kk
  obtain ⟨r, rfl⟩ := tg_pos hR ht (by omega)
  obtain ⟨cx, cb, -, -, -, -, cown, chts, cK, -⟩ := C
  obtain ⟨cell, c1, c2, c3, c4, c5, c6, c7⟩ := (hR.2.2.2.2 r 3 ht).see cK (by omega) (ty := .byte) rfl
  have hlt : i.toNatClampNeg < ln h (r + 1) := Nat.not_le.mp fun q => hi (Or.inr q)
  exact W.bald (v := .int (aI h (r + 1) i.toNatClampNeg)) cx cb c1 c2 c3 (fun q => hi (q.imp id fun z => by omega)) (c7 _ hlt) rfl rfl d (kk ls hl)
theorem x_zald {a : Nat} {i : Int32} (ht : tg h a = 104) (hi : vp_in i (ln h a)) (d : decode (yC Y) pc = .ok (.baload, 1)) (kk : xP G Y fr lo (pc + 1) lv (.int (aI h a i.toNatClampNeg) :: st) h Q) : xP G Y fr lo pc lv (.int i :: rv a :: st) h Q := by
  refine xP.step (fun p l e R s m args below meth c u0 Z H locs ls k n C hR hl kk => ?_) kk
  obtain ⟨r, rfl⟩ := tg_pos hR ht (by omega)
  obtain ⟨cx, cb, -, -, -, -, cown, chts, cK, -⟩ := C
  obtain ⟨cell, c1, c2, c3, c4, c5, c6, c7⟩ := (hR.2.2.2.2 r 4 ht).see cK (by omega) (ty := .boolean) rfl
  have hlt : i.toNatClampNeg < ln h (r + 1) := Nat.not_le.mp fun q => hi (Or.inr q)
  exact W.zald (v := .int (aI h (r + 1) i.toNatClampNeg)) cx cb c1 c2 c3 (fun q => hi (q.imp id fun z => by omega)) (c7 _ hlt) rfl rfl d (kk ls hl)
theorem x_lald {a : Nat} {i : Int32} (ht : tg h a = 101) (hi : vp_in i (ln h a)) (d : decode (yC Y) pc = .ok (.laload, 1)) (kk : xP G Y fr lo (pc + 1) lv (.long (aJ h a i.toNatClampNeg) :: st) h Q) : xP G Y fr lo pc lv (.int i :: rv a :: st) h Q := by
  refine xP.step (fun p l e R s m args below meth c u0 Z H locs ls k n C hR hl kk => ?_) kk
  obtain ⟨r, rfl⟩ := tg_pos hR ht (by omega)
  obtain ⟨cx, cb, -, -, -, -, cown, chts, cK, -⟩ := C
  obtain ⟨cell, c1, c2, c3, c4, c5, c6, c7⟩ := (hR.2.2.2.2 r 1 ht).see cK (by omega) (ty := .long) rfl
  have hlt : i.toNatClampNeg < ln h (r + 1) := Nat.not_le.mp fun q => hi (Or.inr q)
  exact W.lald (v := .long (aJ h (r + 1) i.toNatClampNeg)) cx cb c1 c2 c3 (fun q => hi (q.imp id fun z => by omega)) (c7 _ hlt) rfl rfl d (kk ls hl)
theorem x_dald {a : Nat} {i : Int32} (ht : tg h a = 102) (hi : vp_in i (ln h a)) (d : decode (yC Y) pc = .ok (.daload, 1)) (kk : xP G Y fr lo (pc + 1) lv (.double (aD h a i.toNatClampNeg) :: st) h Q) : xP G Y fr lo pc lv (.int i :: rv a :: st) h Q := by
  refine xP.step (fun p l e R s m args below meth c u0 Z H locs ls k n C hR hl kk => ?_) kk
  obtain ⟨r, rfl⟩ := tg_pos hR ht (by omega)
  obtain ⟨cx, cb, -, -, -, -, cown, chts, cK, -⟩ := C
  obtain ⟨cell, c1, c2, c3, c4, c5, c6, c7⟩ := (hR.2.2.2.2 r 2 ht).see cK (by omega) (ty := .double) rfl
  have hlt : i.toNatClampNeg < ln h (r + 1) := Nat.not_le.mp fun q => hi (Or.inr q)
  exact W.dald (v := .double (aD h (r + 1) i.toNatClampNeg)) cx cb c1 c2 c3 (fun q => hi (q.imp id fun z => by omega)) (c7 _ hlt) rfl rfl d (kk ls hl)
theorem x_aald {a : Nat} {i : Int32} (j : Nat) {C : String} (hty : xar[j]? = some (.object C)) (ht : tg h a = 100 + j) (hj : j < 12) (hi : vp_in i (ln h a)) (d : decode (yC Y) pc = .ok (.aaload, 1)) (kk : xP G Y fr lo (pc + 1) lv (rv (aR h a i.toNatClampNeg) :: st) h Q) : xP G Y fr lo pc lv (.int i :: rv a :: st) h Q := by
  refine xP.step (fun p l e R s m args below meth c u0 Z H locs ls k n C hR hl kk => ?_) kk
  obtain ⟨r, rfl⟩ := tg_pos hR ht (by omega)
  obtain ⟨cx, cb, -, -, -, -, cown, chts, cK, -⟩ := C
  have h9 := kk ls hl
  rw [← rv_ro] at h9
  obtain ⟨cell, c1, c2, c3, c4, c5, c6, c7⟩ := (hR.2.2.2.2 r j ht).see cK hj hty
  have hlt : i.toNatClampNeg < ln h (r + 1) := Nat.not_le.mp fun q => hi (Or.inr q)
  exact W.aald (v := va_rf (ro (aR h (r + 1) i.toNatClampNeg))) cx cb c1 c2 rfl c3 (fun q => hi (q.imp id fun z => by omega)) (c7 _ hlt) rfl rfl d h9
theorem x_iast {a : Nat} {i x : Int32} (ht : tg h a = 100) (hi : vp_in i (ln h a)) (d : decode (yC Y) pc = .ok (.iastore, 1)) (kk : xP G Y fr lo (pc + 1) lv st (tI h a i.toNatClampNeg x) Q) : xP G Y fr lo pc lv (.int x :: .int i :: rv a :: st) h Q := by
  refine xP.stepH (h1 := tI h a i.toNatClampNeg x) ⟨rfl, rfl, rfl, rfl⟩ (fun p l e R s m args below meth c u0 Z H locs ls k n C hR hl kk => ?_) kk
  obtain ⟨r, rfl⟩ := tg_pos hR ht (by omega)
  obtain ⟨cx, cb, -, -, -, -, cown, chts, cK, -⟩ := C
  have hge := (hR.2.2.1 r (by omega)).2 (by rw [ht]; rfl)
  have hc := (hR.2.2.2.2 r 0 ht).str hge (ty := .int) rfl
  refine W.iast cx cb hc ((cK.1.2 0 _ (xtys_at G (j := 0) (by omega) rfl)).1 _ _) (fun q => by cases q) (by show ¬ (i < 0 ∨ (arrV _ _ _).slots.size ≤ _); rw [arrV_size]; exact hi) rfl rfl d fun H1 e1 e2 e3 => ?_
  exact kk H1 _ (hR.puta (j := 0) ht rfl (by rw [e1]; exact congrArg some (xcell_I _ _ h (r + 1) _ x)) e2 e3 hge (xsetA_I h (r + 1) _ x)) (fun q hq => by rw [List.mem_singleton.mp hq]; exact hge)
theorem x_bast {a : Nat} {i x : Int32} (ht : tg h a = 103) (hw : xwr G h a) (hi : vp_in i (ln h a)) (d : decode (yC Y) pc = .ok (.bastore, 1)) (kk : xP G Y fr lo (pc + 1) lv st (tI h a i.toNatClampNeg (vp_nar .byte x)) Q) : xP G Y fr lo pc lv (.int x :: .int i :: rv a :: st) h Q := by
  refine xP.stepH (h1 := tI h a i.toNatClampNeg (vp_nar .byte x)) ⟨rfl, rfl, rfl, rfl⟩ (fun p l e R s m args below meth c u0 Z H locs ls k n C hR hl kk => ?_) kk
  obtain ⟨r, rfl⟩ := tg_pos hR ht (by omega)
  obtain ⟨cx, cb, -, -, -, -, cown, chts, cK, -⟩ := C
  have hge := xwr.ge hR (by omega) hw
  have hc := (hR.2.2.2.2 r 3 ht).str hge (ty := .byte) rfl
  refine W.bast cx cb hc ((cK.1.2 3 _ (xtys_at G (j := 3) (by omega) rfl)).1 _ _) (fun q => by cases q) (by show ¬ (i < 0 ∨ (arrV _ _ _).slots.size ≤ _); rw [arrV_size]; exact hi) rfl rfl d fun H1 e1 e2 e3 => ?_
  exact kk H1 _ (hR.puta (j := 3) ht rfl (by rw [e1]; exact congrArg some (xcell_I _ _ h (r + 1) _ _)) e2 e3 hge (xsetA_I h (r + 1) _ _)) (fun q hq => by rw [List.mem_singleton.mp hq]; exact hge)
theorem x_zast {a : Nat} {i x : Int32} (ht : tg h a = 104) (hi : vp_in i (ln h a)) (d : decode (yC Y) pc = .ok (.bastore, 1)) (kk : xP G Y fr lo (pc + 1) lv st (tI h a i.toNatClampNeg (vp_nar .boolean x)) Q) : xP G Y fr lo pc lv (.int x :: .int i :: rv a :: st) h Q := by
  refine xP.stepH (h1 := tI h a i.toNatClampNeg (vp_nar .boolean x)) ⟨rfl, rfl, rfl, rfl⟩ (fun p l e R s m args below meth c u0 Z H locs ls k n C hR hl kk => ?_) kk
  obtain ⟨r, rfl⟩ := tg_pos hR ht (by omega)
  obtain ⟨cx, cb, -, -, -, -, cown, chts, cK, -⟩ := C
  have hge := (hR.2.2.1 r (by omega)).2 (by rw [ht]; rfl)
  have hc := (hR.2.2.2.2 r 4 ht).str hge (ty := .boolean) rfl
  refine W.zast cx cb hc ((cK.1.2 4 _ (xtys_at G (j := 4) (by omega) rfl)).1 _ _) (fun q => by cases q) (by show ¬ (i < 0 ∨ (arrV _ _ _).slots.size ≤ _); rw [arrV_size]; exact hi) rfl rfl d fun H1 e1 e2 e3 => ?_
  exact kk H1 _ (hR.puta (j := 4) ht rfl (by rw [e1]; exact congrArg some (xcell_I _ _ h (r + 1) _ _)) e2 e3 hge (xsetA_I h (r + 1) _ _)) (fun q hq => by rw [List.mem_singleton.mp hq]; exact hge)
theorem x_last {a : Nat} {i : Int32} {x : Int64} (ht : tg h a = 101) (hi : vp_in i (ln h a)) (d : decode (yC Y) pc = .ok (.lastore, 1)) (kk : xP G Y fr lo (pc + 1) lv st (tJ h a i.toNatClampNeg x) Q) : xP G Y fr lo pc lv (.long x :: .int i :: rv a :: st) h Q := by
  refine xP.stepH (h1 := tJ h a i.toNatClampNeg x) ⟨rfl, rfl, rfl, rfl⟩ (fun p l e R s m args below meth c u0 Z H locs ls k n C hR hl kk => ?_) kk
  obtain ⟨r, rfl⟩ := tg_pos hR ht (by omega)
  obtain ⟨cx, cb, -, -, -, -, cown, chts, cK, -⟩ := C
  have hge := (hR.2.2.1 r (by omega)).2 (by rw [ht]; rfl)
  have hc := (hR.2.2.2.2 r 1 ht).str hge (ty := .long) rfl
  refine W.last cx cb hc ((cK.1.2 1 _ (xtys_at G (j := 1) (by omega) rfl)).1 _ _) (fun q => by cases q) (by show ¬ (i < 0 ∨ (arrV _ _ _).slots.size ≤ _); rw [arrV_size]; exact hi) rfl rfl d fun H1 e1 e2 e3 => ?_
  exact kk H1 _ (hR.puta (j := 1) ht rfl (by rw [e1]; exact congrArg some (xcell_J _ _ h (r + 1) _ x)) e2 e3 hge (xsetA_J h (r + 1) _ x)) (fun q hq => by rw [List.mem_singleton.mp hq]; exact hge)
theorem x_dast {a : Nat} {i : Int32} {x : UInt64} (ht : tg h a = 102) (hi : vp_in i (ln h a)) (d : decode (yC Y) pc = .ok (.dastore, 1)) (kk : xP G Y fr lo (pc + 1) lv st (tD h a i.toNatClampNeg x) Q) : xP G Y fr lo pc lv (.double x :: .int i :: rv a :: st) h Q := by
  refine xP.stepH (h1 := tD h a i.toNatClampNeg x) ⟨rfl, rfl, rfl, rfl⟩ (fun p l e R s m args below meth c u0 Z H locs ls k n C hR hl kk => ?_) kk
  obtain ⟨r, rfl⟩ := tg_pos hR ht (by omega)
  obtain ⟨cx, cb, -, -, -, -, cown, chts, cK, -⟩ := C
  have hge := (hR.2.2.1 r (by omega)).2 (by rw [ht]; rfl)
  have hc := (hR.2.2.2.2 r 2 ht).str hge (ty := .double) rfl
  refine W.dast cx cb hc ((cK.1.2 2 _ (xtys_at G (j := 2) (by omega) rfl)).1 _ _) (fun q => by cases q) (by show ¬ (i < 0 ∨ (arrV _ _ _).slots.size ≤ _); rw [arrV_size]; exact hi) rfl rfl d fun H1 e1 e2 e3 => ?_
  exact kk H1 _ (hR.puta (j := 2) ht rfl (by rw [e1]; exact congrArg some (xcell_D _ _ h (r + 1) _ x)) e2 e3 hge (xsetA_D h (r + 1) _ x)) (fun q hq => by rw [List.mem_singleton.mp hq]; exact hge)
end XR3
