/-! natives, class objects, casts: over the abstract heap -/
/-- a whole row of an array of ints (of references) is set -/
def cI (h : xH) (a : Nat) (f : Nat → Int32) : xH := xmk (fI h) (fJ h) (fD h) (fR h) (fun b => if b = a then f else aI h b) (aJ h) (aD h) (aR h) (tg h) (ln h) (nx h) (us h)
def cR (h : xH) (a : Nat) (f : Nat → Nat) : xH := xmk (fI h) (fJ h) (fD h) (fR h) (aI h) (aJ h) (aD h) (fun b => if b = a then f else aR h b) (tg h) (ln h) (nx h) (us h)
theorem xsetA_cI (h : xH) (a : Nat) (f : Nat → Int32) : xsetA h (cI h a f) a :=
  ⟨⟨rfl, rfl, rfl, rfl⟩, fun t b g => by cases t <;> rfl, fun t b hb => by cases t <;> first | rfl | (show Sum.inl (if b = a then f else aI h b) = Sum.inl (aI h b); rw [if_neg hb])⟩
theorem xsetA_cR (h : xH) (a : Nat) (f : Nat → Nat) : xsetA h (cR h a f) a :=
  ⟨⟨rfl, rfl, rfl, rfl⟩, fun t b g => by cases t <;> rfl, fun t b hb => by cases t <;> first | rfl | (show Sum.inr (Sum.inr (Sum.inr (Sum.inr (fun j => ro ((if b = a then f else aR h b) j))))) = Sum.inr (Sum.inr (Sum.inr (Sum.inr (fun j => ro (aR h b j))))); rw [if_neg hb])⟩
theorem aI_cI (h : xH) (a : Nat) (f : Nat → Int32) : aI (cI h a f) a = f := by show (if a = a then f else aI h a) = f; rw [if_pos rfl]
theorem aR_cR (h : xH) (a : Nat) (f : Nat → Nat) : aR (cR h a f) a = f := by show (if a = a then f else aR h a) = f; rw [if_pos rfl]
theorem x_nn {z : Int32} (hz : ¬ z < 0) : z.toInt = (z.toNatClampNeg : Int) := by
  have hz0 : (0 : Int) ≤ z.toInt := by
    have := Int32.not_lt.mp hz
    simpa using Int32.le_iff_toInt_le.mp this
  show z.toInt = ((z.toInt.toNat : Nat) : Int)
  omega
section XNW
variable {p : Program} {l : Launch} {e : Env} {R : Room} {s : State} {m : MethodId} {args : Array Value} {below : List Frame} {meth : Method} {c : Code} {H : Heap} {locs : List Loc} {cells slots : Nat} {Q : State → Prop}
variable {cc : ByteArray} {pc : Nat} {ls : Array Slot} {rest : List Value} {D : va_G} {a a0 : Nat} {tys : List (ClassId × FieldType)}
/-- System.arraycopy between two arrays of one kind of small values -/
theorem xw_copyI (hexec : p.tables.exec = Jvm.exec) (hb : c.code = cc) (hml : c.maxLocals = ls.size) {own : String} {index : Nat} (hown : s.vm.findClass own = some m.cls) (hlink : (Cond.methodLink own index arraycopyName).before args s = true) (hnat : (Cond.native arraycopyName).before args s = true) (hstat : (Cond.static arraycopyName).before args s = true) (hini : (Cond.initialized "java/lang/System").before args s = true)
    (hK : va_K D xcl tys s) (t0 : Nat) {cA : ClassId} {n0 n1 : Nat} {f g : Nat → Int32} {ty : FieldType} {cs : Cell} (hc0 : H[a0]? = some cs) (ho0 : s.isArrayOf cs ty) (hu0 : cs.vm ≠ .unknown) (hz0 : cs.vm.isStatics = false) (hl0 : n0 ≤ cs.slots.size) (hv0 : ∀ i, i < n0 → cs.slots[i]? = some (.int (f i))) (hc1 : H[a]? = some (vp_cell cA (n1, .inl g))) (ht0 : tys[t0]? = some (cA, ty)) (hprim : refKind ty = false)
    {sp dp n : Int32} (h1 : ¬ sp < 0) (h2 : ¬ dp < 0) (h3 : ¬ n < 0) (h4 : sp.toNatClampNeg + n.toNatClampNeg ≤ n0) (h5 : dp.toNatClampNeg + n.toNatClampNeg ≤ n1) (hfit : ∀ i, i < n.toNatClampNeg → fits ty (.int (f (sp.toNatClampNeg + i))) = true)
    (hframes : 1 ≤ R.frames) (hlocals : (rest.map fun v => v.category).sum + 18 ≤ R.locals) (hdg : decode cc pc = .ok (.invokestatic index, 3))
    (kk : ∀ (H1 : Heap) (L : List Loc), H1[a]? = some (vp_cell cA (n1, .inl (va_cpy f g sp.toNatClampNeg dp.toNatClampNeg n.toNatClampNeg))) → H1.size = H.size → (∀ q : Nat, q ≠ a → H1[q]? = H[q]?) → (∀ q ∈ L, q.base = a) → W p l e R s m args below meth c H1 (locs ++ L) cells slots Q (F0 m (pc + 3) ls rest)) : W p l e R s m args below meth c H locs cells slots Q (F0 m pc ls (.int n :: .int dp :: .ref a :: .int sp :: .ref a0 :: rest)) := by
  intro T hT X
  obtain ⟨-, k0, hk0, cm0, hkk0⟩ := ho0
  obtain ⟨-, k1, hk1, cm1, hkk1⟩ := (hK.2 t0 _ ht0).1 n1 (fun j => .int (g j))
  have hw : nativeFrameWords "java/lang/System" "arraycopy" 5 = 7 := by decide
  obtain ⟨vm', X', step⟩ := X.arraycopy hexec hown hlink hnat hstat hini (src := a0) (dst := a) (cs := cs) (cd := vp_cell cA (n1, .inl g)) (srcPos := sp) (destPos := dp) (n := n) (by rw [hT]; exact hc0) (by rw [hT]; exact hc1)
    (VmData.ne_statics_of hz0) (fun _ h => by cases h) hu0 (fun h => by cases h) hk0 hk1 hkk0 hkk1 (by simp [hprim]) h1 h2 h3
    (by rw [x_nn h1, x_nn h3]; omega)
    (by rw [x_nn h2, x_nn h3]; show ¬ _ > ((arrV cA n1 (fun j => .int (g j))).slots.size : Int); rw [arrV_size]; omega)
    (fun vm₁ _ i hi => by
      have e : cs.slots.getD (sp.toNatClampNeg + i) .null = .int (f (sp.toNatClampNeg + i)) := by
        rw [Array.getD_eq_getD_getElem?, hv0 _ (by omega)]
        rfl
      refine ⟨?_, ?_⟩
      · rw [e]
        exact hfit i hi
      · rw [e]
        exact trivial)
    (g := F0 m pc ls (.int n :: .int dp :: .ref a :: .int sp :: .ref a0 :: rest)) rfl (by rw [hml]) (rest := rest) rfl (by rw [hb]; exact hdg) hframes (by show 2 * 0 + _ + _ ≤ _; omega)
  have e0 : cs.stretch sp.toNatClampNeg n.toNatClampNeg = (arrV cA n0 (fun j => Value.int (f j))).stretch sp.toNatClampNeg n.toNatClampNeg := by
    unfold Cell.stretch
    apply List.map_congr_left
    intro i hi
    have hi' := List.mem_range.mp hi
    rw [Array.getD_eq_getD_getElem?, Array.getD_eq_getD_getElem?, arrV_read _ _ (by omega), hv0 _ (by omega)]
  have e1 : copied cs (vp_cell cA (n1, .inl g)) sp dp n = vp_cell cA (n1, .inl (va_cpy f g sp.toNatClampNeg dp.toNatClampNeg n.toNatClampNeg)) := by
    have e2 := va_copied (fun z => Value.int z) cA cA (n1 := n1) (dp := dp.toNatClampNeg) f g h4
    rw [← e0] at e2
    exact e2
  rw [e1] at X' step
  have hl : a < H.size := (Array.getElem?_eq_some_iff.mp hc1).1
  have hheap : ((T.setVm vm').setCell a (vp_cell cA (n1, .inl (va_cpy f g sp.toNatClampNeg dp.toNatClampNeg n.toNatClampNeg)))).heap = H.setIfInBounds a (vp_cell cA (n1, .inl (va_cpy f g sp.toNatClampNeg dp.toNatClampNeg n.toNatClampNeg))) := by rw [← hT]; rfl
  obtain ⟨t, a1, b1⟩ := kk _ _ (show (H.setIfInBounds a _)[a]? = some _ by simp [Array.getElem?_setIfInBounds, hl]) (by simp) (fun q hq => by simp [Array.getElem?_setIfInBounds, Ne.symm hq]) (fun q hq => by
      obtain ⟨z, -, hz⟩ := List.mem_map.mp hq
      rw [← hz]) _ hheap X'
  exact ⟨t, step t a1, b1⟩
/-- System.arraycopy between two arrays of references of one kind -/
theorem xw_copyR (hexec : p.tables.exec = Jvm.exec) (hb : c.code = cc) (hml : c.maxLocals = ls.size) {own : String} {index : Nat} (hown : s.vm.findClass own = some m.cls) (hlink : (Cond.methodLink own index arraycopyName).before args s = true) (hnat : (Cond.native arraycopyName).before args s = true) (hstat : (Cond.static arraycopyName).before args s = true) (hini : (Cond.initialized "java/lang/System").before args s = true)
    (hK : va_K D xcl tys s) (t0 : Nat) {cA : ClassId} {n0 n1 : Nat} {f g : Nat → Option Nat} {E : String} (hc0 : H[a0]? = some (vp_cell cA (n0, .inr (.inr (.inr (.inr f)))))) (hc1 : H[a]? = some (vp_cell cA (n1, .inr (.inr (.inr (.inr g)))))) (ht0 : tys[t0]? = some (cA, .object E))
    {sp dp n : Int32} (h1 : ¬ sp < 0) (h2 : ¬ dp < 0) (h3 : ¬ n < 0) (h4 : sp.toNatClampNeg + n.toNatClampNeg ≤ n0) (h5 : dp.toNatClampNeg + n.toNatClampNeg ≤ n1)
    (hel : ∀ i : Nat, i < n.toNatClampNeg → ∀ y : Nat, f (sp.toNatClampNeg + i) = some y → ∃ cellV : Cell, H[y]? = some cellV ∧ cellV.vm.isStatics = false ∧ (∃ kV, s.vm.classes[cellV.cls]? = some kV) ∧ ∀ comp : ClassId, s.vm.findClass E = some comp → s.vm.assignable cellV.cls comp = true)
    (hframes : 1 ≤ R.frames) (hlocals : (rest.map fun v => v.category).sum + 18 ≤ R.locals) (hdg : decode cc pc = .ok (.invokestatic index, 3))
    (kk : ∀ (H1 : Heap) (L : List Loc), H1[a]? = some (vp_cell cA (n1, .inr (.inr (.inr (.inr (va_cpy f g sp.toNatClampNeg dp.toNatClampNeg n.toNatClampNeg)))))) → H1.size = H.size → (∀ q : Nat, q ≠ a → H1[q]? = H[q]?) → (∀ q ∈ L, q.base = a) → W p l e R s m args below meth c H1 (locs ++ L) cells slots Q (F0 m (pc + 3) ls rest)) : W p l e R s m args below meth c H locs cells slots Q (F0 m pc ls (.int n :: .int dp :: .ref a :: .int sp :: .ref a0 :: rest)) := by
  intro T hT X
  obtain ⟨-, k0, hk0, cm0, hkk0⟩ := (hK.2 t0 _ ht0).1 n0 (fun j => va_rf (f j))
  obtain ⟨-, k1, hk1, cm1, hkk1⟩ := (hK.2 t0 _ ht0).1 n1 (fun j => va_rf (g j))
  have hw : nativeFrameWords "java/lang/System" "arraycopy" 5 = 7 := by decide
  obtain ⟨vm', X', step⟩ := X.arraycopy hexec hown hlink hnat hstat hini (src := a0) (dst := a) (cs := vp_cell cA (n0, .inr (.inr (.inr (.inr f))))) (cd := vp_cell cA (n1, .inr (.inr (.inr (.inr g))))) (srcPos := sp) (destPos := dp) (n := n) (by rw [hT]; exact hc0) (by rw [hT]; exact hc1)
    (fun _ h => by cases h) (fun _ h => by cases h) (fun h => by cases h) (fun h => by cases h) hk0 hk1 hkk0 hkk1 rfl h1 h2 h3
    (by rw [x_nn h1, x_nn h3]; show ¬ _ > ((arrV cA n0 (fun j => va_rf (f j))).slots.size : Int); rw [arrV_size]; omega)
    (by rw [x_nn h2, x_nn h3]; show ¬ _ > ((arrV cA n1 (fun j => va_rf (g j))).slots.size : Int); rw [arrV_size]; omega)
    (fun vm₁ hal i hi => by
      have e : (vp_cell cA (n0, .inr (.inr (.inr (.inr f))))).slots.getD (sp.toNatClampNeg + i) .null = va_rf (f (sp.toNatClampNeg + i)) := by
        show (arrV cA n0 (fun j => va_rf (f j))).slots.getD _ _ = _
        rw [Array.getD_eq_getD_getElem?, arrV_read _ _ (by omega)]
        rfl
      rw [e]
      cases hy : f (sp.toNatClampNeg + i) with
      | none => exact ⟨rfl, trivial⟩
      | some y =>
        obtain ⟨cellV, g1, g2, ⟨kC, hkC⟩, hasg⟩ := hel i hi y hy
        obtain ⟨kA, comp, r1, r2, r3, -⟩ := (hK.2 t0 _ ht0).2
        cases hk1.symm.trans r1
        cases hkk1.symm.trans r2
        obtain ⟨kE, hkE, -⟩ := Vm.findClass_spec r3
        obtain ⟨kC', hkC', -⟩ := hal.2.2 _ _ hkC
        obtain ⟨kE', hkE', -⟩ := hal.2.2 _ _ hkE
        refine ⟨rfl, cellV, (show T.heap[y]? = some cellV by rw [hT]; exact g1), (fun q h => by rw [h] at g2; cases g2), ⟨kC', hkC'⟩, ?_, ?_⟩
        · exact ⟨kE', hkE'⟩
        · show vm₁.assignable _ _ = true
          rw [hal.assignable]
          exact hasg _ r3)
    (g := F0 m pc ls (.int n :: .int dp :: .ref a :: .int sp :: .ref a0 :: rest)) rfl (by rw [hml]) (rest := rest) rfl (by rw [hb]; exact hdg) hframes (by show 2 * 0 + _ + _ ≤ _; omega)
  have e1 : copied (vp_cell cA (n0, .inr (.inr (.inr (.inr f))))) (vp_cell cA (n1, .inr (.inr (.inr (.inr g))))) sp dp n = vp_cell cA (n1, .inr (.inr (.inr (.inr (va_cpy f g sp.toNatClampNeg dp.toNatClampNeg n.toNatClampNeg))))) := by
    rw [vp_cell_q, vp_cell_q, vp_cell_q]
    exact va_copied (fun z => va_rf z) cA cA f g h4
  rw [e1] at X' step
  have hl : a < H.size := (Array.getElem?_eq_some_iff.mp hc1).1
  have hheap : ((T.setVm vm').setCell a (vp_cell cA (n1, .inr (.inr (.inr (.inr (va_cpy f g sp.toNatClampNeg dp.toNatClampNeg n.toNatClampNeg))))))).heap = H.setIfInBounds a (vp_cell cA (n1, .inr (.inr (.inr (.inr (va_cpy f g sp.toNatClampNeg dp.toNatClampNeg n.toNatClampNeg)))))) := by rw [← hT]; rfl
  obtain ⟨t, a1, b1⟩ := kk _ _ (show (H.setIfInBounds a _)[a]? = some _ by simp [Array.getElem?_setIfInBounds, hl]) (by simp) (fun q hq => by simp [Array.getElem?_setIfInBounds, Ne.symm hq]) (fun q hq => by
      obtain ⟨z, -, hz⟩ := List.mem_map.mp hq
      rw [← hz]) _ hheap X'
  exact ⟨t, step t a1, b1⟩
end XNW
/-- System.arraycopy's words -/
def xcpw (own : String) (index : Nat) : Prop := Cond.methodLink own index arraycopyName ∈ lw_all ∧ Cond.native arraycopyName ∈ lw_all ∧ Cond.static arraycopyName ∈ lw_all ∧ Cond.initialized "java/lang/System" ∈ lw_all
/-- n places from sp on in src and from dp on in dst -/
def xcpr (h : xH) (src dst : Nat) (sp dp n : Int32) : Prop := ¬ sp < 0 ∧ ¬ dp < 0 ∧ ¬ n < 0 ∧ sp.toNatClampNeg + n.toNatClampNeg ≤ ln h src ∧ dp.toNatClampNeg + n.toNatClampNeg ≤ ln h dst
/-- a byte -/
def xby (x : Int32) : Prop := fits .byte (.int x) = true
/-- null, or an object that may lie in an Object[] -/
def xrf (h : xH) (x : Nat) : Prop := x = 0 ∨ ∃ ci, xas 5 ci ∧ tg h x = ci + 1
section XNA
variable {G : xG} {Y : xY} {fr lo pc : Nat} {lv : List (Nat × Value)} {st : List Value} {h h1 : xH} {Q : Outcome → xH → Prop}
theorem x_copyB {index src dst : Nat} {sp dp n : Int32} (hw : xcpw (yN Y).cls index) (d : decode (yC Y) pc = .ok (.invokestatic index, 3)) (g0 : tg h src = 103) (g1 : tg h dst = 103) (gw : xwr G h dst) (hr : xcpr h src dst sp dp n) (hb : ∀ i, i < n.toNatClampNeg → xby (aI h src (sp.toNatClampNeg + i))) (hfr : 1 ≤ fr) (hlo : (st.map fun v => v.category).sum + 18 ≤ lo)
    (e1 : h1 = cI h dst (va_cpy (aI h src) (aI h dst) sp.toNatClampNeg dp.toNatClampNeg n.toNatClampNeg)) (kk : xP G Y fr lo (pc + 3) lv st h1 Q) : xP G Y fr lo pc lv (.int n :: .int dp :: rv dst :: .int sp :: rv src :: st) h Q := by
  subst e1
  obtain ⟨w1, w2, w3, w4⟩ := hw
  obtain ⟨r1, r2, r3, r4, r5⟩ := hr
  refine xP.stepH (h1 := cI h dst _) ⟨rfl, rfl, rfl, rfl⟩ (fun p l e R s m args below meth c u0 Z H locs ls k n C hR hl kk => ?_) kk
  obtain ⟨a0, rfl⟩ := tg_pos hR g0 (by omega)
  obtain ⟨a, rfl⟩ := tg_pos hR g1 (by omega)
  obtain ⟨cx, cb, cml, -, -, -, cown, chts, cK, cfr, clo, -⟩ := C
  have hge := xwr.ge hR (by omega) gw
  obtain ⟨cell0, c1, c2, c3, c4, c5, c6, c7⟩ := (hR.2.2.2.2 a0 3 g0).see cK (by omega) (ty := .byte) rfl
  have hc1 := (hR.2.2.2.2 a 3 g1).str hge (ty := .byte) rfl
  refine xw_copyI cx cb (cml.trans hl.1.symm) cown (chts _ w1) (chts _ w2) (chts _ w3) (chts _ w4) cK.1 3 c1 c2 c3 c4 c5 c7 hc1 (xtys_at G (j := 3) (by omega) rfl) rfl r1 r2 r3 r4 r5 hb (by omega) (by omega) d fun H1 L q1 q2 q3 q4 => ?_
  exact kk H1 L (hR.puta (j := 3) g1 rfl (by rw [q1]; show some (vp_cell _ (_, Sum.inl _)) = some (vp_cell _ (_, Sum.inl (aI (cI h (a + 1) _) (a + 1)))); rw [aI_cI]) q2 q3 hge (xsetA_cI h (a + 1) _)) (fun q hq => by rw [q4 q hq]; exact hge)
theorem x_copyO {index src dst : Nat} {sp dp n : Int32} (hw : xcpw (yN Y).cls index) (d : decode (yC Y) pc = .ok (.invokestatic index, 3)) (g0 : tg h src = 105) (g1 : tg h dst = 105) (gs : xwr G h src) (gw : xwr G h dst) (hr : xcpr h src dst sp dp n) (hb : ∀ i, i < n.toNatClampNeg → xrf h (aR h src (sp.toNatClampNeg + i))) (hfr : 1 ≤ fr) (hlo : (st.map fun v => v.category).sum + 18 ≤ lo)
    (e1 : h1 = cR h dst (va_cpy (aR h src) (aR h dst) sp.toNatClampNeg dp.toNatClampNeg n.toNatClampNeg)) (kk : xP G Y fr lo (pc + 3) lv st h1 Q) : xP G Y fr lo pc lv (.int n :: .int dp :: rv dst :: .int sp :: rv src :: st) h Q := by
  subst e1
  obtain ⟨w1, w2, w3, w4⟩ := hw
  obtain ⟨r1, r2, r3, r4, r5⟩ := hr
  refine xP.stepH (h1 := cR h dst _) ⟨rfl, rfl, rfl, rfl⟩ (fun p l e R s m args below meth c u0 Z H locs ls k n9 C hR hl kk => ?_) kk
  obtain ⟨a0, rfl⟩ := tg_pos hR g0 (by omega)
  obtain ⟨a, rfl⟩ := tg_pos hR g1 (by omega)
  obtain ⟨cx, cb, cml, -, -, -, cown, chts, cK, cfr, clo, -⟩ := C
  have hge := xwr.ge hR (by omega) gw
  have hc0 := (hR.2.2.2.2 a0 5 g0).str (xwr.ge hR (by omega) gs) (ty := .object "java/lang/Object") rfl
  have hc1 := (hR.2.2.2.2 a 5 g1).str hge (ty := .object "java/lang/Object") rfl
  have hel : ∀ i : Nat, i < n.toNatClampNeg → ∀ y : Nat, ro (aR h (a0 + 1) (sp.toNatClampNeg + i)) = some y → ∃ cellV : Cell, H[y]? = some cellV ∧ cellV.vm.isStatics = false ∧ (∃ kV, s.vm.classes[cellV.cls]? = some kV) ∧ ∀ comp : ClassId, s.vm.findClass "java/lang/Object" = some comp → s.vm.assignable cellV.cls comp = true := by
    intro i hi y hy
    have hz := hb i hi
    have hy1 : aR h (a0 + 1) (sp.toNatClampNeg + i) = y + 1 := by
      revert hy
      cases aR h (a0 + 1) (sp.toNatClampNeg + i) with
      | zero => intro hy; cases hy
      | succ z => intro hy; cases hy; rfl
    rw [hy1] at hz
    rcases hz with hz | ⟨ci, ⟨E, C, T, N, h0, hty, hj, hcl, hcst⟩, hx⟩
    · omega
    obtain rfl : E = "java/lang/Object" := by cases hty; rfl
    obtain ⟨cellV, v1, v2, v3⟩ := x_recv hR cK hx h0 hcl
    obtain ⟨kV, hkV, -⟩ := Vm.findClass_spec v3
    refine ⟨cellV, v1, v2, ⟨kV, hkV⟩, fun comp hcomp => ?_⟩
    rcases hcst with hq | hq
    · have hcls := (cK.1.1 ci _ hcl).2
      rw [← hq] at hcls v3
      have e1 : (xGD G).1 ci = cellV.cls := Option.some.inj (hcls.1.symm.trans v3)
      have e2 : (xGD G).1 ci = comp := Option.some.inj (hcls.1.symm.trans hcomp)
      rw [← e1, ← e2]
      exact va_assign hcls
    · obtain ⟨c0, t0, z1, z2, z3⟩ := Cond.castable_spec (va_Nw.use (A := args) rfl (cK.2.1 _ hq))
      cases v3.symm.trans z1
      cases hcomp.symm.trans z2
      exact z3
  refine xw_copyR cx cb (cml.trans hl.1.symm) cown (chts _ w1) (chts _ w2) (chts _ w3) (chts _ w4) cK.1 5 hc0 hc1 (xtys_at G (j := 5) (by omega) rfl) r1 r2 r3 r4 r5 hel (by omega) (by omega) d fun H1 L q1 q2 q3 q4 => ?_
  refine kk H1 L (hR.puta (j := 5) g1 rfl ?_ q2 q3 hge (xsetA_cR h (a + 1) _)) (fun q hq => by rw [q4 q hq]; exact hge)
  rw [q1]
  show some (vp_cell _ (_, Sum.inr (Sum.inr (Sum.inr (Sum.inr _))))) = some (vp_cell _ (_, Sum.inr (Sum.inr (Sum.inr (Sum.inr (fun i => ro (aR (cR h (a + 1) _) (a + 1) i)))))))
  rw [aR_cR]
  have e9 : va_cpy (fun i => ro (aR h (a0 + 1) i)) (fun i => ro (aR h (a + 1) i)) sp.toNatClampNeg dp.toNatClampNeg n.toNatClampNeg = fun i => ro (va_cpy (aR h (a0 + 1)) (aR h (a + 1)) sp.toNatClampNeg dp.toNatClampNeg n.toNatClampNeg i) := by
    funext k
    unfold va_cpy
    split <;> rfl
  exact congrArg (fun z => some (vp_cell (xGA G 5) (ln h (a + 1), Sum.inr (Sum.inr (Sum.inr (Sum.inr z)))))) e9
theorem x_d2lb {index : Nat} {b : UInt64} (hl : Cond.methodLink (yN Y).cls index ⟨"java/lang/Double", "doubleToRawLongBits", "(D)J"⟩ ∈ lw_all) (hnat : Cond.native ⟨"java/lang/Double", "doubleToRawLongBits", "(D)J"⟩ ∈ lw_all) (hstat : Cond.static ⟨"java/lang/Double", "doubleToRawLongBits", "(D)J"⟩ ∈ lw_all) (hini : Cond.initialized "java/lang/Double" ∈ lw_all) (d : decode (yC Y) pc = .ok (.invokestatic index, 3)) (hfr : 1 ≤ fr) (hlo : (st.map fun v => v.category).sum + 15 ≤ lo)
    (kk : xP G Y fr lo (pc + 3) lv (.long b.toInt64 :: st) h Q) : xP G Y fr lo pc lv (.double b :: st) h Q := by
  refine xP.step (fun p l e R s m args below meth c u0 Z H locs ls k n C hR hl9 kk => ?_) kk
  obtain ⟨cx, cb, cml, -, -, -, cown, chts, cK, cfr, clo, -⟩ := C
  exact vn_d2l cx cb (cml.trans hl9.1.symm) cown (chts _ hl) (chts _ hnat) (chts _ hstat) (chts _ hini) (by omega) (by omega) d (kk ls hl9)
theorem x_l2db {index : Nat} {b : Int64} (hl : Cond.methodLink (yN Y).cls index ⟨"java/lang/Double", "longBitsToDouble", "(J)D"⟩ ∈ lw_all) (hnat : Cond.native ⟨"java/lang/Double", "longBitsToDouble", "(J)D"⟩ ∈ lw_all) (hstat : Cond.static ⟨"java/lang/Double", "longBitsToDouble", "(J)D"⟩ ∈ lw_all) (hini : Cond.initialized "java/lang/Double" ∈ lw_all) (hv : vn_snl2d b = false) (d : decode (yC Y) pc = .ok (.invokestatic index, 3)) (hfr : 1 ≤ fr) (hlo : (st.map fun v => v.category).sum + 15 ≤ lo)
    (kk : xP G Y fr lo (pc + 3) lv (.double b.toUInt64 :: st) h Q) : xP G Y fr lo pc lv (.long b :: st) h Q := by
  refine xP.step (fun p l e R s m args below meth c u0 Z H locs ls k n C hR hl9 kk => ?_) kk
  obtain ⟨cx, cb, cml, -, -, -, cown, chts, cK, cfr, clo, -⟩ := C
  exact vn_l2d cx cb (cml.trans hl9.1.symm) cown (chts _ hl) (chts _ hnat) (chts _ hstat) (chts _ hini) hv (by omega) (by omega) d (kk ls hl9)
theorem x_arec {H : Heap} {s : State} {r j : Nat} {ty : FieldType} (hR : xRel G h H) (hK : xK G s) (ht : tg h (r + 1) = 100 + j) (hj : j < 12) (hw : xGB G ≤ r) (hty : xar[j]? = some ty) : ∃ cell : Cell, H[r]? = some cell ∧ cell.vm.isStatics = false ∧ cell.cls = xGA G j := by
  have hc := (hR.2.2.2.2 r j ht).str hw hty
  refine ⟨_, hc, ?_, ?_⟩
  · generalize xev ty h (r + 1) = x
    rcases x with f | f | f | f | f <;> rfl
  · generalize xev ty h (r + 1) = x
    rcases x with f | f | f | f | f <;> rfl
/-- the class object of Object[] -/
theorem x_getC {index a : Nat} (hl : Cond.methodLink (yN Y).cls index ⟨"java/lang/Object", "getClass", "()Ljava/lang/Class;"⟩ ∈ lw_all) (hdecl : Cond.declares ⟨"java/lang/Object", "getClass", "()Ljava/lang/Class;"⟩ ∈ xnest) (hsel : Cond.selects "[Ljava/lang/Object;" ⟨"java/lang/Object", "getClass", "()Ljava/lang/Class;"⟩ ⟨"java/lang/Object", "getClass", "()Ljava/lang/Class;"⟩ ∈ lw_all) (hinst : Cond.instanceMethod ⟨"java/lang/Object", "getClass", "()Ljava/lang/Class;"⟩ ∈ lw_all) (hnat : Cond.native ⟨"java/lang/Object", "getClass", "()Ljava/lang/Class;"⟩ ∈ lw_all)
    (ht : tg h a = 105) (hw : xwr G h a) (d : decode (yC Y) pc = .ok (.invokevirtual index, 3)) (hfr : 1 ≤ fr) (hlo : (st.map fun v => v.category).sum + 14 ≤ lo) (kk : xP G Y fr lo (pc + 3) lv (rv (tx G 1000) :: st) h Q) : xP G Y fr lo pc lv (rv a :: st) h Q := by
  refine xP.step (fun p l e R s m args below meth c u0 Z H locs ls k n C hR hl9 kk => ?_) kk
  obtain ⟨r, rfl⟩ := tg_pos hR ht (by omega)
  obtain ⟨cx, cb, cml, -, -, -, cown, chts, cK, cfr, clo, -⟩ := C
  obtain ⟨cell, c1, c2, c3⟩ := x_arec hR cK (j := 5) ht (by omega) (xwr.ge hR (by omega) hw) rfl
  exact va_getC cx cb (cml.trans hl9.1.symm) cown (chts _ hl) (va_Nw.use rfl (cK.2.1 _ hdecl)) (chts _ hsel) (chts _ hinst) (chts _ hnat) cK.2.2.2.2.1 ⟨cell, c1, c2, by rw [c3]; exact va_nmO (cK.1.2 5 _ (xtys_at G (j := 5) (by omega) rfl)).2 (by decide +kernel)⟩ (by omega) (by omega) d (kk ls hl9)
theorem x_ldcM {index : Nat} (hl : Cond.classLink (yN Y).cls index "[Ljava/lang/Object;" ∈ lw_all) (d : decode (yC Y) pc = .ok (.ldc index, 2)) (kk : xP G Y fr lo (pc + 2) lv (rv (tx G 1000) :: st) h Q) : xP G Y fr lo pc lv st h Q := by
  refine xP.step (fun p l e R s m args below meth c u0 Z H locs ls k n C hR hl9 kk => ?_) kk
  obtain ⟨cx, cb, -, -, -, -, cown, chts, cK, -⟩ := C
  exact va_ldcM cx cb cown (chts _ hl) cK.2.2.2.2.1 d (kk ls hl9)
/-- casts to array kinds -/
theorem x_castO {index a : Nat} (hl : Cond.classLink (yN Y).cls index "[Ljava/lang/Object;" ∈ lw_all) (ht : tg h a = 105) (hw : xwr G h a) (d : decode (yC Y) pc = .ok (.checkcast index, 3)) (kk : xP G Y fr lo (pc + 3) lv (rv a :: st) h Q) : xP G Y fr lo pc lv (rv a :: st) h Q := by
  refine xP.step (fun p l e R s m args below meth c u0 Z H locs ls k n C hR hl9 kk => ?_) kk
  obtain ⟨r, rfl⟩ := tg_pos hR ht (by omega)
  obtain ⟨cx, cb, -, -, -, -, cown, chts, cK, -⟩ := C
  obtain ⟨cell, c1, c2, c3⟩ := x_arec hR cK (j := 5) ht (by omega) (xwr.ge hR (by omega) hw) rfl
  exact va_castE cx cb cown (chts _ hl) ⟨cell, c1, c2, by rw [c3]; exact va_nmO (cK.1.2 5 _ (xtys_at G (j := 5) (by omega) rfl)).2 (by decide +kernel)⟩ d (kk ls hl9)
theorem x_castB {index a : Nat} (hl : Cond.classLink (yN Y).cls index "[B" ∈ lw_all) (ht : tg h a = 103) (hw : xwr G h a) (d : decode (yC Y) pc = .ok (.checkcast index, 3)) (kk : xP G Y fr lo (pc + 3) lv (rv a :: st) h Q) : xP G Y fr lo pc lv (rv a :: st) h Q := by
  refine xP.step (fun p l e R s m args below meth c u0 Z H locs ls k n C hR hl9 kk => ?_) kk
  obtain ⟨r, rfl⟩ := tg_pos hR ht (by omega)
  obtain ⟨cx, cb, -, -, -, -, cown, chts, cK, -⟩ := C
  have h8 : s.vm.findClass "[B" = some (xGA G 3) := (cK.1.2 3 _ (xtys_at G (j := 3) (by omega) rfl)).2
  obtain ⟨cell, c1, c2, c3⟩ := x_arec hR cK (j := 3) ht (by omega) (xwr.ge hR (by omega) hw) rfl
  exact va_castE cx cb cown (chts _ hl) ⟨cell, c1, c2, by rw [c3]; exact h8⟩ d (kk ls hl9)
/-- null or an object of the class: instanceof -/
theorem x_inst {index ci a : Nat} {C : String} {T : u_T} {N : Nat} (h0 : ci < 99) (hc : xcl[ci]? = some (C, T, N)) (hl : Cond.classLink (yN Y).cls index C ∈ lw_all) (ht : a = 0 ∨ tg h a = ci + 1) (d : decode (yC Y) pc = .ok (.instanceof index, 3)) (kk : xP G Y fr lo (pc + 3) lv (.int (if a = 0 then 0 else 1) :: st) h Q) : xP G Y fr lo pc lv (rv a :: st) h Q := by
  refine xP.step (fun p l e R s m args below meth c u0 Z H locs ls k n C hR hl9 kk => ?_) kk
  obtain ⟨cx, cb, -, -, -, -, cown, chts, cK, -⟩ := C
  rcases ht with rfl | ht
  · exact lv_instN cx cb d (kk ls hl9)
  · obtain ⟨r, rfl⟩ := tg_pos hR ht (by omega)
    have := kk ls hl9
    rw [if_neg (Nat.succ_ne_zero r)] at this
    exact va_instE cx cb cown (chts _ hl) (x_recv hR cK ht h0 hc) d this
end XNA
