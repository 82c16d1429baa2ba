/-! texts, statics, arrays of references, casts -/
theorem xP.step2 {G : xG} {Y : xY} {fr lo pc pc' : Nat} {lv lv' : List (Nat × Value)} {st st' : List Value} {h : xH} {Q : Outcome → xH → Prop}
    (hs : ∀ (p : Program) (l : Launch) (e : Env) (R : Room) (s : State) (m : MethodId) (args : Array Value) (below : List Frame) (meth : Method) (c : Code) (u0 : Nat) (Z : State → Prop) (H : Heap) (locs : List Loc) (ls : Array Slot) (k n : Nat), xC G Y fr lo u0 p R s m args meth c → xRel G h H → lv_has ls (yL Y) lv → s.heap.size ≤ nx h → (∀ q ∈ locs, xGB G ≤ q.base) →
      (∀ ls' : Array Slot, lv_has ls' (yL Y) lv' → W p l e R s m args below meth c H locs k n Z (F0 m pc' ls' st')) → W p l e R s m args below meth c H locs k n Z (F0 m pc ls st))
    (k : xP G Y fr lo pc' lv' st' h Q) : xP G Y fr lo pc lv st h Q := by
  intro hw
  obtain ⟨o, h', w1, w2, q, w⟩ := k hw
  refine ⟨o, h', w1, w2, q, fun p l e R s m args below meth c u0 C E => ?_⟩
  intro H locs ls a1 a2 a3 a4 a5
  exact hs p l e R s m args below meth c u0 _ H locs ls _ _ C a1 a5 a2 a4 fun ls' h6 => w p l e R s m args below meth c u0 C E H locs ls' a1 a2 a3 a4 h6
theorem xldcwS {p : Program} {l : Launch} {e : Env} {R : Room} {s : State} {m : MethodId} {args : Array Value} {below : List Frame} {meth : Method} {c : Code} {T : State} {locs : List Loc} {cells slots : Nat}
    (X : Stand p l e R s m args below meth c T locs cells slots) (hexec : p.tables.exec = Jvm.exec) {own text : String} {index : Nat} {a : Addr} (hown : s.vm.findClass own = some m.cls)
    (hconst : (Cond.stringRef own index text).before #[] s = true) (hev : (Term.string own index).eval #[] s none [] s = some (.ref a)) {g : JFrame} (hg : g.method = m) (hdg : decode c.code g.pc = .ok (.ldc_w index, 3)) :
    ∀ target, Steps p.tables e below (T.setTop { g with pc := g.pc + 3, stack := .ref a :: g.stack }) target → Steps p.tables e below (T.setTop g) target := by
  obtain ⟨k, cf, i, a', hk, hcf, hcp, -, hr, hev'⟩ := Cond.stringRef_spec hown hconst
  cases hev.symm.trans hev'
  obtain ⟨k', hk', he⟩ := X.warmed.alike.2.2 _ _ hk
  have hr' : k'.resolved[index]? = some (some (.string a)) := by
    rcases X.warmed.entry hk hk' index with h | ⟨h, -⟩
    · rw [h]; exact hr
    · rw [hr] at h; cases h
  intro target hrest
  subst hg
  jvm_step X.here [hexec, hdg, ldc_w.wp_string (e := e) (s := T) (f := g) X.here.top hk' (by rw [he]; exact hcf) hcp hr']
  exact hrest
section XM
variable {G : xG} {Y : xY} {fr lo pc : Nat} {lv : List (Nat × Value)} {st : List Value} {h h1 : xH} {Q : Outcome → xH → Prop}
/-- the text number n lies at xGT G n + 1 -/
def tx (G : xG) (n : Nat) : Nat := xGT G n + 1
theorem x_ldcS {index n : Nat} (i : Nat) (hw : ∃ t, xstrs[i]? = some ((yN Y).cls, index, t, n)) (d : decode (yC Y) pc = .ok (.ldc index, 2)) (kk : xP G Y fr lo (pc + 2) lv (rv (tx G n) :: st) h Q) : xP G Y fr lo pc lv st h Q := by
  obtain ⟨t, hw⟩ := hw
  refine xP.step (fun p l e R s m args below meth c u0 Z H locs ls k n C hR hl kk => ?_) kk
  obtain ⟨cx, cb, -, -, -, -, cown, chts, cK, -⟩ := C
  exact va_ldcS cx cb cown (cK.2.2.2.1 _ (List.mem_of_getElem? hw)) d (kk ls hl)
theorem x_ldcwS {index n : Nat} (i : Nat) (hw : ∃ t, xstrs[i]? = some ((yN Y).cls, index, t, n)) (d : decode (yC Y) pc = .ok (.ldc_w index, 3)) (kk : xP G Y fr lo (pc + 3) lv (rv (tx G n) :: st) h Q) : xP G Y fr lo pc lv st h Q := by
  obtain ⟨t, hw⟩ := hw
  refine xP.step (fun p l e R s m args below meth c u0 Z H locs ls k n C hR hl kk => ?_) kk
  obtain ⟨cx, cb, -, -, -, -, cown, chts, cK, -⟩ := C
  have hz := cK.2.2.2.1 _ (List.mem_of_getElem? hw)
  intro T hT X
  obtain ⟨t', a1, b1⟩ := kk ls hl T hT X
  exact ⟨t', xldcwS X cx cown hz.1 hz.2 (g := F0 m pc ls st) rfl (by rw [cb]; exact d) t' a1, b1⟩
theorem x_gets {index : Nat} {v : Value} (k : Nat) {C n ds : String} (hk : xsts[k]? = some (C, n, ds)) (hl : Cond.fieldLink (yN Y).cls index C n ds ∈ lw_all) (hv : xsv G k = v) (d : decode (yC Y) pc = .ok (.getstatic index, 3)) (kk : xP G Y fr lo (pc + 3) lv (v :: st) h Q) : xP G Y fr lo pc lv st h Q := by
  refine xP.step2 (fun p l e R s m args below meth c u0 Z H locs ls k9 n9 C hR hl9 hs1 hs2 kk => ?_) kk
  obtain ⟨cx, cb, -, -, -, -, cown, chts, cK, -, -, -, -, cbs, cold⟩ := C
  have hZ := cK.2.2.2.2.2.1 k _ hk
  rw [hv] at hZ
  have hZ' := hZ.kept (H1 := s.heap) (fun a _ ha => cold a (by omega))
  refine va_gets cx cb hZ' ⟨by rw [← hR.1.1]; exact hs1, fun q hq hA => ?_, hs2⟩ cown (chts _ hl) (fun _ h => h) d (kk ls hl9)
  rw [hR.2.1 q (by omega), cold q (by omega)]
theorem x_cast {index ci a : Nat} {C : String} {T : u_T} {N : Nat} (h0 : ci < 99) (hc : xcl[ci]? = some (C, T, N)) (hl : Cond.classLink (yN Y).cls index C ∈ lw_all) (ht : tg h a = ci + 1) (d : decode (yC Y) pc = .ok (.checkcast index, 3)) (kk : xP G Y fr lo (pc + 3) lv (rv a :: st) h Q) : xP G Y fr lo pc lv (rv a :: st) h Q := by
  refine xP.step (fun p l e R s m args below meth c u0 Z H locs ls k n C hR hl9 kk => ?_) kk
  obtain ⟨r, rfl⟩ := tg_pos hR ht (by omega)
  obtain ⟨cx, cb, -, -, -, -, cown, chts, cK, -⟩ := C
  exact va_castS cx cb cown (chts _ hl) (cK.1.1 ci _ hc).2 (x_recv hR cK ht h0 hc) d (kk ls hl9)
/-- what may lie in an array of references of kind j: an object of class ci -/
def xas (j ci : Nat) : Prop := ∃ (E C : String) (T : u_T) (N : Nat), ci < 99 ∧ xar[j]? = some (.object E) ∧ j < 12 ∧ xcl[ci]? = some (C, T, N) ∧ (E = C ∨ Cond.castable C E ∈ xnest)
theorem x_aastN {a : Nat} {i : Int32} (j : Nat) {C : String} (hty : xar[j]? = some (.object C)) (hj : j < 12) (ht : tg h a = 100 + j) (hw : xwr G h a) (hi : vp_in i (ln h a)) (d : decode (yC Y) pc = .ok (.aastore, 1)) (e1 : h1 = tR h a i.toNatClampNeg 0) (kk : xP G Y fr lo (pc + 1) lv st h1 Q) : xP G Y fr lo pc lv (rv 0 :: .int i :: rv a :: st) h Q := by
  subst e1
  refine xP.stepH (h1 := tR h a i.toNatClampNeg 0) ⟨rfl, rfl, rfl, rfl⟩ (fun p l e R s m args below meth c u0 Z H locs ls k n C hR hl kk => ?_) kk
  obtain ⟨r, rfl⟩ := tg_pos hR ht (by omega)
  obtain ⟨cx, cb, -, -, -, -, cown, chts, cK, -⟩ := C
  have hge := xwr.ge hR (by omega) hw
  have hc := (hR.2.2.2.2 r j ht).str hge hty
  refine va_WaastN cx cb hc ((cK.1.2 j _ (xtys_at G hj hty)).1 _ _) (fun q => by cases q) (by show ¬ (i < 0 ∨ (arrV _ _ _).slots.size ≤ _); rw [arrV_size]; exact hi) rfl rfl d fun H1 e1 e2 e3 => ?_
  exact kk H1 _ (hR.puta (j := j) ht hty (by rw [e1]; exact congrArg some (xcell_R _ _ h (r + 1) _ 0)) e2 e3 hge (xsetA_R h (r + 1) _ 0)) (fun q hq => by rw [List.mem_singleton.mp hq]; exact hge)
theorem x_aast {a x : Nat} {i : Int32} (j ci : Nat) (has : xas j ci) (ht : tg h a = 100 + j) (hw : xwr G h a) (hx : tg h x = ci + 1) (hi : vp_in i (ln h a)) (d : decode (yC Y) pc = .ok (.aastore, 1)) (e1 : h1 = tR h a i.toNatClampNeg x) (kk : xP G Y fr lo (pc + 1) lv st h1 Q) : xP G Y fr lo pc lv (rv x :: .int i :: rv a :: st) h Q := by
  subst e1
  obtain ⟨E, C, T, N, h0, hty, hj, hcl, hcst⟩ := has
  refine xP.stepH (h1 := tR h a i.toNatClampNeg x) ⟨rfl, rfl, rfl, rfl⟩ (fun p l e R s m args below meth c u0 Z H locs ls k n C hR hl kk => ?_) kk
  obtain ⟨r, rfl⟩ := tg_pos hR ht (by omega)
  obtain ⟨v, rfl⟩ := tg_pos hR hx (by omega)
  obtain ⟨cx, cb, -, -, -, -, cown, chts, cK, -⟩ := C
  have hge := xwr.ge hR (by omega) hw
  have hc := (hR.2.2.2.2 r j ht).str hge hty
  obtain ⟨cellV, g1, g2, g3⟩ := x_recv hR cK hx h0 hcl
  have hcls := (cK.1.1 ci _ hcl).2
  obtain ⟨kA, comp, k1, k2, k3, -⟩ := (cK.1.2 j _ (xtys_at G hj hty)).2
  obtain ⟨f1, kC, hkC, hkd⟩ := hcls
  have hcv : (xGD G).1 ci = cellV.cls := Option.some.inj (f1.symm.trans g3)
  have hlt : i.toNatClampNeg < ln h (r + 1) := Nat.not_le.mp fun q => hi (Or.inr q)
  have hcomp : ∃ kcomp, s.vm.classes[comp]? = some kcomp ∧ s.vm.assignable cellV.cls comp = true := by
    rcases hcst with rfl | hq
    · have : comp = (xGD G).1 ci := Option.some.inj (k3.symm.trans f1)
      subst this
      exact ⟨kC, hkC, by rw [← hcv]; exact va_assign ⟨f1, kC, hkC, hkd⟩⟩
    · obtain ⟨c0, t0, w1, w2, w3⟩ := Cond.castable_spec (va_Nw.use (A := args) rfl (cK.2.1 _ hq))
      cases g3.symm.trans w1
      cases k3.symm.trans w2
      obtain ⟨kk, hkk, -⟩ := Vm.findClass_spec k3
      exact ⟨kk, hkk, w3⟩
  obtain ⟨kcomp, hkc, hasg⟩ := hcomp
  refine W.aast cx cb hc (fun q h => by cases h) (fun h => by cases h) k1 k2 rfl hkc ⟨fun q => hi (Or.inl q), by show _ < (arrV _ _ _).slots.size; rw [arrV_size]; exact hlt⟩ g1 (fun q h => by rw [h] at g2; cases g2) (by rw [← hcv]; exact hkC) hasg rfl rfl d fun H1 e1 e2 e3 => ?_
  exact kk H1 _ (hR.puta (j := j) ht hty (by rw [e1]; exact congrArg some (xcell_R _ _ h (r + 1) _ (v + 1))) e2 e3 hge (xsetA_R h (r + 1) _ (v + 1))) (fun q hq => by rw [List.mem_singleton.mp hq]; exact hge)
/-- an array of references of kind j that the method makes -/
def xAd (own : String) (index j : Nat) : Prop := ∃ C : String, j < 12 ∧ xar[j]? = some (.object C) ∧ Cond.classLink own index C ∈ lw_all ∧ C ∈ xao
theorem x_anew {n : Int32} {index a1 : Nat} (j : Nat) (hk : xAd (yN Y).cls index j) (d : decode (yC Y) pc = .ok (.anewarray index, 3)) (hn : ¬ n < 0) (hb : n.toNatClampNeg ≤ 1000000) (g1 : nx h + 1 ≤ xGN G) (g2 : us h + n.toNatClampNeg ≤ xGU G) (e0 : a1 = nx h + 1) (e1 : h1 = nA h (100 + j) n.toNatClampNeg) (kk : xfresh h a1 → xP G Y fr lo (pc + 3) lv (rv a1 :: st) h1 Q) : xP G Y fr lo pc lv (.int n :: st) h Q := by
  subst e0; subst e1
  obtain ⟨C, hj, hty, hcl, hao⟩ := hk
  intro hw0
  obtain ⟨o, h', w1, w2, q, w⟩ := kk (xfresh.of hw0) (xwf_nA hw0)
  refine ⟨o, h', w1, (xext_nA hw0).tr w2, q, fun p l e R s m args below meth c u0 C E H locs ls a1 a2 a3 a4 a5 => ?_⟩
  have C' := C
  obtain ⟨cx, cb, -, -, -, -, cown, chts, cK, -, -, cce, csl, -⟩ := C
  refine W.anew cx cb cown (chts _ hcl) (va_AO.use (cK.2.2.1 _ hao)) rfl d rfl hn (by omega) (by omega) (by omega) fun cA kA comp f1 f2 f3 f4 => ?_
  obtain ⟨kA', comp', k1, k2, k3, k4⟩ := (cK.1.2 j _ (xtys_at G hj hty)).2
  have hcA : cA = xGA G j := Option.some.inj (f1.symm.trans k4)
  subst hcA
  generalize hH1 : H.push ({ cls := xGA G j, slots := Array.replicate n.toNatClampNeg .null, vm := .none } : Cell) = H1
  have z1 : H1.size = H.size + 1 := by rw [← hH1, Array.size_push]
  have e1 : H1[H.size]? = some (arrV (xGA G j) n.toNatClampNeg (fun _ => .null)) := by rw [← hH1, Array.getElem?_push_size, ← arrV_new]
  have o1 : ∀ q : Nat, q < H.size → H1[q]? = H[q]? := fun q hq => by rw [← hH1, Array.getElem?_push, if_neg (Nat.ne_of_lt hq)]
  have hk := w p l e R s m args below meth c u0 C' E H1 locs ls (a1.newA hty (by rw [e1, nA_ev h _ _ _ (by intro h; cases h)]; rfl) z1 o1 g1 g2) (by show _ ≤ nx h + 1; omega) (by show _ ≤ us h + _; omega) a4 a5
  rw [show nx (nA h (100 + j) n.toNatClampNeg) - s.heap.size = nx h - s.heap.size + 1 from by show nx h + 1 - _ = _; omega, show us (nA h (100 + j) n.toNatClampNeg) - u0 = us h - u0 + n.toNatClampNeg from by show us h + _ - _ = _; omega, a1.1.1] at hk
  rw [a1.1.1]
  exact hk
end XM
