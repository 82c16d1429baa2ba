/-! branches -/
section XB
variable {G : xG} {Y : xY} {fr lo pc : Nat} {lv : List (Nat × Value)} {st : List Value} {h : xH} {Q : Outcome → xH → Prop}
theorem x_if_eq {x : Int32} {off : Int} {tgt : Nat} (d : decode (yC Y) pc = .ok (.ifCond .eq off, 3)) (ht : (pc : Int) + off = (tgt : Int)) (kt : x = 0 → xP G Y fr lo tgt lv st h Q) (kf : ¬ x = 0 → xP G Y fr lo (pc + 3) lv st h Q) : xP G Y fr lo pc lv (.int x :: st) h Q := by
  by_cases hx : x = 0
  · exact xP.step (fun p l e R s m args below meth c u0 Z H locs ls k n C hR hl kk => lv_if_eq C.1 C.2.1 d ht (fun _ => kk ls hl) (fun w => absurd hx (by first | exact w | exact fun q => q w))) (kt hx)
  · exact xP.step (fun p l e R s m args below meth c u0 Z H locs ls k n C hR hl kk => lv_if_eq C.1 C.2.1 d ht (fun w => absurd w hx) (fun _ => kk ls hl)) (kf (by first | exact hx | exact Classical.not_not.mp hx))
theorem x_if_ne {x : Int32} {off : Int} {tgt : Nat} (d : decode (yC Y) pc = .ok (.ifCond .ne off, 3)) (ht : (pc : Int) + off = (tgt : Int)) (kt : ¬ x = 0 → xP G Y fr lo tgt lv st h Q) (kf : x = 0 → xP G Y fr lo (pc + 3) lv st h Q) : xP G Y fr lo pc lv (.int x :: st) h Q := by
  by_cases hx : ¬ x = 0
  · exact xP.step (fun p l e R s m args below meth c u0 Z H locs ls k n C hR hl kk => lv_if_ne C.1 C.2.1 d ht (fun _ => kk ls hl) (fun w => absurd hx (by first | exact w | exact fun q => q w))) (kt hx)
  · exact xP.step (fun p l e R s m args below meth c u0 Z H locs ls k n C hR hl kk => lv_if_ne C.1 C.2.1 d ht (fun w => absurd w hx) (fun _ => kk ls hl)) (kf (by first | exact hx | exact Classical.not_not.mp hx))
theorem x_if_lt {x : Int32} {off : Int} {tgt : Nat} (d : decode (yC Y) pc = .ok (.ifCond .lt off, 3)) (ht : (pc : Int) + off = (tgt : Int)) (kt : x < 0 → xP G Y fr lo tgt lv st h Q) (kf : ¬ x < 0 → xP G Y fr lo (pc + 3) lv st h Q) : xP G Y fr lo pc lv (.int x :: st) h Q := by
  by_cases hx : x < 0
  · exact xP.step (fun p l e R s m args below meth c u0 Z H locs ls k n C hR hl kk => lv_if_lt C.1 C.2.1 d ht (fun _ => kk ls hl) (fun w => absurd hx (by first | exact w | exact fun q => q w))) (kt hx)
  · exact xP.step (fun p l e R s m args below meth c u0 Z H locs ls k n C hR hl kk => lv_if_lt C.1 C.2.1 d ht (fun w => absurd w hx) (fun _ => kk ls hl)) (kf (by first | exact hx | exact Classical.not_not.mp hx))
theorem x_if_ge {x : Int32} {off : Int} {tgt : Nat} (d : decode (yC Y) pc = .ok (.ifCond .ge off, 3)) (ht : (pc : Int) + off = (tgt : Int)) (kt : 0 ≤ x → xP G Y fr lo tgt lv st h Q) (kf : ¬ 0 ≤ x → xP G Y fr lo (pc + 3) lv st h Q) : xP G Y fr lo pc lv (.int x :: st) h Q := by
  by_cases hx : 0 ≤ x
  · exact xP.step (fun p l e R s m args below meth c u0 Z H locs ls k n C hR hl kk => lv_if_ge C.1 C.2.1 d ht (fun _ => kk ls hl) (fun w => absurd hx (by first | exact w | exact fun q => q w))) (kt hx)
  · exact xP.step (fun p l e R s m args below meth c u0 Z H locs ls k n C hR hl kk => lv_if_ge C.1 C.2.1 d ht (fun w => absurd w hx) (fun _ => kk ls hl)) (kf (by first | exact hx | exact Classical.not_not.mp hx))
theorem x_if_gt {x : Int32} {off : Int} {tgt : Nat} (d : decode (yC Y) pc = .ok (.ifCond .gt off, 3)) (ht : (pc : Int) + off = (tgt : Int)) (kt : 0 < x → xP G Y fr lo tgt lv st h Q) (kf : ¬ 0 < x → xP G Y fr lo (pc + 3) lv st h Q) : xP G Y fr lo pc lv (.int x :: st) h Q := by
  by_cases hx : 0 < x
  · exact xP.step (fun p l e R s m args below meth c u0 Z H locs ls k n C hR hl kk => lv_if_gt C.1 C.2.1 d ht (fun _ => kk ls hl) (fun w => absurd hx (by first | exact w | exact fun q => q w))) (kt hx)
  · exact xP.step (fun p l e R s m args below meth c u0 Z H locs ls k n C hR hl kk => lv_if_gt C.1 C.2.1 d ht (fun w => absurd w hx) (fun _ => kk ls hl)) (kf (by first | exact hx | exact Classical.not_not.mp hx))
theorem x_if_le {x : Int32} {off : Int} {tgt : Nat} (d : decode (yC Y) pc = .ok (.ifCond .le off, 3)) (ht : (pc : Int) + off = (tgt : Int)) (kt : x ≤ 0 → xP G Y fr lo tgt lv st h Q) (kf : ¬ x ≤ 0 → xP G Y fr lo (pc + 3) lv st h Q) : xP G Y fr lo pc lv (.int x :: st) h Q := by
  by_cases hx : x ≤ 0
  · exact xP.step (fun p l e R s m args below meth c u0 Z H locs ls k n C hR hl kk => lv_if_le C.1 C.2.1 d ht (fun _ => kk ls hl) (fun w => absurd hx (by first | exact w | exact fun q => q w))) (kt hx)
  · exact xP.step (fun p l e R s m args below meth c u0 Z H locs ls k n C hR hl kk => lv_if_le C.1 C.2.1 d ht (fun w => absurd w hx) (fun _ => kk ls hl)) (kf (by first | exact hx | exact Classical.not_not.mp hx))
theorem x_icmp_eq {x y : Int32} {off : Int} {tgt : Nat} (d : decode (yC Y) pc = .ok (.if_icmp .eq off, 3)) (ht : (pc : Int) + off = (tgt : Int)) (kt : x = y → xP G Y fr lo tgt lv st h Q) (kf : ¬ x = y → xP G Y fr lo (pc + 3) lv st h Q) : xP G Y fr lo pc lv (.int y :: .int x :: st) h Q := by
  by_cases hx : x = y
  · exact xP.step (fun p l e R s m args below meth c u0 Z H locs ls k n C hR hl kk => lv_icmp_eq C.1 C.2.1 d ht (fun _ => kk ls hl) (fun w => absurd hx (by first | exact w | exact fun q => q w))) (kt hx)
  · exact xP.step (fun p l e R s m args below meth c u0 Z H locs ls k n C hR hl kk => lv_icmp_eq C.1 C.2.1 d ht (fun w => absurd w hx) (fun _ => kk ls hl)) (kf (by first | exact hx | exact Classical.not_not.mp hx))
theorem x_icmp_ne {x y : Int32} {off : Int} {tgt : Nat} (d : decode (yC Y) pc = .ok (.if_icmp .ne off, 3)) (ht : (pc : Int) + off = (tgt : Int)) (kt : ¬ x = y → xP G Y fr lo tgt lv st h Q) (kf : x = y → xP G Y fr lo (pc + 3) lv st h Q) : xP G Y fr lo pc lv (.int y :: .int x :: st) h Q := by
  by_cases hx : ¬ x = y
  · exact xP.step (fun p l e R s m args below meth c u0 Z H locs ls k n C hR hl kk => lv_icmp_ne C.1 C.2.1 d ht (fun _ => kk ls hl) (fun w => absurd hx (by first | exact w | exact fun q => q w))) (kt hx)
  · exact xP.step (fun p l e R s m args below meth c u0 Z H locs ls k n C hR hl kk => lv_icmp_ne C.1 C.2.1 d ht (fun w => absurd w hx) (fun _ => kk ls hl)) (kf (by first | exact hx | exact Classical.not_not.mp hx))
theorem x_icmp_lt {x y : Int32} {off : Int} {tgt : Nat} (d : decode (yC Y) pc = .ok (.if_icmp .lt off, 3)) (ht : (pc : Int) + off = (tgt : Int)) (kt : x < y → xP G Y fr lo tgt lv st h Q) (kf : ¬ x < y → xP G Y fr lo (pc + 3) lv st h Q) : xP G Y fr lo pc lv (.int y :: .int x :: st) h Q := by
  by_cases hx : x < y
  · exact xP.step (fun p l e R s m args below meth c u0 Z H locs ls k n C hR hl kk => lv_icmp_lt C.1 C.2.1 d ht (fun _ => kk ls hl) (fun w => absurd hx (by first | exact w | exact fun q => q w))) (kt hx)
  · exact xP.step (fun p l e R s m args below meth c u0 Z H locs ls k n C hR hl kk => lv_icmp_lt C.1 C.2.1 d ht (fun w => absurd w hx) (fun _ => kk ls hl)) (kf (by first | exact hx | exact Classical.not_not.mp hx))
theorem x_icmp_ge {x y : Int32} {off : Int} {tgt : Nat} (d : decode (yC Y) pc = .ok (.if_icmp .ge off, 3)) (ht : (pc : Int) + off = (tgt : Int)) (kt : y ≤ x → xP G Y fr lo tgt lv st h Q) (kf : ¬ y ≤ x → xP G Y fr lo (pc + 3) lv st h Q) : xP G Y fr lo pc lv (.int y :: .int x :: st) h Q := by
  by_cases hx : y ≤ x
  · exact xP.step (fun p l e R s m args below meth c u0 Z H locs ls k n C hR hl kk => lv_icmp_ge C.1 C.2.1 d ht (fun _ => kk ls hl) (fun w => absurd hx (by first | exact w | exact fun q => q w))) (kt hx)
  · exact xP.step (fun p l e R s m args below meth c u0 Z H locs ls k n C hR hl kk => lv_icmp_ge C.1 C.2.1 d ht (fun w => absurd w hx) (fun _ => kk ls hl)) (kf (by first | exact hx | exact Classical.not_not.mp hx))
theorem x_icmp_gt {x y : Int32} {off : Int} {tgt : Nat} (d : decode (yC Y) pc = .ok (.if_icmp .gt off, 3)) (ht : (pc : Int) + off = (tgt : Int)) (kt : y < x → xP G Y fr lo tgt lv st h Q) (kf : ¬ y < x → xP G Y fr lo (pc + 3) lv st h Q) : xP G Y fr lo pc lv (.int y :: .int x :: st) h Q := by
  by_cases hx : y < x
  · exact xP.step (fun p l e R s m args below meth c u0 Z H locs ls k n C hR hl kk => lv_icmp_gt C.1 C.2.1 d ht (fun _ => kk ls hl) (fun w => absurd hx (by first | exact w | exact fun q => q w))) (kt hx)
  · exact xP.step (fun p l e R s m args below meth c u0 Z H locs ls k n C hR hl kk => lv_icmp_gt C.1 C.2.1 d ht (fun w => absurd w hx) (fun _ => kk ls hl)) (kf (by first | exact hx | exact Classical.not_not.mp hx))
theorem x_icmp_le {x y : Int32} {off : Int} {tgt : Nat} (d : decode (yC Y) pc = .ok (.if_icmp .le off, 3)) (ht : (pc : Int) + off = (tgt : Int)) (kt : x ≤ y → xP G Y fr lo tgt lv st h Q) (kf : ¬ x ≤ y → xP G Y fr lo (pc + 3) lv st h Q) : xP G Y fr lo pc lv (.int y :: .int x :: st) h Q := by
  by_cases hx : x ≤ y
  · exact xP.step (fun p l e R s m args below meth c u0 Z H locs ls k n C hR hl kk => lv_icmp_le C.1 C.2.1 d ht (fun _ => kk ls hl) (fun w => absurd hx (by first | exact w | exact fun q => q w))) (kt hx)
  · exact xP.step (fun p l e R s m args below meth c u0 Z H locs ls k n C hR hl kk => lv_icmp_le C.1 C.2.1 d ht (fun w => absurd w hx) (fun _ => kk ls hl)) (kf (by first | exact hx | exact Classical.not_not.mp hx))
theorem ro_inj {x y : Nat} : ro x = ro y ↔ x = y := by cases x <;> cases y <;> simp [ro]
theorem x_acmp_eq {x y : Nat} {off : Int} {tgt : Nat} (d : decode (yC Y) pc = .ok (.if_acmp .eq off, 3)) (ht : (pc : Int) + off = (tgt : Int)) (kt : x = y → xP G Y fr lo tgt lv st h Q) (kf : ¬ x = y → xP G Y fr lo (pc + 3) lv st h Q) : xP G Y fr lo pc lv (rv y :: rv x :: st) h Q := by
  rw [← rv_ro y, ← rv_ro x]
  by_cases hx : x = y
  · exact xP.step (fun p l e R s m args below meth c u0 Z H locs ls k n C hR hl kk => lv_acmp_eq C.1 C.2.1 d ht (fun _ => kk ls hl) (fun w => absurd (ro_inj.mpr hx) w)) (kt hx)
  · exact xP.step (fun p l e R s m args below meth c u0 Z H locs ls k n C hR hl kk => lv_acmp_eq C.1 C.2.1 d ht (fun w => absurd (ro_inj.mp w) hx) (fun _ => kk ls hl)) (kf hx)
theorem x_acmp_ne {x y : Nat} {off : Int} {tgt : Nat} (d : decode (yC Y) pc = .ok (.if_acmp .ne off, 3)) (ht : (pc : Int) + off = (tgt : Int)) (kt : ¬ x = y → xP G Y fr lo tgt lv st h Q) (kf : x = y → xP G Y fr lo (pc + 3) lv st h Q) : xP G Y fr lo pc lv (rv y :: rv x :: st) h Q := by
  rw [← rv_ro y, ← rv_ro x]
  by_cases hx : x = y
  · exact xP.step (fun p l e R s m args below meth c u0 Z H locs ls k n C hR hl kk => lv_acmp_ne C.1 C.2.1 d ht (fun w => absurd (ro_inj.mpr hx) w) (fun _ => kk ls hl)) (kf hx)
  · exact xP.step (fun p l e R s m args below meth c u0 Z H locs ls k n C hR hl kk => lv_acmp_ne C.1 C.2.1 d ht (fun _ => kk ls hl) (fun w => absurd (ro_inj.mp w) hx)) (kt hx)
theorem x_ifnull {x : Nat} {off : Int} {tgt : Nat} (d : decode (yC Y) pc = .ok (.ifnull off, 3)) (ht : (pc : Int) + off = (tgt : Int)) (kt : x = 0 → xP G Y fr lo tgt lv st h Q) (kf : ¬ x = 0 → xP G Y fr lo (pc + 3) lv st h Q) : xP G Y fr lo pc lv (rv x :: st) h Q := by
  cases x with
  | zero => exact xP.step (fun p l e R s m args below meth c u0 Z H locs ls k n C hR hl kk => lv_ifnullN C.1 C.2.1 d ht (kk ls hl)) (kt rfl)
  | succ x => exact xP.step (fun p l e R s m args below meth c u0 Z H locs ls k n C hR hl kk => lv_ifnull C.1 C.2.1 d (kk ls hl)) (kf (by omega))
theorem x_ifnonnull {x : Nat} {off : Int} {tgt : Nat} (d : decode (yC Y) pc = .ok (.ifnonnull off, 3)) (ht : (pc : Int) + off = (tgt : Int)) (kt : ¬ x = 0 → xP G Y fr lo tgt lv st h Q) (kf : x = 0 → xP G Y fr lo (pc + 3) lv st h Q) : xP G Y fr lo pc lv (rv x :: st) h Q := by
  cases x with
  | zero => exact xP.step (fun p l e R s m args below meth c u0 Z H locs ls k n C hR hl kk => lv_ifnonnullN C.1 C.2.1 d (kk ls hl)) (kf rfl)
  | succ x => exact xP.step (fun p l e R s m args below meth c u0 Z H locs ls k n C hR hl kk => lv_ifnonnull C.1 C.2.1 d ht (kk ls hl)) (kt (by omega))
theorem x_goto {off : Int} {tgt : Nat} (d : decode (yC Y) pc = .ok (.goto off, 3)) (ht : (pc : Int) + off = (tgt : Int)) (kk : xP G Y fr lo tgt lv st h Q) : xP G Y fr lo pc lv st h Q :=
  xP.step (fun p l e R s m args below meth c u0 Z H locs ls k n C hR hl kk => lv_goto C.1 C.2.1 d ht (kk ls hl)) kk
theorem x_lcmp {x y : Int64} (d : decode (yC Y) pc = .ok (.lcmp, 1)) (kk : xP G Y fr lo (pc + 1) lv (.int (lg_cmp x y) :: st) h Q) : xP G Y fr lo pc lv (.long y :: .long x :: st) h Q :=
  xP.step (fun p l e R s m args below meth c u0 Z H locs ls k n C hR hl kk => W.lcmp C.1 C.2.1 d (kk ls hl)) kk
theorem x_tin {dflt lo' hi : Int} {offs : Array Int} {len : Nat} {x : Int32} (k : Int32) {off : Int} {tgt : Nat} (hx : x = k) (d : decode (yC Y) pc = .ok (.tableswitch dflt lo' hi offs, len)) (h1 : ¬ k.toInt < lo') (h2 : ¬ hi < k.toInt) (ho : offs[(k.toInt - lo').toNat]? = some off) (ht : (pc : Int) + off = (tgt : Int)) (kk : xP G Y fr lo tgt lv st h Q) : xP G Y fr lo pc lv (.int x :: st) h Q := by
  subst hx
  exact xP.step (fun p l e R s m args below meth c u0 Z H locs ls k n C hR hl kk => lv_tableIn C.1 C.2.1 d h1 h2 ho ht (kk ls hl)) kk
theorem x_tout {dflt lo' hi : Int} {offs : Array Int} {len : Nat} {x : Int32} {tgt : Nat} (d : decode (yC Y) pc = .ok (.tableswitch dflt lo' hi offs, len)) (hx : x.toInt < lo' ∨ hi < x.toInt) (ht : (pc : Int) + dflt = (tgt : Int)) (kk : xP G Y fr lo tgt lv st h Q) : xP G Y fr lo pc lv (.int x :: st) h Q :=
  xP.step (fun p l e R s m args below meth c u0 Z H locs ls k n C hR hl kk => lv_tableOut C.1 C.2.1 d hx ht (kk ls hl)) kk
theorem x_look {dflt : Int} {ps : Array (Int × Int)} {len : Nat} {x : Int32} {off : Int} {tgt : Nat} (d : decode (yC Y) pc = .ok (.lookupswitch dflt ps, len)) (hp : (ps.toList.zip (ps.toList.drop 1)).all (fun (a, next) => a.1 < next.1) = true) (ho : Op.lookupswitch.offset ps.toList dflt x.toInt = off) (ht : (pc : Int) + off = (tgt : Int)) (kk : xP G Y fr lo tgt lv st h Q) : xP G Y fr lo pc lv (.int x :: st) h Q :=
  xP.step (fun p l e R s m args below meth c u0 Z H locs ls k n C hR hl kk => lv_lookup C.1 C.2.1 d hp ho ht (kk ls hl)) kk
theorem x_ldc {index : Nat} {v : Int32} (hw : Cond.constant (yN Y).cls index v ∈ lw_all) (d : decode (yC Y) pc = .ok (.ldc index, 2)) (kk : xP G Y fr lo (pc + 2) lv (.int v :: st) h Q) : xP G Y fr lo pc lv st h Q :=
  xP.step (fun p l e R s m args below meth c u0 Z H locs ls k n C hR hl kk => lv_ldc C.1 C.2.1 C.2.2.2.2.2.2.1 (C.2.2.2.2.2.2.2.1 _ hw) d (kk ls hl)) kk
theorem x_ldcw {index : Nat} {v : Int32} (hw : Cond.constant (yN Y).cls index v ∈ lw_all) (d : decode (yC Y) pc = .ok (.ldc_w index, 3)) (kk : xP G Y fr lo (pc + 3) lv (.int v :: st) h Q) : xP G Y fr lo pc lv st h Q :=
  xP.step (fun p l e R s m args below meth c u0 Z H locs ls k n C hR hl kk => lv_ldcw C.1 C.2.1 C.2.2.2.2.2.2.1 (C.2.2.2.2.2.2.2.1 _ hw) d (kk ls hl)) kk
theorem x_ldc2 {index : Nat} {v : Int64} (hw : Cond.constantLong (yN Y).cls index v ∈ lw_all) (d : decode (yC Y) pc = .ok (.ldc2_w index, 3)) (kk : xP G Y fr lo (pc + 3) lv (.long v :: st) h Q) : xP G Y fr lo pc lv st h Q :=
  xP.step (fun p l e R s m args below meth c u0 Z H locs ls k n C hR hl kk => lv_ldc2 C.1 C.2.1 C.2.2.2.2.2.2.1 (C.2.2.2.2.2.2.2.1 _ hw) d (kk ls hl)) kk
theorem x_ldc2d {index : Nat} {v : UInt64} (hw : Cond.constantDouble (yN Y).cls index v ∈ lw_all) (d : decode (yC Y) pc = .ok (.ldc2_w index, 3)) (kk : xP G Y fr lo (pc + 3) lv (.double v :: st) h Q) : xP G Y fr lo pc lv st h Q :=
  xP.step (fun p l e R s m args below meth c u0 Z H locs ls k n C hR hl kk => lv_ldc2d C.1 C.2.1 C.2.2.2.2.2.2.1 (C.2.2.2.2.2.2.2.1 _ hw) d (kk ls hl)) kk
theorem x_objInit {index a : Nat} (ht : tg h a ≠ 0) (hw : Cond.methodLink (yN Y).cls index Lib.objectInit ∈ lw_all) (hi : Cond.instanceMethod Lib.objectInit ∈ lw_all) (hc : Cond.code Lib.objectInit ⟨#[0xb1]⟩ 1 none ∈ lw_all) (d : decode (yC Y) pc = .ok (.invokespecial index, 3)) (hfr : 1 ≤ fr) (hlo : (st.map fun v => v.category).sum + 12 ≤ lo) (kk : xP G Y fr lo (pc + 3) lv st h Q) : xP G Y fr lo pc lv (rv a :: st) h Q := by
  refine xP.step (fun p l e R s m args below meth c u0 Z H locs ls k n C hR hl kk => ?_) kk
  obtain ⟨r, rfl⟩ := tg_pos hR rfl ht
  obtain ⟨cx, cb, cl, -, -, -, cown, chts, cK, cfr, clo, -⟩ := C
  refine W.objInit cx cb cown (chts _ hw) (chts _ hi) (chts _ hc) rfl (by rw [cl]; exact hl.1) rfl d (by omega) ?_ (kk ls hl)
  have h0 : (F0 m pc ls (rv (r + 1) :: st)).monitorRoom = 0 := rfl
  omega
end XB

