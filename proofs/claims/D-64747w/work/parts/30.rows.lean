/-! rows for the general world: what GG gives of the start, references or null, arrays of references, the classes of new arrays -/
theorem b2i_fit (b : Bool) : fits .boolean (.int (b2i b)) = true := by cases b <;> rfl
theorem rf_nar (n : String) (r : Option Nat) : narrow (.object n) (va_rf r) = va_rf r := by cases r <;> rfl
theorem rf_fit (n : String) (r : Option Nat) : fits (.object n) (va_rf r) = true := by cases r <;> rfl
theorem rf_cat (r : Option Nat) : (va_rf r).category = 1 := by cases r <;> rfl
theorem GG.at {G : Gt} {U : State} (hG : GG G U) {w : Cond} (h : w ∈ lw_tbl) : w.before #[Value.ref (gb G)] (gs G) = true := hG.2.2.1 w h
theorem GG.warm {G : Gt} {U : State} (hG : GG G U) : (gs G).WarmedH U.vm := hG.2.2.2.2.1
theorem GG.cast {G : Gt} {U : State} (hG : GG G U) {C T : String} (h : Cond.castable C T ∈ lw_tbl) : va_Nw (.castable C T) U := va_Nw.warmC hG.warm (va_Nw.of rfl (hG.at h))
theorem GG.nest {G : Gt} {U : State} (hG : GG G U) {a : String} {i : Nat} {x : MethodName} {h : String} (hm : Cond.methodLinkNest a i x h ∈ lw_tbl) : va_Nw (.methodLinkNest a i x h) U := va_Nw.warmM hG.warm (va_Nw.of rfl (hG.at hm))
theorem GG.decl {G : Gt} {U : State} (hG : GG G U) {x : MethodName} (hm : Cond.declares x ∈ lw_tbl) : va_Nw (.declares x) U := va_Nw.warmD hG.warm (va_Nw.of rfl (hG.at hm))
theorem GG.AO {G : Gt} {U : State} (hG : GG G U) {C : String} (h : Cond.arrayOver (.object C) ∈ lw_tbl) : va_AO C U := va_AO.moved hG.warm.alike (va_AO.of (hG.at h))
theorem GG.face {G : Gt} {U : State} (hG : GG G U) {C : String} {x y : MethodName} (h1 : Cond.declares x ∈ lw_tbl) (h2 : Cond.interfaceMethod x.cls x.cls x.name x.desc ∈ lw_tbl) (h3 : Cond.publicMethod y ∈ lw_tbl) (h4 : Cond.unhidden C x.name x.desc ∈ lw_tbl) (h5 : Cond.castable C x.cls ∈ lw_tbl) (hx : x.cls ≠ "java/lang/invoke/MethodHandle" ∧ x.cls ≠ "java/lang/invoke/VarHandle") : va_Fw C x y U :=
  va_Fw.moved hx hG.warm.alike (va_Fw.of (hG.at h1) (hG.at h2) (hG.at h3) (hG.at h4) (hG.at h5))
/-- what is said of the start alone -/
theorem GG.said {G : Gt} {U : State} (hG : GG G U) {w : Cond} (h : w ∈ flatC (Jvm.Cond.and given_1 narrow_1)) : w.before #[Value.ref (gb G)] (gs G) = true := flat_of_before _ hG.2.2.2.1 w h
theorem GG.nocast {G : Gt} {U : State} (hG : GG G U) {C T : String} (h : Cond.not (.castable C T) ∈ flatC (Jvm.Cond.and given_1 narrow_1)) : va_Nc C T U := va_Nc.moved hG.warm.alike (va_Nc.of (hG.said h))
theorem GG.low {G : Gt} {U : State} (hG : GG G U) : ∀ q, q < gz G → U.heap[q]? = (gs G).heap[q]? := hG.2.2.2.2.2
/-- castable gives assignable -/
theorem asg_of {U : State} {C T : String} (h : va_Nw (.castable C T) U) : ∀ comp c0 : ClassId, U.vm.findClass T = some comp → U.vm.findClass C = some c0 → U.vm.assignable c0 comp = true := by
  intro comp c0 h1 h2
  obtain ⟨c, t, g1, g2, g3⟩ := Cond.castable_spec (va_Nw.use (A := #[]) rfl h)
  rw [h2] at g1; rw [h1] at g2
  cases g1; cases g2
  exact g3
/-- an object of the world may stand in an array of Object -/
theorem any_of {G : Gt} {U : State} {H : Heap} {w : va_W} {v ci : Nat} {fs : List Value} {r : vw_C} {E : String} (hG : GG G U) (hP : wP G w H) (hm : (v, .inr (ci, fs)) ∈ w) (hc : vwCl[ci]? = some r) (h : Cond.castable r.1 E ∈ lw_tbl) : va_Any E U H v := by
  obtain ⟨k, hk⟩ := List.getElem?_of_mem hm
  exact va_rAny hG.K hP hk hc (asg_of (hG.cast h))
theorem arrP {G : Gt} {s : State} {cA : ClassId} {ty : FieldType} {k : Nat} (hra : ∀ c, va_RA s c ty = (s.vm.findClass ("[" ++ ty.toString) = some c)) (hk : (gT G)[k]? = some (gA G k, ty)) (hG : GG G s) (hK : va_K (gD G) vwCl (gT G ++ [(cA, ty)]) s) : cA = gA G k := by
  have h1 := (hK.2 8 (cA, ty) rfl).2
  have h2 := (hG.K.2 k _ hk).2
  rw [hra] at h1 h2
  exact Option.some.inj (h1.symm.trans h2)
theorem arrQ {G : Gt} {s : State} {cA : ClassId} {C : String} {k : Nat} (hk : (gT G)[k]? = some (gA G k, .object C)) (hG : GG G s) (hK : va_K (gD G) vwCl (gT G ++ [(cA, .object C)]) s) : cA = gA G k := by
  obtain ⟨-, -, -, -, -, h1⟩ := (hK.2 8 (cA, .object C) rfl).2
  obtain ⟨-, -, -, -, -, h2⟩ := (hG.K.2 k _ hk).2
  exact Option.some.inj (h1.symm.trans h2)
section Rows
variable {p : Program} {l : Launch} {e : Env} {R : Room} {s : State} {m : MethodId} {args : Array Value} {below : List Frame} {meth : Method} {c : Code} {H : Heap} {locs : List Loc} {cells slots : Nat} {Q : State → Prop} {cc : ByteArray} {pc : Nat} {ls : Array Slot} {rest : List Value} {A0 : Nat → Prop} {D : va_G} {cl : List vw_C} {tys : List (ClassId × FieldType)} {ws : va_W} {H0 : Heap} {a j n : Nat} {cA : ClassId}
theorem al_q_n (hx : p.tables.exec = Jvm.exec) (hb : c.code = cc) {k : Fin 4} {i : Nat} {x : Option Nat} (hdg : decode cc pc = .ok (.aload_n k, 1)) (hi : (k : Nat) = i) (hl : ls[i]? = some (.val (va_rf x)))
    (kk : W p l e R s m args below meth c H locs cells slots Q (F0 m (pc + 1) ls (va_rf x :: rest))) : W p l e R s m args below meth c H locs cells slots Q (F0 m pc ls rest) := by
  cases x with
  | none => exact lv_aload_nN hx hb hdg hi hl kk
  | some x => exact lv_aload_n hx hb hdg hi hl kk
theorem al_q (hx : p.tables.exec = Jvm.exec) (hb : c.code = cc) {i : Nat} {x : Option Nat} (hdg : decode cc pc = .ok (.aload i, 2)) (hl : ls[i]? = some (.val (va_rf x)))
    (kk : W p l e R s m args below meth c H locs cells slots Q (F0 m (pc + 2) ls (va_rf x :: rest))) : W p l e R s m args below meth c H locs cells slots Q (F0 m pc ls rest) := by
  cases x with
  | none => exact lv_aloadN hx hb hdg hl kk
  | some x => exact lv_aload hx hb hdg hl kk
theorem as_q_n (hx : p.tables.exec = Jvm.exec) (hb : c.code = cc) {k : Fin 4} {i nL : Nat} {x : Option Nat} {lv lv' : List (Nat × Value)} (hdg : decode cc pc = .ok (.astore_n k, 1)) (hi : (k : Nat) = i) (h : lv_has ls nL lv) (hn : i < nL) (hl : (i, va_rf x) :: lv.filter (fun q => !(q.1 == i) && !(q.1 + 1 == i && q.2.category == 2)) = lv')
    (kk : ∀ ls' : Array Slot, lv_has ls' nL lv' → W p l e R s m args below meth c H locs cells slots Q (F0 m (pc + 1) ls' rest)) : W p l e R s m args below meth c H locs cells slots Q (F0 m pc ls (va_rf x :: rest)) := by
  cases x with
  | none => exact lv_astore_nN hx hb hdg hi h hn hl kk
  | some x => exact lv_astore_n hx hb hdg hi h hn hl kk
theorem as_q (hx : p.tables.exec = Jvm.exec) (hb : c.code = cc) {i nL : Nat} {x : Option Nat} {lv lv' : List (Nat × Value)} (hdg : decode cc pc = .ok (.astore i, 2)) (h : lv_has ls nL lv) (hn : i < nL) (hl : (i, va_rf x) :: lv.filter (fun q => !(q.1 == i) && !(q.1 + 1 == i && q.2.category == 2)) = lv')
    (kk : ∀ ls' : Array Slot, lv_has ls' nL lv' → W p l e R s m args below meth c H locs cells slots Q (F0 m (pc + 2) ls' rest)) : W p l e R s m args below meth c H locs cells slots Q (F0 m pc ls (va_rf x :: rest)) := by
  cases x with
  | none => exact lv_astoreN hx hb hdg h hn hl kk
  | some x => exact lv_astore hx hb hdg h hn hl kk
theorem la_ld (hx : p.tables.exec = Jvm.exec) (hb : c.code = cc) {f : Nat → Int64} (hK : va_K D cl tys s) (hP : va_P D cl ws H) (q0 t0 : Nat) (ha : ws[q0]? = some (a, .inl (cA, n, .inr (.inl f)))) (ht : tys[t0]? = some (cA, .long)) (hj : j < n) (hn : n < 2 ^ 31) (hdg : decode cc pc = .ok (.laload, 1))
    (kk : W p l e R s m args below meth c H locs cells slots Q (F0 m (pc + 1) ls (.long (f j) :: rest))) : W p l e R s m args below meth c H locs cells slots Q (F0 m pc ls (.int (nI j) :: .ref a :: rest)) := by
  refine va_lald hx hb hK hP q0 t0 ha ht (vp_in_nI hj hn) hdg ?_
  rw [nI_clamp (by omega)]
  exact kk
theorem la_st (hx : p.tables.exec = Jvm.exec) (hb : c.code = cc) {f : Nat → Int64} (hK : va_K D cl tys s) (hP : va_P D cl ws H) (hD : va_D A0 ws) (hS : va_S A0 H0 H locs) (q0 t0 : Nat) (ha : ws[q0]? = some (a, .inl (cA, n, .inr (.inl f)))) (ht : tys[t0]? = some (cA, .long)) {x : Int64} (hj : j < n) (hn : n < 2 ^ 31) (hdg : decode cc pc = .ok (.lastore, 1))
    (kk : ∀ (H1 : Heap) (locs1 : List Loc), va_P D cl (ws.set q0 (a, .inl (cA, n, .inr (.inl (vp_updL f j x))))) H1 → va_D A0 (ws.set q0 (a, .inl (cA, n, .inr (.inl (vp_updL f j x))))) → va_S A0 H0 H1 locs1 → W p l e R s m args below meth c H1 locs1 cells slots Q (F0 m (pc + 1) ls rest)) : W p l e R s m args below meth c H locs cells slots Q (F0 m pc ls (.long x :: .int (nI j) :: .ref a :: rest)) := by
  refine va_last hx hb hK hP hD hS q0 t0 ha ht (vp_in_nI hj hn) hdg ?_
  rw [nI_clamp (by omega)]
  exact kk
theorem qa_ld (hx : p.tables.exec = Jvm.exec) (hb : c.code = cc) {f : Nat → Option Nat} {C : String} (hK : va_K D cl tys s) (hP : va_P D cl ws H) (q0 t0 : Nat) (ha : ws[q0]? = some (a, .inl (cA, n, .inr (.inr (.inr (.inr f)))))) (ht : tys[t0]? = some (cA, .object C)) (hj : j < n) (hn : n < 2 ^ 31) (hdg : decode cc pc = .ok (.aaload, 1))
    (kk : W p l e R s m args below meth c H locs cells slots Q (F0 m (pc + 1) ls (va_rf (f j) :: rest))) : W p l e R s m args below meth c H locs cells slots Q (F0 m pc ls (.int (nI j) :: .ref a :: rest)) := by
  refine va_aldq hx hb hK hP q0 t0 ha ht (vp_in_nI hj hn) hdg ?_
  rw [nI_clamp (by omega)]
  exact kk
theorem qa_sn (hx : p.tables.exec = Jvm.exec) (hb : c.code = cc) {f : Nat → Option Nat} {C : String} (hK : va_K D cl tys s) (hP : va_P D cl ws H) (hD : va_D A0 ws) (hS : va_S A0 H0 H locs) (q0 t0 : Nat) (ha : ws[q0]? = some (a, .inl (cA, n, .inr (.inr (.inr (.inr f)))))) (ht : tys[t0]? = some (cA, .object C)) (hj : j < n) (hn : n < 2 ^ 31) (hdg : decode cc pc = .ok (.aastore, 1))
    (kk : ∀ (H1 : Heap) (locs1 : List Loc), va_P D cl (ws.set q0 (a, .inl (cA, n, .inr (.inr (.inr (.inr (va_up f j none))))))) H1 → va_D A0 (ws.set q0 (a, .inl (cA, n, .inr (.inr (.inr (.inr (va_up f j none))))))) → va_S A0 H0 H1 locs1 → W p l e R s m args below meth c H1 locs1 cells slots Q (F0 m (pc + 1) ls rest)) : W p l e R s m args below meth c H locs cells slots Q (F0 m pc ls (.null :: .int (nI j) :: .ref a :: rest)) := by
  refine va_astqN hx hb hK hP hD hS q0 t0 ha ht (vp_in_nI hj hn) hdg ?_
  rw [nI_clamp (by omega)]
  exact kk
theorem qa_st (hx : p.tables.exec = Jvm.exec) (hb : c.code = cc) {f : Nat → Option Nat} {C : String} {v : Nat} (hK : va_K D cl tys s) (hP : va_P D cl ws H) (hD : va_D A0 ws) (hS : va_S A0 H0 H locs) (q0 t0 : Nat) (ha : ws[q0]? = some (a, .inl (cA, n, .inr (.inr (.inr (.inr f)))))) (ht : tys[t0]? = some (cA, .object C)) (hr : va_Any C s H v) (hj : j < n) (hn : n < 2 ^ 31) (hdg : decode cc pc = .ok (.aastore, 1))
    (kk : ∀ (H1 : Heap) (locs1 : List Loc), va_P D cl (ws.set q0 (a, .inl (cA, n, .inr (.inr (.inr (.inr (va_up f j (some v)))))))) H1 → va_D A0 (ws.set q0 (a, .inl (cA, n, .inr (.inr (.inr (.inr (va_up f j (some v)))))))) → va_S A0 H0 H1 locs1 → W p l e R s m args below meth c H1 locs1 cells slots Q (F0 m (pc + 1) ls rest)) : W p l e R s m args below meth c H locs cells slots Q (F0 m pc ls (.ref v :: .int (nI j) :: .ref a :: rest)) := by
  refine va_astqM hx hb hK hP hD hS q0 t0 ha ht hr (vp_in_nI hj hn) hdg ?_
  rw [nI_clamp (by omega)]
  exact kk
/-- an array of int arrays -/
theorem ga_ld (hx : p.tables.exec = Jvm.exec) (hb : c.code = cc) {f : Nat → Option Nat} (hK : va_K D cl tys s) (hP : va_P D cl ws H) (q0 t0 : Nat) (ha : ws[q0]? = some (a, .inl (cA, n, .inr (.inr (.inr (.inr f)))))) (ht : tys[t0]? = some (cA, .array .int)) (hj : j < n) (hn : n < 2 ^ 31) (hdg : decode cc pc = .ok (.aaload, 1))
    (kk : W p l e R s m args below meth c H locs cells slots Q (F0 m (pc + 1) ls (va_rf (f j) :: rest))) : W p l e R s m args below meth c H locs cells slots Q (F0 m pc ls (.int (nI j) :: .ref a :: rest)) := by
  have hin := vp_in_nI hj hn
  have hlt : (nI j).toNatClampNeg < n := Nat.not_le.mp fun q => hin (Or.inr q)
  refine W.aald (v := va_rf (f (nI j).toNatClampNeg)) (ty := .array .int) hx hb (hP q0 _ ha) ((hK.2 t0 _ ht).1 n (fun j => va_rf (f j))) rfl (fun q => by cases q) (by show ¬ (nI j < 0 ∨ (arrV _ _ _).slots.size ≤ _); rw [arrV_size]; exact hin) (by show (arrV _ _ _).slots[_]? = _; rw [arrV_read _ _ hlt]) rfl rfl hdg ?_
  rw [nI_clamp (by omega)]
  exact kk
end Rows
