/-! a method that throws (MetT), the VM's own index exception, catching it, methods with handlers -/
theorem GG.lsta {G : Gt} {U : State} (hG : GG G U) {C n d : String} (h : Cond.laysStatic C n d ∈ lw_tbl) (A : Array Value) : (Cond.laysStatic C n d).before A U = true := by
  have h1 := Cond.laysStatic_setVm hG.warm.alike (hG.at h)
  obtain ⟨c, k, i, f, a, cell, hc, hi, hst, ha, hcell, hs, hcls, hlt, hty⟩ := Cond.laysStatic_spec h1
  have hlt' : a < gz G := (Array.getElem?_eq_some_iff.mp hcell).1
  exact Cond.laysStatic_of (s := U) hc hi hst ha (by rw [hG.low a hlt']; exact hcell) hs hcls hlt hty
theorem GG.sref {G : Gt} {U : State} (hG : GG G U) {C n d : String} (h1 : Cond.laysStatic C n d ∈ lw_tbl) (h2 : Cond.initialized C ∈ lw_tbl) (h3 : (Cond.isRef (.static C n d)).before #[Value.ref (gb G)] (gs G) = true) (A : Array Value) : (Cond.isRef (.static C n d)).before A U = true := by
  cases hv : (Term.static C n d).eval #[Value.ref (gb G)] (gs G) none [] (gs G) with
  | none => simp [Cond.before, Cond.holds, Cond.value, hv] at h3
  | some v =>
    have z := va_Zof (A := fun q => gz G ≤ q) (hG.at h1) (hG.at h2) hv (fun a h1 h2 => absurd h1 (Nat.not_lt.mpr h2))
    have z := va_Z.kept (H1 := U.heap) (va_Z.moved hG.warm.alike z) (fun q h1 h2 => hG.low q h1)
    obtain ⟨cf, kf, fi, f, a, cell, e1, e2, e3, e4, e5, e6, e7, e8⟩ := z
    have he : (Term.static C n d).eval A U none [] U = some v := by simp [Term.eval, State.fieldNamed?, e1, e2, e4, e5, e6, e7]
    simp only [Cond.before, Cond.holds, Cond.value, hv] at h3
    simp only [Cond.before, Cond.holds, Cond.value, he]
    exact h3
def MQT (below : List Frame) (Qt : State → Nat → State → Prop) (s : State) (mc ms : Nat) : State → Prop := fun t =>
  ∃ x, t.status = .running ∧ Ended t below (.threw x) ∧ Qt s x t ∧ s.WarmedH t.vm ∧ s.sameButNew ({ t with vm := s.vm } : State) [] mc ms
abbrev MetT (l : Launch) (y : MethodName) (ws : List Cond) (rm : Room) (Pc : Array Value → State → Prop) (Qt : State → Nat → State → Prop) (mc ms : Nat) : Prop :=
  MetFree l y (headSpec ws rm) Pc (fun _ _ _ _ _ => True) (fun _ st o t => ∃ x, o = .threw x ∧ Qt st x t ∧ st.WarmedH t.vm ∧ st.sameButNew ({ t with vm := st.vm } : State) [] mc ms)
theorem mkT {l : Launch} {G : Gt} {y : MethodName} {b : ByteArray} {L : Nat} {r : Option FieldType} {rm : Room} {av : List Value} {w0 : va_W} {Qt : State → Nat → State → Prop} {mc ms : Nat} (hy : plainName y.cls = true) (hL : (lg_sl av).length ≤ L)
    (h : ∀ (p : Program) (e : Env) (s : State) (m : MethodId) (below : List Frame) (meth : Method) (c : Code), p.tables.exec = Jvm.exec → c.code = b → (∀ w ∈ lw_all, w.before av.toArray s = true) → s.vm.findClass y.cls = some m.cls → meth.locks = false → c.maxLocals = L → c.exceptionTable.toList = [] → GG G s → wP G w0 s.heap → ∀ ls : Array Slot, lv_has ls L (lv_args 0 av) →
      W p l e rm s m av.toArray below meth c s.heap [] 0 0 (MQT below Qt s mc ms) (F0 m 0 ls [])) :
    MetT l y (ws_ y b L r) rm (PcR G av w0) Qt mc ms := by
  refine MetFree.of_bodyS (code := b) (maxLocals := L) (ret := r) hy ?_ ?_
  · intro args s m h hn
    obtain ⟨meth, c, h1, h2, h3, h4, h5, h6, -, -⟩ := Cond.code_spec hn (atoms_spec (ws := ws_ y b L r) h _ List.mem_cons_self)
    exact ⟨meth, c, h1, h2, h3, h4, h5, h6⟩
  · intro p e s m args below meth c s₁ B hml hv _
    obtain ⟨rfl, hG, hP⟩ := hv
    have hts := atoms_spec (ws := ws_ y b L r) B.pre
    have hh0 : s₁.heap = s.heap := by rw [B.state]; rfl
    obtain ⟨meth', c', h1, h2, -, -, -, -, hem, -⟩ := Cond.code_spec B.named (hts _ List.mem_cons_self)
    have X : Stand p l e rm s m av.toArray below meth c s₁ [] 0 0 := Stand.of_body B
    cases B.method.symm.trans h1
    cases X.code.symm.trans h2
    have h0 : c.exceptionTable.size = 0 := by simpa [Array.isEmpty] using hem
    have ht : c.exceptionTable.toList = [] := List.eq_nil_of_length_eq_zero (by simpa using h0)
    obtain ⟨t, a1, x, b1, b2, b3, b4, b5⟩ := h p e s m below meth c B.exec B.bytes (fun w h => hts w (List.mem_cons_of_mem _ h)) (findClass_of_methodNamed B.named) B.notSynchronized hml ht hG hP _ (lv_entry av hL) s₁ hh0 X
    exact ⟨t, _, by rw [lg_entry_eq]; exact a1, b1, b2, x, rfl, b3, b4, b5⟩
/-- what comes with the VM's index exception -/
def excQ : State → Nat → State → Prop := fun st x t => ∃ cell : Cell, t.heap[x]? = some cell ∧ st.vm.findClass Bundle.idxN = some cell.cls ∧ cell.vm = .none
theorem old_kept {s s' : State} {mc ms : Nat} (h : s.sameButNew s' [] mc ms) : s.heap.size ≤ s'.heap.size ∧ ∀ q : Nat, q < s.heap.size → s'.heap[q]? = s.heap[q]? := by
  obtain ⟨-, z1, -, -, -, z5⟩ := h
  refine ⟨z1, fun q hq => ?_⟩
  obtain ⟨c', g1, g2, g3, g4⟩ := z5 q _ (Array.getElem?_eq_getElem hq)
  have e : c'.slots = s.heap[q].slots := by
    apply Array.ext_getElem?
    intro i
    exact g4 i List.not_mem_nil
  rw [g1, Array.getElem?_eq_getElem hq, g2, e]
theorem fh_cold {E : CtlPost} {e : Env} {d : Bool} {acts : List Action} {s : State} {f : JFrame} {a : Nat} {Q : Handler → Pre} {x : ExceptionTableEntry} {t : List ExceptionTableEntry} {c : ClassId} {cell : Cell} {vm' : Vm} (hx : covers x f.pc = true) (h0 : x.catchType ≠ 0)
    (hg : (Jvm.resolveClass f.method.cls x.catchType).Gives e.toSetting s.vm (.ok c) vm') (hsz : vm'.classes.size ≤ s.vm.classes.size) (hcell : s.heap[a]? = some cell) (hobj : ∀ k, cell.vm ≠ .statics k) (hk : ∃ k, vm'.classes[cell.cls]? = some k) (hc : ∃ k, vm'.classes[c]? = some k) (hfit : vm'.assignable cell.cls c = true) :
    wp (findHandler.go f a (x :: t)) Q E e d acts s ↔ Q (.found x.handlerPc) d acts (s.setVm vm') := by
  simp only [covers] at hx
  obtain ⟨ha, ht⟩ := hg.op (op := VmOp.resolveClass f.method.cls x.catchType) rfl
  simp [findHandler.go, hx, h0, ha, ht, hsz, hcell, hobj, hk, hc, hfit, VmOp.dirties, VmOp.acts]
theorem caughtCold {tb : Tables} {e : Env} {s target : State} {g : JFrame} {c : Code} {below : List Frame} {a : Nat} (h : At s g.method c below) {pc : Nat} {vm' : Vm}
    (hfind : ∀ (Q : Handler → Pre) (E : CtlPost) (d : Bool) (acts : List Action), wp (findHandler g a) Q E e d acts ((s.setTop g).pushFrame (.throwing a)) ↔ Q (.found pc) d acts (((s.setTop g).pushFrame (.throwing a)).setVm vm'))
    (hrest : Steps tb e below ((s.setVm vm').setTop { g with pc := pc, stack := [.ref a] }) target) : Steps tb e below ((s.setTop g).pushFrame (.throwing a)) target := by
  obtain ⟨hgo, hw⟩ := h.throwing a
  refine Steps.head hgo hw ?_
  rw [stepThread_throwing (frames_entered h.top _)]
  have e1 : (stepThrowing e ((s.setTop g).pushFrame (.throwing a)) a (.java g :: s.frames.tail)).1 = (((s.setTop g).pushFrame (.throwing a)).setVm vm').setFrames (.java { g with pc := pc, stack := [.ref a] } :: s.frames.tail) := by
    simp only [stepThrowing, searchFrame, vmDo]
    generalize hr : Sem.go _ e false [] _ = res
    obtain ⟨as, rfl, -⟩ := Sem.eq_ok_of hr (a := Handler.found pc) (s' := ((s.setTop g).pushFrame (.throwing a)).setVm vm') (acts' := []) (by simp [hfind _ _ _ _])
    rfl
  rw [e1]
  obtain ⟨g₀, hg⟩ := Option.isSome_iff_exists.mp h.top
  obtain ⟨r, hr⟩ := State.topJava?_eq_some.mp hg
  have hr2 : (s.setVm vm').frames = .java g₀ :: r := hr
  rw [State.setTop_of_frames _ hr2] at hrest
  have e2 : (((s.setTop g).pushFrame (.throwing a)).setVm vm').setFrames (.java { g with pc := pc, stack := [.ref a] } :: s.frames.tail) = (s.setVm vm').setFrames (.java { g with pc := pc, stack := [.ref a] } :: r) := by
    rw [State.pushFrame, State.setTop_of_frames _ hr, State.setFrames_setFrames, hr]
    show ((s.setVm vm').setFrames _).setFrames _ = _
    rw [State.setFrames_setFrames]
    rfl
  rw [e2]
  exact hrest
section Catch
variable {p : Program} {l : Launch} {e : Env} {R : Room} {s : State} {m : MethodId} {args : Array Value} {below : List Frame} {meth : Method} {c : Code} {H : Heap} {locs : List Loc} {cells slots : Nat} {Q : State → Prop} {cc : ByteArray} {pc : Nat} {ls : Array Slot} {rest st0 : List Value}
variable {y : MethodName} {bytes : ByteArray} {maxL nL mc ms n index : Nat} {ret : Option FieldType} {ws : List Cond} {rm : Room} {Pc : Array Value → State → Prop} {Qt : State → Nat → State → Prop} {Qc : Array Value → State → Outcome → State → Prop} {free : Addr → Prop} {Ts : List Cond} {own C : String} {b : Addr} {As : List Value} {g : JFrame} {hh : List (Nat × Nat × Nat × Nat)}
/-- an instance method is called, throws, and this method's first handler takes it -/
theorem catchV (S : CallFix p m c cc nL s args Ts own) (hM : MetT l y ws rm Pc Qt mc ms) (cw : CallW R s args own C index y bytes maxL ret ws rm mc ms n) (hp : PreV s H C b Pc As)
    (hn : As.length = n) (hsize : ls.size = nL) (hstack : st0 = As.reverse ++ .ref b :: rest) (hW : 2 * (F0 m pc ls rest).monitorRoom + (rest.map fun v => v.category).sum ≤ 8) (hdg : decode cc pc = .ok (.invokevirtual index, 3)) (hf : cells + mc ≤ R.cells ∧ slots + ms ≤ R.slots)
    {x0 : ExceptionTableEntry} {t0 : List ExceptionTableEntry} (htab : c.exceptionTable.toList = x0 :: t0) (hcov : covers x0 pc = true) (hct : x0.catchType ≠ 0) {CE : String} (hlk : (Cond.classLink own x0.catchType CE).before args s = true)
    (hQ : ∀ st x t, Qt st x t → ∃ cell : Cell, t.heap[x]? = some cell ∧ st.vm.findClass CE = some cell.cls ∧ cell.vm = .none) (hself : va_Nw (.castable CE CE) s)
    (kk : ∀ (x : Nat) (H1 : Heap), H.size ≤ H1.size → (∀ q : Nat, q < H.size → H1[q]? = H[q]?) → W p l e R s m args below meth c H1 locs (cells + mc) (slots + ms) Q (F0 m x0.handlerPc ls [.ref x])) :
    W p l e R s m args below meth c H locs cells slots Q (F0 m pc ls st0) := by
  obtain ⟨⟨hrc, hrs, hfr, hlo, hws, hcw, hcode, hini, hy, hlen, hl⟩, hin, hse⟩ := cw
  obtain ⟨hx, hb, hml, ho, -⟩ := S
  obtain ⟨hbl, ⟨cellB, hcB, hoB, hclB⟩, hPc⟩ := hp
  intro T hT X
  obtain ⟨mk, methM, hnamed, hmethM, hstM, habM⟩ := Cond.instanceMethod_spec hin
  obtain ⟨methM', cM, hmethM', hcM, -, hlM, -, -, -, hsigM⟩ := Cond.code_spec hnamed hcode
  cases hmethM.symm.trans hmethM'
  obtain ⟨c2, r2, m2, q1, q2, q3, q4, kP, hkP, hkPi⟩ := Cond.selects_spec hse
  cases hclB.symm.trans q1
  cases (State.methodFound?_of_named hnamed hy).symm.trans q2
  cases hnamed.symm.trans q3
  have hselP : selectMethod e.platform s.vm cellB.cls mk = .method mk := by rw [Launch.admits_selectMethod X.admits]; exact q4
  obtain ⟨vm₁, X₁, hstep₁⟩ := X.invokevirtual hx ho hl hnamed hmethM hstM hkP hkPi hy (a := b) (cell := cellB) (by rw [hT]; exact hcB)
    (fun z h => by rw [h] at hoB; cases hoB) hselP hmethM habM hkP hkPi (g := F0 m pc ls st0) rfl (argsL := As) (rest := rest) (hn.trans (hlen _ hsigM)) hstack (by rw [hb]; exact hdg)
  have hinitY : kP.init = .initialized := Cond.initialized_spec (findClass_of_methodNamed hnamed) hkP hini
  obtain ⟨k₁, hk₁, he₁⟩ := X₁.warmed.alike.2.2 _ _ hkP
  have hA : At (T.setVm vm₁) m c below := X₁.here
  have hmk : (T.setVm vm₁).vm.method? mk = some methM := by rw [X₁.warmed.alike.method?]; exact hmethM
  have happ : (headSpec ws rm).appliesLoose y e.platform ((T.setVm vm₁).calling (F0 m pc ls rest) mk (Value.ref b :: As).toArray) = true :=
    Spec.appliesLoose_calling (g := F0 m pc ls rest) hA (by rw [hb]; exact hdg) (X₁.named hnamed) hk₁ (by rw [he₁]; exact hinitY)
      (X₁.room_calling (g := F0 m pc ls rest) (R' := rm) (hsize.trans hml.symm) hmk hcM hfr (by rw [hlM]; exact Nat.le_trans (Nat.add_le_add_right (Nat.add_le_add_right hW _) _) hlo) (by rw [hrc]; exact hf.1) (by rw [hrs]; exact hf.2)) (atoms_intro fun w hw => hws w hw _ _ X₁.warmed)
  have hP0 : Pc (Value.ref b :: As).toArray ((T.setVm vm₁).calling (F0 m pc ls rest) mk (Value.ref b :: As).toArray) := hbl _ _ _ _ (hPc (T.setVm vm₁) hT X₁.warmed)
  obtain ⟨mid, hmid⟩ := hA.above
  have hfr0 : ((T.setVm vm₁).setTop (F0 m pc ls rest)).frames = (.java (F0 m pc ls rest) :: mid) ++ below := by rw [State.frames_setTop' _ hA.top, hmid]; rfl
  obtain ⟨o, s₂, hsteps, -, hend, x, rfl, hq, hW₂, hsame⟩ := Steps.callFree hM p X.admits X.cas X.clock (acts := []) hfr0 happ hP0 trivial
  rw [State.frames_setTop' _ hA.top] at hend
  have hfs : s₂.frames = .throwing x :: .java (F0 m pc ls rest) :: (T.setVm vm₁).frames.tail := hend
  obtain ⟨hz, hkeep⟩ := old_kept hsame
  have hW' : (T.setVm vm₁).WarmedH s₂.vm := hW₂
  obtain ⟨g₀, hg0⟩ := Option.isSome_iff_exists.mp hA.top
  obtain ⟨r, hr⟩ := State.topJava?_eq_some.mp hg0
  have hsameB : (T.setVm vm₁).sameButNew ({ T.setVm vm₁ with heap := s₂.heap, slotsUsed := s₂.slotsUsed } : State) [] mc ms := by
    obtain ⟨-, z1, z2, z3, z4, z5⟩ := hsame
    refine ⟨?_, z1, z2, z3, z4, z5⟩
    obtain ⟨t, ht, -⟩ := State.frames_cons hr
    show ({ T.setVm vm₁ with heap := s₂.heap, slotsUsed := s₂.slotsUsed } : State) = { (T.setVm vm₁).setFrames (T.setVm vm₁).frames with heap := s₂.heap, slotsUsed := s₂.slotsUsed }
    rw [State.setFrames_self ht]
  have XB : Stand p l e R s m args below meth c (({ T.setVm vm₁ with heap := s₂.heap, slotsUsed := s₂.slotsUsed } : State).setVm s₂.vm) locs (cells + mc) (slots + ms) := by
    have h := X₁.same.trans (hsameB.setVm s.vm)
    rw [List.append_nil] at h
    exact ⟨X₁.admits, X₁.cas, X₁.clock, X₁.frames, X₁.room, X₁.hears, X₁.method, X₁.code, (X₁.here.setHeapUsed s₂.heap s₂.slotsUsed).setVm hW'.alike, X₁.tail, State.WarmedH.trans X₁.warmed hW', X₁.limits, X₁.bytes, h⟩
  have hs₂ : s₂ = ((({ T.setVm vm₁ with heap := s₂.heap, slotsUsed := s₂.slotsUsed } : State).setVm s₂.vm).setTop (F0 m pc ls rest)).pushFrame (.throwing x) := by
    have hrB : (({ T.setVm vm₁ with heap := s₂.heap, slotsUsed := s₂.slotsUsed } : State).setVm s₂.vm).frames = .java g₀ :: r := hr
    have e3 : s₂ = ({ s₂ with vm := ((T.setVm vm₁).calling (F0 m pc ls rest) mk (Value.ref b :: As).toArray).vm } : State).setVm s₂.vm := rfl
    have e2 := hsame.1
    rw [show (((T.setVm vm₁).setTop (F0 m pc ls rest)).pushFrame (.invoking mk (Value.ref b :: As).toArray)) = (T.setVm vm₁).calling (F0 m pc ls rest) mk (Value.ref b :: As).toArray from rfl] at e2
    rw [e2] at e3
    refine e3.trans ?_
    rw [show ({ s₂ with vm := ((T.setVm vm₁).calling (F0 m pc ls rest) mk (Value.ref b :: As).toArray).vm } : State).frames = s₂.frames from rfl, hfs, State.calling_eq hA.top, State.setFrames_setFrames, State.pushFrame, State.frames_setTop _ hrB, State.setTop_of_frames _ hrB, State.setFrames_setFrames, hr]
    rfl
  have hpl : e.platform.magicAccessors = ({} : Platform).magicAccessors := by rw [X.admits.platform]
  obtain ⟨cE, hcE, hcl⟩ := Cond.classLink_spec ho hlk e.platform hpl
  obtain ⟨hgv, hWv, -⟩ := State.classEntry (e := e) XB.warmed hcl
  obtain ⟨cell, c1, c2, c3⟩ := hQ _ _ _ hq
  have hce : cell.cls = cE := by
    have h : (T.setVm vm₁).vm.findClass CE = some cell.cls := c2
    rw [X₁.warmed.alike.findClass] at h
    exact Option.some.inj (h.symm.trans hcE)
  obtain ⟨t1, t2, w1, w2, w3⟩ := Cond.castable_spec (va_Nw.use (A := args) rfl hself)
  cases Option.some.inj (w1.symm.trans hcE)
  cases Option.some.inj (w2.symm.trans hcE)
  obtain ⟨kE, hkE⟩ := Vm.classAt_of_findClass hcE
  obtain ⟨kE', hkE', -⟩ := hWv.alike.2.2 _ _ hkE
  have XC := XB.noted hWv
  have hkk := kk x s₂.heap (by rw [← hT]; exact hz) (fun q h => by rw [← hT] at h ⊢; exact hkeep q h)
  obtain ⟨t, a1, b1⟩ := (fun {TT : State} (hX : Stand p l e R s m args below meth c TT locs (cells + mc) (slots + ms)) (h : TT.heap = s₂.heap) => hkk TT h hX) XC rfl
  refine ⟨t, hstep₁ _ (fun acts => ?_), b1⟩
  rw [doInvoke_state]
  refine hsteps.trans ?_
  rw [hs₂]
  refine caughtCold (c := c) XB.here (fun Q' E d acts' => ?_) a1
  refine (W.findHandler_eq (meth := meth) (code := c) XB.method' XB.code).trans ?_
  rw [htab]
  exact fh_cold hcov hct hgv (by rw [Vm.size_noted, Stand.throwing_vm]; exact Nat.le_refl _) c1 (fun k h => by rw [c3] at h; cases h) ⟨kE', by rw [hce]; exact hkE'⟩ ⟨kE', hkE'⟩ (by rw [hce, hWv.alike.assignable]; exact w3)
end Catch
