/-! arrays of arrays: multianewarray of int[4][15], anewarray of int[] -/
theorem arrV_cg {c : ClassId} {N : Nat} {f g : Nat → Value} (h : ∀ j, j < N → f j = g j) : arrV c N f = arrV c N g := by
  unfold arrV
  rw [show (fun (j : Fin N) => f j.val) = fun j => g j.val from funext fun j => h j.val j.isLt]
/-- the heap while the rows are made -/
def mlO (c : ClassId) (h0 i : Nat) : Cell := arrV c 4 (fun j => if j < i then .ref (h0 + 1 + j) else .null)
def mlI (c : ClassId) : Cell := arrV c 15 (fun _ => .int 0)
theorem mlO_0 (c : ClassId) (h0 : Nat) : ({ cls := c, slots := Array.replicate 4 .null, vm := .none } : Cell) = mlO c h0 0 := by
  refine Eq.trans ?_ (arrV_cg (f := fun _ => Value.null) (fun j _ => (if_neg (Nat.not_lt_zero j)).symm))
  first | exact arrV_new _ _ _ | exact (arrV_new _ _ _).symm
theorem mlI_e (c : ClassId) : ({ cls := c, slots := Array.replicate 15 (.int 0), vm := .none } : Cell) = mlI c := by
  first | exact arrV_new _ _ _ | exact (arrV_new _ _ _).symm
theorem mlO_s (c : ClassId) (h0 i : Nat) : (mlO c h0 i).setSlot i (.ref (h0 + 1 + i)) = mlO c h0 (i + 1) := by
  unfold mlO
  rw [arrV_store]
  congr 1
  funext j
  unfold updV
  by_cases h : j = i
  · subst h; rw [if_pos rfl, if_pos (Nat.lt_succ_self _)]
  · rw [if_neg h]
    show (if j < i then Value.ref (h0 + 1 + j) else Value.null) = _
    by_cases h' : j < i
    · rw [if_pos h', if_pos (by omega)]
    · rw [if_neg h', if_neg (by omega)]
theorem mlO_sz (c : ClassId) (h0 i : Nat) : (mlO c h0 i).slots.size = 4 := arrV_size _ _ _
theorem mlI_sz (c : ClassId) : (mlI c).slots.size = 15 := arrV_size _ _ _
def mlS (u : State) (c k : ClassId) : Nat → State
  | 0 => u.pushCell (mlO c u.heap.size 0)
  | i + 1 => ((mlS u c k i).pushCell (mlI k)).setCell u.heap.size (mlO c u.heap.size (i + 1))
theorem mlS_f (u : State) (c k : ClassId) : ∀ i, (mlS u c k i).heap.size = u.heap.size + 1 + i ∧ (mlS u c k i).heap[u.heap.size]? = some (mlO c u.heap.size i) ∧ (mlS u c k i).vm = u.vm ∧ (mlS u c k i).slotsUsed = u.slotsUsed + 4 + i * 15 ∧ (∀ q, q < u.heap.size → (mlS u c k i).heap[q]? = u.heap[q]?) ∧ ∀ j, j < i → (mlS u c k i).heap[u.heap.size + 1 + j]? = some (mlI k) := by
  intro i
  induction i with
  | zero => exact ⟨by simp [mlS], by simp [mlS], rfl, by simp [mlS, mlO_sz], fun q hq => State.heap_pushCell_of_lt _ _ hq, fun j hj => absurd hj (by omega)⟩
  | succ i ih =>
    obtain ⟨h1, h2, h3, h4, h5, h6⟩ := ih
    have hp : ∀ q, q < (mlS u c k i).heap.size → ((mlS u c k i).pushCell (mlI k)).heap[q]? = (mlS u c k i).heap[q]? := fun q hq => State.heap_pushCell_of_lt _ _ hq
    have h2' : ((mlS u c k i).pushCell (mlI k)).heap[u.heap.size]? = some (mlO c u.heap.size i) := by rw [hp _ (by omega)]; exact h2
    refine ⟨?_, State.heap_setCell_self h2', by simp [mlS, h3], ?_, fun q hq => ?_, fun j hj => ?_⟩
    · simp [mlS, State.setCell, h1]; omega
    · simp [mlS, h4, mlI_sz]; omega
    · show (((mlS u c k i).pushCell (mlI k)).setCell u.heap.size _).heap[q]? = _
      rw [State.heap_setCell_other (Nat.ne_of_gt hq), hp _ (by omega)]
      exact h5 q hq
    · show (((mlS u c k i).pushCell (mlI k)).setCell u.heap.size _).heap[u.heap.size + 1 + j]? = _
      rw [State.heap_setCell_other (show u.heap.size ≠ u.heap.size + 1 + j by omega)]
      rcases Nat.lt_or_ge j i with hj' | hj'
      · rw [hp _ (by omega)]; exact h6 j hj'
      · rw [show u.heap.size + 1 + j = (mlS u c k i).heap.size by omega]; simp
theorem mlS_top (u : State) (f : JFrame) (c k : ClassId) : ∀ i, mlS (u.setTop f) c k i = (mlS u c k i).setTop f
  | 0 => rfl
  | i + 1 => by simp only [mlS, mlS_top u f c k i, State.heap_setTop, State.pushCell_setTop, State.setCell_setTop]
abbrev mlW (G : Gt) (r : Nat) : va_W := [(r, .inl (gA G 6, 4, .inr (.inr (.inr (.inr (fun k => some (r + 1 + k))))))), (r + 1 + 0, .inl (gA G 0, 15, .inl (fun _ => 0))), (r + 1 + 1, .inl (gA G 0, 15, .inl (fun _ => 0))), (r + 1 + 2, .inl (gA G 0, 15, .inl (fun _ => 0))), (r + 1 + 3, .inl (gA G 0, 15, .inl (fun _ => 0)))]
/-- the model's make of 4 rows of 15 -/
theorem ml_new {Q : Addr → Pre} {E : CtlPost} {e : Env} {d : Bool} {acts : List Action} {u : State} {c comp : ClassId} {k : Class} {type : FieldType} {len : Nat} {init : Value} (hk : u.vm.classes[c]? = some k) (hkind : k.kind = .array comp type)
    (hlimit : ¬ len > e.platform.arrayLengthLimit) (hheap : ¬ len * componentBytes type > e.platform.maxHeapBytes) (hfit : fits type init = true) (hdef : init.isDefault = true)
    (h1 : u.heap.size < e.platform.maxCells) (h2 : u.slotsUsed + len ≤ e.platform.maxSlots) (hq : Q u.heap.size d acts (u.pushCell { cls := c, slots := Array.replicate len init, vm := .none })) : Sem.wp (Jvm.newArray c len init) Q E e d acts u := by
  have hfits : ∀ i v, (Array.replicate len init)[i]? = some v → u.fitsSlot c .none i v = true := by
    intro i v hv
    rw [Array.getElem?_replicate] at hv
    split at hv
    · cases hv; simp [State.fitsSlot, State.slotType?, hk, hkind, hfit]
    · cases hv
  have hda : Jvm.allocActs (Array.replicate len init) u.heap.size acts = acts := by
    unfold Jvm.allocActs
    rw [if_pos (by rw [Array.all_replicate]; split <;> simp [hdef])]
  simp only [Jvm.newArray, Jvm.arrayFits, Sem.wp_bind', Jvm.W.ask, Jvm.W.ite, hlimit, if_false, Sem.wp_pure', Jvm.W.theClass, hk, hkind, hheap, Jvm.W.alloc, Jvm.W.stop, Option.some.injEq, exists_eq_left', Array.size_replicate, hda]
  rw [if_neg (by omega)]
  exact ⟨h1, h2, hfits, hq⟩
theorem ml_row {Q : Addr → Pre} {E : CtlPost} {e : Env} {d : Bool} {acts : List Action} {u : State} {comp cc : ClassId} {kc : Class} (hkc : u.vm.classes[comp]? = some kc) (hkindc : kc.kind = .array cc .int) (hl : ¬ 15 > e.platform.arrayLengthLimit) (hh : ¬ 15 * 4 > e.platform.maxHeapBytes) (h1 : u.heap.size < e.platform.maxCells) (h2 : u.slotsUsed + 15 ≤ e.platform.maxSlots) (hq : Q u.heap.size d acts (u.pushCell (mlI comp))) : Sem.wp (Op.multianewarray.make comp [15]) Q E e d acts u := by
  rw [Op.multianewarray.make]
  simp only [Sem.wp_bind', Jvm.W.ite, show ¬ (15 : Int32) < 0 by decide, if_false, Sem.wp_pure', Jvm.W.theClass, hkc, hkindc, Option.some.injEq, exists_eq_left']
  rw [show (15 : Int32).toNatClampNeg = 15 by decide]
  exact ml_new hkc hkindc hl hh rfl rfl h1 h2 (by rw [show (defaultValue FieldType.int) = .int 0 from rfl, mlI_e]; exact hq)
theorem rf_fitA (x : Nat) : fits (FieldType.array .int) (.ref x) = true := rfl
theorem ml_make {Q : Addr → Pre} {E : CtlPost} {e : Env} {d : Bool} {acts : List Action} {u : State} {c comp cc : ClassId} {k kc : Class} (hk : u.vm.classes[c]? = some k) (hkind : k.kind = .array comp (.array .int)) (hkc : u.vm.classes[comp]? = some kc) (hkindc : kc.kind = .array cc .int) (hl : ¬ 15 > e.platform.arrayLengthLimit) (hh : ¬ 15 * 4 > e.platform.maxHeapBytes) (h1 : u.heap.size + 5 ≤ e.platform.maxCells) (h2 : u.slotsUsed + 64 ≤ e.platform.maxSlots) (hq : ∀ d' acts', Q u.heap.size d' acts' (mlS u c comp 4)) : Sem.wp (Op.multianewarray.make c [4, 15]) Q E e d acts u := by
  rw [Op.multianewarray.make]
  simp only [Sem.wp_bind', Jvm.W.ite, show ¬ (4 : Int32) < 0 by decide, if_false, Sem.wp_pure', Jvm.W.theClass, hk, hkind, Option.some.injEq, exists_eq_left']
  rw [show (4 : Int32).toNatClampNeg = 4 by decide]
  refine ml_new hk hkind (by omega) (by show ¬ 4 * 4 > _; omega) rfl rfl (by omega) (by omega) ?_
  rw [mlO_0 c u.heap.size]
  rw [if_neg (by decide)]
  rw [Sem.wp_bind', Std.Legacy.Range.forIn_eq_forIn_range']
  show Sem.wp (forIn (List.range' 0 4 1) PUnit.unit _) _ E e d acts _
  refine Jvm.wp_forIn_inv (fun rest v => ∃ i, i ≤ 4 ∧ rest = List.range' i (4 - i) ∧ v = mlS u c comp i) _ _ ⟨0, by decide, rfl, rfl⟩ ?_ ?_
  · rintro x rest v d' acts' Q' ⟨i, hi, hr, rfl⟩ hn
    have hi4 : i < 4 := by
      rcases Nat.lt_or_ge i 4 with h | h
      · exact h
      · rw [show 4 - i = 0 by omega] at hr; cases hr
    rw [show 4 - i = (4 - (i + 1)) + 1 by omega, List.range'_succ] at hr
    obtain ⟨rfl, hr⟩ := List.cons.inj hr
    obtain ⟨f1, f2, f3, f4, -, -⟩ := mlS_f u c comp x
    simp only [Sem.wp_bind']
    refine ml_row (by rw [f3]; exact hkc) hkindc hl hh (by omega) (by omega) ?_
    simp only [Sem.wp_bind', Jvm.W.writeLoc, Sem.wp_pure']
    have hlt : u.heap.size < (mlS u c comp x).heap.size := by omega
    have hvm : (mlO c u.heap.size x).vm ≠ .unknown := by intro h; exact VmData.noConfusion h
    refine ⟨mlO c u.heap.size x, by rw [State.heap_pushCell_of_lt (h := hlt)]; exact f2, hvm, by rw [mlO_sz]; exact hi4, ?_, hn _ _ _ ⟨x + 1, hi4, hr, ?_⟩⟩
    · simp [State.fitsSlot, State.slotType?, f3, hk, hkind, mlO, arrV, rf_fitA]
    · rw [f1, mlO_s]; rfl
  · rintro v d' acts' ⟨i, hi, hr, rfl⟩
    have : i = 4 := by
      rcases Nat.lt_or_ge i 4 with h | h
      · rw [show 4 - i = (4 - (i + 1)) + 1 by omega, List.range'_succ] at hr; cases hr
      · omega
    subst this
    simp only [Sem.wp_pure']
    exact hq _ _
theorem GG.over {G : Gt} {U : State} (hG : GG G U) {args : Array Value} : (Cond.arrayOver (.array .int)).before args U = true := by
  have h := (Cond.arrayOver_setVmC (args := #[Value.ref (gb G)]) hG.warm.alike (.array .int)).trans (hG.at q74)
  exact h
section RowsM
variable {p : Program} {l : Launch} {e : Env} {R : Room} {s : State} {m : MethodId} {args : Array Value} {below : List Frame} {meth : Method} {c : Code} {H : Heap} {locs : List Loc} {cells slots : Nat} {Q : State → Prop} {cc : ByteArray} {pc : Nat} {ls : Array Slot} {rest : List Value} {A0 : Nat → Prop} {ws : va_W} {H0 : Heap}
theorem ml_stand {T : State} (X : Stand p l e R s m args below meth c T locs cells slots) (cA k : ClassId) : ∀ i, Stand p l e R s m args below meth c (mlS T cA k i) (locs ++ (List.range i).map fun j => ⟨T.heap.size, j⟩) (cells + 1 + i) (slots + 4 + i * 15)
  | 0 => by
    have h := X.pushed (mlO cA T.heap.size 0)
    rw [mlO_sz] at h
    simpa [mlS] using h
  | i + 1 => by
    have Xi := ml_stand X cA k i
    obtain ⟨f1, f2, -, -, -, -⟩ := mlS_f T cA k i
    have hlt : T.heap.size < (mlS T cA k i).heap.size := by omega
    have hc : ((mlS T cA k i).pushCell (mlI k)).heap[T.heap.size]? = some (mlO cA T.heap.size i) := by rw [State.heap_pushCell_of_lt (h := hlt)]; exact f2
    have h := (Xi.pushed (mlI k)).stored hc i (.ref (T.heap.size + 1 + i))
    rw [mlI_sz, mlO_s] at h
    have e2 : (locs ++ (List.range (i + 1)).map fun j => (⟨T.heap.size, j⟩ : Loc)) = (locs ++ (List.range i).map fun j => (⟨T.heap.size, j⟩ : Loc)) ++ [⟨T.heap.size, i⟩] := by simp [List.range_succ, List.append_assoc]
    rw [e2, show slots + 4 + (i + 1) * 15 = slots + 4 + i * 15 + 15 by omega]
    exact h
theorem ml_drop {T : State} {J : List Loc} (X : Stand p l e R s m args below meth c T (locs ++ J) cells slots) (hJ : ∀ x ∈ J, s.heap.size ≤ x.base) : Stand p l e R s m args below meth c T locs cells slots := X.dropFresh hJ
theorem ga_multi {G : Gt} (hx : p.tables.exec = Jvm.exec) (hb : c.code = cc) {own : String} {index : Nat} (hown : s.vm.findClass own = some m.cls) (hclink : (Cond.classLink own index "[[I").before args s = true) (harr : (Cond.arrayClass .int).before args s = true) (hG : GG G s) (hP : wP G ws H) (hD : va_D A0 ws) (hS : va_S A0 H0 H locs) (hA : ∀ q, H0.size ≤ q → A0 q) (hcells : cells + 5 ≤ R.cells) (hslots : slots + 64 ≤ R.slots) (hdg : decode cc pc = .ok (.multianewarray index 2, 4))
    (kk : ∀ (r : Nat) (H1 : Heap), wP G (ws ++ mlW G r) H1 → va_D A0 (ws ++ mlW G r) → va_S A0 H0 H1 locs → W p l e R s m args below meth c H1 locs (cells + 5) (slots + 64) Q (F0 m (pc + 4) ls (.ref r :: rest))) : W p l e R s m args below meth c H locs cells slots Q (F0 m pc ls (.int 15 :: .int 4 :: rest)) := by
  intro T hT X
  subst hT
  have hpl : e.platform.magicAccessors = ({} : Platform).magicAccessors := by rw [X.admits.platform]
  obtain ⟨kA, hkA, hkindA, -⟩ := hG.gg
  obtain ⟨comp', kC, cc', hcomp', hkC, hkindC⟩ := Cond.arrayClass_spec harr
  have h0 : s.vm.findClass ("[" ++ FieldType.int.toString) = some (gA G 0) := (hG.K.2 0 _ rfl).2
  have h6 : s.vm.findClass ("[" ++ (FieldType.array .int).toString) = some (gA G 6) := (hG.K.2 6 _ rfl).2
  have eC : comp' = gA G 0 := Option.some.inj (hcomp'.symm.trans h0)
  subst eC
  obtain ⟨c6, hf6, hcl⟩ := Cond.classLink_spec hown hclink e.platform hpl
  have e6 : c6 = gA G 6 := Option.some.inj (hf6.symm.trans h6)
  subst e6
  obtain ⟨hg1, hw1, hr1⟩ := State.classEntry (e := e) X.warmed hcl
  generalize T.vm.noted m.cls index (.cls (gA G 6)) = vm1 at hg1 hw1 hr1
  have hal : s.vm.Alike vm1 := hw1.alike
  obtain ⟨kA1, hkA1, heA⟩ := hal.2.2 _ _ hkA
  obtain ⟨kC1, hkC1, heC⟩ := hal.2.2 _ _ hkC
  have hkindA1 : kA1.kind = .array (gA G 0) (.array .int) := by rw [heA]; exact hkindA
  have hkindC1 : kC1.kind = .array cc' .int := by rw [heC]; exact hkindC
  have X1 := X.noted hw1
  obtain ⟨r1, r2⟩ := X.roomAbove hcells hslots
  have XF := ml_stand X1 (gA G 6) (gA G 0) 4
  have XF := ml_drop XF (fun x hx => by obtain ⟨j, -, rfl⟩ := List.mem_map.mp hx; exact X.heapGrown)
  obtain ⟨f1, f2, -, -, f5, f6⟩ := mlS_f (T.setVm vm1) (gA G 6) (gA G 0) 4
  generalize hT1 : mlS (T.setVm vm1) (gA G 6) (gA G 0) 4 = T1 at XF f1 f2 f5 f6
  have z1 : T1.heap.size = T.heap.size + 5 := f1
  have o1 : ∀ q, q < T.heap.size → T1.heap[q]? = T.heap[q]? := f5
  have c0 : T1.heap[T.heap.size]? = some (vp_cell (gA G 6) (4, .inr (.inr (.inr (.inr (fun k => some (T.heap.size + 1 + k))))))) := by
    refine f2.trans (congrArg some ?_)
    rw [vp_cell_q]
    exact arrV_cg (fun j hj => by show (if j < 4 then _ else _) = _; rw [if_pos hj]; rfl)
  have cI : ∀ j, j < 4 → T1.heap[T.heap.size + 1 + j]? = some (vp_cell (gA G 0) (15, .inl (fun _ => 0))) := fun j hj => f6 j hj
  have hk : ∀ (k : Nat) (x : Nat × va_E), ws[k]? = some x → T1.heap[x.1]? = T.heap[x.1]? := fun k x hx => o1 x.1 ((hP k x hx).lt)
  have hPn : wP G (mlW G T.heap.size) T1.heap := by
    intro k q hq
    match k, hq with
    | 0, hq => cases hq; exact c0
    | 1, hq => cases hq; exact cI 0 (by decide)
    | 2, hq => cases hq; exact cI 1 (by decide)
    | 3, hq => cases hq; exact cI 2 (by decide)
    | 4, hq => cases hq; exact cI 3 (by decide)
    | k + 5, hq => cases hq
  have hDn : va_D A0 (ws ++ mlW G T.heap.size) := by
    have lt : ∀ (k : Nat) (x : Nat × va_E), ws[k]? = some x → x.1 < T.heap.size := fun k x hx => (hP k x hx).lt
    have pl : ∀ (k : Nat) (x : Nat × va_E), (mlW G T.heap.size)[k]? = some x → x.1 = T.heap.size + k := by
      intro k q hq
      match k, hq with
      | 0, hq => cases hq; rfl
      | 1, hq => cases hq; rfl
      | 2, hq => cases hq; rfl
      | 3, hq => cases hq; rfl
      | 4, hq => cases hq; rfl
      | k + 5, hq => cases hq
    refine ⟨fun i j x y hi hj he => ?_, fun k x hx => ?_⟩
    · rcases Nat.lt_or_ge i ws.length with h1 | h1 <;> rcases Nat.lt_or_ge j ws.length with h2 | h2
      · rw [List.getElem?_append_left h1] at hi
        rw [List.getElem?_append_left h2] at hj
        exact hD.1 i j x y hi hj he
      · rw [List.getElem?_append_left h1] at hi
        rw [List.getElem?_append_right h2] at hj
        have := lt i x hi
        have := pl _ y hj
        omega
      · rw [List.getElem?_append_right h1] at hi
        rw [List.getElem?_append_left h2] at hj
        have := lt j y hj
        have := pl _ x hi
        omega
      · rw [List.getElem?_append_right h1] at hi
        rw [List.getElem?_append_right h2] at hj
        have := pl _ x hi
        have := pl _ y hj
        omega
    · rcases Nat.lt_or_ge k ws.length with h1 | h1
      · rw [List.getElem?_append_left h1] at hx
        exact hD.2 k x hx
      · rw [List.getElem?_append_right h1] at hx
        rw [pl _ x hx]
        exact hA _ (by have := hS.1; omega)
  obtain ⟨t, a1, b1⟩ := kk T.heap.size T1.heap ((hP.kept hk).app hPn) hDn ⟨by have := hS.1; omega, fun x h1 h2 => (o1 x (Nat.lt_of_lt_of_le h1 hS.1)).trans (hS.2.1 x h1 h2), hS.2.2⟩ T1 rfl XF
  refine ⟨t, ?_, b1⟩
  have hl : ¬ 15 > e.platform.arrayLengthLimit := by rw [Launch.admits_arrayLengthLimit X.admits]; decide
  have hh : ¬ 15 * 4 > e.platform.maxHeapBytes := by rw [Launch.admits_maxHeapBytes X.admits]; decide
  subst hb
  jvm_step X.here [hx, hdg]
  simp only [Op.multianewarray.sem, Sem.wp_bind', Jvm.W.resolveClassAt_links (State.method?_setTop (F0 m pc ls (.int 15 :: .int 4 :: rest)) X.here.top) hg1]
  rw [Jvm.W.popN, if_neg (by decide)]
  refine ⟨F0 m pc ls (.int 15 :: .int 4 :: rest), State.topJava?_setTop' (s := T.setVm vm1) _ X.here.top, [.int 4, .int 15], rest, rfl, rfl, ?_⟩
  simp only [List.mapM_cons, List.mapM_nil, Sem.wp_bind', Sem.wp_pure']
  refine ml_make (k := kA1) (kc := kC1) (comp := gA G 0) (cc := cc') hkA1 hkindA1 hkC1 hkindC1 hl hh (by show T.heap.size + 5 ≤ _; omega) (by show T.slotsUsed + 64 ≤ _; omega) (fun d' acts' => ?_)
  have eS : ((T.setTop (F0 m pc ls (.int 15 :: .int 4 :: rest))).setVm vm1).setTop { F0 m pc ls (.int 15 :: .int 4 :: rest) with stack := rest } = (T.setVm vm1).setTop { F0 m pc ls (.int 15 :: .int 4 :: rest) with stack := rest } := by
    show ((T.setVm vm1).setTop _).setTop _ = _
    rw [State.setTop_setTop]
  rw [eS, mlS_top, hT1]
  simp only [Sem.wp_bind', Jvm.W.mark, Jvm.W.pushRef, State.topJava?_setTop' _ XF.here.top, Option.some.injEq, exists_eq_left', State.setTop_setTop, State.heap_setTop]
  intro acts
  simp [jvm, XF.here.top]
  exact a1
theorem ga_newa {G : Gt} (hx : p.tables.exec = Jvm.exec) (hb : c.code = cc) {own : String} {index N : Nat} {n : Int32} (hown : s.vm.findClass own = some m.cls) (hclink : (Cond.classLink own index "[I").before args s = true) (hG : GG G s) (hP : wP G ws H) (hD : va_D A0 ws) (hS : va_S A0 H0 H locs) (hA : ∀ q, H0.size ≤ q → A0 q) (hn : ¬ n < 0) (hN : n.toNatClampNeg = N) (hby : N * 4 ≤ 536870912) (hcells : cells + 1 ≤ R.cells) (hslots : slots + N ≤ R.slots) (hdg : decode cc pc = .ok (.anewarray index, 3))
    (kk : ∀ (r : Nat) (H1 : Heap), wP G (ws ++ [(r, .inl (gA G 6, N, .inr (.inr (.inr (.inr (fun _ => none))))))]) H1 → va_D A0 (ws ++ [(r, .inl (gA G 6, N, .inr (.inr (.inr (.inr (fun _ => none))))))]) → va_S A0 H0 H1 locs → W p l e R s m args below meth c H1 locs (cells + 1) (slots + N) Q (F0 m (pc + 3) ls (.ref r :: rest))) : W p l e R s m args below meth c H locs cells slots Q (F0 m pc ls (.int n :: rest)) := by
  subst hN
  refine W.anewA (t := .int) hx hb hown hclink hG.over rfl hdg rfl hn hby hcells hslots (fun cA kA comp f1 f2 f3 f4 => ?_)
  have h6 : s.vm.findClass ("[" ++ (FieldType.array .int).toString) = some (gA G 6) := (hG.K.2 6 _ rfl).2
  have eA : cA = gA G 6 := Option.some.inj (f1.symm.trans h6)
  subst eA
  generalize hH1 : H.push ({ cls := gA G 6, slots := Array.replicate n.toNatClampNeg .null, vm := .none } : Cell) = H1
  have z1 : H1.size = H.size + 1 := by rw [← hH1, Array.size_push]
  have e1 : H1[H.size]? = some (arrV (gA G 6) n.toNatClampNeg (fun _ => .null)) := by rw [← hH1, Array.getElem?_push_size, ← arrV_new]
  have o1 : ∀ q : Nat, q < H.size → H1[q]? = H[q]? := fun q hq => by rw [← hH1, Array.getElem?_push, if_neg (Nat.ne_of_lt hq)]
  have hk : ∀ (k : Nat) (x : Nat × va_E), ws[k]? = some x → H1[x.1]? = H[x.1]? := fun k x hx => o1 x.1 ((hP k x hx).lt)
  refine kk H.size H1 ((hP.kept hk).app (fun k x hx => ?_)) (hD.push hP rfl (hA _ hS.1)) ⟨Nat.le_trans hS.1 (by omega), fun x h1 h2 => (o1 x (Nat.lt_of_lt_of_le h1 hS.1)).trans (hS.2.1 x h1 h2), hS.2.2⟩
  match k, hx with
  | 0, hx => cases hx; exact e1
  | k + 1, hx => cases hx
end RowsM
