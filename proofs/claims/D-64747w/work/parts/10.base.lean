/-! THE BASE: the run's constants G, what holds of every state (GG), contracts that only read (CR) and that write (CWi ..), calls and returns in these forms -/
abbrev Gt : Type := (Nat → ClassId) × (Nat → Nat → Nat) × (Nat → ClassId) × State × Nat
abbrev gD (G : Gt) : va_G := (G.1, G.2.1)
abbrev gA (G : Gt) (k : Nat) : ClassId := G.2.2.1 k
abbrev gs (G : Gt) : State := G.2.2.2.1
abbrev gb (G : Gt) : Nat := G.2.2.2.2
abbrev gz (G : Gt) : Nat := (gs G).heap.size
abbrev vwCl : List vw_C := [(RX1, TX1, 15), (RX2, TX2, 27), (RX3, TX3, 2), (RX4, TX4, 4), (RX5, TX5, 2), (RJ2, TJ2, 3), (RJ5, TJ5, 12), (RJ14, TJ14, 6), (RJ7, TJ7, 1), (RJ18, TJ18, 5), (RJ20, TJ20, 2), (RJ27, TJ27, 6)]
abbrev gT (G : Gt) : List (ClassId × FieldType) := [(gA G 0, .int), (gA G 1, .boolean), (gA G 2, .long), (gA G 3, .object "java/lang/Object"), (gA G 4, .object "java/lang/Integer"), (gA G 5, .object "java/util/HashMap$Node"), (gA G 6, .array .int), (gA G 7, .byte)]
abbrev wP (G : Gt) (ws : va_W) (H : Heap) : Prop := va_P (gD G) vwCl ws H
/-- the claim's start (gs G, its script at gb G), and what has stayed since: all that is true of the start and rides comes out of this -/
def GX (G : Gt) (U : State) : Prop := (∀ w ∈ lw_tbl, w.before #[Value.ref (gb G)] (gs G) = true) ∧ (Jvm.Cond.and given_1 narrow_1).before #[Value.ref (gb G)] (gs G) = true ∧ (gs G).WarmedH U.vm ∧ ∀ q, q < gz G → U.heap[q]? = (gs G).heap[q]?
def GG (G : Gt) (U : State) : Prop := va_K (gD G) vwCl (gT G) U ∧ gz G ≤ U.heap.size ∧ GX G U
theorem GG.K {G : Gt} {U : State} (h : GG G U) : va_K (gD G) vwCl (gT G) U := h.1
theorem GG.z {G : Gt} {U : State} (h : GG G U) : gz G ≤ U.heap.size := h.2.1
theorem GG.move {G : Gt} {s U : State} (h : GG G s) (hW : s.WarmedH U.vm) (hH : ∀ q, q < gz G → U.heap[q]? = s.heap[q]?) (hz : gz G ≤ U.heap.size) : GG G U :=
  ⟨va_K.moved hW.alike h.1, hz, h.2.2.1, h.2.2.2.1, State.WarmedH.trans h.2.2.2.2.1 hW, fun q hq => (hH q hq).trans (h.2.2.2.2.2 q hq)⟩
theorem GG.calling {G : Gt} {U : State} (h : GG G U) (g : JFrame) (mk : MethodId) (a : Array Value) : GG G (U.calling g mk a) :=
  ⟨va_K.moved (u := U) (U := U.calling g mk a) (Vm.Alike.refl U.vm) h.1, h.2.1, h.2.2.1, h.2.2.2.1, h.2.2.2.2.1, h.2.2.2.2.2⟩
def PcR (G : Gt) (av : List Value) (w0 : va_W) : Array Value → State → Prop := va_Pc av (fun U => GG G U ∧ wP G w0 U.heap)
def PcW (G : Gt) (av : List Value) (w0 : va_W) (sz : Nat) : Array Value → State → Prop := va_Pc av (fun U => U.heap.size = sz ∧ GG G U ∧ wP G w0 U.heap ∧ va_D (fun q => gz G ≤ q) w0)
theorem PcR.blind {G : Gt} {av : List Value} {w0 : va_W} : FrameBlind (PcR G av w0) := fun a U g mk q => ⟨q.1, q.2.1.calling g mk a, q.2.2⟩
theorem PcW.blind {G : Gt} {av : List Value} {w0 : va_W} {sz : Nat} : FrameBlind (PcW G av w0 sz) := fun a U g mk q => ⟨q.1, q.2.1, q.2.2.1.calling g mk a, q.2.2.2.1, q.2.2.2.2⟩
abbrev Bw (G : Gt) (A : Nat → Prop) : va_W → State → Prop := fun w t => wP G w t.heap ∧ va_D A w
abbrev rm_ (fr ce sl lo : Nat) : Room := { frames := fr, cells := ce, slots := sl, locals := lo }
/-- a contract that only reads: answer an int (or boolean) -/
abbrev CR (l : Launch) (G : Gt) (y : MethodName) (b : ByteArray) (L : Nat) (r : FieldType) (fr lo : Nat) (av : List Value) (w0 : va_W) (post : Int32 → Prop) : Prop :=
  Met l y (ws_ y b L (some r)) (rm_ fr 0 0 lo) (PcR G av w0) (vp_Si post) 0 0 (fun _ => False)
abbrev CRl (l : Launch) (G : Gt) (y : MethodName) (b : ByteArray) (L : Nat) (fr lo : Nat) (av : List Value) (w0 : va_W) (post : Int64 → Prop) : Prop :=
  Met l y (ws_ y b L (some .long)) (rm_ fr 0 0 lo) (PcR G av w0) (vp_Sl post) 0 0 (fun _ => False)
/-- a contract that reads and answers a reference or null -/
abbrev CRq (l : Launch) (G : Gt) (y : MethodName) (b : ByteArray) (L : Nat) (r : FieldType) (fr lo : Nat) (av : List Value) (w0 : va_W) (post : Option Nat → Prop) : Prop :=
  Met l y (ws_ y b L (some r)) (rm_ fr 0 0 lo) (PcR G av w0) (va_Sq post) 0 0 (fun _ => False)
/-- contracts that write: the cells w0 become w1, all else stays -/
abbrev CWi (l : Launch) (G : Gt) (y : MethodName) (b : ByteArray) (L : Nat) (r : FieldType) (fr ce sl lo : Nat) (av : List Value) (w0 : va_W) (sz : Nat) (post : Int32 → va_W → Prop) : Prop :=
  Met l y (ws_ y b L (some r)) (rm_ fr ce sl lo) (PcW G av w0 sz) (va_Qi post (Bw G (va_A w0 sz)) (va_A w0 sz)) ce sl (va_A w0 sz)
abbrev CWl (l : Launch) (G : Gt) (y : MethodName) (b : ByteArray) (L : Nat) (fr ce sl lo : Nat) (av : List Value) (w0 : va_W) (sz : Nat) (post : Int64 → va_W → Prop) : Prop :=
  Met l y (ws_ y b L (some .long)) (rm_ fr ce sl lo) (PcW G av w0 sz) (va_Ql post (Bw G (va_A w0 sz)) (va_A w0 sz)) ce sl (va_A w0 sz)
abbrev CWv (l : Launch) (G : Gt) (y : MethodName) (b : ByteArray) (L : Nat) (fr ce sl lo : Nat) (av : List Value) (w0 : va_W) (sz : Nat) (post : va_W → Prop) : Prop :=
  Met l y (ws_ y b L none) (rm_ fr ce sl lo) (PcW G av w0 sz) (va_Qv post (Bw G (va_A w0 sz)) (va_A w0 sz)) ce sl (va_A w0 sz)
abbrev CWq (l : Launch) (G : Gt) (y : MethodName) (b : ByteArray) (L : Nat) (r : FieldType) (fr ce sl lo : Nat) (av : List Value) (w0 : va_W) (sz : Nat) (post : Option Nat → va_W → Prop) : Prop :=
  Met l y (ws_ y b L (some r)) (rm_ fr ce sl lo) (PcW G av w0 sz) (va_Qq post (Bw G (va_A w0 sz)) (va_A w0 sz)) ce sl (va_A w0 sz)
theorem mkR {l : Launch} {G : Gt} {y : MethodName} {b : ByteArray} {L : Nat} {r : Option FieldType} {rm : Room} {av : List Value} {w0 : va_W} {Qc : Array Value → State → Outcome → State → Prop} (hy : plainName y.cls = true) (hL : (lg_sl av).length ≤ L)
    (h : ∀ (p : Program) (e : Env) (s : State) (m : MethodId) (below : List Frame) (meth : Method) (c : Code), p.tables.exec = Jvm.exec → c.code = b → meth.sig.returnType = r → (∀ w ∈ lw_all, w.before av.toArray s = true) → s.vm.findClass y.cls = some m.cls → meth.locks = false → meth.name = y.name → c.maxLocals = L → GG G s → wP G w0 s.heap → ∀ ls : Array Slot, lv_has ls L (lv_args 0 av) →
      W p l e rm s m av.toArray below meth c s.heap [] 0 0 (MQ below Qc av.toArray s 0 0 (fun _ => False)) (F0 m 0 ls [])) :
    Met l y (ws_ y b L r) rm (PcR G av w0) Qc 0 0 (fun _ => False) := by
  refine Met.ofW (cc := b) (maxL := L) (ret := r) hy rfl ?_
  intro p e s m args below meth c s₁ B hml hv
  obtain ⟨rfl, hG, hP⟩ := hv
  have hts := atoms_spec (ws := ws_ y b L r) B.pre
  rw [lg_entry_eq]
  exact h p e s m below meth c B.exec B.bytes B.returns (fun w h => hts w (List.mem_cons_of_mem _ h)) (findClass_of_methodNamed B.named) B.notSynchronized (name_of_methodNamed B.named B.method).1 hml hG hP _ (lv_entry av hL)
theorem mkW {l : Launch} {G : Gt} {y : MethodName} {b : ByteArray} {L : Nat} {r : Option FieldType} {rm : Room} {ce sl : Nat} {av : List Value} {w0 : va_W} {sz : Nat} {Qc : Array Value → State → Outcome → State → Prop} (hy : plainName y.cls = true) (hL : (lg_sl av).length ≤ L)
    (h : ∀ (p : Program) (e : Env) (s : State) (m : MethodId) (below : List Frame) (meth : Method) (c : Code), p.tables.exec = Jvm.exec → c.code = b → meth.sig.returnType = r → (∀ w ∈ lw_all, w.before av.toArray s = true) → s.vm.findClass y.cls = some m.cls → meth.locks = false → meth.name = y.name → c.maxLocals = L → GG G s → s.heap.size = sz → wP G w0 s.heap → va_D (va_A w0 sz) w0 → (∀ q, s.heap.size ≤ q → va_A w0 sz q) → (∀ q, va_A w0 sz q → gz G ≤ q) → va_S (va_A w0 sz) s.heap s.heap [] → ∀ ls : Array Slot, lv_has ls L (lv_args 0 av) →
      W p l e rm s m av.toArray below meth c s.heap [] 0 0 (MQ below Qc av.toArray s ce sl (va_A w0 sz)) (F0 m 0 ls [])) :
    Met l y (ws_ y b L r) rm (PcW G av w0 sz) Qc ce sl (va_A w0 sz) := by
  refine Met.ofW (cc := b) (maxL := L) (ret := r) hy rfl ?_
  intro p e s m args below meth c s₁ B hml hv
  obtain ⟨rfl, hsz, hG, hP, hD⟩ := hv
  have hts := atoms_spec (ws := ws_ y b L r) B.pre
  rw [lg_entry_eq]
  refine h p e s m below meth c B.exec B.bytes B.returns (fun w h => hts w (List.mem_cons_of_mem _ h)) (findClass_of_methodNamed B.named) B.notSynchronized (name_of_methodNamed B.named B.method).1 hml hG hsz hP hD.self (fun q h => Or.inr (by rw [← hsz]; exact h)) ?_ va_S.rf _ (lv_entry av hL)
  intro q hq
  rcases hq with ⟨k, e, hk⟩ | hq
  · exact hD.2 k _ hk
  · exact Nat.le_trans hG.z (by rw [hsz]; exact hq)
theorem wP.perm {G : Gt} {w w' : va_W} {H : Heap} (h : wP G w H) (hp : w'.Perm w) : wP G w' H := by
  intro k q hk
  have hm : q ∈ w := hp.mem_iff.mp (List.mem_of_getElem? hk)
  obtain ⟨j, hj⟩ := List.getElem?_of_mem hm
  exact h j q hj
theorem wP.mem {G : Gt} {w w' : va_W} {H : Heap} (h : wP G w H) (hp : ∀ q ∈ w', q ∈ w) : wP G w' H := by
  intro k q hk
  obtain ⟨j, hj⟩ := List.getElem?_of_mem (hp q (List.mem_of_getElem? hk))
  exact h j q hj
theorem wP.left {G : Gt} {w w' : va_W} {H : Heap} (h : wP G (w ++ w') H) : wP G w H := h.mem (fun _ hq => List.mem_append_left _ hq)
theorem wP.right {G : Gt} {w w' : va_W} {H : Heap} (h : wP G (w ++ w') H) : wP G w' H := h.mem (fun _ hq => List.mem_append_right _ hq)
theorem va_D.iff {A : Nat → Prop} {w : va_W} : va_D A w ↔ (w.map (·.1)).Nodup ∧ ∀ q ∈ w, A q.1 := by
  constructor
  · intro h
    refine ⟨?_, fun q hq => ?_⟩
    · rw [List.nodup_iff_pairwise_ne, List.pairwise_iff_getElem]
      intro i j hi hj hij e
      rw [List.length_map] at hi hj
      rw [List.getElem_map, List.getElem_map] at e
      have := h.1 i j _ _ (List.getElem?_eq_getElem hi) (List.getElem?_eq_getElem hj) e
      omega
    · obtain ⟨k, hk⟩ := List.getElem?_of_mem hq
      exact h.2 k q hk
  · intro ⟨h1, h2⟩
    refine ⟨fun i j p q hi hj e => ?_, fun k q hk => h2 q (List.mem_of_getElem? hk)⟩
    have hi' : (w.map (·.1))[i]? = some p.1 := by rw [List.getElem?_map, hi]; rfl
    have hj' : (w.map (·.1))[j]? = some p.1 := by rw [List.getElem?_map, hj, e]; rfl
    have hlt : i < (w.map (·.1)).length := (List.getElem?_eq_some_iff.mp hi').1
    exact (List.getElem?_inj hlt h1).mp (hi'.trans hj'.symm)
theorem va_D.perm {A : Nat → Prop} {w w' : va_W} (h : va_D A w) (hp : w'.Perm w) : va_D A w' := by
  rw [va_D.iff] at h ⊢
  exact ⟨((hp.map (·.1)).nodup_iff).mpr h.1, fun q hq => h.2 q (hp.mem_iff.mp hq)⟩
theorem va_D.left {A : Nat → Prop} {w w' : va_W} (h : va_D A (w ++ w')) : va_D A w := by
  rw [va_D.iff] at h ⊢
  rw [List.map_append] at h
  exact ⟨(List.nodup_append.mp h.1).1, fun q hq => h.2 q (List.mem_append_left _ hq)⟩
theorem va_D.right {A : Nat → Prop} {w w' : va_W} (h : va_D A (w ++ w')) : va_D A w' := by
  rw [va_D.iff] at h ⊢
  rw [List.map_append] at h
  exact ⟨(List.nodup_append.mp h.1).2.1, fun q hq => h.2 q (List.mem_append_right _ hq)⟩
theorem va_D.ne {A : Nat → Prop} {w w' : va_W} (h : va_D A (w ++ w')) {p q : Nat × va_E} (hp : p ∈ w) (hq : q ∈ w') : p.1 ≠ q.1 := by
  rw [va_D.iff, List.map_append] at h
  intro e
  exact (List.nodup_append.mp h.1).2.2 p.1 (List.mem_map_of_mem hp) q.1 (List.mem_map_of_mem hq) e
theorem va_A.iff {w : va_W} {sz q : Nat} : va_A w sz q ↔ (∃ x ∈ w, x.1 = q) ∨ sz ≤ q := by
  constructor
  · rintro (⟨k, e, hk⟩ | h)
    · exact Or.inl ⟨_, List.mem_of_getElem? hk, rfl⟩
    · exact Or.inr h
  · rintro (⟨x, hx, rfl⟩ | h)
    · obtain ⟨k, hk⟩ := List.getElem?_of_mem hx
      exact Or.inl ⟨k, x.2, hk⟩
    · exact Or.inr h
/-- the frame rule: a callee that had w0 of the world w0 ++ wr and left w1 -/
theorem frame_ {G : Gt} {A0 : Nat → Prop} {w0 w1 wr : va_W} {H H1 : Heap} (hP : wP G (w0 ++ wr) H) (hD : va_D A0 (w0 ++ wr)) (hsz : ∀ q, H.size ≤ q → A0 q) (hk : ∀ q : Nat, q < H.size → ¬ va_A w0 H.size q → H1[q]? = H[q]?) (hP1 : wP G w1 H1) (hD1 : va_D (va_A w0 H.size) w1) : wP G (w1 ++ wr) H1 ∧ va_D A0 (w1 ++ wr) := by
  have hlt : ∀ q ∈ wr, q.1 < H.size := fun q hq => by
    obtain ⟨k, hk⟩ := List.getElem?_of_mem (List.mem_append_right w0 hq)
    exact (hP k q hk).lt
  have hnA : ∀ q ∈ wr, ¬ va_A w0 H.size q.1 := fun q hq h => by
    rcases va_A.iff.mp h with ⟨x, hx, e⟩ | h
    · exact hD.ne hx hq e
    · exact absurd (hlt q hq) (by omega)
  refine ⟨va_P.app hP1 ?_, ?_⟩
  · intro k q hk1
    have hq := List.mem_of_getElem? hk1
    exact (hP.right k q hk1).kept (hk q.1 (hlt q hq) (hnA q hq))
  · have hDr := hD.right
    rw [va_D.iff] at hD1 hDr ⊢
    rw [List.map_append]
    refine ⟨List.nodup_append.mpr ⟨hD1.1, hDr.1, ?_⟩, ?_⟩
    · intro a ha b hb e
      obtain ⟨x, hx, rfl⟩ := List.mem_map.mp ha
      obtain ⟨y, hy, rfl⟩ := List.mem_map.mp hb
      exact hnA y hy (by rw [← e]; exact hD1.2 x hx)
    · intro q hq
      rcases List.mem_append.mp hq with h | h
      · rcases va_A.iff.mp (hD1.2 q h) with ⟨x, hx, e⟩ | h'
        · rw [← e]; exact (va_D.iff.mp hD.left).2 x hx
        · exact hsz _ h'
      · exact hDr.2 q h
section Base
variable {p : Program} {l : Launch} {e : Env} {R : Room} {s : State} {m : MethodId} {args : Array Value} {below : List Frame} {meth : Method} {c : Code} {H : Heap} {locs : List Loc} {cells slots : Nat} {Q : State → Prop} {cc : ByteArray} {pc : Nat} {ls : Array Slot} {rest st0 : List Value} {G : Gt} {A0 : Nat → Prop} {w0 wr : va_W} {mc ms : Nat} {a : Array Value}
theorem base_same (hG : GG G s) (hS : va_S A0 s.heap H locs) (hA0 : ∀ q, A0 q → gz G ≤ q) : (∀ q, q < gz G → H[q]? = s.heap[q]?) ∧ gz G ≤ H.size :=
  ⟨fun q hq => hS.2.1 q (Nat.lt_of_lt_of_le hq hG.z) (fun h => absurd (hA0 q h) (by omega)), Nat.le_trans hG.z hS.1⟩
theorem pre_RS {As : List Value} (hG : GG G s) (hP : wP G w0 H) (hS : va_S A0 s.heap H locs) (hA0 : ∀ q, A0 q → gz G ≤ q) : PreS s H (PcR G As w0) As :=
  ⟨PcR.blind, fun U hU hW => ⟨rfl, hG.move hW (by rw [hU]; exact (base_same hG hS hA0).1) (by rw [hU]; exact (base_same hG hS hA0).2), by rw [hU]; exact hP⟩⟩
theorem pre_RV {As : List Value} {b ci q0 : Nat} {fs : List Value} {r : vw_C} (hG : GG G s) (hP : wP G w0 H) (hS : va_S A0 s.heap H locs) (hA0 : ∀ q, A0 q → gz G ≤ q) (he : w0[q0]? = some (b, .inr (ci, fs))) (hc : vwCl[ci]? = some r) : PreV s H r.1 b (PcR G (.ref b :: As) w0) As :=
  ⟨PcR.blind, va_recv hG.K hP hc he, (pre_RS (As := .ref b :: As) hG hP hS hA0).2⟩
theorem pre_WS {As : List Value} (hG : GG G s) (hP : wP G (w0 ++ wr) H) (hD : va_D A0 (w0 ++ wr)) (hS : va_S A0 s.heap H locs) (hA0 : ∀ q, A0 q → gz G ≤ q) : PreS s H (PcW G As w0 H.size) As :=
  ⟨PcW.blind, fun U hU hW => ⟨rfl, by rw [hU], hG.move hW (by rw [hU]; exact (base_same hG hS hA0).1) (by rw [hU]; exact (base_same hG hS hA0).2), by rw [hU]; exact hP.left, hD.left.weaken (fun _ q _ h => hA0 _ h)⟩⟩
theorem pre_WV {As : List Value} {b ci q0 : Nat} {fs : List Value} {r : vw_C} (hG : GG G s) (hP : wP G (w0 ++ wr) H) (hD : va_D A0 (w0 ++ wr)) (hS : va_S A0 s.heap H locs) (hA0 : ∀ q, A0 q → gz G ≤ q) (he : w0[q0]? = some (b, .inr (ci, fs))) (hc : vwCl[ci]? = some r) : PreV s H r.1 b (PcW G (.ref b :: As) w0 H.size) As :=
  ⟨PcW.blind, va_recv hG.K hP.left hc he, (pre_WS (As := .ref b :: As) hG hP hD hS hA0).2⟩
theorem freeW (hD : va_D A0 (w0 ++ wr)) (hS : va_S A0 s.heap H locs) (hA : ∀ q, s.heap.size ≤ q → A0 q) : ∀ q, va_A w0 H.size q → A0 q := fun q h => by
  rcases va_A.iff.mp h with ⟨x, hx, rfl⟩ | h
  · exact (va_D.iff.mp hD.left).2 x hx
  · exact hA q (Nat.le_trans hS.1 h)
theorem cl_i {post : Int32 → va_W → Prop} (hr : va_Run p l e R s m args below meth c H locs cells slots mc ms (F0 m pc ls st0) rest (va_Qi post (Bw G (va_A w0 H.size)) (va_A w0 H.size) a) (va_A w0 H.size)) (hP : wP G (w0 ++ wr) H) (hD : va_D A0 (w0 ++ wr)) (hS : va_S A0 s.heap H locs) (hA : ∀ q, s.heap.size ≤ q → A0 q)
    (kk : ∀ (r : Int32) (w1 : va_W) (H1 : Heap) (locs1 : List Loc), post r w1 → wP G (w1 ++ wr) H1 → va_D A0 (w1 ++ wr) → va_S A0 s.heap H1 locs1 → W p l e R s m args below meth c H1 locs1 (cells + mc) (slots + ms) Q (F0 m (pc + 3) ls (.int r :: rest))) : W p l e R s m args below meth c H locs cells slots Q (F0 m pc ls st0) := by
  have hF := freeW hD hS hA
  refine va_calli hr hS (fun q _ h => hF q h) hF ?_
  intro r u t H1 locs1 ht hvm hpo hB hz hk hS1
  subst ht
  obtain ⟨h1, h2⟩ := frame_ hP hD (fun q h => hA q (Nat.le_trans hS.1 h)) hk hB.1 hB.2
  exact kk r u _ locs1 hpo h1 h2 hS1
theorem cl_l {post : Int64 → va_W → Prop} (hr : va_Run p l e R s m args below meth c H locs cells slots mc ms (F0 m pc ls st0) rest (va_Ql post (Bw G (va_A w0 H.size)) (va_A w0 H.size) a) (va_A w0 H.size)) (hP : wP G (w0 ++ wr) H) (hD : va_D A0 (w0 ++ wr)) (hS : va_S A0 s.heap H locs) (hA : ∀ q, s.heap.size ≤ q → A0 q)
    (kk : ∀ (r : Int64) (w1 : va_W) (H1 : Heap) (locs1 : List Loc), post r w1 → wP G (w1 ++ wr) H1 → va_D A0 (w1 ++ wr) → va_S A0 s.heap H1 locs1 → W p l e R s m args below meth c H1 locs1 (cells + mc) (slots + ms) Q (F0 m (pc + 3) ls (.long r :: rest))) : W p l e R s m args below meth c H locs cells slots Q (F0 m pc ls st0) := by
  have hF := freeW hD hS hA
  refine va_calll hr hS (fun q _ h => hF q h) hF ?_
  intro r u t H1 locs1 ht hvm hpo hB hz hk hS1
  subst ht
  obtain ⟨h1, h2⟩ := frame_ hP hD (fun q h => hA q (Nat.le_trans hS.1 h)) hk hB.1 hB.2
  exact kk r u _ locs1 hpo h1 h2 hS1
theorem cl_v {post : va_W → Prop} (hr : va_Run p l e R s m args below meth c H locs cells slots mc ms (F0 m pc ls st0) rest (va_Qv post (Bw G (va_A w0 H.size)) (va_A w0 H.size) a) (va_A w0 H.size)) (hP : wP G (w0 ++ wr) H) (hD : va_D A0 (w0 ++ wr)) (hS : va_S A0 s.heap H locs) (hA : ∀ q, s.heap.size ≤ q → A0 q)
    (kk : ∀ (w1 : va_W) (H1 : Heap) (locs1 : List Loc), post w1 → wP G (w1 ++ wr) H1 → va_D A0 (w1 ++ wr) → va_S A0 s.heap H1 locs1 → W p l e R s m args below meth c H1 locs1 (cells + mc) (slots + ms) Q (F0 m (pc + 3) ls rest)) : W p l e R s m args below meth c H locs cells slots Q (F0 m pc ls st0) := by
  have hF := freeW hD hS hA
  refine va_callv hr hS (fun q _ h => hF q h) hF ?_
  intro u t H1 locs1 ht hvm hpo hB hz hk hS1
  subst ht
  obtain ⟨h1, h2⟩ := frame_ hP hD (fun q h => hA q (Nat.le_trans hS.1 h)) hk hB.1 hB.2
  exact kk u _ locs1 hpo h1 h2 hS1
theorem cl_q {post : Option Nat → va_W → Prop} (hr : va_Run p l e R s m args below meth c H locs cells slots mc ms (F0 m pc ls st0) rest (va_Qq post (Bw G (va_A w0 H.size)) (va_A w0 H.size) a) (va_A w0 H.size)) (hP : wP G (w0 ++ wr) H) (hD : va_D A0 (w0 ++ wr)) (hS : va_S A0 s.heap H locs) (hA : ∀ q, s.heap.size ≤ q → A0 q)
    (kk : ∀ (r : Option Nat) (w1 : va_W) (H1 : Heap) (locs1 : List Loc), post r w1 → wP G (w1 ++ wr) H1 → va_D A0 (w1 ++ wr) → va_S A0 s.heap H1 locs1 → W p l e R s m args below meth c H1 locs1 (cells + mc) (slots + ms) Q (F0 m (pc + 3) ls (va_rf r :: rest))) : W p l e R s m args below meth c H locs cells slots Q (F0 m pc ls st0) := by
  have hF := freeW hD hS hA
  refine va_callq hr hS (fun q _ h => hF q h) hF ?_
  intro r u t H1 locs1 ht hvm hpo hB hz hk hS1
  subst ht
  obtain ⟨h1, h2⟩ := frame_ hP hD (fun q h => hA q (Nat.le_trans hS.1 h)) hk hB.1 hB.2
  exact kk r u _ locs1 hpo h1 h2 hS1
/-- the end of a contract that only reads -/
theorem rt_i {post : Int32 → Prop} {v : Int32} {ty : FieldType} (hx : p.tables.exec = Jvm.exec) (hb : c.code = cc) (hr : meth.sig.returnType = some ty) (hlk : meth.locks = false) (hn : narrow ty (.int v) = .int v) (hdg : decode cc pc = .ok (.ireturn, 1)) (hp : post v) :
    W p l e R s m args below meth c s.heap [] 0 0 (MQ below (vp_Si post) args s 0 0 (fun _ => False)) (F0 m pc ls [.int v]) :=
  W.zret hx hb hr hn (fun t ht hW => ⟨v, rfl, hp, ht⟩) (fun _ h => absurd h List.not_mem_nil) hdg hlk
theorem rt_l {post : Int64 → Prop} {v : Int64} (hx : p.tables.exec = Jvm.exec) (hb : c.code = cc) (hr : meth.sig.returnType = some .long) (hlk : meth.locks = false) (hdg : decode cc pc = .ok (.lreturn, 1)) (hp : post v) :
    W p l e R s m args below meth c s.heap [] 0 0 (MQ below (vp_Sl post) args s 0 0 (fun _ => False)) (F0 m pc ls [.long v]) :=
  W.lret hx hb hr (fun t ht hW => ⟨v, rfl, hp, ht⟩) (fun _ h => absurd h List.not_mem_nil) hdg hlk
theorem rt_q {post : Option Nat → Prop} {v : Option Nat} {rt : FieldType} (hx : p.tables.exec = Jvm.exec) (hb : c.code = cc) (hr : meth.sig.returnType = some rt) (hrt : (∃ n, rt = .object n) ∨ ∃ t, rt = .array t) (hlk : meth.locks = false) (hdg : decode cc pc = .ok (.areturn, 1)) (hp : post v) :
    W p l e R s m args below meth c s.heap [] 0 0 (MQ below (va_Sq post) args s 0 0 (fun _ => False)) (F0 m pc ls [va_rf v]) :=
  W.aret hx hb hr hrt (va_rf_or v) (fun t ht hW => ⟨v, rfl, hp, ht⟩) (fun _ h => absurd h List.not_mem_nil) hdg hlk
/-- the end of a contract that writes -/
theorem rw_i {post : Int32 → va_W → Prop} {w1 : va_W} {v : Int32} {ty : FieldType} (hx : p.tables.exec = Jvm.exec) (hb : c.code = cc) (hr : meth.sig.returnType = some ty) (hlk : meth.locks = false) (hn : narrow ty (.int v) = .int v) (hP : wP G w1 H) (hD : va_D A0 w1) (hS : va_S A0 s.heap H locs) (hc : cells ≤ mc) (hs : slots ≤ ms) (hdg : decode cc pc = .ok (.ireturn, 1)) (hp : post v w1) :
    W p l e R s m args below meth c H locs cells slots (MQ below (va_Qi post (Bw G A0) A0) args s mc ms A0) (F0 m pc ls [.int v]) :=
  W.widen hc hs (W.zret hx hb hr hn (fun t ht hW => ⟨⟨v, w1, rfl, hp, by rw [ht]; exact hP, hD⟩, hS.F ht⟩) hS.2.2 hdg hlk)
theorem rw_l {post : Int64 → va_W → Prop} {w1 : va_W} {v : Int64} (hx : p.tables.exec = Jvm.exec) (hb : c.code = cc) (hr : meth.sig.returnType = some .long) (hlk : meth.locks = false) (hP : wP G w1 H) (hD : va_D A0 w1) (hS : va_S A0 s.heap H locs) (hc : cells ≤ mc) (hs : slots ≤ ms) (hdg : decode cc pc = .ok (.lreturn, 1)) (hp : post v w1) :
    W p l e R s m args below meth c H locs cells slots (MQ below (va_Ql post (Bw G A0) A0) args s mc ms A0) (F0 m pc ls [.long v]) :=
  W.widen hc hs (W.lret hx hb hr (fun t ht hW => ⟨⟨v, w1, rfl, hp, by rw [ht]; exact hP, hD⟩, hS.F ht⟩) hS.2.2 hdg hlk)
theorem rw_v {post : va_W → Prop} {w1 : va_W} (hx : p.tables.exec = Jvm.exec) (hb : c.code = cc) (hr : meth.sig.returnType = none) (hlk : meth.locks = false) (hP : wP G w1 H) (hD : va_D A0 w1) (hS : va_S A0 s.heap H locs) (hc : cells ≤ mc) (hs : slots ≤ ms) (hdg : decode cc pc = .ok (.return_, 1)) (hp : post w1) :
    W p l e R s m args below meth c H locs cells slots (MQ below (va_Qv post (Bw G A0) A0) args s mc ms A0) (F0 m pc ls []) :=
  W.widen hc hs (W.vret hx hb hr (fun t ht hW => ⟨⟨w1, rfl, hp, by rw [ht]; exact hP, hD⟩, hS.F ht⟩) hS.2.2 hdg hlk)
theorem rw_q {post : Option Nat → va_W → Prop} {w1 : va_W} {v : Option Nat} {rt : FieldType} (hx : p.tables.exec = Jvm.exec) (hb : c.code = cc) (hr : meth.sig.returnType = some rt) (hrt : (∃ n, rt = .object n) ∨ ∃ t, rt = .array t) (hlk : meth.locks = false) (hP : wP G w1 H) (hD : va_D A0 w1) (hS : va_S A0 s.heap H locs) (hc : cells ≤ mc) (hs : slots ≤ ms) (hdg : decode cc pc = .ok (.areturn, 1)) (hp : post v w1) :
    W p l e R s m args below meth c H locs cells slots (MQ below (va_Qq post (Bw G A0) A0) args s mc ms A0) (F0 m pc ls [va_rf v]) :=
  W.widen hc hs (W.aret hx hb hr hrt (va_rf_or v) (fun t ht hW => ⟨⟨v, w1, rfl, hp, by rw [ht]; exact hP, hD⟩, hS.F ht⟩) hS.2.2 hdg hlk)
/-- array reads and writes at a Nat place -/
theorem ia_ld (hx : p.tables.exec = Jvm.exec) (hb : c.code = cc) {a j n : Nat} {ws : va_W} {cA : ClassId} {f : Nat → Int32} {D : va_G} {cl : List vw_C} {tys : List (ClassId × FieldType)} (hK : va_K D cl tys s) (hP : va_P D cl ws H) (q0 t0 : Nat) (ha : ws[q0]? = some (a, .inl (cA, n, .inl f))) (ht : tys[t0]? = some (cA, .int)) (hj : j < n) (hn : n < 2 ^ 31) (hdg : decode cc pc = .ok (.iaload, 1))
    (kk : W p l e R s m args below meth c H locs cells slots Q (F0 m (pc + 1) ls (.int (f j) :: rest))) : W p l e R s m args below meth c H locs cells slots Q (F0 m pc ls (.int (nI j) :: .ref a :: rest)) := by
  refine va_iald hx hb hK hP q0 t0 ha ht (vp_in_nI hj hn) hdg ?_
  rw [nI_clamp (by omega)]
  exact kk
theorem za_ld (hx : p.tables.exec = Jvm.exec) (hb : c.code = cc) {a j n : Nat} {ws : va_W} {cA : ClassId} {f : Nat → Int32} {D : va_G} {cl : List vw_C} {tys : List (ClassId × FieldType)} (hK : va_K D cl tys s) (hP : va_P D cl ws H) (q0 t0 : Nat) (ha : ws[q0]? = some (a, .inl (cA, n, .inl f))) (ht : tys[t0]? = some (cA, .boolean)) (hj : j < n) (hn : n < 2 ^ 31) (hdg : decode cc pc = .ok (.baload, 1))
    (kk : W p l e R s m args below meth c H locs cells slots Q (F0 m (pc + 1) ls (.int (f j) :: rest))) : W p l e R s m args below meth c H locs cells slots Q (F0 m pc ls (.int (nI j) :: .ref a :: rest)) := by
  refine va_zald hx hb hK hP q0 t0 ha ht (vp_in_nI hj hn) hdg ?_
  rw [nI_clamp (by omega)]
  exact kk
theorem ia_st (hx : p.tables.exec = Jvm.exec) (hb : c.code = cc) {a j n : Nat} {ws : va_W} {cA : ClassId} {f : Nat → Int32} {H0 : Heap} {D : va_G} {cl : List vw_C} {tys : List (ClassId × FieldType)} (hK : va_K D cl tys s) (hP : va_P D cl ws H) (hD : va_D A0 ws) (hS : va_S A0 H0 H locs) (q0 t0 : Nat) (ha : ws[q0]? = some (a, .inl (cA, n, .inl f))) (ht : tys[t0]? = some (cA, .int)) {x : Int32} (hj : j < n) (hn : n < 2 ^ 31) (hdg : decode cc pc = .ok (.iastore, 1))
    (kk : ∀ (H1 : Heap) (locs1 : List Loc), va_P D cl (ws.set q0 (a, .inl (cA, n, .inl (upd f j x)))) H1 → va_D A0 (ws.set q0 (a, .inl (cA, n, .inl (upd f j x)))) → va_S A0 H0 H1 locs1 → W p l e R s m args below meth c H1 locs1 cells slots Q (F0 m (pc + 1) ls rest)) : W p l e R s m args below meth c H locs cells slots Q (F0 m pc ls (.int x :: .int (nI j) :: .ref a :: rest)) := by
  refine va_iast hx hb hK hP hD hS q0 t0 ha ht (vp_in_nI hj hn) hdg ?_
  rw [nI_clamp (by omega)]
  exact kk
theorem za_st (hx : p.tables.exec = Jvm.exec) (hb : c.code = cc) {a j n : Nat} {ws : va_W} {cA : ClassId} {f : Nat → Int32} {H0 : Heap} {D : va_G} {cl : List vw_C} {tys : List (ClassId × FieldType)} (hK : va_K D cl tys s) (hP : va_P D cl ws H) (hD : va_D A0 ws) (hS : va_S A0 H0 H locs) (q0 t0 : Nat) (ha : ws[q0]? = some (a, .inl (cA, n, .inl f))) (ht : tys[t0]? = some (cA, .boolean)) {x : Int32} (hnx : vp_nar .boolean x = x) (hj : j < n) (hn : n < 2 ^ 31) (hdg : decode cc pc = .ok (.bastore, 1))
    (kk : ∀ (H1 : Heap) (locs1 : List Loc), va_P D cl (ws.set q0 (a, .inl (cA, n, .inl (upd f j x)))) H1 → va_D A0 (ws.set q0 (a, .inl (cA, n, .inl (upd f j x)))) → va_S A0 H0 H1 locs1 → W p l e R s m args below meth c H1 locs1 cells slots Q (F0 m (pc + 1) ls rest)) : W p l e R s m args below meth c H locs cells slots Q (F0 m pc ls (.int x :: .int (nI j) :: .ref a :: rest)) := by
  refine va_zast hx hb hK hP hD hS q0 t0 ha ht (vp_in_nI hj hn) hdg ?_
  rw [nI_clamp (by omega), hnx]
  exact kk
/-- the top of the stack by an equal number -/
theorem top_i {x y : Int32} (h : x = y) (k : W p l e R s m args below meth c H locs cells slots Q (F0 m pc ls (.int y :: rest))) : W p l e R s m args below meth c H locs cells slots Q (F0 m pc ls (.int x :: rest)) := h ▸ k
theorem top_l {x y : Int64} (h : x = y) (k : W p l e R s m args below meth c H locs cells slots Q (F0 m pc ls (.long y :: rest))) : W p l e R s m args below meth c H locs cells slots Q (F0 m pc ls (.long x :: rest)) := h ▸ k
end Base
