/-! methods with handlers: FeatureSolveLaw.level -/
theorem mkWHi {l : Launch} {G : Gt} {y : MethodName} {b : ByteArray} {L : Nat} {r : FieldType} {hh : List (Nat × Nat × Nat × Nat)} {fr ce sl lo : Nat} {av : List Value} {w0 : va_W} {sz : Nat} {post : Int32 → va_W → Prop} (hy : plainName y.cls = true) (hL : (lg_sl av).length ≤ L)
    (h : ∀ (p : Program) (e : Env) (s : State) (m : MethodId) (args : Array Value) (below : List Frame) (meth : Method) (c : Code) (Q : State → Prop) (A : Nat → Prop), p.tables.exec = Jvm.exec → c.code = b → (∀ w ∈ lw_all, w.before args s = true) → s.vm.findClass y.cls = some m.cls → c.maxLocals = L → c.exceptionTable.toList = tableOf hh → GG G s → s.heap.size = sz → wP G w0 s.heap → va_D A w0 → (∀ q, s.heap.size ≤ q → A q) → (∀ q, A q → gz G ≤ q) → va_S A s.heap s.heap [] →
      (∀ (v : Int32) (w1 : va_W) (pc : Nat) (ls : Array Slot) (H : Heap) (locs : List Loc) (k n : Nat), decode b pc = .ok (.ireturn, 1) → narrow r (.int v) = .int v → k ≤ ce → n ≤ sl → wP G w1 H → va_D A w1 → va_S A s.heap H locs → post v w1 → W p l e (rm_ fr ce sl lo) s m args below meth c H locs k n Q (F0 m pc ls [.int v])) →
      ∀ ls : Array Slot, lv_has ls L (lv_args 0 av) → W p l e (rm_ fr ce sl lo) s m args below meth c s.heap [] 0 0 Q (F0 m 0 ls [])) :
    Met l y (wsW_ y b L (some r) hh) (rm_ fr ce sl lo) (PcW G av w0 sz) (va_Qi post (Bw G (va_A w0 sz)) (va_A w0 sz)) ce sl (va_A w0 sz) := by
  refine MetFree.of_bodyS (code := b) (maxLocals := L) (ret := some r) hy ?_ ?_
  · intro args s m h hn
    obtain ⟨m', meth, c, h0, h1, h2, h3, h4, -, h5, h6, -⟩ := Cond.codeWith_spec (atoms_spec (ws := wsW_ y b L (some r) hh) h _ List.mem_cons_self)
    cases hn.symm.trans h0
    exact ⟨meth, c, h1, h2, h3, h4, h5, h6⟩
  · intro p e s m args below meth c s₁ B hml hv _
    obtain ⟨rfl, hsz, hG, hP, hD⟩ := hv
    have hts := atoms_spec (ws := wsW_ y b L (some r) hh) B.pre
    have hh0 : s₁.heap = s.heap := by rw [B.state]; rfl
    obtain ⟨m', meth', c', h0, h1, h2, -, -, ht, -, -, -⟩ := Cond.codeWith_spec (hts _ List.mem_cons_self)
    have X : Stand p l e (rm_ fr ce sl lo) s m av.toArray below meth c s₁ [] 0 0 := Stand.of_body B
    cases B.named.symm.trans h0
    cases B.method.symm.trans h1
    cases X.code.symm.trans h2
    have hA : ∀ q, s.heap.size ≤ q → va_A w0 sz q := fun q h => Or.inr (by rw [← hsz]; exact h)
    have hA0 : ∀ q, va_A w0 sz q → gz G ≤ q := by
      intro q hq
      rcases hq with ⟨k, e, hk⟩ | hq
      · exact hD.2 k _ hk
      · exact Nat.le_trans hG.z (by rw [hsz]; exact hq)
    have hr := B.returns
    have hlk := B.notSynchronized
    obtain ⟨t, a1, o, b1, b2, b3⟩ := h p e s m av.toArray below meth c (MQ below (va_Qi post (Bw G (va_A w0 sz)) (va_A w0 sz)) av.toArray s ce sl (va_A w0 sz)) (va_A w0 sz) B.exec B.bytes (fun w h => hts w (List.mem_cons_of_mem _ h)) (findClass_of_methodNamed B.named) hml (by rw [← ht, table_eq]) hG hsz hP hD.self hA hA0 va_S.rf (fun v w1 pc ls H locs k n hd hn hk hm hP hD hS hp => rw_i B.exec B.bytes hr hlk hn hP hD hS hk hm hd hp) _ (lv_entry av hL) s₁ hh0 X
    exact ⟨t, o, by rw [lg_entry_eq]; exact a1, b1, b2, b3.1, b3.2⟩
theorem wP.keptH {G : Gt} {w : va_W} {H H1 : Heap} (h : wP G w H) (hk : ∀ q : Nat, q < H.size → H1[q]? = H[q]?) : wP G w H1 := by
  intro k q hq
  exact (h k q hq).kept (hk q.1 (h k q hq).lt)
theorem FW_levelR (l : Launch) (G : Gt) (x : Nat) (S : St) (w : va_W) (hF : FW G x S w) (hW : WS S) (k : Nat) (hk : k < sN S) : CR l G yX1_level cX1_level 2 .int 0 0 [.ref x, .int (nI k)] w (fun r => r = nI (dpN (sPa S) 15 (sPa S (k + 1)))) := by
  obtain ⟨a, iv, fl, wk, wm, b12, b14, w12, w14, rfl, h1, h2, h3, h4, h5, h6, h7, rfl⟩ := hF
  refine CR.post (CR.sub (metX1_level l G a iv (sN S) k fl hk hW.1) (fun q hq => by simp only [List.mem_cons, List.not_mem_nil, or_false] at hq ⊢; rcases hq with h | h <;> simp only [xC, h, true_or, or_true])) (fun v hv => ?_)
  rw [hv]; exact h3 k hk
theorem FW_levelT (l : Launch) (hfl : l.stackTraces = false) (G : Gt) (x : Nat) (S : St) (w : va_W) (hF : FW G x S w) (hW : WS S) (i : Int32) (ho : i < 0 ∨ nI (sN S) ≤ i) : MetT l yX1_level (ws_ yX1_level cX1_level 2 (some .int)) (rm_ 8 3 222 10248) (PcR G [.ref x, .int i] w) excQ 3 222 := by
  obtain ⟨a, iv, fl, wk, wm, b12, b14, w12, w14, rfl, h1, h2, h3, h4, h5, h6, h7, rfl⟩ := hF
  have h := metX1_levelT l hfl G a iv (sN S) fl i hW.1 ho
  intro p e ha hc hk s m args below hf happ hP hK
  exact h p e ha hc hk s m args below hf happ ⟨hP.1, hP.2.1, hP.2.2.mem (fun q hq => by simp only [List.mem_cons, List.not_mem_nil, or_false] at hq ⊢; rcases hq with h | h <;> simp only [xC, h, true_or, or_true])⟩ trivial
theorem FW.recv {G : Gt} {x : Nat} {S : St} {w ws : va_W} {s : State} {H : Heap} (hF : FW G x S w) (hG : GG G s) (hP : wP G ws H) (hs : ∀ q ∈ w, q ∈ ws) : ∃ cell : Cell, H[x]? = some cell ∧ cell.vm.isStatics = false ∧ s.vm.findClass RX1 = some cell.cls := by
  obtain ⟨a, iv, fl, wk, wm, b12, b14, w12, w14, rfl, h1, h2, h3, h4, h5, h6, h7, rfl⟩ := hF
  exact va_recv (ci := 0) (q0 := 0) hG.K (hP.mem hs) rfl rfl
abbrev loC (G : Gt) (o : Nat) (f : Nat → Int64) : Nat × va_E := (o, .inl (gA G 2, 1, .inr (.inl f)))
def lvQ (G : Gt) (S : St) (w : va_W) (o : Nat) (f : Nat → Int64) (i : Int32) : Int32 → va_W → Prop := fun r w1 => (stLevel S i = none ∧ r = 1 ∧ w1 = loC G o f :: w) ∨ ∃ d, stLevel S i = some d ∧ r = 0 ∧ w1 = loC G o (vp_updL f 0 (nI d).toInt64) :: w
set_option maxHeartbeats 4000000 in
set_option maxRecDepth 100000 in
theorem metX0_level (l : Launch) (hfl : l.stackTraces = false) (G : Gt) (x : Nat) (S : St) (w : va_W) (hF : FW G x S w) (hW : WS S) (o : Nat) (f : Nat → Int64) (i : Int32) (sz : Nat) :
    Met l yX0_level (wsW_ yX0_level cX0_level 4 (some .int) [(0, 9, 12, 13)]) (rm_ 9 3 222 10300) (PcW G [.ref x, .int i, .ref o] (loC G o f :: w) sz) (va_Qi (lvQ G S w o f i) (Bw G (va_A (loC G o f :: w) sz)) (va_A (loC G o f :: w) sz)) 3 222 (va_A (loC G o f :: w) sz) := by
  refine mkWHi (by decide) (Nat.le_of_ble_eq_true rfl) ?_
  intro p e s m args below meth c Q A hx hb hts hown hml hT hG hsz hP hD hA hA0 hS ret ls hl
  refine lv_aload_n hx hb dX0_level_0 rfl (lv_at hl 2 rfl) ?_
  refine lv_iconst (v := 0) hx hb dX0_level_1 (by decide) ?_
  refine lv_aload_n hx hb dX0_level_2 rfl (lv_at hl 0 rfl) ?_
  refine lv_iload_n hx hb dX0_level_3 rfl (lv_at hl 1 rfl) ?_
  have hPw : wP G w s.heap := hP.mem (fun q h => List.mem_cons_of_mem _ h)
  have hrc := hF.recv hG hPw (fun _ h => h)
  by_cases ho : i < 0 ∨ nI (sN S) ≤ i
  · refine catchV (As := [.int i]) (rest := [.int 0, .ref o]) (Qt := excQ) ⟨hx, hb, hml, hown, hts⟩ (FW_levelT l hfl G x S w hF hW i ho) (cwV 1 hts (lw_V q1143 q1144 q1145 q29 q1146) rfl rfl rfl (by decide +kernel) ⟨Nat.le_of_ble_eq_true rfl, Nat.le_of_ble_eq_true rfl⟩) ⟨PcR.blind, hrc, (pre_RS (As := [.ref x, .int i]) hG hPw hS hA0).2⟩ rfl hl.1 rfl (lv_room (Nat.le_of_ble_eq_true rfl)) dX0_level_4 ⟨Nat.le_of_ble_eq_true rfl, Nat.le_of_ble_eq_true rfl⟩ hT (by decide) (by decide) (CE := Bundle.idxN) (hts _ q1069) (fun _ _ _ h => h) (hG.cast q1118) ?_
    intro x9 H1 hz hk
    have hS1 : va_S A s.heap H1 [] := ⟨hz, fun q hq _ => hk q hq, fun _ h => (by cases h)⟩
    refine lv_astore_n (lv' := [(3, .ref x9), (0, .ref x), (1, .int i), (2, .ref o)]) hx hb dX0_level_12 rfl hl (by decide) rfl (fun ls hl => ?_)
    refine lv_iconst (v := 1) hx hb dX0_level_13 (by decide) ?_
    exact ret 1 _ 14 ls _ _ _ _ dX0_level_14 rfl (Nat.le_refl _) (Nat.le_refl _) (hP.keptH hk) hD hS1 (Or.inl ⟨(by unfold stLevel; rw [if_pos ho]), rfl, rfl⟩)
  · simp only [not_or] at ho
    obtain ⟨k, rfl, hk⟩ := le2_of (k := i) (M := nI (sN S)) (m := sN S) (Int32.toInt_ofNat_small (by have := hW.1; omega)) ho.1 (fun h => ho.2 (Int32.le_of_lt h))
    have hn := hW.1
    have hk : k < sN S := by
      rcases Nat.lt_or_eq_of_le hk with h | h
      · exact h
      · exact absurd (by rw [h]; exact Int32.le_refl _) ho.2
    have hlv : stLevel S (nI k) = some (dpN (sPa S) 15 (sPa S (k + 1))) := by
      unfold stLevel
      rw [if_neg (by simp only [not_or]; exact ho), iN_nI (by omega)]
    refine vp_callSi (W.runV (As := [.int (nI k)]) (rest := [.int 0, .ref o]) ⟨hx, hb, hml, hown, hts⟩ (FW_levelR l G x S w hF hW k hk) (cwV 1 hts (lw_V q1143 q1144 q1145 q29 q1146) rfl rfl rfl (by decide +kernel) ⟨Nat.le_of_ble_eq_true rfl, Nat.le_of_ble_eq_true rfl⟩) ⟨PcR.blind, hrc, (pre_RS (As := [.ref x, .int (nI k)]) hG hPw hS hA0).2⟩ rfl rfl hl.1 rfl (lv_room (Nat.le_of_ble_eq_true rfl)) dX0_level_4 ⟨Nat.le_of_ble_eq_true rfl, Nat.le_of_ble_eq_true rfl⟩) (fun r_4 e_4 => ?_)
    subst e_4
    refine lv_i2l (v := (nI (dpN (sPa S) 15 (sPa S (k + 1)))).toInt64) hx hb dX0_level_7 rfl ?_
    refine va_last hx hb hG.K hP hD hS 0 2 rfl rfl (show vp_in (nI 0) 1 from vp_in_nI (by decide) (by decide)) dX0_level_8 (fun H locs hP hD hS => ?_)
    refine lv_goto (tgt := 15) hx hb dX0_level_9 (by decide) ?_
    refine lv_iconst (v := 0) hx hb dX0_level_15 (by decide) ?_
    exact ret 0 _ 16 ls _ _ _ _ dX0_level_16 rfl (Nat.zero_le _) (Nat.zero_le _) hP hD hS (Or.inr ⟨_, hlv, rfl, rfl⟩)
