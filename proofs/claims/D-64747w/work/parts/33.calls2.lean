/-! words of interface, inherited and overriding calls; interface calls with the frame rule; calls that only read through any of these -/
theorem pm_ {α : Type} {l1 l2 : List α} (h : ∀ (_ : DecidableEq α) (z : α), l1.count z = l2.count z) : l1.Perm l2 := by
  classical
  exact List.perm_iff_count.mpr (fun z => h _ z)
theorem lw_F {own : String} {idx : Nat} {C : String} {x y : MethodName} {b : ByteArray} {L : Nat} {r : Option FieldType} (h1 : Cond.methodLink own idx x ∈ lw_all) (h2 : Cond.selects C x y ∈ lw_all) (h3 : Cond.instanceMethod y ∈ lw_all) (h4 : Cond.initialized y.cls ∈ lw_all) (h5 : Cond.code y b L r ∈ lw_all) : GoodIn lw_all (va_wsF own idx C x y (ws_ y b L r)) := by
  refine lw_app ?_ (lw_meth h5)
  intro w hw
  simp only [List.mem_cons, List.not_mem_nil, or_false] at hw
  rcases hw with e | e | e | e
  · rw [e]; exact h1
  · rw [e]; exact h2
  · rw [e]; exact h3
  · rw [e]; exact h4
theorem lw_U {own : String} {idx : Nat} {C owner : String} {x y : MethodName} {b : ByteArray} {L : Nat} {r : Option FieldType} (h1 : Cond.methodLink own idx x ∈ lw_all) (h2 : Cond.sameMethod x.cls owner x.name x.desc ∈ lw_all) (h3 : Cond.selects C x y ∈ lw_all) (h4 : Cond.instanceMethod y ∈ lw_all) (h5 : Cond.initialized y.cls ∈ lw_all) (h6 : Cond.code y b L r ∈ lw_all) : GoodIn lw_all (va_wsU own idx C owner x y (ws_ y b L r)) := by
  refine lw_app ?_ (lw_meth h6)
  intro w hw
  simp only [List.mem_cons, List.not_mem_nil, or_false] at hw
  rcases hw with e | e | e | e | e
  · rw [e]; exact h1
  · rw [e]; exact h2
  · rw [e]; exact h3
  · rw [e]; exact h4
  · rw [e]; exact h5
section CallsF
variable {p : Program} {l : Launch} {e : Env} {R : Room} {s : State} {m : MethodId} {args : Array Value} {below : List Frame} {meth : Method} {c : Code} {H : Heap} {locs : List Loc} {cells slots : Nat} {Q : State → Prop} {pc : Nat} {ls : Array Slot} {rest st0 : List Value} {G : Gt} {A0 : Nat → Prop} {w0 wr : va_W} {mc ms : Nat} {a : Array Value}
theorem clF_i {post : Int32 → va_W → Prop} (hr : va_Run5 p l e R s m args below meth c H locs cells slots mc ms (F0 m pc ls st0) rest (va_Qi post (Bw G (va_A w0 H.size)) (va_A w0 H.size) a) (va_A w0 H.size)) (hP : wP G (w0 ++ wr) H) (hD : va_D A0 (w0 ++ wr)) (hS : va_S A0 s.heap H locs) (hA : ∀ q, s.heap.size ≤ q → A0 q)
    (kk : ∀ (r : Int32) (w1 : va_W) (H1 : Heap) (locs1 : List Loc), post r w1 → wP G (w1 ++ wr) H1 → va_D A0 (w1 ++ wr) → va_S A0 s.heap H1 locs1 → W p l e R s m args below meth c H1 locs1 (cells + mc) (slots + ms) Q (F0 m (pc + 5) ls (.int r :: rest))) : W p l e R s m args below meth c H locs cells slots Q (F0 m pc ls st0) := by
  have hF := freeW hD hS hA
  refine va_callFi hr hS (fun q _ h => hF q h) hF ?_
  intro r u t H1 locs1 ht hvm hpo hB hz hk hS1
  subst ht
  obtain ⟨h1, h2⟩ := frame_ hP hD (fun q h => hA q (Nat.le_trans hS.1 h)) hk hB.1 hB.2
  exact kk r u _ locs1 hpo h1 h2 hS1
theorem clF_v {post : va_W → Prop} (hr : va_Run5 p l e R s m args below meth c H locs cells slots mc ms (F0 m pc ls st0) rest (va_Qv post (Bw G (va_A w0 H.size)) (va_A w0 H.size) a) (va_A w0 H.size)) (hP : wP G (w0 ++ wr) H) (hD : va_D A0 (w0 ++ wr)) (hS : va_S A0 s.heap H locs) (hA : ∀ q, s.heap.size ≤ q → A0 q)
    (kk : ∀ (w1 : va_W) (H1 : Heap) (locs1 : List Loc), post w1 → wP G (w1 ++ wr) H1 → va_D A0 (w1 ++ wr) → va_S A0 s.heap H1 locs1 → W p l e R s m args below meth c H1 locs1 (cells + mc) (slots + ms) Q (F0 m (pc + 5) ls (rest))) : W p l e R s m args below meth c H locs cells slots Q (F0 m pc ls st0) := by
  have hF := freeW hD hS hA
  refine va_callFv hr hS (fun q _ h => hF q h) hF ?_
  intro u t H1 locs1 ht hvm hpo hB hz hk hS1
  subst ht
  obtain ⟨h1, h2⟩ := frame_ hP hD (fun q h => hA q (Nat.le_trans hS.1 h)) hk hB.1 hB.2
  exact kk u _ locs1 hpo h1 h2 hS1
theorem clF_q {post : Option Nat → va_W → Prop} (hr : va_Run5 p l e R s m args below meth c H locs cells slots mc ms (F0 m pc ls st0) rest (va_Qq post (Bw G (va_A w0 H.size)) (va_A w0 H.size) a) (va_A w0 H.size)) (hP : wP G (w0 ++ wr) H) (hD : va_D A0 (w0 ++ wr)) (hS : va_S A0 s.heap H locs) (hA : ∀ q, s.heap.size ≤ q → A0 q)
    (kk : ∀ (r : Option Nat) (w1 : va_W) (H1 : Heap) (locs1 : List Loc), post r w1 → wP G (w1 ++ wr) H1 → va_D A0 (w1 ++ wr) → va_S A0 s.heap H1 locs1 → W p l e R s m args below meth c H1 locs1 (cells + mc) (slots + ms) Q (F0 m (pc + 5) ls (va_rf r :: rest))) : W p l e R s m args below meth c H locs cells slots Q (F0 m pc ls st0) := by
  have hF := freeW hD hS hA
  refine va_callFq hr hS (fun q _ h => hF q h) hF ?_
  intro r u t H1 locs1 ht hvm hpo hB hz hk hS1
  subst ht
  obtain ⟨h1, h2⟩ := frame_ hP hD (fun q h => hA q (Nat.le_trans hS.1 h)) hk hB.1 hB.2
  exact kk r u _ locs1 hpo h1 h2 hS1
theorem cl_q0 {post : Option Nat → va_W → Prop} (hr : va_Run p l e R s m args below meth c H locs cells slots mc ms (F0 m pc ls st0) rest (va_Qq post (Bw G (va_A w0 H.size)) (va_A w0 H.size) a) (va_A w0 H.size)) (hP : wP G w0 H) (hD : va_D A0 w0) (hS : va_S A0 s.heap H locs) (hA : ∀ q, s.heap.size ≤ q → A0 q)
    (kk : ∀ (r : Option Nat) (w1 : va_W) (H1 : Heap) (locs1 : List Loc), post r w1 → wP G w1 H1 → va_D A0 w1 → va_S A0 s.heap H1 locs1 → W p l e R s m args below meth c H1 locs1 (cells + mc) (slots + ms) Q (F0 m (pc + 3) ls (va_rf r :: rest))) : W p l e R s m args below meth c H locs cells slots Q (F0 m pc ls st0) := by
  refine cl_q (wr := []) hr (by rw [List.append_nil]; exact hP) (by rw [List.append_nil]; exact hD) hS hA ?_
  intro r w1 H1 locs1 h1 h2 h3 h4
  rw [List.append_nil] at h2 h3
  exact kk r w1 H1 locs1 h1 h2 h3 h4
end CallsF
