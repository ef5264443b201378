/-! calls that hand over the whole world -/
section Calls0
variable {p : Program} {l : Launch} {e : Env} {R : Room} {s : State} {m : MethodId} {args : Array Value} {below : List Frame} {meth : Method} {c : Code} {H : Heap} {locs : List Loc} {cells slots : Nat} {Q : State → Prop} {pc : Nat} {ls : Array Slot} {rest st0 : List Value} {G : Gt} {A0 : Nat → Prop} {w0 : va_W} {mc ms : Nat} {a : Array Value}
theorem pre_WS0 {As : List Value} (hG : GG G s) (hP : wP G w0 H) (hD : va_D A0 w0) (hS : va_S A0 s.heap H locs) (hA0 : ∀ q, A0 q → gz G ≤ q) : PreS s H (PcW G As w0 H.size) As :=
  pre_WS (wr := []) hG (by rw [List.append_nil]; exact hP) (by rw [List.append_nil]; exact hD) hS hA0
theorem pre_WV0 {As : List Value} {b ci q0 : Nat} {fs : List Value} {r : vw_C} (hG : GG G s) (hP : wP G w0 H) (hD : va_D A0 w0) (hS : va_S A0 s.heap H locs) (hA0 : ∀ q, A0 q → gz G ≤ q) (he : w0[q0]? = some (b, .inr (ci, fs))) (hc : vwCl[ci]? = some r) : PreV s H r.1 b (PcW G (.ref b :: As) w0 H.size) As :=
  pre_WV (wr := []) hG (by rw [List.append_nil]; exact hP) (by rw [List.append_nil]; exact hD) hS hA0 he hc
theorem cl_i0 {post : Int32 → va_W → Prop} (hr : va_Run p l e R s m args below meth c H locs cells slots mc ms (F0 m pc ls st0) rest (va_Qi post (Bw G (va_A w0 H.size)) (va_A w0 H.size) a) (va_A w0 H.size)) (hP : wP G w0 H) (hD : va_D A0 w0) (hS : va_S A0 s.heap H locs) (hA : ∀ q, s.heap.size ≤ q → A0 q)
    (kk : ∀ (r : Int32) (w1 : va_W) (H1 : Heap) (locs1 : List Loc), post r w1 → wP G w1 H1 → va_D A0 w1 → va_S A0 s.heap H1 locs1 → W p l e R s m args below meth c H1 locs1 (cells + mc) (slots + ms) Q (F0 m (pc + 3) ls (.int r :: rest))) : W p l e R s m args below meth c H locs cells slots Q (F0 m pc ls st0) := by
  refine cl_i (wr := []) hr (by rw [List.append_nil]; exact hP) (by rw [List.append_nil]; exact hD) hS hA ?_
  intro r w1 H1 locs1 h1 h2 h3 h4
  rw [List.append_nil] at h2 h3
  exact kk r w1 H1 locs1 h1 h2 h3 h4
theorem cl_l0 {post : Int64 → va_W → Prop} (hr : va_Run p l e R s m args below meth c H locs cells slots mc ms (F0 m pc ls st0) rest (va_Ql post (Bw G (va_A w0 H.size)) (va_A w0 H.size) a) (va_A w0 H.size)) (hP : wP G w0 H) (hD : va_D A0 w0) (hS : va_S A0 s.heap H locs) (hA : ∀ q, s.heap.size ≤ q → A0 q)
    (kk : ∀ (r : Int64) (w1 : va_W) (H1 : Heap) (locs1 : List Loc), post r w1 → wP G w1 H1 → va_D A0 w1 → va_S A0 s.heap H1 locs1 → W p l e R s m args below meth c H1 locs1 (cells + mc) (slots + ms) Q (F0 m (pc + 3) ls (.long r :: rest))) : W p l e R s m args below meth c H locs cells slots Q (F0 m pc ls st0) := by
  refine cl_l (wr := []) hr (by rw [List.append_nil]; exact hP) (by rw [List.append_nil]; exact hD) hS hA ?_
  intro r w1 H1 locs1 h1 h2 h3 h4
  rw [List.append_nil] at h2 h3
  exact kk r w1 H1 locs1 h1 h2 h3 h4
theorem cl_v0 {post : va_W → Prop} (hr : va_Run p l e R s m args below meth c H locs cells slots mc ms (F0 m pc ls st0) rest (va_Qv post (Bw G (va_A w0 H.size)) (va_A w0 H.size) a) (va_A w0 H.size)) (hP : wP G w0 H) (hD : va_D A0 w0) (hS : va_S A0 s.heap H locs) (hA : ∀ q, s.heap.size ≤ q → A0 q)
    (kk : ∀ (w1 : va_W) (H1 : Heap) (locs1 : List Loc), post w1 → wP G w1 H1 → va_D A0 w1 → va_S A0 s.heap H1 locs1 → W p l e R s m args below meth c H1 locs1 (cells + mc) (slots + ms) Q (F0 m (pc + 3) ls rest)) : W p l e R s m args below meth c H locs cells slots Q (F0 m pc ls st0) := by
  refine cl_v (wr := []) hr (by rw [List.append_nil]; exact hP) (by rw [List.append_nil]; exact hD) hS hA ?_
  intro w1 H1 locs1 h1 h2 h3 h4
  rw [List.append_nil] at h2 h3
  exact kk w1 H1 locs1 h1 h2 h3 h4
end Calls0
