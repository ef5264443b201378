/-! how a contract's proof begins: machine, words, world and the way to its end ('ret') by name -/
theorem mkRi {l : Launch} {G : Gt} {y : MethodName} {b : ByteArray} {L : Nat} {r : FieldType} {fr lo : Nat} {av : List Value} {w0 : va_W} {post : Int32 → Prop} (hy : plainName y.cls = true) (hL : (lg_sl av).length ≤ L)
    (h : ∀ (p : Program) (e : Env) (s : State) (m : MethodId) (args : Array Value) (below : List Frame) (meth : Method) (c : Code) (Q : State → Prop), p.tables.exec = Jvm.exec → c.code = b → (∀ w ∈ lw_all, w.before args s = true) → s.vm.findClass y.cls = some m.cls → c.maxLocals = L → GG G s → wP G w0 s.heap → va_S (fun _ => False) s.heap s.heap [] →
      (∀ (v : Int32) (pc : Nat) (ls : Array Slot), decode b pc = .ok (.ireturn, 1) → narrow r (.int v) = .int v → post v → W p l e (rm_ fr 0 0 lo) s m args below meth c s.heap [] 0 0 Q (F0 m pc ls [.int v])) →
      ∀ ls : Array Slot, lv_has ls L (lv_args 0 av) → W p l e (rm_ fr 0 0 lo) s m args below meth c s.heap [] 0 0 Q (F0 m 0 ls [])) :
    CR l G y b L r fr lo av w0 post :=
  mkR hy hL (fun p e s m below meth c hx hb hr hts hown hlk hin hml hG hP ls hl => h p e s m _ below meth c _ hx hb hts hown hml hG hP va_S.rf (fun v pc ls hd hn hp => rt_i hx hb hr hlk hn hd hp) ls hl)
theorem mkRl {l : Launch} {G : Gt} {y : MethodName} {b : ByteArray} {L : Nat} {fr lo : Nat} {av : List Value} {w0 : va_W} {post : Int64 → Prop} (hy : plainName y.cls = true) (hL : (lg_sl av).length ≤ L)
    (h : ∀ (p : Program) (e : Env) (s : State) (m : MethodId) (args : Array Value) (below : List Frame) (meth : Method) (c : Code) (Q : State → Prop), p.tables.exec = Jvm.exec → c.code = b → (∀ w ∈ lw_all, w.before args s = true) → s.vm.findClass y.cls = some m.cls → c.maxLocals = L → GG G s → wP G w0 s.heap → va_S (fun _ => False) s.heap s.heap [] →
      (∀ (v : Int64) (pc : Nat) (ls : Array Slot), decode b pc = .ok (.lreturn, 1) → post v → W p l e (rm_ fr 0 0 lo) s m args below meth c s.heap [] 0 0 Q (F0 m pc ls [.long v])) →
      ∀ ls : Array Slot, lv_has ls L (lv_args 0 av) → W p l e (rm_ fr 0 0 lo) s m args below meth c s.heap [] 0 0 Q (F0 m 0 ls [])) :
    CRl l G y b L fr lo av w0 post :=
  mkR hy hL (fun p e s m below meth c hx hb hr hts hown hlk hin hml hG hP ls hl => h p e s m _ below meth c _ hx hb hts hown hml hG hP va_S.rf (fun v pc ls hd hp => rt_l hx hb hr hlk hd hp) ls hl)
theorem mkRq {l : Launch} {G : Gt} {y : MethodName} {b : ByteArray} {L : Nat} {r : FieldType} {fr lo : Nat} {av : List Value} {w0 : va_W} {post : Option Nat → Prop} (hy : plainName y.cls = true) (hL : (lg_sl av).length ≤ L) (hrt : (∃ n, r = .object n) ∨ ∃ t, r = .array t)
    (h : ∀ (p : Program) (e : Env) (s : State) (m : MethodId) (args : Array Value) (below : List Frame) (meth : Method) (c : Code) (Q : State → Prop), p.tables.exec = Jvm.exec → c.code = b → (∀ w ∈ lw_all, w.before args s = true) → s.vm.findClass y.cls = some m.cls → c.maxLocals = L → GG G s → wP G w0 s.heap → va_S (fun _ => False) s.heap s.heap [] →
      (∀ (v : Option Nat) (pc : Nat) (ls : Array Slot), decode b pc = .ok (.areturn, 1) → post v → W p l e (rm_ fr 0 0 lo) s m args below meth c s.heap [] 0 0 Q (F0 m pc ls [va_rf v])) →
      ∀ ls : Array Slot, lv_has ls L (lv_args 0 av) → W p l e (rm_ fr 0 0 lo) s m args below meth c s.heap [] 0 0 Q (F0 m 0 ls [])) :
    CRq l G y b L r fr lo av w0 post :=
  mkR hy hL (fun p e s m below meth c hx hb hr hts hown hlk hin hml hG hP ls hl => h p e s m _ below meth c _ hx hb hts hown hml hG hP va_S.rf (fun v pc ls hd hp => rt_q hx hb hr hrt hlk hd hp) ls hl)
theorem mkWi {l : Launch} {G : Gt} {y : MethodName} {b : ByteArray} {L : Nat} {r : FieldType} {fr ce sl lo : Nat} {av : List Value} {w0 : va_W} {sz : Nat} {post : Int32 → va_W → Prop} (hy : plainName y.cls = true) (hL : (lg_sl av).length ≤ L)
    (h : ∀ (p : Program) (e : Env) (s : State) (m : MethodId) (args : Array Value) (below : List Frame) (meth : Method) (c : Code) (Q : State → Prop) (A : Nat → Prop), p.tables.exec = Jvm.exec → c.code = b → (∀ w ∈ lw_all, w.before args s = true) → s.vm.findClass y.cls = some m.cls → meth.name = y.name → c.maxLocals = L → GG G s → s.heap.size = sz → wP G w0 s.heap → va_D A w0 → (∀ q, s.heap.size ≤ q → A q) → (∀ q, A q → gz G ≤ q) → va_S A s.heap s.heap [] →
      (∀ (v : Int32) (w1 : va_W) (pc : Nat) (ls : Array Slot) (H : Heap) (locs : List Loc) (k n : Nat), decode b pc = .ok (.ireturn, 1) → narrow r (.int v) = .int v → k ≤ ce → n ≤ sl → wP G w1 H → va_D A w1 → va_S A s.heap H locs → post v w1 → W p l e (rm_ fr ce sl lo) s m args below meth c H locs k n Q (F0 m pc ls [.int v])) →
      ∀ ls : Array Slot, lv_has ls L (lv_args 0 av) → W p l e (rm_ fr ce sl lo) s m args below meth c s.heap [] 0 0 Q (F0 m 0 ls [])) :
    CWi l G y b L r fr ce sl lo av w0 sz post :=
  mkW hy hL (fun p e s m below meth c hx hb hr hts hown hlk hin hml hG hsz hP hD hA hA0 hS ls hl => h p e s m _ below meth c _ _ hx hb hts hown hin hml hG hsz hP hD hA hA0 hS (fun v w1 pc ls H locs k n hd hn hk hm hP hD hS hp => rw_i hx hb hr hlk hn hP hD hS hk hm hd hp) ls hl)
theorem mkWl {l : Launch} {G : Gt} {y : MethodName} {b : ByteArray} {L : Nat} {fr ce sl lo : Nat} {av : List Value} {w0 : va_W} {sz : Nat} {post : Int64 → va_W → Prop} (hy : plainName y.cls = true) (hL : (lg_sl av).length ≤ L)
    (h : ∀ (p : Program) (e : Env) (s : State) (m : MethodId) (args : Array Value) (below : List Frame) (meth : Method) (c : Code) (Q : State → Prop) (A : Nat → Prop), p.tables.exec = Jvm.exec → c.code = b → (∀ w ∈ lw_all, w.before args s = true) → s.vm.findClass y.cls = some m.cls → meth.name = y.name → c.maxLocals = L → GG G s → s.heap.size = sz → wP G w0 s.heap → va_D A w0 → (∀ q, s.heap.size ≤ q → A q) → (∀ q, A q → gz G ≤ q) → va_S A s.heap s.heap [] →
      (∀ (v : Int64) (w1 : va_W) (pc : Nat) (ls : Array Slot) (H : Heap) (locs : List Loc) (k n : Nat), decode b pc = .ok (.lreturn, 1) → k ≤ ce → n ≤ sl → wP G w1 H → va_D A w1 → va_S A s.heap H locs → post v w1 → W p l e (rm_ fr ce sl lo) s m args below meth c H locs k n Q (F0 m pc ls [.long v])) →
      ∀ ls : Array Slot, lv_has ls L (lv_args 0 av) → W p l e (rm_ fr ce sl lo) s m args below meth c s.heap [] 0 0 Q (F0 m 0 ls [])) :
    CWl l G y b L fr ce sl lo av w0 sz post :=
  mkW hy hL (fun p e s m below meth c hx hb hr hts hown hlk hin hml hG hsz hP hD hA hA0 hS ls hl => h p e s m _ below meth c _ _ hx hb hts hown hin hml hG hsz hP hD hA hA0 hS (fun v w1 pc ls H locs k n hd hk hm hP hD hS hp => rw_l hx hb hr hlk hP hD hS hk hm hd hp) ls hl)
theorem mkWv {l : Launch} {G : Gt} {y : MethodName} {b : ByteArray} {L : Nat} {fr ce sl lo : Nat} {av : List Value} {w0 : va_W} {sz : Nat} {post : va_W → Prop} (hy : plainName y.cls = true) (hL : (lg_sl av).length ≤ L)
    (h : ∀ (p : Program) (e : Env) (s : State) (m : MethodId) (args : Array Value) (below : List Frame) (meth : Method) (c : Code) (Q : State → Prop) (A : Nat → Prop), p.tables.exec = Jvm.exec → c.code = b → (∀ w ∈ lw_all, w.before args s = true) → s.vm.findClass y.cls = some m.cls → meth.name = y.name → c.maxLocals = L → GG G s → s.heap.size = sz → wP G w0 s.heap → va_D A w0 → (∀ q, s.heap.size ≤ q → A q) → (∀ q, A q → gz G ≤ q) → va_S A s.heap s.heap [] →
      (∀ (w1 : va_W) (pc : Nat) (ls : Array Slot) (H : Heap) (locs : List Loc) (k n : Nat), decode b pc = .ok (.return_, 1) → k ≤ ce → n ≤ sl → wP G w1 H → va_D A w1 → va_S A s.heap H locs → post w1 → W p l e (rm_ fr ce sl lo) s m args below meth c H locs k n Q (F0 m pc ls [])) →
      ∀ ls : Array Slot, lv_has ls L (lv_args 0 av) → W p l e (rm_ fr ce sl lo) s m args below meth c s.heap [] 0 0 Q (F0 m 0 ls [])) :
    CWv l G y b L fr ce sl lo av w0 sz post :=
  mkW hy hL (fun p e s m below meth c hx hb hr hts hown hlk hin hml hG hsz hP hD hA hA0 hS ls hl => h p e s m _ below meth c _ _ hx hb hts hown hin hml hG hsz hP hD hA hA0 hS (fun w1 pc ls H locs k n hd hk hm hP hD hS hp => rw_v hx hb hr hlk hP hD hS hk hm hd hp) ls hl)
theorem mkWq {l : Launch} {G : Gt} {y : MethodName} {b : ByteArray} {L : Nat} {r : FieldType} {fr ce sl lo : Nat} {av : List Value} {w0 : va_W} {sz : Nat} {post : Option Nat → va_W → Prop} (hy : plainName y.cls = true) (hL : (lg_sl av).length ≤ L) (hrt : (∃ n, r = .object n) ∨ ∃ t, r = .array t)
    (h : ∀ (p : Program) (e : Env) (s : State) (m : MethodId) (args : Array Value) (below : List Frame) (meth : Method) (c : Code) (Q : State → Prop) (A : Nat → Prop), p.tables.exec = Jvm.exec → c.code = b → (∀ w ∈ lw_all, w.before args s = true) → s.vm.findClass y.cls = some m.cls → meth.name = y.name → c.maxLocals = L → GG G s → s.heap.size = sz → wP G w0 s.heap → va_D A w0 → (∀ q, s.heap.size ≤ q → A q) → (∀ q, A q → gz G ≤ q) → va_S A s.heap s.heap [] →
      (∀ (v : Option Nat) (w1 : va_W) (pc : Nat) (ls : Array Slot) (H : Heap) (locs : List Loc) (k n : Nat), decode b pc = .ok (.areturn, 1) → k ≤ ce → n ≤ sl → wP G w1 H → va_D A w1 → va_S A s.heap H locs → post v w1 → W p l e (rm_ fr ce sl lo) s m args below meth c H locs k n Q (F0 m pc ls [va_rf v])) →
      ∀ ls : Array Slot, lv_has ls L (lv_args 0 av) → W p l e (rm_ fr ce sl lo) s m args below meth c s.heap [] 0 0 Q (F0 m 0 ls [])) :
    CWq l G y b L r fr ce sl lo av w0 sz post :=
  mkW hy hL (fun p e s m below meth c hx hb hr hts hown hlk hin hml hG hsz hP hD hA hA0 hS ls hl => h p e s m _ below meth c _ _ hx hb hts hown hin hml hG hsz hP hD hA hA0 hS (fun v w1 pc ls H locs k n hd hk hm hP hD hS hp => rw_q hx hb hr hrt hlk hP hD hS hk hm hd hp) ls hl)
def b2i (b : Bool) : Int32 := if b then 1 else 0
theorem b2i_t : b2i true = 1 := rfl
theorem b2i_f : b2i false = 0 := rfl
theorem b2i_0 {b : Bool} : b2i b = 0 ↔ b = false := by cases b <;> decide
theorem b2i_1 {b : Bool} : b2i b = 1 ↔ b = true := by cases b <;> decide
theorem b2i_n0 {b : Bool} : ¬ b2i b = 0 ↔ b = true := by cases b <;> decide
theorem b2i_nar (b : Bool) : narrow .boolean (.int (b2i b)) = .int (b2i b) := by cases b <;> rfl
theorem b2i_nr (b : Bool) : vp_nar .boolean (b2i b) = b2i b := by cases b <;> rfl
theorem b2i_inj {a b : Bool} (h : b2i a = b2i b) : a = b := by cases a <;> cases b <;> first | rfl | (exact absurd h (by decide))
