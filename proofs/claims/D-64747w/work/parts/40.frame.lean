/-! contracts: the frame rule and reordering at the level of contracts; top of the stack: references or null -/
section Top
variable {p : Program} {l : Launch} {e : Env} {R : Room} {s : State} {m : MethodId} {args : Array Value} {below : List Frame} {meth : Method} {c : Code} {H : Heap} {locs : List Loc} {cells slots : Nat} {Q : State → Prop} {pc : Nat} {ls : Array Slot} {rest : List Value}
theorem top_q {x y : Option Nat} (h : x = y) (k : W p l e R s m args below meth c H locs cells slots Q (F0 m pc ls (va_rf y :: rest))) : W p l e R s m args below meth c H locs cells slots Q (F0 m pc ls (va_rf x :: rest)) := h ▸ k
theorem top_r {x y : Nat} (h : x = y) (k : W p l e R s m args below meth c H locs cells slots Q (F0 m pc ls (.ref y :: rest))) : W p l e R s m args below meth c H locs cells slots Q (F0 m pc ls (.ref x :: rest)) := h ▸ k
end Top
theorem PcW.fr {G : Gt} {av : List Value} {w0 wr : va_W} {sz : Nat} {a : Array Value} {U : State} (h : PcW G av (w0 ++ wr) sz a U) : PcW G av w0 sz a U := ⟨h.1, h.2.1, h.2.2.1, h.2.2.2.1.left, h.2.2.2.2.left⟩
theorem PcW.pm {G : Gt} {av : List Value} {w0 w1 : va_W} {sz : Nat} {a : Array Value} {U : State} (hp : w0.Perm w1) (h : PcW G av w1 sz a U) : PcW G av w0 sz a U := ⟨h.1, h.2.1, h.2.2.1, h.2.2.2.1.perm hp, h.2.2.2.2.perm hp⟩
theorem va_A.mono {w0 w1 : va_W} {sz q : Nat} (h : ∀ x ∈ w0, x ∈ w1) (hq : va_A w0 sz q) : va_A w1 sz q := by
  rcases va_A.iff.mp hq with ⟨x, hx, e⟩ | h'
  · exact va_A.iff.mpr (Or.inl ⟨x, h x hx, e⟩)
  · exact va_A.iff.mpr (Or.inr h')
theorem fr_w {G : Gt} {av : List Value} {w0 w1 wr : va_W} {sz : Nat} {a : Array Value} {s t : State} (h : PcW G av (w0 ++ wr) sz a s) (hB : Bw G (va_A w0 sz) w1 t) (hF : va_F (va_A w0 sz) s t) : Bw G (va_A (w0 ++ wr) sz) (w1 ++ wr) t ∧ va_F (va_A (w0 ++ wr) sz) s t := by
  obtain ⟨-, hsz, -, hP, hD⟩ := h
  subst hsz
  have h1 := frame_ (A0 := va_A (w0 ++ wr) s.heap.size) hP hD.self (fun q hq => va_A.iff.mpr (Or.inr hq)) (fun q h1 h2 => hF.2 q h1 h2) hB.1 hB.2
  exact ⟨h1, hF.1, fun q h1 h2 => hF.2 q h1 (fun h => h2 (va_A.mono (fun x hx => List.mem_append_left _ hx) h))⟩
theorem pm_w {G : Gt} {w0 w0' w1 : va_W} {sz : Nat} {s t : State} (hp : w0'.Perm w0) (hB : Bw G (va_A w0 sz) w1 t) (hF : va_F (va_A w0 sz) s t) : Bw G (va_A w0' sz) w1 t ∧ va_F (va_A w0' sz) s t := by
  have hi : ∀ q, va_A w0 sz q ↔ va_A w0' sz q := fun q => ⟨va_A.mono (fun x hx => hp.mem_iff.mpr hx), va_A.mono (fun x hx => hp.mem_iff.mp hx)⟩
  exact ⟨⟨hB.1, hB.2.weaken (fun _ q _ h => (hi _).mp h)⟩, hF.1, fun q h1 h2 => hF.2 q h1 (fun h => h2 ((hi q).mp h))⟩
theorem CWv.frame {l : Launch} {G : Gt} {y : MethodName} {b : ByteArray} {L : Nat} {fr ce sl lo : Nat} {av : List Value} {w0 : va_W} {sz : Nat} {post : va_W → Prop} (h : CWv l G y b L fr ce sl lo av w0 sz post) (wr : va_W) : CWv l G y b L fr ce sl lo av (w0 ++ wr) sz (fun w1 => ∃ w2, post w2 ∧ w1 = w2 ++ wr) := by
  intro p e h1 h2 h3 s m args below h4 h5 h6 h7
  obtain ⟨n, o, g1, g2, g3, ⟨⟨u, ho, hp, hB⟩, hF⟩, Lc, hL1, hL2⟩ := h p e h1 h2 h3 s m args below h4 h5 h6.fr h7
  obtain ⟨k1, k2⟩ := fr_w h6 hB hF
  exact ⟨n, o, g1, g2, g3, ⟨⟨_, ho, ⟨u, hp, rfl⟩, k1⟩, k2⟩, Lc, hL1, fun q hq => va_A.mono (fun x hx => List.mem_append_left _ hx) (hL2 q hq)⟩
theorem CWv.perm {l : Launch} {G : Gt} {y : MethodName} {b : ByteArray} {L : Nat} {fr ce sl lo : Nat} {av : List Value} {w0 : va_W} {sz : Nat} {post : va_W → Prop} {w0' : va_W} (h : CWv l G y b L fr ce sl lo av w0 sz post) (hpm : w0'.Perm w0) : CWv l G y b L fr ce sl lo av w0' sz post := by
  intro p e h1 h2 h3 s m args below h4 h5 h6 h7
  obtain ⟨n, o, g1, g2, g3, ⟨⟨u, ho, hp, hB⟩, hF⟩, Lc, hL1, hL2⟩ := h p e h1 h2 h3 s m args below h4 h5 (PcW.pm hpm.symm h6) h7
  obtain ⟨k1, k2⟩ := pm_w hpm hB hF
  exact ⟨n, o, g1, g2, g3, ⟨⟨u, ho, hp, k1⟩, k2⟩, Lc, hL1, fun q hq => va_A.mono (fun x hx => hpm.mem_iff.mpr hx) (hL2 q hq)⟩
theorem CWi.frame {l : Launch} {G : Gt} {y : MethodName} {b : ByteArray} {L : Nat} {r : FieldType} {fr ce sl lo : Nat} {av : List Value} {w0 : va_W} {sz : Nat} {post : Int32 → va_W → Prop} (h : CWi l G y b L r fr ce sl lo av w0 sz post) (wr : va_W) : CWi l G y b L r fr ce sl lo av (w0 ++ wr) sz (fun rr w1 => ∃ w2, post rr w2 ∧ w1 = w2 ++ wr) := by
  intro p e h1 h2 h3 s m args below h4 h5 h6 h7
  obtain ⟨n, o, g1, g2, g3, ⟨⟨rv, u, ho, hp, hB⟩, hF⟩, Lc, hL1, hL2⟩ := h p e h1 h2 h3 s m args below h4 h5 h6.fr h7
  obtain ⟨k1, k2⟩ := fr_w h6 hB hF
  exact ⟨n, o, g1, g2, g3, ⟨⟨rv, _, ho, ⟨u, hp, rfl⟩, k1⟩, k2⟩, Lc, hL1, fun q hq => va_A.mono (fun x hx => List.mem_append_left _ hx) (hL2 q hq)⟩
theorem CWi.perm {l : Launch} {G : Gt} {y : MethodName} {b : ByteArray} {L : Nat} {r : FieldType} {fr ce sl lo : Nat} {av : List Value} {w0 : va_W} {sz : Nat} {post : Int32 → va_W → Prop} {w0' : va_W} (h : CWi l G y b L r fr ce sl lo av w0 sz post) (hpm : w0'.Perm w0) : CWi l G y b L r fr ce sl lo av w0' sz post := by
  intro p e h1 h2 h3 s m args below h4 h5 h6 h7
  obtain ⟨n, o, g1, g2, g3, ⟨⟨rv, u, ho, hp, hB⟩, hF⟩, Lc, hL1, hL2⟩ := h p e h1 h2 h3 s m args below h4 h5 (PcW.pm hpm.symm h6) h7
  obtain ⟨k1, k2⟩ := pm_w hpm hB hF
  exact ⟨n, o, g1, g2, g3, ⟨⟨rv, u, ho, hp, k1⟩, k2⟩, Lc, hL1, fun q hq => va_A.mono (fun x hx => hpm.mem_iff.mpr hx) (hL2 q hq)⟩
theorem CWl.frame {l : Launch} {G : Gt} {y : MethodName} {b : ByteArray} {L : Nat} {fr ce sl lo : Nat} {av : List Value} {w0 : va_W} {sz : Nat} {post : Int64 → va_W → Prop} (h : CWl l G y b L fr ce sl lo av w0 sz post) (wr : va_W) : CWl l G y b L fr ce sl lo av (w0 ++ wr) sz (fun rr w1 => ∃ w2, post rr w2 ∧ w1 = w2 ++ wr) := by
  intro p e h1 h2 h3 s m args below h4 h5 h6 h7
  obtain ⟨n, o, g1, g2, g3, ⟨⟨rv, u, ho, hp, hB⟩, hF⟩, Lc, hL1, hL2⟩ := h p e h1 h2 h3 s m args below h4 h5 h6.fr h7
  obtain ⟨k1, k2⟩ := fr_w h6 hB hF
  exact ⟨n, o, g1, g2, g3, ⟨⟨rv, _, ho, ⟨u, hp, rfl⟩, k1⟩, k2⟩, Lc, hL1, fun q hq => va_A.mono (fun x hx => List.mem_append_left _ hx) (hL2 q hq)⟩
theorem CWl.perm {l : Launch} {G : Gt} {y : MethodName} {b : ByteArray} {L : Nat} {fr ce sl lo : Nat} {av : List Value} {w0 : va_W} {sz : Nat} {post : Int64 → va_W → Prop} {w0' : va_W} (h : CWl l G y b L fr ce sl lo av w0 sz post) (hpm : w0'.Perm w0) : CWl l G y b L fr ce sl lo av w0' sz post := by
  intro p e h1 h2 h3 s m args below h4 h5 h6 h7
  obtain ⟨n, o, g1, g2, g3, ⟨⟨rv, u, ho, hp, hB⟩, hF⟩, Lc, hL1, hL2⟩ := h p e h1 h2 h3 s m args below h4 h5 (PcW.pm hpm.symm h6) h7
  obtain ⟨k1, k2⟩ := pm_w hpm hB hF
  exact ⟨n, o, g1, g2, g3, ⟨⟨rv, u, ho, hp, k1⟩, k2⟩, Lc, hL1, fun q hq => va_A.mono (fun x hx => hpm.mem_iff.mpr hx) (hL2 q hq)⟩
theorem CWq.frame {l : Launch} {G : Gt} {y : MethodName} {b : ByteArray} {L : Nat} {r : FieldType} {fr ce sl lo : Nat} {av : List Value} {w0 : va_W} {sz : Nat} {post : Option Nat → va_W → Prop} (h : CWq l G y b L r fr ce sl lo av w0 sz post) (wr : va_W) : CWq l G y b L r fr ce sl lo av (w0 ++ wr) sz (fun rr w1 => ∃ w2, post rr w2 ∧ w1 = w2 ++ wr) := by
  intro p e h1 h2 h3 s m args below h4 h5 h6 h7
  obtain ⟨n, o, g1, g2, g3, ⟨⟨rv, u, ho, hp, hB⟩, hF⟩, Lc, hL1, hL2⟩ := h p e h1 h2 h3 s m args below h4 h5 h6.fr h7
  obtain ⟨k1, k2⟩ := fr_w h6 hB hF
  exact ⟨n, o, g1, g2, g3, ⟨⟨rv, _, ho, ⟨u, hp, rfl⟩, k1⟩, k2⟩, Lc, hL1, fun q hq => va_A.mono (fun x hx => List.mem_append_left _ hx) (hL2 q hq)⟩
theorem CWq.perm {l : Launch} {G : Gt} {y : MethodName} {b : ByteArray} {L : Nat} {r : FieldType} {fr ce sl lo : Nat} {av : List Value} {w0 : va_W} {sz : Nat} {post : Option Nat → va_W → Prop} {w0' : va_W} (h : CWq l G y b L r fr ce sl lo av w0 sz post) (hpm : w0'.Perm w0) : CWq l G y b L r fr ce sl lo av w0' sz post := by
  intro p e h1 h2 h3 s m args below h4 h5 h6 h7
  obtain ⟨n, o, g1, g2, g3, ⟨⟨rv, u, ho, hp, hB⟩, hF⟩, Lc, hL1, hL2⟩ := h p e h1 h2 h3 s m args below h4 h5 (PcW.pm hpm.symm h6) h7
  obtain ⟨k1, k2⟩ := pm_w hpm hB hF
  exact ⟨n, o, g1, g2, g3, ⟨⟨rv, u, ho, hp, k1⟩, k2⟩, Lc, hL1, fun q hq => va_A.mono (fun x hx => hpm.mem_iff.mpr hx) (hL2 q hq)⟩
