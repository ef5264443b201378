/-! statics: what the Statement says of the start, under any later state -/
def SF (ad : Nat → Nat) (A : Nat → Prop) (U : State) (H : Heap) : Prop := va_Z "java/util/ArrayList" "DEFAULTCAPACITY_EMPTY_ELEMENTDATA" "[Ljava/lang/Object;" (.ref (ad 256)) A U H ∧ va_T (.object "java/lang/Object") (ad 256) 0 (fun _ => .null) A U H ∧ va_O "[Ljava/lang/Object;" (ad 256) A U H ∧ va_Z "java/lang/Integer$IntegerCache" "high" "I" (.int 127) A U H ∧ va_Z "java/lang/Integer$IntegerCache" "cache" "[Ljava/lang/Integer;" (.ref (ad 257)) A U H ∧ va_T (.object "java/lang/Integer") (ad 257) 256 (fun j => .ref (ad j)) A U H ∧ vb_C ad A U H ∧ va_Z "java/lang/Boolean" "TRUE" "Ljava/lang/Boolean;" (.ref (ad 258)) A U H ∧ va_O "java/lang/Boolean" (ad 258) A U H ∧ va_OF "java/lang/Boolean" "value" "Z" (.int 1) (ad 258) A U H ∧ va_Z "java/lang/Boolean" "FALSE" "Ljava/lang/Boolean;" (.ref (ad 259)) A U H ∧ va_O "java/lang/Boolean" (ad 259) A U H ∧ va_OF "java/lang/Boolean" "value" "Z" (.int 0) (ad 259) A U H ∧ ad 258 ≠ ad 259 ∧ (∀ i, i < 260 → ¬ A (ad i))
theorem SF.moved {ad : Nat → Nat} {A : Nat → Prop} {u U : State} {H : Heap} (hvm : u.vm.Alike U.vm) (h : SF ad A u H) : SF ad A U H := by
  obtain ⟨h0, h1, h2, h3, h4, h5, h6, h7, h8, h9, h10, h11, h12, h90, h91⟩ := h
  exact ⟨va_Z.moved hvm h0, va_T.moved hvm h1, va_O.moved hvm h2, va_Z.moved hvm h3, va_Z.moved hvm h4, va_T.moved hvm h5, vb_C.moved hvm h6, va_Z.moved hvm h7, va_O.moved hvm h8, va_OF.moved hvm h9, va_Z.moved hvm h10, va_O.moved hvm h11, va_OF.moved hvm h12, h90, h91⟩
theorem SF.kept {ad : Nat → Nat} {A : Nat → Prop} {U : State} {H H1 : Heap} (h : SF ad A U H) (hq : ∀ a : Nat, a < H.size → ¬ A a → H1[a]? = H[a]?) : SF ad A U H1 := by
  obtain ⟨h0, h1, h2, h3, h4, h5, h6, h7, h8, h9, h10, h11, h12, h90, h91⟩ := h
  exact ⟨h0.kept hq, h1.kept hq, h2.kept hq, h3.kept hq, h4.kept hq, h5.kept hq, h6.kept hq, h7.kept hq, h8.kept hq, h9.kept hq, h10.kept hq, h11.kept hq, h12.kept hq, h90, h91⟩
theorem SF.narrow {ad : Nat → Nat} {A B : Nat → Prop} {U : State} {H : Heap} (h : SF ad A U H) (hAB : ∀ q, B q → A q) : SF ad B U H := by
  obtain ⟨h0, h1, h2, h3, h4, h5, h6, h7, h8, h9, h10, h11, h12, h90, h91⟩ := h
  exact ⟨h0.narrow hAB, h1.narrow hAB, h2.narrow hAB, h3.narrow hAB, h4.narrow hAB, h5.narrow hAB, h6.narrow hAB, h7.narrow hAB, h8.narrow hAB, h9.narrow hAB, h10.narrow hAB, h11.narrow hAB, h12.narrow hAB, h90, fun i hi hb => h91 i hi (hAB _ hb)⟩
theorem ref_of_exactly {args : Array Value} {s : State} {t : Term} {nm : String} (h : (Cond.exactly t nm).before args s = true) : ∃ a : Nat, t.eval args s none [] s = some (.ref a) := by
  obtain ⟨a, c, cell, k, ht, -⟩ := Cond.exactly_spec h
  exact ⟨a, ht⟩
set_option maxRecDepth 100000 in
set_option maxHeartbeats 4000000 in
theorem sf_ex {b : Nat} {s : State} (hw : ∀ w ∈ lw_tbl, w.before #[Value.ref b] s = true) (hn : (Jvm.Cond.and given_1 narrow_1).before #[Value.ref b] s = true) : ∃ ad : Nat → Nat, SF ad (fun q => s.heap.size ≤ q) s s.heap := by
  have hs := flat_of_before _ hn
  have hA : ∀ a : Nat, a < s.heap.size → ¬ (fun q => s.heap.size ≤ q) a := fun a h1 h2 => absurd h1 (Nat.not_lt.mpr h2)
  have e1 : (Term.length (Term.static "java/util/ArrayList" "DEFAULTCAPACITY_EMPTY_ELEMENTDATA" "[Ljava/lang/Object;")).eval #[Value.ref b] s none [] s = some (.int (Int32.ofNat 0)) := va_eqt (hs (Cond.eq (Term.length (Term.static "java/util/ArrayList" "DEFAULTCAPACITY_EMPTY_ELEMENTDATA" "[Ljava/lang/Object;")) (Term.int 0)) (by decide +kernel))
  obtain ⟨t1, v1, f1⟩ := va_Tof (ty := .object "java/lang/Object") (N := 0) (f := fun _ => .null) (A := fun q => s.heap.size ≤ q) (by decide) (hs (Cond.arrayOf (Term.static "java/util/ArrayList" "DEFAULTCAPACITY_EMPTY_ELEMENTDATA" "[Ljava/lang/Object;") (.object "java/lang/Object")) (by decide +kernel)) e1 (fun j hj => absurd hj (Nat.not_lt_zero _)) hA
  have f2 := va_Oof (hs (Cond.exactly (Term.static "java/util/ArrayList" "DEFAULTCAPACITY_EMPTY_ELEMENTDATA" "[Ljava/lang/Object;") "[Ljava/lang/Object;") (by decide +kernel)) v1 hA
  have z1 := va_Zref (hw _ q91) (hw _ (lw_all_tbl q32)) v1 hA
  have z2 := va_Zof (hw _ q348) (hw _ (lw_all_tbl q45)) (va_eqi (hs (Cond.eq (Term.static "java/lang/Integer$IntegerCache" "high" "I") (Term.int 127)) (by decide +kernel))) hA
  have e2 : (Term.length (Term.static "java/lang/Integer$IntegerCache" "cache" "[Ljava/lang/Integer;")).eval #[Value.ref b] s none [] s = some (.int (Int32.ofNat 256)) := va_eqt (hs (Cond.eq (Term.length (Term.static "java/lang/Integer$IntegerCache" "cache" "[Ljava/lang/Integer;")) (Term.int 256)) (by decide +kernel))
  obtain ⟨ad0, g1, g2⟩ := vb_Cof (A := fun q => s.heap.size ≤ q) (st := (Term.static "java/lang/Integer$IntegerCache" "cache" "[Ljava/lang/Integer;")) rfl e2 (hs _ (by decide +kernel)) hA
  obtain ⟨t2, v2, f3⟩ := va_Tof (ty := .object "java/lang/Integer") (N := 256) (f := fun j => .ref (ad0 j)) (A := fun q => s.heap.size ≤ q) (by decide) (hs (Cond.arrayOf (Term.static "java/lang/Integer$IntegerCache" "cache" "[Ljava/lang/Integer;") (.object "java/lang/Integer")) (by decide +kernel)) e2 g2 hA
  have z3 := va_Zref (hw _ q350) (hw _ (lw_all_tbl q45)) v2 hA
  obtain ⟨t3, v3⟩ := ref_of_exactly (hs (Cond.exactly (Term.static "java/lang/Boolean" "TRUE" "Ljava/lang/Boolean;") "java/lang/Boolean") (by decide +kernel))
  have z4 := va_Zref (hw _ q589) (hw _ (lw_all_tbl q46)) v3 hA
  have o4 := va_Oof (hs (Cond.exactly (Term.static "java/lang/Boolean" "TRUE" "Ljava/lang/Boolean;") "java/lang/Boolean") (by decide +kernel)) v3 hA
  have x4 := vk_OFof (A := fun q => s.heap.size ≤ q) (v := .int 1) v3 (va_eqt (hs (Cond.eq (Term.field (Term.static "java/lang/Boolean" "TRUE" "Ljava/lang/Boolean;") "java/lang/Boolean" "value" "Z") (Term.int 1)) (by decide +kernel))) hA
  obtain ⟨t4, v4⟩ := ref_of_exactly (hs (Cond.exactly (Term.static "java/lang/Boolean" "FALSE" "Ljava/lang/Boolean;") "java/lang/Boolean") (by decide +kernel))
  have z5 := va_Zref (hw _ q591) (hw _ (lw_all_tbl q46)) v4 hA
  have o5 := va_Oof (hs (Cond.exactly (Term.static "java/lang/Boolean" "FALSE" "Ljava/lang/Boolean;") "java/lang/Boolean") (by decide +kernel)) v4 hA
  have x5 := vk_OFof (A := fun q => s.heap.size ≤ q) (v := .int 0) v4 (va_eqt (hs (Cond.eq (Term.field (Term.static "java/lang/Boolean" "FALSE" "Ljava/lang/Boolean;") "java/lang/Boolean" "value" "Z") (Term.int 0)) (by decide +kernel))) hA
  have ne := va_neR (hs (Cond.not (.eq (Term.static "java/lang/Boolean" "TRUE" "Ljava/lang/Boolean;") (Term.static "java/lang/Boolean" "FALSE" "Ljava/lang/Boolean;"))) (by decide +kernel)) v3 v4
  let ad : Nat → Nat := fun k => if k < 256 then ad0 k else if k = 256 then t1 else if k = 257 then t2 else if k = 258 then t3 else t4
  have a1 : ad 256 = t1 := rfl
  have a2 : ad 257 = t2 := rfl
  have a3 : ad 258 = t3 := rfl
  have a4 : ad 259 = t4 := rfl
  have a0 : ∀ k, k < 256 → ad k = ad0 k := fun k hk => if_pos hk
  refine ⟨ad, ?_⟩
  unfold SF
  rw [a1, a2, a3, a4]
  refine ⟨z1, f1, f2, z2, z3, ?_, ⟨fun k hk => ?_, fun k hk => ?_⟩, z4, o4, x4, z5, o5, x5, ne, ?_⟩
  · obtain ⟨cell, c1, c2, c3, c4, c5, c6, c7⟩ := f3
    exact ⟨cell, c1, c2, c3, c4, c5, fun j hj => by rw [c6 j hj]; show some (Value.ref (ad0 j)) = some (Value.ref (ad j)); rw [a0 j hj], c7⟩
  · rw [a0 k hk]; exact g1.1 k hk
  · rw [a0 k hk]; exact g1.2 k hk
  · intro i hi
    by_cases h0 : i < 256
    · rw [a0 i h0]
      obtain ⟨-, -, -, -, hh⟩ := g1.1 i h0
      exact hh
    · rcases (show i = 256 ∨ i = 257 ∨ i = 258 ∨ i = 259 by omega) with rfl | rfl | rfl | rfl
      · exact va_T.out f1
      · exact va_T.out f3
      · obtain ⟨-, -, -, -, hh⟩ := o4; exact hh
      · obtain ⟨-, -, -, -, hh⟩ := o5; exact hh

theorem sf_gad (G : Gt) : ∃ ad : Nat → Nat, (∃ ad, SF ad (fun q => gz G ≤ q) (gs G) (gs G).heap) → SF ad (fun q => gz G ≤ q) (gs G) (gs G).heap := by
  by_cases h : ∃ ad, SF ad (fun q => gz G ≤ q) (gs G) (gs G).heap
  · obtain ⟨ad, h⟩ := h; exact ⟨ad, fun _ => h⟩
  · exact ⟨fun _ => 0, fun h' => absurd h' h⟩
/-- addresses of the run's constants: 0..255 the cached Integers, 256 ArrayList's empty array, 257 the cache, 258 TRUE, 259 FALSE -/
noncomputable def gad (G : Gt) : Nat → Nat := (sf_gad G).choose
theorem GG.sf {G : Gt} {U : State} (hG : GG G U) : SF (gad G) (fun q => gz G ≤ q) U U.heap := by
  have h := (sf_gad G).choose_spec (sf_ex hG.2.2.1 hG.2.2.2.1)
  refine SF.kept (SF.moved hG.warm.alike h) ?_
  intro q h1 h2
  exact hG.low q h1
/-- for a contract that writes: A lies above the start -/
theorem GG.sfA {G : Gt} {U : State} (hG : GG G U) {A : Nat → Prop} (hA0 : ∀ q, A q → gz G ≤ q) : SF (gad G) A U U.heap := hG.sf.narrow hA0
theorem GG.sfR {G : Gt} {U : State} (hG : GG G U) : SF (gad G) (fun _ => False) U U.heap := hG.sf.narrow (fun _ h => h.elim)
theorem SF.low {ad : Nat → Nat} {A : Nat → Prop} {U : State} {H : Heap} (h : SF ad A U H) : ∀ i, i < 260 → ¬ A (ad i) := h.2.2.2.2.2.2.2.2.2.2.2.2.2.2

