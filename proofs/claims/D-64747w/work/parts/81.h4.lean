theorem gvL_tb {on : Bool} {wv : Nat} : ∀ (ts : List Lit) (acc j : Nat), (gvL on wv ts acc).testBit j = true ↔ acc.testBit j = true ∨ ∃ t ∈ ts, t.2 = on ∧ wv.testBit (t.1 - 1) = false ∧ t.1 - 1 = j := by
  intro ts
  induction ts with
  | nil => intro acc j; simp [gvL]
  | cons t ts ih =>
    intro acc j
    rw [gvL, ih]
    by_cases h : ((t.2 == on) && !wv.testBit (t.1 - 1)) = true
    · rw [if_pos h, Nat.testBit_or, Nat.testBit_two_pow, Bool.or_eq_true, decide_eq_true_eq]
      rw [Bool.and_eq_true, beq_iff_eq, Bool.not_eq_true'] at h
      constructor
      · rintro ((h1 | h1) | ⟨u, hu, h2⟩)
        · exact Or.inl h1
        · exact Or.inr ⟨t, List.mem_cons_self, h.1, h.2, h1⟩
        · exact Or.inr ⟨u, List.mem_cons_of_mem _ hu, h2⟩
      · rintro (h1 | ⟨u, hu, h2⟩)
        · exact Or.inl (Or.inl h1)
        · rcases List.mem_cons.mp hu with rfl | hu
          · exact Or.inl (Or.inr h2.2.2)
          · exact Or.inr ⟨u, hu, h2⟩
    · rw [if_neg h]
      constructor
      · rintro (h1 | ⟨u, hu, h2⟩)
        · exact Or.inl h1
        · exact Or.inr ⟨u, List.mem_cons_of_mem _ hu, h2⟩
      · rintro (h1 | ⟨u, hu, h2⟩)
        · exact Or.inl h1
        · rcases List.mem_cons.mp hu with rfl | hu
          · exact absurd (by rw [h2.1, h2.2.1, Bool.and_eq_true]; exact ⟨beq_self_eq_true _, rfl⟩) h
          · exact Or.inr ⟨u, hu, h2⟩
/-- the same choices, by features (wv) and by places (w) -/
def mskOk (S : St) (wv w : Nat) : Prop := ∀ k, k < (sCh S).length → w.testBit k = wv.testBit (((sCh S).getD k (0, true)).1 - 1)
theorem gv0_tb {on : Bool} {n j : Nat} : (gv0 on n).testBit j = true ↔ on = true ∧ 0 < n ∧ j = 0 := by
  unfold gv0
  by_cases h : (on && decide (0 < n)) = true
  · rw [if_pos h]
    rw [Bool.and_eq_true, decide_eq_true_eq] at h
    rw [show (1 : Nat) = 2 ^ 0 from rfl, Nat.testBit_two_pow, decide_eq_true_eq]
    exact ⟨fun h1 => ⟨h.1, h.2, h1.symm⟩, fun h1 => h1.2.2.symm⟩
  · rw [if_neg h, Nat.zero_testBit]
    refine ⟨fun h1 => (by cases h1), fun h1 => absurd ?_ h⟩
    rw [h1.1, Bool.true_and, decide_eq_true_eq]; exact h1.2.1
theorem sol_ok {S : St} (hW : WS S) {av : Nat → Nat → Int32} (hv : avOk S av) {rs : List (Nat × Rl)} (hr : rs.map (·.2) = ruS S) {wv w : Nat} (hm : mskOk S wv w) (x : Nat) : solB (sN S) (brS av rs) (gvN S true wv) (gvN S false wv) x = (decide (x < 2 ^ sN S) && okA S w (rvN (sN S) x)) := by
  have hch := hW.2.2.2.2.2.2.2.1
  by_cases hx : x < 2 ^ sN S
  · rw [decide_eq_true hx, Bool.true_and]
    unfold okA
    rw [ok_br hW hv hr hx]
    apply Bool.eq_iff_iff.mpr
    rw [sol_iff, Bool.and_eq_true, Bool.and_eq_true, Bool.or_eq_true, decide_eq_true_eq, Bool.not_eq_true']
    unfold okCh
    rw [alB_iff]
    have key : ∀ t ∈ sCh S, hld (sN S) (rvN (sN S) x) t = if t.2 then x.testBit (t.1 - 1) else !x.testBit (t.1 - 1) := by
      intro t ht
      unfold hld
      rw [tb_rv (hch t ht).1 (hch t ht).2]
    constructor
    · rintro ⟨-, h1, h2, h3⟩
      refine ⟨⟨?_, h3⟩, ?_⟩
      · rcases Nat.eq_zero_or_pos (sN S) with h0 | h0
        · exact Or.inl h0
        · exact Or.inr (h1 0 ((gvL_tb _ _ _).mpr (Or.inl (gv0_tb.mpr ⟨rfl, h0, rfl⟩))))
      · intro k hk
        unfold chP
        rw [hm k hk]
        have ht : (sCh S).getD k (0, true) ∈ sCh S := by rw [List.getD_eq_getElem?_getD, List.getElem?_eq_getElem hk]; exact List.getElem_mem hk
        generalize (sCh S).getD k (0, true) = t at *
        cases hw : wv.testBit (t.1 - 1) with
        | true => rfl
        | false =>
          rw [Bool.false_or, key t ht]
          cases hb : t.2 with
          | true => rw [if_pos rfl]; exact h1 _ ((gvL_tb _ _ _).mpr (Or.inr ⟨t, ht, hb, hw, rfl⟩))
          | false => rw [if_neg (by decide), h2 _ ((gvL_tb _ _ _).mpr (Or.inr ⟨t, ht, hb, hw, rfl⟩))]; rfl
    · rintro ⟨⟨h1, h3⟩, h2⟩
      have hk : ∀ t ∈ sCh S, wv.testBit (t.1 - 1) = false → hld (sN S) (rvN (sN S) x) t = true := by
        intro t ht hw
        obtain ⟨k, hk, rfl⟩ := List.mem_iff_getElem.mp ht
        have e : (sCh S).getD k (0, true) = (sCh S)[k] := by rw [List.getD_eq_getElem?_getD, List.getElem?_eq_getElem hk]; rfl
        have := h2 k hk
        unfold chP at this
        rw [hm k hk, e, hw, Bool.false_or] at this
        exact this
      refine ⟨hx, fun j hj => ?_, fun j hj => ?_, h3⟩
      · rcases (gvL_tb _ _ _).mp hj with h | ⟨t, ht, hb, hw, rfl⟩
        · obtain ⟨-, h0, rfl⟩ := gv0_tb.mp h
          exact h1.resolve_left (by omega)
        · have := hk t ht hw
          rw [key t ht, if_pos hb] at this
          exact this
      · rcases (gvL_tb _ _ _).mp hj with h | ⟨t, ht, hb, hw, rfl⟩
        · exact absurd (gv0_tb.mp h).1 (by decide)
        · have := hk t ht hw
          rw [key t ht, if_neg (by rw [hb]; decide)] at this
          cases hc : x.testBit (t.1 - 1) with
          | false => rfl
          | true => rw [hc] at this; cases this
  · rw [decide_eq_false hx, Bool.false_and]
    unfold solB
    rw [decide_eq_false hx, Bool.false_and]
