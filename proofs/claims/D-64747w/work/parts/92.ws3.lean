theorem WS_formula {S : St} (h : WS S) (op x y : Int32) : WS (stFormula S op x y).2 := by
  unfold stFormula
  by_cases h1 : (!isL x (nI (sN S)) || !isL y (nI (sN S))) = true
  · rw [if_pos h1]; exact h
  · rw [if_neg h1]
    by_cases h2 : op < 0 ∨ 3 < op
    · rw [if_pos h2]; exact h
    · rw [if_neg h2]
      by_cases h3 : sNf S = 40
      · rw [if_pos h3]; exact h
      · rw [if_neg h3]
        by_cases h4 : stAlw op x y = true
        · rw [if_pos h4]; exact h
        · rw [if_neg h4]
          have hx : isL x (nI (sN S)) = true := by
            cases hc : isL x (nI (sN S)) with
            | true => rfl
            | false => rw [hc] at h1; exact absurd rfl h1
          have hy : isL y (nI (sN S)) = true := by
            cases hc : isL y (nI (sN S)) with
            | true => rfl
            | false => rw [hx, hc] at h1; exact absurd rfl h1
          obtain ⟨-, a2, a3⟩ := isL_lit h hx
          obtain ⟨-, b2, b3⟩ := isL_lit h hy
          simp only [not_or] at h2
          obtain ⟨j, rfl, hj⟩ := le2_of (k := op) (m := 3) (by decide) h2.1 h2.2
          obtain ⟨m1, m2, m3, m4, m5, m6⟩ := h
          refine ⟨m1, m2, m3, by show sNf S + 1 ≤ 40; omega, fun k hk => ?_, m6⟩
          have hk : k < sNf S + 1 := hk
          show (va_up (sFo S) (sNf S) (iN (nI j), toLit x, toLit y) k).1 ≤ 3 ∧ 1 ≤ (va_up (sFo S) (sNf S) (iN (nI j), toLit x, toLit y) k).2.1.1 ∧ (va_up (sFo S) (sNf S) (iN (nI j), toLit x, toLit y) k).2.1.1 ≤ sN S ∧ 1 ≤ (va_up (sFo S) (sNf S) (iN (nI j), toLit x, toLit y) k).2.2.1 ∧ (va_up (sFo S) (sNf S) (iN (nI j), toLit x, toLit y) k).2.2.1 ≤ sN S
          rw [iN_nI (by omega)]
          unfold va_up
          by_cases hj' : k = sNf S
          · rw [if_pos hj']; exact ⟨hj, a2, a3, b2, b3⟩
          · rw [if_neg hj']; exact m5 k (by omega)
