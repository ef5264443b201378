theorem WS_feature {S : St} (h : WS S) (pp k : Int32) : WS (stFeature S pp k).2 := by
  unfold stFeature
  by_cases h1 : sbad (sN S) pp = true
  · rw [if_pos h1]; exact h
  · rw [if_neg h1]
    rw [Bool.not_eq_true] at h1
    by_cases h2 : k < 0 ∨ 2 < k
    · rw [if_pos h2]; exact h
    · rw [if_neg h2]
      by_cases h3 : sN S = 14
      · rw [if_pos h3]; exact h
      · rw [if_neg h3]
        simp only [not_or] at h2
        obtain ⟨g, rfl, hg1, hg2⟩ := sbad_of h.1 h1
        obtain ⟨kk, rfl, hk⟩ := le2_of (k := k) (m := 2) (by decide) h2.1 h2.2
        have hn := h.1
        obtain ⟨m1, m2, m3, m4, m5, m6, m7, m8, m9, m10, m11, m12, m13, m14⟩ := h
        refine ⟨by show sN S + 1 ≤ 14; omega, fun j q1 q2 => ?_, fun j q hq => ?_, m4, fun j hj => ?_, fun w j => ?_, m7, fun t ht => ?_, m9, fun q hq => ?_, m11, fun q hq => ?_, fun t ht => ?_, m14⟩
        · have q2 : j ≤ sN S + 1 := q2
          show va_up (sPa S) (sN S + 1) (iN (nI g)) j < j ∧ (1 < j → 1 ≤ va_up (sPa S) (sN S + 1) (iN (nI g)) j) ∧ va_up (sKi S) (sN S + 1) (iN (nI kk)) j ≤ 2
          rw [iN_nI (by omega), iN_nI (by omega)]
          unfold va_up
          by_cases hj : j = sN S + 1
          · rw [if_pos hj, if_pos hj]; exact ⟨by omega, fun h => hg2 (by omega), hk⟩
          · rw [if_neg hj, if_neg hj]; exact m2 j q1 (by omega)
        · have := m3 j q hq
          exact ⟨this.1, by show j ≤ sN S + 1; omega, this.2.2⟩
        · have := m5 j hj
          exact ⟨this.1, this.2.1, Nat.le_succ_of_le this.2.2.1, this.2.2.2.1, Nat.le_succ_of_le this.2.2.2.2⟩
        · exact ⟨(m6 w j).1, (m6 w j).2.1, fun hj => (m6 w j).2.2 (by have hj : j < 1 ∨ sN S + 1 < j := hj; omega)⟩
        · have := m8 t ht; exact ⟨this.1, by show t.1 ≤ sN S + 1; omega⟩
        · have := m10 q hq; exact ⟨by show q.1 ≤ sN S + 1; omega, this.2⟩
        · have := m12 q hq; exact ⟨by show q.1 ≤ sN S + 1; omega, this.2⟩
        · have := m13 t ht; exact ⟨this.1, by show t.1 ≤ sN S + 1; omega⟩
