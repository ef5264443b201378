/-! what is reached stays reached -/
theorem WS_group {S : St} (h : WS S) (g lo hi : Int32) : WS (stGroup S g lo hi).2 := by
  unfold stGroup
  by_cases h1 : isF g (nI (sN S)) = true
  · rw [h1, if_neg (by decide)]
    by_cases h2 : lo < 0 ∨ hi < lo ∨ 14 < hi
    · rw [if_pos h2]; exact h
    · rw [if_neg h2]
      simp only [not_or] at h2
      obtain ⟨k1, k2, k3⟩ := h2
      obtain ⟨jg, rfl, q1, q2, q3⟩ := isF_gb h h1
      obtain ⟨jh, rfl, hh⟩ := le2_of (k := hi) (m := 14) (by decide) (fun h => k1 (Int32.lt_of_le_of_lt (Int32.not_lt.mp k2) h)) k3
      obtain ⟨jl, rfl, hl⟩ := le2_of (k := lo) (m := 14) (by decide) k1 (fun h => k3 (Int32.lt_of_lt_of_le h (Int32.not_lt.mp k2)))
      have hle : jl ≤ jh := nI_ngt (a := jl) (b := jh) k2
      obtain ⟨m1, m2, m3, m4⟩ := h
      refine ⟨m1, m2, fun j q hq => ?_, m4⟩
      have hq : va_up (sGr S) (iN (nI jg)) (some (iN (nI jl), iN (nI jh))) j = some q := hq
      rw [iN_nI (by omega), iN_nI (by omega), iN_nI (by omega)] at hq
      unfold va_up at hq
      by_cases hj : j = jg
      · rw [if_pos hj] at hq
        cases hq
        exact ⟨by omega, by show j ≤ sN S; omega, hle, hh⟩
      · rw [if_neg hj] at hq
        exact m3 j q hq
  · rw [Bool.not_eq_true] at h1
    rw [h1, if_pos (by rfl)]; exact h
