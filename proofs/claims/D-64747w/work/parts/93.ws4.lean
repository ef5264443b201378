theorem WS_attr {S : St} (h : WS S) (g w v : Int32) : WS (stAttr S g w v).2 := by
  unfold stAttr
  by_cases h1 : (!decide (g = 0) && !isF g (nI (sN S))) = true
  · rw [if_pos h1]; exact h
  · rw [if_neg h1]
    by_cases h2 : w < 0 ∨ 3 < w ∨ v < -(stBd g) ∨ stBd g < v
    · rw [if_pos h2]; exact h
    · rw [if_neg h2]
      simp only [not_or] at h2
      obtain ⟨k1, k2, k3, k4⟩ := h2
      obtain ⟨jw, rfl, hw⟩ := le2_of (k := w) (m := 3) (by decide) k1 k2
      by_cases h3 : g = 0
      · rw [if_pos h3]
        have hb : stBd g = 10000 := by unfold stBd; rw [if_pos h3]
        rw [hb, Int32.lt_iff_toInt_lt] at k3 k4
        have e1 : (-(10000 : Int32)).toInt = -10000 := by decide
        have e2 : (10000 : Int32).toInt = 10000 := by decide
        rw [e1] at k3
        rw [e2] at k4
        obtain ⟨m1, m2, m3, m4, m5, m6, m7, m8⟩ := h
        refine ⟨m1, m2, m3, m4, m5, m6, fun j x hx => ?_, m8⟩
        have hx : va_up (sLm S) (iN (nI jw)) (some v) j = some x := hx
        rw [iN_nI (by omega)] at hx
        unfold va_up at hx
        by_cases hj : j = jw
        · rw [if_pos hj] at hx
          cases hx
          exact ⟨by omega, by omega, by omega⟩
        · rw [if_neg hj] at hx
          exact m7 j x hx
      · rw [if_neg h3]
        have hF : isF g (nI (sN S)) = true := by
          cases hc : isF g (nI (sN S)) with
          | true => rfl
          | false => rw [hc, decide_eq_false h3] at h1; exact absurd rfl h1
        have hb : stBd g = 1000 := by unfold stBd; rw [if_neg h3]
        rw [hb, Int32.lt_iff_toInt_lt] at k3 k4
        have e1 : (-(1000 : Int32)).toInt = -1000 := by decide
        have e2 : (1000 : Int32).toInt = 1000 := by decide
        rw [e1] at k3
        rw [e2] at k4
        obtain ⟨jg, rfl, q1, q2, q3⟩ := isF_gb h hF
        obtain ⟨m1, m2, m3, m4, m5, m6, m7⟩ := h
        refine ⟨m1, m2, m3, m4, m5, fun u j => ?_, m7⟩
        show (va_up (sAt S) (iN (nI jw)) (va_up (sAt S (iN (nI jw))) (iN (nI jg)) v) u j).toInt ≤ 1000 ∧ -1000 ≤ (va_up (sAt S) (iN (nI jw)) (va_up (sAt S (iN (nI jw))) (iN (nI jg)) v) u j).toInt ∧ (j < 1 ∨ sN S < j → va_up (sAt S) (iN (nI jw)) (va_up (sAt S (iN (nI jw))) (iN (nI jg)) v) u j = 0)
        rw [iN_nI (by omega), iN_nI (by omega)]
        by_cases hu : u = jw
        · have e3 : va_up (sAt S) jw (va_up (sAt S jw) jg v) u = va_up (sAt S jw) jg v := by unfold va_up; rw [if_pos hu]
          rw [e3]
          by_cases hj : j = jg
          · have e4 : va_up (sAt S jw) jg v j = v := by unfold va_up; rw [if_pos hj]
            rw [e4]
            exact ⟨by omega, by omega, fun h => by omega⟩
          · have e4 : va_up (sAt S jw) jg v j = sAt S jw j := by unfold va_up; rw [if_neg hj]
            rw [e4]
            exact m6 jw j
        · have e3 : va_up (sAt S) jw (va_up (sAt S jw) jg v) u = sAt S u := by unfold va_up; rw [if_neg hu]
          rw [e3]
          exact m6 u j
theorem chDel_mem {ch : List Lit} {g : Nat} {t : Lit} (h : t ∈ chDel ch g) : t ∈ ch ∧ t.1 ≠ g := by
  unfold chDel at h
  rw [List.mem_filter] at h
  exact ⟨h.1, of_decide_eq_true h.2⟩
theorem chDel_nd {ch : List Lit} {g : Nat} (h : (ch.map (·.1)).Nodup) : ((chDel ch g).map (·.1)).Nodup := by
  unfold chDel
  exact List.Pairwise.sublist (List.Sublist.map _ (List.filter_sublist ..)) h
theorem WS_choose {S : St} (h : WS S) (x : Int32) (on : Bool) : WS (stChoose S x on).2 := by
  unfold stChoose
  by_cases h1 : isL x (nI (sN S)) = true
  · rw [h1, if_neg (by decide)]
    obtain ⟨-, a2, a3⟩ := isL_lit h h1
    obtain ⟨m1, m2, m3, m4, m5, m6, m7, m8, m9, m10⟩ := h
    have hb : ∀ t ∈ chNew (sCh S) x on, 1 ≤ t.1 ∧ t.1 ≤ sN S := by
      intro t ht
      unfold chNew at ht
      by_cases h2 : 0 < x
      · rw [if_pos h2, List.mem_append] at ht
        rcases ht with ht | ht
        · exact m8 t (chDel_mem ht).1
        · rw [List.mem_singleton] at ht
          rw [ht]; exact ⟨a2, a3⟩
      · rw [if_neg h2] at ht
        exact m8 t (chDel_mem ht).1
    have hd : ((chNew (sCh S) x on).map (·.1)).Nodup := by
      unfold chNew
      by_cases h2 : 0 < x
      · rw [if_pos h2, List.map_append]
        refine List.pairwise_append.mpr ⟨chDel_nd m9, List.pairwise_singleton _ _, ?_⟩
        intro u hu v hv
        rw [List.mem_map] at hu
        obtain ⟨t, ht, rfl⟩ := hu
        rw [List.map_cons, List.map_nil, List.mem_singleton] at hv
        rw [hv]
        exact (chDel_mem ht).2
      · rw [if_neg h2]
        exact chDel_nd m9
    exact ⟨m1, m2, m3, m4, m5, m6, m7, hb, hd, m10⟩
  · rw [Bool.not_eq_true] at h1
    rw [h1, if_pos (by rfl)]; exact h
theorem whL_mem {ch : List Lit} {gn : Nat} : ∀ k, k ≤ ch.length → ∀ t ∈ whL ch gn k, t ∈ ch := by
  intro k
  induction k with
  | zero => intro _ t ht; cases ht
  | succ k ih =>
    intro hk t ht
    unfold whL at ht
    by_cases h : gn.testBit k = true
    · rw [if_pos h] at ht
      exact ih (by omega) t ht
    · rw [if_neg h, List.mem_append] at ht
      rcases ht with ht | ht
      · exact ih (by omega) t ht
      · rw [List.mem_singleton] at ht
        rw [ht]
        exact getD_in (P := fun t => t ∈ ch) (fun _ h => h) (by omega)
theorem WS_solve {S : St} (h : WS S) : WS (stSolve S).2 := by
  have hm := h
  obtain ⟨m1, m2, m3, m4, m5, m6, m7, m8, m9, m10, m11, m12, m13, m14⟩ := hm
  cases hf : fsA S 0 with
  | some x =>
    have hx : x < 2 ^ sN S := (fsN_lt hf).1
    by_cases h1 : (sFd S).length < 200
    · rw [sv_1 hf h1]
      refine WS_end h (fun q hq => ?_) (by rw [List.length_append]; show (sFd S).length + 1 ≤ 200; omega) (fun q hq => ?_) (fun t ht => (by cases ht)) (Nat.zero_le _)
      · rw [List.mem_append] at hq
        rcases hq with hq | hq
        · exact m10 q hq
        · rw [List.mem_singleton] at hq
          rw [hq]; exact ⟨Nat.le_refl _, hx⟩
      · cases hq; exact ⟨Nat.le_refl _, hx⟩
    · rw [sv_2 hf h1]
      refine WS_end h m10 m11 (fun q hq => ?_) (fun t ht => (by cases ht)) (Nat.zero_le _)
      cases hq; exact ⟨Nat.le_refl _, hx⟩
  | none =>
    rw [sv_3 hf]
    refine WS_end h m10 m11 (fun q hq => (by cases hq)) (fun t ht => m8 t (whL_mem _ (Nat.le_refl _) t ht)) ?_
    have := whL_len (sCh S) (gnN S (sCh S).length) (sCh S).length
    have := ch_len m1 m8 m9
    omega
