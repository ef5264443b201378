theorem rfOk.to {S S' : St} {rf : List (Nat × Rl)} (h : rfOk S rf) (e5 : sNf S' = sNf S) (e6 : sFo S' = sFo S) : rfOk S' rf := by
  unfold rfOk at *
  rw [e5, foRs_eq e6]
  exact h
theorem gmN_tb (pa ki : Nat → Nat) (g : Nat) : ∀ m j, (gmN pa ki g m).testBit j = (decide (j + 1 < m) && gbP pa ki g (j + 1)) := by
  intro m
  induction m with
  | zero => intro j; simp [gmN]
  | succ k ih =>
    intro j
    rw [gmN]
    by_cases hk : gbP pa ki g k = true
    · have h1 : 1 ≤ k := by
        unfold gbP at hk
        rw [Bool.and_eq_true, Bool.and_eq_true, decide_eq_true_eq] at hk
        exact hk.1.1
      rw [if_pos hk, Nat.testBit_or, ih, Nat.testBit_two_pow]
      by_cases hj : k - 1 = j
      · have e : j + 1 = k := by omega
        rw [e, hk, decide_eq_true hj, decide_eq_true (show k < k + 1 by omega), Bool.or_true]; rfl
      · rw [decide_eq_false hj, Bool.or_false]
        by_cases h2 : j + 1 < k
        · rw [decide_eq_true h2, decide_eq_true (show j + 1 < k + 1 by omega)]
        · rw [decide_eq_false h2, decide_eq_false (show ¬ j + 1 < k + 1 by omega)]
    · rw [if_neg hk, ih]
      by_cases h2 : j + 1 < k
      · rw [decide_eq_true h2, decide_eq_true (show j + 1 < k + 1 by omega)]
      · rw [decide_eq_false h2]
        by_cases h3 : j + 1 = k
        · rw [h3, Bool.not_eq_true] at *
          rw [hk, Bool.and_false, Bool.and_false]
        · rw [decide_eq_false (show ¬ j + 1 < k + 1 by omega)]
theorem ctB_cut {P : Nat → Bool} {n : Nat} : ∀ m, n ≤ m → ctB (fun j => decide (j < n) && P j) m = ctB P n := by
  intro m
  induction m with
  | zero => intro h; rw [Nat.le_zero.mp h]; rfl
  | succ m ih =>
    intro h
    rcases Nat.lt_or_ge m n with h' | h'
    · have e : n = m + 1 := by omega
      subst e
      exact ctB_congr (fun j hj => by show (decide _ && P j) = P j; rw [decide_eq_true hj, Bool.true_and])
    · show ctB _ m + (if (decide (m < n) && P m) = true then 1 else 0) = _
      rw [ih h', decide_eq_false (by omega)]; rfl
theorem pc_gm (pa ki : Nat → Nat) (g n : Nat) (hn : n ≤ 14) : pcN (gmN pa ki g (n + 1)) = ctB (gbP pa ki g) (n + 1) := by
  rw [ctB_sh]
  show ctB _ 14 = 0 + _
  rw [Nat.zero_add, ← ctB_cut 14 hn]
  refine ctB_congr (fun j _ => ?_)
  rw [gmN_tb]
  by_cases h : j < n
  · rw [decide_eq_true h, decide_eq_true (show j + 1 < n + 1 by omega)]
  · rw [decide_eq_false h, decide_eq_false (show ¬ j + 1 < n + 1 by omega)]
theorem FW_attribute (l : Launch) (G : Gt) (x : Nat) (S : St) (w : va_W) (hF : FW G x S w) (hW : WS S) (i wh v : Int32) (sz : Nat) : CWi l G yX1_attribute cX1_attribute 6 .int 4 1 1 73 [.ref x, .int i, .int wh, .int v] w sz (fun r w1 => r = (stAttr S i wh v).1 ∧ FW G x (stAttr S i wh v).2 w1) := by
  obtain ⟨a, iv, fl, wk, wm, b12, b14, w12, w14, rfl, h1, h2, h3, h4, h5, h6, h7, rfl⟩ := hF
  obtain ⟨fp, fk, ra, av, lf, gf, gw, lb, rf, w6, w9, vs9, own, g1, g2, g3, g4, g5, g6, g7, g8, rfl⟩ := h4
  have hm := CWi.perm (w0' := xC a iv :: (a 2, .inl (gA G 0, sN S, .inl fl)) :: (dkW G a fp fk ra av lf gf gw lb rf w6 w9 own ++ (wm ++ (w12 ++ (bxF b12 ++ (w14 ++ bxF b14)))))) ((metX1_attribute l G a iv ra av lf S (sN S) rfl h1 hW i wh v sz).frame ((a 2, .inl (gA G 0, sN S, .inl fl)) :: (a 0, .inl (gA G 0, 15, .inl fp)) :: (a 1, .inl (gA G 0, 15, .inl fk)) :: (a 5, .inl (gA G 6, 15, .inr (.inr (.inr (.inr gf))))) :: (flW lb 4 ++ (flW gw 15 ++ (w6 ++ (rlW ra rf ++ (w9 ++ (own ++ (wm ++ (w12 ++ (bxF b12 ++ (w14 ++ bxF b14)))))))))))) (pm_ (fun _ z => by simp only [xC, dkW, rwW, wX, List.cons_append, List.nil_append, List.count_append, List.count_cons, List.count_nil]; omega))
  refine CWi.postd hm (fun r w1 hp => ?_)
  obtain ⟨w2, hp, rfl⟩ := hp
  rcases hp with ⟨e, rfl⟩ | ⟨g, j, rfl, rfl, hg1, hg2, hj, e, rfl⟩ | ⟨j, y, wb, rfl, rfl, hj, hb, e, rfl⟩
  · exact ⟨xC a iv :: (a 2, .inl (gA G 0, sN S, .inl fl)) :: (dkW G a fp fk ra av lf gf gw lb rf w6 w9 own ++ (wm ++ (w12 ++ (bxF b12 ++ (w14 ++ bxF b14))))), [], (by rw [List.append_nil]; exact (pm_ (fun _ z => by simp only [xC, dkW, rwW, wX, List.cons_append, List.nil_append, List.count_append, List.count_cons, List.count_nil]; omega))), pr_eq (P := fun S' => FW G (a 15) S' _) e ⟨a, iv, fl, _, wm, b12, b14, w12, w14, rfl, h1, h2, h3, ⟨fp, fk, ra, av, lf, gf, gw, lb, rf, w6, w9, vs9, own, g1, g2, g3, g4, g5, g6, g7, g8, rfl⟩, h5, h6, h7, rfl⟩⟩
  · have hg14 : g ≤ 14 := Nat.le_trans hg2 hW.1
    refine ⟨xC a (va_up iv 10 0) :: (a 2, .inl (gA G 0, sN S, .inl fl)) :: (dkW G a fp fk ra (va_up av j (upd (av j) g v)) lf gf gw lb rf w6 w9 own ++ (wm ++ (w12 ++ (bxF b12 ++ (w14 ++ bxF b14))))), [], (by rw [List.append_nil]; exact (pm_ (fun _ z => by simp only [xC, dkW, rwW, wX, List.cons_append, List.nil_append, List.count_append, List.count_cons, List.count_nil]; omega))), pr_eq (P := fun S' => FW G (a 15) S' _) e ⟨a, va_up iv 10 0, fl, _, wm, b12, b14, w12, w14, rfl, h1, h2, h3, ⟨fp, fk, ra, va_up av j (upd (av j) g v), lf, gf, gw, lb, rf, w6, w9, vs9, own, g1, ?_, g3, g4, g5.to rfl rfl, g6, g7, Or.inl rfl, rfl⟩, h5, h6, h7, rfl⟩⟩
    intro k q hk hq1 hq2
    show va_up av j (upd (av j) g v) k q = va_up (sAt S) (iN (nI j)) (va_up (sAt S (iN (nI j))) (iN (nI g)) v) k q
    rw [iN_nI (by omega), iN_nI (by omega)]
    by_cases hkj : k = j
    · subst hkj
      simp only [va_up, upd, if_true]
      by_cases hqg : q = g
      · rw [if_pos hqg, if_pos hqg]
      · rw [if_neg hqg, if_neg hqg]; exact g2 k q hk hq1 hq2
    · simp only [va_up, if_neg hkj]; exact g2 k q hk hq1 hq2
  · refine ⟨xC a (va_up iv 10 0) :: (a 2, .inl (gA G 0, sN S, .inl fl)) :: (dkW G a fp fk ra av (va_up lf j (some y)) gf gw (va_up lb j wb) rf w6 w9 own ++ (wm ++ (w12 ++ (bxF b12 ++ (w14 ++ bxF b14))))), lb j, ?_, pr_eq (P := fun S' => FW G (a 15) S' _) e ⟨a, va_up iv 10 0, fl, _, wm, b12, b14, w12, w14, rfl, h1, h2, h3, ⟨fp, fk, ra, av, va_up lf j (some y), gf, gw, va_up lb j wb, rf, w6, w9, vs9, own, g1, g2, ?_, g4, g5.to rfl rfl, g6, g7, Or.inl rfl, rfl⟩, h5, h6, h7, rfl⟩⟩
    · refine pm_ (fun _ z => ?_)
      have hc := (flW_up (f := lb) (w := wb) hj).count_eq z
      simp only [List.count_append] at hc
      simp only [xC, dkW, rwW, List.cons_append, List.nil_append, List.count_append, List.count_cons, List.count_nil]
      omega
    · intro k hk
      show (va_up (sLm S) (iN (nI j)) (some v) k = none ∧ va_up lf j (some y) k = none) ∨ ∃ v' y', va_up (sLm S) (iN (nI j)) (some v) k = some v' ∧ va_up lf j (some y) k = some y' ∧ bxW G v' y' (va_up lb j wb k)
      rw [iN_nI (by omega)]
      by_cases hkj : k = j
      · subst hkj
        right
        refine ⟨v, y, ?_, ?_, ?_⟩ <;> simp only [va_up, if_true]
        exact hb
      · simp only [va_up, if_neg hkj]
        exact g3 k hk
theorem FW_group (l : Launch) (G : Gt) (x : Nat) (S : St) (w : va_W) (hF : FW G x S w) (hW : WS S) (i lo hi : Int32) (sz : Nat) : CWi l G yX1_group cX1_group 4 .int 2 1 2 43 [.ref x, .int i, .int lo, .int hi] w sz (fun r w1 => r = (stGroup S i lo hi).1 ∧ FW G x (stGroup S i lo hi).2 w1) := by
  obtain ⟨a, iv, fl, wk, wm, b12, b14, w12, w14, rfl, h1, h2, h3, h4, h5, h6, h7, rfl⟩ := hF
  obtain ⟨fp, fk, ra, av, lf, gf, gw, lb, rf, w6, w9, vs9, own, g1, g2, g3, g4, g5, g6, g7, g8, rfl⟩ := h4
  have hm := CWi.perm (w0' := xC a iv :: (a 2, .inl (gA G 0, sN S, .inl fl)) :: (dkW G a fp fk ra av lf gf gw lb rf w6 w9 own ++ (wm ++ (w12 ++ (bxF b12 ++ (w14 ++ bxF b14)))))) ((metX1_group l G a iv fp fk gf S (sN S) rfl h1 hW (WS_1 hW) (fun j q1 q2 => ⟨(g1 j q1 q2).1, (g1 j q1 q2).2, (WS_p hW q1 q2).1, (WS_p hW q1 q2).2⟩) i lo hi sz).frame ((a 2, .inl (gA G 0, sN S, .inl fl)) :: (a 3, .inl (gA G 6, 4, .inr (.inr (.inr (.inr (fun k => some (ra k))))))) :: (a 4, .inl (gA G 4, 4, .inr (.inr (.inr (.inr lf))))) :: (rwW G ra av ++ (flW lb 4 ++ (flW gw 15 ++ (w6 ++ (rlW ra rf ++ (w9 ++ (own ++ (wm ++ (w12 ++ (bxF b12 ++ (w14 ++ bxF b14))))))))))))) (pm_ (fun _ z => by simp only [xC, dkW, rwW, wX, List.cons_append, List.nil_append, List.count_append, List.count_cons, List.count_nil]; omega))
  refine CWi.postd hm (fun r w1 hp => ?_)
  obtain ⟨w2, hp, rfl⟩ := hp
  rcases hp with ⟨e, rfl⟩ | ⟨g, q, pr, rfl, hg1, hg2, k1, k2, k3, hF, rfl, rfl, rfl⟩
  · exact ⟨xC a iv :: (a 2, .inl (gA G 0, sN S, .inl fl)) :: (dkW G a fp fk ra av lf gf gw lb rf w6 w9 own ++ (wm ++ (w12 ++ (bxF b12 ++ (w14 ++ bxF b14))))), [], (by rw [List.append_nil]; exact (pm_ (fun _ z => by simp only [xC, dkW, rwW, wX, List.cons_append, List.nil_append, List.count_append, List.count_cons, List.count_nil]; omega))), pr_eq (P := fun S' => FW G (a 15) S' _) e ⟨a, iv, fl, _, wm, b12, b14, w12, w14, rfl, h1, h2, h3, ⟨fp, fk, ra, av, lf, gf, gw, lb, rf, w6, w9, vs9, own, g1, g2, g3, g4, g5, g6, g7, g8, rfl⟩, h5, h6, h7, rfl⟩⟩
  · obtain ⟨jh, rfl, hh⟩ := le2_of (k := hi) (m := 14) (by decide) (fun h => k1 (Int32.lt_of_le_of_lt (Int32.not_lt.mp k2) h)) k3
    obtain ⟨jl, rfl, hl⟩ := le2_of (k := lo) (m := 14) (by decide) k1 (fun h => k3 (Int32.lt_of_lt_of_le h (Int32.not_lt.mp k2)))
    have e : stGroup S (nI g) (nI jl) (nI jh) = (nI (pcN (gmN (sPa S) (sKi S) g (sN S + 1))), (sN S, sPa S, sKi S, va_up (sGr S) (iN (nI g)) (some (iN (nI jl), iN (nI jh))), S.2.2.2.2)) := by
      unfold stGroup
      rw [hF, if_neg (by decide), if_neg (by simp only [not_or]; exact ⟨k1, k2, k3⟩), pc_gm _ _ _ _ hW.1, iN_nI (show g < 2 ^ 31 by have := hW.1; omega)]
    rw [iN_nI (show g < 2 ^ 31 by have := hW.1; omega), iN_nI (show jl < 2 ^ 31 by omega), iN_nI (show jh < 2 ^ 31 by omega)] at e
    have hg14 : g ≤ 14 := Nat.le_trans hg2 hW.1
    refine ⟨xC a (va_up iv 10 0) :: (a 2, .inl (gA G 0, sN S, .inl fl)) :: (dkW G a fp fk ra av lf (va_up gf g (some q)) (va_up gw g [gpC G q (jl, jh)]) lb rf w6 w9 own ++ (wm ++ (w12 ++ (bxF b12 ++ (w14 ++ bxF b14))))), gw g, ?_, pr_eq (P := fun S' => FW G (a 15) S' _) e ⟨a, va_up iv 10 0, fl, _, wm, b12, b14, w12, w14, rfl, h1, h2, h3, ⟨fp, fk, ra, av, lf, va_up gf g (some q), va_up gw g [gpC G q (jl, jh)], lb, rf, w6, w9, vs9, own, g1, g2, g3, ?_, g5.to rfl rfl, g6, g7, Or.inl rfl, rfl⟩, h5, h6, h7, rfl⟩⟩
    · refine pm_ (fun _ z => ?_)
      have hc := (flW_up (f := gw) (w := [gpC G q (jl, jh)]) (show g < 15 by omega)).count_eq z
      simp only [gpC, List.count_append, List.count_cons, List.count_nil] at hc
      simp only [gpC, xC, dkW, List.cons_append, List.nil_append, List.count_append, List.count_cons, List.count_nil]
      omega
    · intro k hk1 hk2
      show (va_up (sGr S) g (some (jl, jh)) k = none ∧ va_up gf g (some q) k = none) ∨ ∃ q' z', va_up (sGr S) g (some (jl, jh)) k = some z' ∧ va_up gf g (some q) k = some q' ∧ va_up gw g [gpC G q (jl, jh)] k = [gpC G q' z']
      by_cases hkj : k = g
      · subst hkj
        right
        refine ⟨q, (jl, jh), ?_, ?_, ?_⟩ <;> simp only [va_up, if_true]
      · simp only [va_up, if_neg hkj]
        exact g4 k hk1 hk2
