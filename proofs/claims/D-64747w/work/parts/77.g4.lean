theorem dp_cong {pa pb : Nat → Nat} {n : Nat} (h : ∀ j, 1 ≤ j → j ≤ n → pb j = pa j ∧ pa j < j) : ∀ k j, j ≤ n → dpN pb k j = dpN pa k j := by
  intro k
  induction k with
  | zero => intro j _; rfl
  | succ k ih =>
    intro j hj
    rw [dpN, dpN]
    by_cases h0 : j = 0
    · rw [if_pos h0, if_pos h0]
    · obtain ⟨e1, e2⟩ := h j (by omega) hj
      rw [if_neg h0, if_neg h0, e1, ih _ (by omega)]
theorem FW_feature (l : Launch) (G : Gt) (x : Nat) (S : St) (w : va_W) (hF : FW G x S w) (hW : WS S) (pp k : Int32) (sz : Nat) : CWi l G yX1_feature cX1_feature 4 .int 1 1 14 25 [.ref x, .int pp, .int k] w sz (fun r w1 => r = (stFeature S pp k).1 ∧ FW G x (stFeature S pp k).2 w1) := by
  obtain ⟨a, iv, fl, wk, wm, b12, b14, w12, w14, rfl, h1, h2, h3, h4, h5, h6, h7, rfl⟩ := hF
  obtain ⟨fp, fk, ra, av, lf, gf, gw, lb, rf, w6, w9, vs9, own, g1, g2, g3, g4, g5, g6, g7, g8, rfl⟩ := h4
  have hm := CWi.perm (w0' := xC a iv :: (a 2, .inl (gA G 0, sN S, .inl fl)) :: (dkW G a fp fk ra av lf gf gw lb rf w6 w9 own ++ (wm ++ (w12 ++ (bxF b12 ++ (w14 ++ bxF b14)))))) ((metX1_feature l G a iv fp fk fl S (sN S) rfl hW ⟨h1, g1, h3⟩ pp k sz).frame ((a 3, .inl (gA G 6, 4, .inr (.inr (.inr (.inr (fun k => some (ra k))))))) :: (a 4, .inl (gA G 4, 4, .inr (.inr (.inr (.inr lf))))) :: (a 5, .inl (gA G 6, 15, .inr (.inr (.inr (.inr gf))))) :: (rwW G ra av ++ (flW lb 4 ++ (flW gw 15 ++ (w6 ++ (rlW ra rf ++ (w9 ++ (own ++ (wm ++ (w12 ++ (bxF b12 ++ (w14 ++ bxF b14))))))))))))) (pm_ (fun _ z => by simp only [xC, dkW, rwW, wX, List.cons_append, List.nil_append, List.count_append, List.count_cons, List.count_nil]; omega))
  refine CWi.postd hm (fun r w1 hp => ?_)
  obtain ⟨w2, hp, rfl⟩ := hp
  rcases hp with ⟨e, rfl⟩ | ⟨g, q, fl2, rfl, hg1, hg2, -, k1, k2, k3, e, rfl, hf1, hf2⟩
  · exact ⟨xC a iv :: (a 2, .inl (gA G 0, sN S, .inl fl)) :: (dkW G a fp fk ra av lf gf gw lb rf w6 w9 own ++ (wm ++ (w12 ++ (bxF b12 ++ (w14 ++ bxF b14))))), [], (by rw [List.append_nil]; exact (pm_ (fun _ z => by simp only [xC, dkW, rwW, wX, List.cons_append, List.nil_append, List.count_append, List.count_cons, List.count_nil]; omega))), pr_eq (P := fun S' => FW G (a 15) S' _) e ⟨a, iv, fl, _, wm, b12, b14, w12, w14, rfl, h1, h2, h3, ⟨fp, fk, ra, av, lf, gf, gw, lb, rf, w6, w9, vs9, own, g1, g2, g3, g4, g5, g6, g7, g8, rfl⟩, h5, h6, h7, rfl⟩⟩
  · obtain ⟨kk, rfl, hk2⟩ := le2_of (k := k) (m := 2) (by decide) k1 k2
    have hn4 := hW.1
    rw [iN_nI (show g < 2 ^ 31 by omega), iN_nI (show kk < 2 ^ 31 by omega)] at e
    have hdp := dp_cong (pa := sPa S) (pb := va_up (sPa S) (sN S + 1) g) (n := sN S) (fun j q1 q2 => ⟨by unfold va_up; rw [if_neg (by omega)], (hW.2.1 j q1 q2).1⟩) 15
    refine ⟨xC (va_up a 2 q) (va_up (va_up iv 11 (nI (sN S + 1))) 10 0) :: (q, .inl (gA G 0, sN S + 1, .inl fl2)) :: (dkW G a (upd fp (sN S + 1) (nI g)) (upd fk (sN S + 1) (nI kk)) ra av lf gf gw lb rf w6 w9 own ++ (wm ++ (w12 ++ (bxF b12 ++ (w14 ++ bxF b14))))), [], (by rw [List.append_nil]; exact (show List.Perm (xC (va_up a 2 q) (va_up (va_up iv 11 (nI (sN S + 1))) 10 0) :: (q, .inl (gA G 0, sN S + 1, .inl fl2)) :: (dkW G a (upd fp (sN S + 1) (nI g)) (upd fk (sN S + 1) (nI kk)) ra av lf gf gw lb rf w6 w9 own ++ (wm ++ (w12 ++ (bxF b12 ++ (w14 ++ bxF b14)))))) ([xC (va_up a 2 q) (va_up (va_up iv 11 (nI (sN S + 1))) 10 0), (a 0, .inl (gA G 0, 15, .inl (upd fp (sN S + 1) (nI g)))), (a 1, .inl (gA G 0, 15, .inl (upd fk (sN S + 1) (nI kk)))), (q, .inl (gA G 0, sN S + 1, .inl fl2))] ++ ((a 3, .inl (gA G 6, 4, .inr (.inr (.inr (.inr (fun k => some (ra k))))))) :: (a 4, .inl (gA G 4, 4, .inr (.inr (.inr (.inr lf))))) :: (a 5, .inl (gA G 6, 15, .inr (.inr (.inr (.inr gf))))) :: (rwW G ra av ++ (flW lb 4 ++ (flW gw 15 ++ (w6 ++ (rlW ra rf ++ (w9 ++ (own ++ (wm ++ (w12 ++ (bxF b12 ++ (w14 ++ bxF b14))))))))))))) from (pm_ (fun _ z => by simp only [xC, dkW, rwW, wX, List.cons_append, List.nil_append, List.count_append, List.count_cons, List.count_nil]; omega)))), pr_eq (P := fun S' => FW G (a 15) S' _) e ⟨va_up a 2 q, va_up (va_up iv 11 (nI (sN S + 1))) 10 0, fl2, _, wm, b12, b14, w12, w14, rfl, rfl, h2, ?_, ⟨upd fp (sN S + 1) (nI g), upd fk (sN S + 1) (nI kk), ra, av, lf, gf, gw, lb, rf, w6, w9, vs9, own, ?_, g2, g3, g4, g5.to rfl rfl, g6, g7, Or.inl rfl, rfl⟩, h5, h6, h7, rfl⟩⟩
    · intro j hj
      have hj : j < sN S + 1 := hj
      show fl2 j = nI (dpN (va_up (sPa S) (sN S + 1) g) 15 (va_up (sPa S) (sN S + 1) g (j + 1)))
      by_cases hjn : j = sN S
      · subst hjn
        rw [hf2]
        have e1 : va_up (sPa S) (sN S + 1) g (sN S + 1) = g := by unfold va_up; rw [if_pos rfl]
        rw [e1, hdp g hg1]
      · have e1 : va_up (sPa S) (sN S + 1) g (j + 1) = sPa S (j + 1) := by unfold va_up; rw [if_neg (by omega)]
        have h4 := (hW.2.1 (j + 1) (by omega) (by omega)).1
        rw [e1, hdp _ (by omega), hf1 j (by omega)]
        exact h3 j (by omega)
    · intro j q1 q2
      have q2 : j ≤ sN S + 1 := q2
      show upd fp (sN S + 1) (nI g) j = nI (va_up (sPa S) (sN S + 1) g j) ∧ upd fk (sN S + 1) (nI kk) j = nI (va_up (sKi S) (sN S + 1) kk j)
      by_cases hjn : j = sN S + 1
      · simp only [upd, va_up, if_pos hjn]; exact ⟨trivial, trivial⟩
      · simp only [upd, va_up, if_neg hjn]; exact g1 j q1 (by omega)
