theorem foRs_eq {S S' : St} (h : sFo S' = sFo S) : ∀ n, foRs S' n = foRs S n := by
  intro n
  induction n with
  | zero => rfl
  | succ n ih => show foRs S' n ++ foR1 (sFo S' n).1 (sFo S' n).2.1 (sFo S' n).2.2 = foRs S n ++ foR1 (sFo S n).1 (sFo S n).2.1 (sFo S n).2.2; rw [ih, h]
theorem MK.to {G : Gt} {a : Nat → Nat} {S S' : St} {v : Int32} {wk : va_W} (h : MK G a S v wk) (e1 : sN S' = sN S) (e2 : sPa S' = sPa S) (e3 : sKi S' = sKi S) (e4 : sGr S' = sGr S) (e5 : sNf S' = sNf S) (e6 : sFo S' = sFo S) (e7 : sAt S' = sAt S) (e8 : sLm S' = sLm S) : MK G a S' v wk := by
  obtain ⟨fp, fk, ra, av, lf, gf, gw, lb, rf, w6, w9, vs9, own, h1, h2, h3, h4, h5, h6, h7, h8, rfl⟩ := h
  have eR : ruS S' = ruS S := by unfold ruS; rw [e1, e2, e3, e4, e5, e8, foRs_eq e6]
  exact ⟨fp, fk, ra, av, lf, gf, gw, lb, rf, w6, w9, vs9, own, by rw [e1, e2, e3]; exact h1, by unfold avOk at *; rw [e7]; exact h2, by unfold lmOk at *; rw [e8]; exact h3, by unfold grOk at *; rw [e4]; exact h4, by unfold rfOk at *; rw [e5, foRs_eq e6]; exact h5, h6, h7, by unfold ruOk at *; rw [eR]; exact h8, rfl⟩
theorem pr_eq {st : Int32 × St} {r : Int32} {S' : St} {P : St → Prop} (e : st = (r, S')) (h : P S') : r = st.1 ∧ P st.2 := by subst e; exact ⟨rfl, h⟩
theorem FW_choose (l : Launch) (G : Gt) (x : Nat) (S : St) (w : va_W) (hF : FW G x S w) (hW : WS S) (i : Int32) (on : Bool) (sz : Nat) : CWi l G yX1_choose cX1_choose 3 .int 10 3 70 522 [.ref x, .int i, .int (b2i on)] w sz (fun r w1 => r = (stChoose S i on).1 ∧ FW G x (stChoose S i on).2 w1) := by
  obtain ⟨a, iv, fl, wk, wm, b12, b14, w12, w14, rfl, h1, h2, h3, h4, h5, h6, h7, rfl⟩ := hF
  have hm := CWi.perm (w0' := xC a iv :: (a 2, .inl (gA G 0, sN S, .inl fl)) :: (wk ++ (wm ++ (w12 ++ (bxF b12 ++ (w14 ++ bxF b14)))))) ((metX1_choose l G a iv S wm h5 (sN S) rfl h1 hW i on sz).frame ((a 2, .inl (gA G 0, sN S, .inl fl)) :: (wk ++ (w12 ++ (bxF b12 ++ (w14 ++ bxF b14)))))) (pm_ (fun _ z => by simp only [xC, dkW, List.cons_append, List.count_append, List.count_cons, List.count_nil]; omega))
  refine CWi.postp hm (fun r w1 hp => ?_)
  obtain ⟨w2, ⟨S2, wm2, e, hm2, rfl⟩, rfl⟩ := hp
  refine ⟨xC a iv :: (a 2, .inl (gA G 0, sN S, .inl fl)) :: (wk ++ (wm2 ++ (w12 ++ (bxF b12 ++ (w14 ++ bxF b14))))), (pm_ (fun _ z => by simp only [xC, dkW, List.cons_append, List.count_append, List.count_cons, List.count_nil]; omega)), pr_eq (P := fun S' => FW G (a 15) S' _) e ?_⟩
  cases hl : isL i (nI (sN S)) with
  | false =>
    rw [ch_1 hl] at e
    cases e
    exact ⟨a, iv, fl, wk, wm2, b12, b14, w12, w14, rfl, h1, h2, h3, h4, hm2, h6, h7, rfl⟩
  | true =>
    rw [ch_2 hl] at e
    cases e
    exact ⟨a, iv, fl, wk, wm2, b12, b14, w12, w14, rfl, h1, h2, h3, h4.to rfl rfl rfl rfl rfl rfl rfl rfl, hm2, h6, h7, rfl⟩
theorem FW_formula (l : Launch) (G : Gt) (x : Nat) (S : St) (w : va_W) (hF : FW G x S w) (hW : WS S) (op i j : Int32) (sz : Nat) : CWi l G yX1_formula cX1_formula 5 .int 7 4 1028 154 [.ref x, .int op, .int i, .int j] w sz (fun r w1 => r = (stFormula S op i j).1 ∧ FW G x (stFormula S op i j).2 w1) := by
  obtain ⟨a, iv, fl, wk, wm, b12, b14, w12, w14, rfl, h1, h2, h3, h4, h5, h6, h7, rfl⟩ := hF
  obtain ⟨fp, fk, ra, av, lf, gf, gw, lb, rf, w6, w9, vs9, own, g1, g2, g3, g4, g5, g6, g7, g8, rfl⟩ := h4
  have hm := CWi.perm (w0' := xC a iv :: (a 2, .inl (gA G 0, sN S, .inl fl)) :: (dkW G a fp fk ra av lf gf gw lb rf w6 w9 own ++ (wm ++ (w12 ++ (bxF b12 ++ (w14 ++ bxF b14)))))) ((metX1_formula l G a iv ra rf w6 g6 g5.1 (by have := g5.2.2; have := hW.2.2.2.1; omega) S (sN S) rfl h1 h2 hW op i j sz).frame ((a 2, .inl (gA G 0, sN S, .inl fl)) :: (a 0, .inl (gA G 0, 15, .inl fp)) :: (a 1, .inl (gA G 0, 15, .inl fk)) :: (a 3, .inl (gA G 6, 4, .inr (.inr (.inr (.inr (fun k => some (ra k))))))) :: (a 4, .inl (gA G 4, 4, .inr (.inr (.inr (.inr lf))))) :: (a 5, .inl (gA G 6, 15, .inr (.inr (.inr (.inr gf))))) :: (rwW G ra av ++ (flW lb 4 ++ (flW gw 15 ++ (w9 ++ (own ++ (wm ++ (w12 ++ (bxF b12 ++ (w14 ++ bxF b14))))))))))) (pm_ (fun _ z => by simp only [xC, dkW, List.cons_append, List.count_append, List.count_cons, List.count_nil]; omega))
  refine CWi.postp hm (fun r w1 hp => ?_)
  obtain ⟨w2, hp, rfl⟩ := hp
  rcases hp with ⟨e, wl2, hwl, rfl⟩ | ⟨new, wl2, hwl, e, hn, hok, rfl⟩
  · exact ⟨xC a iv :: (a 2, .inl (gA G 0, sN S, .inl fl)) :: (dkW G a fp fk ra av lf gf gw lb rf wl2 w9 own ++ (wm ++ (w12 ++ (bxF b12 ++ (w14 ++ bxF b14))))), (pm_ (fun _ z => by simp only [xC, dkW, List.cons_append, List.count_append, List.count_cons, List.count_nil]; omega)), pr_eq (P := fun S' => FW G (a 15) S' _) e ⟨a, iv, fl, _, wm, b12, b14, w12, w14, rfl, h1, h2, h3, ⟨fp, fk, ra, av, lf, gf, gw, lb, rf, wl2, w9, vs9, own, g1, g2, g3, g4, g5, hwl, g7, g8, rfl⟩, h5, h6, h7, rfl⟩⟩
  · refine ⟨xC a (va_up (va_up iv 7 (nI (sNf S + 1))) 10 0) :: (a 2, .inl (gA G 0, sN S, .inl fl)) :: (dkW G a fp fk ra av lf gf gw lb (rf ++ new) wl2 w9 own ++ (wm ++ (w12 ++ (bxF b12 ++ (w14 ++ bxF b14))))), (pm_ (fun _ z => by simp only [xC, dkW, List.cons_append, List.count_append, List.count_cons, List.count_nil]; omega)), pr_eq (P := fun S' => FW G (a 15) S' _) e ?_⟩
    have hlen : new.length ≤ 2 := by
      have := congrArg List.length hn
      rw [List.length_map] at this
      rw [this]
      unfold foR1
      split
      · simp
      · split
        · simp
        · split <;> simp
    have hfo : ∀ k, k ≤ sNf S → foRs (sN S, sPa S, sKi S, sGr S, sNf S + 1, va_up (sFo S) (sNf S) (iN op, toLit i, toLit j), S.2.2.2.2.2.2) k = foRs S k := by
      intro k
      induction k with
      | zero => intro _; rfl
      | succ k ih =>
        intro hk
        rw [foRs, foRs, ih (by omega)]
        have : sFo (sN S, sPa S, sKi S, sGr S, sNf S + 1, va_up (sFo S) (sNf S) (iN op, toLit i, toLit j), S.2.2.2.2.2.2) k = sFo S k := by
          show va_up (sFo S) (sNf S) _ k = _
          unfold va_up
          rw [if_neg (by omega)]
        rw [this]
    refine ⟨a, va_up (va_up iv 7 (nI (sNf S + 1))) 10 0, fl, dkW G a fp fk ra av lf gf gw lb (rf ++ new) wl2 w9 own, wm, b12, b14, w12, w14, rfl, h1, rfl, h3, ⟨fp, fk, ra, av, lf, gf, gw, lb, rf ++ new, wl2, w9, vs9, own, g1, g2, g3, g4, ⟨hok, ?_, ?_⟩, hwl, g7, Or.inl rfl, rfl⟩, h5, h6, h7, rfl⟩
    · show (rf ++ new).map (·.2) = foRs _ (sNf S + 1)
      rw [foRs, hfo _ (Nat.le_refl _), List.map_append, g5.2.1, hn]
      have : sFo (sN S, sPa S, sKi S, sGr S, sNf S + 1, va_up (sFo S) (sNf S) (iN op, toLit i, toLit j), S.2.2.2.2.2.2) (sNf S) = (iN op, toLit i, toLit j) := by
        show va_up (sFo S) (sNf S) _ (sNf S) = _
        unfold va_up
        rw [if_pos rfl]
      rw [this]
    · show (rf ++ new).length ≤ 2 * (sNf S + 1)
      rw [List.length_append]
      have := g5.2.2
      omega
