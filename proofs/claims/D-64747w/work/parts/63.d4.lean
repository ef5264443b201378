theorem vs_small : ∀ k, k < 15 → ¬ nI k < -128 ∧ ¬ (127 : Int32) < nI k ∧ nI k + 128 = nI (k + 128) := by decide +kernel
theorem abs_small : ∀ g, g < 15 → (if 0 ≤ nI g then nI g else 0 - nI g) = nI g ∧ (if 0 ≤ -(nI g) then -(nI g) else 0 - -(nI g)) = nI g := by decide +kernel
theorem MP.cons {G : Gt} {h : Nat} {ch : List Lit} {w : va_W} (hm : MP G h ch w) : ∃ fs tl, w = (h, .inr (6, fs)) :: tl := by
  obtain ⟨es, t, ent, mo, th, -, -, -, rfl⟩ := hm
  exact ⟨_, _, rfl⟩
def chSt (S : St) (c : List Lit) : St := (sN S, sPa S, sKi S, sGr S, sNf S, sFo S, sAt S, sLm S, c, S.2.2.2.2.2.2.2.2.2)
theorem ch_1 {S : St} {x : Int32} {on : Bool} (h : isL x (nI (sN S)) = false) : stChoose S x on = (-1, S) := by unfold stChoose; rw [if_pos (by simp [h])]
theorem ch_2 {S : St} {x : Int32} {on : Bool} (h : isL x (nI (sN S)) = true) : stChoose S x on = (nI (chNew (sCh S) x on).length, chSt S (chNew (sCh S) x on)) := by unfold stChoose; rw [if_neg (by simp [h])]; rfl
theorem chDel_no {ch : List Lit} {g : Nat} : ∀ t ∈ chDel ch g, t.1 ≠ g := fun t ht => of_decide_eq_true (List.mem_filter.mp ht).2
set_option maxHeartbeats 4000000 in
set_option maxRecDepth 100000 in
theorem metJ7_valueOfS (l : Launch) (G : Gt) (k : Nat) (hk : k ≤ 14) : CRq l G yJ7_valueOf cJ7_valueOf 1 (.object "java/lang/Integer") 0 0 [.int (nI k)] [] (fun r => r = some (gI G k)) := by
  refine mkRq (by decide) (Nat.le_of_ble_eq_true rfl) (by first | exact Or.inl ⟨_, rfl⟩ | exact Or.inr ⟨_, rfl⟩) ?_
  intro p e s m args below meth c Q hx hb hts hown hml hG hP hS ret ls hl
  obtain ⟨hk1, hk2, hk3⟩ := vs_small k (by omega)
  refine lv_iload_n hx hb dJ7_valueOf_0 rfl (lv_at hl 0 rfl) ?_
  refine lv_bipush (v := (-128)) hx hb dJ7_valueOf_1 (by decide) ?_
  refine lv_icmp_lt (tgt := 23) hx hb dJ7_valueOf_3 (by decide) (fun c_3 => absurd c_3 (hk1)) (fun c_3 => ?_)
  refine lv_iload_n hx hb dJ7_valueOf_6 rfl (lv_at hl 0 rfl) ?_
  refine va_gets hx hb hG.sfR.2.2.2.1 hS hown (hts _ q347) (fun _ h9 => h9) dJ7_valueOf_7 ?_
  refine lv_icmp_gt (tgt := 23) hx hb dJ7_valueOf_10 (by decide) (fun c_10 => absurd c_10 (hk2)) (fun c_10 => ?_)
  refine va_gets hx hb hG.sfR.2.2.2.2.1 hS hown (hts _ q349) (fun _ h9 => h9) dJ7_valueOf_13 ?_
  refine lv_iload_n hx hb dJ7_valueOf_16 rfl (lv_at hl 0 rfl) ?_
  refine lv_sipush (v := 128) hx hb dJ7_valueOf_17 (by decide) ?_
  refine lv_iadd hx hb dJ7_valueOf_20 ?_
  refine top_i (y := nI (k + 128)) (hk3) ?_
  refine vb_tq hx hb hG.sfR.2.2.2.2.2.1 hS (vp_in_nI (show k + 128 < 256 by omega) (by decide)) (v := .ref (gad G (k + 128))) (by rw [nI_clamp (by omega)]) dJ7_valueOf_21 ?_
  exact ret (some (gad G (k + 128))) 22 ls dJ7_valueOf_22 (rfl)
set_option maxHeartbeats 4000000 in
set_option maxRecDepth 100000 in
theorem metX1_choose (l : Launch) (G : Gt) (a : Nat → Nat) (iv : Nat → Int32) (S : St) (wm : va_W) (hm : MP G (a 8) (sCh S) wm) (n : Nat) (hnS : n = sN S) (hn : iv 11 = nI n) (hW : WS S) (x : Int32) (on : Bool) (sz : Nat) : CWi l G yX1_choose cX1_choose 3 .int 10 3 70 522 [.ref (a 15), .int (x), .int (b2i on)] ((a 15, .inr (0, [.ref (a 0), .ref (a 1), .ref (a 2), .ref (a 3), .ref (a 4), .ref (a 5), .ref (a 6), .int (iv 7), .ref (a 8), .ref (a 9), .int (iv 10), .int (iv 11), .ref (a 12), .int (iv 13), .ref (a 14)])) :: wm) sz (fun r w1 => ∃ S2 wm2, stChoose S x on = (r, S2) ∧ MP G (a 8) (sCh S2) wm2 ∧ w1 = xC a iv :: wm2) := by
  refine mkWi (by decide) (Nat.le_of_ble_eq_true rfl) ?_
  intro p e s m args below meth c Q A hx hb hts hown hin hml hG hsz hP hD hA hA0 hS ret ls hl
  have hn4 : n ≤ 14 := by rw [hnS]; exact hW.1
  obtain ⟨ms, mt, rfl⟩ := hm.cons
  refine lv_aload_n hx hb dX1_choose_0 rfl (lv_at hl 0 rfl) ?_
  refine lv_iload_n hx hb dX1_choose_1 rfl (lv_at hl 1 rfl) ?_
  refine vp_callSi (W.runV (As := [.int (x)]) (rest := []) ⟨hx, hb, hml, hown, hts⟩ (metX1_isSigned l G a iv x n hn hn4) (cwV 1 hts (lw_V q246 q248 qs2 q29 q249) rfl rfl rfl (by decide +kernel) ⟨Nat.le_of_ble_eq_true rfl, Nat.le_of_ble_eq_true rfl⟩) (pre_RV (q0 := 0) hG (wP.left (wP.perm (w' := [(a 15, .inr (0, [.ref (a 0), .ref (a 1), .ref (a 2), .ref (a 3), .ref (a 4), .ref (a 5), .ref (a 6), .int (iv 7), .ref (a 8), .ref (a 9), .int (iv 10), .int (iv 11), .ref (a 12), .int (iv 13), .ref (a 14)]))] ++ ((a 8, .inr (6, ms)) :: mt)) hP (pm_ (fun _ z => by simp only [List.count_append, List.count_cons, List.count_nil]; omega)))) hS hA0 rfl rfl) rfl rfl hl.1 rfl (lv_room (Nat.le_of_ble_eq_true rfl)) dX1_choose_2 ⟨Nat.le_of_ble_eq_true rfl, Nat.le_of_ble_eq_true rfl⟩) (fun r_2 e_2 => ?_)
  subst e_2
  refine lv_if_ne (tgt := 10) hx hb dX1_choose_5 (by decide) (fun c_5 => ?_) (fun c_5 => ?_)
  · have h5 : isL x (nI n) = true := b2i_n0.mp c_5
    obtain ⟨hx1, hx2, hx3⟩ := isL_lit hW (by rw [hnS] at h5; exact h5)
    obtain ⟨⟨g, sg⟩, ht⟩ : ∃ t, t = toLit x := ⟨_, rfl⟩
    rw [← ht] at hx1 hx2 hx3
    subst hx1
    have hg4 : g ≤ 14 := Nat.le_trans hx3 hW.1
    have hg1 : 1 ≤ g := hx2
    obtain ⟨ha1, ha2⟩ := abs_small g (by omega)
    cases sg
    · skip
      have hl : lv_has ls 3 [(0, .ref (a 15)), (1, .int (-(nI g))), (2, .int (b2i on))] := hl
      refine lv_aload_n hx hb dX1_choose_10 rfl (lv_at hl 0 rfl) ?_
      refine va_get (D := gD G) (ci := 0) (v := .ref (a 8)) (C := RX1) (T := TX1) (N := 15) hx hb hts in_X1 hown hG.K hP 0 rfl rfl 8 (by decide) (hts _ q172) (fun _ h9 => h9) rfl dX1_choose_11 ?_
      refine lv_iload_n hx hb dX1_choose_14 rfl (lv_at hl 1 rfl) ?_
      refine va_mabs hx hb (by rw [hml]; exact hl.1.symm) hown (hts _ q251) (hts _ q252) (hts _ q40) (hts _ q253) (Nat.le_of_ble_eq_true rfl) (Nat.le_of_ble_eq_true rfl) (Nat.le_of_ble_eq_true rfl) (Nat.le_of_ble_eq_true rfl) dX1_choose_15 ?_
      refine top_i (y := nI g) ha2 ?_
      refine va_csq (W.runS (As := [.int (nI g)]) (rest := [.ref (a 8)]) ⟨hx, hb, hml, hown, hts⟩ (metJ7_valueOfS l G g hg4) (va_cwS 1 hts (lw_S q344 q345 q39 q346) rfl rfl rfl (by decide +kernel) ⟨Nat.le_of_ble_eq_true rfl, Nat.le_of_ble_eq_true rfl⟩) (pre_RS hG (wP.mem (w' := []) hP (fun _ h => absurd h List.not_mem_nil)) hS hA0) rfl rfl hl.1 rfl (lv_room (Nat.le_of_ble_eq_true rfl)) dX1_choose_18 ⟨Nat.le_of_ble_eq_true rfl, Nat.le_of_ble_eq_true rfl⟩) (fun r_18 e_18 => ?_)
      subst e_18
      have hP := wP.perm (w' := ((a 8, .inr (6, ms)) :: mt) ++ [(a 15, .inr (0, [.ref (a 0), .ref (a 1), .ref (a 2), .ref (a 3), .ref (a 4), .ref (a 5), .ref (a 6), .int (iv 7), .ref (a 8), .ref (a 9), .int (iv 10), .int (iv 11), .ref (a 12), .int (iv 13), .ref (a 14)]))]) hP (pm_ (fun _ z => by simp only [List.count_append, List.count_cons, List.count_nil]; omega))
      have hD := va_D.perm (w' := ((a 8, .inr (6, ms)) :: mt) ++ [(a 15, .inr (0, [.ref (a 0), .ref (a 1), .ref (a 2), .ref (a 3), .ref (a 4), .ref (a 5), .ref (a 6), .int (iv 7), .ref (a 8), .ref (a 9), .int (iv 10), .int (iv 11), .ref (a 12), .int (iv 13), .ref (a 14)]))]) hD (pm_ (fun _ z => by simp only [List.count_append, List.count_cons, List.count_nil]; omega))
      refine cl_q (wr := [(a 15, .inr (0, [.ref (a 0), .ref (a 1), .ref (a 2), .ref (a 3), .ref (a 4), .ref (a 5), .ref (a 6), .int (iv 7), .ref (a 8), .ref (a 9), .int (iv 10), .int (iv 11), .ref (a 12), .int (iv 13), .ref (a 14)]))]) (va_runU (As := [.ref (gI G g)]) (rest := []) ⟨hx, hb, hml, hown, hts⟩ (metJ4_remove l G (a 8) g (sCh S) ((a 8, .inr (6, ms)) :: mt) hm hg4 _) (va_cwU 1 hts (lw_U (owner := "java/util/HashMap") (x := ({ cls := "java/util/LinkedHashMap", name := "remove", desc := "(Ljava/lang/Object;)Ljava/lang/Object;" } : Jvm.MethodName)) (y := ({ cls := "java/util/HashMap", name := "remove", desc := "(Ljava/lang/Object;)Ljava/lang/Object;" } : Jvm.MethodName)) q368 q369 q371 q372 q34 q373) rfl rfl rfl rfl (by decide +kernel) ⟨Nat.le_of_ble_eq_true rfl, Nat.le_of_ble_eq_true rfl⟩) (pre_WV (q0 := 0) hG hP hD hS hA0 rfl rfl) rfl rfl hl.1 rfl (lv_room (Nat.le_of_ble_eq_true rfl)) dX1_choose_21 ⟨Nat.le_of_ble_eq_true rfl, Nat.le_of_ble_eq_true rfl⟩) hP hD hS hA (fun r_21 w1 H locs hp hP hD hS => ?_)
      have hm1 := hp
      obtain ⟨ms1, mt1, rfl⟩ := hp.cons
      have hP := wP.perm (w' := ((a 15, .inr (0, [.ref (a 0), .ref (a 1), .ref (a 2), .ref (a 3), .ref (a 4), .ref (a 5), .ref (a 6), .int (iv 7), .ref (a 8), .ref (a 9), .int (iv 10), .int (iv 11), .ref (a 12), .int (iv 13), .ref (a 14)])) :: (a 8, .inr (6, ms1)) :: mt1)) hP (pm_ (fun _ z => by simp only [List.count_append, List.count_cons, List.count_nil]; omega))
      have hD := va_D.perm (w' := ((a 15, .inr (0, [.ref (a 0), .ref (a 1), .ref (a 2), .ref (a 3), .ref (a 4), .ref (a 5), .ref (a 6), .int (iv 7), .ref (a 8), .ref (a 9), .int (iv 10), .int (iv 11), .ref (a 12), .int (iv 13), .ref (a 14)])) :: (a 8, .inr (6, ms1)) :: mt1)) hD (pm_ (fun _ z => by simp only [List.count_append, List.count_cons, List.count_nil]; omega))
      refine lv_pop hx hb dX1_choose_24 (by cases r_21 <;> rfl) ?_
      refine lv_iload_n hx hb dX1_choose_25 rfl (lv_at hl 1 rfl) ?_
      refine lv_if_le (tgt := 45) hx hb dX1_choose_26 (by decide) (fun c_26 => ?_) (fun c_26 => absurd (nI_neg_le (by omega)) c_26)
      refine lv_aload_n hx hb dX1_choose_45 rfl (lv_at hl 0 rfl) ?_
      refine va_get (D := gD G) (ci := 0) (v := .ref (a 8)) (C := RX1) (T := TX1) (N := 15) hx hb hts in_X1 hown hG.K hP 0 rfl rfl 8 (by decide) (hts _ q172) (fun _ h9 => h9) rfl dX1_choose_46 ?_
      refine vp_callSi (va_Run.run (va_runU (As := []) (rest := []) ⟨hx, hb, hml, hown, hts⟩ (metJ4_size l G (a 8) (chDel (sCh S) g) ((a 8, .inr (6, ms1)) :: mt1) hm1) (va_cwU 0 hts (lw_U (owner := "java/util/HashMap") (x := ({ cls := "java/util/LinkedHashMap", name := "size", desc := "()I" } : Jvm.MethodName)) (y := ({ cls := "java/util/HashMap", name := "size", desc := "()I" } : Jvm.MethodName)) q706 q707 q709 q710 q34 q711) rfl rfl rfl rfl (by decide +kernel) ⟨Nat.le_of_ble_eq_true rfl, Nat.le_of_ble_eq_true rfl⟩) (pre_RV (q0 := 0) hG (wP.left (wP.perm (w' := ((a 8, .inr (6, ms1)) :: mt1) ++ [(a 15, .inr (0, [.ref (a 0), .ref (a 1), .ref (a 2), .ref (a 3), .ref (a 4), .ref (a 5), .ref (a 6), .int (iv 7), .ref (a 8), .ref (a 9), .int (iv 10), .int (iv 11), .ref (a 12), .int (iv 13), .ref (a 14)]))]) hP (pm_ (fun _ z => by simp only [List.count_append, List.count_cons, List.count_nil]; omega)))) hS hA0 rfl rfl) rfl rfl hl.1 rfl (lv_room (Nat.le_of_ble_eq_true rfl)) dX1_choose_49 ⟨Nat.le_of_ble_eq_true rfl, Nat.le_of_ble_eq_true rfl⟩)) (fun r_49 e_49 => ?_)
      subst e_49
      exact ret (nI (chDel (sCh S) g).length) _ 52 ls _ _ _ _ dX1_choose_52 rfl (Nat.le_of_ble_eq_true rfl) (Nat.le_of_ble_eq_true rfl) hP hD hS (by subst hnS; exact ⟨chSt S (chDel (sCh S) g), _, by rw [ch_2 h5, chNew_f hg1 hg4], hm1, rfl⟩)
    · skip
      have hl : lv_has ls 3 [(0, .ref (a 15)), (1, .int (nI g)), (2, .int (b2i on))] := hl
      refine lv_aload_n hx hb dX1_choose_10 rfl (lv_at hl 0 rfl) ?_
      refine va_get (D := gD G) (ci := 0) (v := .ref (a 8)) (C := RX1) (T := TX1) (N := 15) hx hb hts in_X1 hown hG.K hP 0 rfl rfl 8 (by decide) (hts _ q172) (fun _ h9 => h9) rfl dX1_choose_11 ?_
      refine lv_iload_n hx hb dX1_choose_14 rfl (lv_at hl 1 rfl) ?_
      refine va_mabs hx hb (by rw [hml]; exact hl.1.symm) hown (hts _ q251) (hts _ q252) (hts _ q40) (hts _ q253) (Nat.le_of_ble_eq_true rfl) (Nat.le_of_ble_eq_true rfl) (Nat.le_of_ble_eq_true rfl) (Nat.le_of_ble_eq_true rfl) dX1_choose_15 ?_
      refine top_i (y := nI g) ha1 ?_
      refine va_csq (W.runS (As := [.int (nI g)]) (rest := [.ref (a 8)]) ⟨hx, hb, hml, hown, hts⟩ (metJ7_valueOfS l G g hg4) (va_cwS 1 hts (lw_S q344 q345 q39 q346) rfl rfl rfl (by decide +kernel) ⟨Nat.le_of_ble_eq_true rfl, Nat.le_of_ble_eq_true rfl⟩) (pre_RS hG (wP.mem (w' := []) hP (fun _ h => absurd h List.not_mem_nil)) hS hA0) rfl rfl hl.1 rfl (lv_room (Nat.le_of_ble_eq_true rfl)) dX1_choose_18 ⟨Nat.le_of_ble_eq_true rfl, Nat.le_of_ble_eq_true rfl⟩) (fun r_18 e_18 => ?_)
      subst e_18
      have hP := wP.perm (w' := ((a 8, .inr (6, ms)) :: mt) ++ [(a 15, .inr (0, [.ref (a 0), .ref (a 1), .ref (a 2), .ref (a 3), .ref (a 4), .ref (a 5), .ref (a 6), .int (iv 7), .ref (a 8), .ref (a 9), .int (iv 10), .int (iv 11), .ref (a 12), .int (iv 13), .ref (a 14)]))]) hP (pm_ (fun _ z => by simp only [List.count_append, List.count_cons, List.count_nil]; omega))
      have hD := va_D.perm (w' := ((a 8, .inr (6, ms)) :: mt) ++ [(a 15, .inr (0, [.ref (a 0), .ref (a 1), .ref (a 2), .ref (a 3), .ref (a 4), .ref (a 5), .ref (a 6), .int (iv 7), .ref (a 8), .ref (a 9), .int (iv 10), .int (iv 11), .ref (a 12), .int (iv 13), .ref (a 14)]))]) hD (pm_ (fun _ z => by simp only [List.count_append, List.count_cons, List.count_nil]; omega))
      refine cl_q (wr := [(a 15, .inr (0, [.ref (a 0), .ref (a 1), .ref (a 2), .ref (a 3), .ref (a 4), .ref (a 5), .ref (a 6), .int (iv 7), .ref (a 8), .ref (a 9), .int (iv 10), .int (iv 11), .ref (a 12), .int (iv 13), .ref (a 14)]))]) (va_runU (As := [.ref (gI G g)]) (rest := []) ⟨hx, hb, hml, hown, hts⟩ (metJ4_remove l G (a 8) g (sCh S) ((a 8, .inr (6, ms)) :: mt) hm hg4 _) (va_cwU 1 hts (lw_U (owner := "java/util/HashMap") (x := ({ cls := "java/util/LinkedHashMap", name := "remove", desc := "(Ljava/lang/Object;)Ljava/lang/Object;" } : Jvm.MethodName)) (y := ({ cls := "java/util/HashMap", name := "remove", desc := "(Ljava/lang/Object;)Ljava/lang/Object;" } : Jvm.MethodName)) q368 q369 q371 q372 q34 q373) rfl rfl rfl rfl (by decide +kernel) ⟨Nat.le_of_ble_eq_true rfl, Nat.le_of_ble_eq_true rfl⟩) (pre_WV (q0 := 0) hG hP hD hS hA0 rfl rfl) rfl rfl hl.1 rfl (lv_room (Nat.le_of_ble_eq_true rfl)) dX1_choose_21 ⟨Nat.le_of_ble_eq_true rfl, Nat.le_of_ble_eq_true rfl⟩) hP hD hS hA (fun r_21 w1 H locs hp hP hD hS => ?_)
      have hm1 := hp
      obtain ⟨ms1, mt1, rfl⟩ := hp.cons
      have hP := wP.perm (w' := ((a 15, .inr (0, [.ref (a 0), .ref (a 1), .ref (a 2), .ref (a 3), .ref (a 4), .ref (a 5), .ref (a 6), .int (iv 7), .ref (a 8), .ref (a 9), .int (iv 10), .int (iv 11), .ref (a 12), .int (iv 13), .ref (a 14)])) :: (a 8, .inr (6, ms1)) :: mt1)) hP (pm_ (fun _ z => by simp only [List.count_append, List.count_cons, List.count_nil]; omega))
      have hD := va_D.perm (w' := ((a 15, .inr (0, [.ref (a 0), .ref (a 1), .ref (a 2), .ref (a 3), .ref (a 4), .ref (a 5), .ref (a 6), .int (iv 7), .ref (a 8), .ref (a 9), .int (iv 10), .int (iv 11), .ref (a 12), .int (iv 13), .ref (a 14)])) :: (a 8, .inr (6, ms1)) :: mt1)) hD (pm_ (fun _ z => by simp only [List.count_append, List.count_cons, List.count_nil]; omega))
      refine lv_pop hx hb dX1_choose_24 (by cases r_21 <;> rfl) ?_
      refine lv_iload_n hx hb dX1_choose_25 rfl (lv_at hl 1 rfl) ?_
      refine lv_if_le (tgt := 45) hx hb dX1_choose_26 (by decide) (fun c_26 => absurd c_26 (nI_nle hg1 (by omega))) (fun c_26 => ?_)
      refine lv_aload_n hx hb dX1_choose_29 rfl (lv_at hl 0 rfl) ?_
      refine va_get (D := gD G) (ci := 0) (v := .ref (a 8)) (C := RX1) (T := TX1) (N := 15) hx hb hts in_X1 hown hG.K hP 0 rfl rfl 8 (by decide) (hts _ q172) (fun _ h9 => h9) rfl dX1_choose_30 ?_
      refine lv_iload_n hx hb dX1_choose_33 rfl (lv_at hl 1 rfl) ?_
      refine va_csq (W.runS (As := [.int (nI g)]) (rest := [.ref (a 8)]) ⟨hx, hb, hml, hown, hts⟩ (metJ7_valueOfS l G g hg4) (va_cwS 1 hts (lw_S q344 q345 q39 q346) rfl rfl rfl (by decide +kernel) ⟨Nat.le_of_ble_eq_true rfl, Nat.le_of_ble_eq_true rfl⟩) (pre_RS hG (wP.mem (w' := []) hP (fun _ h => absurd h List.not_mem_nil)) hS hA0) rfl rfl hl.1 rfl (lv_room (Nat.le_of_ble_eq_true rfl)) dX1_choose_34 ⟨Nat.le_of_ble_eq_true rfl, Nat.le_of_ble_eq_true rfl⟩) (fun r_34 e_34 => ?_)
      subst e_34
      refine lv_iload_n hx hb dX1_choose_37 rfl (lv_at hl 2 rfl) ?_
      refine va_csq (W.runS (As := [.int (b2i on)]) (rest := [.ref (gI G g), .ref (a 8)]) ⟨hx, hb, hml, hown, hts⟩ (metJ12_valueOf l G on) (va_cwS 1 hts (lw_S q585 q586 q46 q587) rfl rfl rfl (by decide +kernel) ⟨Nat.le_of_ble_eq_true rfl, Nat.le_of_ble_eq_true rfl⟩) (pre_RS hG (wP.mem (w' := []) hP (fun _ h => absurd h List.not_mem_nil)) hS hA0) rfl rfl hl.1 rfl (lv_room (Nat.le_of_ble_eq_true rfl)) dX1_choose_38 ⟨Nat.le_of_ble_eq_true rfl, Nat.le_of_ble_eq_true rfl⟩) (fun r_38 e_38 => ?_)
      subst e_38
      have hP := wP.perm (w' := ((a 8, .inr (6, ms1)) :: mt1) ++ [(a 15, .inr (0, [.ref (a 0), .ref (a 1), .ref (a 2), .ref (a 3), .ref (a 4), .ref (a 5), .ref (a 6), .int (iv 7), .ref (a 8), .ref (a 9), .int (iv 10), .int (iv 11), .ref (a 12), .int (iv 13), .ref (a 14)]))]) hP (pm_ (fun _ z => by simp only [List.count_append, List.count_cons, List.count_nil]; omega))
      have hD := va_D.perm (w' := ((a 8, .inr (6, ms1)) :: mt1) ++ [(a 15, .inr (0, [.ref (a 0), .ref (a 1), .ref (a 2), .ref (a 3), .ref (a 4), .ref (a 5), .ref (a 6), .int (iv 7), .ref (a 8), .ref (a 9), .int (iv 10), .int (iv 11), .ref (a 12), .int (iv 13), .ref (a 14)]))]) hD (pm_ (fun _ z => by simp only [List.count_append, List.count_cons, List.count_nil]; omega))
      refine cl_q (wr := [(a 15, .inr (0, [.ref (a 0), .ref (a 1), .ref (a 2), .ref (a 3), .ref (a 4), .ref (a 5), .ref (a 6), .int (iv 7), .ref (a 8), .ref (a 9), .int (iv 10), .int (iv 11), .ref (a 12), .int (iv 13), .ref (a 14)]))]) (va_runU (As := [.ref (gI G g), .ref (gbo G on)]) (rest := []) ⟨hx, hb, hml, hown, hts⟩ (metJ4_put l G (a 8) g on (chDel (sCh S) g) ((a 8, .inr (6, ms1)) :: mt1) hm1 hg1 hg4 chDel_no _) (va_cwU 2 hts (lw_U (owner := "java/util/HashMap") (x := ({ cls := "java/util/LinkedHashMap", name := "put", desc := "(Ljava/lang/Object;Ljava/lang/Object;)Ljava/lang/Object;" } : Jvm.MethodName)) (y := ({ cls := "java/util/HashMap", name := "put", desc := "(Ljava/lang/Object;Ljava/lang/Object;)Ljava/lang/Object;" } : Jvm.MethodName)) q592 q593 q595 q596 q34 q597) rfl rfl rfl rfl (by decide +kernel) ⟨Nat.le_of_ble_eq_true rfl, Nat.le_of_ble_eq_true rfl⟩) (pre_WV (q0 := 0) hG hP hD hS hA0 rfl rfl) rfl rfl hl.1 rfl (lv_room (Nat.le_of_ble_eq_true rfl)) dX1_choose_41 ⟨Nat.le_of_ble_eq_true rfl, Nat.le_of_ble_eq_true rfl⟩) hP hD hS hA (fun r_41 w1 H locs hp hP hD hS => ?_)
      have hm2 := hp
      obtain ⟨ms2, mt2, rfl⟩ := hp.cons
      have hP := wP.perm (w' := ((a 15, .inr (0, [.ref (a 0), .ref (a 1), .ref (a 2), .ref (a 3), .ref (a 4), .ref (a 5), .ref (a 6), .int (iv 7), .ref (a 8), .ref (a 9), .int (iv 10), .int (iv 11), .ref (a 12), .int (iv 13), .ref (a 14)])) :: (a 8, .inr (6, ms2)) :: mt2)) hP (pm_ (fun _ z => by simp only [List.count_append, List.count_cons, List.count_nil]; omega))
      have hD := va_D.perm (w' := ((a 15, .inr (0, [.ref (a 0), .ref (a 1), .ref (a 2), .ref (a 3), .ref (a 4), .ref (a 5), .ref (a 6), .int (iv 7), .ref (a 8), .ref (a 9), .int (iv 10), .int (iv 11), .ref (a 12), .int (iv 13), .ref (a 14)])) :: (a 8, .inr (6, ms2)) :: mt2)) hD (pm_ (fun _ z => by simp only [List.count_append, List.count_cons, List.count_nil]; omega))
      refine lv_pop hx hb dX1_choose_44 (by cases r_41 <;> rfl) ?_
      refine lv_aload_n hx hb dX1_choose_45 rfl (lv_at hl 0 rfl) ?_
      refine va_get (D := gD G) (ci := 0) (v := .ref (a 8)) (C := RX1) (T := TX1) (N := 15) hx hb hts in_X1 hown hG.K hP 0 rfl rfl 8 (by decide) (hts _ q172) (fun _ h9 => h9) rfl dX1_choose_46 ?_
      refine vp_callSi (va_Run.run (va_runU (As := []) (rest := []) ⟨hx, hb, hml, hown, hts⟩ (metJ4_size l G (a 8) (chDel (sCh S) g ++ [(g, on)]) ((a 8, .inr (6, ms2)) :: mt2) hm2) (va_cwU 0 hts (lw_U (owner := "java/util/HashMap") (x := ({ cls := "java/util/LinkedHashMap", name := "size", desc := "()I" } : Jvm.MethodName)) (y := ({ cls := "java/util/HashMap", name := "size", desc := "()I" } : Jvm.MethodName)) q706 q707 q709 q710 q34 q711) rfl rfl rfl rfl (by decide +kernel) ⟨Nat.le_of_ble_eq_true rfl, Nat.le_of_ble_eq_true rfl⟩) (pre_RV (q0 := 0) hG (wP.left (wP.perm (w' := ((a 8, .inr (6, ms2)) :: mt2) ++ [(a 15, .inr (0, [.ref (a 0), .ref (a 1), .ref (a 2), .ref (a 3), .ref (a 4), .ref (a 5), .ref (a 6), .int (iv 7), .ref (a 8), .ref (a 9), .int (iv 10), .int (iv 11), .ref (a 12), .int (iv 13), .ref (a 14)]))]) hP (pm_ (fun _ z => by simp only [List.count_append, List.count_cons, List.count_nil]; omega)))) hS hA0 rfl rfl) rfl rfl hl.1 rfl (lv_room (Nat.le_of_ble_eq_true rfl)) dX1_choose_49 ⟨Nat.le_of_ble_eq_true rfl, Nat.le_of_ble_eq_true rfl⟩)) (fun r_49 e_49 => ?_)
      subst e_49
      exact ret (nI (chDel (sCh S) g ++ [(g, on)]).length) _ 52 ls _ _ _ _ dX1_choose_52 rfl (Nat.le_of_ble_eq_true rfl) (Nat.le_of_ble_eq_true rfl) hP hD hS (by subst hnS; exact ⟨chSt S (chDel (sCh S) g ++ [(g, on)]), _, by rw [ch_2 h5, chNew_t hg1 hg4], hm2, rfl⟩)
  · have h5 : isL x (nI n) = false := b2i_0.mp c_5
    refine lv_iconst (v := (-1)) hx hb dX1_choose_8 (by decide) ?_
    exact ret (-1) _ 9 ls _ _ _ _ dX1_choose_9 rfl (Nat.le_of_ble_eq_true rfl) (Nat.le_of_ble_eq_true rfl) hP hD hS (by subst hnS; exact ⟨S, _, ch_1 h5, hm, rfl⟩)
theorem p2_14' {n : Nat} (h : n ≤ 14) : 2 ^ n ≤ 2 ^ 14 := Nat.pow_le_pow_right (by decide) h
theorem isF_mono {x : Int32} {n k : Nat} (hn : n ≤ 14) (hk : k ≤ n) (h : isF x (nI k) = true) : isF x (nI n) = true := by
  obtain ⟨g, h1, h2, h3⟩ := (isF_iff (Nat.le_trans hk hn)).mp h
  exact (isF_iff hn).mpr ⟨g, h1, Nat.le_trans h2 hk, h3⟩
theorem cn_1 {S : St} {x : Int32} (hW : WS S) (h : isF x (nI (sN S)) = false) : stChosen S x = false := by
  unfold stChosen
  cases hv : sVr S with
  | none => rfl
  | some q =>
    have hq := (hW.2.2.2.2.2.2.2.2.2.2.2.1 q hv).1
    show (isF x (nI q.1) && _) = false
    cases hf : isF x (nI q.1) with
    | false => rfl
    | true => rw [isF_mono hW.1 hq hf] at h; cases h
theorem cn_2 {S : St} {x : Int32} (h : sVr S = none) : stChosen S x = false := by
  unfold stChosen; rw [h]
theorem wsI_tb {q : Nat × Nat} {g : Nat} (hq : q.1 ≤ 14) (hg1 : 1 ≤ g) (hg : g ≤ 14) : wsI q (nI g) = (rvN q.1 q.2).testBit (g - 1) := by
  unfold wsI
  rw [iN_nI (Nat.lt_of_le_of_lt hg (by decide)), rv_tb]
  by_cases h : g ≤ q.1
  · rw [(isF_iff hq).mpr ⟨g, hg1, h, rfl⟩]
    show tb q.1 q.2 g = _
    unfold tb
    rw [decide_eq_true (show g - 1 < q.1 by omega), Bool.true_and, show q.1 - 1 - (g - 1) = q.1 - g by omega]
  · have : isF (nI g) (nI q.1) = false := by
      cases hf : isF (nI g) (nI q.1) with
      | false => rfl
      | true =>
        obtain ⟨k, h1, h2, h3⟩ := (isF_iff hq).mp hf
        have e := congrArg iN h3
        rw [iN_nI (Nat.lt_of_le_of_lt hg (by decide)), iN_nI (by omega)] at e
        omega
    rw [this, decide_eq_false (show ¬ g - 1 < q.1 by omega)]; rfl
theorem cn_3 {S : St} {g : Nat} {q : Nat × Nat} (hW : WS S) (hv : sVr S = some q) (hg1 : 1 ≤ g) (hg : g ≤ sN S) : stChosen S (nI g) = (rvN q.1 q.2).testBit (g - 1) := by
  unfold stChosen
  rw [hv]
  exact wsI_tb (Nat.le_trans (hW.2.2.2.2.2.2.2.2.2.2.2.1 q hv).1 hW.1) hg1 (Nat.le_trans hg hW.1)
set_option maxHeartbeats 4000000 in
set_option maxRecDepth 100000 in
theorem metX1_chosen (l : Launch) (G : Gt) (a : Nat → Nat) (iv : Nat → Int32) (S : St) (n : Nat) (hnS : n = sN S) (hn : iv 11 = nI n) (hW : WS S) (hv : (sVr S = none ∧ iv 13 = -1) ∨ ∃ q, sVr S = some q ∧ iv 13 = nI (rvN q.1 q.2)) (x : Int32) : CR l G yX1_chosen cX1_chosen 2 .boolean 1 21 [.ref (a 15), .int (x)] [(a 15, .inr (0, [.ref (a 0), .ref (a 1), .ref (a 2), .ref (a 3), .ref (a 4), .ref (a 5), .ref (a 6), .int (iv 7), .ref (a 8), .ref (a 9), .int (iv 10), .int (iv 11), .ref (a 12), .int (iv 13), .ref (a 14)]))] (fun r => r = b2i (stChosen S x)) := by
  refine mkRi (by decide) (Nat.le_of_ble_eq_true rfl) ?_
  intro p e s m args below meth c Q hx hb hts hown hml hG hP hS ret ls hl
  have hn4 : n ≤ 14 := by rw [hnS]; exact hW.1
  refine lv_aload_n hx hb dX1_chosen_0 rfl (lv_at hl 0 rfl) ?_
  refine lv_iload_n hx hb dX1_chosen_1 rfl (lv_at hl 1 rfl) ?_
  refine vp_callSi (W.runV (As := [.int (x)]) (rest := []) ⟨hx, hb, hml, hown, hts⟩ (metX1_is l G a iv (x)) (cwV 1 hts (lw_V q214 q216 qs0 q29 q217) rfl rfl rfl (by decide +kernel) ⟨Nat.le_of_ble_eq_true rfl, Nat.le_of_ble_eq_true rfl⟩) (pre_RV (q0 := 0) hG hP hS (fun _ h => h.elim) rfl rfl) rfl rfl hl.1 rfl (lv_room (Nat.le_of_ble_eq_true rfl)) dX1_chosen_2 ⟨Nat.le_refl _, Nat.le_refl _⟩) (fun r_2 e_2 => ?_)
  subst e_2
  refine top_i (y := b2i (isF (x) (nI n))) (congrArg (fun z => b2i (isF (x) z)) hn) ?_
  refine lv_if_eq (tgt := 31) hx hb dX1_chosen_5 (by decide) (fun c_5 => ?_) (fun c_5 => ?_)
  · have h5 : isF x (nI n) = false := b2i_0.mp c_5
    refine lv_iconst (v := 0) hx hb dX1_chosen_31 (by decide) ?_
    exact ret (0) 32 ls dX1_chosen_32 rfl (by subst hnS; rw [cn_1 hW h5]; rfl)
  · have h5 : isF x (nI n) = true := b2i_n0.mp c_5
    obtain ⟨g, rfl, hg1, hg2, hg4⟩ := isF_gb hW (by rw [hnS] at h5; exact h5)
    rcases hv with ⟨hv1, hv2⟩ | ⟨qv, hv1, hv2⟩
    · skip
      refine lv_aload_n hx hb dX1_chosen_8 rfl (lv_at hl 0 rfl) ?_
      refine va_get (D := gD G) (ci := 0) (v := .int (iv 13)) (C := RX1) (T := TX1) (N := 15) hx hb hts in_X1 hown hG.K hP 0 rfl rfl 13 (by decide) (hts _ q177) (fun _ h9 => h9) rfl dX1_chosen_9 ?_
      refine top_i (y := -1) hv2 ?_
      refine lv_if_lt (tgt := 31) hx hb dX1_chosen_12 (by decide) (fun c_12 => ?_) (fun c_12 => absurd (by decide) c_12)
      refine lv_iconst (v := 0) hx hb dX1_chosen_31 (by decide) ?_
      exact ret (0) 32 ls dX1_chosen_32 rfl (by rw [cn_2 hv1]; rfl)
    · skip
      obtain ⟨hq1, hq2⟩ := hW.2.2.2.2.2.2.2.2.2.2.2.1 qv hv1
      have hrl := Nat.lt_of_lt_of_le (rv_lt qv.1 qv.2) (p2_14 (Nat.le_trans hq1 hW.1))
      refine lv_aload_n hx hb dX1_chosen_8 rfl (lv_at hl 0 rfl) ?_
      refine va_get (D := gD G) (ci := 0) (v := .int (iv 13)) (C := RX1) (T := TX1) (N := 15) hx hb hts in_X1 hown hG.K hP 0 rfl rfl 13 (by decide) (hts _ q177) (fun _ h9 => h9) rfl dX1_chosen_9 ?_
      refine top_i (y := nI (rvN qv.1 qv.2)) hv2 ?_
      refine lv_if_lt (tgt := 31) hx hb dX1_chosen_12 (by decide) (fun c_12 => absurd c_12 (nI_pos (by omega))) (fun c_12 => ?_)
      refine lv_aload_n hx hb dX1_chosen_15 rfl (lv_at hl 0 rfl) ?_
      refine va_get (D := gD G) (ci := 0) (v := .int (iv 13)) (C := RX1) (T := TX1) (N := 15) hx hb hts in_X1 hown hG.K hP 0 rfl rfl 13 (by decide) (hts _ q177) (fun _ h9 => h9) rfl dX1_chosen_16 ?_
      refine top_i (y := nI (rvN qv.1 qv.2)) hv2 ?_
      refine lv_iload_n hx hb dX1_chosen_19 rfl (lv_at hl 1 rfl) ?_
      refine vp_callSi (W.runS (As := [.int (nI g)]) (rest := [.int (nI (rvN qv.1 qv.2))]) ⟨hx, hb, hml, hown, hts⟩ (metX1_bit l G g hg1 hg4) (va_cwS 1 hts (lw_S q233 q234 q29 q235) rfl rfl rfl (by decide +kernel) ⟨Nat.le_of_ble_eq_true rfl, Nat.le_of_ble_eq_true rfl⟩) (pre_RS hG (wP.mem (w' := []) hP (fun _ h => absurd h List.not_mem_nil)) hS (fun _ h => h.elim)) rfl rfl hl.1 rfl (lv_room (Nat.le_of_ble_eq_true rfl)) dX1_chosen_20 ⟨Nat.le_refl _, Nat.le_refl _⟩) (fun r_20 e_20 => ?_)
      subst e_20
      refine lv_iand hx hb dX1_chosen_23 ?_
      refine lv_if_eq (tgt := 31) hx hb dX1_chosen_24 (by decide) (fun c_24 => ?_) (fun c_24 => ?_)
      · have h24 := bm_f (by omega) hg4 c_24
        refine lv_iconst (v := 0) hx hb dX1_chosen_31 (by decide) ?_
        exact ret (0) 32 ls dX1_chosen_32 rfl (by rw [cn_3 hW hv1 hg1 hg2, h24]; rfl)
      · have h24 := bm_t (by omega) hg4 c_24
        refine lv_iconst (v := 1) hx hb dX1_chosen_27 (by decide) ?_
        refine lv_goto (tgt := 32) hx hb dX1_chosen_28 (by decide) ?_
        exact ret (1) 32 ls dX1_chosen_32 rfl (by rw [cn_3 hW hv1 hg1 hg2, h24]; rfl)
