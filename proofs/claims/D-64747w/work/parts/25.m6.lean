theorem wsI_lo {q : Nat × Nat} {y : Int32} (h : y < 1) : wsI q y = false := by simp [wsI, isF, h]
theorem wsI_hi {q : Nat × Nat} {y : Int32} (h : nI q.1 < y) : wsI q y = false := by simp [wsI, isF, h]
theorem wsI_in {n x g : Nat} (h1 : 1 ≤ g) (h2 : g ≤ n) (hn : n ≤ 14) : wsI (n, x) (nI g) = tb n x g := by
  have e : isF (nI g) (nI n) = true := (isF_iff hn).mpr ⟨g, h1, h2, rfl⟩
  show (isF (nI g) (nI n) && tb n x (iN (nI g))) = tb n x g
  rw [e, iN_nI (by omega), Bool.true_and]
theorem ix_of {y : Int32} {n : Nat} (hn : n < 2 ^ 31) (h1 : ¬ y < 0) (h2 : ¬ nI n ≤ y) : ∃ j, y = nI j ∧ j < n := by
  rcases pk_ix y hn with h | h | ⟨j, h3, h4⟩
  · exact absurd h h1
  · exact absurd h h2
  · exact ⟨j, h4, h3⟩
theorem in_of {y : Int32} {n : Nat} (hn : n < 2 ^ 31) (h1 : ¬ y < 1) (h2 : ¬ nI n < y) : ∃ g, y = nI g ∧ 1 ≤ g ∧ g ≤ n := by
  obtain ⟨j, hj, rfl⟩ := nI_of (x := y) (fun h => h1 (by rw [Int32.lt_iff_toInt_lt] at h ⊢; exact Int.lt_trans h (by decide)))
  refine ⟨j, rfl, ?_, ?_⟩
  · rcases Nat.lt_or_ge j 1 with h | h
    · exact absurd (show nI j < nI 1 from nI_lt h (by decide)) h1
    · exact h
  · rcases Nat.lt_or_ge n j with h | h
    · exact absurd (nI_lt h hj) h2
    · exact h
set_option maxHeartbeats 4000000 in
set_option maxRecDepth 100000 in
theorem metX2_wasIn (l : Launch) (G : Gt) (a : Nat → Nat) (iv : Nat → Int32) (f : Nat → Nat → Int32) (n x : Nat) (y : Int32) (hn4 : n ≤ 14) (hx1 : x < 2 ^ 31) : CR l G yX2_wasIn cX2_wasIn 3 .boolean 0 0 [.int (nI x), .int (nI n), .int (y)] (wM G a iv f) (fun r => r = b2i (wsI (n, x) y)) := by
  refine mkRi (by decide) (Nat.le_of_ble_eq_true rfl) ?_
  intro p e s m args below meth c Q hx hb hts hown hml hG hP hS ret ls hl
  refine lv_iload_n hx hb dX2_wasIn_0 rfl (lv_at hl 2 rfl) ?_
  refine lv_iconst (v := 1) hx hb dX2_wasIn_1 (by decide) ?_
  refine lv_icmp_lt (tgt := 25) hx hb dX2_wasIn_2 (by decide) (fun c_2 => ?_) (fun c_2 => ?_)
  · skip
    refine lv_iconst (v := 0) hx hb dX2_wasIn_25 (by decide) ?_
    exact ret (0) 26 ls dX2_wasIn_26 rfl (by rw [wsI_lo c_2]; rfl)
  · skip
    refine lv_iload_n hx hb dX2_wasIn_5 rfl (lv_at hl 2 rfl) ?_
    refine lv_iload_n hx hb dX2_wasIn_6 rfl (lv_at hl 1 rfl) ?_
    refine lv_icmp_gt (tgt := 25) hx hb dX2_wasIn_7 (by decide) (fun c_7 => ?_) (fun c_7 => ?_)
    · skip
      refine lv_iconst (v := 0) hx hb dX2_wasIn_25 (by decide) ?_
      exact ret (0) 26 ls dX2_wasIn_26 rfl (by rw [wsI_hi c_7]; rfl)
    · obtain ⟨g, rfl, hg1, hg2⟩ := in_of (by omega) c_2 c_7
      refine lv_iload_n hx hb dX2_wasIn_10 rfl (lv_at hl 0 rfl) ?_
      refine lv_iload_n hx hb dX2_wasIn_11 rfl (lv_at hl 1 rfl) ?_
      refine lv_iload_n hx hb dX2_wasIn_12 rfl (lv_at hl 2 rfl) ?_
      refine lv_isub hx hb dX2_wasIn_13 ?_
      refine top_i (y := nI (n - g)) (pk_sub hg2) ?_
      refine lv_ishr hx hb dX2_wasIn_14 ?_
      refine lv_iconst (v := 1) hx hb dX2_wasIn_15 (by decide) ?_
      refine lv_iand hx hb dX2_wasIn_16 ?_
      refine top_i (y := b2i (tb n x g)) (bit_1 hx1 (by omega)) ?_
      refine lv_iconst (v := 1) hx hb dX2_wasIn_17 (by decide) ?_
      refine lv_icmp_ne (tgt := 25) hx hb dX2_wasIn_18 (by decide) (fun c_18 => ?_) (fun c_18 => ?_)
      · have h18 : tb n x g = false := Bool.not_eq_true _ ▸ (fun h => c_18 (b2i_1.mpr h))
        refine lv_iconst (v := 0) hx hb dX2_wasIn_25 (by decide) ?_
        exact ret (0) 26 ls dX2_wasIn_26 rfl (by rw [wsI_in hg1 hg2 hn4, h18]; rfl)
      · have h18 : tb n x g = true := b2i_1.mp (by simpa using c_18)
        refine lv_iconst (v := 1) hx hb dX2_wasIn_21 (by decide) ?_
        refine lv_goto (tgt := 26) hx hb dX2_wasIn_22 (by decide) ?_
        exact ret (1) 26 ls dX2_wasIn_26 rfl (by rw [wsI_in hg1 hg2 hn4, h18]; rfl)
theorem mwq {G : Gt} {a : Nat → Nat} {S : St} {v r : Int32} {w : va_W} {iv : Nat → Int32} {f : Nat → Nat → Int32} (e : v = r) (hw : w = wM G a iv f) (h : MR S iv f) : v = r ∧ MW G a S w := ⟨e, iv, f, hw, h⟩
set_option maxHeartbeats 4000000 in
set_option maxRecDepth 100000 in
theorem metX2_chosen (l : Launch) (G : Gt) (a : Nat → Nat) (iv : Nat → Int32) (f : Nat → Nat → Int32) (S : St) (hW : WS S) (hM : MR S iv f) (y : Int32) (sz : Nat) : CWi l G yX2_chosen cX2_chosen 2 .boolean 1 0 0 22 [.ref (a 0), .int (y)] (wM G a iv f) sz (fun r w1 => r = b2i (stChosen S y) ∧ MW G a S w1) := by
  refine mkWi (by decide) (Nat.le_of_ble_eq_true rfl) ?_
  intro p e s m args below meth c Q A hx hb hts hown hin hml hG hsz hP hD hA hA0 hS ret ls hl
  obtain ⟨n, hnS⟩ : ∃ n, n = sN S := ⟨_, rfl⟩
  have hn : iv 7 = nI n := by rw [hnS]; exact hM.1
  have hn4 : n ≤ 14 := by rw [hnS]; exact hW.1
  have hvr := hM.2.2.2.2.2.2.2.2.2.2.2.2.1
  have hvq := hM.2.2.2.2.2.2.2.2.2.2.2.2.2.1
  refine lv_aload_n hx hb dX2_chosen_0 rfl (lv_at hl 0 rfl) ?_
  refine lv_iconst (v := 0) hx hb dX2_chosen_1 (by decide) ?_
  refine va_put (D := gD G) (ci := 1) (v := .int (0)) (ty := .int) (C := RX2) (T := TX2) (N := 27) hx hb hts in_X2 tyX2 tyX2_ok nmX2 hown hG.K hP hD hS 0 rfl rfl 0 (by decide) (hts _ q1153) (fun _ h9 => h9) rfl (by decide +kernel) rfl rfl (Nat.le_of_ble_eq_true rfl) dX2_chosen_2 (fun H locs hP hD hS => ?_)
  have hP : wP G (wM G a (va_up iv 0 (0)) f) H := hP
  have hD : va_D A (wM G a (va_up iv 0 (0)) f) := hD
  refine lv_aload_n hx hb dX2_chosen_5 rfl (lv_at hl 0 rfl) ?_
  refine va_get (D := gD G) (ci := 1) (v := .int (iv 22)) (C := RX2) (T := TX2) (N := 27) hx hb hts in_X2 hown hG.K hP 0 rfl rfl 22 (by decide) (hts _ q1175) (fun _ h9 => h9) rfl dX2_chosen_6 ?_
  refine top_i (y := b2i (sVr S).isSome) (hvr) ?_
  refine lv_if_eq (tgt := 31) hx hb dX2_chosen_9 (by decide) (fun c_9 => ?_) (fun c_9 => ?_)
  · have h9 : (sVr S).isSome = false := b2i_0.mp c_9; have hvn : sVr S = none := (by simpa using h9)
    refine lv_iconst (v := 0) hx hb dX2_chosen_31 (by decide) ?_
    exact ret (0) _ 32 ls _ _ 0 0 dX2_chosen_32 rfl (Nat.le_refl _) (Nat.le_refl _) hP hD hS (mwq (by simp [stChosen, hvn, b2i]) rfl hM)
  · have h9 : (sVr S).isSome = true := b2i_n0.mp c_9; obtain ⟨q, hq⟩ := Option.isSome_iff_exists.mp h9; obtain ⟨hq1, hq2⟩ := hvq q hq; obtain ⟨hq3, hq4⟩ := hW.2.2.2.2.2.2.2.2.2.2.2.1 q hq; have hq5 := p2_14 (Nat.le_trans hq3 hW.1)
    refine lv_aload_n hx hb dX2_chosen_12 rfl (lv_at hl 0 rfl) ?_
    refine va_get (D := gD G) (ci := 1) (v := .int (iv 23)) (C := RX2) (T := TX2) (N := 27) hx hb hts in_X2 hown hG.K hP 0 rfl rfl 23 (by decide) (hts _ q1176) (fun _ h9 => h9) rfl dX2_chosen_13 ?_
    refine top_i (y := nI q.2) (hq1) ?_
    refine lv_aload_n hx hb dX2_chosen_16 rfl (lv_at hl 0 rfl) ?_
    refine va_get (D := gD G) (ci := 1) (v := .int (iv 24)) (C := RX2) (T := TX2) (N := 27) hx hb hts in_X2 hown hG.K hP 0 rfl rfl 24 (by decide) (hts _ q1177) (fun _ h9 => h9) rfl dX2_chosen_17 ?_
    refine top_i (y := nI q.1) (hq2) ?_
    refine lv_iload_n hx hb dX2_chosen_20 rfl (lv_at hl 1 rfl) ?_
    refine vp_callSi (W.runS (As := [.int (nI q.2), .int (nI q.1), .int (y)]) (rest := []) ⟨hx, hb, hml, hown, hts⟩ (metX2_wasIn l G a (va_up iv 0 (0)) f q.1 q.2 y (Nat.le_trans hq3 hW.1) (by omega)) (va_cwS 3 hts (lw_S q1320 q1321 q36 q1322) rfl rfl rfl (by decide +kernel) ⟨Nat.le_of_ble_eq_true rfl, Nat.le_of_ble_eq_true rfl⟩) (pre_RS hG hP hS hA0) rfl rfl hl.1 rfl (lv_room (Nat.le_of_ble_eq_true rfl)) dX2_chosen_21 ⟨Nat.le_refl _, Nat.le_refl _⟩) (fun r_21 e_21 => ?_)
    subst e_21
    refine lv_if_eq (tgt := 31) hx hb dX2_chosen_24 (by decide) (fun c_24 => ?_) (fun c_24 => ?_)
    · have h24 : wsI q y = false := b2i_0.mp c_24
      refine lv_iconst (v := 0) hx hb dX2_chosen_31 (by decide) ?_
      exact ret (0) _ 32 ls _ _ 0 0 dX2_chosen_32 rfl (Nat.le_refl _) (Nat.le_refl _) hP hD hS (mwq (by simp [stChosen, hq, h24, b2i]) rfl hM)
    · have h24 : wsI q y = true := b2i_n0.mp c_24
      refine lv_iconst (v := 1) hx hb dX2_chosen_27 (by decide) ?_
      refine lv_goto (tgt := 32) hx hb dX2_chosen_28 (by decide) ?_
      exact ret (1) _ 32 ls _ _ 0 0 dX2_chosen_32 rfl (Nat.le_refl _) (Nat.le_refl _) hP hD hS (mwq (by simp [stChosen, hq, h24, b2i]) rfl hM)
set_option maxHeartbeats 4000000 in
set_option maxRecDepth 100000 in
theorem metX2_why (l : Launch) (G : Gt) (a : Nat → Nat) (iv : Nat → Int32) (f : Nat → Nat → Int32) (S : St) (hW : WS S) (hM : MR S iv f) (y : Int32) (sz : Nat) : CWi l G yX2_why cX2_why 2 .int 0 0 0 0 [.ref (a 0), .int (y)] (wM G a iv f) sz (fun r w1 => r = stWhy S y ∧ MW G a S w1) := by
  refine mkWi (by decide) (Nat.le_of_ble_eq_true rfl) ?_
  intro p e s m args below meth c Q A hx hb hts hown hin hml hG hsz hP hD hA hA0 hS ret ls hl
  have hwc := hM.2.2.2.2.2.2.2.2.2.2.2.2.2.2.1
  have hwf := hM.2.2.2.2.2.2.2.2.2.2.2.2.2.2.2
  have hwl := hW.2.2.2.2.2.2.2.2.2.2.2.2.2
  refine lv_aload_n hx hb dX2_why_0 rfl (lv_at hl 0 rfl) ?_
  refine lv_iconst (v := 0) hx hb dX2_why_1 (by decide) ?_
  refine va_put (D := gD G) (ci := 1) (v := .int (0)) (ty := .int) (C := RX2) (T := TX2) (N := 27) hx hb hts in_X2 tyX2 tyX2_ok nmX2 hown hG.K hP hD hS 0 rfl rfl 0 (by decide) (hts _ q1153) (fun _ h9 => h9) rfl (by decide +kernel) rfl rfl (Nat.le_of_ble_eq_true rfl) dX2_why_2 (fun H locs hP hD hS => ?_)
  have hP : wP G (wM G a (va_up iv 0 (0)) f) H := hP
  have hD : va_D A (wM G a (va_up iv 0 (0)) f) := hD
  refine lv_iload_n hx hb dX2_why_5 rfl (lv_at hl 1 rfl) ?_
  refine lv_if_lt (tgt := 26) hx hb dX2_why_6 (by decide) (fun c_6 => ?_) (fun c_6 => ?_)
  · skip
    refine lv_iconst (v := 0) hx hb dX2_why_26 (by decide) ?_
    exact ret (0) _ 27 ls _ _ 0 0 dX2_why_27 rfl (Nat.le_refl _) (Nat.le_refl _) hP hD hS (mwq (by unfold stWhy; rw [if_neg (fun h => absurd c_6 (Int32.not_lt.mpr h.1))]) rfl hM)
  · skip
    refine lv_iload_n hx hb dX2_why_9 rfl (lv_at hl 1 rfl) ?_
    refine lv_aload_n hx hb dX2_why_10 rfl (lv_at hl 0 rfl) ?_
    refine va_get (D := gD G) (ci := 1) (v := .int (iv 26)) (C := RX2) (T := TX2) (N := 27) hx hb hts in_X2 hown hG.K hP 0 rfl rfl 26 (by decide) (hts _ q1179) (fun _ h9 => h9) rfl dX2_why_11 ?_
    refine top_i (y := nI (sWy S).length) (hwc) ?_
    refine lv_icmp_ge (tgt := 26) hx hb dX2_why_14 (by decide) (fun c_14 => ?_) (fun c_14 => ?_)
    · skip
      refine lv_iconst (v := 0) hx hb dX2_why_26 (by decide) ?_
      exact ret (0) _ 27 ls _ _ 0 0 dX2_why_27 rfl (Nat.le_refl _) (Nat.le_refl _) hP hD hS (mwq (by unfold stWhy; rw [if_neg (fun h => absurd h.2 (Int32.not_lt.mpr c_14))]) rfl hM)
    · obtain ⟨j, rfl, hj⟩ := ix_of (n := (sWy S).length) (by omega) c_6 c_14
      refine lv_aload_n hx hb dX2_why_17 rfl (lv_at hl 0 rfl) ?_
      refine va_get (D := gD G) (ci := 1) (v := .ref (a 25)) (C := RX2) (T := TX2) (N := 27) hx hb hts in_X2 hown hG.K hP 0 rfl rfl 25 (by decide) (hts _ q1178) (fun _ h9 => h9) rfl dX2_why_18 ?_
      refine lv_iload_n hx hb dX2_why_21 rfl (lv_at hl 1 rfl) ?_
      refine ia_ld (j := j) hx hb hG.K hP 16 0 rfl rfl (by omega) (by decide) dX2_why_22 ?_
      refine top_i (y := litI ((sWy S).getD j (0, true))) (hwf j hj) ?_
      refine lv_goto (tgt := 27) hx hb dX2_why_23 (by decide) ?_
      exact ret (litI ((sWy S).getD j (0, true))) _ 27 ls _ _ 0 0 dX2_why_27 rfl (Nat.le_refl _) (Nat.le_refl _) hP hD hS (mwq (by unfold stWhy; rw [if_pos ⟨nI_pos' (by omega), nI_lt hj (by omega)⟩, iN_nI (by omega)]) rfl hM)
theorem dp_le {pa : Nat → Nat} {n : Nat} (h : ∀ j, 1 ≤ j → j ≤ n → pa j < j) : ∀ k m j, j ≤ n → j ≤ k → j ≤ m → dpN pa k j = dpN pa m j := by
  intro k
  induction k with
  | zero =>
    intro m j _ h1 _
    have : j = 0 := by omega
    subst this
    cases m <;> simp [dpN]
  | succ k ih =>
    intro m j hj h1 h2
    cases m with
    | zero =>
      have : j = 0 := by omega
      subst this
      simp [dpN]
    | succ m =>
      rw [dpN, dpN]
      by_cases h0 : j = 0
      · rw [if_pos h0, if_pos h0]
      · have := h j (by omega) hj
        rw [if_neg h0, if_neg h0, ih m (pa j) (by omega) (by omega) (by omega)]
theorem dp_step {pa : Nat → Nat} {n : Nat} (h : ∀ j, 1 ≤ j → j ≤ n → pa j < j) {j : Nat} (h1 : 1 ≤ j) (h2 : j ≤ n) (hn : n ≤ 14) : dpN pa 15 j = dpN pa 15 (pa j) + 1 := by
  have := h j h1 h2
  rw [dpN, if_neg (by omega), dp_le h 14 15 (pa j) (by omega) (by omega) (by omega)]
theorem dp_bd {pa : Nat → Nat} : ∀ k j, dpN pa k j ≤ k := by
  intro k
  induction k with
  | zero => intro j; exact Nat.le_refl _
  | succ k ih => intro j; rw [dpN]; split; · omega
                 · have := ih (pa j); omega
theorem lvl_1 {S : St} {i : Int32} (h : i < 0 ∨ nI (sN S) ≤ i) : stLevel S i = none := by unfold stLevel; rw [if_pos h]
theorem lvl_2 {S : St} {j : Nat} (hn : sN S ≤ 14) (h : j < sN S) : stLevel S (nI j) = some (dpN (sPa S) 15 (sPa S (j + 1))) := by
  unfold stLevel
  rw [if_neg (fun h' => h'.elim (nI_pos (by omega)) (nI_ge h (by omega))), iN_nI (by omega)]
def lvI : Option Nat → Int32
  | none => 0
  | some d => nI d
theorem MR_0 {S : St} {iv : Nat → Int32} {f : Nat → Nat → Int32} {v : Int32} (h : MR S iv f) : MR S (va_up iv 0 v) f := h
set_option maxHeartbeats 4000000 in
set_option maxRecDepth 100000 in
theorem metX2_level (l : Launch) (G : Gt) (a : Nat → Nat) (iv : Nat → Int32) (f : Nat → Nat → Int32) (S : St) (hW : WS S) (hM : MR S iv f) (y : Int32) (sz : Nat) : CWi l G yX2_level cX2_level 4 .int 0 0 0 0 [.ref (a 0), .int (y)] (wM G a iv f) sz (fun r w1 => r = lvI (stLevel S y) ∧ ∃ iv2 f2, w1 = wM G a iv2 f2 ∧ MR S iv2 f2 ∧ iv2 0 = b2i (stLevel S y).isNone) := by
  refine mkWi (by decide) (Nat.le_of_ble_eq_true rfl) ?_
  intro p e s m args below meth c Q A hx hb hts hown hin hml hG hsz hP hD hA hA0 hS ret ls hl
  obtain ⟨n, hnS⟩ : ∃ n, n = sN S := ⟨_, rfl⟩
  have hn : iv 7 = nI n := by rw [hnS]; exact hM.1
  have hn4 : n ≤ 14 := by rw [hnS]; exact hW.1
  have hpa : ∀ j, 1 ≤ j → j ≤ n → f 1 j = nI (sPa S j) ∧ sPa S j < j := by rw [hnS]; exact fun j h1 h2 => ⟨(hM.2.1 j h1 h2).1, (hW.2.1 j h1 h2).1⟩
  refine lv_aload_n hx hb dX2_level_0 rfl (lv_at hl 0 rfl) ?_
  refine lv_iconst (v := 0) hx hb dX2_level_1 (by decide) ?_
  refine va_put (D := gD G) (ci := 1) (v := .int (0)) (ty := .int) (C := RX2) (T := TX2) (N := 27) hx hb hts in_X2 tyX2 tyX2_ok nmX2 hown hG.K hP hD hS 0 rfl rfl 0 (by decide) (hts _ q1153) (fun _ h9 => h9) rfl (by decide +kernel) rfl rfl (Nat.le_of_ble_eq_true rfl) dX2_level_2 (fun H locs hP hD hS => ?_)
  have hP : wP G (wM G a (va_up iv 0 (0)) f) H := hP
  have hD : va_D A (wM G a (va_up iv 0 (0)) f) := hD
  refine lv_iload_n hx hb dX2_level_5 rfl (lv_at hl 1 rfl) ?_
  refine lv_if_lt (tgt := 17) hx hb dX2_level_6 (by decide) (fun c_6 => ?_) (fun c_6 => ?_)
  · skip
    refine lv_aload_n hx hb dX2_level_17 rfl (lv_at hl 0 rfl) ?_
    refine lv_iconst (v := 1) hx hb dX2_level_18 (by decide) ?_
    refine va_put (D := gD G) (ci := 1) (v := .int (1)) (ty := .int) (C := RX2) (T := TX2) (N := 27) hx hb hts in_X2 tyX2 tyX2_ok nmX2 hown hG.K hP hD hS 0 rfl rfl 0 (by decide) (hts _ q1153) (fun _ h9 => h9) rfl (by decide +kernel) rfl rfl (Nat.le_of_ble_eq_true rfl) dX2_level_19 (fun H locs hP hD hS => ?_)
    have hP : wP G (wM G a (va_up iv 0 (1)) f) H := hP
    have hD : va_D A (wM G a (va_up iv 0 (1)) f) := hD
    refine lv_iconst (v := 0) hx hb dX2_level_22 (by decide) ?_
    exact ret (0) _ 23 ls _ _ 0 0 dX2_level_23 rfl (Nat.le_refl _) (Nat.le_refl _) hP hD hS (by subst hnS; rw [lvl_1 (Or.inl c_6)]; exact ⟨rfl, _, _, rfl, hM, rfl⟩)
  · skip
    refine lv_iload_n hx hb dX2_level_9 rfl (lv_at hl 1 rfl) ?_
    refine lv_aload_n hx hb dX2_level_10 rfl (lv_at hl 0 rfl) ?_
    refine va_get (D := gD G) (ci := 1) (v := .int (iv 7)) (C := RX2) (T := TX2) (N := 27) hx hb hts in_X2 hown hG.K hP 0 rfl rfl 7 (by decide) (hts _ q1160) (fun _ h9 => h9) rfl dX2_level_11 ?_
    refine top_i (y := nI n) (hn) ?_
    refine lv_icmp_lt (tgt := 24) hx hb dX2_level_14 (by decide) (fun c_14 => ?_) (fun c_14 => ?_)
    · obtain ⟨j, rfl, hj⟩ := ix_of (n := n) (by omega) c_6 (Int32.not_le.mpr c_14)
      obtain ⟨hp1, hp2⟩ := hpa (j + 1) (by omega) (by omega)
      have L35 : ∀ (d : Nat) (g cn : Nat) (v3 v2 : Int32), g ≤ n → g + 1 ≤ d → v3 = nI g → v2 = nI cn → cn + dpN (sPa S) 15 g = dpN (sPa S) 15 (sPa S (j + 1)) → ∀ (H : Heap) (locs : List Loc), wP G (wM G a (va_up iv 0 (0)) f) H → va_D A (wM G a (va_up iv 0 (0)) f) → va_S A s.heap H locs → ∀ ls : Array Slot, lv_has ls 4 [(3, .int (v3)), (2, .int (v2)), (0, .ref (a 0)), (1, .int (nI j))] → W p l e (rm_ 0 0 0 0) s m args below meth c H locs 0 0 Q (F0 m 35 ls []) := by
        intro d
        induction d with
        | zero => intros; omega
        | succ d ih_35 =>
          intro g cn v3 v2 hg2 hd e3 e2 hdp H locs hP hD hS ls hl
          subst e3 e2
          refine lv_iload_n hx hb dX2_level_35 rfl (lv_at hl 0 rfl) ?_
          refine lv_if_le (tgt := 52) hx hb dX2_level_36 (by decide) (fun c_36 => ?_) (fun c_36 => ?_)
          · have h36 : g ≤ 0 := nI_ge' (a := 0) (b := g) c_36; have hg0 : g = 0 := (by omega)
            refine lv_iload_n hx hb dX2_level_52 rfl (lv_at hl 1 rfl) ?_
            exact ret (nI cn) _ 53 ls _ _ 0 0 dX2_level_53 rfl (Nat.le_refl _) (Nat.le_refl _) hP hD hS (by subst hg0; have hc : cn = dpN (sPa S) 15 (sPa S (j + 1)) := (by have : dpN (sPa S) 15 0 = 0 := rfl; omega); subst hc; subst hnS; rw [lvl_2 hn4 hj]; exact ⟨rfl, _, _, rfl, hM, rfl⟩)
          · have h36 : 0 < g := nI_nge (a := 0) (b := g) c_36; obtain ⟨hq1, hq2⟩ := hpa g (by omega) hg2; have hds := dp_step (fun j h1 h2 => (hpa j h1 h2).2) (by omega) hg2 hn4; have hdb := dp_bd (pa := sPa S) 15 (sPa S (j + 1))
            refine lv_iinc (v := nI (cn + 1)) (lv' := [(2, .int (nI (cn + 1))), (3, .int (nI g)), (0, .ref (a 0)), (1, .int (nI j))]) hx hb dX2_level_39 hl (k := 1) rfl (nI_1 cn) (by decide) rfl (fun ls hl => ?_)
            refine lv_aload_n hx hb dX2_level_42 rfl (lv_at hl 2 rfl) ?_
            refine va_get (D := gD G) (ci := 1) (v := .ref (a 1)) (C := RX2) (T := TX2) (N := 27) hx hb hts in_X2 hown hG.K hP 0 rfl rfl 1 (by decide) (hts _ q1154) (fun _ h9 => h9) rfl dX2_level_43 ?_
            refine lv_iload_n hx hb dX2_level_46 rfl (lv_at hl 1 rfl) ?_
            refine ia_ld (j := g) hx hb hG.K hP 1 0 rfl rfl (by omega) (by decide) dX2_level_47 ?_
            refine top_i (y := nI (sPa S g)) (hq1) ?_
            refine lv_istore_n (lv' := [(3, .int (nI (sPa S g))), (2, .int (nI (cn + 1))), (0, .ref (a 0)), (1, .int (nI j))]) hx hb dX2_level_48 rfl hl (by decide) rfl (fun ls hl => ?_)
            refine lv_goto (tgt := 35) hx hb dX2_level_49 (by decide) ?_
            exact ih_35 (sPa S g) (cn + 1) _ _ (by omega) (by omega) rfl rfl (by omega) _ _ hP hD hS ls hl
      refine lv_iconst (v := 0) hx hb dX2_level_24 (by decide) ?_
      refine lv_istore_n (lv' := [(2, .int (0)), (0, .ref (a 0)), (1, .int (nI j))]) hx hb dX2_level_25 rfl hl (by decide) rfl (fun ls hl => ?_)
      refine lv_aload_n hx hb dX2_level_26 rfl (lv_at hl 1 rfl) ?_
      refine va_get (D := gD G) (ci := 1) (v := .ref (a 1)) (C := RX2) (T := TX2) (N := 27) hx hb hts in_X2 hown hG.K hP 0 rfl rfl 1 (by decide) (hts _ q1154) (fun _ h9 => h9) rfl dX2_level_27 ?_
      refine lv_iload_n hx hb dX2_level_30 rfl (lv_at hl 2 rfl) ?_
      refine lv_iconst (v := 1) hx hb dX2_level_31 (by decide) ?_
      refine lv_iadd hx hb dX2_level_32 ?_
      refine top_i (y := nI (j + 1)) (nI_1 j) ?_
      refine ia_ld (j := j + 1) hx hb hG.K hP 1 0 rfl rfl (by omega) (by decide) dX2_level_33 ?_
      refine top_i (y := nI (sPa S (j + 1))) (hp1) ?_
      refine lv_istore_n (lv' := [(3, .int (nI (sPa S (j + 1)))), (2, .int (0)), (0, .ref (a 0)), (1, .int (nI j))]) hx hb dX2_level_34 rfl hl (by decide) rfl (fun ls hl => ?_)
      exact L35 15 (sPa S (j + 1)) 0 _ _ (by omega) (by omega) rfl rfl (by omega) _ _ hP hD hS ls hl
    · skip
      refine lv_aload_n hx hb dX2_level_17 rfl (lv_at hl 0 rfl) ?_
      refine lv_iconst (v := 1) hx hb dX2_level_18 (by decide) ?_
      refine va_put (D := gD G) (ci := 1) (v := .int (1)) (ty := .int) (C := RX2) (T := TX2) (N := 27) hx hb hts in_X2 tyX2 tyX2_ok nmX2 hown hG.K hP hD hS 0 rfl rfl 0 (by decide) (hts _ q1153) (fun _ h9 => h9) rfl (by decide +kernel) rfl rfl (Nat.le_of_ble_eq_true rfl) dX2_level_19 (fun H locs hP hD hS => ?_)
      have hP : wP G (wM G a (va_up iv 0 (1)) f) H := hP
      have hD : va_D A (wM G a (va_up iv 0 (1)) f) := hD
      refine lv_iconst (v := 0) hx hb dX2_level_22 (by decide) ?_
      exact ret (0) _ 23 ls _ _ 0 0 dX2_level_23 rfl (Nat.le_refl _) (Nat.le_refl _) hP hD hS (by subst hnS; rw [lvl_1 (Or.inr (Int32.not_lt.mp c_14))]; exact ⟨rfl, _, _, rfl, hM, rfl⟩)
theorem df_1 {S : St} {x y : Int32} (h : x < 1 ∨ nI (sFd S).length < x ∨ y < 1 ∨ nI (sFd S).length < y) : stDiffer S x y = -1 := by unfold stDiffer; rw [if_pos h]
theorem df_2 {S : St} {i j : Nat} (hl : (sFd S).length ≤ 200) (h1 : 1 ≤ i) (h2 : i ≤ (sFd S).length) (h3 : 1 ≤ j) (h4 : j ≤ (sFd S).length) : stDiffer S (nI i) (nI j) = nI (ctB (dfP ((sFd S).getD (i - 1) (0, 0)) ((sFd S).getD (j - 1) (0, 0))) 15) := by
  unfold stDiffer
  rw [if_neg (fun h => h.elim (nI_nlt (b := 1) h1 (by omega)) (fun h => h.elim (nI_nlt h2 (by omega)) (fun h => h.elim (nI_nlt (b := 1) h3 (by omega)) (nI_nlt h4 (by omega))))), iN_nI (by omega), iN_nI (by omega)]
theorem getD_inF {l : List (Nat × Nat)} {P : Nat × Nat → Prop} (h : ∀ t ∈ l, P t) {k : Nat} (hk : k < l.length) : P (l.getD k (0, 0)) := by
  rw [List.getD_eq_getElem?_getD, List.getElem?_eq_getElem hk]
  exact h _ (List.getElem_mem hk)
set_option maxHeartbeats 4000000 in
set_option maxRecDepth 100000 in
theorem metX2_differ (l : Launch) (G : Gt) (a : Nat → Nat) (iv : Nat → Int32) (f : Nat → Nat → Int32) (S : St) (hW : WS S) (hM : MR S iv f) (x y : Int32) (sz : Nat) : CWi l G yX2_differ cX2_differ 7 .int 1 0 0 22 [.ref (a 0), .int (x), .int (y)] (wM G a iv f) sz (fun r w1 => r = stDiffer S x y ∧ MW G a S w1) := by
  refine mkWi (by decide) (Nat.le_of_ble_eq_true rfl) ?_
  intro p e s m args below meth c Q A hx hb hts hown hin hml hG hsz hP hD hA hA0 hS ret ls hl
  obtain ⟨n, hnS⟩ : ∃ n, n = sN S := ⟨_, rfl⟩
  have hn : iv 7 = nI n := by rw [hnS]; exact hM.1
  have hn4 : n ≤ 14 := by rw [hnS]; exact hW.1
  obtain ⟨fl, hfl⟩ : ∃ fl, fl = (sFd S).length := ⟨_, rfl⟩
  have hfc : iv 20 = nI fl := by rw [hfl]; exact hM.2.2.2.2.2.2.2.2.2.2.1
  have hff := hM.2.2.2.2.2.2.2.2.2.2.2.1
  have hfl4 : fl ≤ 200 := by rw [hfl]; exact hW.2.2.2.2.2.2.2.2.2.2.1
  refine lv_aload_n hx hb dX2_differ_0 rfl (lv_at hl 0 rfl) ?_
  refine lv_iconst (v := 0) hx hb dX2_differ_1 (by decide) ?_
  refine va_put (D := gD G) (ci := 1) (v := .int (0)) (ty := .int) (C := RX2) (T := TX2) (N := 27) hx hb hts in_X2 tyX2 tyX2_ok nmX2 hown hG.K hP hD hS 0 rfl rfl 0 (by decide) (hts _ q1153) (fun _ h9 => h9) rfl (by decide +kernel) rfl rfl (Nat.le_of_ble_eq_true rfl) dX2_differ_2 (fun H locs hP hD hS => ?_)
  have hP : wP G (wM G a (va_up iv 0 (0)) f) H := hP
  have hD : va_D A (wM G a (va_up iv 0 (0)) f) := hD
  refine lv_iload_n hx hb dX2_differ_5 rfl (lv_at hl 1 rfl) ?_
  refine lv_iconst (v := 1) hx hb dX2_differ_6 (by decide) ?_
  refine lv_icmp_lt (tgt := 31) hx hb dX2_differ_7 (by decide) (fun c_7 => ?_) (fun c_7 => ?_)
  · skip
    refine lv_iconst (v := (-1)) hx hb dX2_differ_31 (by decide) ?_
    exact ret (-1) _ 32 ls _ _ 0 0 dX2_differ_32 rfl (Nat.le_refl _) (Nat.le_refl _) hP hD hS (by subst hfl; exact mwq (df_1 (Or.inl c_7)).symm rfl hM)
  · skip
    refine lv_iload_n hx hb dX2_differ_10 rfl (lv_at hl 1 rfl) ?_
    refine lv_aload_n hx hb dX2_differ_11 rfl (lv_at hl 0 rfl) ?_
    refine va_get (D := gD G) (ci := 1) (v := .int (iv 20)) (C := RX2) (T := TX2) (N := 27) hx hb hts in_X2 hown hG.K hP 0 rfl rfl 20 (by decide) (hts _ q1173) (fun _ h9 => h9) rfl dX2_differ_12 ?_
    refine top_i (y := nI fl) (hfc) ?_
    refine lv_icmp_gt (tgt := 31) hx hb dX2_differ_15 (by decide) (fun c_15 => ?_) (fun c_15 => ?_)
    · skip
      refine lv_iconst (v := (-1)) hx hb dX2_differ_31 (by decide) ?_
      exact ret (-1) _ 32 ls _ _ 0 0 dX2_differ_32 rfl (Nat.le_refl _) (Nat.le_refl _) hP hD hS (by subst hfl; exact mwq (df_1 (Or.inr (Or.inl c_15))).symm rfl hM)
    · skip
      refine lv_iload_n hx hb dX2_differ_18 rfl (lv_at hl 2 rfl) ?_
      refine lv_iconst (v := 1) hx hb dX2_differ_19 (by decide) ?_
      refine lv_icmp_lt (tgt := 31) hx hb dX2_differ_20 (by decide) (fun c_20 => ?_) (fun c_20 => ?_)
      · skip
        refine lv_iconst (v := (-1)) hx hb dX2_differ_31 (by decide) ?_
        exact ret (-1) _ 32 ls _ _ 0 0 dX2_differ_32 rfl (Nat.le_refl _) (Nat.le_refl _) hP hD hS (by subst hfl; exact mwq (df_1 (Or.inr (Or.inr (Or.inl c_20)))).symm rfl hM)
      · skip
        refine lv_iload_n hx hb dX2_differ_23 rfl (lv_at hl 2 rfl) ?_
        refine lv_aload_n hx hb dX2_differ_24 rfl (lv_at hl 0 rfl) ?_
        refine va_get (D := gD G) (ci := 1) (v := .int (iv 20)) (C := RX2) (T := TX2) (N := 27) hx hb hts in_X2 hown hG.K hP 0 rfl rfl 20 (by decide) (hts _ q1173) (fun _ h9 => h9) rfl dX2_differ_25 ?_
        refine top_i (y := nI fl) (hfc) ?_
        refine lv_icmp_le (tgt := 33) hx hb dX2_differ_28 (by decide) (fun c_28 => ?_) (fun c_28 => ?_)
        · skip
          obtain ⟨i, rfl, hi1, hi2⟩ := in_of (by omega) c_7 c_15
          obtain ⟨j, rfl, hj1, hj2⟩ := in_of (by omega) c_20 (Int32.not_lt.mpr c_28)
          obtain ⟨pq, hp⟩ : ∃ pq, pq = (sFd S).getD (i - 1) (0, 0) := ⟨_, rfl⟩
          obtain ⟨qq, hq⟩ : ∃ qq, qq = (sFd S).getD (j - 1) (0, 0) := ⟨_, rfl⟩
          obtain ⟨hp1, hp2⟩ : f 19 i = nI pq.2 ∧ f 21 i = nI pq.1 := by have h9 := hff (i - 1) (by omega); rw [Nat.sub_add_cancel hi1] at h9; rw [hp]; exact h9
          obtain ⟨hq1, hq2⟩ : f 19 j = nI qq.2 ∧ f 21 j = nI qq.1 := by have h9 := hff (j - 1) (by omega); rw [Nat.sub_add_cancel hj1] at h9; rw [hq]; exact h9
          obtain ⟨hp3, hp4⟩ : pq.1 ≤ n ∧ pq.2 < 2 ^ pq.1 := by rw [hp, hnS]; exact getD_inF (P := fun t => t.1 ≤ sN S ∧ t.2 < 2 ^ t.1) hW.2.2.2.2.2.2.2.2.2.1 (by omega)
          obtain ⟨hq3, hq4⟩ : qq.1 ≤ n ∧ qq.2 < 2 ^ qq.1 := by rw [hq, hnS]; exact getD_inF (P := fun t => t.1 ≤ sN S ∧ t.2 < 2 ^ t.1) hW.2.2.2.2.2.2.2.2.2.1 (by omega)
          have hp5 := p2_14 (Nat.le_trans hp3 hn4)
          have hq5 := p2_14 (Nat.le_trans hq3 hn4)
          have L38 : ∀ (d : Nat) (k : Nat) (v4 v3 : Int32), k ≤ 15 → 16 ≤ k + d → 1 ≤ k → v4 = nI k → v3 = nI (ctB (dfP pq qq) k) → ∀ (H : Heap) (locs : List Loc), wP G (wM G a (va_up iv 0 (0)) f) H → va_D A (wM G a (va_up iv 0 (0)) f) → va_S A s.heap H locs → ∀ ls : Array Slot, lv_has ls 7 [(4, .int (v4)), (3, .int (v3)), (0, .ref (a 0)), (1, .int (nI i)), (2, .int (nI j))] → W p l e (rm_ 1 0 0 22) s m args below meth c H locs 0 0 Q (F0 m 38 ls []) := by
            intro d
            induction d with
            | zero => intros; omega
            | succ d ih_38 =>
              intro k v4 v3 hk2 hd hk1 e4 e3 H locs hP hD hS ls hl
              subst e4 e3
              refine lv_iload hx hb dX2_differ_38 (lv_at hl 0 rfl) ?_
              refine lv_bipush (v := 14) hx hb dX2_differ_40 (by decide) ?_
              refine lv_icmp_gt (tgt := 104) hx hb dX2_differ_42 (by decide) (fun c_42 => ?_) (fun c_42 => ?_)
              · have h42 : 14 < k := nI_gt (a := k) (b := 14) c_42; have hk4 : k = 15 := (by omega)
                refine lv_iload_n hx hb dX2_differ_104 rfl (lv_at hl 1 rfl) ?_
                exact ret (nI (ctB (dfP pq qq) k)) _ 105 ls _ _ 0 0 dX2_differ_105 rfl (Nat.le_refl _) (Nat.le_refl _) hP hD hS (by subst hk4; subst hfl; rw [df_2 hfl4 hi1 hi2 hj1 hj2, ← hp, ← hq]; exact mwq rfl rfl hM)
              · have h42 : k ≤ 14 := nI_ngt (a := k) (b := 14) c_42
                have J97 : ∀ (v v6 v5 v3 : Int32), v = nI (ctB (dfP pq qq) (k + 1)) → ∀ (H : Heap) (locs : List Loc), wP G (wM G a (va_up iv 0 (0)) f) H → va_D A (wM G a (va_up iv 0 (0)) f) → va_S A s.heap H locs → ∀ ls : Array Slot, lv_has ls 7 [(6, .int (v6)), (5, .int (v5)), (4, .int (nI k)), (3, .int (v3)), (0, .ref (a 0)), (1, .int (nI i)), (2, .int (nI j))] → W p l e (rm_ 1 0 0 22) s m args below meth c H locs 0 0 Q (F0 m 97 ls [.int (v)]) := by
                  intro v v6 v5 v3 ev H locs hP hD hS ls hl
                  subst ev
                  refine lv_istore_n (lv' := [(3, .int (nI (ctB (dfP pq qq) (k + 1)))), (6, .int (v6)), (5, .int (v5)), (4, .int (nI k)), (0, .ref (a 0)), (1, .int (nI i)), (2, .int (nI j))]) hx hb dX2_differ_97 rfl hl (by decide) rfl (fun ls hl => ?_)
                  refine lv_iinc (v := nI (k + 1)) (lv' := [(4, .int (nI (k + 1))), (3, .int (nI (ctB (dfP pq qq) (k + 1)))), (6, .int (v6)), (5, .int (v5)), (0, .ref (a 0)), (1, .int (nI i)), (2, .int (nI j))]) hx hb dX2_differ_98 hl (k := 3) rfl (nI_1 k) (by decide) rfl (fun ls hl => ?_)
                  refine lv_goto (tgt := 38) hx hb dX2_differ_101 (by decide) ?_
                  exact ih_38 (k + 1) _ _ (by omega) (by omega) (by omega) rfl rfl _ _ hP hD hS ls (lv_sub hl [0, 1, 4, 5, 6] rfl)
                refine lv_aload_n hx hb dX2_differ_45 rfl (lv_at hl 2 rfl) ?_
                refine va_get (D := gD G) (ci := 1) (v := .ref (a 19)) (C := RX2) (T := TX2) (N := 27) hx hb hts in_X2 hown hG.K hP 0 rfl rfl 19 (by decide) (hts _ q1172) (fun _ h9 => h9) rfl dX2_differ_46 ?_
                refine lv_iload_n hx hb dX2_differ_49 rfl (lv_at hl 3 rfl) ?_
                refine ia_ld (j := i) hx hb hG.K hP 14 0 rfl rfl (by omega) (by decide) dX2_differ_50 ?_
                refine top_i (y := nI pq.2) (hp1) ?_
                refine lv_aload_n hx hb dX2_differ_51 rfl (lv_at hl 2 rfl) ?_
                refine va_get (D := gD G) (ci := 1) (v := .ref (a 21)) (C := RX2) (T := TX2) (N := 27) hx hb hts in_X2 hown hG.K hP 0 rfl rfl 21 (by decide) (hts _ q1174) (fun _ h9 => h9) rfl dX2_differ_52 ?_
                refine lv_iload_n hx hb dX2_differ_55 rfl (lv_at hl 3 rfl) ?_
                refine ia_ld (j := i) hx hb hG.K hP 15 0 rfl rfl (by omega) (by decide) dX2_differ_56 ?_
                refine top_i (y := nI pq.1) (hp2) ?_
                refine lv_iload hx hb dX2_differ_57 (lv_at hl 0 rfl) ?_
                refine vp_callSi (W.runS (As := [.int (nI pq.2), .int (nI pq.1), .int (nI k)]) (rest := []) ⟨hx, hb, hml, hown, hts⟩ (metX2_wasIn l G a (va_up iv 0 (0)) f pq.1 pq.2 (nI k) (Nat.le_trans hp3 hn4) (by omega)) (va_cwS 3 hts (lw_S q1320 q1321 q36 q1322) rfl rfl rfl (by decide +kernel) ⟨Nat.le_of_ble_eq_true rfl, Nat.le_of_ble_eq_true rfl⟩) (pre_RS hG hP hS hA0) rfl rfl hl.1 rfl (lv_room (Nat.le_of_ble_eq_true rfl)) dX2_differ_59 ⟨Nat.le_refl _, Nat.le_refl _⟩) (fun r_59 e_59 => ?_)
                subst e_59
                refine lv_istore (lv' := [(5, .int (b2i (wsI pq (nI k)))), (4, .int (nI k)), (3, .int (nI (ctB (dfP pq qq) k))), (0, .ref (a 0)), (1, .int (nI i)), (2, .int (nI j))]) hx hb dX2_differ_62 hl (by decide) rfl (fun ls hl => ?_)
                refine lv_aload_n hx hb dX2_differ_64 rfl (lv_at hl 3 rfl) ?_
                refine va_get (D := gD G) (ci := 1) (v := .ref (a 19)) (C := RX2) (T := TX2) (N := 27) hx hb hts in_X2 hown hG.K hP 0 rfl rfl 19 (by decide) (hts _ q1172) (fun _ h9 => h9) rfl dX2_differ_65 ?_
                refine lv_iload_n hx hb dX2_differ_68 rfl (lv_at hl 5 rfl) ?_
                refine ia_ld (j := j) hx hb hG.K hP 14 0 rfl rfl (by omega) (by decide) dX2_differ_69 ?_
                refine top_i (y := nI qq.2) (hq1) ?_
                refine lv_aload_n hx hb dX2_differ_70 rfl (lv_at hl 3 rfl) ?_
                refine va_get (D := gD G) (ci := 1) (v := .ref (a 21)) (C := RX2) (T := TX2) (N := 27) hx hb hts in_X2 hown hG.K hP 0 rfl rfl 21 (by decide) (hts _ q1174) (fun _ h9 => h9) rfl dX2_differ_71 ?_
                refine lv_iload_n hx hb dX2_differ_74 rfl (lv_at hl 5 rfl) ?_
                refine ia_ld (j := j) hx hb hG.K hP 15 0 rfl rfl (by omega) (by decide) dX2_differ_75 ?_
                refine top_i (y := nI qq.1) (hq2) ?_
                refine lv_iload hx hb dX2_differ_76 (lv_at hl 1 rfl) ?_
                refine vp_callSi (W.runS (As := [.int (nI qq.2), .int (nI qq.1), .int (nI k)]) (rest := []) ⟨hx, hb, hml, hown, hts⟩ (metX2_wasIn l G a (va_up iv 0 (0)) f qq.1 qq.2 (nI k) (Nat.le_trans hq3 hn4) (by omega)) (va_cwS 3 hts (lw_S q1320 q1321 q36 q1322) rfl rfl rfl (by decide +kernel) ⟨Nat.le_of_ble_eq_true rfl, Nat.le_of_ble_eq_true rfl⟩) (pre_RS hG hP hS hA0) rfl rfl hl.1 rfl (lv_room (Nat.le_of_ble_eq_true rfl)) dX2_differ_78 ⟨Nat.le_refl _, Nat.le_refl _⟩) (fun r_78 e_78 => ?_)
                subst e_78
                refine lv_istore (lv' := [(6, .int (b2i (wsI qq (nI k)))), (5, .int (b2i (wsI pq (nI k)))), (4, .int (nI k)), (3, .int (nI (ctB (dfP pq qq) k))), (0, .ref (a 0)), (1, .int (nI i)), (2, .int (nI j))]) hx hb dX2_differ_81 hl (by decide) rfl (fun ls hl => ?_)
                refine lv_iload hx hb dX2_differ_83 (lv_at hl 1 rfl) ?_
                refine lv_iload hx hb dX2_differ_85 (lv_at hl 0 rfl) ?_
                refine lv_icmp_eq (tgt := 96) hx hb dX2_differ_87 (by decide) (fun c_87 => ?_) (fun c_87 => ?_)
                · have h87 : wsI pq (nI k) = wsI qq (nI k) := b2i_inj c_87
                  refine lv_iload_n hx hb dX2_differ_96 rfl (lv_at hl 3 rfl) ?_
                  exact J97 _ _ _ _ (by simp [ctB, dfP, hk1, h87, nI_1]) _ _ hP hD hS ls hl
                · have h87 : ¬ wsI pq (nI k) = wsI qq (nI k) := fun h => c_87 (by rw [h])
                  refine lv_iload_n hx hb dX2_differ_90 rfl (lv_at hl 3 rfl) ?_
                  refine lv_iconst (v := 1) hx hb dX2_differ_91 (by decide) ?_
                  refine lv_iadd hx hb dX2_differ_92 ?_
                  refine lv_goto (tgt := 97) hx hb dX2_differ_93 (by decide) ?_
                  exact J97 _ _ _ _ (by simp [ctB, dfP, hk1, h87, nI_1]) _ _ hP hD hS ls hl
          refine lv_iconst (v := 0) hx hb dX2_differ_33 (by decide) ?_
          refine lv_istore_n (lv' := [(3, .int (0)), (0, .ref (a 0)), (1, .int (nI i)), (2, .int (nI j))]) hx hb dX2_differ_34 rfl hl (by decide) rfl (fun ls hl => ?_)
          refine lv_iconst (v := 1) hx hb dX2_differ_35 (by decide) ?_
          refine lv_istore (lv' := [(4, .int (1)), (3, .int (0)), (0, .ref (a 0)), (1, .int (nI i)), (2, .int (nI j))]) hx hb dX2_differ_36 hl (by decide) rfl (fun ls hl => ?_)
          exact L38 16 1 _ _ (by omega) (by omega) (by omega) rfl rfl _ _ hP hD hS ls hl
        · skip
          refine lv_iconst (v := (-1)) hx hb dX2_differ_31 (by decide) ?_
          exact ret (-1) _ 32 ls _ _ 0 0 dX2_differ_32 rfl (Nat.le_refl _) (Nat.le_refl _) hP hD hS (by subst hfl; exact mwq (df_1 (Or.inr (Or.inr (Or.inr (Int32.not_le.mp c_28))))).symm rfl hM)
