set_option maxHeartbeats 4000000 in
set_option maxRecDepth 100000 in
theorem metX2_thrown (l : Launch) (G : Gt) (a : Nat → Nat) (iv : Nat → Int32) (f : Nat → Nat → Int32)  : CR l G yX2_thrown cX2_thrown 1 .int 0 0 [.ref (a 0)] (wM G a iv f) (fun r => r = iv 0) := by
  refine mkRi (by decide) (Nat.le_of_ble_eq_true rfl) ?_
  intro p e s m args below meth c Q hx hb hts hown hml hG hP hS ret ls hl
  refine lv_aload_n hx hb dX2_thrown_0 rfl (lv_at hl 0 rfl) ?_
  refine va_get (D := gD G) (ci := 1) (v := .int (iv 0)) (C := RX2) (T := TX2) (N := 27) hx hb hts in_X2 hown hG.K hP 0 rfl rfl 0 (by decide) (hts _ q1153) (fun _ h9 => h9) rfl dX2_thrown_1 ?_
  exact ret (iv 0) 4 ls dX2_thrown_4 rfl (rfl)
set_option maxHeartbeats 4000000 in
set_option maxRecDepth 100000 in
theorem metX2_isFeature (l : Launch) (G : Gt) (a : Nat → Nat) (iv : Nat → Int32) (f : Nat → Nat → Int32) (x : Int32) : CR l G yX2_isFeature cX2_isFeature 2 .boolean 0 0 [.ref (a 0), .int (x)] (wM G a iv f) (fun r => r = b2i (isF x (iv 7))) := by
  refine mkRi (by decide) (Nat.le_of_ble_eq_true rfl) ?_
  intro p e s m args below meth c Q hx hb hts hown hml hG hP hS ret ls hl
  refine lv_iload_n hx hb dX2_isFeature_0 rfl (lv_at hl 1 rfl) ?_
  refine lv_iconst (v := 1) hx hb dX2_isFeature_1 (by decide) ?_
  refine lv_icmp_lt (tgt := 17) hx hb dX2_isFeature_2 (by decide) (fun c_2 => ?_) (fun c_2 => ?_)
  · skip
    refine lv_iconst (v := 0) hx hb dX2_isFeature_17 (by decide) ?_
    exact ret (0) 18 ls dX2_isFeature_18 rfl (by simp [b2i, isF, c_2])
  · skip
    refine lv_iload_n hx hb dX2_isFeature_5 rfl (lv_at hl 1 rfl) ?_
    refine lv_aload_n hx hb dX2_isFeature_6 rfl (lv_at hl 0 rfl) ?_
    refine va_get (D := gD G) (ci := 1) (v := .int (iv 7)) (C := RX2) (T := TX2) (N := 27) hx hb hts in_X2 hown hG.K hP 0 rfl rfl 7 (by decide) (hts _ q1160) (fun _ h9 => h9) rfl dX2_isFeature_7 ?_
    refine lv_icmp_gt (tgt := 17) hx hb dX2_isFeature_10 (by decide) (fun c_10 => ?_) (fun c_10 => ?_)
    · skip
      refine lv_iconst (v := 0) hx hb dX2_isFeature_17 (by decide) ?_
      exact ret (0) 18 ls dX2_isFeature_18 rfl (by simp [b2i, isF, c_2, c_10])
    · skip
      refine lv_iconst (v := 1) hx hb dX2_isFeature_13 (by decide) ?_
      refine lv_goto (tgt := 18) hx hb dX2_isFeature_14 (by decide) ?_
      exact ret (1) 18 ls dX2_isFeature_18 rfl (by simp [b2i, isF, c_2, c_10])
set_option maxHeartbeats 4000000 in
set_option maxRecDepth 100000 in
theorem metX2_isIn (l : Launch) (G : Gt) (a : Nat → Nat) (iv : Nat → Int32) (f : Nat → Nat → Int32) (n x g : Nat) (hn : iv 7 = nI n) (hn4 : n ≤ 14) (hx1 : x < 2 ^ 31) (hg2 : g ≤ n) : CR l G yX2_isIn cX2_isIn 3 .boolean 0 0 [.ref (a 0), .int (nI x), .int (nI g)] (wM G a iv f) (fun r => r = b2i (tb n x g)) := by
  refine mkRi (by decide) (Nat.le_of_ble_eq_true rfl) ?_
  intro p e s m args below meth c Q hx hb hts hown hml hG hP hS ret ls hl
  refine lv_iload_n hx hb dX2_isIn_0 rfl (lv_at hl 1 rfl) ?_
  refine lv_aload_n hx hb dX2_isIn_1 rfl (lv_at hl 0 rfl) ?_
  refine va_get (D := gD G) (ci := 1) (v := .int (iv 7)) (C := RX2) (T := TX2) (N := 27) hx hb hts in_X2 hown hG.K hP 0 rfl rfl 7 (by decide) (hts _ q1160) (fun _ h9 => h9) rfl dX2_isIn_2 ?_
  refine top_i (y := nI n) (hn) ?_
  refine lv_iload_n hx hb dX2_isIn_5 rfl (lv_at hl 2 rfl) ?_
  refine lv_isub hx hb dX2_isIn_6 ?_
  refine top_i (y := nI (n - g)) (pk_sub hg2) ?_
  refine lv_ishr hx hb dX2_isIn_7 ?_
  refine lv_iconst (v := 1) hx hb dX2_isIn_8 (by decide) ?_
  refine lv_iand hx hb dX2_isIn_9 ?_
  refine top_i (y := b2i (tb n x g)) (bit_1 hx1 (by omega)) ?_
  refine lv_iconst (v := 1) hx hb dX2_isIn_10 (by decide) ?_
  refine lv_icmp_ne (tgt := 18) hx hb dX2_isIn_11 (by decide) (fun c_11 => ?_) (fun c_11 => ?_)
  · skip
    refine lv_iconst (v := 0) hx hb dX2_isIn_18 (by decide) ?_
    exact ret (0) 19 ls dX2_isIn_19 rfl (by cases hh : tb n x g <;> simp [b2i, hh] at c_11 ⊢)
  · skip
    refine lv_iconst (v := 1) hx hb dX2_isIn_14 (by decide) ?_
    refine lv_goto (tgt := 19) hx hb dX2_isIn_15 (by decide) ?_
    exact ret (1) 19 ls dX2_isIn_19 rfl (by cases hh : tb n x g <;> simp [b2i, hh] at c_11 ⊢)
set_option maxHeartbeats 4000000 in
set_option maxRecDepth 100000 in
theorem metX2_holds (l : Launch) (G : Gt) (a : Nat → Nat) (iv : Nat → Int32) (f : Nat → Nat → Int32) (n x g : Nat) (sg : Bool) (hn : iv 7 = nI n) (hn4 : n ≤ 14) (hx1 : x < 2 ^ 31) (hg1 : 1 ≤ g) (hg2 : g ≤ n) : CR l G yX2_holds cX2_holds 3 .boolean 1 22 [.ref (a 0), .int (nI x), .int (litI (g, sg))] (wM G a iv f) (fun r => r = b2i (hld n x (g, sg))) := by
  refine mkRi (by decide) (Nat.le_of_ble_eq_true rfl) ?_
  intro p e s m args below meth c Q hx hb hts hown hml hG hP hS ret ls hl
  cases sg with
  | true =>
    have hl : lv_has ls 3 [(0, .ref (a 0)), (1, .int (nI x)), (2, .int (nI g))] := hl
    refine lv_iload_n hx hb dX2_holds_0 rfl (lv_at hl 2 rfl) ?_
    refine lv_if_le (tgt := 13) hx hb dX2_holds_1 (by decide) (fun c_1 => absurd c_1 (nI_nle hg1 (by omega))) (fun c_1 => ?_)
    refine lv_aload_n hx hb dX2_holds_4 rfl (lv_at hl 0 rfl) ?_
    refine lv_iload_n hx hb dX2_holds_5 rfl (lv_at hl 1 rfl) ?_
    refine lv_iload_n hx hb dX2_holds_6 rfl (lv_at hl 2 rfl) ?_
    refine vp_callSi (W.runV (As := [.int (nI x), .int (nI g)]) (rest := []) ⟨hx, hb, hml, hown, hts⟩ (metX2_isIn l G a iv f n x (g) hn hn4 hx1 (hg2)) (cwV 2 hts (lw_V q1296 q1298 qs23 q36 q1299) rfl rfl rfl (by decide +kernel) ⟨Nat.le_of_ble_eq_true rfl, Nat.le_of_ble_eq_true rfl⟩) (pre_RV (q0 := 0) hG hP hS (fun _ h => h.elim) rfl rfl) rfl rfl hl.1 rfl (lv_room (Nat.le_of_ble_eq_true rfl)) dX2_holds_7 ⟨Nat.le_refl _, Nat.le_refl _⟩) (fun r_7 e_7 => ?_)
    subst e_7
    refine lv_goto (tgt := 28) hx hb dX2_holds_10 (by decide) ?_
    exact ret (b2i (tb n x (g))) 28 ls dX2_holds_28 (b2i_nar _) (rfl)
  | false =>
    have hl : lv_has ls 3 [(0, .ref (a 0)), (1, .int (nI x)), (2, .int (-(nI g)))] := hl
    refine lv_iload_n hx hb dX2_holds_0 rfl (lv_at hl 2 rfl) ?_
    refine lv_if_le (tgt := 13) hx hb dX2_holds_1 (by decide) (fun c_1 => ?_) (fun c_1 => absurd (nI_neg_le (by omega)) c_1)
    refine lv_aload_n hx hb dX2_holds_13 rfl (lv_at hl 0 rfl) ?_
    refine lv_iload_n hx hb dX2_holds_14 rfl (lv_at hl 1 rfl) ?_
    refine lv_iload_n hx hb dX2_holds_15 rfl (lv_at hl 2 rfl) ?_
    refine lv_ineg hx hb dX2_holds_16 ?_
    refine top_i (y := nI g) (neg_neg_i _) ?_
    refine vp_callSi (W.runV (As := [.int (nI x), .int (nI g)]) (rest := []) ⟨hx, hb, hml, hown, hts⟩ (metX2_isIn l G a iv f n x (g) hn hn4 hx1 (hg2)) (cwV 2 hts (lw_V q1296 q1298 qs23 q36 q1299) rfl rfl rfl (by decide +kernel) ⟨Nat.le_of_ble_eq_true rfl, Nat.le_of_ble_eq_true rfl⟩) (pre_RV (q0 := 0) hG hP hS (fun _ h => h.elim) rfl rfl) rfl rfl hl.1 rfl (lv_room (Nat.le_of_ble_eq_true rfl)) dX2_holds_17 ⟨Nat.le_refl _, Nat.le_refl _⟩) (fun r_17 e_17 => ?_)
    subst e_17
    refine lv_if_ne (tgt := 27) hx hb dX2_holds_20 (by decide) (fun c_20 => ?_) (fun c_20 => ?_)
    · skip
      refine lv_iconst (v := 0) hx hb dX2_holds_27 (by decide) ?_
      exact ret (0) 28 ls dX2_holds_28 rfl (by have h9 := c_20; cases hh : tb n x g <;> simp [b2i, hh, hld] at h9 ⊢)
    · skip
      refine lv_iconst (v := 1) hx hb dX2_holds_23 (by decide) ?_
      refine lv_goto (tgt := 28) hx hb dX2_holds_24 (by decide) ?_
      exact ret (1) 28 ls dX2_holds_28 rfl (by have h9 := c_20; cases hh : tb n x g <;> simp [b2i, hh, hld] at h9 ⊢)
set_option maxHeartbeats 4000000 in
set_option maxRecDepth 100000 in
theorem metX2_isLiteral (l : Launch) (G : Gt) (a : Nat → Nat) (iv : Nat → Int32) (f : Nat → Nat → Int32) (x : Int32) : CR l G yX2_isLiteral cX2_isLiteral 2 .boolean 1 21 [.ref (a 0), .int (x)] (wM G a iv f) (fun r => r = b2i (isL x (iv 7))) := by
  refine mkRi (by decide) (Nat.le_of_ble_eq_true rfl) ?_
  intro p e s m args below meth c Q hx hb hts hown hml hG hP hS ret ls hl
  refine lv_aload_n hx hb dX2_isLiteral_0 rfl (lv_at hl 0 rfl) ?_
  refine lv_iload_n hx hb dX2_isLiteral_1 rfl (lv_at hl 1 rfl) ?_
  refine vp_callSi (W.runV (As := [.int (x)]) (rest := []) ⟨hx, hb, hml, hown, hts⟩ (metX2_isFeature l G a iv f x) (cwV 1 hts (lw_V q1244 q1246 qs15 q36 q1247) rfl rfl rfl (by decide +kernel) ⟨Nat.le_of_ble_eq_true rfl, Nat.le_of_ble_eq_true rfl⟩) (pre_RV (q0 := 0) hG hP hS (fun _ h => h.elim) rfl rfl) rfl rfl hl.1 rfl (lv_room (Nat.le_of_ble_eq_true rfl)) dX2_isLiteral_2 ⟨Nat.le_refl _, Nat.le_refl _⟩) (fun r_2 e_2 => ?_)
  subst e_2
  refine lv_if_ne (tgt := 27) hx hb dX2_isLiteral_5 (by decide) (fun c_5 => ?_) (fun c_5 => ?_)
  · skip
    refine lv_iconst (v := 1) hx hb dX2_isLiteral_27 (by decide) ?_
    refine lv_goto (tgt := 32) hx hb dX2_isLiteral_28 (by decide) ?_
    exact ret (1) 32 ls dX2_isLiteral_32 rfl (by simp only [b2i_0, b2i_n0, Bool.not_eq_true, Int32.not_le, Int32.not_lt] at *; first | (simp [b2i, isL, c_5]; done) | (simp [b2i, isL, c_5]; intros; grind))
  · skip
    refine lv_iload_n hx hb dX2_isLiteral_8 rfl (lv_at hl 1 rfl) ?_
    refine lv_if_ge (tgt := 31) hx hb dX2_isLiteral_9 (by decide) (fun c_9 => ?_) (fun c_9 => ?_)
    · skip
      refine lv_iconst (v := 0) hx hb dX2_isLiteral_31 (by decide) ?_
      exact ret (0) 32 ls dX2_isLiteral_32 rfl (by simp only [b2i_0, b2i_n0, Bool.not_eq_true, Int32.not_le, Int32.not_lt] at *; first | (simp [b2i, isL, c_5, c_9]; done) | (simp [b2i, isL, c_5, c_9]; intros; grind))
    · skip
      refine lv_iload_n hx hb dX2_isLiteral_12 rfl (lv_at hl 1 rfl) ?_
      refine lv_bipush (v := (-14)) hx hb dX2_isLiteral_13 (by decide) ?_
      refine lv_icmp_lt (tgt := 31) hx hb dX2_isLiteral_15 (by decide) (fun c_15 => ?_) (fun c_15 => ?_)
      · skip
        refine lv_iconst (v := 0) hx hb dX2_isLiteral_31 (by decide) ?_
        exact ret (0) 32 ls dX2_isLiteral_32 rfl (by simp only [b2i_0, b2i_n0, Bool.not_eq_true, Int32.not_le, Int32.not_lt] at *; first | (simp [b2i, isL, c_5, c_9, c_15]; done) | (simp [b2i, isL, c_5, c_9, c_15]; intros; grind))
      · skip
        refine lv_aload_n hx hb dX2_isLiteral_18 rfl (lv_at hl 0 rfl) ?_
        refine lv_iload_n hx hb dX2_isLiteral_19 rfl (lv_at hl 1 rfl) ?_
        refine lv_ineg hx hb dX2_isLiteral_20 ?_
        refine vp_callSi (W.runV (As := [.int (-(x))]) (rest := []) ⟨hx, hb, hml, hown, hts⟩ (metX2_isFeature l G a iv f (-x)) (cwV 1 hts (lw_V q1244 q1246 qs15 q36 q1247) rfl rfl rfl (by decide +kernel) ⟨Nat.le_of_ble_eq_true rfl, Nat.le_of_ble_eq_true rfl⟩) (pre_RV (q0 := 0) hG hP hS (fun _ h => h.elim) rfl rfl) rfl rfl hl.1 rfl (lv_room (Nat.le_of_ble_eq_true rfl)) dX2_isLiteral_21 ⟨Nat.le_refl _, Nat.le_refl _⟩) (fun r_21 e_21 => ?_)
        subst e_21
        refine lv_if_eq (tgt := 31) hx hb dX2_isLiteral_24 (by decide) (fun c_24 => ?_) (fun c_24 => ?_)
        · skip
          refine lv_iconst (v := 0) hx hb dX2_isLiteral_31 (by decide) ?_
          exact ret (0) 32 ls dX2_isLiteral_32 rfl (by simp only [b2i_0, b2i_n0, Bool.not_eq_true, Int32.not_le, Int32.not_lt] at *; first | (simp [b2i, isL, c_5, c_9, c_15, c_24]; done) | (simp [b2i, isL, c_5, c_9, c_15, c_24]; intros; grind))
        · skip
          refine lv_iconst (v := 1) hx hb dX2_isLiteral_27 (by decide) ?_
          refine lv_goto (tgt := 32) hx hb dX2_isLiteral_28 (by decide) ?_
          exact ret (1) 32 ls dX2_isLiteral_32 rfl (by simp only [b2i_0, b2i_n0, Bool.not_eq_true, Int32.not_le, Int32.not_lt] at *; first | (simp [b2i, isL, c_5, c_9, c_15, c_24]; done) | (simp [b2i, isL, c_5, c_9, c_15, c_24]; intros; grind))
set_option maxHeartbeats 4000000 in
set_option maxRecDepth 100000 in
theorem metX2_groupedBelow (l : Launch) (G : Gt) (a : Nat → Nat) (iv : Nat → Int32) (f : Nat → Nat → Int32) (n g : Nat) (pa ki : Nat → Nat) (hn : iv 7 = nI n) (hn4 : n ≤ 14) (hg4 : g ≤ 14) (hpa : ∀ j, 1 ≤ j → j ≤ n → f 1 j = nI (pa j) ∧ f 2 j = nI (ki j) ∧ pa j ≤ 14 ∧ ki j ≤ 2) : CR l G yX2_groupedBelow cX2_groupedBelow 4 .int 0 0 [.ref (a 0), .int (nI g)] (wM G a iv f) (fun r => r = nI (ctB (gbP pa ki g) (n + 1))) := by
  refine mkRi (by decide) (Nat.le_of_ble_eq_true rfl) ?_
  intro p e s m args below meth c Q hx hb hts hown hml hG hP hS ret ls hl
  have L4 : ∀ (d : Nat) (j : Nat) (v3 v2 : Int32), j ≤ n + 1 → n + 2 ≤ j + d → 1 ≤ j → v3 = nI j → v2 = nI (ctB (gbP pa ki g) j) → ∀ ls : Array Slot, lv_has ls 4 [(3, .int (v3)), (2, .int (v2)), (0, .ref (a 0)), (1, .int (nI g))] → W p l e (rm_ 0 0 0 0) s m args below meth c s.heap [] 0 0 Q (F0 m 4 ls []) := by
    intro d
    induction d with
    | zero => intros; omega
    | succ d ih_4 =>
      intro j v3 v2 hj2 hd hj1 e3 e2 ls hl
      subst e3 e2
      refine lv_iload_n hx hb dX2_groupedBelow_4 rfl (lv_at hl 0 rfl) ?_
      refine lv_aload_n hx hb dX2_groupedBelow_5 rfl (lv_at hl 2 rfl) ?_
      refine va_get (D := gD G) (ci := 1) (v := .int (iv 7)) (C := RX2) (T := TX2) (N := 27) hx hb hts in_X2 hown hG.K hP 0 rfl rfl 7 (by decide) (hts _ q1160) (fun _ h9 => h9) rfl dX2_groupedBelow_6 ?_
      refine top_i (y := nI n) (hn) ?_
      refine lv_icmp_gt (tgt := 46) hx hb dX2_groupedBelow_9 (by decide) (fun c_9 => ?_) (fun c_9 => ?_)
      · have h9 : n < j := nI_gt (a := j) (b := n) c_9; have hj4 : j = n + 1 := (by omega)
        refine lv_iload_n hx hb dX2_groupedBelow_46 rfl (lv_at hl 1 rfl) ?_
        exact ret (nI (ctB (gbP pa ki g) j)) 47 ls dX2_groupedBelow_47 rfl (by rw [hj4])
      · have h9 : j ≤ n := nI_ngt (a := j) (b := n) c_9; obtain ⟨hp1, hp2, hp3, hp4⟩ := hpa j hj1 h9
        have J39 : ∀ (v : Int32), v = nI (ctB (gbP pa ki g) (j + 1)) → ∀ ls : Array Slot, lv_has ls 4 [(3, .int (nI j)), (2, .int (nI (ctB (gbP pa ki g) j))), (0, .ref (a 0)), (1, .int (nI g))] → W p l e (rm_ 0 0 0 0) s m args below meth c s.heap [] 0 0 Q (F0 m 39 ls [.int (v)]) := by
          intro v ev ls hl
          subst ev
          refine lv_istore_n (lv' := [(2, .int (nI (ctB (gbP pa ki g) (j + 1)))), (3, .int (nI j)), (0, .ref (a 0)), (1, .int (nI g))]) hx hb dX2_groupedBelow_39 rfl hl (by decide) rfl (fun ls hl => ?_)
          refine lv_iinc (v := nI (j + 1)) (lv' := [(3, .int (nI (j + 1))), (2, .int (nI (ctB (gbP pa ki g) (j + 1)))), (0, .ref (a 0)), (1, .int (nI g))]) hx hb dX2_groupedBelow_40 hl (k := 1) rfl (nI_1 j) (by decide) rfl (fun ls hl => ?_)
          refine lv_goto (tgt := 4) hx hb dX2_groupedBelow_43 (by decide) ?_
          exact ih_4 (j + 1) _ _ (by omega) (by omega) (by omega) rfl rfl ls hl
        refine lv_aload_n hx hb dX2_groupedBelow_12 rfl (lv_at hl 2 rfl) ?_
        refine va_get (D := gD G) (ci := 1) (v := .ref (a 1)) (C := RX2) (T := TX2) (N := 27) hx hb hts in_X2 hown hG.K hP 0 rfl rfl 1 (by decide) (hts _ q1154) (fun _ h9 => h9) rfl dX2_groupedBelow_13 ?_
        refine lv_iload_n hx hb dX2_groupedBelow_16 rfl (lv_at hl 0 rfl) ?_
        refine ia_ld (j := j) hx hb hG.K hP 1 0 rfl rfl (by omega) (by decide) dX2_groupedBelow_17 ?_
        refine top_i (y := nI (pa j)) (hp1) ?_
        refine lv_iload_n hx hb dX2_groupedBelow_18 rfl (lv_at hl 3 rfl) ?_
        refine lv_icmp_ne (tgt := 38) hx hb dX2_groupedBelow_19 (by decide) (fun c_19 => ?_) (fun c_19 => ?_)
        · have h19 : pa j ≠ g := nI_ne (a := pa j) (b := g) c_19
          refine lv_iload_n hx hb dX2_groupedBelow_38 rfl (lv_at hl 1 rfl) ?_
          exact J39 _ (by simp [ctB, gbP, nI_1, *]) ls hl
        · have h19 : pa j = g := nI_e (a := pa j) (b := g) c_19
          refine lv_aload_n hx hb dX2_groupedBelow_22 rfl (lv_at hl 2 rfl) ?_
          refine va_get (D := gD G) (ci := 1) (v := .ref (a 2)) (C := RX2) (T := TX2) (N := 27) hx hb hts in_X2 hown hG.K hP 0 rfl rfl 2 (by decide) (hts _ q1155) (fun _ h9 => h9) rfl dX2_groupedBelow_23 ?_
          refine lv_iload_n hx hb dX2_groupedBelow_26 rfl (lv_at hl 0 rfl) ?_
          refine ia_ld (j := j) hx hb hG.K hP 2 0 rfl rfl (by omega) (by decide) dX2_groupedBelow_27 ?_
          refine top_i (y := nI (ki j)) (hp2) ?_
          refine lv_iconst (v := 2) hx hb dX2_groupedBelow_28 (by decide) ?_
          refine lv_icmp_ne (tgt := 38) hx hb dX2_groupedBelow_29 (by decide) (fun c_29 => ?_) (fun c_29 => ?_)
          · have h29 : ki j ≠ 2 := nI_ne (a := ki j) (b := 2) c_29
            refine lv_iload_n hx hb dX2_groupedBelow_38 rfl (lv_at hl 1 rfl) ?_
            exact J39 _ (by simp [ctB, gbP, nI_1, *]) ls hl
          · have h29 : ki j = 2 := nI_e (a := ki j) (b := 2) c_29
            refine lv_iload_n hx hb dX2_groupedBelow_32 rfl (lv_at hl 1 rfl) ?_
            refine lv_iconst (v := 1) hx hb dX2_groupedBelow_33 (by decide) ?_
            refine lv_iadd hx hb dX2_groupedBelow_34 ?_
            refine lv_goto (tgt := 39) hx hb dX2_groupedBelow_35 (by decide) ?_
            exact J39 _ (by simp [ctB, gbP, nI_1, *]) ls hl
  refine lv_iconst (v := 0) hx hb dX2_groupedBelow_0 (by decide) ?_
  refine lv_istore_n (lv' := [(2, .int (0)), (0, .ref (a 0)), (1, .int (nI g))]) hx hb dX2_groupedBelow_1 rfl hl (by decide) rfl (fun ls hl => ?_)
  refine lv_iconst (v := 1) hx hb dX2_groupedBelow_2 (by decide) ?_
  refine lv_istore_n (lv' := [(3, .int (1)), (2, .int (0)), (0, .ref (a 0)), (1, .int (nI g))]) hx hb dX2_groupedBelow_3 rfl hl (by decide) rfl (fun ls hl => ?_)
  exact L4 (n + 2) 1 _ _ (by omega) (by omega) (by omega) rfl rfl ls hl
