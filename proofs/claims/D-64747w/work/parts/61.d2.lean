def ng (t : Lit) : Lit := (t.1, !t.2)
theorem litI_ng (t : Lit) : litI (ng t) = -(litI t) := by
  obtain ⟨g, sg⟩ := t
  cases sg
  · exact (neg_neg_i _).symm
  · rfl
def rE (t u : Lit) : Rl := (0, (t, u), (0, 0, 0, 0), (0, 0))
def foR1 (op : Nat) (t u : Lit) : List Rl := if op = 0 then [rE (ng t) u] else if op = 1 then [rE (ng t) (ng u)] else if op = 2 then [rE t u] else [rE (ng t) u, rE t (ng u)]
theorem rlW_app (ra : Nat → Nat) (r1 r2 : List (Nat × Rl)) : rlW ra (r1 ++ r2) = rlW ra r1 ++ rlW ra r2 := by simp [rlW]
theorem AnyOb_rl {G : Gt} {ra : Nat → Nat} {rs : List (Nat × Rl)} (hok : ∀ x ∈ rs, rlOk x.2) : ∀ y ∈ rs.map (·.1), AnyOb G (rlW ra rs) y := by
  intro y hy
  obtain ⟨⟨q, r⟩, hx, rfl⟩ := List.mem_map.mp hy
  have hm : rlC ra q r ∈ rlW ra rs := List.mem_map.mpr ⟨(q, r), hx, rfl⟩
  rcases hok _ hx with ⟨h, -⟩ | ⟨h, -⟩ | ⟨h, -⟩
  · have h : r.1 = 0 := h
    unfold rlC at hm; rw [if_pos h] at hm
    exact AnyOb_o (ci := 2) hm rfl q1357
  · have h : r.1 = 1 := h
    unfold rlC at hm; rw [if_neg (by omega), if_pos h] at hm
    exact AnyOb_o (ci := 3) hm rfl q1361
  · have h : r.1 = 2 := h
    unfold rlC at hm; rw [if_neg (by omega), if_neg (by omega)] at hm
    exact AnyOb_o (ci := 4) hm rfl q1362
theorem rl_push {rs : List (Nat × Rl)} {q : Nat} {r : Rl} (h : ∀ z ∈ rs, rlOk z.2) (hr : rlOk r) : ∀ z ∈ rs ++ [(q, r)], rlOk z.2 := by
  intro z hz
  rcases List.mem_append.mp hz with h' | h'
  · exact h z h'
  · rw [List.mem_singleton] at h'; rw [h']; exact hr
set_option maxHeartbeats 4000000 in
set_option maxRecDepth 100000 in
theorem metX1_formula (l : Launch) (G : Gt) (a : Nat → Nat) (iv : Nat → Int32) (ra : Nat → Nat) (rf : List (Nat × Rl)) (wl : va_W) (hw : AL G (a 6) (rf.map (·.1)) wl) (hrf : ∀ z ∈ rf, rlOk z.2) (hrl : rf.length ≤ 90) (S : St) (n : Nat) (hnS : n = sN S) (hn : iv 11 = nI n) (hf7 : iv 7 = nI (sNf S)) (hW : WS S) (op x y : Int32) (sz : Nat) : CWi l G yX1_formula cX1_formula 5 .int 7 4 1028 154 [.ref (a 15), .int (op), .int (x), .int (y)] ((a 15, .inr (0, [.ref (a 0), .ref (a 1), .ref (a 2), .ref (a 3), .ref (a 4), .ref (a 5), .ref (a 6), .int (iv 7), .ref (a 8), .ref (a 9), .int (iv 10), .int (iv 11), .ref (a 12), .int (iv 13), .ref (a 14)])) :: (wl ++ (rlW ra rf))) sz (fun r w1 => (stFormula S op x y = (r, S) ∧ ∃ wl2, AL G (a 6) (rf.map (·.1)) wl2 ∧ w1 = xC a iv :: (wl2 ++ rlW ra rf)) ∨ ∃ new wl2, AL G (a 6) ((rf ++ new).map (·.1)) wl2 ∧ stFormula S op x y = (r, (sN S, sPa S, sKi S, sGr S, sNf S + 1, va_up (sFo S) (sNf S) (iN op, toLit x, toLit y), S.2.2.2.2.2.2)) ∧ new.map (·.2) = foR1 (iN op) (toLit x) (toLit y) ∧ (∀ z ∈ rf ++ new, rlOk z.2) ∧ w1 = xC a (va_up (va_up iv 7 (nI (sNf S + 1))) 10 0) :: (wl2 ++ rlW ra (rf ++ new))) := by
  refine mkWi (by decide) (Nat.le_of_ble_eq_true rfl) ?_
  intro p e s m args below meth c Q A hx hb hts hown hin hml hG hsz hP hD hA hA0 hS ret ls hl
  have hn4 : n ≤ 14 := by rw [hnS]; exact hW.1
  obtain ⟨k, hkS⟩ : ∃ k, k = sNf S := ⟨_, rfl⟩
  have hk : iv 7 = nI k := by rw [hkS]; exact hf7
  have hk4 : k ≤ 40 := by rw [hkS]; exact hW.2.2.2.1
  obtain ⟨fs, tl, rfl⟩ := hw.cons
  have hP := wP.perm (w' := ((a 15, .inr (0, [.ref (a 0), .ref (a 1), .ref (a 2), .ref (a 3), .ref (a 4), .ref (a 5), .ref (a 6), .int (iv 7), .ref (a 8), .ref (a 9), .int (iv 10), .int (iv 11), .ref (a 12), .int (iv 13), .ref (a 14)])) :: (a 6, .inr (5, fs)) :: (tl ++ (rlW ra rf)))) hP (pm_ (fun _ z => by simp only [List.count_append, List.count_cons, List.count_nil]; omega))
  have hD := va_D.perm (w' := ((a 15, .inr (0, [.ref (a 0), .ref (a 1), .ref (a 2), .ref (a 3), .ref (a 4), .ref (a 5), .ref (a 6), .int (iv 7), .ref (a 8), .ref (a 9), .int (iv 10), .int (iv 11), .ref (a 12), .int (iv 13), .ref (a 14)])) :: (a 6, .inr (5, fs)) :: (tl ++ (rlW ra rf)))) hD (pm_ (fun _ z => by simp only [List.count_append, List.count_cons, List.count_nil]; omega))
  refine lv_aload_n hx hb dX1_formula_0 rfl (lv_at hl 0 rfl) ?_
  refine lv_iload_n hx hb dX1_formula_1 rfl (lv_at hl 2 rfl) ?_
  refine vp_callSi (W.runV (As := [.int (x)]) (rest := []) ⟨hx, hb, hml, hown, hts⟩ (metX1_isSigned l G a iv (x) n hn hn4) (cwV 1 hts (lw_V q246 q248 qs2 q29 q249) rfl rfl rfl (by decide +kernel) ⟨Nat.le_of_ble_eq_true rfl, Nat.le_of_ble_eq_true rfl⟩) (pre_RV (q0 := 0) hG (wP.left (wP.perm (w' := [(a 15, .inr (0, [.ref (a 0), .ref (a 1), .ref (a 2), .ref (a 3), .ref (a 4), .ref (a 5), .ref (a 6), .int (iv 7), .ref (a 8), .ref (a 9), .int (iv 10), .int (iv 11), .ref (a 12), .int (iv 13), .ref (a 14)]))] ++ ((a 6, .inr (5, fs)) :: (tl ++ (rlW ra rf)))) hP (pm_ (fun _ z => by simp only [List.count_append, List.count_cons, List.count_nil]; omega)))) hS hA0 rfl rfl) rfl rfl hl.1 rfl (lv_room (Nat.le_of_ble_eq_true rfl)) dX1_formula_2 ⟨Nat.le_of_ble_eq_true rfl, Nat.le_of_ble_eq_true rfl⟩) (fun r_2 e_2 => ?_)
  subst e_2
  refine lv_if_eq (tgt := 16) hx hb dX1_formula_5 (by decide) (fun c_5 => ?_) (fun c_5 => ?_)
  · have h5 : isL x (nI n) = false := b2i_0.mp c_5
    refine lv_iconst (v := (-1)) hx hb dX1_formula_16 (by decide) ?_
    exact ret (-1) _ 17 ls _ _ _ _ dX1_formula_17 rfl (Nat.le_of_ble_eq_true rfl) (Nat.le_of_ble_eq_true rfl) hP hD hS (by subst hnS; exact Or.inl ⟨fo_1 (Or.inl h5), _, hw, rfl⟩)
  · have h5 : isL x (nI n) = true := b2i_n0.mp c_5
    refine lv_aload_n hx hb dX1_formula_8 rfl (lv_at hl 0 rfl) ?_
    refine lv_iload_n hx hb dX1_formula_9 rfl (lv_at hl 3 rfl) ?_
    refine vp_callSi (W.runV (As := [.int (y)]) (rest := []) ⟨hx, hb, hml, hown, hts⟩ (metX1_isSigned l G a iv (y) n hn hn4) (cwV 1 hts (lw_V q246 q248 qs2 q29 q249) rfl rfl rfl (by decide +kernel) ⟨Nat.le_of_ble_eq_true rfl, Nat.le_of_ble_eq_true rfl⟩) (pre_RV (q0 := 0) hG (wP.left (wP.perm (w' := [(a 15, .inr (0, [.ref (a 0), .ref (a 1), .ref (a 2), .ref (a 3), .ref (a 4), .ref (a 5), .ref (a 6), .int (iv 7), .ref (a 8), .ref (a 9), .int (iv 10), .int (iv 11), .ref (a 12), .int (iv 13), .ref (a 14)]))] ++ ((a 6, .inr (5, fs)) :: (tl ++ (rlW ra rf)))) hP (pm_ (fun _ z => by simp only [List.count_append, List.count_cons, List.count_nil]; omega)))) hS hA0 rfl rfl) rfl rfl hl.1 rfl (lv_room (Nat.le_of_ble_eq_true rfl)) dX1_formula_10 ⟨Nat.le_of_ble_eq_true rfl, Nat.le_of_ble_eq_true rfl⟩) (fun r_10 e_10 => ?_)
    subst e_10
    refine lv_if_ne (tgt := 18) hx hb dX1_formula_13 (by decide) (fun c_13 => ?_) (fun c_13 => ?_)
    · have h13 : isL y (nI n) = true := b2i_n0.mp c_13
      refine lv_iload_n hx hb dX1_formula_18 rfl (lv_at hl 1 rfl) ?_
      refine lv_i2l (v := (op).toInt64) hx hb dX1_formula_19 rfl ?_
      refine lv_lconst (v := 0) hx hb dX1_formula_20 (by decide) ?_
      refine lv_ldc2 (v := (3)) hx hb hown (hts _ q254) dX1_formula_21 ?_
      refine vp_callSi (W.runS (As := [.long ((op).toInt64), .long (0), .long (3)]) (rest := []) ⟨hx, hb, hml, hown, hts⟩ (metX1_isIn l G (op.toInt64) (0) (3)) (va_cwS 3 hts (lw_S q219 q220 q29 q221) rfl rfl rfl (by decide +kernel) ⟨Nat.le_of_ble_eq_true rfl, Nat.le_of_ble_eq_true rfl⟩) (pre_RS hG (wP.mem (w' := []) hP (fun _ h => absurd h List.not_mem_nil)) hS hA0) rfl rfl hl.1 rfl (lv_room (Nat.le_of_ble_eq_true rfl)) dX1_formula_24 ⟨Nat.le_of_ble_eq_true rfl, Nat.le_of_ble_eq_true rfl⟩) (fun r_24 e_24 => ?_)
      subst e_24
      refine top_i (y := b2i (!decide (op < 0 ∨ 3 < op))) (congrArg b2i (in_I (lo := 0) (hi := 3) rfl rfl)) ?_
      refine lv_if_ne (tgt := 33) hx hb dX1_formula_27 (by decide) (fun c_27 => ?_) (fun c_27 => ?_)
      · have h27 : ¬ (op < 0 ∨ 3 < op) := nb_t c_27; have k1 : ¬ op < 0 := fun h => h27 (Or.inl h); have k2 : ¬ 3 < op := fun h => h27 (Or.inr h)
        refine lv_aload_n hx hb dX1_formula_33 rfl (lv_at hl 0 rfl) ?_
        refine va_get (D := gD G) (ci := 0) (v := .int (iv 7)) (C := RX1) (T := TX1) (N := 15) hx hb hts in_X1 hown hG.K hP 0 rfl rfl 7 (by decide) (hts _ q171) (fun _ h9 => h9) rfl dX1_formula_34 ?_
        refine top_i (y := nI k) (hk) ?_
        refine lv_bipush (v := 40) hx hb dX1_formula_37 (by decide) ?_
        refine lv_icmp_ne (tgt := 45) hx hb dX1_formula_39 (by decide) (fun c_39 => ?_) (fun c_39 => ?_)
        · have h39 : k ≠ 40 := nI_ne (a := k) (b := 40) c_39
          have J78 : ∀ (v : Int32), v = b2i (stAlw op x y) → ∀ (H : Heap) (locs : List Loc), wP G ((a 15, .inr (0, [.ref (a 0), .ref (a 1), .ref (a 2), .ref (a 3), .ref (a 4), .ref (a 5), .ref (a 6), .int (iv 7), .ref (a 8), .ref (a 9), .int (iv 10), .int (iv 11), .ref (a 12), .int (iv 13), .ref (a 14)])) :: (a 6, .inr (5, fs)) :: (tl ++ (rlW ra rf))) H → va_D A ((a 15, .inr (0, [.ref (a 0), .ref (a 1), .ref (a 2), .ref (a 3), .ref (a 4), .ref (a 5), .ref (a 6), .int (iv 7), .ref (a 8), .ref (a 9), .int (iv 10), .int (iv 11), .ref (a 12), .int (iv 13), .ref (a 14)])) :: (a 6, .inr (5, fs)) :: (tl ++ (rlW ra rf))) → va_S A s.heap H locs → ∀ ls : Array Slot, lv_has ls 5 [(0, .ref (a 15)), (1, .int (op)), (2, .int (x)), (3, .int (y))] → W p l e (rm_ 7 4 1028 154) s m args below meth c H locs 0 0 Q (F0 m 78 ls [.int (v)]) := by
            intro v ev H locs hP hD hS ls hl
            subst ev
            refine lv_istore (lv' := [(4, .int (b2i (stAlw op x y))), (0, .ref (a 15)), (1, .int (op)), (2, .int (x)), (3, .int (y))]) hx hb dX1_formula_78 hl (by decide) rfl (fun ls hl => ?_)
            refine lv_iload hx hb dX1_formula_80 (lv_at hl 0 rfl) ?_
            refine lv_if_eq (tgt := 87) hx hb dX1_formula_82 (by decide) (fun c_82 => ?_) (fun c_82 => ?_)
            · have h82 : stAlw op x y = false := b2i_0.mp c_82
              refine lv_aload_n hx hb dX1_formula_87 rfl (lv_at hl 1 rfl) ?_
              refine lv_dup hx hb dX1_formula_88 rfl ?_
              refine va_get (D := gD G) (ci := 0) (v := .int (iv 7)) (C := RX1) (T := TX1) (N := 15) hx hb hts in_X1 hown hG.K hP 0 rfl rfl 7 (by decide) (hts _ q171) (fun _ h9 => h9) rfl dX1_formula_89 ?_
              refine top_i (y := nI k) (hk) ?_
              refine lv_iconst (v := 1) hx hb dX1_formula_92 (by decide) ?_
              refine lv_iadd hx hb dX1_formula_93 ?_
              refine top_i (y := nI (k + 1)) (nI_1 k) ?_
              refine va_put (D := gD G) (ci := 0) (v := .int (nI (k + 1))) (ty := .int) (C := RX1) (T := TX1) (N := 15) hx hb hts in_X1 tyX1 tyX1_ok nmX1 hown hG.K hP hD hS 0 rfl rfl 7 (by decide) (hts _ q171) (fun _ h9 => h9) rfl (by decide +kernel) rfl rfl (Nat.le_of_ble_eq_true rfl) dX1_formula_94 (fun H locs hP hD hS => ?_)
              have hP : wP G ((a 15, .inr (0, [.ref (a 0), .ref (a 1), .ref (a 2), .ref (a 3), .ref (a 4), .ref (a 5), .ref (a 6), .int (nI (k + 1)), .ref (a 8), .ref (a 9), .int (iv 10), .int (iv 11), .ref (a 12), .int (iv 13), .ref (a 14)])) :: (a 6, .inr (5, fs)) :: (tl ++ (rlW ra rf))) H := hP
              have hD : va_D A ((a 15, .inr (0, [.ref (a 0), .ref (a 1), .ref (a 2), .ref (a 3), .ref (a 4), .ref (a 5), .ref (a 6), .int (nI (k + 1)), .ref (a 8), .ref (a 9), .int (iv 10), .int (iv 11), .ref (a 12), .int (iv 13), .ref (a 14)])) :: (a 6, .inr (5, fs)) :: (tl ++ (rlW ra rf))) := hD
              refine lv_iload_n hx hb dX1_formula_97 rfl (lv_at hl 2 rfl) ?_
              obtain ⟨j, hop, hj3⟩ := le2_of (k := op) (m := 3) (by decide) k1 k2
              subst hop
              obtain ⟨hx1, hx2, hx3⟩ := isL_lit hW (by rw [hnS] at h5; exact h5)
              obtain ⟨hy1, hy2, hy3⟩ := isL_lit hW (by rw [hnS] at h13; exact h13)
              have hx4 : (toLit x).1 ≤ 14 := by omega
              have hy4 : (toLit y).1 ≤ 14 := by omega
              rcases (show j = 0 ∨ j = 1 ∨ j = 2 ∨ j = 3 by omega) with rfl | rfl | rfl | rfl
              · skip
                refine lv_tableIn (tgt := 124) hx hb dX1_formula_98 (by decide) (by decide) rfl (by decide) ?_
                refine lv_aload_n hx hb dX1_formula_124 rfl (lv_at hl 1 rfl) ?_
                refine va_get (D := gD G) (ci := 0) (v := .ref (a 6)) (C := RX1) (T := TX1) (N := 15) hx hb hts in_X1 hown hG.K hP 0 rfl rfl 6 (by decide) (hts _ q170) (fun _ h9 => h9) rfl dX1_formula_125 ?_
                refine va_new (D := gD G) (ci := 2) (fs := [.int (0), .int (0)]) (C := RX3) (T := TX3) (N := 2) hx hb hts in_X3 tyX3 tyX3_ok hown (hts _ q255) (hts _ q256) (hts _ q42) hG.K hP hD hS hA rfl (fun j hj => match j, hj with | 0, _ => rfl | 1, _ => rfl | j + 2, hj => absurd hj (by omega)) (Nat.le_of_ble_eq_true rfl) (Nat.le_of_ble_eq_true rfl) dX1_formula_128 (fun o1 H hP hD hS => ?_)
                have hP := wP.perm hP (List.perm_append_singleton _ _).symm
                have hD := va_D.perm hD (List.perm_append_singleton _ _).symm
                have hP : wP G ((o1, .inr (2, [.int (0), .int (0)])) :: (a 15, .inr (0, [.ref (a 0), .ref (a 1), .ref (a 2), .ref (a 3), .ref (a 4), .ref (a 5), .ref (a 6), .int (nI (k + 1)), .ref (a 8), .ref (a 9), .int (iv 10), .int (iv 11), .ref (a 12), .int (iv 13), .ref (a 14)])) :: (a 6, .inr (5, fs)) :: (tl ++ (rlW ra rf))) H := hP
                have hD : va_D A ((o1, .inr (2, [.int (0), .int (0)])) :: (a 15, .inr (0, [.ref (a 0), .ref (a 1), .ref (a 2), .ref (a 3), .ref (a 4), .ref (a 5), .ref (a 6), .int (nI (k + 1)), .ref (a 8), .ref (a 9), .int (iv 10), .int (iv 11), .ref (a 12), .int (iv 13), .ref (a 14)])) :: (a 6, .inr (5, fs)) :: (tl ++ (rlW ra rf))) := hD
                refine lv_dup hx hb dX1_formula_131 rfl ?_
                refine lv_iload_n hx hb dX1_formula_132 rfl (lv_at hl 3 rfl) ?_
                refine lv_ineg hx hb dX1_formula_133 ?_
                refine top_i (y := litI (ng (toLit x))) (by rw [litI_ng, hx1]) ?_
                refine lv_iload_n hx hb dX1_formula_134 rfl (lv_at hl 4 rfl) ?_
                refine top_i (y := litI (toLit y)) (hy1.symm) ?_
                have hP := wP.perm (w' := [(o1, .inr (2, [.int (0), .int (0)]))] ++ ((a 15, .inr (0, [.ref (a 0), .ref (a 1), .ref (a 2), .ref (a 3), .ref (a 4), .ref (a 5), .ref (a 6), .int (nI (k + 1)), .ref (a 8), .ref (a 9), .int (iv 10), .int (iv 11), .ref (a 12), .int (iv 13), .ref (a 14)])) :: (a 6, .inr (5, fs)) :: (tl ++ (rlW ra rf)))) hP (pm_ (fun _ z => by simp only [List.count_append, List.count_cons, List.count_nil]; omega))
                have hD := va_D.perm (w' := [(o1, .inr (2, [.int (0), .int (0)]))] ++ ((a 15, .inr (0, [.ref (a 0), .ref (a 1), .ref (a 2), .ref (a 3), .ref (a 4), .ref (a 5), .ref (a 6), .int (nI (k + 1)), .ref (a 8), .ref (a 9), .int (iv 10), .int (iv 11), .ref (a 12), .int (iv 13), .ref (a 14)])) :: (a 6, .inr (5, fs)) :: (tl ++ (rlW ra rf)))) hD (pm_ (fun _ z => by simp only [List.count_append, List.count_cons, List.count_nil]; omega))
                refine cl_v (wr := ((a 15, .inr (0, [.ref (a 0), .ref (a 1), .ref (a 2), .ref (a 3), .ref (a 4), .ref (a 5), .ref (a 6), .int (nI (k + 1)), .ref (a 8), .ref (a 9), .int (iv 10), .int (iv 11), .ref (a 12), .int (iv 13), .ref (a 14)])) :: (a 6, .inr (5, fs)) :: (tl ++ (rlW ra rf)))) (va_runIN (As := [.int (litI (ng (toLit x))), .int (litI (toLit y))]) (rest := [.ref (o1), .ref (a 6)]) ⟨hx, hb, hml, hown, hts⟩ (metX3_init l G o1 (litI (ng (toLit x))) (litI (toLit y)) _) ⟨(va_cnB 2 hts (lw_meth q259) rfl rfl rfl (hG.nest q257) (hts _ q42) (by decide +kernel) ⟨Nat.le_of_ble_eq_true rfl, Nat.le_of_ble_eq_true rfl⟩), rfl, hts _ q258⟩ (pre_WS (As := [.ref (o1), .int (litI (ng (toLit x))), .int (litI (toLit y))]) hG hP hD hS hA0) rfl rfl hl.1 rfl (lv_room (Nat.le_of_ble_eq_true rfl)) dX1_formula_135 ⟨Nat.le_of_ble_eq_true rfl, Nat.le_of_ble_eq_true rfl⟩) hP hD hS hA (fun w1 H locs hp hP hD hS => ?_)
                subst hp
                have hP : wP G ([(o1, .inr (2, [.int (litI (ng (toLit x))), .int (litI (toLit y))]))] ++ ((a 15, .inr (0, [.ref (a 0), .ref (a 1), .ref (a 2), .ref (a 3), .ref (a 4), .ref (a 5), .ref (a 6), .int (nI (k + 1)), .ref (a 8), .ref (a 9), .int (iv 10), .int (iv 11), .ref (a 12), .int (iv 13), .ref (a 14)])) :: (a 6, .inr (5, fs)) :: (tl ++ (rlW ra rf)))) H := hP
                have hD : va_D A ([(o1, .inr (2, [.int (litI (ng (toLit x))), .int (litI (toLit y))]))] ++ ((a 15, .inr (0, [.ref (a 0), .ref (a 1), .ref (a 2), .ref (a 3), .ref (a 4), .ref (a 5), .ref (a 6), .int (nI (k + 1)), .ref (a 8), .ref (a 9), .int (iv 10), .int (iv 11), .ref (a 12), .int (iv 13), .ref (a 14)])) :: (a 6, .inr (5, fs)) :: (tl ++ (rlW ra rf)))) := hD
                have hP := wP.perm (w' := ((a 15, .inr (0, [.ref (a 0), .ref (a 1), .ref (a 2), .ref (a 3), .ref (a 4), .ref (a 5), .ref (a 6), .int (nI (k + 1)), .ref (a 8), .ref (a 9), .int (iv 10), .int (iv 11), .ref (a 12), .int (iv 13), .ref (a 14)])) :: (a 6, .inr (5, fs)) :: (o1, .inr (2, [.int (litI (ng (toLit x))), .int (litI (toLit y))])) :: (tl ++ (rlW ra rf)))) hP (pm_ (fun _ z => by simp only [List.count_append, List.count_cons, List.count_nil]; omega))
                have hD := va_D.perm (w' := ((a 15, .inr (0, [.ref (a 0), .ref (a 1), .ref (a 2), .ref (a 3), .ref (a 4), .ref (a 5), .ref (a 6), .int (nI (k + 1)), .ref (a 8), .ref (a 9), .int (iv 10), .int (iv 11), .ref (a 12), .int (iv 13), .ref (a 14)])) :: (a 6, .inr (5, fs)) :: (o1, .inr (2, [.int (litI (ng (toLit x))), .int (litI (toLit y))])) :: (tl ++ (rlW ra rf)))) hD (pm_ (fun _ z => by simp only [List.count_append, List.count_cons, List.count_nil]; omega))
                have hoko1 : ∀ z ∈ (rf ++ [(o1, rE ((ng (toLit x))) ((toLit y)))]), rlOk z.2 := rl_push hrf (Or.inl ⟨rfl, ⟨hx2, hx4⟩, ⟨hy2, hy4⟩⟩)
                have hwso1 : rlW ra (rf ++ [(o1, rE ((ng (toLit x))) ((toLit y)))]) = rlW ra rf ++ [(o1, .inr (2, [.int (litI (ng (toLit x))), .int (litI (toLit y))]))] := by rw [rlW_app]; rfl
                have hvso1 : ∀ z ∈ ((rf ++ [(o1, rE ((ng (toLit x))) ((toLit y)))])).map (·.1), AnyOb G (rlW ra rf ++ [(o1, .inr (2, [.int (litI (ng (toLit x))), .int (litI (toLit y))]))]) z := by rw [← hwso1]; exact AnyOb_rl hoko1
                have hP := wP.perm (w' := ((a 6, .inr (5, fs)) :: (tl ++ ((rlW ra rf ++ [(o1, .inr (2, [.int (litI (ng (toLit x))), .int (litI (toLit y))]))])))) ++ [(a 15, .inr (0, [.ref (a 0), .ref (a 1), .ref (a 2), .ref (a 3), .ref (a 4), .ref (a 5), .ref (a 6), .int (nI (k + 1)), .ref (a 8), .ref (a 9), .int (iv 10), .int (iv 11), .ref (a 12), .int (iv 13), .ref (a 14)]))]) hP (pm_ (fun _ z => by simp only [List.count_append, List.count_cons, List.count_nil]; omega))
                have hD := va_D.perm (w' := ((a 6, .inr (5, fs)) :: (tl ++ ((rlW ra rf ++ [(o1, .inr (2, [.int (litI (ng (toLit x))), .int (litI (toLit y))]))])))) ++ [(a 15, .inr (0, [.ref (a 0), .ref (a 1), .ref (a 2), .ref (a 3), .ref (a 4), .ref (a 5), .ref (a 6), .int (nI (k + 1)), .ref (a 8), .ref (a 9), .int (iv 10), .int (iv 11), .ref (a 12), .int (iv 13), .ref (a 14)]))]) hD (pm_ (fun _ z => by simp only [List.count_append, List.count_cons, List.count_nil]; omega))
                refine clF_i (wr := [(a 15, .inr (0, [.ref (a 0), .ref (a 1), .ref (a 2), .ref (a 3), .ref (a 4), .ref (a 5), .ref (a 6), .int (nI (k + 1)), .ref (a 8), .ref (a 9), .int (iv 10), .int (iv 11), .ref (a 12), .int (iv 13), .ref (a 14)]))]) (va_runF (As := [.ref (o1)]) (rest := []) (hG.K.1 5 _ rfl).2 ⟨hx, hb, hml, hown, hts⟩ (metJ2_add l G (a 6) o1 (rf.map (·.1)) ((a 6, .inr (5, fs)) :: tl) (rlW ra rf ++ [(o1, .inr (2, [.int (litI (ng (toLit x))), .int (litI (toLit y))]))]) hw (hvso1 _ (by simp)) (fun z hz => hvso1 _ (by rw [List.map_append]; exact List.mem_append_left _ hz)) (by rw [List.length_map]; omega) _) (va_cwF 1 hts (lw_F (x := ({ cls := "java/util/List", name := "add", desc := "(Ljava/lang/Object;)Z" } : Jvm.MethodName)) (y := ({ cls := "java/util/ArrayList", name := "add", desc := "(Ljava/lang/Object;)Z" } : Jvm.MethodName)) q272 q276 q278 q32 q280) rfl rfl rfl (hG.face (C := "java/util/ArrayList") (x := ({ cls := "java/util/List", name := "add", desc := "(Ljava/lang/Object;)Z" } : Jvm.MethodName)) (y := ({ cls := "java/util/ArrayList", name := "add", desc := "(Ljava/lang/Object;)Z" } : Jvm.MethodName)) q274 q273 q279 q277 q275 (by decide)) (by decide +kernel) ⟨Nat.le_of_ble_eq_true rfl, Nat.le_of_ble_eq_true rfl⟩) (pre_WV (q0 := 0) hG hP hD hS hA0 rfl rfl) rfl rfl hl.1 rfl (lv_room (Nat.le_of_ble_eq_true rfl)) dX1_formula_138 ⟨Nat.le_of_ble_eq_true rfl, Nat.le_of_ble_eq_true rfl⟩) hP hD hS hA (fun r_138 w1 H locs hp hP hD hS => ?_)
                obtain ⟨rfl, w2, hw2, rfl⟩ := hp
                obtain ⟨fso1, tlo1, rfl⟩ := hw2.cons
                have hw := hw2
                have hw : AL G (a 6) ((rf ++ [(o1, rE ((ng (toLit x))) ((toLit y)))]).map (·.1)) ((a 6, .inr (5, fso1)) :: tlo1) := by rw [List.map_append] at *; simpa using hw2
                rw [← hwso1] at hP hD
                have hP := wP.perm (w' := ((a 15, .inr (0, [.ref (a 0), .ref (a 1), .ref (a 2), .ref (a 3), .ref (a 4), .ref (a 5), .ref (a 6), .int (nI (k + 1)), .ref (a 8), .ref (a 9), .int (iv 10), .int (iv 11), .ref (a 12), .int (iv 13), .ref (a 14)])) :: (a 6, .inr (5, fso1)) :: (tlo1 ++ (rlW ra (rf ++ [(o1, rE ((ng (toLit x))) ((toLit y)))]))))) hP (pm_ (fun _ z => by simp only [List.count_append, List.count_cons, List.count_nil]; omega))
                have hD := va_D.perm (w' := ((a 15, .inr (0, [.ref (a 0), .ref (a 1), .ref (a 2), .ref (a 3), .ref (a 4), .ref (a 5), .ref (a 6), .int (nI (k + 1)), .ref (a 8), .ref (a 9), .int (iv 10), .int (iv 11), .ref (a 12), .int (iv 13), .ref (a 14)])) :: (a 6, .inr (5, fso1)) :: (tlo1 ++ (rlW ra (rf ++ [(o1, rE ((ng (toLit x))) ((toLit y)))]))))) hD (pm_ (fun _ z => by simp only [List.count_append, List.count_cons, List.count_nil]; omega))
                refine lv_pop hx hb dX1_formula_143 rfl ?_
                refine lv_goto (tgt := 233) hx hb dX1_formula_144 (by decide) ?_
                refine lv_aload_n hx hb dX1_formula_233 rfl (lv_at hl 1 rfl) ?_
                refine lv_iconst (v := 0) hx hb dX1_formula_234 (by decide) ?_
                refine va_put (D := gD G) (ci := 0) (v := .int (0)) (ty := .boolean) (C := RX1) (T := TX1) (N := 15) hx hb hts in_X1 tyX1 tyX1_ok nmX1 hown hG.K hP hD hS 0 rfl rfl 10 (by decide) (hts _ q174) (fun _ h9 => h9) rfl (by decide +kernel) rfl rfl (Nat.le_of_ble_eq_true rfl) dX1_formula_235 (fun H locs hP hD hS => ?_)
                have hP : wP G ((a 15, .inr (0, [.ref (a 0), .ref (a 1), .ref (a 2), .ref (a 3), .ref (a 4), .ref (a 5), .ref (a 6), .int (nI (k + 1)), .ref (a 8), .ref (a 9), .int (0), .int (iv 11), .ref (a 12), .int (iv 13), .ref (a 14)])) :: (a 6, .inr (5, fso1)) :: (tlo1 ++ (rlW ra (rf ++ [(o1, rE ((ng (toLit x))) ((toLit y)))])))) H := hP
                have hD : va_D A ((a 15, .inr (0, [.ref (a 0), .ref (a 1), .ref (a 2), .ref (a 3), .ref (a 4), .ref (a 5), .ref (a 6), .int (nI (k + 1)), .ref (a 8), .ref (a 9), .int (0), .int (iv 11), .ref (a 12), .int (iv 13), .ref (a 14)])) :: (a 6, .inr (5, fso1)) :: (tlo1 ++ (rlW ra (rf ++ [(o1, rE ((ng (toLit x))) ((toLit y)))])))) := hD
                refine lv_aload_n hx hb dX1_formula_238 rfl (lv_at hl 1 rfl) ?_
                refine va_get (D := gD G) (ci := 0) (v := .int (nI (k + 1))) (C := RX1) (T := TX1) (N := 15) hx hb hts in_X1 hown hG.K hP 0 rfl rfl 7 (by decide) (hts _ q171) (fun _ h9 => h9) rfl dX1_formula_239 ?_
                exact ret (nI (k + 1)) _ 242 ls _ _ _ _ dX1_formula_242 rfl (Nat.le_of_ble_eq_true rfl) (Nat.le_of_ble_eq_true rfl) hP hD hS (by subst hnS hkS; exact Or.inr ⟨[(o1, rE ((ng (toLit x))) ((toLit y)))], _, hw, fo_5 h5 h13 k1 k2 h39 h82, rfl, hoko1, rfl⟩)
              · skip
                refine lv_tableIn (tgt := 147) hx hb dX1_formula_98 (by decide) (by decide) rfl (by decide) ?_
                refine lv_aload_n hx hb dX1_formula_147 rfl (lv_at hl 1 rfl) ?_
                refine va_get (D := gD G) (ci := 0) (v := .ref (a 6)) (C := RX1) (T := TX1) (N := 15) hx hb hts in_X1 hown hG.K hP 0 rfl rfl 6 (by decide) (hts _ q170) (fun _ h9 => h9) rfl dX1_formula_148 ?_
                refine va_new (D := gD G) (ci := 2) (fs := [.int (0), .int (0)]) (C := RX3) (T := TX3) (N := 2) hx hb hts in_X3 tyX3 tyX3_ok hown (hts _ q255) (hts _ q256) (hts _ q42) hG.K hP hD hS hA rfl (fun j hj => match j, hj with | 0, _ => rfl | 1, _ => rfl | j + 2, hj => absurd hj (by omega)) (Nat.le_of_ble_eq_true rfl) (Nat.le_of_ble_eq_true rfl) dX1_formula_151 (fun o2 H hP hD hS => ?_)
                have hP := wP.perm hP (List.perm_append_singleton _ _).symm
                have hD := va_D.perm hD (List.perm_append_singleton _ _).symm
                have hP : wP G ((o2, .inr (2, [.int (0), .int (0)])) :: (a 15, .inr (0, [.ref (a 0), .ref (a 1), .ref (a 2), .ref (a 3), .ref (a 4), .ref (a 5), .ref (a 6), .int (nI (k + 1)), .ref (a 8), .ref (a 9), .int (iv 10), .int (iv 11), .ref (a 12), .int (iv 13), .ref (a 14)])) :: (a 6, .inr (5, fs)) :: (tl ++ (rlW ra rf))) H := hP
                have hD : va_D A ((o2, .inr (2, [.int (0), .int (0)])) :: (a 15, .inr (0, [.ref (a 0), .ref (a 1), .ref (a 2), .ref (a 3), .ref (a 4), .ref (a 5), .ref (a 6), .int (nI (k + 1)), .ref (a 8), .ref (a 9), .int (iv 10), .int (iv 11), .ref (a 12), .int (iv 13), .ref (a 14)])) :: (a 6, .inr (5, fs)) :: (tl ++ (rlW ra rf))) := hD
                refine lv_dup hx hb dX1_formula_154 rfl ?_
                refine lv_iload_n hx hb dX1_formula_155 rfl (lv_at hl 3 rfl) ?_
                refine lv_ineg hx hb dX1_formula_156 ?_
                refine top_i (y := litI (ng (toLit x))) (by rw [litI_ng, hx1]) ?_
                refine lv_iload_n hx hb dX1_formula_157 rfl (lv_at hl 4 rfl) ?_
                refine lv_ineg hx hb dX1_formula_158 ?_
                refine top_i (y := litI (ng (toLit y))) (by rw [litI_ng, hy1]) ?_
                have hP := wP.perm (w' := [(o2, .inr (2, [.int (0), .int (0)]))] ++ ((a 15, .inr (0, [.ref (a 0), .ref (a 1), .ref (a 2), .ref (a 3), .ref (a 4), .ref (a 5), .ref (a 6), .int (nI (k + 1)), .ref (a 8), .ref (a 9), .int (iv 10), .int (iv 11), .ref (a 12), .int (iv 13), .ref (a 14)])) :: (a 6, .inr (5, fs)) :: (tl ++ (rlW ra rf)))) hP (pm_ (fun _ z => by simp only [List.count_append, List.count_cons, List.count_nil]; omega))
                have hD := va_D.perm (w' := [(o2, .inr (2, [.int (0), .int (0)]))] ++ ((a 15, .inr (0, [.ref (a 0), .ref (a 1), .ref (a 2), .ref (a 3), .ref (a 4), .ref (a 5), .ref (a 6), .int (nI (k + 1)), .ref (a 8), .ref (a 9), .int (iv 10), .int (iv 11), .ref (a 12), .int (iv 13), .ref (a 14)])) :: (a 6, .inr (5, fs)) :: (tl ++ (rlW ra rf)))) hD (pm_ (fun _ z => by simp only [List.count_append, List.count_cons, List.count_nil]; omega))
                refine cl_v (wr := ((a 15, .inr (0, [.ref (a 0), .ref (a 1), .ref (a 2), .ref (a 3), .ref (a 4), .ref (a 5), .ref (a 6), .int (nI (k + 1)), .ref (a 8), .ref (a 9), .int (iv 10), .int (iv 11), .ref (a 12), .int (iv 13), .ref (a 14)])) :: (a 6, .inr (5, fs)) :: (tl ++ (rlW ra rf)))) (va_runIN (As := [.int (litI (ng (toLit x))), .int (litI (ng (toLit y)))]) (rest := [.ref (o2), .ref (a 6)]) ⟨hx, hb, hml, hown, hts⟩ (metX3_init l G o2 (litI (ng (toLit x))) (litI (ng (toLit y))) _) ⟨(va_cnB 2 hts (lw_meth q259) rfl rfl rfl (hG.nest q257) (hts _ q42) (by decide +kernel) ⟨Nat.le_of_ble_eq_true rfl, Nat.le_of_ble_eq_true rfl⟩), rfl, hts _ q258⟩ (pre_WS (As := [.ref (o2), .int (litI (ng (toLit x))), .int (litI (ng (toLit y)))]) hG hP hD hS hA0) rfl rfl hl.1 rfl (lv_room (Nat.le_of_ble_eq_true rfl)) dX1_formula_159 ⟨Nat.le_of_ble_eq_true rfl, Nat.le_of_ble_eq_true rfl⟩) hP hD hS hA (fun w1 H locs hp hP hD hS => ?_)
                subst hp
                have hP : wP G ([(o2, .inr (2, [.int (litI (ng (toLit x))), .int (litI (ng (toLit y)))]))] ++ ((a 15, .inr (0, [.ref (a 0), .ref (a 1), .ref (a 2), .ref (a 3), .ref (a 4), .ref (a 5), .ref (a 6), .int (nI (k + 1)), .ref (a 8), .ref (a 9), .int (iv 10), .int (iv 11), .ref (a 12), .int (iv 13), .ref (a 14)])) :: (a 6, .inr (5, fs)) :: (tl ++ (rlW ra rf)))) H := hP
                have hD : va_D A ([(o2, .inr (2, [.int (litI (ng (toLit x))), .int (litI (ng (toLit y)))]))] ++ ((a 15, .inr (0, [.ref (a 0), .ref (a 1), .ref (a 2), .ref (a 3), .ref (a 4), .ref (a 5), .ref (a 6), .int (nI (k + 1)), .ref (a 8), .ref (a 9), .int (iv 10), .int (iv 11), .ref (a 12), .int (iv 13), .ref (a 14)])) :: (a 6, .inr (5, fs)) :: (tl ++ (rlW ra rf)))) := hD
                have hP := wP.perm (w' := ((a 15, .inr (0, [.ref (a 0), .ref (a 1), .ref (a 2), .ref (a 3), .ref (a 4), .ref (a 5), .ref (a 6), .int (nI (k + 1)), .ref (a 8), .ref (a 9), .int (iv 10), .int (iv 11), .ref (a 12), .int (iv 13), .ref (a 14)])) :: (a 6, .inr (5, fs)) :: (o2, .inr (2, [.int (litI (ng (toLit x))), .int (litI (ng (toLit y)))])) :: (tl ++ (rlW ra rf)))) hP (pm_ (fun _ z => by simp only [List.count_append, List.count_cons, List.count_nil]; omega))
                have hD := va_D.perm (w' := ((a 15, .inr (0, [.ref (a 0), .ref (a 1), .ref (a 2), .ref (a 3), .ref (a 4), .ref (a 5), .ref (a 6), .int (nI (k + 1)), .ref (a 8), .ref (a 9), .int (iv 10), .int (iv 11), .ref (a 12), .int (iv 13), .ref (a 14)])) :: (a 6, .inr (5, fs)) :: (o2, .inr (2, [.int (litI (ng (toLit x))), .int (litI (ng (toLit y)))])) :: (tl ++ (rlW ra rf)))) hD (pm_ (fun _ z => by simp only [List.count_append, List.count_cons, List.count_nil]; omega))
                have hoko2 : ∀ z ∈ (rf ++ [(o2, rE ((ng (toLit x))) ((ng (toLit y))))]), rlOk z.2 := rl_push hrf (Or.inl ⟨rfl, ⟨hx2, hx4⟩, ⟨hy2, hy4⟩⟩)
                have hwso2 : rlW ra (rf ++ [(o2, rE ((ng (toLit x))) ((ng (toLit y))))]) = rlW ra rf ++ [(o2, .inr (2, [.int (litI (ng (toLit x))), .int (litI (ng (toLit y)))]))] := by rw [rlW_app]; rfl
                have hvso2 : ∀ z ∈ ((rf ++ [(o2, rE ((ng (toLit x))) ((ng (toLit y))))])).map (·.1), AnyOb G (rlW ra rf ++ [(o2, .inr (2, [.int (litI (ng (toLit x))), .int (litI (ng (toLit y)))]))]) z := by rw [← hwso2]; exact AnyOb_rl hoko2
                have hP := wP.perm (w' := ((a 6, .inr (5, fs)) :: (tl ++ ((rlW ra rf ++ [(o2, .inr (2, [.int (litI (ng (toLit x))), .int (litI (ng (toLit y)))]))])))) ++ [(a 15, .inr (0, [.ref (a 0), .ref (a 1), .ref (a 2), .ref (a 3), .ref (a 4), .ref (a 5), .ref (a 6), .int (nI (k + 1)), .ref (a 8), .ref (a 9), .int (iv 10), .int (iv 11), .ref (a 12), .int (iv 13), .ref (a 14)]))]) hP (pm_ (fun _ z => by simp only [List.count_append, List.count_cons, List.count_nil]; omega))
                have hD := va_D.perm (w' := ((a 6, .inr (5, fs)) :: (tl ++ ((rlW ra rf ++ [(o2, .inr (2, [.int (litI (ng (toLit x))), .int (litI (ng (toLit y)))]))])))) ++ [(a 15, .inr (0, [.ref (a 0), .ref (a 1), .ref (a 2), .ref (a 3), .ref (a 4), .ref (a 5), .ref (a 6), .int (nI (k + 1)), .ref (a 8), .ref (a 9), .int (iv 10), .int (iv 11), .ref (a 12), .int (iv 13), .ref (a 14)]))]) hD (pm_ (fun _ z => by simp only [List.count_append, List.count_cons, List.count_nil]; omega))
                refine clF_i (wr := [(a 15, .inr (0, [.ref (a 0), .ref (a 1), .ref (a 2), .ref (a 3), .ref (a 4), .ref (a 5), .ref (a 6), .int (nI (k + 1)), .ref (a 8), .ref (a 9), .int (iv 10), .int (iv 11), .ref (a 12), .int (iv 13), .ref (a 14)]))]) (va_runF (As := [.ref (o2)]) (rest := []) (hG.K.1 5 _ rfl).2 ⟨hx, hb, hml, hown, hts⟩ (metJ2_add l G (a 6) o2 (rf.map (·.1)) ((a 6, .inr (5, fs)) :: tl) (rlW ra rf ++ [(o2, .inr (2, [.int (litI (ng (toLit x))), .int (litI (ng (toLit y)))]))]) hw (hvso2 _ (by simp)) (fun z hz => hvso2 _ (by rw [List.map_append]; exact List.mem_append_left _ hz)) (by rw [List.length_map]; omega) _) (va_cwF 1 hts (lw_F (x := ({ cls := "java/util/List", name := "add", desc := "(Ljava/lang/Object;)Z" } : Jvm.MethodName)) (y := ({ cls := "java/util/ArrayList", name := "add", desc := "(Ljava/lang/Object;)Z" } : Jvm.MethodName)) q272 q276 q278 q32 q280) rfl rfl rfl (hG.face (C := "java/util/ArrayList") (x := ({ cls := "java/util/List", name := "add", desc := "(Ljava/lang/Object;)Z" } : Jvm.MethodName)) (y := ({ cls := "java/util/ArrayList", name := "add", desc := "(Ljava/lang/Object;)Z" } : Jvm.MethodName)) q274 q273 q279 q277 q275 (by decide)) (by decide +kernel) ⟨Nat.le_of_ble_eq_true rfl, Nat.le_of_ble_eq_true rfl⟩) (pre_WV (q0 := 0) hG hP hD hS hA0 rfl rfl) rfl rfl hl.1 rfl (lv_room (Nat.le_of_ble_eq_true rfl)) dX1_formula_162 ⟨Nat.le_of_ble_eq_true rfl, Nat.le_of_ble_eq_true rfl⟩) hP hD hS hA (fun r_162 w1 H locs hp hP hD hS => ?_)
                obtain ⟨rfl, w2, hw2, rfl⟩ := hp
                obtain ⟨fso2, tlo2, rfl⟩ := hw2.cons
                have hw := hw2
                have hw : AL G (a 6) ((rf ++ [(o2, rE ((ng (toLit x))) ((ng (toLit y))))]).map (·.1)) ((a 6, .inr (5, fso2)) :: tlo2) := by rw [List.map_append] at *; simpa using hw2
                rw [← hwso2] at hP hD
                have hP := wP.perm (w' := ((a 15, .inr (0, [.ref (a 0), .ref (a 1), .ref (a 2), .ref (a 3), .ref (a 4), .ref (a 5), .ref (a 6), .int (nI (k + 1)), .ref (a 8), .ref (a 9), .int (iv 10), .int (iv 11), .ref (a 12), .int (iv 13), .ref (a 14)])) :: (a 6, .inr (5, fso2)) :: (tlo2 ++ (rlW ra (rf ++ [(o2, rE ((ng (toLit x))) ((ng (toLit y))))]))))) hP (pm_ (fun _ z => by simp only [List.count_append, List.count_cons, List.count_nil]; omega))
                have hD := va_D.perm (w' := ((a 15, .inr (0, [.ref (a 0), .ref (a 1), .ref (a 2), .ref (a 3), .ref (a 4), .ref (a 5), .ref (a 6), .int (nI (k + 1)), .ref (a 8), .ref (a 9), .int (iv 10), .int (iv 11), .ref (a 12), .int (iv 13), .ref (a 14)])) :: (a 6, .inr (5, fso2)) :: (tlo2 ++ (rlW ra (rf ++ [(o2, rE ((ng (toLit x))) ((ng (toLit y))))]))))) hD (pm_ (fun _ z => by simp only [List.count_append, List.count_cons, List.count_nil]; omega))
                refine lv_pop hx hb dX1_formula_167 rfl ?_
                refine lv_goto (tgt := 233) hx hb dX1_formula_168 (by decide) ?_
                refine lv_aload_n hx hb dX1_formula_233 rfl (lv_at hl 1 rfl) ?_
                refine lv_iconst (v := 0) hx hb dX1_formula_234 (by decide) ?_
                refine va_put (D := gD G) (ci := 0) (v := .int (0)) (ty := .boolean) (C := RX1) (T := TX1) (N := 15) hx hb hts in_X1 tyX1 tyX1_ok nmX1 hown hG.K hP hD hS 0 rfl rfl 10 (by decide) (hts _ q174) (fun _ h9 => h9) rfl (by decide +kernel) rfl rfl (Nat.le_of_ble_eq_true rfl) dX1_formula_235 (fun H locs hP hD hS => ?_)
                have hP : wP G ((a 15, .inr (0, [.ref (a 0), .ref (a 1), .ref (a 2), .ref (a 3), .ref (a 4), .ref (a 5), .ref (a 6), .int (nI (k + 1)), .ref (a 8), .ref (a 9), .int (0), .int (iv 11), .ref (a 12), .int (iv 13), .ref (a 14)])) :: (a 6, .inr (5, fso2)) :: (tlo2 ++ (rlW ra (rf ++ [(o2, rE ((ng (toLit x))) ((ng (toLit y))))])))) H := hP
                have hD : va_D A ((a 15, .inr (0, [.ref (a 0), .ref (a 1), .ref (a 2), .ref (a 3), .ref (a 4), .ref (a 5), .ref (a 6), .int (nI (k + 1)), .ref (a 8), .ref (a 9), .int (0), .int (iv 11), .ref (a 12), .int (iv 13), .ref (a 14)])) :: (a 6, .inr (5, fso2)) :: (tlo2 ++ (rlW ra (rf ++ [(o2, rE ((ng (toLit x))) ((ng (toLit y))))])))) := hD
                refine lv_aload_n hx hb dX1_formula_238 rfl (lv_at hl 1 rfl) ?_
                refine va_get (D := gD G) (ci := 0) (v := .int (nI (k + 1))) (C := RX1) (T := TX1) (N := 15) hx hb hts in_X1 hown hG.K hP 0 rfl rfl 7 (by decide) (hts _ q171) (fun _ h9 => h9) rfl dX1_formula_239 ?_
                exact ret (nI (k + 1)) _ 242 ls _ _ _ _ dX1_formula_242 rfl (Nat.le_of_ble_eq_true rfl) (Nat.le_of_ble_eq_true rfl) hP hD hS (by subst hnS hkS; exact Or.inr ⟨[(o2, rE ((ng (toLit x))) ((ng (toLit y))))], _, hw, fo_5 h5 h13 k1 k2 h39 h82, rfl, hoko2, rfl⟩)
              · skip
                refine lv_tableIn (tgt := 171) hx hb dX1_formula_98 (by decide) (by decide) rfl (by decide) ?_
                refine lv_aload_n hx hb dX1_formula_171 rfl (lv_at hl 1 rfl) ?_
                refine va_get (D := gD G) (ci := 0) (v := .ref (a 6)) (C := RX1) (T := TX1) (N := 15) hx hb hts in_X1 hown hG.K hP 0 rfl rfl 6 (by decide) (hts _ q170) (fun _ h9 => h9) rfl dX1_formula_172 ?_
                refine va_new (D := gD G) (ci := 2) (fs := [.int (0), .int (0)]) (C := RX3) (T := TX3) (N := 2) hx hb hts in_X3 tyX3 tyX3_ok hown (hts _ q255) (hts _ q256) (hts _ q42) hG.K hP hD hS hA rfl (fun j hj => match j, hj with | 0, _ => rfl | 1, _ => rfl | j + 2, hj => absurd hj (by omega)) (Nat.le_of_ble_eq_true rfl) (Nat.le_of_ble_eq_true rfl) dX1_formula_175 (fun o3 H hP hD hS => ?_)
                have hP := wP.perm hP (List.perm_append_singleton _ _).symm
                have hD := va_D.perm hD (List.perm_append_singleton _ _).symm
                have hP : wP G ((o3, .inr (2, [.int (0), .int (0)])) :: (a 15, .inr (0, [.ref (a 0), .ref (a 1), .ref (a 2), .ref (a 3), .ref (a 4), .ref (a 5), .ref (a 6), .int (nI (k + 1)), .ref (a 8), .ref (a 9), .int (iv 10), .int (iv 11), .ref (a 12), .int (iv 13), .ref (a 14)])) :: (a 6, .inr (5, fs)) :: (tl ++ (rlW ra rf))) H := hP
                have hD : va_D A ((o3, .inr (2, [.int (0), .int (0)])) :: (a 15, .inr (0, [.ref (a 0), .ref (a 1), .ref (a 2), .ref (a 3), .ref (a 4), .ref (a 5), .ref (a 6), .int (nI (k + 1)), .ref (a 8), .ref (a 9), .int (iv 10), .int (iv 11), .ref (a 12), .int (iv 13), .ref (a 14)])) :: (a 6, .inr (5, fs)) :: (tl ++ (rlW ra rf))) := hD
                refine lv_dup hx hb dX1_formula_178 rfl ?_
                refine lv_iload_n hx hb dX1_formula_179 rfl (lv_at hl 3 rfl) ?_
                refine top_i (y := litI (toLit x)) (hx1.symm) ?_
                refine lv_iload_n hx hb dX1_formula_180 rfl (lv_at hl 4 rfl) ?_
                refine top_i (y := litI (toLit y)) (hy1.symm) ?_
                have hP := wP.perm (w' := [(o3, .inr (2, [.int (0), .int (0)]))] ++ ((a 15, .inr (0, [.ref (a 0), .ref (a 1), .ref (a 2), .ref (a 3), .ref (a 4), .ref (a 5), .ref (a 6), .int (nI (k + 1)), .ref (a 8), .ref (a 9), .int (iv 10), .int (iv 11), .ref (a 12), .int (iv 13), .ref (a 14)])) :: (a 6, .inr (5, fs)) :: (tl ++ (rlW ra rf)))) hP (pm_ (fun _ z => by simp only [List.count_append, List.count_cons, List.count_nil]; omega))
                have hD := va_D.perm (w' := [(o3, .inr (2, [.int (0), .int (0)]))] ++ ((a 15, .inr (0, [.ref (a 0), .ref (a 1), .ref (a 2), .ref (a 3), .ref (a 4), .ref (a 5), .ref (a 6), .int (nI (k + 1)), .ref (a 8), .ref (a 9), .int (iv 10), .int (iv 11), .ref (a 12), .int (iv 13), .ref (a 14)])) :: (a 6, .inr (5, fs)) :: (tl ++ (rlW ra rf)))) hD (pm_ (fun _ z => by simp only [List.count_append, List.count_cons, List.count_nil]; omega))
                refine cl_v (wr := ((a 15, .inr (0, [.ref (a 0), .ref (a 1), .ref (a 2), .ref (a 3), .ref (a 4), .ref (a 5), .ref (a 6), .int (nI (k + 1)), .ref (a 8), .ref (a 9), .int (iv 10), .int (iv 11), .ref (a 12), .int (iv 13), .ref (a 14)])) :: (a 6, .inr (5, fs)) :: (tl ++ (rlW ra rf)))) (va_runIN (As := [.int (litI (toLit x)), .int (litI (toLit y))]) (rest := [.ref (o3), .ref (a 6)]) ⟨hx, hb, hml, hown, hts⟩ (metX3_init l G o3 (litI (toLit x)) (litI (toLit y)) _) ⟨(va_cnB 2 hts (lw_meth q259) rfl rfl rfl (hG.nest q257) (hts _ q42) (by decide +kernel) ⟨Nat.le_of_ble_eq_true rfl, Nat.le_of_ble_eq_true rfl⟩), rfl, hts _ q258⟩ (pre_WS (As := [.ref (o3), .int (litI (toLit x)), .int (litI (toLit y))]) hG hP hD hS hA0) rfl rfl hl.1 rfl (lv_room (Nat.le_of_ble_eq_true rfl)) dX1_formula_181 ⟨Nat.le_of_ble_eq_true rfl, Nat.le_of_ble_eq_true rfl⟩) hP hD hS hA (fun w1 H locs hp hP hD hS => ?_)
                subst hp
                have hP : wP G ([(o3, .inr (2, [.int (litI (toLit x)), .int (litI (toLit y))]))] ++ ((a 15, .inr (0, [.ref (a 0), .ref (a 1), .ref (a 2), .ref (a 3), .ref (a 4), .ref (a 5), .ref (a 6), .int (nI (k + 1)), .ref (a 8), .ref (a 9), .int (iv 10), .int (iv 11), .ref (a 12), .int (iv 13), .ref (a 14)])) :: (a 6, .inr (5, fs)) :: (tl ++ (rlW ra rf)))) H := hP
                have hD : va_D A ([(o3, .inr (2, [.int (litI (toLit x)), .int (litI (toLit y))]))] ++ ((a 15, .inr (0, [.ref (a 0), .ref (a 1), .ref (a 2), .ref (a 3), .ref (a 4), .ref (a 5), .ref (a 6), .int (nI (k + 1)), .ref (a 8), .ref (a 9), .int (iv 10), .int (iv 11), .ref (a 12), .int (iv 13), .ref (a 14)])) :: (a 6, .inr (5, fs)) :: (tl ++ (rlW ra rf)))) := hD
                have hP := wP.perm (w' := ((a 15, .inr (0, [.ref (a 0), .ref (a 1), .ref (a 2), .ref (a 3), .ref (a 4), .ref (a 5), .ref (a 6), .int (nI (k + 1)), .ref (a 8), .ref (a 9), .int (iv 10), .int (iv 11), .ref (a 12), .int (iv 13), .ref (a 14)])) :: (a 6, .inr (5, fs)) :: (o3, .inr (2, [.int (litI (toLit x)), .int (litI (toLit y))])) :: (tl ++ (rlW ra rf)))) hP (pm_ (fun _ z => by simp only [List.count_append, List.count_cons, List.count_nil]; omega))
                have hD := va_D.perm (w' := ((a 15, .inr (0, [.ref (a 0), .ref (a 1), .ref (a 2), .ref (a 3), .ref (a 4), .ref (a 5), .ref (a 6), .int (nI (k + 1)), .ref (a 8), .ref (a 9), .int (iv 10), .int (iv 11), .ref (a 12), .int (iv 13), .ref (a 14)])) :: (a 6, .inr (5, fs)) :: (o3, .inr (2, [.int (litI (toLit x)), .int (litI (toLit y))])) :: (tl ++ (rlW ra rf)))) hD (pm_ (fun _ z => by simp only [List.count_append, List.count_cons, List.count_nil]; omega))
                have hoko3 : ∀ z ∈ (rf ++ [(o3, rE ((toLit x)) ((toLit y)))]), rlOk z.2 := rl_push hrf (Or.inl ⟨rfl, ⟨hx2, hx4⟩, ⟨hy2, hy4⟩⟩)
                have hwso3 : rlW ra (rf ++ [(o3, rE ((toLit x)) ((toLit y)))]) = rlW ra rf ++ [(o3, .inr (2, [.int (litI (toLit x)), .int (litI (toLit y))]))] := by rw [rlW_app]; rfl
                have hvso3 : ∀ z ∈ ((rf ++ [(o3, rE ((toLit x)) ((toLit y)))])).map (·.1), AnyOb G (rlW ra rf ++ [(o3, .inr (2, [.int (litI (toLit x)), .int (litI (toLit y))]))]) z := by rw [← hwso3]; exact AnyOb_rl hoko3
                have hP := wP.perm (w' := ((a 6, .inr (5, fs)) :: (tl ++ ((rlW ra rf ++ [(o3, .inr (2, [.int (litI (toLit x)), .int (litI (toLit y))]))])))) ++ [(a 15, .inr (0, [.ref (a 0), .ref (a 1), .ref (a 2), .ref (a 3), .ref (a 4), .ref (a 5), .ref (a 6), .int (nI (k + 1)), .ref (a 8), .ref (a 9), .int (iv 10), .int (iv 11), .ref (a 12), .int (iv 13), .ref (a 14)]))]) hP (pm_ (fun _ z => by simp only [List.count_append, List.count_cons, List.count_nil]; omega))
                have hD := va_D.perm (w' := ((a 6, .inr (5, fs)) :: (tl ++ ((rlW ra rf ++ [(o3, .inr (2, [.int (litI (toLit x)), .int (litI (toLit y))]))])))) ++ [(a 15, .inr (0, [.ref (a 0), .ref (a 1), .ref (a 2), .ref (a 3), .ref (a 4), .ref (a 5), .ref (a 6), .int (nI (k + 1)), .ref (a 8), .ref (a 9), .int (iv 10), .int (iv 11), .ref (a 12), .int (iv 13), .ref (a 14)]))]) hD (pm_ (fun _ z => by simp only [List.count_append, List.count_cons, List.count_nil]; omega))
                refine clF_i (wr := [(a 15, .inr (0, [.ref (a 0), .ref (a 1), .ref (a 2), .ref (a 3), .ref (a 4), .ref (a 5), .ref (a 6), .int (nI (k + 1)), .ref (a 8), .ref (a 9), .int (iv 10), .int (iv 11), .ref (a 12), .int (iv 13), .ref (a 14)]))]) (va_runF (As := [.ref (o3)]) (rest := []) (hG.K.1 5 _ rfl).2 ⟨hx, hb, hml, hown, hts⟩ (metJ2_add l G (a 6) o3 (rf.map (·.1)) ((a 6, .inr (5, fs)) :: tl) (rlW ra rf ++ [(o3, .inr (2, [.int (litI (toLit x)), .int (litI (toLit y))]))]) hw (hvso3 _ (by simp)) (fun z hz => hvso3 _ (by rw [List.map_append]; exact List.mem_append_left _ hz)) (by rw [List.length_map]; omega) _) (va_cwF 1 hts (lw_F (x := ({ cls := "java/util/List", name := "add", desc := "(Ljava/lang/Object;)Z" } : Jvm.MethodName)) (y := ({ cls := "java/util/ArrayList", name := "add", desc := "(Ljava/lang/Object;)Z" } : Jvm.MethodName)) q272 q276 q278 q32 q280) rfl rfl rfl (hG.face (C := "java/util/ArrayList") (x := ({ cls := "java/util/List", name := "add", desc := "(Ljava/lang/Object;)Z" } : Jvm.MethodName)) (y := ({ cls := "java/util/ArrayList", name := "add", desc := "(Ljava/lang/Object;)Z" } : Jvm.MethodName)) q274 q273 q279 q277 q275 (by decide)) (by decide +kernel) ⟨Nat.le_of_ble_eq_true rfl, Nat.le_of_ble_eq_true rfl⟩) (pre_WV (q0 := 0) hG hP hD hS hA0 rfl rfl) rfl rfl hl.1 rfl (lv_room (Nat.le_of_ble_eq_true rfl)) dX1_formula_184 ⟨Nat.le_of_ble_eq_true rfl, Nat.le_of_ble_eq_true rfl⟩) hP hD hS hA (fun r_184 w1 H locs hp hP hD hS => ?_)
                obtain ⟨rfl, w2, hw2, rfl⟩ := hp
                obtain ⟨fso3, tlo3, rfl⟩ := hw2.cons
                have hw := hw2
                have hw : AL G (a 6) ((rf ++ [(o3, rE ((toLit x)) ((toLit y)))]).map (·.1)) ((a 6, .inr (5, fso3)) :: tlo3) := by rw [List.map_append] at *; simpa using hw2
                rw [← hwso3] at hP hD
                have hP := wP.perm (w' := ((a 15, .inr (0, [.ref (a 0), .ref (a 1), .ref (a 2), .ref (a 3), .ref (a 4), .ref (a 5), .ref (a 6), .int (nI (k + 1)), .ref (a 8), .ref (a 9), .int (iv 10), .int (iv 11), .ref (a 12), .int (iv 13), .ref (a 14)])) :: (a 6, .inr (5, fso3)) :: (tlo3 ++ (rlW ra (rf ++ [(o3, rE ((toLit x)) ((toLit y)))]))))) hP (pm_ (fun _ z => by simp only [List.count_append, List.count_cons, List.count_nil]; omega))
                have hD := va_D.perm (w' := ((a 15, .inr (0, [.ref (a 0), .ref (a 1), .ref (a 2), .ref (a 3), .ref (a 4), .ref (a 5), .ref (a 6), .int (nI (k + 1)), .ref (a 8), .ref (a 9), .int (iv 10), .int (iv 11), .ref (a 12), .int (iv 13), .ref (a 14)])) :: (a 6, .inr (5, fso3)) :: (tlo3 ++ (rlW ra (rf ++ [(o3, rE ((toLit x)) ((toLit y)))]))))) hD (pm_ (fun _ z => by simp only [List.count_append, List.count_cons, List.count_nil]; omega))
                refine lv_pop hx hb dX1_formula_189 rfl ?_
                refine lv_goto (tgt := 233) hx hb dX1_formula_190 (by decide) ?_
                refine lv_aload_n hx hb dX1_formula_233 rfl (lv_at hl 1 rfl) ?_
                refine lv_iconst (v := 0) hx hb dX1_formula_234 (by decide) ?_
                refine va_put (D := gD G) (ci := 0) (v := .int (0)) (ty := .boolean) (C := RX1) (T := TX1) (N := 15) hx hb hts in_X1 tyX1 tyX1_ok nmX1 hown hG.K hP hD hS 0 rfl rfl 10 (by decide) (hts _ q174) (fun _ h9 => h9) rfl (by decide +kernel) rfl rfl (Nat.le_of_ble_eq_true rfl) dX1_formula_235 (fun H locs hP hD hS => ?_)
                have hP : wP G ((a 15, .inr (0, [.ref (a 0), .ref (a 1), .ref (a 2), .ref (a 3), .ref (a 4), .ref (a 5), .ref (a 6), .int (nI (k + 1)), .ref (a 8), .ref (a 9), .int (0), .int (iv 11), .ref (a 12), .int (iv 13), .ref (a 14)])) :: (a 6, .inr (5, fso3)) :: (tlo3 ++ (rlW ra (rf ++ [(o3, rE ((toLit x)) ((toLit y)))])))) H := hP
                have hD : va_D A ((a 15, .inr (0, [.ref (a 0), .ref (a 1), .ref (a 2), .ref (a 3), .ref (a 4), .ref (a 5), .ref (a 6), .int (nI (k + 1)), .ref (a 8), .ref (a 9), .int (0), .int (iv 11), .ref (a 12), .int (iv 13), .ref (a 14)])) :: (a 6, .inr (5, fso3)) :: (tlo3 ++ (rlW ra (rf ++ [(o3, rE ((toLit x)) ((toLit y)))])))) := hD
                refine lv_aload_n hx hb dX1_formula_238 rfl (lv_at hl 1 rfl) ?_
                refine va_get (D := gD G) (ci := 0) (v := .int (nI (k + 1))) (C := RX1) (T := TX1) (N := 15) hx hb hts in_X1 hown hG.K hP 0 rfl rfl 7 (by decide) (hts _ q171) (fun _ h9 => h9) rfl dX1_formula_239 ?_
                exact ret (nI (k + 1)) _ 242 ls _ _ _ _ dX1_formula_242 rfl (Nat.le_of_ble_eq_true rfl) (Nat.le_of_ble_eq_true rfl) hP hD hS (by subst hnS hkS; exact Or.inr ⟨[(o3, rE ((toLit x)) ((toLit y)))], _, hw, fo_5 h5 h13 k1 k2 h39 h82, rfl, hoko3, rfl⟩)
              · skip
                refine lv_tableOut (tgt := 193) hx hb dX1_formula_98 (Or.inr (by decide)) (by decide) ?_
                refine lv_aload_n hx hb dX1_formula_193 rfl (lv_at hl 1 rfl) ?_
                refine va_get (D := gD G) (ci := 0) (v := .ref (a 6)) (C := RX1) (T := TX1) (N := 15) hx hb hts in_X1 hown hG.K hP 0 rfl rfl 6 (by decide) (hts _ q170) (fun _ h9 => h9) rfl dX1_formula_194 ?_
                refine va_new (D := gD G) (ci := 2) (fs := [.int (0), .int (0)]) (C := RX3) (T := TX3) (N := 2) hx hb hts in_X3 tyX3 tyX3_ok hown (hts _ q255) (hts _ q256) (hts _ q42) hG.K hP hD hS hA rfl (fun j hj => match j, hj with | 0, _ => rfl | 1, _ => rfl | j + 2, hj => absurd hj (by omega)) (Nat.le_of_ble_eq_true rfl) (Nat.le_of_ble_eq_true rfl) dX1_formula_197 (fun o4 H hP hD hS => ?_)
                have hP := wP.perm hP (List.perm_append_singleton _ _).symm
                have hD := va_D.perm hD (List.perm_append_singleton _ _).symm
                have hP : wP G ((o4, .inr (2, [.int (0), .int (0)])) :: (a 15, .inr (0, [.ref (a 0), .ref (a 1), .ref (a 2), .ref (a 3), .ref (a 4), .ref (a 5), .ref (a 6), .int (nI (k + 1)), .ref (a 8), .ref (a 9), .int (iv 10), .int (iv 11), .ref (a 12), .int (iv 13), .ref (a 14)])) :: (a 6, .inr (5, fs)) :: (tl ++ (rlW ra rf))) H := hP
                have hD : va_D A ((o4, .inr (2, [.int (0), .int (0)])) :: (a 15, .inr (0, [.ref (a 0), .ref (a 1), .ref (a 2), .ref (a 3), .ref (a 4), .ref (a 5), .ref (a 6), .int (nI (k + 1)), .ref (a 8), .ref (a 9), .int (iv 10), .int (iv 11), .ref (a 12), .int (iv 13), .ref (a 14)])) :: (a 6, .inr (5, fs)) :: (tl ++ (rlW ra rf))) := hD
                refine lv_dup hx hb dX1_formula_200 rfl ?_
                refine lv_iload_n hx hb dX1_formula_201 rfl (lv_at hl 3 rfl) ?_
                refine lv_ineg hx hb dX1_formula_202 ?_
                refine top_i (y := litI (ng (toLit x))) (by rw [litI_ng, hx1]) ?_
                refine lv_iload_n hx hb dX1_formula_203 rfl (lv_at hl 4 rfl) ?_
                refine top_i (y := litI (toLit y)) (hy1.symm) ?_
                have hP := wP.perm (w' := [(o4, .inr (2, [.int (0), .int (0)]))] ++ ((a 15, .inr (0, [.ref (a 0), .ref (a 1), .ref (a 2), .ref (a 3), .ref (a 4), .ref (a 5), .ref (a 6), .int (nI (k + 1)), .ref (a 8), .ref (a 9), .int (iv 10), .int (iv 11), .ref (a 12), .int (iv 13), .ref (a 14)])) :: (a 6, .inr (5, fs)) :: (tl ++ (rlW ra rf)))) hP (pm_ (fun _ z => by simp only [List.count_append, List.count_cons, List.count_nil]; omega))
                have hD := va_D.perm (w' := [(o4, .inr (2, [.int (0), .int (0)]))] ++ ((a 15, .inr (0, [.ref (a 0), .ref (a 1), .ref (a 2), .ref (a 3), .ref (a 4), .ref (a 5), .ref (a 6), .int (nI (k + 1)), .ref (a 8), .ref (a 9), .int (iv 10), .int (iv 11), .ref (a 12), .int (iv 13), .ref (a 14)])) :: (a 6, .inr (5, fs)) :: (tl ++ (rlW ra rf)))) hD (pm_ (fun _ z => by simp only [List.count_append, List.count_cons, List.count_nil]; omega))
                refine cl_v (wr := ((a 15, .inr (0, [.ref (a 0), .ref (a 1), .ref (a 2), .ref (a 3), .ref (a 4), .ref (a 5), .ref (a 6), .int (nI (k + 1)), .ref (a 8), .ref (a 9), .int (iv 10), .int (iv 11), .ref (a 12), .int (iv 13), .ref (a 14)])) :: (a 6, .inr (5, fs)) :: (tl ++ (rlW ra rf)))) (va_runIN (As := [.int (litI (ng (toLit x))), .int (litI (toLit y))]) (rest := [.ref (o4), .ref (a 6)]) ⟨hx, hb, hml, hown, hts⟩ (metX3_init l G o4 (litI (ng (toLit x))) (litI (toLit y)) _) ⟨(va_cnB 2 hts (lw_meth q259) rfl rfl rfl (hG.nest q257) (hts _ q42) (by decide +kernel) ⟨Nat.le_of_ble_eq_true rfl, Nat.le_of_ble_eq_true rfl⟩), rfl, hts _ q258⟩ (pre_WS (As := [.ref (o4), .int (litI (ng (toLit x))), .int (litI (toLit y))]) hG hP hD hS hA0) rfl rfl hl.1 rfl (lv_room (Nat.le_of_ble_eq_true rfl)) dX1_formula_204 ⟨Nat.le_of_ble_eq_true rfl, Nat.le_of_ble_eq_true rfl⟩) hP hD hS hA (fun w1 H locs hp hP hD hS => ?_)
                subst hp
                have hP : wP G ([(o4, .inr (2, [.int (litI (ng (toLit x))), .int (litI (toLit y))]))] ++ ((a 15, .inr (0, [.ref (a 0), .ref (a 1), .ref (a 2), .ref (a 3), .ref (a 4), .ref (a 5), .ref (a 6), .int (nI (k + 1)), .ref (a 8), .ref (a 9), .int (iv 10), .int (iv 11), .ref (a 12), .int (iv 13), .ref (a 14)])) :: (a 6, .inr (5, fs)) :: (tl ++ (rlW ra rf)))) H := hP
                have hD : va_D A ([(o4, .inr (2, [.int (litI (ng (toLit x))), .int (litI (toLit y))]))] ++ ((a 15, .inr (0, [.ref (a 0), .ref (a 1), .ref (a 2), .ref (a 3), .ref (a 4), .ref (a 5), .ref (a 6), .int (nI (k + 1)), .ref (a 8), .ref (a 9), .int (iv 10), .int (iv 11), .ref (a 12), .int (iv 13), .ref (a 14)])) :: (a 6, .inr (5, fs)) :: (tl ++ (rlW ra rf)))) := hD
                have hP := wP.perm (w' := ((a 15, .inr (0, [.ref (a 0), .ref (a 1), .ref (a 2), .ref (a 3), .ref (a 4), .ref (a 5), .ref (a 6), .int (nI (k + 1)), .ref (a 8), .ref (a 9), .int (iv 10), .int (iv 11), .ref (a 12), .int (iv 13), .ref (a 14)])) :: (a 6, .inr (5, fs)) :: (o4, .inr (2, [.int (litI (ng (toLit x))), .int (litI (toLit y))])) :: (tl ++ (rlW ra rf)))) hP (pm_ (fun _ z => by simp only [List.count_append, List.count_cons, List.count_nil]; omega))
                have hD := va_D.perm (w' := ((a 15, .inr (0, [.ref (a 0), .ref (a 1), .ref (a 2), .ref (a 3), .ref (a 4), .ref (a 5), .ref (a 6), .int (nI (k + 1)), .ref (a 8), .ref (a 9), .int (iv 10), .int (iv 11), .ref (a 12), .int (iv 13), .ref (a 14)])) :: (a 6, .inr (5, fs)) :: (o4, .inr (2, [.int (litI (ng (toLit x))), .int (litI (toLit y))])) :: (tl ++ (rlW ra rf)))) hD (pm_ (fun _ z => by simp only [List.count_append, List.count_cons, List.count_nil]; omega))
                have hoko4 : ∀ z ∈ (rf ++ [(o4, rE ((ng (toLit x))) ((toLit y)))]), rlOk z.2 := rl_push hrf (Or.inl ⟨rfl, ⟨hx2, hx4⟩, ⟨hy2, hy4⟩⟩)
                have hwso4 : rlW ra (rf ++ [(o4, rE ((ng (toLit x))) ((toLit y)))]) = rlW ra rf ++ [(o4, .inr (2, [.int (litI (ng (toLit x))), .int (litI (toLit y))]))] := by rw [rlW_app]; rfl
                have hvso4 : ∀ z ∈ ((rf ++ [(o4, rE ((ng (toLit x))) ((toLit y)))])).map (·.1), AnyOb G (rlW ra rf ++ [(o4, .inr (2, [.int (litI (ng (toLit x))), .int (litI (toLit y))]))]) z := by rw [← hwso4]; exact AnyOb_rl hoko4
                have hP := wP.perm (w' := ((a 6, .inr (5, fs)) :: (tl ++ ((rlW ra rf ++ [(o4, .inr (2, [.int (litI (ng (toLit x))), .int (litI (toLit y))]))])))) ++ [(a 15, .inr (0, [.ref (a 0), .ref (a 1), .ref (a 2), .ref (a 3), .ref (a 4), .ref (a 5), .ref (a 6), .int (nI (k + 1)), .ref (a 8), .ref (a 9), .int (iv 10), .int (iv 11), .ref (a 12), .int (iv 13), .ref (a 14)]))]) hP (pm_ (fun _ z => by simp only [List.count_append, List.count_cons, List.count_nil]; omega))
                have hD := va_D.perm (w' := ((a 6, .inr (5, fs)) :: (tl ++ ((rlW ra rf ++ [(o4, .inr (2, [.int (litI (ng (toLit x))), .int (litI (toLit y))]))])))) ++ [(a 15, .inr (0, [.ref (a 0), .ref (a 1), .ref (a 2), .ref (a 3), .ref (a 4), .ref (a 5), .ref (a 6), .int (nI (k + 1)), .ref (a 8), .ref (a 9), .int (iv 10), .int (iv 11), .ref (a 12), .int (iv 13), .ref (a 14)]))]) hD (pm_ (fun _ z => by simp only [List.count_append, List.count_cons, List.count_nil]; omega))
                refine clF_i (wr := [(a 15, .inr (0, [.ref (a 0), .ref (a 1), .ref (a 2), .ref (a 3), .ref (a 4), .ref (a 5), .ref (a 6), .int (nI (k + 1)), .ref (a 8), .ref (a 9), .int (iv 10), .int (iv 11), .ref (a 12), .int (iv 13), .ref (a 14)]))]) (va_runF (As := [.ref (o4)]) (rest := []) (hG.K.1 5 _ rfl).2 ⟨hx, hb, hml, hown, hts⟩ (metJ2_add l G (a 6) o4 (rf.map (·.1)) ((a 6, .inr (5, fs)) :: tl) (rlW ra rf ++ [(o4, .inr (2, [.int (litI (ng (toLit x))), .int (litI (toLit y))]))]) hw (hvso4 _ (by simp)) (fun z hz => hvso4 _ (by rw [List.map_append]; exact List.mem_append_left _ hz)) (by rw [List.length_map]; omega) _) (va_cwF 1 hts (lw_F (x := ({ cls := "java/util/List", name := "add", desc := "(Ljava/lang/Object;)Z" } : Jvm.MethodName)) (y := ({ cls := "java/util/ArrayList", name := "add", desc := "(Ljava/lang/Object;)Z" } : Jvm.MethodName)) q272 q276 q278 q32 q280) rfl rfl rfl (hG.face (C := "java/util/ArrayList") (x := ({ cls := "java/util/List", name := "add", desc := "(Ljava/lang/Object;)Z" } : Jvm.MethodName)) (y := ({ cls := "java/util/ArrayList", name := "add", desc := "(Ljava/lang/Object;)Z" } : Jvm.MethodName)) q274 q273 q279 q277 q275 (by decide)) (by decide +kernel) ⟨Nat.le_of_ble_eq_true rfl, Nat.le_of_ble_eq_true rfl⟩) (pre_WV (q0 := 0) hG hP hD hS hA0 rfl rfl) rfl rfl hl.1 rfl (lv_room (Nat.le_of_ble_eq_true rfl)) dX1_formula_207 ⟨Nat.le_of_ble_eq_true rfl, Nat.le_of_ble_eq_true rfl⟩) hP hD hS hA (fun r_207 w1 H locs hp hP hD hS => ?_)
                obtain ⟨rfl, w2, hw2, rfl⟩ := hp
                obtain ⟨fso4, tlo4, rfl⟩ := hw2.cons
                have hw := hw2
                have hw : AL G (a 6) ((rf ++ [(o4, rE ((ng (toLit x))) ((toLit y)))]).map (·.1)) ((a 6, .inr (5, fso4)) :: tlo4) := by rw [List.map_append] at *; simpa using hw2
                rw [← hwso4] at hP hD
                have hP := wP.perm (w' := ((a 15, .inr (0, [.ref (a 0), .ref (a 1), .ref (a 2), .ref (a 3), .ref (a 4), .ref (a 5), .ref (a 6), .int (nI (k + 1)), .ref (a 8), .ref (a 9), .int (iv 10), .int (iv 11), .ref (a 12), .int (iv 13), .ref (a 14)])) :: (a 6, .inr (5, fso4)) :: (tlo4 ++ (rlW ra (rf ++ [(o4, rE ((ng (toLit x))) ((toLit y)))]))))) hP (pm_ (fun _ z => by simp only [List.count_append, List.count_cons, List.count_nil]; omega))
                have hD := va_D.perm (w' := ((a 15, .inr (0, [.ref (a 0), .ref (a 1), .ref (a 2), .ref (a 3), .ref (a 4), .ref (a 5), .ref (a 6), .int (nI (k + 1)), .ref (a 8), .ref (a 9), .int (iv 10), .int (iv 11), .ref (a 12), .int (iv 13), .ref (a 14)])) :: (a 6, .inr (5, fso4)) :: (tlo4 ++ (rlW ra (rf ++ [(o4, rE ((ng (toLit x))) ((toLit y)))]))))) hD (pm_ (fun _ z => by simp only [List.count_append, List.count_cons, List.count_nil]; omega))
                refine lv_pop hx hb dX1_formula_212 rfl ?_
                refine lv_aload_n hx hb dX1_formula_213 rfl (lv_at hl 1 rfl) ?_
                refine va_get (D := gD G) (ci := 0) (v := .ref (a 6)) (C := RX1) (T := TX1) (N := 15) hx hb hts in_X1 hown hG.K hP 0 rfl rfl 6 (by decide) (hts _ q170) (fun _ h9 => h9) rfl dX1_formula_214 ?_
                refine va_new (D := gD G) (ci := 2) (fs := [.int (0), .int (0)]) (C := RX3) (T := TX3) (N := 2) hx hb hts in_X3 tyX3 tyX3_ok hown (hts _ q255) (hts _ q256) (hts _ q42) hG.K hP hD hS hA rfl (fun j hj => match j, hj with | 0, _ => rfl | 1, _ => rfl | j + 2, hj => absurd hj (by omega)) (Nat.le_of_ble_eq_true rfl) (Nat.le_of_ble_eq_true rfl) dX1_formula_217 (fun o5 H hP hD hS => ?_)
                have hP := wP.perm hP (List.perm_append_singleton _ _).symm
                have hD := va_D.perm hD (List.perm_append_singleton _ _).symm
                have hP : wP G ((o5, .inr (2, [.int (0), .int (0)])) :: (a 15, .inr (0, [.ref (a 0), .ref (a 1), .ref (a 2), .ref (a 3), .ref (a 4), .ref (a 5), .ref (a 6), .int (nI (k + 1)), .ref (a 8), .ref (a 9), .int (iv 10), .int (iv 11), .ref (a 12), .int (iv 13), .ref (a 14)])) :: (a 6, .inr (5, fso4)) :: (tlo4 ++ (rlW ra (rf ++ [(o4, rE ((ng (toLit x))) ((toLit y)))])))) H := hP
                have hD : va_D A ((o5, .inr (2, [.int (0), .int (0)])) :: (a 15, .inr (0, [.ref (a 0), .ref (a 1), .ref (a 2), .ref (a 3), .ref (a 4), .ref (a 5), .ref (a 6), .int (nI (k + 1)), .ref (a 8), .ref (a 9), .int (iv 10), .int (iv 11), .ref (a 12), .int (iv 13), .ref (a 14)])) :: (a 6, .inr (5, fso4)) :: (tlo4 ++ (rlW ra (rf ++ [(o4, rE ((ng (toLit x))) ((toLit y)))])))) := hD
                refine lv_dup hx hb dX1_formula_220 rfl ?_
                refine lv_iload_n hx hb dX1_formula_221 rfl (lv_at hl 3 rfl) ?_
                refine top_i (y := litI (toLit x)) (hx1.symm) ?_
                refine lv_iload_n hx hb dX1_formula_222 rfl (lv_at hl 4 rfl) ?_
                refine lv_ineg hx hb dX1_formula_223 ?_
                refine top_i (y := litI (ng (toLit y))) (by rw [litI_ng, hy1]) ?_
                have hP := wP.perm (w' := [(o5, .inr (2, [.int (0), .int (0)]))] ++ ((a 15, .inr (0, [.ref (a 0), .ref (a 1), .ref (a 2), .ref (a 3), .ref (a 4), .ref (a 5), .ref (a 6), .int (nI (k + 1)), .ref (a 8), .ref (a 9), .int (iv 10), .int (iv 11), .ref (a 12), .int (iv 13), .ref (a 14)])) :: (a 6, .inr (5, fso4)) :: (tlo4 ++ (rlW ra (rf ++ [(o4, rE ((ng (toLit x))) ((toLit y)))]))))) hP (pm_ (fun _ z => by simp only [List.count_append, List.count_cons, List.count_nil]; omega))
                have hD := va_D.perm (w' := [(o5, .inr (2, [.int (0), .int (0)]))] ++ ((a 15, .inr (0, [.ref (a 0), .ref (a 1), .ref (a 2), .ref (a 3), .ref (a 4), .ref (a 5), .ref (a 6), .int (nI (k + 1)), .ref (a 8), .ref (a 9), .int (iv 10), .int (iv 11), .ref (a 12), .int (iv 13), .ref (a 14)])) :: (a 6, .inr (5, fso4)) :: (tlo4 ++ (rlW ra (rf ++ [(o4, rE ((ng (toLit x))) ((toLit y)))]))))) hD (pm_ (fun _ z => by simp only [List.count_append, List.count_cons, List.count_nil]; omega))
                refine cl_v (wr := ((a 15, .inr (0, [.ref (a 0), .ref (a 1), .ref (a 2), .ref (a 3), .ref (a 4), .ref (a 5), .ref (a 6), .int (nI (k + 1)), .ref (a 8), .ref (a 9), .int (iv 10), .int (iv 11), .ref (a 12), .int (iv 13), .ref (a 14)])) :: (a 6, .inr (5, fso4)) :: (tlo4 ++ (rlW ra (rf ++ [(o4, rE ((ng (toLit x))) ((toLit y)))]))))) (va_runIN (As := [.int (litI (toLit x)), .int (litI (ng (toLit y)))]) (rest := [.ref (o5), .ref (a 6)]) ⟨hx, hb, hml, hown, hts⟩ (metX3_init l G o5 (litI (toLit x)) (litI (ng (toLit y))) _) ⟨(va_cnB 2 hts (lw_meth q259) rfl rfl rfl (hG.nest q257) (hts _ q42) (by decide +kernel) ⟨Nat.le_of_ble_eq_true rfl, Nat.le_of_ble_eq_true rfl⟩), rfl, hts _ q258⟩ (pre_WS (As := [.ref (o5), .int (litI (toLit x)), .int (litI (ng (toLit y)))]) hG hP hD hS hA0) rfl rfl hl.1 rfl (lv_room (Nat.le_of_ble_eq_true rfl)) dX1_formula_224 ⟨Nat.le_of_ble_eq_true rfl, Nat.le_of_ble_eq_true rfl⟩) hP hD hS hA (fun w1 H locs hp hP hD hS => ?_)
                subst hp
                have hP : wP G ([(o5, .inr (2, [.int (litI (toLit x)), .int (litI (ng (toLit y)))]))] ++ ((a 15, .inr (0, [.ref (a 0), .ref (a 1), .ref (a 2), .ref (a 3), .ref (a 4), .ref (a 5), .ref (a 6), .int (nI (k + 1)), .ref (a 8), .ref (a 9), .int (iv 10), .int (iv 11), .ref (a 12), .int (iv 13), .ref (a 14)])) :: (a 6, .inr (5, fso4)) :: (tlo4 ++ (rlW ra (rf ++ [(o4, rE ((ng (toLit x))) ((toLit y)))]))))) H := hP
                have hD : va_D A ([(o5, .inr (2, [.int (litI (toLit x)), .int (litI (ng (toLit y)))]))] ++ ((a 15, .inr (0, [.ref (a 0), .ref (a 1), .ref (a 2), .ref (a 3), .ref (a 4), .ref (a 5), .ref (a 6), .int (nI (k + 1)), .ref (a 8), .ref (a 9), .int (iv 10), .int (iv 11), .ref (a 12), .int (iv 13), .ref (a 14)])) :: (a 6, .inr (5, fso4)) :: (tlo4 ++ (rlW ra (rf ++ [(o4, rE ((ng (toLit x))) ((toLit y)))]))))) := hD
                have hP := wP.perm (w' := ((a 15, .inr (0, [.ref (a 0), .ref (a 1), .ref (a 2), .ref (a 3), .ref (a 4), .ref (a 5), .ref (a 6), .int (nI (k + 1)), .ref (a 8), .ref (a 9), .int (iv 10), .int (iv 11), .ref (a 12), .int (iv 13), .ref (a 14)])) :: (a 6, .inr (5, fso4)) :: (o5, .inr (2, [.int (litI (toLit x)), .int (litI (ng (toLit y)))])) :: (tlo4 ++ (rlW ra (rf ++ [(o4, rE ((ng (toLit x))) ((toLit y)))]))))) hP (pm_ (fun _ z => by simp only [List.count_append, List.count_cons, List.count_nil]; omega))
                have hD := va_D.perm (w' := ((a 15, .inr (0, [.ref (a 0), .ref (a 1), .ref (a 2), .ref (a 3), .ref (a 4), .ref (a 5), .ref (a 6), .int (nI (k + 1)), .ref (a 8), .ref (a 9), .int (iv 10), .int (iv 11), .ref (a 12), .int (iv 13), .ref (a 14)])) :: (a 6, .inr (5, fso4)) :: (o5, .inr (2, [.int (litI (toLit x)), .int (litI (ng (toLit y)))])) :: (tlo4 ++ (rlW ra (rf ++ [(o4, rE ((ng (toLit x))) ((toLit y)))]))))) hD (pm_ (fun _ z => by simp only [List.count_append, List.count_cons, List.count_nil]; omega))
                have hoko5 : ∀ z ∈ ((rf ++ [(o4, rE ((ng (toLit x))) ((toLit y)))]) ++ [(o5, rE ((toLit x)) ((ng (toLit y))))]), rlOk z.2 := rl_push hoko4 (Or.inl ⟨rfl, ⟨hx2, hx4⟩, ⟨hy2, hy4⟩⟩)
                have hwso5 : rlW ra ((rf ++ [(o4, rE ((ng (toLit x))) ((toLit y)))]) ++ [(o5, rE ((toLit x)) ((ng (toLit y))))]) = rlW ra (rf ++ [(o4, rE ((ng (toLit x))) ((toLit y)))]) ++ [(o5, .inr (2, [.int (litI (toLit x)), .int (litI (ng (toLit y)))]))] := by rw [rlW_app]; rfl
                have hvso5 : ∀ z ∈ (((rf ++ [(o4, rE ((ng (toLit x))) ((toLit y)))]) ++ [(o5, rE ((toLit x)) ((ng (toLit y))))])).map (·.1), AnyOb G (rlW ra (rf ++ [(o4, rE ((ng (toLit x))) ((toLit y)))]) ++ [(o5, .inr (2, [.int (litI (toLit x)), .int (litI (ng (toLit y)))]))]) z := by rw [← hwso5]; exact AnyOb_rl hoko5
                have hP := wP.perm (w' := ((a 6, .inr (5, fso4)) :: (tlo4 ++ ((rlW ra (rf ++ [(o4, rE ((ng (toLit x))) ((toLit y)))]) ++ [(o5, .inr (2, [.int (litI (toLit x)), .int (litI (ng (toLit y)))]))])))) ++ [(a 15, .inr (0, [.ref (a 0), .ref (a 1), .ref (a 2), .ref (a 3), .ref (a 4), .ref (a 5), .ref (a 6), .int (nI (k + 1)), .ref (a 8), .ref (a 9), .int (iv 10), .int (iv 11), .ref (a 12), .int (iv 13), .ref (a 14)]))]) hP (pm_ (fun _ z => by simp only [List.count_append, List.count_cons, List.count_nil]; omega))
                have hD := va_D.perm (w' := ((a 6, .inr (5, fso4)) :: (tlo4 ++ ((rlW ra (rf ++ [(o4, rE ((ng (toLit x))) ((toLit y)))]) ++ [(o5, .inr (2, [.int (litI (toLit x)), .int (litI (ng (toLit y)))]))])))) ++ [(a 15, .inr (0, [.ref (a 0), .ref (a 1), .ref (a 2), .ref (a 3), .ref (a 4), .ref (a 5), .ref (a 6), .int (nI (k + 1)), .ref (a 8), .ref (a 9), .int (iv 10), .int (iv 11), .ref (a 12), .int (iv 13), .ref (a 14)]))]) hD (pm_ (fun _ z => by simp only [List.count_append, List.count_cons, List.count_nil]; omega))
                refine clF_i (wr := [(a 15, .inr (0, [.ref (a 0), .ref (a 1), .ref (a 2), .ref (a 3), .ref (a 4), .ref (a 5), .ref (a 6), .int (nI (k + 1)), .ref (a 8), .ref (a 9), .int (iv 10), .int (iv 11), .ref (a 12), .int (iv 13), .ref (a 14)]))]) (va_runF (As := [.ref (o5)]) (rest := []) (hG.K.1 5 _ rfl).2 ⟨hx, hb, hml, hown, hts⟩ (metJ2_add l G (a 6) o5 ((rf ++ [(o4, rE ((ng (toLit x))) ((toLit y)))]).map (·.1)) ((a 6, .inr (5, fso4)) :: tlo4) (rlW ra (rf ++ [(o4, rE ((ng (toLit x))) ((toLit y)))]) ++ [(o5, .inr (2, [.int (litI (toLit x)), .int (litI (ng (toLit y)))]))]) hw (hvso5 _ (by simp)) (fun z hz => hvso5 _ (by rw [List.map_append]; exact List.mem_append_left _ hz)) (by rw [List.length_map, List.length_append, List.length_singleton]; omega) _) (va_cwF 1 hts (lw_F (x := ({ cls := "java/util/List", name := "add", desc := "(Ljava/lang/Object;)Z" } : Jvm.MethodName)) (y := ({ cls := "java/util/ArrayList", name := "add", desc := "(Ljava/lang/Object;)Z" } : Jvm.MethodName)) q272 q276 q278 q32 q280) rfl rfl rfl (hG.face (C := "java/util/ArrayList") (x := ({ cls := "java/util/List", name := "add", desc := "(Ljava/lang/Object;)Z" } : Jvm.MethodName)) (y := ({ cls := "java/util/ArrayList", name := "add", desc := "(Ljava/lang/Object;)Z" } : Jvm.MethodName)) q274 q273 q279 q277 q275 (by decide)) (by decide +kernel) ⟨Nat.le_of_ble_eq_true rfl, Nat.le_of_ble_eq_true rfl⟩) (pre_WV (q0 := 0) hG hP hD hS hA0 rfl rfl) rfl rfl hl.1 rfl (lv_room (Nat.le_of_ble_eq_true rfl)) dX1_formula_227 ⟨Nat.le_of_ble_eq_true rfl, Nat.le_of_ble_eq_true rfl⟩) hP hD hS hA (fun r_227 w1 H locs hp hP hD hS => ?_)
                obtain ⟨rfl, w2, hw2, rfl⟩ := hp
                obtain ⟨fso5, tlo5, rfl⟩ := hw2.cons
                have hw := hw2
                have hw : AL G (a 6) ((rf ++ [(o4, rE ((ng (toLit x))) ((toLit y))), (o5, rE ((toLit x)) ((ng (toLit y))))]).map (·.1)) ((a 6, .inr (5, fso5)) :: tlo5) := by simpa using hw2
                rw [List.append_assoc rf, List.cons_append, List.nil_append] at hwso5
                rw [← hwso5] at hP hD
                have hP := wP.perm (w' := ((a 15, .inr (0, [.ref (a 0), .ref (a 1), .ref (a 2), .ref (a 3), .ref (a 4), .ref (a 5), .ref (a 6), .int (nI (k + 1)), .ref (a 8), .ref (a 9), .int (iv 10), .int (iv 11), .ref (a 12), .int (iv 13), .ref (a 14)])) :: (a 6, .inr (5, fso5)) :: (tlo5 ++ (rlW ra (rf ++ [(o4, rE ((ng (toLit x))) ((toLit y))), (o5, rE ((toLit x)) ((ng (toLit y))))]))))) hP (pm_ (fun _ z => by simp only [List.count_append, List.count_cons, List.count_nil]; omega))
                have hD := va_D.perm (w' := ((a 15, .inr (0, [.ref (a 0), .ref (a 1), .ref (a 2), .ref (a 3), .ref (a 4), .ref (a 5), .ref (a 6), .int (nI (k + 1)), .ref (a 8), .ref (a 9), .int (iv 10), .int (iv 11), .ref (a 12), .int (iv 13), .ref (a 14)])) :: (a 6, .inr (5, fso5)) :: (tlo5 ++ (rlW ra (rf ++ [(o4, rE ((ng (toLit x))) ((toLit y))), (o5, rE ((toLit x)) ((ng (toLit y))))]))))) hD (pm_ (fun _ z => by simp only [List.count_append, List.count_cons, List.count_nil]; omega))
                refine lv_pop hx hb dX1_formula_232 rfl ?_
                refine lv_aload_n hx hb dX1_formula_233 rfl (lv_at hl 1 rfl) ?_
                refine lv_iconst (v := 0) hx hb dX1_formula_234 (by decide) ?_
                refine va_put (D := gD G) (ci := 0) (v := .int (0)) (ty := .boolean) (C := RX1) (T := TX1) (N := 15) hx hb hts in_X1 tyX1 tyX1_ok nmX1 hown hG.K hP hD hS 0 rfl rfl 10 (by decide) (hts _ q174) (fun _ h9 => h9) rfl (by decide +kernel) rfl rfl (Nat.le_of_ble_eq_true rfl) dX1_formula_235 (fun H locs hP hD hS => ?_)
                have hP : wP G ((a 15, .inr (0, [.ref (a 0), .ref (a 1), .ref (a 2), .ref (a 3), .ref (a 4), .ref (a 5), .ref (a 6), .int (nI (k + 1)), .ref (a 8), .ref (a 9), .int (0), .int (iv 11), .ref (a 12), .int (iv 13), .ref (a 14)])) :: (a 6, .inr (5, fso5)) :: (tlo5 ++ (rlW ra (rf ++ [(o4, rE ((ng (toLit x))) ((toLit y))), (o5, rE ((toLit x)) ((ng (toLit y))))])))) H := hP
                have hD : va_D A ((a 15, .inr (0, [.ref (a 0), .ref (a 1), .ref (a 2), .ref (a 3), .ref (a 4), .ref (a 5), .ref (a 6), .int (nI (k + 1)), .ref (a 8), .ref (a 9), .int (0), .int (iv 11), .ref (a 12), .int (iv 13), .ref (a 14)])) :: (a 6, .inr (5, fso5)) :: (tlo5 ++ (rlW ra (rf ++ [(o4, rE ((ng (toLit x))) ((toLit y))), (o5, rE ((toLit x)) ((ng (toLit y))))])))) := hD
                refine lv_aload_n hx hb dX1_formula_238 rfl (lv_at hl 1 rfl) ?_
                refine va_get (D := gD G) (ci := 0) (v := .int (nI (k + 1))) (C := RX1) (T := TX1) (N := 15) hx hb hts in_X1 hown hG.K hP 0 rfl rfl 7 (by decide) (hts _ q171) (fun _ h9 => h9) rfl dX1_formula_239 ?_
                exact ret (nI (k + 1)) _ 242 ls _ _ _ _ dX1_formula_242 rfl (Nat.le_of_ble_eq_true rfl) (Nat.le_of_ble_eq_true rfl) hP hD hS (by subst hnS hkS; exact Or.inr ⟨[(o4, rE ((ng (toLit x))) ((toLit y))), (o5, rE ((toLit x)) ((ng (toLit y))))], _, hw, fo_5 h5 h13 k1 k2 h39 h82, rfl, by simpa using hoko5, rfl⟩)
            · have h82 : stAlw op x y = true := b2i_n0.mp c_82
              refine lv_iconst (v := 0) hx hb dX1_formula_85 (by decide) ?_
              exact ret (0) _ 86 ls _ _ _ _ dX1_formula_86 rfl (Nat.le_of_ble_eq_true rfl) (Nat.le_of_ble_eq_true rfl) hP hD hS (by subst hnS hkS; exact Or.inl ⟨fo_4 h5 h13 k1 k2 h39 h82, _, hw, rfl⟩)
          refine lv_iload_n hx hb dX1_formula_45 rfl (lv_at hl 1 rfl) ?_
          refine lv_if_eq (tgt := 54) hx hb dX1_formula_46 (by decide) (fun c_46 => ?_) (fun c_46 => ?_)
          · skip
            refine lv_iload_n hx hb dX1_formula_54 rfl (lv_at hl 2 rfl) ?_
            refine lv_iload_n hx hb dX1_formula_55 rfl (lv_at hl 3 rfl) ?_
            refine lv_icmp_ne (tgt := 63) hx hb dX1_formula_56 (by decide) (fun c_56 => ?_) (fun c_56 => ?_)
            · skip
              refine lv_iconst (v := 0) hx hb dX1_formula_63 (by decide) ?_
              refine lv_goto (tgt := 78) hx hb dX1_formula_64 (by decide) ?_
              exact J78 _ (by simp [stAlw, b2i, *]) _ _ hP hD hS ls hl
            · skip
              refine lv_iconst (v := 1) hx hb dX1_formula_59 (by decide) ?_
              refine lv_goto (tgt := 78) hx hb dX1_formula_60 (by decide) ?_
              exact J78 _ (by simp [stAlw, b2i, *]) _ _ hP hD hS ls hl
          · skip
            refine lv_iload_n hx hb dX1_formula_49 rfl (lv_at hl 1 rfl) ?_
            refine lv_iconst (v := 3) hx hb dX1_formula_50 (by decide) ?_
            refine lv_icmp_ne (tgt := 67) hx hb dX1_formula_51 (by decide) (fun c_51 => ?_) (fun c_51 => ?_)
            · skip
              refine lv_iload_n hx hb dX1_formula_67 rfl (lv_at hl 2 rfl) ?_
              refine lv_iload_n hx hb dX1_formula_68 rfl (lv_at hl 3 rfl) ?_
              refine lv_ineg hx hb dX1_formula_69 ?_
              refine lv_icmp_ne (tgt := 77) hx hb dX1_formula_70 (by decide) (fun c_70 => ?_) (fun c_70 => ?_)
              · skip
                refine lv_iconst (v := 0) hx hb dX1_formula_77 (by decide) ?_
                exact J78 _ (by simp [stAlw, b2i, *]) _ _ hP hD hS ls hl
              · skip
                refine lv_iconst (v := 1) hx hb dX1_formula_73 (by decide) ?_
                refine lv_goto (tgt := 78) hx hb dX1_formula_74 (by decide) ?_
                exact J78 _ (by simp [stAlw, b2i, *]) _ _ hP hD hS ls hl
            · skip
              refine lv_iload_n hx hb dX1_formula_54 rfl (lv_at hl 2 rfl) ?_
              refine lv_iload_n hx hb dX1_formula_55 rfl (lv_at hl 3 rfl) ?_
              refine lv_icmp_ne (tgt := 63) hx hb dX1_formula_56 (by decide) (fun c_56 => ?_) (fun c_56 => ?_)
              · skip
                refine lv_iconst (v := 0) hx hb dX1_formula_63 (by decide) ?_
                refine lv_goto (tgt := 78) hx hb dX1_formula_64 (by decide) ?_
                exact J78 _ (by simp [stAlw, b2i, *]) _ _ hP hD hS ls hl
              · skip
                refine lv_iconst (v := 1) hx hb dX1_formula_59 (by decide) ?_
                refine lv_goto (tgt := 78) hx hb dX1_formula_60 (by decide) ?_
                exact J78 _ (by simp [stAlw, b2i, *]) _ _ hP hD hS ls hl
        · have h39 : k = 40 := nI_e (a := k) (b := 40) c_39
          refine lv_bipush (v := (-4)) hx hb dX1_formula_42 (by decide) ?_
          exact ret (-4) _ 44 ls _ _ _ _ dX1_formula_44 rfl (Nat.le_of_ble_eq_true rfl) (Nat.le_of_ble_eq_true rfl) hP hD hS (by subst hnS hkS; exact Or.inl ⟨fo_3 h5 h13 k1 k2 h39, _, hw, rfl⟩)
      · have h27 : op < 0 ∨ 3 < op := nb_f c_27
        refine lv_bipush (v := (-2)) hx hb dX1_formula_30 (by decide) ?_
        exact ret (-2) _ 32 ls _ _ _ _ dX1_formula_32 rfl (Nat.le_of_ble_eq_true rfl) (Nat.le_of_ble_eq_true rfl) hP hD hS (by subst hnS; exact Or.inl ⟨fo_2 h5 h13 h27, _, hw, rfl⟩)
    · have h13 : isL y (nI n) = false := b2i_0.mp c_13
      refine lv_iconst (v := (-1)) hx hb dX1_formula_16 (by decide) ?_
      exact ret (-1) _ 17 ls _ _ _ _ dX1_formula_17 rfl (Nat.le_of_ble_eq_true rfl) (Nat.le_of_ble_eq_true rfl) hP hD hS (by subst hnS; exact Or.inl ⟨fo_1 (Or.inr h13), _, hw, rfl⟩)
