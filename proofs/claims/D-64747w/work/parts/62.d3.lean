theorem any_I {G : Gt} {U : State} {H : Heap} {y : Nat} (hr : ∃ cell : Cell, H[y]? = some cell ∧ cell.vm.isStatics = false ∧ U.vm.findClass "java/lang/Integer" = some cell.cls) : va_Any "java/lang/Integer" U H y := by
  obtain ⟨cell, h1, h2, h3⟩ := hr
  obtain ⟨kC, hk, -⟩ := Vm.findClass_spec h3
  exact ⟨cell, h1, h2, ⟨kC, hk⟩, fun comp hc => by rw [h3] at hc; cases hc; exact asg_rf _ _⟩
theorem au_1 {S : St} {x wh v : Int32} (h1 : ¬ x = 0) (h2 : isF x (nI (sN S)) = false) : stAttr S x wh v = (-1, S) := by simp [stAttr, h1, h2]
theorem au_2f {S : St} {x wh v : Int32} (h1 : ¬ x = 0) (h2 : isF x (nI (sN S)) = true) (h3 : wh < 0 ∨ 3 < wh ∨ v < -1000 ∨ 1000 < v) : stAttr S x wh v = (-2, S) := by
  unfold stAttr stBd
  rw [if_neg (by simp [h1, h2]), if_neg h1, if_pos h3]
theorem au_2z {S : St} {x wh v : Int32} (h1 : x = 0) (h3 : wh < 0 ∨ 3 < wh ∨ v < -10000 ∨ 10000 < v) : stAttr S x wh v = (-2, S) := by
  unfold stAttr stBd
  rw [if_neg (by simp [h1]), if_pos h1, if_pos h3]
theorem au_3 {S : St} {x wh v : Int32} (h1 : x = 0) (k1 : ¬ wh < 0) (k2 : ¬ 3 < wh) (k3 : ¬ v < -10000) (k4 : ¬ 10000 < v) : stAttr S x wh v = (1, (sN S, sPa S, sKi S, sGr S, sNf S, sFo S, sAt S, va_up (sLm S) (iN wh) (some v), S.2.2.2.2.2.2.2.2)) := by
  unfold stAttr stBd
  rw [if_neg (by simp [h1]), if_pos h1, if_neg (by simp only [not_or]; exact ⟨k1, k2, k3, k4⟩), if_pos h1]
theorem au_4 {S : St} {x wh v : Int32} (h1 : ¬ x = 0) (h2 : isF x (nI (sN S)) = true) (k1 : ¬ wh < 0) (k2 : ¬ 3 < wh) (k3 : ¬ v < -1000) (k4 : ¬ 1000 < v) : stAttr S x wh v = (1, (sN S, sPa S, sKi S, sGr S, sNf S, sFo S, va_up (sAt S) (iN wh) (va_up (sAt S (iN wh)) (iN x) v), S.2.2.2.2.2.2.2)) := by
  unfold stAttr stBd
  rw [if_neg (by simp [h1, h2]), if_neg h1, if_neg (by simp only [not_or]; exact ⟨k1, k2, k3, k4⟩), if_neg h1]
set_option maxHeartbeats 4000000 in
set_option maxRecDepth 100000 in
theorem metX1_attribute (l : Launch) (G : Gt) (a : Nat → Nat) (iv : Nat → Int32) (ra : Nat → Nat) (av : Nat → Nat → Int32) (lf : Nat → Option Nat) (S : St) (n : Nat) (hnS : n = sN S) (hn : iv 11 = nI n) (hW : WS S) (x wh v : Int32) (sz : Nat) : CWi l G yX1_attribute cX1_attribute 6 .int 4 1 1 73 [.ref (a 15), .int (x), .int (wh), .int (v)] [(a 15, .inr (0, [.ref (a 0), .ref (a 1), .ref (a 2), .ref (a 3), .ref (a 4), .ref (a 5), .ref (a 6), .int (iv 7), .ref (a 8), .ref (a 9), .int (iv 10), .int (iv 11), .ref (a 12), .int (iv 13), .ref (a 14)])), (a 3, .inl (gA G 6, 4, .inr (.inr (.inr (.inr (fun k => some (ra k))))))), (a 4, .inl (gA G 4, 4, .inr (.inr (.inr (.inr (lf)))))), (ra 0, .inl (gA G 0, 15, .inl (av 0))), (ra 1, .inl (gA G 0, 15, .inl (av 1))), (ra 2, .inl (gA G 0, 15, .inl (av 2))), (ra 3, .inl (gA G 0, 15, .inl (av 3)))] sz (fun r w1 => (stAttr S x wh v = (r, S) ∧ w1 = [(a 15, .inr (0, [.ref (a 0), .ref (a 1), .ref (a 2), .ref (a 3), .ref (a 4), .ref (a 5), .ref (a 6), .int (iv 7), .ref (a 8), .ref (a 9), .int (iv 10), .int (iv 11), .ref (a 12), .int (iv 13), .ref (a 14)])), (a 3, .inl (gA G 6, 4, .inr (.inr (.inr (.inr (fun k => some (ra k))))))), (a 4, .inl (gA G 4, 4, .inr (.inr (.inr (.inr (lf)))))), (ra 0, .inl (gA G 0, 15, .inl (av 0))), (ra 1, .inl (gA G 0, 15, .inl (av 1))), (ra 2, .inl (gA G 0, 15, .inl (av 2))), (ra 3, .inl (gA G 0, 15, .inl (av 3)))]) ∨ (∃ g j, x = nI g ∧ wh = nI j ∧ 1 ≤ g ∧ g ≤ sN S ∧ j < 4 ∧ stAttr S x wh v = (r, (sN S, sPa S, sKi S, sGr S, sNf S, sFo S, va_up (sAt S) (iN wh) (va_up (sAt S (iN wh)) (iN x) v), S.2.2.2.2.2.2.2)) ∧ w1 = xC a (va_up iv 10 0) :: (a 3, .inl (gA G 6, 4, .inr (.inr (.inr (.inr (fun k => some (ra k))))))) :: (a 4, .inl (gA G 4, 4, .inr (.inr (.inr (.inr (lf)))))) :: rwW G ra (va_up av j (upd (av j) g v))) ∨ ∃ j y wb, x = 0 ∧ wh = nI j ∧ j < 4 ∧ bxW G v y wb ∧ stAttr S x wh v = (r, (sN S, sPa S, sKi S, sGr S, sNf S, sFo S, sAt S, va_up (sLm S) (iN wh) (some v), S.2.2.2.2.2.2.2.2)) ∧ w1 = xC a (va_up iv 10 0) :: (a 3, .inl (gA G 6, 4, .inr (.inr (.inr (.inr (fun k => some (ra k))))))) :: (a 4, .inl (gA G 4, 4, .inr (.inr (.inr (.inr (va_up lf j (some y))))))) :: (rwW G ra av ++ wb)) := by
  refine mkWi (by decide) (Nat.le_of_ble_eq_true rfl) ?_
  intro p e s m args below meth c Q A hx hb hts hown hin hml hG hsz hP hD hA hA0 hS ret ls hl
  have hn4 : n ≤ 14 := by rw [hnS]; exact hW.1
  refine lv_iload_n hx hb dX1_attribute_0 rfl (lv_at hl 1 rfl) ?_
  refine lv_if_eq (tgt := 14) hx hb dX1_attribute_1 (by decide) (fun c_1 => ?_) (fun c_1 => ?_)
  · skip
    refine lv_iload_n hx hb dX1_attribute_14 rfl (lv_at hl 1 rfl) ?_
    refine lv_if_ne (tgt := 24) hx hb dX1_attribute_15 (by decide) (fun c_15 => absurd c_15 (fun h => h c_1)) (fun c_15 => ?_)
    refine lv_ldc2 (v := (10000)) hx hb hown (hts _ q342) dX1_attribute_18 ?_
    refine lv_goto (tgt := 27) hx hb dX1_attribute_21 (by decide) ?_
    refine lv_lstore (lv' := [(4, .long (10000)), (0, .ref (a 15)), (1, .int (x)), (2, .int (wh)), (3, .int (v))]) hx hb dX1_attribute_27 hl (by decide) rfl (fun ls hl => ?_)
    refine lv_iload_n hx hb dX1_attribute_29 rfl (lv_at hl 3 rfl) ?_
    refine lv_i2l (v := (wh).toInt64) hx hb dX1_attribute_30 rfl ?_
    refine lv_lconst (v := 0) hx hb dX1_attribute_31 (by decide) ?_
    refine lv_ldc2 (v := (3)) hx hb hown (hts _ q254) dX1_attribute_32 ?_
    refine vp_callSi (W.runS (As := [.long ((wh).toInt64), .long (0), .long (3)]) (rest := []) ⟨hx, hb, hml, hown, hts⟩ (metX1_isIn l G (wh.toInt64) (0) (3)) (va_cwS 3 hts (lw_S q219 q220 q29 q221) rfl rfl rfl (by decide +kernel) ⟨Nat.le_of_ble_eq_true rfl, Nat.le_of_ble_eq_true rfl⟩) (pre_RS hG (wP.mem (w' := []) hP (fun _ h => absurd h List.not_mem_nil)) hS hA0) rfl rfl hl.1 rfl (lv_room (Nat.le_of_ble_eq_true rfl)) dX1_attribute_35 ⟨Nat.le_of_ble_eq_true rfl, Nat.le_of_ble_eq_true rfl⟩) (fun r_35 e_35 => ?_)
    subst e_35
    refine top_i (y := b2i (!decide (wh < 0 ∨ 3 < wh))) (congrArg b2i (in_I (lo := 0) (hi := 3) rfl rfl)) ?_
    refine lv_if_eq (tgt := 54) hx hb dX1_attribute_38 (by decide) (fun c_38 => ?_) (fun c_38 => ?_)
    · have h38 : wh < 0 ∨ 3 < wh := nb_f c_38
      refine lv_bipush (v := (-2)) hx hb dX1_attribute_54 (by decide) ?_
      exact ret (-2) _ 56 ls _ _ _ _ dX1_attribute_56 rfl (Nat.le_of_ble_eq_true rfl) (Nat.le_of_ble_eq_true rfl) hP hD hS (by subst hnS; exact Or.inl ⟨au_2z c_1 (h38.elim Or.inl (fun h => Or.inr (Or.inl h))), rfl⟩)
    · have h38 : ¬ (wh < 0 ∨ 3 < wh) := nb_t c_38; have k1 : ¬ wh < 0 := fun h => h38 (Or.inl h); have k2 : ¬ 3 < wh := fun h => h38 (Or.inr h)
      refine lv_iload_n hx hb dX1_attribute_41 rfl (lv_at hl 4 rfl) ?_
      refine lv_i2l (v := (v).toInt64) hx hb dX1_attribute_42 rfl ?_
      refine lv_lload hx hb dX1_attribute_43 (lv_at hl 0 rfl) ?_
      refine lv_lneg hx hb dX1_attribute_45 ?_
      refine lv_lload hx hb dX1_attribute_46 (lv_at hl 0 rfl) ?_
      refine vp_callSi (W.runS (As := [.long ((v).toInt64), .long (-(10000)), .long (10000)]) (rest := []) ⟨hx, hb, hml, hown, hts⟩ (metX1_isIn l G (v.toInt64) (-(10000)) (10000)) (va_cwS 3 hts (lw_S q219 q220 q29 q221) rfl rfl rfl (by decide +kernel) ⟨Nat.le_of_ble_eq_true rfl, Nat.le_of_ble_eq_true rfl⟩) (pre_RS hG (wP.mem (w' := []) hP (fun _ h => absurd h List.not_mem_nil)) hS hA0) rfl rfl hl.1 rfl (lv_room (Nat.le_of_ble_eq_true rfl)) dX1_attribute_48 ⟨Nat.le_of_ble_eq_true rfl, Nat.le_of_ble_eq_true rfl⟩) (fun r_48 e_48 => ?_)
      subst e_48
      refine top_i (y := b2i (!decide (v < -10000 ∨ 10000 < v))) (congrArg b2i (in_I (lo := -10000) (hi := 10000) (by decide) (by decide))) ?_
      refine lv_if_ne (tgt := 57) hx hb dX1_attribute_51 (by decide) (fun c_51 => ?_) (fun c_51 => ?_)
      · have h51 : ¬ (v < -10000 ∨ 10000 < v) := nb_t c_51
        obtain ⟨j, hwj, hj3⟩ := le2_of (k := wh) (m := 3) (by decide) k1 k2
        subst hwj
        refine lv_iload_n hx hb dX1_attribute_57 rfl (lv_at hl 2 rfl) ?_
        refine lv_if_ne (tgt := 74) hx hb dX1_attribute_58 (by decide) (fun c_58 => absurd c_58 (fun h => h c_1)) (fun c_58 => ?_)
        refine lv_aload_n hx hb dX1_attribute_61 rfl (lv_at hl 1 rfl) ?_
        refine va_get (D := gD G) (ci := 0) (v := .ref (a 4)) (C := RX1) (T := TX1) (N := 15) hx hb hts in_X1 hown hG.K hP 0 rfl rfl 4 (by decide) (hts _ q168) (fun _ h9 => h9) rfl dX1_attribute_62 ?_
        refine lv_iload_n hx hb dX1_attribute_65 rfl (lv_at hl 3 rfl) ?_
        refine lv_iload_n hx hb dX1_attribute_66 rfl (lv_at hl 4 rfl) ?_
        have hP := wP.perm (w' := [] ++ [(a 15, .inr (0, [.ref (a 0), .ref (a 1), .ref (a 2), .ref (a 3), .ref (a 4), .ref (a 5), .ref (a 6), .int (iv 7), .ref (a 8), .ref (a 9), .int (iv 10), .int (iv 11), .ref (a 12), .int (iv 13), .ref (a 14)])), (a 3, .inl (gA G 6, 4, .inr (.inr (.inr (.inr (fun k => some (ra k))))))), (a 4, .inl (gA G 4, 4, .inr (.inr (.inr (.inr (lf)))))), (ra 0, .inl (gA G 0, 15, .inl (av 0))), (ra 1, .inl (gA G 0, 15, .inl (av 1))), (ra 2, .inl (gA G 0, 15, .inl (av 2))), (ra 3, .inl (gA G 0, 15, .inl (av 3)))]) hP (pm_ (fun _ z => by simp only [List.count_append, List.count_cons, List.count_nil]; omega))
        have hD := va_D.perm (w' := [] ++ [(a 15, .inr (0, [.ref (a 0), .ref (a 1), .ref (a 2), .ref (a 3), .ref (a 4), .ref (a 5), .ref (a 6), .int (iv 7), .ref (a 8), .ref (a 9), .int (iv 10), .int (iv 11), .ref (a 12), .int (iv 13), .ref (a 14)])), (a 3, .inl (gA G 6, 4, .inr (.inr (.inr (.inr (fun k => some (ra k))))))), (a 4, .inl (gA G 4, 4, .inr (.inr (.inr (.inr (lf)))))), (ra 0, .inl (gA G 0, 15, .inl (av 0))), (ra 1, .inl (gA G 0, 15, .inl (av 1))), (ra 2, .inl (gA G 0, 15, .inl (av 2))), (ra 3, .inl (gA G 0, 15, .inl (av 3)))]) hD (pm_ (fun _ z => by simp only [List.count_append, List.count_cons, List.count_nil]; omega))
        refine cl_q (wr := [(a 15, .inr (0, [.ref (a 0), .ref (a 1), .ref (a 2), .ref (a 3), .ref (a 4), .ref (a 5), .ref (a 6), .int (iv 7), .ref (a 8), .ref (a 9), .int (iv 10), .int (iv 11), .ref (a 12), .int (iv 13), .ref (a 14)])), (a 3, .inl (gA G 6, 4, .inr (.inr (.inr (.inr (fun k => some (ra k))))))), (a 4, .inl (gA G 4, 4, .inr (.inr (.inr (.inr (lf)))))), (ra 0, .inl (gA G 0, 15, .inl (av 0))), (ra 1, .inl (gA G 0, 15, .inl (av 1))), (ra 2, .inl (gA G 0, 15, .inl (av 2))), (ra 3, .inl (gA G 0, 15, .inl (av 3)))]) (va_runS (As := [.int (v)]) (rest := [.int (nI j), .ref (a 4)]) ⟨hx, hb, hml, hown, hts⟩ (metJ7_valueOf l G v _) (va_cwS 1 hts (lw_S q344 q345 q39 q346) rfl rfl rfl (by decide +kernel) ⟨Nat.le_of_ble_eq_true rfl, Nat.le_of_ble_eq_true rfl⟩) (pre_WS hG hP hD hS hA0) rfl rfl hl.1 rfl (lv_room (Nat.le_of_ble_eq_true rfl)) dX1_attribute_67 ⟨Nat.le_of_ble_eq_true rfl, Nat.le_of_ble_eq_true rfl⟩) hP hD hS hA (fun r_67 w1 H locs hp hP hD hS => ?_)
        obtain ⟨yb, rfl, hbx⟩ := hp
        have hP := wP.perm (w' := ((a 15, .inr (0, [.ref (a 0), .ref (a 1), .ref (a 2), .ref (a 3), .ref (a 4), .ref (a 5), .ref (a 6), .int (iv 7), .ref (a 8), .ref (a 9), .int (iv 10), .int (iv 11), .ref (a 12), .int (iv 13), .ref (a 14)])) :: (a 3, .inl (gA G 6, 4, .inr (.inr (.inr (.inr (fun k => some (ra k))))))) :: (a 4, .inl (gA G 4, 4, .inr (.inr (.inr (.inr (lf)))))) :: (ra 0, .inl (gA G 0, 15, .inl (av 0))) :: (ra 1, .inl (gA G 0, 15, .inl (av 1))) :: (ra 2, .inl (gA G 0, 15, .inl (av 2))) :: (ra 3, .inl (gA G 0, 15, .inl (av 3))) :: w1)) hP (pm_ (fun _ z => by simp only [List.count_append, List.count_cons, List.count_nil]; omega))
        have hD := va_D.perm (w' := ((a 15, .inr (0, [.ref (a 0), .ref (a 1), .ref (a 2), .ref (a 3), .ref (a 4), .ref (a 5), .ref (a 6), .int (iv 7), .ref (a 8), .ref (a 9), .int (iv 10), .int (iv 11), .ref (a 12), .int (iv 13), .ref (a 14)])) :: (a 3, .inl (gA G 6, 4, .inr (.inr (.inr (.inr (fun k => some (ra k))))))) :: (a 4, .inl (gA G 4, 4, .inr (.inr (.inr (.inr (lf)))))) :: (ra 0, .inl (gA G 0, 15, .inl (av 0))) :: (ra 1, .inl (gA G 0, 15, .inl (av 1))) :: (ra 2, .inl (gA G 0, 15, .inl (av 2))) :: (ra 3, .inl (gA G 0, 15, .inl (av 3))) :: w1)) hD (pm_ (fun _ z => by simp only [List.count_append, List.count_cons, List.count_nil]; omega))
        refine qa_st (j := j) hx hb hG.K hP hD hS 2 4 rfl rfl (any_I (G := G) (bx_recv hbx hG (wP.mem (w' := w1) hP (fun z hz => by simp [hz])) hS hA0)) (by omega) (by omega) dX1_attribute_70 (fun H locs hP hD hS => ?_)
        have hP : wP G ((a 15, .inr (0, [.ref (a 0), .ref (a 1), .ref (a 2), .ref (a 3), .ref (a 4), .ref (a 5), .ref (a 6), .int (iv 7), .ref (a 8), .ref (a 9), .int (iv 10), .int (iv 11), .ref (a 12), .int (iv 13), .ref (a 14)])) :: (a 3, .inl (gA G 6, 4, .inr (.inr (.inr (.inr (fun k => some (ra k))))))) :: (a 4, .inl (gA G 4, 4, .inr (.inr (.inr (.inr (va_up lf (j) (some (yb)))))))) :: (ra 0, .inl (gA G 0, 15, .inl (av 0))) :: (ra 1, .inl (gA G 0, 15, .inl (av 1))) :: (ra 2, .inl (gA G 0, 15, .inl (av 2))) :: (ra 3, .inl (gA G 0, 15, .inl (av 3))) :: w1) H := hP
        have hD : va_D A ((a 15, .inr (0, [.ref (a 0), .ref (a 1), .ref (a 2), .ref (a 3), .ref (a 4), .ref (a 5), .ref (a 6), .int (iv 7), .ref (a 8), .ref (a 9), .int (iv 10), .int (iv 11), .ref (a 12), .int (iv 13), .ref (a 14)])) :: (a 3, .inl (gA G 6, 4, .inr (.inr (.inr (.inr (fun k => some (ra k))))))) :: (a 4, .inl (gA G 4, 4, .inr (.inr (.inr (.inr (va_up lf (j) (some (yb)))))))) :: (ra 0, .inl (gA G 0, 15, .inl (av 0))) :: (ra 1, .inl (gA G 0, 15, .inl (av 1))) :: (ra 2, .inl (gA G 0, 15, .inl (av 2))) :: (ra 3, .inl (gA G 0, 15, .inl (av 3))) :: w1) := hD
        refine lv_goto (tgt := 83) hx hb dX1_attribute_71 (by decide) ?_
        refine lv_aload_n hx hb dX1_attribute_83 rfl (lv_at hl 1 rfl) ?_
        refine lv_iconst (v := 0) hx hb dX1_attribute_84 (by decide) ?_
        refine va_put (D := gD G) (ci := 0) (v := .int (0)) (ty := .boolean) (C := RX1) (T := TX1) (N := 15) hx hb hts in_X1 tyX1 tyX1_ok nmX1 hown hG.K hP hD hS 0 rfl rfl 10 (by decide) (hts _ q174) (fun _ h9 => h9) rfl (by decide +kernel) rfl rfl (Nat.le_of_ble_eq_true rfl) dX1_attribute_85 (fun H locs hP hD hS => ?_)
        have hP : wP G ((a 15, .inr (0, [.ref (a 0), .ref (a 1), .ref (a 2), .ref (a 3), .ref (a 4), .ref (a 5), .ref (a 6), .int (iv 7), .ref (a 8), .ref (a 9), .int (0), .int (iv 11), .ref (a 12), .int (iv 13), .ref (a 14)])) :: (a 3, .inl (gA G 6, 4, .inr (.inr (.inr (.inr (fun k => some (ra k))))))) :: (a 4, .inl (gA G 4, 4, .inr (.inr (.inr (.inr (va_up lf (j) (some (yb)))))))) :: (ra 0, .inl (gA G 0, 15, .inl (av 0))) :: (ra 1, .inl (gA G 0, 15, .inl (av 1))) :: (ra 2, .inl (gA G 0, 15, .inl (av 2))) :: (ra 3, .inl (gA G 0, 15, .inl (av 3))) :: w1) H := hP
        have hD : va_D A ((a 15, .inr (0, [.ref (a 0), .ref (a 1), .ref (a 2), .ref (a 3), .ref (a 4), .ref (a 5), .ref (a 6), .int (iv 7), .ref (a 8), .ref (a 9), .int (0), .int (iv 11), .ref (a 12), .int (iv 13), .ref (a 14)])) :: (a 3, .inl (gA G 6, 4, .inr (.inr (.inr (.inr (fun k => some (ra k))))))) :: (a 4, .inl (gA G 4, 4, .inr (.inr (.inr (.inr (va_up lf (j) (some (yb)))))))) :: (ra 0, .inl (gA G 0, 15, .inl (av 0))) :: (ra 1, .inl (gA G 0, 15, .inl (av 1))) :: (ra 2, .inl (gA G 0, 15, .inl (av 2))) :: (ra 3, .inl (gA G 0, 15, .inl (av 3))) :: w1) := hD
        refine lv_iconst (v := 1) hx hb dX1_attribute_88 (by decide) ?_
        exact ret (1) _ 89 ls _ _ _ _ dX1_attribute_89 rfl (Nat.le_of_ble_eq_true rfl) (Nat.le_of_ble_eq_true rfl) hP hD hS (by subst hnS; exact Or.inr (Or.inr ⟨j, yb, w1, c_1, rfl, by omega, hbx, au_3 c_1 k1 k2 (fun h => h51 (Or.inl h)) (fun h => h51 (Or.inr h)), rfl⟩))
      · have h51 : v < -10000 ∨ 10000 < v := nb_f c_51
        refine lv_bipush (v := (-2)) hx hb dX1_attribute_54 (by decide) ?_
        exact ret (-2) _ 56 ls _ _ _ _ dX1_attribute_56 rfl (Nat.le_of_ble_eq_true rfl) (Nat.le_of_ble_eq_true rfl) hP hD hS (by subst hnS; exact Or.inl ⟨au_2z c_1 (Or.inr (Or.inr h51)), rfl⟩)
  · skip
    refine lv_aload_n hx hb dX1_attribute_4 rfl (lv_at hl 0 rfl) ?_
    refine lv_iload_n hx hb dX1_attribute_5 rfl (lv_at hl 1 rfl) ?_
    refine vp_callSi (W.runV (As := [.int (x)]) (rest := []) ⟨hx, hb, hml, hown, hts⟩ (metX1_is l G a iv (x)) (cwV 1 hts (lw_V q214 q216 qs0 q29 q217) rfl rfl rfl (by decide +kernel) ⟨Nat.le_of_ble_eq_true rfl, Nat.le_of_ble_eq_true rfl⟩) (pre_RV (q0 := 0) hG (wP.left (wP.perm (w' := [(a 15, .inr (0, [.ref (a 0), .ref (a 1), .ref (a 2), .ref (a 3), .ref (a 4), .ref (a 5), .ref (a 6), .int (iv 7), .ref (a 8), .ref (a 9), .int (iv 10), .int (iv 11), .ref (a 12), .int (iv 13), .ref (a 14)]))] ++ [(a 3, .inl (gA G 6, 4, .inr (.inr (.inr (.inr (fun k => some (ra k))))))), (a 4, .inl (gA G 4, 4, .inr (.inr (.inr (.inr (lf)))))), (ra 0, .inl (gA G 0, 15, .inl (av 0))), (ra 1, .inl (gA G 0, 15, .inl (av 1))), (ra 2, .inl (gA G 0, 15, .inl (av 2))), (ra 3, .inl (gA G 0, 15, .inl (av 3)))]) hP (pm_ (fun _ z => by simp only [List.count_append, List.count_cons, List.count_nil]; omega)))) hS hA0 rfl rfl) rfl rfl hl.1 rfl (lv_room (Nat.le_of_ble_eq_true rfl)) dX1_attribute_6 ⟨Nat.le_of_ble_eq_true rfl, Nat.le_of_ble_eq_true rfl⟩) (fun r_6 e_6 => ?_)
    subst e_6
    refine top_i (y := b2i (isF (x) (nI n))) (congrArg (fun z => b2i (isF (x) z)) hn) ?_
    refine lv_if_ne (tgt := 14) hx hb dX1_attribute_9 (by decide) (fun c_9 => ?_) (fun c_9 => ?_)
    · have h9 : isF x (nI n) = true := b2i_n0.mp c_9
      refine lv_iload_n hx hb dX1_attribute_14 rfl (lv_at hl 1 rfl) ?_
      refine lv_if_ne (tgt := 24) hx hb dX1_attribute_15 (by decide) (fun c_15 => ?_) (fun c_15 => absurd c_15 (c_1))
      refine lv_ldc2 (v := (1000)) hx hb hown (hts _ q343) dX1_attribute_24 ?_
      refine lv_lstore (lv' := [(4, .long (1000)), (0, .ref (a 15)), (1, .int (x)), (2, .int (wh)), (3, .int (v))]) hx hb dX1_attribute_27 hl (by decide) rfl (fun ls hl => ?_)
      refine lv_iload_n hx hb dX1_attribute_29 rfl (lv_at hl 3 rfl) ?_
      refine lv_i2l (v := (wh).toInt64) hx hb dX1_attribute_30 rfl ?_
      refine lv_lconst (v := 0) hx hb dX1_attribute_31 (by decide) ?_
      refine lv_ldc2 (v := (3)) hx hb hown (hts _ q254) dX1_attribute_32 ?_
      refine vp_callSi (W.runS (As := [.long ((wh).toInt64), .long (0), .long (3)]) (rest := []) ⟨hx, hb, hml, hown, hts⟩ (metX1_isIn l G (wh.toInt64) (0) (3)) (va_cwS 3 hts (lw_S q219 q220 q29 q221) rfl rfl rfl (by decide +kernel) ⟨Nat.le_of_ble_eq_true rfl, Nat.le_of_ble_eq_true rfl⟩) (pre_RS hG (wP.mem (w' := []) hP (fun _ h => absurd h List.not_mem_nil)) hS hA0) rfl rfl hl.1 rfl (lv_room (Nat.le_of_ble_eq_true rfl)) dX1_attribute_35 ⟨Nat.le_of_ble_eq_true rfl, Nat.le_of_ble_eq_true rfl⟩) (fun r_35 e_35 => ?_)
      subst e_35
      refine top_i (y := b2i (!decide (wh < 0 ∨ 3 < wh))) (congrArg b2i (in_I (lo := 0) (hi := 3) rfl rfl)) ?_
      refine lv_if_eq (tgt := 54) hx hb dX1_attribute_38 (by decide) (fun c_38 => ?_) (fun c_38 => ?_)
      · have h38 : wh < 0 ∨ 3 < wh := nb_f c_38
        refine lv_bipush (v := (-2)) hx hb dX1_attribute_54 (by decide) ?_
        exact ret (-2) _ 56 ls _ _ _ _ dX1_attribute_56 rfl (Nat.le_of_ble_eq_true rfl) (Nat.le_of_ble_eq_true rfl) hP hD hS (by subst hnS; exact Or.inl ⟨au_2f c_1 h9 (h38.elim Or.inl (fun h => Or.inr (Or.inl h))), rfl⟩)
      · have h38 : ¬ (wh < 0 ∨ 3 < wh) := nb_t c_38; have k1 : ¬ wh < 0 := fun h => h38 (Or.inl h); have k2 : ¬ 3 < wh := fun h => h38 (Or.inr h)
        refine lv_iload_n hx hb dX1_attribute_41 rfl (lv_at hl 4 rfl) ?_
        refine lv_i2l (v := (v).toInt64) hx hb dX1_attribute_42 rfl ?_
        refine lv_lload hx hb dX1_attribute_43 (lv_at hl 0 rfl) ?_
        refine lv_lneg hx hb dX1_attribute_45 ?_
        refine lv_lload hx hb dX1_attribute_46 (lv_at hl 0 rfl) ?_
        refine vp_callSi (W.runS (As := [.long ((v).toInt64), .long (-(1000)), .long (1000)]) (rest := []) ⟨hx, hb, hml, hown, hts⟩ (metX1_isIn l G (v.toInt64) (-(1000)) (1000)) (va_cwS 3 hts (lw_S q219 q220 q29 q221) rfl rfl rfl (by decide +kernel) ⟨Nat.le_of_ble_eq_true rfl, Nat.le_of_ble_eq_true rfl⟩) (pre_RS hG (wP.mem (w' := []) hP (fun _ h => absurd h List.not_mem_nil)) hS hA0) rfl rfl hl.1 rfl (lv_room (Nat.le_of_ble_eq_true rfl)) dX1_attribute_48 ⟨Nat.le_of_ble_eq_true rfl, Nat.le_of_ble_eq_true rfl⟩) (fun r_48 e_48 => ?_)
        subst e_48
        refine top_i (y := b2i (!decide (v < -1000 ∨ 1000 < v))) (congrArg b2i (in_I (lo := -1000) (hi := 1000) (by decide) (by decide))) ?_
        refine lv_if_ne (tgt := 57) hx hb dX1_attribute_51 (by decide) (fun c_51 => ?_) (fun c_51 => ?_)
        · have h51 : ¬ (v < -1000 ∨ 1000 < v) := nb_t c_51
          obtain ⟨j, hwj, hj3⟩ := le2_of (k := wh) (m := 3) (by decide) k1 k2
          subst hwj
          refine lv_iload_n hx hb dX1_attribute_57 rfl (lv_at hl 2 rfl) ?_
          refine lv_if_ne (tgt := 74) hx hb dX1_attribute_58 (by decide) (fun c_58 => ?_) (fun c_58 => absurd c_58 (c_1))
          obtain ⟨g, hxg, hg1, hg2, hg4⟩ := isF_gb hW (by rw [hnS] at h9; exact h9)
          subst hxg
          rcases (show j = 0 ∨ j = 1 ∨ j = 2 ∨ j = 3 by omega) with rfl | rfl | rfl | rfl
          · skip
            refine lv_aload_n hx hb dX1_attribute_74 rfl (lv_at hl 1 rfl) ?_
            refine va_get (D := gD G) (ci := 0) (v := .ref (a 3)) (C := RX1) (T := TX1) (N := 15) hx hb hts in_X1 hown hG.K hP 0 rfl rfl 3 (by decide) (hts _ q167) (fun _ h9 => h9) rfl dX1_attribute_75 ?_
            refine lv_iload_n hx hb dX1_attribute_78 rfl (lv_at hl 3 rfl) ?_
            refine ga_ld (j := 0) hx hb hG.K hP 1 6 rfl rfl (by omega) (by omega) dX1_attribute_79 ?_
            refine top_q (y := some (ra 0)) rfl ?_
            refine lv_iload_n hx hb dX1_attribute_80 rfl (lv_at hl 2 rfl) ?_
            refine lv_iload_n hx hb dX1_attribute_81 rfl (lv_at hl 4 rfl) ?_
            refine ia_st (j := g) hx hb hG.K hP hD hS 3 0 rfl rfl (by omega) (by omega) dX1_attribute_82 (fun H locs hP hD hS => ?_)
            have hP : wP G [(a 15, .inr (0, [.ref (a 0), .ref (a 1), .ref (a 2), .ref (a 3), .ref (a 4), .ref (a 5), .ref (a 6), .int (iv 7), .ref (a 8), .ref (a 9), .int (iv 10), .int (iv 11), .ref (a 12), .int (iv 13), .ref (a 14)])), (a 3, .inl (gA G 6, 4, .inr (.inr (.inr (.inr (fun k => some (ra k))))))), (a 4, .inl (gA G 4, 4, .inr (.inr (.inr (.inr (lf)))))), (ra 0, .inl (gA G 0, 15, .inl (upd (av 0) (g) (v)))), (ra 1, .inl (gA G 0, 15, .inl (av 1))), (ra 2, .inl (gA G 0, 15, .inl (av 2))), (ra 3, .inl (gA G 0, 15, .inl (av 3)))] H := hP
            have hD : va_D A [(a 15, .inr (0, [.ref (a 0), .ref (a 1), .ref (a 2), .ref (a 3), .ref (a 4), .ref (a 5), .ref (a 6), .int (iv 7), .ref (a 8), .ref (a 9), .int (iv 10), .int (iv 11), .ref (a 12), .int (iv 13), .ref (a 14)])), (a 3, .inl (gA G 6, 4, .inr (.inr (.inr (.inr (fun k => some (ra k))))))), (a 4, .inl (gA G 4, 4, .inr (.inr (.inr (.inr (lf)))))), (ra 0, .inl (gA G 0, 15, .inl (upd (av 0) (g) (v)))), (ra 1, .inl (gA G 0, 15, .inl (av 1))), (ra 2, .inl (gA G 0, 15, .inl (av 2))), (ra 3, .inl (gA G 0, 15, .inl (av 3)))] := hD
            refine lv_aload_n hx hb dX1_attribute_83 rfl (lv_at hl 1 rfl) ?_
            refine lv_iconst (v := 0) hx hb dX1_attribute_84 (by decide) ?_
            refine va_put (D := gD G) (ci := 0) (v := .int (0)) (ty := .boolean) (C := RX1) (T := TX1) (N := 15) hx hb hts in_X1 tyX1 tyX1_ok nmX1 hown hG.K hP hD hS 0 rfl rfl 10 (by decide) (hts _ q174) (fun _ h9 => h9) rfl (by decide +kernel) rfl rfl (Nat.le_of_ble_eq_true rfl) dX1_attribute_85 (fun H locs hP hD hS => ?_)
            have hP : wP G [(a 15, .inr (0, [.ref (a 0), .ref (a 1), .ref (a 2), .ref (a 3), .ref (a 4), .ref (a 5), .ref (a 6), .int (iv 7), .ref (a 8), .ref (a 9), .int (0), .int (iv 11), .ref (a 12), .int (iv 13), .ref (a 14)])), (a 3, .inl (gA G 6, 4, .inr (.inr (.inr (.inr (fun k => some (ra k))))))), (a 4, .inl (gA G 4, 4, .inr (.inr (.inr (.inr (lf)))))), (ra 0, .inl (gA G 0, 15, .inl (upd (av 0) (g) (v)))), (ra 1, .inl (gA G 0, 15, .inl (av 1))), (ra 2, .inl (gA G 0, 15, .inl (av 2))), (ra 3, .inl (gA G 0, 15, .inl (av 3)))] H := hP
            have hD : va_D A [(a 15, .inr (0, [.ref (a 0), .ref (a 1), .ref (a 2), .ref (a 3), .ref (a 4), .ref (a 5), .ref (a 6), .int (iv 7), .ref (a 8), .ref (a 9), .int (0), .int (iv 11), .ref (a 12), .int (iv 13), .ref (a 14)])), (a 3, .inl (gA G 6, 4, .inr (.inr (.inr (.inr (fun k => some (ra k))))))), (a 4, .inl (gA G 4, 4, .inr (.inr (.inr (.inr (lf)))))), (ra 0, .inl (gA G 0, 15, .inl (upd (av 0) (g) (v)))), (ra 1, .inl (gA G 0, 15, .inl (av 1))), (ra 2, .inl (gA G 0, 15, .inl (av 2))), (ra 3, .inl (gA G 0, 15, .inl (av 3)))] := hD
            refine lv_iconst (v := 1) hx hb dX1_attribute_88 (by decide) ?_
            exact ret (1) _ 89 ls _ _ _ _ dX1_attribute_89 rfl (Nat.le_of_ble_eq_true rfl) (Nat.le_of_ble_eq_true rfl) hP hD hS (by subst hnS; exact Or.inr (Or.inl ⟨g, 0, rfl, rfl, hg1, hg2, by decide, au_4 c_1 h9 k1 k2 (fun h => h51 (Or.inl h)) (fun h => h51 (Or.inr h)), rfl⟩))
          · skip
            refine lv_aload_n hx hb dX1_attribute_74 rfl (lv_at hl 1 rfl) ?_
            refine va_get (D := gD G) (ci := 0) (v := .ref (a 3)) (C := RX1) (T := TX1) (N := 15) hx hb hts in_X1 hown hG.K hP 0 rfl rfl 3 (by decide) (hts _ q167) (fun _ h9 => h9) rfl dX1_attribute_75 ?_
            refine lv_iload_n hx hb dX1_attribute_78 rfl (lv_at hl 3 rfl) ?_
            refine ga_ld (j := 1) hx hb hG.K hP 1 6 rfl rfl (by omega) (by omega) dX1_attribute_79 ?_
            refine top_q (y := some (ra 1)) rfl ?_
            refine lv_iload_n hx hb dX1_attribute_80 rfl (lv_at hl 2 rfl) ?_
            refine lv_iload_n hx hb dX1_attribute_81 rfl (lv_at hl 4 rfl) ?_
            refine ia_st (j := g) hx hb hG.K hP hD hS 4 0 rfl rfl (by omega) (by omega) dX1_attribute_82 (fun H locs hP hD hS => ?_)
            have hP : wP G [(a 15, .inr (0, [.ref (a 0), .ref (a 1), .ref (a 2), .ref (a 3), .ref (a 4), .ref (a 5), .ref (a 6), .int (iv 7), .ref (a 8), .ref (a 9), .int (iv 10), .int (iv 11), .ref (a 12), .int (iv 13), .ref (a 14)])), (a 3, .inl (gA G 6, 4, .inr (.inr (.inr (.inr (fun k => some (ra k))))))), (a 4, .inl (gA G 4, 4, .inr (.inr (.inr (.inr (lf)))))), (ra 0, .inl (gA G 0, 15, .inl (av 0))), (ra 1, .inl (gA G 0, 15, .inl (upd (av 1) (g) (v)))), (ra 2, .inl (gA G 0, 15, .inl (av 2))), (ra 3, .inl (gA G 0, 15, .inl (av 3)))] H := hP
            have hD : va_D A [(a 15, .inr (0, [.ref (a 0), .ref (a 1), .ref (a 2), .ref (a 3), .ref (a 4), .ref (a 5), .ref (a 6), .int (iv 7), .ref (a 8), .ref (a 9), .int (iv 10), .int (iv 11), .ref (a 12), .int (iv 13), .ref (a 14)])), (a 3, .inl (gA G 6, 4, .inr (.inr (.inr (.inr (fun k => some (ra k))))))), (a 4, .inl (gA G 4, 4, .inr (.inr (.inr (.inr (lf)))))), (ra 0, .inl (gA G 0, 15, .inl (av 0))), (ra 1, .inl (gA G 0, 15, .inl (upd (av 1) (g) (v)))), (ra 2, .inl (gA G 0, 15, .inl (av 2))), (ra 3, .inl (gA G 0, 15, .inl (av 3)))] := hD
            refine lv_aload_n hx hb dX1_attribute_83 rfl (lv_at hl 1 rfl) ?_
            refine lv_iconst (v := 0) hx hb dX1_attribute_84 (by decide) ?_
            refine va_put (D := gD G) (ci := 0) (v := .int (0)) (ty := .boolean) (C := RX1) (T := TX1) (N := 15) hx hb hts in_X1 tyX1 tyX1_ok nmX1 hown hG.K hP hD hS 0 rfl rfl 10 (by decide) (hts _ q174) (fun _ h9 => h9) rfl (by decide +kernel) rfl rfl (Nat.le_of_ble_eq_true rfl) dX1_attribute_85 (fun H locs hP hD hS => ?_)
            have hP : wP G [(a 15, .inr (0, [.ref (a 0), .ref (a 1), .ref (a 2), .ref (a 3), .ref (a 4), .ref (a 5), .ref (a 6), .int (iv 7), .ref (a 8), .ref (a 9), .int (0), .int (iv 11), .ref (a 12), .int (iv 13), .ref (a 14)])), (a 3, .inl (gA G 6, 4, .inr (.inr (.inr (.inr (fun k => some (ra k))))))), (a 4, .inl (gA G 4, 4, .inr (.inr (.inr (.inr (lf)))))), (ra 0, .inl (gA G 0, 15, .inl (av 0))), (ra 1, .inl (gA G 0, 15, .inl (upd (av 1) (g) (v)))), (ra 2, .inl (gA G 0, 15, .inl (av 2))), (ra 3, .inl (gA G 0, 15, .inl (av 3)))] H := hP
            have hD : va_D A [(a 15, .inr (0, [.ref (a 0), .ref (a 1), .ref (a 2), .ref (a 3), .ref (a 4), .ref (a 5), .ref (a 6), .int (iv 7), .ref (a 8), .ref (a 9), .int (0), .int (iv 11), .ref (a 12), .int (iv 13), .ref (a 14)])), (a 3, .inl (gA G 6, 4, .inr (.inr (.inr (.inr (fun k => some (ra k))))))), (a 4, .inl (gA G 4, 4, .inr (.inr (.inr (.inr (lf)))))), (ra 0, .inl (gA G 0, 15, .inl (av 0))), (ra 1, .inl (gA G 0, 15, .inl (upd (av 1) (g) (v)))), (ra 2, .inl (gA G 0, 15, .inl (av 2))), (ra 3, .inl (gA G 0, 15, .inl (av 3)))] := hD
            refine lv_iconst (v := 1) hx hb dX1_attribute_88 (by decide) ?_
            exact ret (1) _ 89 ls _ _ _ _ dX1_attribute_89 rfl (Nat.le_of_ble_eq_true rfl) (Nat.le_of_ble_eq_true rfl) hP hD hS (by subst hnS; exact Or.inr (Or.inl ⟨g, 1, rfl, rfl, hg1, hg2, by decide, au_4 c_1 h9 k1 k2 (fun h => h51 (Or.inl h)) (fun h => h51 (Or.inr h)), rfl⟩))
          · skip
            refine lv_aload_n hx hb dX1_attribute_74 rfl (lv_at hl 1 rfl) ?_
            refine va_get (D := gD G) (ci := 0) (v := .ref (a 3)) (C := RX1) (T := TX1) (N := 15) hx hb hts in_X1 hown hG.K hP 0 rfl rfl 3 (by decide) (hts _ q167) (fun _ h9 => h9) rfl dX1_attribute_75 ?_
            refine lv_iload_n hx hb dX1_attribute_78 rfl (lv_at hl 3 rfl) ?_
            refine ga_ld (j := 2) hx hb hG.K hP 1 6 rfl rfl (by omega) (by omega) dX1_attribute_79 ?_
            refine top_q (y := some (ra 2)) rfl ?_
            refine lv_iload_n hx hb dX1_attribute_80 rfl (lv_at hl 2 rfl) ?_
            refine lv_iload_n hx hb dX1_attribute_81 rfl (lv_at hl 4 rfl) ?_
            refine ia_st (j := g) hx hb hG.K hP hD hS 5 0 rfl rfl (by omega) (by omega) dX1_attribute_82 (fun H locs hP hD hS => ?_)
            have hP : wP G [(a 15, .inr (0, [.ref (a 0), .ref (a 1), .ref (a 2), .ref (a 3), .ref (a 4), .ref (a 5), .ref (a 6), .int (iv 7), .ref (a 8), .ref (a 9), .int (iv 10), .int (iv 11), .ref (a 12), .int (iv 13), .ref (a 14)])), (a 3, .inl (gA G 6, 4, .inr (.inr (.inr (.inr (fun k => some (ra k))))))), (a 4, .inl (gA G 4, 4, .inr (.inr (.inr (.inr (lf)))))), (ra 0, .inl (gA G 0, 15, .inl (av 0))), (ra 1, .inl (gA G 0, 15, .inl (av 1))), (ra 2, .inl (gA G 0, 15, .inl (upd (av 2) (g) (v)))), (ra 3, .inl (gA G 0, 15, .inl (av 3)))] H := hP
            have hD : va_D A [(a 15, .inr (0, [.ref (a 0), .ref (a 1), .ref (a 2), .ref (a 3), .ref (a 4), .ref (a 5), .ref (a 6), .int (iv 7), .ref (a 8), .ref (a 9), .int (iv 10), .int (iv 11), .ref (a 12), .int (iv 13), .ref (a 14)])), (a 3, .inl (gA G 6, 4, .inr (.inr (.inr (.inr (fun k => some (ra k))))))), (a 4, .inl (gA G 4, 4, .inr (.inr (.inr (.inr (lf)))))), (ra 0, .inl (gA G 0, 15, .inl (av 0))), (ra 1, .inl (gA G 0, 15, .inl (av 1))), (ra 2, .inl (gA G 0, 15, .inl (upd (av 2) (g) (v)))), (ra 3, .inl (gA G 0, 15, .inl (av 3)))] := hD
            refine lv_aload_n hx hb dX1_attribute_83 rfl (lv_at hl 1 rfl) ?_
            refine lv_iconst (v := 0) hx hb dX1_attribute_84 (by decide) ?_
            refine va_put (D := gD G) (ci := 0) (v := .int (0)) (ty := .boolean) (C := RX1) (T := TX1) (N := 15) hx hb hts in_X1 tyX1 tyX1_ok nmX1 hown hG.K hP hD hS 0 rfl rfl 10 (by decide) (hts _ q174) (fun _ h9 => h9) rfl (by decide +kernel) rfl rfl (Nat.le_of_ble_eq_true rfl) dX1_attribute_85 (fun H locs hP hD hS => ?_)
            have hP : wP G [(a 15, .inr (0, [.ref (a 0), .ref (a 1), .ref (a 2), .ref (a 3), .ref (a 4), .ref (a 5), .ref (a 6), .int (iv 7), .ref (a 8), .ref (a 9), .int (0), .int (iv 11), .ref (a 12), .int (iv 13), .ref (a 14)])), (a 3, .inl (gA G 6, 4, .inr (.inr (.inr (.inr (fun k => some (ra k))))))), (a 4, .inl (gA G 4, 4, .inr (.inr (.inr (.inr (lf)))))), (ra 0, .inl (gA G 0, 15, .inl (av 0))), (ra 1, .inl (gA G 0, 15, .inl (av 1))), (ra 2, .inl (gA G 0, 15, .inl (upd (av 2) (g) (v)))), (ra 3, .inl (gA G 0, 15, .inl (av 3)))] H := hP
            have hD : va_D A [(a 15, .inr (0, [.ref (a 0), .ref (a 1), .ref (a 2), .ref (a 3), .ref (a 4), .ref (a 5), .ref (a 6), .int (iv 7), .ref (a 8), .ref (a 9), .int (0), .int (iv 11), .ref (a 12), .int (iv 13), .ref (a 14)])), (a 3, .inl (gA G 6, 4, .inr (.inr (.inr (.inr (fun k => some (ra k))))))), (a 4, .inl (gA G 4, 4, .inr (.inr (.inr (.inr (lf)))))), (ra 0, .inl (gA G 0, 15, .inl (av 0))), (ra 1, .inl (gA G 0, 15, .inl (av 1))), (ra 2, .inl (gA G 0, 15, .inl (upd (av 2) (g) (v)))), (ra 3, .inl (gA G 0, 15, .inl (av 3)))] := hD
            refine lv_iconst (v := 1) hx hb dX1_attribute_88 (by decide) ?_
            exact ret (1) _ 89 ls _ _ _ _ dX1_attribute_89 rfl (Nat.le_of_ble_eq_true rfl) (Nat.le_of_ble_eq_true rfl) hP hD hS (by subst hnS; exact Or.inr (Or.inl ⟨g, 2, rfl, rfl, hg1, hg2, by decide, au_4 c_1 h9 k1 k2 (fun h => h51 (Or.inl h)) (fun h => h51 (Or.inr h)), rfl⟩))
          · skip
            refine lv_aload_n hx hb dX1_attribute_74 rfl (lv_at hl 1 rfl) ?_
            refine va_get (D := gD G) (ci := 0) (v := .ref (a 3)) (C := RX1) (T := TX1) (N := 15) hx hb hts in_X1 hown hG.K hP 0 rfl rfl 3 (by decide) (hts _ q167) (fun _ h9 => h9) rfl dX1_attribute_75 ?_
            refine lv_iload_n hx hb dX1_attribute_78 rfl (lv_at hl 3 rfl) ?_
            refine ga_ld (j := 3) hx hb hG.K hP 1 6 rfl rfl (by omega) (by omega) dX1_attribute_79 ?_
            refine top_q (y := some (ra 3)) rfl ?_
            refine lv_iload_n hx hb dX1_attribute_80 rfl (lv_at hl 2 rfl) ?_
            refine lv_iload_n hx hb dX1_attribute_81 rfl (lv_at hl 4 rfl) ?_
            refine ia_st (j := g) hx hb hG.K hP hD hS 6 0 rfl rfl (by omega) (by omega) dX1_attribute_82 (fun H locs hP hD hS => ?_)
            have hP : wP G [(a 15, .inr (0, [.ref (a 0), .ref (a 1), .ref (a 2), .ref (a 3), .ref (a 4), .ref (a 5), .ref (a 6), .int (iv 7), .ref (a 8), .ref (a 9), .int (iv 10), .int (iv 11), .ref (a 12), .int (iv 13), .ref (a 14)])), (a 3, .inl (gA G 6, 4, .inr (.inr (.inr (.inr (fun k => some (ra k))))))), (a 4, .inl (gA G 4, 4, .inr (.inr (.inr (.inr (lf)))))), (ra 0, .inl (gA G 0, 15, .inl (av 0))), (ra 1, .inl (gA G 0, 15, .inl (av 1))), (ra 2, .inl (gA G 0, 15, .inl (av 2))), (ra 3, .inl (gA G 0, 15, .inl (upd (av 3) (g) (v))))] H := hP
            have hD : va_D A [(a 15, .inr (0, [.ref (a 0), .ref (a 1), .ref (a 2), .ref (a 3), .ref (a 4), .ref (a 5), .ref (a 6), .int (iv 7), .ref (a 8), .ref (a 9), .int (iv 10), .int (iv 11), .ref (a 12), .int (iv 13), .ref (a 14)])), (a 3, .inl (gA G 6, 4, .inr (.inr (.inr (.inr (fun k => some (ra k))))))), (a 4, .inl (gA G 4, 4, .inr (.inr (.inr (.inr (lf)))))), (ra 0, .inl (gA G 0, 15, .inl (av 0))), (ra 1, .inl (gA G 0, 15, .inl (av 1))), (ra 2, .inl (gA G 0, 15, .inl (av 2))), (ra 3, .inl (gA G 0, 15, .inl (upd (av 3) (g) (v))))] := hD
            refine lv_aload_n hx hb dX1_attribute_83 rfl (lv_at hl 1 rfl) ?_
            refine lv_iconst (v := 0) hx hb dX1_attribute_84 (by decide) ?_
            refine va_put (D := gD G) (ci := 0) (v := .int (0)) (ty := .boolean) (C := RX1) (T := TX1) (N := 15) hx hb hts in_X1 tyX1 tyX1_ok nmX1 hown hG.K hP hD hS 0 rfl rfl 10 (by decide) (hts _ q174) (fun _ h9 => h9) rfl (by decide +kernel) rfl rfl (Nat.le_of_ble_eq_true rfl) dX1_attribute_85 (fun H locs hP hD hS => ?_)
            have hP : wP G [(a 15, .inr (0, [.ref (a 0), .ref (a 1), .ref (a 2), .ref (a 3), .ref (a 4), .ref (a 5), .ref (a 6), .int (iv 7), .ref (a 8), .ref (a 9), .int (0), .int (iv 11), .ref (a 12), .int (iv 13), .ref (a 14)])), (a 3, .inl (gA G 6, 4, .inr (.inr (.inr (.inr (fun k => some (ra k))))))), (a 4, .inl (gA G 4, 4, .inr (.inr (.inr (.inr (lf)))))), (ra 0, .inl (gA G 0, 15, .inl (av 0))), (ra 1, .inl (gA G 0, 15, .inl (av 1))), (ra 2, .inl (gA G 0, 15, .inl (av 2))), (ra 3, .inl (gA G 0, 15, .inl (upd (av 3) (g) (v))))] H := hP
            have hD : va_D A [(a 15, .inr (0, [.ref (a 0), .ref (a 1), .ref (a 2), .ref (a 3), .ref (a 4), .ref (a 5), .ref (a 6), .int (iv 7), .ref (a 8), .ref (a 9), .int (0), .int (iv 11), .ref (a 12), .int (iv 13), .ref (a 14)])), (a 3, .inl (gA G 6, 4, .inr (.inr (.inr (.inr (fun k => some (ra k))))))), (a 4, .inl (gA G 4, 4, .inr (.inr (.inr (.inr (lf)))))), (ra 0, .inl (gA G 0, 15, .inl (av 0))), (ra 1, .inl (gA G 0, 15, .inl (av 1))), (ra 2, .inl (gA G 0, 15, .inl (av 2))), (ra 3, .inl (gA G 0, 15, .inl (upd (av 3) (g) (v))))] := hD
            refine lv_iconst (v := 1) hx hb dX1_attribute_88 (by decide) ?_
            exact ret (1) _ 89 ls _ _ _ _ dX1_attribute_89 rfl (Nat.le_of_ble_eq_true rfl) (Nat.le_of_ble_eq_true rfl) hP hD hS (by subst hnS; exact Or.inr (Or.inl ⟨g, 3, rfl, rfl, hg1, hg2, by decide, au_4 c_1 h9 k1 k2 (fun h => h51 (Or.inl h)) (fun h => h51 (Or.inr h)), rfl⟩))
        · have h51 : v < -1000 ∨ 1000 < v := nb_f c_51
          refine lv_bipush (v := (-2)) hx hb dX1_attribute_54 (by decide) ?_
          exact ret (-2) _ 56 ls _ _ _ _ dX1_attribute_56 rfl (Nat.le_of_ble_eq_true rfl) (Nat.le_of_ble_eq_true rfl) hP hD hS (by subst hnS; exact Or.inl ⟨au_2f c_1 h9 (Or.inr (Or.inr h51)), rfl⟩)
    · have h9 : isF x (nI n) = false := b2i_0.mp c_9
      refine lv_iconst (v := (-1)) hx hb dX1_attribute_12 (by decide) ?_
      exact ret (-1) _ 13 ls _ _ _ _ dX1_attribute_13 rfl (Nat.le_of_ble_eq_true rfl) (Nat.le_of_ble_eq_true rfl) hP hD hS (by subst hnS; exact Or.inl ⟨au_1 c_1 h9, rfl⟩)
