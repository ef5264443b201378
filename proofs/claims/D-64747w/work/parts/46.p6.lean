theorem hd_some (es : List En) (x : En) : ∃ z, hdE (es ++ [x]) none = some z := by
  cases es with
  | nil => exact ⟨_, rfl⟩
  | cons e es => exact ⟨_, rfl⟩
theorem tbE_put {es : List En} {q k : Nat} {bo : Bool} {f : Nat → Option Nat} {cap : Nat} (hf : ∀ j, j < cap → f j = tbE es j) (hk : tbE es k = none) : ∀ j, j < cap → va_up f k (some q) j = tbE (es ++ [(q, k, bo)]) j := by
  intro j hj
  rw [tbE_app, tbE_cons]
  by_cases h : j = k
  · rw [h, va_up_self, hk, if_pos rfl]; rfl
  · rw [va_up_ne _ _ h, if_neg (Ne.symm h), hf j hj]
    cases tbE es j <;> rfl
set_option maxHeartbeats 4000000 in
set_option maxRecDepth 100000 in
theorem metJ4_pv0 (l : Launch) (G : Gt) (h k : Nat) (bo : Bool) (en : Option Nat) (mo : Int32) (hk : k ≤ 14) (hck : 16 - 1 &&& k = k) (sz : Nat) : CWq l G yJ4_putVal cJ4_putVal 13 (.object "java/lang/Object") 8 3 70 400 [.ref (h), .int (nI k), .ref (gI G k), .ref (gbo G bo), .int (0), .int (1)] [(h, .inr (6, [.null, va_rf (en), .int (nI 0), .int (mo), .int (0), .float (1061158912), .null, .null, .null, .null, .int (0), .int (0)]))] sz (fun _ w1 => ∃ q1 q2, w1 = ((h, .inr (6, [.ref (q1), va_rf (en), .int (nI (0 + 1)), .int (mo + 1), .int (12), .float (1061158912), .null, .null, .ref (q2), .ref (q2), .int (0), .int (0)])) :: (q1, .inl (gA G 5, 16, .inr (.inr (.inr (.inr (va_up (fun _ => none) k (some q2))))))) :: enW G none ([] ++ [(q2, k, bo)]) none)) := by
  refine mkWq (by decide) (Nat.le_of_ble_eq_true rfl) (by first | exact Or.inl ⟨_, rfl⟩ | exact Or.inr ⟨_, rfl⟩) ?_
  intro p e s m args below meth c Q A hx hb hts hown hin hml hG hsz hP hD hA hA0 hS ret ls hl
  refine lv_aload_n hx hb dJ4_putVal_0 rfl (lv_at hl 0 rfl) ?_
  refine va_get (D := gD G) (ci := 6) (v := .null) (C := RJ5) (T := TJ5) (N := 12) hx hb hts in_J5 hown hG.K hP 0 rfl rfl 0 (by decide) (hts _ q127) (fun _ h9 => h9) rfl dJ4_putVal_1 ?_
  refine lv_dup hx hb dJ4_putVal_4 rfl ?_
  refine lv_astoreN (lv' := [(6, .null), (0, .ref (h)), (1, .int (nI k)), (2, .ref (gI G k)), (3, .ref (gbo G bo)), (4, .int (0)), (5, .int (1))]) hx hb dJ4_putVal_5 hl (by decide) rfl (fun ls hl => ?_)
  refine lv_ifnullN (tgt := 19) hx hb dJ4_putVal_7 (by decide) ?_
  refine lv_aload_n hx hb dJ4_putVal_19 rfl (lv_at hl 1 rfl) ?_
  refine cl_q0 (va_runU (As := []) (rest := []) ⟨hx, hb, hml, hown, hts⟩ (metJ4_rs0 l G h 0 en none none mo _) (va_cwU 0 hts (lw_U (owner := "java/util/HashMap") (x := ({ cls := "java/util/HashMap", name := "resize", desc := "()[Ljava/util/HashMap$Node;" } : Jvm.MethodName)) (y := ({ cls := "java/util/HashMap", name := "resize", desc := "()[Ljava/util/HashMap$Node;" } : Jvm.MethodName)) q603 q605 q606 q604 q34 q607) rfl rfl rfl rfl (by decide +kernel) ⟨Nat.le_of_ble_eq_true rfl, Nat.le_of_ble_eq_true rfl⟩) (pre_WV0 (q0 := 0) hG hP hD hS hA0 rfl rfl) rfl rfl hl.1 rfl (lv_room (Nat.le_of_ble_eq_true rfl)) dJ4_putVal_20 ⟨Nat.le_of_ble_eq_true rfl, Nat.le_of_ble_eq_true rfl⟩) hP hD hS hA (fun r_20 w1 H locs hp hP hD hS => ?_)
  obtain ⟨q1, rfl, rfl⟩ := hp
  have hP : wP G [(h, .inr (6, [.ref (q1), va_rf (en), .int (nI 0), .int (mo), .int (12), .float (1061158912), .null, .null, .null, .null, .int (0), .int (0)])), (q1, .inl (gA G 5, 16, .inr (.inr (.inr (.inr ((fun _ => none)))))))] H := hP
  have hD : va_D A [(h, .inr (6, [.ref (q1), va_rf (en), .int (nI 0), .int (mo), .int (12), .float (1061158912), .null, .null, .null, .null, .int (0), .int (0)])), (q1, .inl (gA G 5, 16, .inr (.inr (.inr (.inr ((fun _ => none)))))))] := hD
  refine lv_dup hx hb dJ4_putVal_23 rfl ?_
  refine lv_astore (lv' := [(6, .ref (q1)), (0, .ref (h)), (1, .int (nI k)), (2, .ref (gI G k)), (3, .ref (gbo G bo)), (4, .int (0)), (5, .int (1))]) hx hb dJ4_putVal_24 hl (by decide) rfl (fun ls hl => ?_)
  refine va_alen (v := nI (16)) hx hb hG.K hP 1 5 rfl rfl rfl dJ4_putVal_26 ?_
  refine lv_istore (lv' := [(8, .int (nI (16))), (6, .ref (q1)), (0, .ref (h)), (1, .int (nI k)), (2, .ref (gI G k)), (3, .ref (gbo G bo)), (4, .int (0)), (5, .int (1))]) hx hb dJ4_putVal_27 hl (by decide) rfl (fun ls hl => ?_)
  refine lv_aload hx hb dJ4_putVal_29 (lv_at hl 1 rfl) ?_
  refine lv_iload hx hb dJ4_putVal_31 (lv_at hl 0 rfl) ?_
  refine lv_iconst (v := 1) hx hb dJ4_putVal_33 (by decide) ?_
  refine lv_isub hx hb dJ4_putVal_34 ?_
  refine top_i (y := nI (16 - 1)) (pk_sub (b := 1) (by omega)) ?_
  refine lv_iload_n hx hb dJ4_putVal_35 rfl (lv_at hl 3 rfl) ?_
  refine lv_iand hx hb dJ4_putVal_36 ?_
  refine top_i (y := nI k) (by rw [nx_and, hck]) ?_
  refine lv_dup hx hb dJ4_putVal_37 rfl ?_
  refine lv_istore (lv' := [(9, .int (nI k)), (8, .int (nI (16))), (6, .ref (q1)), (0, .ref (h)), (1, .int (nI k)), (2, .ref (gI G k)), (3, .ref (gbo G bo)), (4, .int (0)), (5, .int (1))]) hx hb dJ4_putVal_38 hl (by decide) rfl (fun ls hl => ?_)
  refine qa_ld (j := k) hx hb hG.K hP 1 5 rfl rfl (by omega) (by omega) dJ4_putVal_40 ?_
  refine top_q (y := none) (rfl) ?_
  refine lv_dup hx hb dJ4_putVal_41 rfl ?_
  refine lv_astoreN (lv' := [(7, .null), (9, .int (nI k)), (8, .int (nI (16))), (6, .ref (q1)), (0, .ref (h)), (1, .int (nI k)), (2, .ref (gI G k)), (3, .ref (gbo G bo)), (4, .int (0)), (5, .int (1))]) hx hb dJ4_putVal_42 hl (by decide) rfl (fun ls hl => ?_)
  refine lv_ifnonnullN hx hb dJ4_putVal_44 ?_
  refine lv_aload hx hb dJ4_putVal_47 (lv_at hl 3 rfl) ?_
  refine lv_iload hx hb dJ4_putVal_49 (lv_at hl 1 rfl) ?_
  refine lv_aload_n hx hb dJ4_putVal_51 rfl (lv_at hl 4 rfl) ?_
  refine lv_iload_n hx hb dJ4_putVal_52 rfl (lv_at hl 5 rfl) ?_
  refine lv_aload_n hx hb dJ4_putVal_53 rfl (lv_at hl 6 rfl) ?_
  refine lv_aload_n hx hb dJ4_putVal_54 rfl (lv_at hl 7 rfl) ?_
  refine lv_null hx hb dJ4_putVal_55 ?_
  have hP := wP.perm (w' := [(h, .inr (6, [.ref (q1), va_rf (en), .int (nI 0), .int (mo), .int (12), .float (1061158912), .null, .null, .null, .null, .int (0), .int (0)]))] ++ [(q1, .inl (gA G 5, 16, .inr (.inr (.inr (.inr ((fun _ => none)))))))]) hP (pm_ (fun _ z => by simp only [List.count_append, List.count_cons, List.count_nil]; omega))
  have hD := va_D.perm (w' := [(h, .inr (6, [.ref (q1), va_rf (en), .int (nI 0), .int (mo), .int (12), .float (1061158912), .null, .null, .null, .null, .int (0), .int (0)]))] ++ [(q1, .inl (gA G 5, 16, .inr (.inr (.inr (.inr ((fun _ => none)))))))]) hD (pm_ (fun _ z => by simp only [List.count_append, List.count_cons, List.count_nil]; omega))
  refine cl_q (wr := [(q1, .inl (gA G 5, 16, .inr (.inr (.inr (.inr ((fun _ => none)))))))]) (va_runU (As := [.int (nI k), .ref (gI G k), .ref (gbo G bo), .null]) (rest := [.int (nI k), .ref (q1)]) ⟨hx, hb, hml, hown, hts⟩ (metJ5_newNode l G h 0 k bo (some q1) en mo 12 [] _) (va_cwA 4 hts (lw_U (owner := "java/util/HashMap") (x := ({ cls := "java/util/HashMap", name := "newNode", desc := "(ILjava/lang/Object;Ljava/lang/Object;Ljava/util/HashMap$Node;)Ljava/util/HashMap$Node;" } : Jvm.MethodName)) (y := ({ cls := "java/util/LinkedHashMap", name := "newNode", desc := "(ILjava/lang/Object;Ljava/lang/Object;Ljava/util/HashMap$Node;)Ljava/util/HashMap$Node;" } : Jvm.MethodName)) q624 q626 q627 q628 q35 q629) rfl rfl rfl (hG.decl q634) (by decide +kernel) ⟨Nat.le_of_ble_eq_true rfl, Nat.le_of_ble_eq_true rfl⟩) (pre_WV (q0 := 0) hG hP hD hS hA0 rfl rfl) rfl rfl hl.1 rfl (lv_room (Nat.le_of_ble_eq_true rfl)) dJ4_putVal_56 ⟨Nat.le_of_ble_eq_true rfl, Nat.le_of_ble_eq_true rfl⟩) hP hD hS hA (fun r_56 w1 H locs hp hP hD hS => ?_)
  obtain ⟨q2, rfl, rfl⟩ := hp
  have hP : wP G (((h, .inr (6, [.ref (q1), va_rf (en), .int (nI 0), .int (mo), .int (12), .float (1061158912), .null, .null, .ref (q2), .ref (q2), .int (0), .int (0)])) :: enW G none ([] ++ [(q2, k, bo)]) none) ++ [(q1, .inl (gA G 5, 16, .inr (.inr (.inr (.inr ((fun _ => none)))))))]) H := hP
  have hD : va_D A (((h, .inr (6, [.ref (q1), va_rf (en), .int (nI 0), .int (mo), .int (12), .float (1061158912), .null, .null, .ref (q2), .ref (q2), .int (0), .int (0)])) :: enW G none ([] ++ [(q2, k, bo)]) none) ++ [(q1, .inl (gA G 5, 16, .inr (.inr (.inr (.inr ((fun _ => none)))))))]) := hD
  have hP := wP.perm (w' := ((h, .inr (6, [.ref (q1), va_rf (en), .int (nI 0), .int (mo), .int (12), .float (1061158912), .null, .null, .ref (q2), .ref (q2), .int (0), .int (0)])) :: (q1, .inl (gA G 5, 16, .inr (.inr (.inr (.inr ((fun _ => none))))))) :: enW G none ([] ++ [(q2, k, bo)]) none)) hP (pm_ (fun _ z => by simp only [List.count_append, List.count_cons, List.count_nil]; omega))
  have hD := va_D.perm (w' := ((h, .inr (6, [.ref (q1), va_rf (en), .int (nI 0), .int (mo), .int (12), .float (1061158912), .null, .null, .ref (q2), .ref (q2), .int (0), .int (0)])) :: (q1, .inl (gA G 5, 16, .inr (.inr (.inr (.inr ((fun _ => none))))))) :: enW G none ([] ++ [(q2, k, bo)]) none)) hD (pm_ (fun _ z => by simp only [List.count_append, List.count_cons, List.count_nil]; omega))
  refine qa_st (j := k) hx hb hG.K hP hD hS 1 5 rfl rfl (any_of hG hP (List.mem_cons_of_mem _ (List.mem_cons_of_mem _ (enC_mem (es1 := []) (x := (q2, k, bo)) (es2 := [])))) rfl q1369) (by omega) (by omega) dJ4_putVal_59 (fun H locs hP hD hS => ?_)
  have hP : wP G ((h, .inr (6, [.ref (q1), va_rf (en), .int (nI 0), .int (mo), .int (12), .float (1061158912), .null, .null, .ref (q2), .ref (q2), .int (0), .int (0)])) :: (q1, .inl (gA G 5, 16, .inr (.inr (.inr (.inr (va_up ((fun _ => none)) (k) (some (q2)))))))) :: enW G none ([] ++ [(q2, k, bo)]) none) H := hP
  have hD : va_D A ((h, .inr (6, [.ref (q1), va_rf (en), .int (nI 0), .int (mo), .int (12), .float (1061158912), .null, .null, .ref (q2), .ref (q2), .int (0), .int (0)])) :: (q1, .inl (gA G 5, 16, .inr (.inr (.inr (.inr (va_up ((fun _ => none)) (k) (some (q2)))))))) :: enW G none ([] ++ [(q2, k, bo)]) none) := hD
  refine lv_goto (tgt := 259) hx hb dJ4_putVal_60 (by decide) ?_
  refine lv_aload_n hx hb dJ4_putVal_259 rfl (lv_at hl 4 rfl) ?_
  refine lv_dup hx hb dJ4_putVal_260 rfl ?_
  refine va_get (D := gD G) (ci := 6) (v := .int (mo)) (C := RJ5) (T := TJ5) (N := 12) hx hb hts in_J5 hown hG.K hP 0 rfl rfl 3 (by decide) (hts _ q136) (fun _ h9 => h9) rfl dJ4_putVal_261 ?_
  refine lv_iconst (v := 1) hx hb dJ4_putVal_264 (by decide) ?_
  refine lv_iadd hx hb dJ4_putVal_265 ?_
  refine va_put (D := gD G) (ci := 6) (v := .int ((mo) + (1))) (ty := .int) (C := RJ5) (T := TJ5) (N := 12) hx hb hts in_J5 tyJ5 tyJ5_ok nmJ5 hown hG.K hP hD hS 0 rfl rfl 3 (by decide) (hts _ q136) (fun _ h9 => h9) rfl (by decide +kernel) rfl rfl (Nat.le_of_ble_eq_true rfl) dJ4_putVal_266 (fun H locs hP hD hS => ?_)
  have hP : wP G ((h, .inr (6, [.ref (q1), va_rf (en), .int (nI 0), .int ((mo) + (1)), .int (12), .float (1061158912), .null, .null, .ref (q2), .ref (q2), .int (0), .int (0)])) :: (q1, .inl (gA G 5, 16, .inr (.inr (.inr (.inr (va_up ((fun _ => none)) (k) (some (q2)))))))) :: enW G none ([] ++ [(q2, k, bo)]) none) H := hP
  have hD : va_D A ((h, .inr (6, [.ref (q1), va_rf (en), .int (nI 0), .int ((mo) + (1)), .int (12), .float (1061158912), .null, .null, .ref (q2), .ref (q2), .int (0), .int (0)])) :: (q1, .inl (gA G 5, 16, .inr (.inr (.inr (.inr (va_up ((fun _ => none)) (k) (some (q2)))))))) :: enW G none ([] ++ [(q2, k, bo)]) none) := hD
  refine lv_aload_n hx hb dJ4_putVal_269 rfl (lv_at hl 4 rfl) ?_
  refine lv_dup hx hb dJ4_putVal_270 rfl ?_
  refine va_get (D := gD G) (ci := 6) (v := .int (nI 0)) (C := RJ5) (T := TJ5) (N := 12) hx hb hts in_J5 hown hG.K hP 0 rfl rfl 2 (by decide) (hts _ q132) (fun _ h9 => h9) rfl dJ4_putVal_271 ?_
  refine lv_iconst (v := 1) hx hb dJ4_putVal_274 (by decide) ?_
  refine lv_iadd hx hb dJ4_putVal_275 ?_
  refine top_i (y := nI (0 + 1)) (nI_1 _) ?_
  refine lv_dup_x1 hx hb dJ4_putVal_276 rfl rfl ?_
  refine va_put (D := gD G) (ci := 6) (v := .int (nI (0 + 1))) (ty := .int) (C := RJ5) (T := TJ5) (N := 12) hx hb hts in_J5 tyJ5 tyJ5_ok nmJ5 hown hG.K hP hD hS 0 rfl rfl 2 (by decide) (hts _ q132) (fun _ h9 => h9) rfl (by decide +kernel) rfl rfl (Nat.le_of_ble_eq_true rfl) dJ4_putVal_277 (fun H locs hP hD hS => ?_)
  have hP : wP G ((h, .inr (6, [.ref (q1), va_rf (en), .int (nI (0 + 1)), .int ((mo) + (1)), .int (12), .float (1061158912), .null, .null, .ref (q2), .ref (q2), .int (0), .int (0)])) :: (q1, .inl (gA G 5, 16, .inr (.inr (.inr (.inr (va_up ((fun _ => none)) (k) (some (q2)))))))) :: enW G none ([] ++ [(q2, k, bo)]) none) H := hP
  have hD : va_D A ((h, .inr (6, [.ref (q1), va_rf (en), .int (nI (0 + 1)), .int ((mo) + (1)), .int (12), .float (1061158912), .null, .null, .ref (q2), .ref (q2), .int (0), .int (0)])) :: (q1, .inl (gA G 5, 16, .inr (.inr (.inr (.inr (va_up ((fun _ => none)) (k) (some (q2)))))))) :: enW G none ([] ++ [(q2, k, bo)]) none) := hD
  refine lv_aload_n hx hb dJ4_putVal_280 rfl (lv_at hl 4 rfl) ?_
  refine va_get (D := gD G) (ci := 6) (v := .int (12)) (C := RJ5) (T := TJ5) (N := 12) hx hb hts in_J5 hown hG.K hP 0 rfl rfl 4 (by decide) (hts _ q137) (fun _ h9 => h9) rfl dJ4_putVal_281 ?_
  refine lv_icmp_le (tgt := 292) hx hb dJ4_putVal_284 (by decide) (fun c_284 => ?_) (fun c_284 => absurd (by decide) c_284)
  refine lv_aload_n hx hb dJ4_putVal_292 rfl (lv_at hl 4 rfl) ?_
  refine lv_iload hx hb dJ4_putVal_293 (lv_at hl 9 rfl) ?_
  have hP := wP.perm (w' := [(h, .inr (6, [.ref (q1), va_rf (en), .int (nI (0 + 1)), .int ((mo) + (1)), .int (12), .float (1061158912), .null, .null, .ref (q2), .ref (q2), .int (0), .int (0)]))] ++ ((q1, .inl (gA G 5, 16, .inr (.inr (.inr (.inr (va_up ((fun _ => none)) (k) (some (q2)))))))) :: enW G none ([] ++ [(q2, k, bo)]) none)) hP (pm_ (fun _ z => by simp only [List.count_append, List.count_cons, List.count_nil]; omega))
  have hD := va_D.perm (w' := [(h, .inr (6, [.ref (q1), va_rf (en), .int (nI (0 + 1)), .int ((mo) + (1)), .int (12), .float (1061158912), .null, .null, .ref (q2), .ref (q2), .int (0), .int (0)]))] ++ ((q1, .inl (gA G 5, 16, .inr (.inr (.inr (.inr (va_up ((fun _ => none)) (k) (some (q2)))))))) :: enW G none ([] ++ [(q2, k, bo)]) none)) hD (pm_ (fun _ z => by simp only [List.count_append, List.count_cons, List.count_nil]; omega))
  refine cl_v (wr := ((q1, .inl (gA G 5, 16, .inr (.inr (.inr (.inr (va_up ((fun _ => none)) (k) (some (q2)))))))) :: enW G none ([] ++ [(q2, k, bo)]) none)) (va_runU (As := [.int (1)]) (rest := []) ⟨hx, hb, hml, hown, hts⟩ (metJ5_ani l G h (0 + 1) q2 (some q1) en (some q2) (mo + 1) 12 _) (va_cwA 1 hts (lw_U (owner := "java/util/HashMap") (x := ({ cls := "java/util/HashMap", name := "afterNodeInsertion", desc := "(Z)V" } : Jvm.MethodName)) (y := ({ cls := "java/util/LinkedHashMap", name := "afterNodeInsertion", desc := "(Z)V" } : Jvm.MethodName)) q695 q697 q698 q699 q35 q700) rfl rfl rfl (hG.decl q705) (by decide +kernel) ⟨Nat.le_of_ble_eq_true rfl, Nat.le_of_ble_eq_true rfl⟩) (pre_WV (q0 := 0) hG hP hD hS hA0 rfl rfl) rfl rfl hl.1 rfl (lv_room (Nat.le_of_ble_eq_true rfl)) dJ4_putVal_295 ⟨Nat.le_of_ble_eq_true rfl, Nat.le_of_ble_eq_true rfl⟩) hP hD hS hA (fun w1 H locs hp hP hD hS => ?_)
  subst hp
  have hP : wP G ([(h, .inr (6, [.ref (q1), va_rf (en), .int (nI (0 + 1)), .int ((mo) + (1)), .int (12), .float (1061158912), .null, .null, .ref (q2), .ref (q2), .int (0), .int (0)]))] ++ ((q1, .inl (gA G 5, 16, .inr (.inr (.inr (.inr (va_up ((fun _ => none)) (k) (some (q2)))))))) :: enW G none ([] ++ [(q2, k, bo)]) none)) H := hP
  have hD : va_D A ([(h, .inr (6, [.ref (q1), va_rf (en), .int (nI (0 + 1)), .int ((mo) + (1)), .int (12), .float (1061158912), .null, .null, .ref (q2), .ref (q2), .int (0), .int (0)]))] ++ ((q1, .inl (gA G 5, 16, .inr (.inr (.inr (.inr (va_up ((fun _ => none)) (k) (some (q2)))))))) :: enW G none ([] ++ [(q2, k, bo)]) none)) := hD
  have hP := wP.perm (w' := ((h, .inr (6, [.ref (q1), va_rf (en), .int (nI (0 + 1)), .int ((mo) + (1)), .int (12), .float (1061158912), .null, .null, .ref (q2), .ref (q2), .int (0), .int (0)])) :: (q1, .inl (gA G 5, 16, .inr (.inr (.inr (.inr (va_up ((fun _ => none)) (k) (some (q2)))))))) :: enW G none ([] ++ [(q2, k, bo)]) none)) hP (pm_ (fun _ z => by simp only [List.count_append, List.count_cons, List.count_nil]; omega))
  have hD := va_D.perm (w' := ((h, .inr (6, [.ref (q1), va_rf (en), .int (nI (0 + 1)), .int ((mo) + (1)), .int (12), .float (1061158912), .null, .null, .ref (q2), .ref (q2), .int (0), .int (0)])) :: (q1, .inl (gA G 5, 16, .inr (.inr (.inr (.inr (va_up ((fun _ => none)) (k) (some (q2)))))))) :: enW G none ([] ++ [(q2, k, bo)]) none)) hD (pm_ (fun _ z => by simp only [List.count_append, List.count_cons, List.count_nil]; omega))
  refine lv_null hx hb dJ4_putVal_298 ?_
  exact ret (none) _ 299 ls _ _ _ _ dJ4_putVal_299 (Nat.le_of_ble_eq_true rfl) (Nat.le_of_ble_eq_true rfl) hP hD hS (⟨q1, q2, rfl⟩)
set_option maxHeartbeats 4000000 in
set_option maxRecDepth 100000 in
theorem metJ4_pv1 (l : Launch) (G : Gt) (h n k cap t : Nat) (bo : Bool) (f : Nat → Option Nat) (es : List En) (en : Option Nat) (mo th : Int32) (hc : 16 ≤ cap) (hc2 : cap ≤ 32) (hk : k ≤ 14) (hck : cap - 1 &&& k = k) (hf0 : f k = none) (hth : nI (n + 1) ≤ th) (sz : Nat) : CWq l G yJ4_putVal cJ4_putVal 13 (.object "java/lang/Object") 8 3 70 400 [.ref (h), .int (nI k), .ref (gI G k), .ref (gbo G bo), .int (0), .int (1)] ((h, .inr (6, [.ref (t), va_rf (en), .int (nI n), .int (mo), .int (th), .float (1061158912), .null, .null, va_rf (hdE es none), va_rf (lsE none es), .int (0), .int (0)])) :: (t, .inl (gA G 5, cap, .inr (.inr (.inr (.inr (f)))))) :: enW G none es none) sz (fun _ w1 => ∃ q2 hdv, hdE (es ++ [(q2, k, bo)]) none = some hdv ∧ w1 = ((h, .inr (6, [.ref (t), va_rf (en), .int (nI (n + 1)), .int (mo + 1), .int (th), .float (1061158912), .null, .null, .ref (hdv), .ref (q2), .int (0), .int (0)])) :: (t, .inl (gA G 5, cap, .inr (.inr (.inr (.inr (va_up f k (some q2))))))) :: enW G none (es ++ [(q2, k, bo)]) none)) := by
  refine mkWq (by decide) (Nat.le_of_ble_eq_true rfl) (by first | exact Or.inl ⟨_, rfl⟩ | exact Or.inr ⟨_, rfl⟩) ?_
  intro p e s m args below meth c Q A hx hb hts hown hin hml hG hsz hP hD hA hA0 hS ret ls hl
  refine lv_aload_n hx hb dJ4_putVal_0 rfl (lv_at hl 0 rfl) ?_
  refine va_get (D := gD G) (ci := 6) (v := .ref (t)) (C := RJ5) (T := TJ5) (N := 12) hx hb hts in_J5 hown hG.K hP 0 rfl rfl 0 (by decide) (hts _ q127) (fun _ h9 => h9) rfl dJ4_putVal_1 ?_
  refine lv_dup hx hb dJ4_putVal_4 rfl ?_
  refine lv_astore (lv' := [(6, .ref (t)), (0, .ref (h)), (1, .int (nI k)), (2, .ref (gI G k)), (3, .ref (gbo G bo)), (4, .int (0)), (5, .int (1))]) hx hb dJ4_putVal_5 hl (by decide) rfl (fun ls hl => ?_)
  refine lv_ifnull hx hb dJ4_putVal_7 ?_
  refine lv_aload hx hb dJ4_putVal_10 (lv_at hl 0 rfl) ?_
  refine va_alen (v := nI (cap)) hx hb hG.K hP 1 5 rfl rfl rfl dJ4_putVal_12 ?_
  refine lv_dup hx hb dJ4_putVal_13 rfl ?_
  refine lv_istore (lv' := [(8, .int (nI (cap))), (6, .ref (t)), (0, .ref (h)), (1, .int (nI k)), (2, .ref (gI G k)), (3, .ref (gbo G bo)), (4, .int (0)), (5, .int (1))]) hx hb dJ4_putVal_14 hl (by decide) rfl (fun ls hl => ?_)
  refine lv_if_ne (tgt := 29) hx hb dJ4_putVal_16 (by decide) (fun c_16 => ?_) (fun c_16 => absurd c_16 (nI_ne0 (by omega) (by omega)))
  refine lv_aload hx hb dJ4_putVal_29 (lv_at hl 1 rfl) ?_
  refine lv_iload hx hb dJ4_putVal_31 (lv_at hl 0 rfl) ?_
  refine lv_iconst (v := 1) hx hb dJ4_putVal_33 (by decide) ?_
  refine lv_isub hx hb dJ4_putVal_34 ?_
  refine top_i (y := nI (cap - 1)) (pk_sub (b := 1) (by omega)) ?_
  refine lv_iload_n hx hb dJ4_putVal_35 rfl (lv_at hl 3 rfl) ?_
  refine lv_iand hx hb dJ4_putVal_36 ?_
  refine top_i (y := nI k) (by rw [nx_and, hck]) ?_
  refine lv_dup hx hb dJ4_putVal_37 rfl ?_
  refine lv_istore (lv' := [(9, .int (nI k)), (8, .int (nI (cap))), (6, .ref (t)), (0, .ref (h)), (1, .int (nI k)), (2, .ref (gI G k)), (3, .ref (gbo G bo)), (4, .int (0)), (5, .int (1))]) hx hb dJ4_putVal_38 hl (by decide) rfl (fun ls hl => ?_)
  refine qa_ld (j := k) hx hb hG.K hP 1 5 rfl rfl (by omega) (by omega) dJ4_putVal_40 ?_
  refine top_q (y := none) (hf0) ?_
  refine lv_dup hx hb dJ4_putVal_41 rfl ?_
  refine lv_astoreN (lv' := [(7, .null), (9, .int (nI k)), (8, .int (nI (cap))), (6, .ref (t)), (0, .ref (h)), (1, .int (nI k)), (2, .ref (gI G k)), (3, .ref (gbo G bo)), (4, .int (0)), (5, .int (1))]) hx hb dJ4_putVal_42 hl (by decide) rfl (fun ls hl => ?_)
  refine lv_ifnonnullN hx hb dJ4_putVal_44 ?_
  refine lv_aload hx hb dJ4_putVal_47 (lv_at hl 3 rfl) ?_
  refine lv_iload hx hb dJ4_putVal_49 (lv_at hl 1 rfl) ?_
  refine lv_aload_n hx hb dJ4_putVal_51 rfl (lv_at hl 4 rfl) ?_
  refine lv_iload_n hx hb dJ4_putVal_52 rfl (lv_at hl 5 rfl) ?_
  refine lv_aload_n hx hb dJ4_putVal_53 rfl (lv_at hl 6 rfl) ?_
  refine lv_aload_n hx hb dJ4_putVal_54 rfl (lv_at hl 7 rfl) ?_
  refine lv_null hx hb dJ4_putVal_55 ?_
  have hP := wP.perm (w' := ((h, .inr (6, [.ref (t), va_rf (en), .int (nI n), .int (mo), .int (th), .float (1061158912), .null, .null, va_rf (hdE es none), va_rf (lsE none es), .int (0), .int (0)])) :: enW G none es none) ++ [(t, .inl (gA G 5, cap, .inr (.inr (.inr (.inr (f))))))]) hP (pm_ (fun _ z => by simp only [List.count_append, List.count_cons, List.count_nil]; omega))
  have hD := va_D.perm (w' := ((h, .inr (6, [.ref (t), va_rf (en), .int (nI n), .int (mo), .int (th), .float (1061158912), .null, .null, va_rf (hdE es none), va_rf (lsE none es), .int (0), .int (0)])) :: enW G none es none) ++ [(t, .inl (gA G 5, cap, .inr (.inr (.inr (.inr (f))))))]) hD (pm_ (fun _ z => by simp only [List.count_append, List.count_cons, List.count_nil]; omega))
  refine cl_q (wr := [(t, .inl (gA G 5, cap, .inr (.inr (.inr (.inr (f))))))]) (va_runU (As := [.int (nI k), .ref (gI G k), .ref (gbo G bo), .null]) (rest := [.int (nI k), .ref (t)]) ⟨hx, hb, hml, hown, hts⟩ (metJ5_newNode l G h n k bo (some t) en mo th es _) (va_cwA 4 hts (lw_U (owner := "java/util/HashMap") (x := ({ cls := "java/util/HashMap", name := "newNode", desc := "(ILjava/lang/Object;Ljava/lang/Object;Ljava/util/HashMap$Node;)Ljava/util/HashMap$Node;" } : Jvm.MethodName)) (y := ({ cls := "java/util/LinkedHashMap", name := "newNode", desc := "(ILjava/lang/Object;Ljava/lang/Object;Ljava/util/HashMap$Node;)Ljava/util/HashMap$Node;" } : Jvm.MethodName)) q624 q626 q627 q628 q35 q629) rfl rfl rfl (hG.decl q634) (by decide +kernel) ⟨Nat.le_of_ble_eq_true rfl, Nat.le_of_ble_eq_true rfl⟩) (pre_WV (q0 := 0) hG hP hD hS hA0 rfl rfl) rfl rfl hl.1 rfl (lv_room (Nat.le_of_ble_eq_true rfl)) dJ4_putVal_56 ⟨Nat.le_of_ble_eq_true rfl, Nat.le_of_ble_eq_true rfl⟩) hP hD hS hA (fun r_56 w1 H locs hp hP hD hS => ?_)
  obtain ⟨q2, rfl, rfl⟩ := hp
  obtain ⟨hdv, hhd⟩ := hd_some es (q2, k, bo)
  rw [hhd] at hP hD
  have hP : wP G (((h, .inr (6, [.ref (t), va_rf (en), .int (nI n), .int (mo), .int (th), .float (1061158912), .null, .null, .ref (hdv), .ref (q2), .int (0), .int (0)])) :: enW G none (es ++ [(q2, k, bo)]) none) ++ [(t, .inl (gA G 5, cap, .inr (.inr (.inr (.inr (f))))))]) H := hP
  have hD : va_D A (((h, .inr (6, [.ref (t), va_rf (en), .int (nI n), .int (mo), .int (th), .float (1061158912), .null, .null, .ref (hdv), .ref (q2), .int (0), .int (0)])) :: enW G none (es ++ [(q2, k, bo)]) none) ++ [(t, .inl (gA G 5, cap, .inr (.inr (.inr (.inr (f))))))]) := hD
  have hP := wP.perm (w' := ((h, .inr (6, [.ref (t), va_rf (en), .int (nI n), .int (mo), .int (th), .float (1061158912), .null, .null, .ref (hdv), .ref (q2), .int (0), .int (0)])) :: (t, .inl (gA G 5, cap, .inr (.inr (.inr (.inr (f)))))) :: enW G none (es ++ [(q2, k, bo)]) none)) hP (pm_ (fun _ z => by simp only [List.count_append, List.count_cons, List.count_nil]; omega))
  have hD := va_D.perm (w' := ((h, .inr (6, [.ref (t), va_rf (en), .int (nI n), .int (mo), .int (th), .float (1061158912), .null, .null, .ref (hdv), .ref (q2), .int (0), .int (0)])) :: (t, .inl (gA G 5, cap, .inr (.inr (.inr (.inr (f)))))) :: enW G none (es ++ [(q2, k, bo)]) none)) hD (pm_ (fun _ z => by simp only [List.count_append, List.count_cons, List.count_nil]; omega))
  refine qa_st (j := k) hx hb hG.K hP hD hS 1 5 rfl rfl (any_of hG hP (List.mem_cons_of_mem _ (List.mem_cons_of_mem _ (enC_mem (es1 := es) (x := (q2, k, bo)) (es2 := [])))) rfl q1369) (by omega) (by omega) dJ4_putVal_59 (fun H locs hP hD hS => ?_)
  have hP : wP G ((h, .inr (6, [.ref (t), va_rf (en), .int (nI n), .int (mo), .int (th), .float (1061158912), .null, .null, .ref (hdv), .ref (q2), .int (0), .int (0)])) :: (t, .inl (gA G 5, cap, .inr (.inr (.inr (.inr (va_up f (k) (some (q2)))))))) :: enW G none (es ++ [(q2, k, bo)]) none) H := hP
  have hD : va_D A ((h, .inr (6, [.ref (t), va_rf (en), .int (nI n), .int (mo), .int (th), .float (1061158912), .null, .null, .ref (hdv), .ref (q2), .int (0), .int (0)])) :: (t, .inl (gA G 5, cap, .inr (.inr (.inr (.inr (va_up f (k) (some (q2)))))))) :: enW G none (es ++ [(q2, k, bo)]) none) := hD
  refine lv_goto (tgt := 259) hx hb dJ4_putVal_60 (by decide) ?_
  refine lv_aload_n hx hb dJ4_putVal_259 rfl (lv_at hl 4 rfl) ?_
  refine lv_dup hx hb dJ4_putVal_260 rfl ?_
  refine va_get (D := gD G) (ci := 6) (v := .int (mo)) (C := RJ5) (T := TJ5) (N := 12) hx hb hts in_J5 hown hG.K hP 0 rfl rfl 3 (by decide) (hts _ q136) (fun _ h9 => h9) rfl dJ4_putVal_261 ?_
  refine lv_iconst (v := 1) hx hb dJ4_putVal_264 (by decide) ?_
  refine lv_iadd hx hb dJ4_putVal_265 ?_
  refine va_put (D := gD G) (ci := 6) (v := .int ((mo) + (1))) (ty := .int) (C := RJ5) (T := TJ5) (N := 12) hx hb hts in_J5 tyJ5 tyJ5_ok nmJ5 hown hG.K hP hD hS 0 rfl rfl 3 (by decide) (hts _ q136) (fun _ h9 => h9) rfl (by decide +kernel) rfl rfl (Nat.le_of_ble_eq_true rfl) dJ4_putVal_266 (fun H locs hP hD hS => ?_)
  have hP : wP G ((h, .inr (6, [.ref (t), va_rf (en), .int (nI n), .int ((mo) + (1)), .int (th), .float (1061158912), .null, .null, .ref (hdv), .ref (q2), .int (0), .int (0)])) :: (t, .inl (gA G 5, cap, .inr (.inr (.inr (.inr (va_up f (k) (some (q2)))))))) :: enW G none (es ++ [(q2, k, bo)]) none) H := hP
  have hD : va_D A ((h, .inr (6, [.ref (t), va_rf (en), .int (nI n), .int ((mo) + (1)), .int (th), .float (1061158912), .null, .null, .ref (hdv), .ref (q2), .int (0), .int (0)])) :: (t, .inl (gA G 5, cap, .inr (.inr (.inr (.inr (va_up f (k) (some (q2)))))))) :: enW G none (es ++ [(q2, k, bo)]) none) := hD
  refine lv_aload_n hx hb dJ4_putVal_269 rfl (lv_at hl 4 rfl) ?_
  refine lv_dup hx hb dJ4_putVal_270 rfl ?_
  refine va_get (D := gD G) (ci := 6) (v := .int (nI n)) (C := RJ5) (T := TJ5) (N := 12) hx hb hts in_J5 hown hG.K hP 0 rfl rfl 2 (by decide) (hts _ q132) (fun _ h9 => h9) rfl dJ4_putVal_271 ?_
  refine lv_iconst (v := 1) hx hb dJ4_putVal_274 (by decide) ?_
  refine lv_iadd hx hb dJ4_putVal_275 ?_
  refine top_i (y := nI (n + 1)) (nI_1 _) ?_
  refine lv_dup_x1 hx hb dJ4_putVal_276 rfl rfl ?_
  refine va_put (D := gD G) (ci := 6) (v := .int (nI (n + 1))) (ty := .int) (C := RJ5) (T := TJ5) (N := 12) hx hb hts in_J5 tyJ5 tyJ5_ok nmJ5 hown hG.K hP hD hS 0 rfl rfl 2 (by decide) (hts _ q132) (fun _ h9 => h9) rfl (by decide +kernel) rfl rfl (Nat.le_of_ble_eq_true rfl) dJ4_putVal_277 (fun H locs hP hD hS => ?_)
  have hP : wP G ((h, .inr (6, [.ref (t), va_rf (en), .int (nI (n + 1)), .int ((mo) + (1)), .int (th), .float (1061158912), .null, .null, .ref (hdv), .ref (q2), .int (0), .int (0)])) :: (t, .inl (gA G 5, cap, .inr (.inr (.inr (.inr (va_up f (k) (some (q2)))))))) :: enW G none (es ++ [(q2, k, bo)]) none) H := hP
  have hD : va_D A ((h, .inr (6, [.ref (t), va_rf (en), .int (nI (n + 1)), .int ((mo) + (1)), .int (th), .float (1061158912), .null, .null, .ref (hdv), .ref (q2), .int (0), .int (0)])) :: (t, .inl (gA G 5, cap, .inr (.inr (.inr (.inr (va_up f (k) (some (q2)))))))) :: enW G none (es ++ [(q2, k, bo)]) none) := hD
  refine lv_aload_n hx hb dJ4_putVal_280 rfl (lv_at hl 4 rfl) ?_
  refine va_get (D := gD G) (ci := 6) (v := .int (th)) (C := RJ5) (T := TJ5) (N := 12) hx hb hts in_J5 hown hG.K hP 0 rfl rfl 4 (by decide) (hts _ q137) (fun _ h9 => h9) rfl dJ4_putVal_281 ?_
  refine lv_icmp_le (tgt := 292) hx hb dJ4_putVal_284 (by decide) (fun c_284 => ?_) (fun c_284 => absurd (hth) c_284)
  refine lv_aload_n hx hb dJ4_putVal_292 rfl (lv_at hl 4 rfl) ?_
  refine lv_iload hx hb dJ4_putVal_293 (lv_at hl 9 rfl) ?_
  have hP := wP.perm (w' := [(h, .inr (6, [.ref (t), va_rf (en), .int (nI (n + 1)), .int ((mo) + (1)), .int (th), .float (1061158912), .null, .null, .ref (hdv), .ref (q2), .int (0), .int (0)]))] ++ ((t, .inl (gA G 5, cap, .inr (.inr (.inr (.inr (va_up f (k) (some (q2)))))))) :: enW G none (es ++ [(q2, k, bo)]) none)) hP (pm_ (fun _ z => by simp only [List.count_append, List.count_cons, List.count_nil]; omega))
  have hD := va_D.perm (w' := [(h, .inr (6, [.ref (t), va_rf (en), .int (nI (n + 1)), .int ((mo) + (1)), .int (th), .float (1061158912), .null, .null, .ref (hdv), .ref (q2), .int (0), .int (0)]))] ++ ((t, .inl (gA G 5, cap, .inr (.inr (.inr (.inr (va_up f (k) (some (q2)))))))) :: enW G none (es ++ [(q2, k, bo)]) none)) hD (pm_ (fun _ z => by simp only [List.count_append, List.count_cons, List.count_nil]; omega))
  refine cl_v (wr := ((t, .inl (gA G 5, cap, .inr (.inr (.inr (.inr (va_up f (k) (some (q2)))))))) :: enW G none (es ++ [(q2, k, bo)]) none)) (va_runU (As := [.int (1)]) (rest := []) ⟨hx, hb, hml, hown, hts⟩ (metJ5_ani l G h (n + 1) hdv (some t) en (some q2) (mo + 1) th _) (va_cwA 1 hts (lw_U (owner := "java/util/HashMap") (x := ({ cls := "java/util/HashMap", name := "afterNodeInsertion", desc := "(Z)V" } : Jvm.MethodName)) (y := ({ cls := "java/util/LinkedHashMap", name := "afterNodeInsertion", desc := "(Z)V" } : Jvm.MethodName)) q695 q697 q698 q699 q35 q700) rfl rfl rfl (hG.decl q705) (by decide +kernel) ⟨Nat.le_of_ble_eq_true rfl, Nat.le_of_ble_eq_true rfl⟩) (pre_WV (q0 := 0) hG hP hD hS hA0 rfl rfl) rfl rfl hl.1 rfl (lv_room (Nat.le_of_ble_eq_true rfl)) dJ4_putVal_295 ⟨Nat.le_of_ble_eq_true rfl, Nat.le_of_ble_eq_true rfl⟩) hP hD hS hA (fun w1 H locs hp hP hD hS => ?_)
  subst hp
  have hP : wP G ([(h, .inr (6, [.ref (t), va_rf (en), .int (nI (n + 1)), .int ((mo) + (1)), .int (th), .float (1061158912), .null, .null, .ref (hdv), .ref (q2), .int (0), .int (0)]))] ++ ((t, .inl (gA G 5, cap, .inr (.inr (.inr (.inr (va_up f (k) (some (q2)))))))) :: enW G none (es ++ [(q2, k, bo)]) none)) H := hP
  have hD : va_D A ([(h, .inr (6, [.ref (t), va_rf (en), .int (nI (n + 1)), .int ((mo) + (1)), .int (th), .float (1061158912), .null, .null, .ref (hdv), .ref (q2), .int (0), .int (0)]))] ++ ((t, .inl (gA G 5, cap, .inr (.inr (.inr (.inr (va_up f (k) (some (q2)))))))) :: enW G none (es ++ [(q2, k, bo)]) none)) := hD
  have hP := wP.perm (w' := ((h, .inr (6, [.ref (t), va_rf (en), .int (nI (n + 1)), .int ((mo) + (1)), .int (th), .float (1061158912), .null, .null, .ref (hdv), .ref (q2), .int (0), .int (0)])) :: (t, .inl (gA G 5, cap, .inr (.inr (.inr (.inr (va_up f (k) (some (q2)))))))) :: enW G none (es ++ [(q2, k, bo)]) none)) hP (pm_ (fun _ z => by simp only [List.count_append, List.count_cons, List.count_nil]; omega))
  have hD := va_D.perm (w' := ((h, .inr (6, [.ref (t), va_rf (en), .int (nI (n + 1)), .int ((mo) + (1)), .int (th), .float (1061158912), .null, .null, .ref (hdv), .ref (q2), .int (0), .int (0)])) :: (t, .inl (gA G 5, cap, .inr (.inr (.inr (.inr (va_up f (k) (some (q2)))))))) :: enW G none (es ++ [(q2, k, bo)]) none)) hD (pm_ (fun _ z => by simp only [List.count_append, List.count_cons, List.count_nil]; omega))
  refine lv_null hx hb dJ4_putVal_298 ?_
  exact ret (none) _ 299 ls _ _ _ _ dJ4_putVal_299 (Nat.le_of_ble_eq_true rfl) (Nat.le_of_ble_eq_true rfl) hP hD hS (⟨q2, hdv, hhd, rfl⟩)
set_option maxHeartbeats 4000000 in
set_option maxRecDepth 100000 in
theorem metJ4_pv2 (l : Launch) (G : Gt) (h k t : Nat) (bo : Bool) (f : Nat → Option Nat) (es : List En) (en : Option Nat) (mo : Int32) (hk : k ≤ 14) (hck : 16 - 1 &&& k = k) (hf0 : f k = none) (hf : ∀ j, j < 16 → f j = tbE es j) (hkn : tbE es k = none) (sz : Nat) : CWq l G yJ4_putVal cJ4_putVal 13 (.object "java/lang/Object") 8 3 70 400 [.ref (h), .int (nI k), .ref (gI G k), .ref (gbo G bo), .int (0), .int (1)] ((h, .inr (6, [.ref (t), va_rf (en), .int (nI (12)), .int (mo), .int (12), .float (1061158912), .null, .null, va_rf (hdE es none), va_rf (lsE none es), .int (0), .int (0)])) :: (t, .inl (gA G 5, 16, .inr (.inr (.inr (.inr (f)))))) :: enW G none es none) sz (fun _ w1 => ∃ q2 q3 hdv g, hdE (es ++ [(q2, k, bo)]) none = some hdv ∧ w1 = ((h, .inr (6, [.ref (q3), va_rf (en), .int (nI (12 + 1)), .int (mo + 1), .int (24), .float (1061158912), .null, .null, .ref (hdv), .ref (q2), .int (0), .int (0)])) :: (q3, .inl (gA G 5, 32, .inr (.inr (.inr (.inr (g)))))) :: enW G none (es ++ [(q2, k, bo)]) none) ∧ ∀ i, g i = if i < 16 then va_up f k (some q2) i else none) := by
  refine mkWq (by decide) (Nat.le_of_ble_eq_true rfl) (by first | exact Or.inl ⟨_, rfl⟩ | exact Or.inr ⟨_, rfl⟩) ?_
  intro p e s m args below meth c Q A hx hb hts hown hin hml hG hsz hP hD hA hA0 hS ret ls hl
  refine lv_aload_n hx hb dJ4_putVal_0 rfl (lv_at hl 0 rfl) ?_
  refine va_get (D := gD G) (ci := 6) (v := .ref (t)) (C := RJ5) (T := TJ5) (N := 12) hx hb hts in_J5 hown hG.K hP 0 rfl rfl 0 (by decide) (hts _ q127) (fun _ h9 => h9) rfl dJ4_putVal_1 ?_
  refine lv_dup hx hb dJ4_putVal_4 rfl ?_
  refine lv_astore (lv' := [(6, .ref (t)), (0, .ref (h)), (1, .int (nI k)), (2, .ref (gI G k)), (3, .ref (gbo G bo)), (4, .int (0)), (5, .int (1))]) hx hb dJ4_putVal_5 hl (by decide) rfl (fun ls hl => ?_)
  refine lv_ifnull hx hb dJ4_putVal_7 ?_
  refine lv_aload hx hb dJ4_putVal_10 (lv_at hl 0 rfl) ?_
  refine va_alen (v := nI (16)) hx hb hG.K hP 1 5 rfl rfl rfl dJ4_putVal_12 ?_
  refine lv_dup hx hb dJ4_putVal_13 rfl ?_
  refine lv_istore (lv' := [(8, .int (nI (16))), (6, .ref (t)), (0, .ref (h)), (1, .int (nI k)), (2, .ref (gI G k)), (3, .ref (gbo G bo)), (4, .int (0)), (5, .int (1))]) hx hb dJ4_putVal_14 hl (by decide) rfl (fun ls hl => ?_)
  refine lv_if_ne (tgt := 29) hx hb dJ4_putVal_16 (by decide) (fun c_16 => ?_) (fun c_16 => absurd c_16 (nI_ne0 (by omega) (by omega)))
  refine lv_aload hx hb dJ4_putVal_29 (lv_at hl 1 rfl) ?_
  refine lv_iload hx hb dJ4_putVal_31 (lv_at hl 0 rfl) ?_
  refine lv_iconst (v := 1) hx hb dJ4_putVal_33 (by decide) ?_
  refine lv_isub hx hb dJ4_putVal_34 ?_
  refine top_i (y := nI (16 - 1)) (pk_sub (b := 1) (by omega)) ?_
  refine lv_iload_n hx hb dJ4_putVal_35 rfl (lv_at hl 3 rfl) ?_
  refine lv_iand hx hb dJ4_putVal_36 ?_
  refine top_i (y := nI k) (by rw [nx_and, hck]) ?_
  refine lv_dup hx hb dJ4_putVal_37 rfl ?_
  refine lv_istore (lv' := [(9, .int (nI k)), (8, .int (nI (16))), (6, .ref (t)), (0, .ref (h)), (1, .int (nI k)), (2, .ref (gI G k)), (3, .ref (gbo G bo)), (4, .int (0)), (5, .int (1))]) hx hb dJ4_putVal_38 hl (by decide) rfl (fun ls hl => ?_)
  refine qa_ld (j := k) hx hb hG.K hP 1 5 rfl rfl (by omega) (by omega) dJ4_putVal_40 ?_
  refine top_q (y := none) (hf0) ?_
  refine lv_dup hx hb dJ4_putVal_41 rfl ?_
  refine lv_astoreN (lv' := [(7, .null), (9, .int (nI k)), (8, .int (nI (16))), (6, .ref (t)), (0, .ref (h)), (1, .int (nI k)), (2, .ref (gI G k)), (3, .ref (gbo G bo)), (4, .int (0)), (5, .int (1))]) hx hb dJ4_putVal_42 hl (by decide) rfl (fun ls hl => ?_)
  refine lv_ifnonnullN hx hb dJ4_putVal_44 ?_
  refine lv_aload hx hb dJ4_putVal_47 (lv_at hl 3 rfl) ?_
  refine lv_iload hx hb dJ4_putVal_49 (lv_at hl 1 rfl) ?_
  refine lv_aload_n hx hb dJ4_putVal_51 rfl (lv_at hl 4 rfl) ?_
  refine lv_iload_n hx hb dJ4_putVal_52 rfl (lv_at hl 5 rfl) ?_
  refine lv_aload_n hx hb dJ4_putVal_53 rfl (lv_at hl 6 rfl) ?_
  refine lv_aload_n hx hb dJ4_putVal_54 rfl (lv_at hl 7 rfl) ?_
  refine lv_null hx hb dJ4_putVal_55 ?_
  have hP := wP.perm (w' := ((h, .inr (6, [.ref (t), va_rf (en), .int (nI (12)), .int (mo), .int (12), .float (1061158912), .null, .null, va_rf (hdE es none), va_rf (lsE none es), .int (0), .int (0)])) :: enW G none es none) ++ [(t, .inl (gA G 5, 16, .inr (.inr (.inr (.inr (f))))))]) hP (pm_ (fun _ z => by simp only [List.count_append, List.count_cons, List.count_nil]; omega))
  have hD := va_D.perm (w' := ((h, .inr (6, [.ref (t), va_rf (en), .int (nI (12)), .int (mo), .int (12), .float (1061158912), .null, .null, va_rf (hdE es none), va_rf (lsE none es), .int (0), .int (0)])) :: enW G none es none) ++ [(t, .inl (gA G 5, 16, .inr (.inr (.inr (.inr (f))))))]) hD (pm_ (fun _ z => by simp only [List.count_append, List.count_cons, List.count_nil]; omega))
  refine cl_q (wr := [(t, .inl (gA G 5, 16, .inr (.inr (.inr (.inr (f))))))]) (va_runU (As := [.int (nI k), .ref (gI G k), .ref (gbo G bo), .null]) (rest := [.int (nI k), .ref (t)]) ⟨hx, hb, hml, hown, hts⟩ (metJ5_newNode l G h 12 k bo (some t) en mo 12 es _) (va_cwA 4 hts (lw_U (owner := "java/util/HashMap") (x := ({ cls := "java/util/HashMap", name := "newNode", desc := "(ILjava/lang/Object;Ljava/lang/Object;Ljava/util/HashMap$Node;)Ljava/util/HashMap$Node;" } : Jvm.MethodName)) (y := ({ cls := "java/util/LinkedHashMap", name := "newNode", desc := "(ILjava/lang/Object;Ljava/lang/Object;Ljava/util/HashMap$Node;)Ljava/util/HashMap$Node;" } : Jvm.MethodName)) q624 q626 q627 q628 q35 q629) rfl rfl rfl (hG.decl q634) (by decide +kernel) ⟨Nat.le_of_ble_eq_true rfl, Nat.le_of_ble_eq_true rfl⟩) (pre_WV (q0 := 0) hG hP hD hS hA0 rfl rfl) rfl rfl hl.1 rfl (lv_room (Nat.le_of_ble_eq_true rfl)) dJ4_putVal_56 ⟨Nat.le_of_ble_eq_true rfl, Nat.le_of_ble_eq_true rfl⟩) hP hD hS hA (fun r_56 w1 H locs hp hP hD hS => ?_)
  obtain ⟨q2, rfl, rfl⟩ := hp
  obtain ⟨hdv, hhd⟩ := hd_some es (q2, k, bo)
  rw [hhd] at hP hD
  have hP : wP G (((h, .inr (6, [.ref (t), va_rf (en), .int (nI (12)), .int (mo), .int (12), .float (1061158912), .null, .null, .ref (hdv), .ref (q2), .int (0), .int (0)])) :: enW G none (es ++ [(q2, k, bo)]) none) ++ [(t, .inl (gA G 5, 16, .inr (.inr (.inr (.inr (f))))))]) H := hP
  have hD : va_D A (((h, .inr (6, [.ref (t), va_rf (en), .int (nI (12)), .int (mo), .int (12), .float (1061158912), .null, .null, .ref (hdv), .ref (q2), .int (0), .int (0)])) :: enW G none (es ++ [(q2, k, bo)]) none) ++ [(t, .inl (gA G 5, 16, .inr (.inr (.inr (.inr (f))))))]) := hD
  have hP := wP.perm (w' := ((h, .inr (6, [.ref (t), va_rf (en), .int (nI (12)), .int (mo), .int (12), .float (1061158912), .null, .null, .ref (hdv), .ref (q2), .int (0), .int (0)])) :: (t, .inl (gA G 5, 16, .inr (.inr (.inr (.inr (f)))))) :: enW G none (es ++ [(q2, k, bo)]) none)) hP (pm_ (fun _ z => by simp only [List.count_append, List.count_cons, List.count_nil]; omega))
  have hD := va_D.perm (w' := ((h, .inr (6, [.ref (t), va_rf (en), .int (nI (12)), .int (mo), .int (12), .float (1061158912), .null, .null, .ref (hdv), .ref (q2), .int (0), .int (0)])) :: (t, .inl (gA G 5, 16, .inr (.inr (.inr (.inr (f)))))) :: enW G none (es ++ [(q2, k, bo)]) none)) hD (pm_ (fun _ z => by simp only [List.count_append, List.count_cons, List.count_nil]; omega))
  refine qa_st (j := k) hx hb hG.K hP hD hS 1 5 rfl rfl (any_of hG hP (List.mem_cons_of_mem _ (List.mem_cons_of_mem _ (enC_mem (es1 := es) (x := (q2, k, bo)) (es2 := [])))) rfl q1369) (by omega) (by omega) dJ4_putVal_59 (fun H locs hP hD hS => ?_)
  have hP : wP G ((h, .inr (6, [.ref (t), va_rf (en), .int (nI (12)), .int (mo), .int (12), .float (1061158912), .null, .null, .ref (hdv), .ref (q2), .int (0), .int (0)])) :: (t, .inl (gA G 5, 16, .inr (.inr (.inr (.inr (va_up f (k) (some (q2)))))))) :: enW G none (es ++ [(q2, k, bo)]) none) H := hP
  have hD : va_D A ((h, .inr (6, [.ref (t), va_rf (en), .int (nI (12)), .int (mo), .int (12), .float (1061158912), .null, .null, .ref (hdv), .ref (q2), .int (0), .int (0)])) :: (t, .inl (gA G 5, 16, .inr (.inr (.inr (.inr (va_up f (k) (some (q2)))))))) :: enW G none (es ++ [(q2, k, bo)]) none) := hD
  refine lv_goto (tgt := 259) hx hb dJ4_putVal_60 (by decide) ?_
  refine lv_aload_n hx hb dJ4_putVal_259 rfl (lv_at hl 4 rfl) ?_
  refine lv_dup hx hb dJ4_putVal_260 rfl ?_
  refine va_get (D := gD G) (ci := 6) (v := .int (mo)) (C := RJ5) (T := TJ5) (N := 12) hx hb hts in_J5 hown hG.K hP 0 rfl rfl 3 (by decide) (hts _ q136) (fun _ h9 => h9) rfl dJ4_putVal_261 ?_
  refine lv_iconst (v := 1) hx hb dJ4_putVal_264 (by decide) ?_
  refine lv_iadd hx hb dJ4_putVal_265 ?_
  refine va_put (D := gD G) (ci := 6) (v := .int ((mo) + (1))) (ty := .int) (C := RJ5) (T := TJ5) (N := 12) hx hb hts in_J5 tyJ5 tyJ5_ok nmJ5 hown hG.K hP hD hS 0 rfl rfl 3 (by decide) (hts _ q136) (fun _ h9 => h9) rfl (by decide +kernel) rfl rfl (Nat.le_of_ble_eq_true rfl) dJ4_putVal_266 (fun H locs hP hD hS => ?_)
  have hP : wP G ((h, .inr (6, [.ref (t), va_rf (en), .int (nI (12)), .int ((mo) + (1)), .int (12), .float (1061158912), .null, .null, .ref (hdv), .ref (q2), .int (0), .int (0)])) :: (t, .inl (gA G 5, 16, .inr (.inr (.inr (.inr (va_up f (k) (some (q2)))))))) :: enW G none (es ++ [(q2, k, bo)]) none) H := hP
  have hD : va_D A ((h, .inr (6, [.ref (t), va_rf (en), .int (nI (12)), .int ((mo) + (1)), .int (12), .float (1061158912), .null, .null, .ref (hdv), .ref (q2), .int (0), .int (0)])) :: (t, .inl (gA G 5, 16, .inr (.inr (.inr (.inr (va_up f (k) (some (q2)))))))) :: enW G none (es ++ [(q2, k, bo)]) none) := hD
  refine lv_aload_n hx hb dJ4_putVal_269 rfl (lv_at hl 4 rfl) ?_
  refine lv_dup hx hb dJ4_putVal_270 rfl ?_
  refine va_get (D := gD G) (ci := 6) (v := .int (nI (12))) (C := RJ5) (T := TJ5) (N := 12) hx hb hts in_J5 hown hG.K hP 0 rfl rfl 2 (by decide) (hts _ q132) (fun _ h9 => h9) rfl dJ4_putVal_271 ?_
  refine lv_iconst (v := 1) hx hb dJ4_putVal_274 (by decide) ?_
  refine lv_iadd hx hb dJ4_putVal_275 ?_
  refine top_i (y := nI (12 + 1)) (nI_1 _) ?_
  refine lv_dup_x1 hx hb dJ4_putVal_276 rfl rfl ?_
  refine va_put (D := gD G) (ci := 6) (v := .int (nI (12 + 1))) (ty := .int) (C := RJ5) (T := TJ5) (N := 12) hx hb hts in_J5 tyJ5 tyJ5_ok nmJ5 hown hG.K hP hD hS 0 rfl rfl 2 (by decide) (hts _ q132) (fun _ h9 => h9) rfl (by decide +kernel) rfl rfl (Nat.le_of_ble_eq_true rfl) dJ4_putVal_277 (fun H locs hP hD hS => ?_)
  have hP : wP G ((h, .inr (6, [.ref (t), va_rf (en), .int (nI (12 + 1)), .int ((mo) + (1)), .int (12), .float (1061158912), .null, .null, .ref (hdv), .ref (q2), .int (0), .int (0)])) :: (t, .inl (gA G 5, 16, .inr (.inr (.inr (.inr (va_up f (k) (some (q2)))))))) :: enW G none (es ++ [(q2, k, bo)]) none) H := hP
  have hD : va_D A ((h, .inr (6, [.ref (t), va_rf (en), .int (nI (12 + 1)), .int ((mo) + (1)), .int (12), .float (1061158912), .null, .null, .ref (hdv), .ref (q2), .int (0), .int (0)])) :: (t, .inl (gA G 5, 16, .inr (.inr (.inr (.inr (va_up f (k) (some (q2)))))))) :: enW G none (es ++ [(q2, k, bo)]) none) := hD
  refine lv_aload_n hx hb dJ4_putVal_280 rfl (lv_at hl 4 rfl) ?_
  refine va_get (D := gD G) (ci := 6) (v := .int (12)) (C := RJ5) (T := TJ5) (N := 12) hx hb hts in_J5 hown hG.K hP 0 rfl rfl 4 (by decide) (hts _ q137) (fun _ h9 => h9) rfl dJ4_putVal_281 ?_
  refine lv_icmp_le (tgt := 292) hx hb dJ4_putVal_284 (by decide) (fun c_284 => absurd c_284 (by decide)) (fun c_284 => ?_)
  refine lv_aload_n hx hb dJ4_putVal_287 rfl (lv_at hl 4 rfl) ?_
  refine cl_q0 (va_runU (As := []) (rest := []) ⟨hx, hb, hml, hown, hts⟩ (metJ4_rs1 l G h (12 + 1) t (va_up f k (some q2)) en (some hdv) (some q2) (mo + 1) (es ++ [(q2, k, bo)]) (tbE_put hf hkn) _) (va_cwU 0 hts (lw_U (owner := "java/util/HashMap") (x := ({ cls := "java/util/HashMap", name := "resize", desc := "()[Ljava/util/HashMap$Node;" } : Jvm.MethodName)) (y := ({ cls := "java/util/HashMap", name := "resize", desc := "()[Ljava/util/HashMap$Node;" } : Jvm.MethodName)) q603 q605 q606 q604 q34 q607) rfl rfl rfl rfl (by decide +kernel) ⟨Nat.le_of_ble_eq_true rfl, Nat.le_of_ble_eq_true rfl⟩) (pre_WV0 (q0 := 0) hG hP hD hS hA0 rfl rfl) rfl rfl hl.1 rfl (lv_room (Nat.le_of_ble_eq_true rfl)) dJ4_putVal_288 ⟨Nat.le_of_ble_eq_true rfl, Nat.le_of_ble_eq_true rfl⟩) hP hD hS hA (fun r_288 w1 H locs hp hP hD hS => ?_)
  obtain ⟨q3, g3, rfl, rfl, hg3⟩ := hp
  have hP : wP G ((h, .inr (6, [.ref (q3), va_rf (en), .int (nI (12 + 1)), .int (mo + 1), .int (24), .float (1061158912), .null, .null, .ref (hdv), .ref (q2), .int (0), .int (0)])) :: (q3, .inl (gA G 5, 32, .inr (.inr (.inr (.inr (g3)))))) :: enW G none (es ++ [(q2, k, bo)]) none) H := hP
  have hD : va_D A ((h, .inr (6, [.ref (q3), va_rf (en), .int (nI (12 + 1)), .int (mo + 1), .int (24), .float (1061158912), .null, .null, .ref (hdv), .ref (q2), .int (0), .int (0)])) :: (q3, .inl (gA G 5, 32, .inr (.inr (.inr (.inr (g3)))))) :: enW G none (es ++ [(q2, k, bo)]) none) := hD
  refine lv_pop hx hb dJ4_putVal_291 rfl ?_
  refine lv_aload_n hx hb dJ4_putVal_292 rfl (lv_at hl 4 rfl) ?_
  refine lv_iload hx hb dJ4_putVal_293 (lv_at hl 9 rfl) ?_
  have hP := wP.perm (w' := [(h, .inr (6, [.ref (q3), va_rf (en), .int (nI (12 + 1)), .int (mo + 1), .int (24), .float (1061158912), .null, .null, .ref (hdv), .ref (q2), .int (0), .int (0)]))] ++ ((q3, .inl (gA G 5, 32, .inr (.inr (.inr (.inr (g3)))))) :: enW G none (es ++ [(q2, k, bo)]) none)) hP (pm_ (fun _ z => by simp only [List.count_append, List.count_cons, List.count_nil]; omega))
  have hD := va_D.perm (w' := [(h, .inr (6, [.ref (q3), va_rf (en), .int (nI (12 + 1)), .int (mo + 1), .int (24), .float (1061158912), .null, .null, .ref (hdv), .ref (q2), .int (0), .int (0)]))] ++ ((q3, .inl (gA G 5, 32, .inr (.inr (.inr (.inr (g3)))))) :: enW G none (es ++ [(q2, k, bo)]) none)) hD (pm_ (fun _ z => by simp only [List.count_append, List.count_cons, List.count_nil]; omega))
  refine cl_v (wr := ((q3, .inl (gA G 5, 32, .inr (.inr (.inr (.inr (g3)))))) :: enW G none (es ++ [(q2, k, bo)]) none)) (va_runU (As := [.int (1)]) (rest := []) ⟨hx, hb, hml, hown, hts⟩ (metJ5_ani l G h (12 + 1) hdv (some q3) en (some q2) (mo + 1) 24 _) (va_cwA 1 hts (lw_U (owner := "java/util/HashMap") (x := ({ cls := "java/util/HashMap", name := "afterNodeInsertion", desc := "(Z)V" } : Jvm.MethodName)) (y := ({ cls := "java/util/LinkedHashMap", name := "afterNodeInsertion", desc := "(Z)V" } : Jvm.MethodName)) q695 q697 q698 q699 q35 q700) rfl rfl rfl (hG.decl q705) (by decide +kernel) ⟨Nat.le_of_ble_eq_true rfl, Nat.le_of_ble_eq_true rfl⟩) (pre_WV (q0 := 0) hG hP hD hS hA0 rfl rfl) rfl rfl hl.1 rfl (lv_room (Nat.le_of_ble_eq_true rfl)) dJ4_putVal_295 ⟨Nat.le_of_ble_eq_true rfl, Nat.le_of_ble_eq_true rfl⟩) hP hD hS hA (fun w1 H locs hp hP hD hS => ?_)
  subst hp
  have hP : wP G ([(h, .inr (6, [.ref (q3), va_rf (en), .int (nI (12 + 1)), .int (mo + 1), .int (24), .float (1061158912), .null, .null, .ref (hdv), .ref (q2), .int (0), .int (0)]))] ++ ((q3, .inl (gA G 5, 32, .inr (.inr (.inr (.inr (g3)))))) :: enW G none (es ++ [(q2, k, bo)]) none)) H := hP
  have hD : va_D A ([(h, .inr (6, [.ref (q3), va_rf (en), .int (nI (12 + 1)), .int (mo + 1), .int (24), .float (1061158912), .null, .null, .ref (hdv), .ref (q2), .int (0), .int (0)]))] ++ ((q3, .inl (gA G 5, 32, .inr (.inr (.inr (.inr (g3)))))) :: enW G none (es ++ [(q2, k, bo)]) none)) := hD
  have hP := wP.perm (w' := ((h, .inr (6, [.ref (q3), va_rf (en), .int (nI (12 + 1)), .int (mo + 1), .int (24), .float (1061158912), .null, .null, .ref (hdv), .ref (q2), .int (0), .int (0)])) :: (q3, .inl (gA G 5, 32, .inr (.inr (.inr (.inr (g3)))))) :: enW G none (es ++ [(q2, k, bo)]) none)) hP (pm_ (fun _ z => by simp only [List.count_append, List.count_cons, List.count_nil]; omega))
  have hD := va_D.perm (w' := ((h, .inr (6, [.ref (q3), va_rf (en), .int (nI (12 + 1)), .int (mo + 1), .int (24), .float (1061158912), .null, .null, .ref (hdv), .ref (q2), .int (0), .int (0)])) :: (q3, .inl (gA G 5, 32, .inr (.inr (.inr (.inr (g3)))))) :: enW G none (es ++ [(q2, k, bo)]) none)) hD (pm_ (fun _ z => by simp only [List.count_append, List.count_cons, List.count_nil]; omega))
  refine lv_null hx hb dJ4_putVal_298 ?_
  exact ret (none) _ 299 ls _ _ _ _ dJ4_putVal_299 (Nat.le_of_ble_eq_true rfl) (Nat.le_of_ble_eq_true rfl) hP hD hS (⟨q2, q3, hdv, g3, hhd, rfl, hg3⟩)
set_option maxHeartbeats 4000000 in
set_option maxRecDepth 100000 in
theorem metJ4_put0 (l : Launch) (G : Gt) (h k : Nat) (bo : Bool) (en : Option Nat) (mo : Int32) (hk : k ≤ 14) (hck : 16 - 1 &&& k = k) (sz : Nat) : CWq l G yJ4_put cJ4_put 3 (.object "java/lang/Object") 9 3 70 500 [.ref (h), .ref (gI G k), .ref (gbo G bo)] [(h, .inr (6, [.null, va_rf (en), .int (nI 0), .int (mo), .int (0), .float (1061158912), .null, .null, .null, .null, .int (0), .int (0)]))] sz (fun _ w1 => ∃ q1 q2, w1 = ((h, .inr (6, [.ref (q1), va_rf (en), .int (nI (0 + 1)), .int (mo + 1), .int (12), .float (1061158912), .null, .null, .ref (q2), .ref (q2), .int (0), .int (0)])) :: (q1, .inl (gA G 5, 16, .inr (.inr (.inr (.inr (va_up (fun _ => none) k (some q2))))))) :: enW G none ([] ++ [(q2, k, bo)]) none)) := by
  refine mkWq (by decide) (Nat.le_of_ble_eq_true rfl) (by first | exact Or.inl ⟨_, rfl⟩ | exact Or.inr ⟨_, rfl⟩) ?_
  intro p e s m args below meth c Q A hx hb hts hown hin hml hG hsz hP hD hA hA0 hS ret ls hl
  refine lv_aload_n hx hb dJ4_put_0 rfl (lv_at hl 0 rfl) ?_
  refine lv_aload_n hx hb dJ4_put_1 rfl (lv_at hl 1 rfl) ?_
  refine vp_callSi (W.runS (As := [.ref (gI G k)]) (rest := [.ref (h)]) ⟨hx, hb, hml, hown, hts⟩ (metJ4_hash l G k hk) (va_cwS 1 hts (lw_S q374 q375 q34 q376) rfl rfl rfl (by decide +kernel) ⟨Nat.le_of_ble_eq_true rfl, Nat.le_of_ble_eq_true rfl⟩) (pre_RS hG (wP.mem (w' := []) hP (fun _ h => absurd h List.not_mem_nil)) hS hA0) rfl rfl hl.1 rfl (lv_room (Nat.le_of_ble_eq_true rfl)) dJ4_put_2 ⟨Nat.le_of_ble_eq_true rfl, Nat.le_of_ble_eq_true rfl⟩) (fun r_2 e_2 => ?_)
  subst e_2
  refine lv_aload_n hx hb dJ4_put_5 rfl (lv_at hl 1 rfl) ?_
  refine lv_aload_n hx hb dJ4_put_6 rfl (lv_at hl 2 rfl) ?_
  refine lv_iconst (v := 0) hx hb dJ4_put_7 (by decide) ?_
  refine lv_iconst (v := 1) hx hb dJ4_put_8 (by decide) ?_
  refine cl_q0 (va_runU (As := [.int (nI k), .ref (gI G k), .ref (gbo G bo), .int (0), .int (1)]) (rest := []) ⟨hx, hb, hml, hown, hts⟩ (metJ4_pv0 l G h k bo en mo hk hck _) (va_cwU 5 hts (lw_U (owner := "java/util/HashMap") (x := ({ cls := "java/util/HashMap", name := "putVal", desc := "(ILjava/lang/Object;Ljava/lang/Object;ZZ)Ljava/lang/Object;" } : Jvm.MethodName)) (y := ({ cls := "java/util/HashMap", name := "putVal", desc := "(ILjava/lang/Object;Ljava/lang/Object;ZZ)Ljava/lang/Object;" } : Jvm.MethodName)) q598 q600 q601 q599 q34 q602) rfl rfl rfl rfl (by decide +kernel) ⟨Nat.le_of_ble_eq_true rfl, Nat.le_of_ble_eq_true rfl⟩) (pre_WV0 (q0 := 0) hG hP hD hS hA0 rfl rfl) rfl rfl hl.1 rfl (lv_room (Nat.le_of_ble_eq_true rfl)) dJ4_put_9 ⟨Nat.le_of_ble_eq_true rfl, Nat.le_of_ble_eq_true rfl⟩) hP hD hS hA (fun r_9 w1 H locs hp hP hD hS => ?_)
  exact ret (r_9) _ 12 ls _ _ _ _ dJ4_put_12 (Nat.le_of_ble_eq_true rfl) (Nat.le_of_ble_eq_true rfl) hP hD hS (hp)
set_option maxHeartbeats 4000000 in
set_option maxRecDepth 100000 in
theorem metJ4_put1 (l : Launch) (G : Gt) (h n k cap t : Nat) (bo : Bool) (f : Nat → Option Nat) (es : List En) (en : Option Nat) (mo th : Int32) (hc : 16 ≤ cap) (hc2 : cap ≤ 32) (hk : k ≤ 14) (hck : cap - 1 &&& k = k) (hf0 : f k = none) (hth : nI (n + 1) ≤ th) (sz : Nat) : CWq l G yJ4_put cJ4_put 3 (.object "java/lang/Object") 9 3 70 500 [.ref (h), .ref (gI G k), .ref (gbo G bo)] ((h, .inr (6, [.ref (t), va_rf (en), .int (nI n), .int (mo), .int (th), .float (1061158912), .null, .null, va_rf (hdE es none), va_rf (lsE none es), .int (0), .int (0)])) :: (t, .inl (gA G 5, cap, .inr (.inr (.inr (.inr (f)))))) :: enW G none es none) sz (fun _ w1 => ∃ q2 hdv, hdE (es ++ [(q2, k, bo)]) none = some hdv ∧ w1 = ((h, .inr (6, [.ref (t), va_rf (en), .int (nI (n + 1)), .int (mo + 1), .int (th), .float (1061158912), .null, .null, .ref (hdv), .ref (q2), .int (0), .int (0)])) :: (t, .inl (gA G 5, cap, .inr (.inr (.inr (.inr (va_up f k (some q2))))))) :: enW G none (es ++ [(q2, k, bo)]) none)) := by
  refine mkWq (by decide) (Nat.le_of_ble_eq_true rfl) (by first | exact Or.inl ⟨_, rfl⟩ | exact Or.inr ⟨_, rfl⟩) ?_
  intro p e s m args below meth c Q A hx hb hts hown hin hml hG hsz hP hD hA hA0 hS ret ls hl
  refine lv_aload_n hx hb dJ4_put_0 rfl (lv_at hl 0 rfl) ?_
  refine lv_aload_n hx hb dJ4_put_1 rfl (lv_at hl 1 rfl) ?_
  refine vp_callSi (W.runS (As := [.ref (gI G k)]) (rest := [.ref (h)]) ⟨hx, hb, hml, hown, hts⟩ (metJ4_hash l G k hk) (va_cwS 1 hts (lw_S q374 q375 q34 q376) rfl rfl rfl (by decide +kernel) ⟨Nat.le_of_ble_eq_true rfl, Nat.le_of_ble_eq_true rfl⟩) (pre_RS hG (wP.mem (w' := []) hP (fun _ h => absurd h List.not_mem_nil)) hS hA0) rfl rfl hl.1 rfl (lv_room (Nat.le_of_ble_eq_true rfl)) dJ4_put_2 ⟨Nat.le_of_ble_eq_true rfl, Nat.le_of_ble_eq_true rfl⟩) (fun r_2 e_2 => ?_)
  subst e_2
  refine lv_aload_n hx hb dJ4_put_5 rfl (lv_at hl 1 rfl) ?_
  refine lv_aload_n hx hb dJ4_put_6 rfl (lv_at hl 2 rfl) ?_
  refine lv_iconst (v := 0) hx hb dJ4_put_7 (by decide) ?_
  refine lv_iconst (v := 1) hx hb dJ4_put_8 (by decide) ?_
  refine cl_q0 (va_runU (As := [.int (nI k), .ref (gI G k), .ref (gbo G bo), .int (0), .int (1)]) (rest := []) ⟨hx, hb, hml, hown, hts⟩ (metJ4_pv1 l G h n k cap t bo f es en mo th hc hc2 hk hck hf0 hth _) (va_cwU 5 hts (lw_U (owner := "java/util/HashMap") (x := ({ cls := "java/util/HashMap", name := "putVal", desc := "(ILjava/lang/Object;Ljava/lang/Object;ZZ)Ljava/lang/Object;" } : Jvm.MethodName)) (y := ({ cls := "java/util/HashMap", name := "putVal", desc := "(ILjava/lang/Object;Ljava/lang/Object;ZZ)Ljava/lang/Object;" } : Jvm.MethodName)) q598 q600 q601 q599 q34 q602) rfl rfl rfl rfl (by decide +kernel) ⟨Nat.le_of_ble_eq_true rfl, Nat.le_of_ble_eq_true rfl⟩) (pre_WV0 (q0 := 0) hG hP hD hS hA0 rfl rfl) rfl rfl hl.1 rfl (lv_room (Nat.le_of_ble_eq_true rfl)) dJ4_put_9 ⟨Nat.le_of_ble_eq_true rfl, Nat.le_of_ble_eq_true rfl⟩) hP hD hS hA (fun r_9 w1 H locs hp hP hD hS => ?_)
  exact ret (r_9) _ 12 ls _ _ _ _ dJ4_put_12 (Nat.le_of_ble_eq_true rfl) (Nat.le_of_ble_eq_true rfl) hP hD hS (hp)
set_option maxHeartbeats 4000000 in
set_option maxRecDepth 100000 in
theorem metJ4_put2 (l : Launch) (G : Gt) (h k t : Nat) (bo : Bool) (f : Nat → Option Nat) (es : List En) (en : Option Nat) (mo : Int32) (hk : k ≤ 14) (hck : 16 - 1 &&& k = k) (hf0 : f k = none) (hf : ∀ j, j < 16 → f j = tbE es j) (hkn : tbE es k = none) (sz : Nat) : CWq l G yJ4_put cJ4_put 3 (.object "java/lang/Object") 9 3 70 500 [.ref (h), .ref (gI G k), .ref (gbo G bo)] ((h, .inr (6, [.ref (t), va_rf (en), .int (nI (12)), .int (mo), .int (12), .float (1061158912), .null, .null, va_rf (hdE es none), va_rf (lsE none es), .int (0), .int (0)])) :: (t, .inl (gA G 5, 16, .inr (.inr (.inr (.inr (f)))))) :: enW G none es none) sz (fun _ w1 => ∃ q2 q3 hdv g, hdE (es ++ [(q2, k, bo)]) none = some hdv ∧ w1 = ((h, .inr (6, [.ref (q3), va_rf (en), .int (nI (12 + 1)), .int (mo + 1), .int (24), .float (1061158912), .null, .null, .ref (hdv), .ref (q2), .int (0), .int (0)])) :: (q3, .inl (gA G 5, 32, .inr (.inr (.inr (.inr (g)))))) :: enW G none (es ++ [(q2, k, bo)]) none) ∧ ∀ i, g i = if i < 16 then va_up f k (some q2) i else none) := by
  refine mkWq (by decide) (Nat.le_of_ble_eq_true rfl) (by first | exact Or.inl ⟨_, rfl⟩ | exact Or.inr ⟨_, rfl⟩) ?_
  intro p e s m args below meth c Q A hx hb hts hown hin hml hG hsz hP hD hA hA0 hS ret ls hl
  refine lv_aload_n hx hb dJ4_put_0 rfl (lv_at hl 0 rfl) ?_
  refine lv_aload_n hx hb dJ4_put_1 rfl (lv_at hl 1 rfl) ?_
  refine vp_callSi (W.runS (As := [.ref (gI G k)]) (rest := [.ref (h)]) ⟨hx, hb, hml, hown, hts⟩ (metJ4_hash l G k hk) (va_cwS 1 hts (lw_S q374 q375 q34 q376) rfl rfl rfl (by decide +kernel) ⟨Nat.le_of_ble_eq_true rfl, Nat.le_of_ble_eq_true rfl⟩) (pre_RS hG (wP.mem (w' := []) hP (fun _ h => absurd h List.not_mem_nil)) hS hA0) rfl rfl hl.1 rfl (lv_room (Nat.le_of_ble_eq_true rfl)) dJ4_put_2 ⟨Nat.le_of_ble_eq_true rfl, Nat.le_of_ble_eq_true rfl⟩) (fun r_2 e_2 => ?_)
  subst e_2
  refine lv_aload_n hx hb dJ4_put_5 rfl (lv_at hl 1 rfl) ?_
  refine lv_aload_n hx hb dJ4_put_6 rfl (lv_at hl 2 rfl) ?_
  refine lv_iconst (v := 0) hx hb dJ4_put_7 (by decide) ?_
  refine lv_iconst (v := 1) hx hb dJ4_put_8 (by decide) ?_
  refine cl_q0 (va_runU (As := [.int (nI k), .ref (gI G k), .ref (gbo G bo), .int (0), .int (1)]) (rest := []) ⟨hx, hb, hml, hown, hts⟩ (metJ4_pv2 l G h k t bo f es en mo hk hck hf0 hf hkn _) (va_cwU 5 hts (lw_U (owner := "java/util/HashMap") (x := ({ cls := "java/util/HashMap", name := "putVal", desc := "(ILjava/lang/Object;Ljava/lang/Object;ZZ)Ljava/lang/Object;" } : Jvm.MethodName)) (y := ({ cls := "java/util/HashMap", name := "putVal", desc := "(ILjava/lang/Object;Ljava/lang/Object;ZZ)Ljava/lang/Object;" } : Jvm.MethodName)) q598 q600 q601 q599 q34 q602) rfl rfl rfl rfl (by decide +kernel) ⟨Nat.le_of_ble_eq_true rfl, Nat.le_of_ble_eq_true rfl⟩) (pre_WV0 (q0 := 0) hG hP hD hS hA0 rfl rfl) rfl rfl hl.1 rfl (lv_room (Nat.le_of_ble_eq_true rfl)) dJ4_put_9 ⟨Nat.le_of_ble_eq_true rfl, Nat.le_of_ble_eq_true rfl⟩) hP hD hS hA (fun r_9 w1 H locs hp hP hD hS => ?_)
  exact ret (r_9) _ 12 ls _ _ _ _ dJ4_put_12 (Nat.le_of_ble_eq_true rfl) (Nat.le_of_ble_eq_true rfl) hP hD hS (hp)
theorem enOk_push {es : List En} {q k : Nat} {bo : Bool} (h : enOk es) (h1 : 1 ≤ k) (h2 : k ≤ 14) (hk : tbE es k = none) : enOk (es ++ [(q, k, bo)]) := by
  obtain ⟨a, b⟩ := h
  refine ⟨fun e he => ?_, ?_⟩
  · rcases List.mem_append.mp he with h | h
    · exact a e h
    · rw [List.mem_singleton] at h; rw [h]; exact ⟨h1, h2⟩
  · rw [List.map_append, List.nodup_append]
    refine ⟨b, by simp, ?_⟩
    intro x hx y hy e
    have hy : y = k := by simpa using hy
    obtain ⟨z, hz, rfl⟩ := List.mem_map.mp hx
    exact tbE_none hk z hz (e.trans hy)
theorem pmU {α : Type} (a b : α) (Z E : List α) : (a :: b :: (Z ++ E)).Perm ((a :: b :: E) ++ Z) := pm_ (fun _ z => by simp only [List.count_append, List.count_cons, List.count_nil]; omega)
theorem en_len {es : List En} (h : enOk es) {k : Nat} (h1 : 1 ≤ k) (h2 : k ≤ 14) (hk : tbE es k = none) : es.length + 1 ≤ 14 := by
  have := nodup_le 14 (((es.map (fun e => e.2.1)) ++ [k]).map (fun x => x - 1)) ?_ ?_
  · simpa using this
  · have hn := (enOk_push (q := 0) (bo := true) h h1 h2 hk)
    have hn2 : ((es.map (fun e => e.2.1)) ++ [k]).Nodup := by have := hn.2; rw [List.map_append] at this; exact this
    rw [List.nodup_iff_pairwise_ne] at hn2 ⊢
    rw [List.pairwise_map]
    refine List.Pairwise.imp_of_mem ?_ hn2
    intro x y hx hy hxy e
    have f : ∀ z ∈ (es.map (fun e => e.2.1)) ++ [k], 1 ≤ z := by
      intro z hz
      rcases List.mem_append.mp hz with h' | h'
      · obtain ⟨e, he, rfl⟩ := List.mem_map.mp h'; exact (h.1 e he).1
      · rw [List.mem_singleton] at h'; omega
    have := f x hx
    have := f y hy
    omega
  · intro x hx
    obtain ⟨z, hz, rfl⟩ := List.mem_map.mp hx
    rcases List.mem_append.mp hz with h' | h'
    · obtain ⟨e, he, rfl⟩ := List.mem_map.mp h'
      have := h.1 e he
      omega
    · rw [List.mem_singleton] at h'
      omega
/-- LinkedHashMap.put of a key that isn't there -/
theorem metJ4_put (l : Launch) (G : Gt) (h k : Nat) (bo : Bool) (ch : List Lit) (w : va_W) (hw : MP G h ch w) (hk1 : 1 ≤ k) (hk : k ≤ 14) (hno : ∀ t ∈ ch, t.1 ≠ k) (sz : Nat) : CWq l G yJ4_put cJ4_put 3 (.object "java/lang/Object") 9 3 70 500 [.ref h, .ref (gI G k), .ref (gbo G bo)] w sz (fun _ w1 => MP G h (ch ++ [(k, bo)]) w1) := by
  obtain ⟨es, t, ent, mo, th, rfl, hok, htab, rfl⟩ := hw
  have hkn : tbE es k = none := tbE_nil (fun e he => hno _ (List.mem_map_of_mem (f := fun e : En => (e.2.1, e.2.2)) he))
  have hlen := en_len hok hk1 hk hkn
  rcases htab with ⟨rfl, rfl, rfl⟩ | ⟨q, f, rfl, rfl, hl, hf⟩ | ⟨q, f, rfl, rfl, hf⟩
  · refine CWq.postp ((metJ4_put0 l G h k bo ent mo hk (and_16 k (by omega)) sz).frame (esW h ent ++ enW G none [] none)) ?_
    rintro r w ⟨w2, ⟨q1, q2, rfl⟩, rfl⟩
    refine ⟨moC h (some q1) ent ([(q2, k, bo)] : List En).length (mo + 1) 12 (some q2) (some q2) :: (taW G (some (q1, 16, va_up (fun _ => none) k (some q2))) ++ (esW h ent ++ enW G none [(q2, k, bo)] none)), ?_, ?_⟩
    · have := pmU (moC h (some q1) ent ([(q2, k, bo)] : List En).length (mo + 1) 12 (some q2) (some q2)) (q1, .inl (gA G 5, 16, .inr (.inr (.inr (.inr (va_up (fun _ => none) k (some q2))))))) (esW h ent) (enW G none [(q2, k, bo)] none)
      rw [show enW G none [] none = [] from rfl, List.append_nil]
      exact this
    · exact ⟨[(q2, k, bo)], some (q1, 16, _), ent, mo + 1, 12, rfl, enOk_push (es := []) hok hk1 hk rfl, Or.inr (Or.inl ⟨q1, _, rfl, rfl, by simp, tbE_put (es := []) (fun j _ => rfl) rfl⟩), rfl⟩
  · by_cases h12 : es.length = 12
    · have hm := metJ4_put2 l G h k q bo f es ent mo hk (and_16 k (by omega)) ((hf k (by omega)).trans hkn) hf hkn sz
      rw [h12]
      refine CWq.postp (CWq.perm (hm.frame (esW h ent)) (pmU (moC h (some q) ent 12 mo 12 (hdE es none) (lsE none es)) (q, .inl (gA G 5, 16, .inr (.inr (.inr (.inr f))))) (esW h ent) (enW G none es none))) ?_
      rintro r w ⟨w2, ⟨q2, q3, hdv, g, hhd, rfl, hg⟩, rfl⟩
      refine ⟨_, pmU _ _ _ _, es ++ [(q2, k, bo)], some (q3, 32, g), ent, mo + 1, 24, by rw [List.map_append]; rfl, enOk_push hok hk1 hk hkn, Or.inr (Or.inr ⟨q3, g, rfl, rfl, ?_⟩), ?_⟩
      · intro j hj
        rw [hg j]
        by_cases h16 : j < 16
        · rw [if_pos h16]; exact tbE_put hf hkn j h16
        · rw [if_neg h16, tbE_nil]
          intro e he
          have := (enOk_push (q := q2) (bo := bo) hok hk1 hk hkn).1 e he
          omega
      · rw [List.length_append, h12, hhd, lsE_snoc]; rfl
    · have hm := metJ4_put1 l G h es.length k 16 q bo f es ent mo 12 (by decide) (by decide) hk (and_16 k (by omega)) ((hf k (by omega)).trans hkn) (nI_le (b := 12) (by omega) (by decide)) sz
      refine CWq.postp (CWq.perm (hm.frame (esW h ent)) (pmU (moC h (some q) ent es.length mo 12 (hdE es none) (lsE none es)) (q, .inl (gA G 5, 16, .inr (.inr (.inr (.inr f))))) (esW h ent) (enW G none es none))) ?_
      rintro r w ⟨w2, ⟨q2, hdv, hhd, rfl⟩, rfl⟩
      refine ⟨_, pmU _ _ _ _, es ++ [(q2, k, bo)], some (q, 16, va_up f k (some q2)), ent, mo + 1, 12, by rw [List.map_append]; rfl, enOk_push hok hk1 hk hkn, Or.inr (Or.inl ⟨q, _, rfl, rfl, by rw [List.length_append]; show es.length + 1 ≤ 12; omega, tbE_put hf hkn⟩), ?_⟩
      rw [List.length_append, hhd, lsE_snoc]; rfl
  · have hm := metJ4_put1 l G h es.length k 32 q bo f es ent mo 24 (by decide) (by decide) hk (and_32 k (by omega)) ((hf k (by omega)).trans hkn) (nI_le (b := 24) (by omega) (by decide)) sz
    refine CWq.postp (CWq.perm (hm.frame (esW h ent)) (pmU (moC h (some q) ent es.length mo 24 (hdE es none) (lsE none es)) (q, .inl (gA G 5, 32, .inr (.inr (.inr (.inr f))))) (esW h ent) (enW G none es none))) ?_
    rintro r w ⟨w2, ⟨q2, hdv, hhd, rfl⟩, rfl⟩
    refine ⟨_, pmU _ _ _ _, es ++ [(q2, k, bo)], some (q, 32, va_up f k (some q2)), ent, mo + 1, 24, by rw [List.map_append]; rfl, enOk_push hok hk1 hk hkn, Or.inr (Or.inr ⟨q, _, rfl, rfl, tbE_put hf hkn⟩), ?_⟩
    rw [List.length_append, hhd, lsE_snoc]; rfl
