/-- a list of Integers: addresses, values, and the made ones' cells -/
abbrev Bx := Nat × (Int32 × va_W)
def bxF (bs : List Bx) : va_W := bs.flatMap (·.2.2)
def bxOk (G : Gt) (bs : List Bx) : Prop := ∀ b ∈ bs, bxW G b.2.1 b.1 b.2.2
theorem bxF_mem {bs : List Bx} {k y : Nat} {v : Int32} {wb : va_W} (h : bs[k]? = some (y, v, wb)) {z : Nat × va_E} (hz : z ∈ wb) : z ∈ bxF bs := List.mem_flatMap.mpr ⟨_, List.mem_of_getElem? h, hz⟩
theorem bx_any {G : Gt} {bs : List Bx} (h : bxOk G bs) : ∀ y ∈ bs.map (·.1), AnyOb G (bxF bs) y := by
  intro y hy
  obtain ⟨b, hb, rfl⟩ := List.mem_map.mp hy
  exact (AnyOb_bx (h b hb)).mono (fun q hq => List.mem_flatMap.mpr ⟨b, hb, hq⟩)
theorem ex_get3 {bs : List Bx} {k : Nat} (h : k < bs.length) : ∃ y v wb, bs[k]? = some (y, v, wb) := ⟨_, _, _, List.getElem?_eq_getElem h⟩
theorem getD_2 {bs : List Bx} {k y : Nat} {v : Int32} {wb : va_W} (h : bs[k]? = some (y, v, wb)) : (bs.map (·.2.1)).getD k 0 = v := by
  rw [List.getD_eq_getElem?_getD, List.getElem?_map, h]; rfl
theorem lt_of_nI {i : Int32} {N : Nat} (hN : N < 2 ^ 31) (h0 : ¬ i < 0) (h : i < nI N) : ∃ k, i = nI k ∧ k < N := by
  obtain ⟨k, rfl, hk⟩ := le2_of (k := i) (m := N) (M := nI N) (nI_toInt hN) h0 (fun h' => Int32.lt_irrefl (Int32.lt_trans h h'))
  refine ⟨k, rfl, ?_⟩
  rw [Int32.lt_iff_toInt_lt, nI_toInt (by omega), nI_toInt hN] at h
  omega
theorem in1_of {i : Int32} {N : Nat} (hN : N < 2 ^ 31) (h0 : ¬ i < 1) (h : ¬ nI N < i) : ∃ k, i = nI k ∧ 1 ≤ k ∧ k ≤ N := by
  have h1 : ¬ i < 0 := fun h' => h0 (Int32.lt_trans h' (by decide))
  obtain ⟨k, rfl, hk⟩ := le2_of (k := i) (m := N) (M := nI N) (nI_toInt hN) h1 h
  refine ⟨k, rfl, ?_, hk⟩
  rcases Nat.eq_zero_or_pos k with rfl | h'
  · exact absurd (by decide) h0
  · exact h'
set_option maxHeartbeats 4000000 in
set_option maxRecDepth 100000 in
theorem metX1_why (l : Launch) (G : Gt) (a : Nat → Nat) (iv : Nat → Int32) (bs : List Bx) (wl : va_W) (hw : AL G (a 14) (bs.map (·.1)) wl) (hbs : bxOk G bs) (hlen : bs.length ≤ 300) (i : Int32) : CR l G yX1_why cX1_why 2 .int 3 64 [.ref (a 15), .int (i)] ((a 15, .inr (0, [.ref (a 0), .ref (a 1), .ref (a 2), .ref (a 3), .ref (a 4), .ref (a 5), .ref (a 6), .int (iv 7), .ref (a 8), .ref (a 9), .int (iv 10), .int (iv 11), .ref (a 12), .int (iv 13), .ref (a 14)])) :: (wl ++ (bxF bs))) (fun r => r = if 0 ≤ i ∧ i < nI bs.length then (bs.map (·.2.1)).getD (iN i) 0 else 0) := by
  refine mkRi (by decide) (Nat.le_of_ble_eq_true rfl) ?_
  intro p e s m args below meth c Q hx hb hts hown hml hG hP hS ret ls hl
  obtain ⟨fs, tl, rfl⟩ := hw.cons
  obtain ⟨N, hN⟩ : ∃ N, N = bs.length := ⟨_, rfl⟩
  have hNm : (bs.map (·.1)).length = N := by rw [List.length_map, hN]
  refine lv_iload_n hx hb dX1_why_0 rfl (lv_at hl 1 rfl) ?_
  refine lv_if_lt (tgt := 17) hx hb dX1_why_1 (by decide) (fun c_1 => ?_) (fun c_1 => ?_)
  · skip
    refine lv_iconst (v := 0) hx hb dX1_why_17 (by decide) ?_
    refine lv_goto (tgt := 37) hx hb dX1_why_18 (by decide) ?_
    exact ret (0) 37 ls dX1_why_37 rfl ((if_neg (fun h => absurd c_1 (Int32.not_lt.mpr h.1))).symm)
  · skip
    refine lv_iload_n hx hb dX1_why_4 rfl (lv_at hl 1 rfl) ?_
    refine lv_aload_n hx hb dX1_why_5 rfl (lv_at hl 0 rfl) ?_
    refine va_get (D := gD G) (ci := 0) (v := .ref (a 14)) (C := RX1) (T := TX1) (N := 15) hx hb hts in_X1 hown hG.K hP 0 rfl rfl 14 (by decide) (hts _ q178) (fun _ h9 => h9) rfl dX1_why_6 ?_
    refine va_csFi (va_runF (As := []) (rest := [.int (i)]) (hG.K.1 5 _ rfl).2 ⟨hx, hb, hml, hown, hts⟩ (metJ2_size l G (a 14) (bs.map (·.1)) ((a 14, .inr (5, fs)) :: tl) hw) (va_cwF 0 hts (lw_F (x := ({ cls := "java/util/List", name := "size", desc := "()I" } : Jvm.MethodName)) (y := ({ cls := "java/util/ArrayList", name := "size", desc := "()I" } : Jvm.MethodName)) q982 q985 q777 q32 q778) rfl rfl rfl (hG.face (C := "java/util/ArrayList") (x := ({ cls := "java/util/List", name := "size", desc := "()I" } : Jvm.MethodName)) (y := ({ cls := "java/util/ArrayList", name := "size", desc := "()I" } : Jvm.MethodName)) q984 q983 q987 q986 q275 (by decide)) (by decide +kernel) ⟨Nat.le_of_ble_eq_true rfl, Nat.le_of_ble_eq_true rfl⟩) (pre_RV (q0 := 0) hG (wP.left (wP.perm (w' := ((a 14, .inr (5, fs)) :: tl) ++ ((a 15, .inr (0, [.ref (a 0), .ref (a 1), .ref (a 2), .ref (a 3), .ref (a 4), .ref (a 5), .ref (a 6), .int (iv 7), .ref (a 8), .ref (a 9), .int (iv 10), .int (iv 11), .ref (a 12), .int (iv 13), .ref (a 14)])) :: bxF bs)) hP (pm_ (fun _ z => by simp only [List.count_append, List.count_cons, List.count_nil]; omega)))) hS (fun _ h => h.elim) rfl rfl) rfl rfl hl.1 rfl (lv_room (Nat.le_of_ble_eq_true rfl)) dX1_why_9 ⟨Nat.le_refl _, Nat.le_refl _⟩) (fun r_9 e_9 => ?_)
    subst e_9
    refine top_i (y := nI N) (by rw [hNm]) ?_
    refine lv_icmp_lt (tgt := 21) hx hb dX1_why_14 (by decide) (fun c_14 => ?_) (fun c_14 => ?_)
    · obtain ⟨k, rfl, hkN⟩ := lt_of_nI (show N < 2 ^ 31 by omega) c_1 c_14
      refine lv_aload_n hx hb dX1_why_21 rfl (lv_at hl 0 rfl) ?_
      refine va_get (D := gD G) (ci := 0) (v := .ref (a 14)) (C := RX1) (T := TX1) (N := 15) hx hb hts in_X1 hown hG.K hP 0 rfl rfl 14 (by decide) (hts _ q178) (fun _ h9 => h9) rfl dX1_why_22 ?_
      refine lv_iload_n hx hb dX1_why_25 rfl (lv_at hl 1 rfl) ?_
      refine va_csFq (va_runF (As := [.int (nI k)]) (rest := []) (hG.K.1 5 _ rfl).2 ⟨hx, hb, hml, hown, hts⟩ (metJ2_get l G (a 14) (k) (bs.map (·.1)) ((a 14, .inr (5, fs)) :: tl) hw (by omega)) (va_cwF 1 hts (lw_F (x := ({ cls := "java/util/List", name := "get", desc := "(I)Ljava/lang/Object;" } : Jvm.MethodName)) (y := ({ cls := "java/util/ArrayList", name := "get", desc := "(I)Ljava/lang/Object;" } : Jvm.MethodName)) q989 q992 q994 q32 q996) rfl rfl rfl (hG.face (C := "java/util/ArrayList") (x := ({ cls := "java/util/List", name := "get", desc := "(I)Ljava/lang/Object;" } : Jvm.MethodName)) (y := ({ cls := "java/util/ArrayList", name := "get", desc := "(I)Ljava/lang/Object;" } : Jvm.MethodName)) q991 q990 q995 q993 q275 (by decide)) (by decide +kernel) ⟨Nat.le_of_ble_eq_true rfl, Nat.le_of_ble_eq_true rfl⟩) (pre_RV (q0 := 0) hG (wP.left (wP.perm (w' := ((a 14, .inr (5, fs)) :: tl) ++ ((a 15, .inr (0, [.ref (a 0), .ref (a 1), .ref (a 2), .ref (a 3), .ref (a 4), .ref (a 5), .ref (a 6), .int (iv 7), .ref (a 8), .ref (a 9), .int (iv 10), .int (iv 11), .ref (a 12), .int (iv 13), .ref (a 14)])) :: bxF bs)) hP (pm_ (fun _ z => by simp only [List.count_append, List.count_cons, List.count_nil]; omega)))) hS (fun _ h => h.elim) rfl rfl) rfl rfl hl.1 rfl (lv_room (Nat.le_of_ble_eq_true rfl)) dX1_why_26 ⟨Nat.le_refl _, Nat.le_refl _⟩) (fun r_26 e_26 => ?_)
      subst e_26
      obtain ⟨y, v, wb, hbk⟩ := ex_get3 (bs := bs) (k := k) (by omega)
      have hbx := hbs _ (List.mem_of_getElem? hbk)
      have hbx : bxW G v y wb := hbx
      refine top_r (y := y) (getD_1 hbk) ?_
      refine va_castS hx hb hown (hts _ q75) (hG.K.1 8 _ rfl).2 (bx_recv hbx hG (wP.mem (w' := wb) hP (fun z hz => List.mem_cons_of_mem _ (List.mem_cons_of_mem _ (List.mem_append_right _ (bxF_mem hbk hz))))) hS (fun _ h => h.elim)) dX1_why_31 ?_
      refine vp_callSi (W.runV (As := []) (rest := []) ⟨hx, hb, hml, hown, hts⟩ (metJ7_intValue l G y v wb hbx) (cwV 0 hts (lw_V q888 q439 q440 q39 q441) rfl rfl rfl (by decide +kernel) ⟨Nat.le_of_ble_eq_true rfl, Nat.le_of_ble_eq_true rfl⟩) (pre_RVo (bx_recv hbx hG (wP.mem (w' := wb) hP (fun z hz => List.mem_cons_of_mem _ (List.mem_cons_of_mem _ (List.mem_append_right _ (bxF_mem hbk hz))))) hS (fun _ h => h.elim)) hG (wP.mem (w' := wb) hP (fun z hz => List.mem_cons_of_mem _ (List.mem_cons_of_mem _ (List.mem_append_right _ (bxF_mem hbk hz))))) hS (fun _ h => h.elim)) rfl rfl hl.1 rfl (lv_room (Nat.le_of_ble_eq_true rfl)) dX1_why_34 ⟨Nat.le_refl _, Nat.le_refl _⟩) (fun r_34 e_34 => ?_)
      subst e_34
      exact ret (r_34) 37 ls dX1_why_37 rfl (by rw [← hN, if_pos ⟨Int32.not_lt.mp c_1, c_14⟩, iN_nI (by omega), getD_2 hbk])
    · skip
      refine lv_iconst (v := 0) hx hb dX1_why_17 (by decide) ?_
      refine lv_goto (tgt := 37) hx hb dX1_why_18 (by decide) ?_
      exact ret (0) 37 ls dX1_why_37 rfl (by rw [← hN, if_neg (fun h => c_14 h.2)])
theorem vs_get {bs : List Bx} {ms : List Nat} {k y : Nat} {v : Int32} {wb : va_W} (hvs : bs.map (·.2.1) = ms.map nI) (hl : ∀ m ∈ ms, m < 2 ^ 14) (h : bs[k]? = some (y, v, wb)) : ∃ m, (v = nI m ∧ ms.getD k 0 = m) ∧ m < 2 ^ 14 := by
  have h1 : (bs.map (·.2.1))[k]? = some v := by rw [List.getElem?_map, h]; rfl
  rw [hvs, List.getElem?_map] at h1
  cases hm : ms[k]? with
  | none => rw [hm] at h1; cases h1
  | some z =>
    rw [hm] at h1
    refine ⟨z, ⟨(Option.some.inj h1).symm, ?_⟩, hl z (List.mem_of_getElem? hm)⟩
    rw [List.getD_eq_getElem?_getD, hm]; rfl
set_option maxHeartbeats 4000000 in
set_option maxRecDepth 100000 in
theorem metX1_differ (l : Launch) (G : Gt) (a : Nat → Nat) (iv : Nat → Int32) (bs : List Bx) (ms : List Nat) (wl : va_W) (hw : AL G (a 12) (bs.map (·.1)) wl) (hbs : bxOk G bs) (hvs : bs.map (·.2.1) = ms.map nI) (hml14 : ∀ m ∈ ms, m < 2 ^ 14) (hlen : bs.length ≤ 300) (x y : Int32) : CR l G yX1_differ cX1_differ 3 .int 3 64 [.ref (a 15), .int (x), .int (y)] ((a 15, .inr (0, [.ref (a 0), .ref (a 1), .ref (a 2), .ref (a 3), .ref (a 4), .ref (a 5), .ref (a 6), .int (iv 7), .ref (a 8), .ref (a 9), .int (iv 10), .int (iv 11), .ref (a 12), .int (iv 13), .ref (a 14)])) :: (wl ++ (bxF bs))) (fun r => r = if x < 1 ∨ nI bs.length < x ∨ y < 1 ∨ nI bs.length < y then -1 else nI (pcN (ms.getD (iN x - 1) 0 ^^^ ms.getD (iN y - 1) 0))) := by
  refine mkRi (by decide) (Nat.le_of_ble_eq_true rfl) ?_
  intro p e s m args below meth c Q hx hb hts hown hml hG hP hS ret ls hl
  obtain ⟨fs, tl, rfl⟩ := hw.cons
  obtain ⟨N, hN⟩ : ∃ N, N = bs.length := ⟨_, rfl⟩
  have hNm : (bs.map (·.1)).length = N := by rw [List.length_map, hN]
  refine lv_iload_n hx hb dX1_differ_0 rfl (lv_at hl 1 rfl) ?_
  refine lv_i2l (v := (x).toInt64) hx hb dX1_differ_1 rfl ?_
  refine lv_lconst (v := 1) hx hb dX1_differ_2 (by decide) ?_
  refine lv_aload_n hx hb dX1_differ_3 rfl (lv_at hl 0 rfl) ?_
  refine va_get (D := gD G) (ci := 0) (v := .ref (a 12)) (C := RX1) (T := TX1) (N := 15) hx hb hts in_X1 hown hG.K hP 0 rfl rfl 12 (by decide) (hts _ q176) (fun _ h9 => h9) rfl dX1_differ_4 ?_
  refine va_csFi (va_runF (As := []) (rest := [.long (1), .long ((x).toInt64)]) (hG.K.1 5 _ rfl).2 ⟨hx, hb, hml, hown, hts⟩ (metJ2_size l G (a 12) (bs.map (·.1)) ((a 12, .inr (5, fs)) :: tl) hw) (va_cwF 0 hts (lw_F (x := ({ cls := "java/util/List", name := "size", desc := "()I" } : Jvm.MethodName)) (y := ({ cls := "java/util/ArrayList", name := "size", desc := "()I" } : Jvm.MethodName)) q982 q985 q777 q32 q778) rfl rfl rfl (hG.face (C := "java/util/ArrayList") (x := ({ cls := "java/util/List", name := "size", desc := "()I" } : Jvm.MethodName)) (y := ({ cls := "java/util/ArrayList", name := "size", desc := "()I" } : Jvm.MethodName)) q984 q983 q987 q986 q275 (by decide)) (by decide +kernel) ⟨Nat.le_of_ble_eq_true rfl, Nat.le_of_ble_eq_true rfl⟩) (pre_RV (q0 := 0) hG (wP.left (wP.perm (w' := ((a 12, .inr (5, fs)) :: tl) ++ ((a 15, .inr (0, [.ref (a 0), .ref (a 1), .ref (a 2), .ref (a 3), .ref (a 4), .ref (a 5), .ref (a 6), .int (iv 7), .ref (a 8), .ref (a 9), .int (iv 10), .int (iv 11), .ref (a 12), .int (iv 13), .ref (a 14)])) :: bxF bs)) hP (pm_ (fun _ z => by simp only [List.count_append, List.count_cons, List.count_nil]; omega)))) hS (fun _ h => h.elim) rfl rfl) rfl rfl hl.1 rfl (lv_room (Nat.le_of_ble_eq_true rfl)) dX1_differ_7 ⟨Nat.le_refl _, Nat.le_refl _⟩) (fun r_7 e_7 => ?_)
  subst e_7
  refine top_i (y := nI N) (by rw [hNm]) ?_
  refine lv_i2l (v := (nI N).toInt64) hx hb dX1_differ_12 rfl ?_
  refine vp_callSi (W.runS (As := [.long ((x).toInt64), .long (1), .long ((nI N).toInt64)]) (rest := []) ⟨hx, hb, hml, hown, hts⟩ (metX1_isIn l G (x.toInt64) (1) ((nI N).toInt64)) (va_cwS 3 hts (lw_S q219 q220 q29 q221) rfl rfl rfl (by decide +kernel) ⟨Nat.le_of_ble_eq_true rfl, Nat.le_of_ble_eq_true rfl⟩) (pre_RS hG (wP.mem (w' := []) hP (fun _ h => absurd h List.not_mem_nil)) hS (fun _ h => h.elim)) rfl rfl hl.1 rfl (lv_room (Nat.le_of_ble_eq_true rfl)) dX1_differ_13 ⟨Nat.le_refl _, Nat.le_refl _⟩) (fun r_13 e_13 => ?_)
  subst e_13
  refine top_i (y := b2i (!decide (x < 1 ∨ nI N < x))) (congrArg b2i (in_I (lo := 1) (hi := nI N) rfl rfl)) ?_
  refine lv_if_eq (tgt := 38) hx hb dX1_differ_16 (by decide) (fun c_16 => ?_) (fun c_16 => ?_)
  · have h16 : x < 1 ∨ nI N < x := nb_f c_16
    refine lv_iconst (v := (-1)) hx hb dX1_differ_38 (by decide) ?_
    exact ret (-1) 39 ls dX1_differ_39 rfl (by rw [← hN]; exact (if_pos (h16.elim Or.inl (fun h => Or.inr (Or.inl h)))).symm)
  · have h16 := nb_t c_16
    refine lv_iload_n hx hb dX1_differ_19 rfl (lv_at hl 2 rfl) ?_
    refine lv_i2l (v := (y).toInt64) hx hb dX1_differ_20 rfl ?_
    refine lv_lconst (v := 1) hx hb dX1_differ_21 (by decide) ?_
    refine lv_aload_n hx hb dX1_differ_22 rfl (lv_at hl 0 rfl) ?_
    refine va_get (D := gD G) (ci := 0) (v := .ref (a 12)) (C := RX1) (T := TX1) (N := 15) hx hb hts in_X1 hown hG.K hP 0 rfl rfl 12 (by decide) (hts _ q176) (fun _ h9 => h9) rfl dX1_differ_23 ?_
    refine va_csFi (va_runF (As := []) (rest := [.long (1), .long ((y).toInt64)]) (hG.K.1 5 _ rfl).2 ⟨hx, hb, hml, hown, hts⟩ (metJ2_size l G (a 12) (bs.map (·.1)) ((a 12, .inr (5, fs)) :: tl) hw) (va_cwF 0 hts (lw_F (x := ({ cls := "java/util/List", name := "size", desc := "()I" } : Jvm.MethodName)) (y := ({ cls := "java/util/ArrayList", name := "size", desc := "()I" } : Jvm.MethodName)) q982 q985 q777 q32 q778) rfl rfl rfl (hG.face (C := "java/util/ArrayList") (x := ({ cls := "java/util/List", name := "size", desc := "()I" } : Jvm.MethodName)) (y := ({ cls := "java/util/ArrayList", name := "size", desc := "()I" } : Jvm.MethodName)) q984 q983 q987 q986 q275 (by decide)) (by decide +kernel) ⟨Nat.le_of_ble_eq_true rfl, Nat.le_of_ble_eq_true rfl⟩) (pre_RV (q0 := 0) hG (wP.left (wP.perm (w' := ((a 12, .inr (5, fs)) :: tl) ++ ((a 15, .inr (0, [.ref (a 0), .ref (a 1), .ref (a 2), .ref (a 3), .ref (a 4), .ref (a 5), .ref (a 6), .int (iv 7), .ref (a 8), .ref (a 9), .int (iv 10), .int (iv 11), .ref (a 12), .int (iv 13), .ref (a 14)])) :: bxF bs)) hP (pm_ (fun _ z => by simp only [List.count_append, List.count_cons, List.count_nil]; omega)))) hS (fun _ h => h.elim) rfl rfl) rfl rfl hl.1 rfl (lv_room (Nat.le_of_ble_eq_true rfl)) dX1_differ_26 ⟨Nat.le_refl _, Nat.le_refl _⟩) (fun r_26 e_26 => ?_)
    subst e_26
    refine top_i (y := nI N) (by rw [hNm]) ?_
    refine lv_i2l (v := (nI N).toInt64) hx hb dX1_differ_31 rfl ?_
    refine vp_callSi (W.runS (As := [.long ((y).toInt64), .long (1), .long ((nI N).toInt64)]) (rest := []) ⟨hx, hb, hml, hown, hts⟩ (metX1_isIn l G (y.toInt64) (1) ((nI N).toInt64)) (va_cwS 3 hts (lw_S q219 q220 q29 q221) rfl rfl rfl (by decide +kernel) ⟨Nat.le_of_ble_eq_true rfl, Nat.le_of_ble_eq_true rfl⟩) (pre_RS hG (wP.mem (w' := []) hP (fun _ h => absurd h List.not_mem_nil)) hS (fun _ h => h.elim)) rfl rfl hl.1 rfl (lv_room (Nat.le_of_ble_eq_true rfl)) dX1_differ_32 ⟨Nat.le_refl _, Nat.le_refl _⟩) (fun r_32 e_32 => ?_)
    subst e_32
    refine top_i (y := b2i (!decide (y < 1 ∨ nI N < y))) (congrArg b2i (in_I (lo := 1) (hi := nI N) rfl rfl)) ?_
    refine lv_if_ne (tgt := 40) hx hb dX1_differ_35 (by decide) (fun c_35 => ?_) (fun c_35 => ?_)
    · have h35 := nb_t c_35
      obtain ⟨jx, rfl, hjx1, hjx2⟩ := in1_of (show N < 2 ^ 31 by omega) (fun h => h16 (Or.inl h)) (fun h => h16 (Or.inr h))
      obtain ⟨jy, rfl, hjy1, hjy2⟩ := in1_of (show N < 2 ^ 31 by omega) (fun h => h35 (Or.inl h)) (fun h => h35 (Or.inr h))
      refine lv_aload_n hx hb dX1_differ_40 rfl (lv_at hl 0 rfl) ?_
      refine va_get (D := gD G) (ci := 0) (v := .ref (a 12)) (C := RX1) (T := TX1) (N := 15) hx hb hts in_X1 hown hG.K hP 0 rfl rfl 12 (by decide) (hts _ q176) (fun _ h9 => h9) rfl dX1_differ_41 ?_
      refine lv_iload_n hx hb dX1_differ_44 rfl (lv_at hl 1 rfl) ?_
      refine lv_iconst (v := 1) hx hb dX1_differ_45 (by decide) ?_
      refine lv_isub hx hb dX1_differ_46 ?_
      refine top_i (y := nI (jx - 1)) (pk_sub (b := 1) (by omega)) ?_
      refine va_csFq (va_runF (As := [.int (nI (jx - 1))]) (rest := []) (hG.K.1 5 _ rfl).2 ⟨hx, hb, hml, hown, hts⟩ (metJ2_get l G (a 12) (jx - 1) (bs.map (·.1)) ((a 12, .inr (5, fs)) :: tl) hw (by omega)) (va_cwF 1 hts (lw_F (x := ({ cls := "java/util/List", name := "get", desc := "(I)Ljava/lang/Object;" } : Jvm.MethodName)) (y := ({ cls := "java/util/ArrayList", name := "get", desc := "(I)Ljava/lang/Object;" } : Jvm.MethodName)) q989 q992 q994 q32 q996) rfl rfl rfl (hG.face (C := "java/util/ArrayList") (x := ({ cls := "java/util/List", name := "get", desc := "(I)Ljava/lang/Object;" } : Jvm.MethodName)) (y := ({ cls := "java/util/ArrayList", name := "get", desc := "(I)Ljava/lang/Object;" } : Jvm.MethodName)) q991 q990 q995 q993 q275 (by decide)) (by decide +kernel) ⟨Nat.le_of_ble_eq_true rfl, Nat.le_of_ble_eq_true rfl⟩) (pre_RV (q0 := 0) hG (wP.left (wP.perm (w' := ((a 12, .inr (5, fs)) :: tl) ++ ((a 15, .inr (0, [.ref (a 0), .ref (a 1), .ref (a 2), .ref (a 3), .ref (a 4), .ref (a 5), .ref (a 6), .int (iv 7), .ref (a 8), .ref (a 9), .int (iv 10), .int (iv 11), .ref (a 12), .int (iv 13), .ref (a 14)])) :: bxF bs)) hP (pm_ (fun _ z => by simp only [List.count_append, List.count_cons, List.count_nil]; omega)))) hS (fun _ h => h.elim) rfl rfl) rfl rfl hl.1 rfl (lv_room (Nat.le_of_ble_eq_true rfl)) dX1_differ_47 ⟨Nat.le_refl _, Nat.le_refl _⟩) (fun r_47 e_47 => ?_)
      subst e_47
      obtain ⟨y1, v1, wb1, hbk1⟩ := ex_get3 (bs := bs) (k := jx - 1) (by omega)
      have hbx1 := hbs _ (List.mem_of_getElem? hbk1)
      have hbx1 : bxW G v1 y1 wb1 := hbx1
      refine top_r (y := y1) (getD_1 hbk1) ?_
      refine va_castS hx hb hown (hts _ q75) (hG.K.1 8 _ rfl).2 (bx_recv hbx1 hG (wP.mem (w' := wb1) hP (fun z hz => List.mem_cons_of_mem _ (List.mem_cons_of_mem _ (List.mem_append_right _ (bxF_mem hbk1 hz))))) hS (fun _ h => h.elim)) dX1_differ_52 ?_
      refine vp_callSi (W.runV (As := []) (rest := []) ⟨hx, hb, hml, hown, hts⟩ (metJ7_intValue l G y1 v1 wb1 hbx1) (cwV 0 hts (lw_V q888 q439 q440 q39 q441) rfl rfl rfl (by decide +kernel) ⟨Nat.le_of_ble_eq_true rfl, Nat.le_of_ble_eq_true rfl⟩) (pre_RVo (bx_recv hbx1 hG (wP.mem (w' := wb1) hP (fun z hz => List.mem_cons_of_mem _ (List.mem_cons_of_mem _ (List.mem_append_right _ (bxF_mem hbk1 hz))))) hS (fun _ h => h.elim)) hG (wP.mem (w' := wb1) hP (fun z hz => List.mem_cons_of_mem _ (List.mem_cons_of_mem _ (List.mem_append_right _ (bxF_mem hbk1 hz))))) hS (fun _ h => h.elim)) rfl rfl hl.1 rfl (lv_room (Nat.le_of_ble_eq_true rfl)) dX1_differ_55 ⟨Nat.le_refl _, Nat.le_refl _⟩) (fun r_55 e_55 => ?_)
      subst e_55
      obtain ⟨m1, hm1, hm1l⟩ := vs_get hvs hml14 hbk1
      refine top_i (y := nI m1) hm1.1 ?_
      refine lv_aload_n hx hb dX1_differ_58 rfl (lv_at hl 0 rfl) ?_
      refine va_get (D := gD G) (ci := 0) (v := .ref (a 12)) (C := RX1) (T := TX1) (N := 15) hx hb hts in_X1 hown hG.K hP 0 rfl rfl 12 (by decide) (hts _ q176) (fun _ h9 => h9) rfl dX1_differ_59 ?_
      refine lv_iload_n hx hb dX1_differ_62 rfl (lv_at hl 2 rfl) ?_
      refine lv_iconst (v := 1) hx hb dX1_differ_63 (by decide) ?_
      refine lv_isub hx hb dX1_differ_64 ?_
      refine top_i (y := nI (jy - 1)) (pk_sub (b := 1) (by omega)) ?_
      refine va_csFq (va_runF (As := [.int (nI (jy - 1))]) (rest := [.int (nI m1)]) (hG.K.1 5 _ rfl).2 ⟨hx, hb, hml, hown, hts⟩ (metJ2_get l G (a 12) (jy - 1) (bs.map (·.1)) ((a 12, .inr (5, fs)) :: tl) hw (by omega)) (va_cwF 1 hts (lw_F (x := ({ cls := "java/util/List", name := "get", desc := "(I)Ljava/lang/Object;" } : Jvm.MethodName)) (y := ({ cls := "java/util/ArrayList", name := "get", desc := "(I)Ljava/lang/Object;" } : Jvm.MethodName)) q989 q992 q994 q32 q996) rfl rfl rfl (hG.face (C := "java/util/ArrayList") (x := ({ cls := "java/util/List", name := "get", desc := "(I)Ljava/lang/Object;" } : Jvm.MethodName)) (y := ({ cls := "java/util/ArrayList", name := "get", desc := "(I)Ljava/lang/Object;" } : Jvm.MethodName)) q991 q990 q995 q993 q275 (by decide)) (by decide +kernel) ⟨Nat.le_of_ble_eq_true rfl, Nat.le_of_ble_eq_true rfl⟩) (pre_RV (q0 := 0) hG (wP.left (wP.perm (w' := ((a 12, .inr (5, fs)) :: tl) ++ ((a 15, .inr (0, [.ref (a 0), .ref (a 1), .ref (a 2), .ref (a 3), .ref (a 4), .ref (a 5), .ref (a 6), .int (iv 7), .ref (a 8), .ref (a 9), .int (iv 10), .int (iv 11), .ref (a 12), .int (iv 13), .ref (a 14)])) :: bxF bs)) hP (pm_ (fun _ z => by simp only [List.count_append, List.count_cons, List.count_nil]; omega)))) hS (fun _ h => h.elim) rfl rfl) rfl rfl hl.1 rfl (lv_room (Nat.le_of_ble_eq_true rfl)) dX1_differ_65 ⟨Nat.le_refl _, Nat.le_refl _⟩) (fun r_65 e_65 => ?_)
      subst e_65
      obtain ⟨y2, v2, wb2, hbk2⟩ := ex_get3 (bs := bs) (k := jy - 1) (by omega)
      have hbx2 := hbs _ (List.mem_of_getElem? hbk2)
      have hbx2 : bxW G v2 y2 wb2 := hbx2
      refine top_r (y := y2) (getD_1 hbk2) ?_
      refine va_castS hx hb hown (hts _ q75) (hG.K.1 8 _ rfl).2 (bx_recv hbx2 hG (wP.mem (w' := wb2) hP (fun z hz => List.mem_cons_of_mem _ (List.mem_cons_of_mem _ (List.mem_append_right _ (bxF_mem hbk2 hz))))) hS (fun _ h => h.elim)) dX1_differ_70 ?_
      refine vp_callSi (W.runV (As := []) (rest := [.int (nI m1)]) ⟨hx, hb, hml, hown, hts⟩ (metJ7_intValue l G y2 v2 wb2 hbx2) (cwV 0 hts (lw_V q888 q439 q440 q39 q441) rfl rfl rfl (by decide +kernel) ⟨Nat.le_of_ble_eq_true rfl, Nat.le_of_ble_eq_true rfl⟩) (pre_RVo (bx_recv hbx2 hG (wP.mem (w' := wb2) hP (fun z hz => List.mem_cons_of_mem _ (List.mem_cons_of_mem _ (List.mem_append_right _ (bxF_mem hbk2 hz))))) hS (fun _ h => h.elim)) hG (wP.mem (w' := wb2) hP (fun z hz => List.mem_cons_of_mem _ (List.mem_cons_of_mem _ (List.mem_append_right _ (bxF_mem hbk2 hz))))) hS (fun _ h => h.elim)) rfl rfl hl.1 rfl (lv_room (Nat.le_of_ble_eq_true rfl)) dX1_differ_73 ⟨Nat.le_refl _, Nat.le_refl _⟩) (fun r_73 e_73 => ?_)
      subst e_73
      obtain ⟨m2, hm2, hm2l⟩ := vs_get hvs hml14 hbk2
      refine top_i (y := nI m2) hm2.1 ?_
      refine lv_ixor hx hb dX1_differ_76 ?_
      refine top_i (y := nI (m1 ^^^ m2)) (nx_xor m1 m2) ?_
      refine vp_callSi (W.runS (As := [.int (nI (m1 ^^^ m2))]) (rest := []) ⟨hx, hb, hml, hown, hts⟩ (metJ7_bitCount l G (m1 ^^^ m2) (Nat.xor_lt_two_pow (n := 14) hm1l hm2l)) (va_cwS 1 hts (lw_S q236 q237 q39 q238) rfl rfl rfl (by decide +kernel) ⟨Nat.le_of_ble_eq_true rfl, Nat.le_of_ble_eq_true rfl⟩) (pre_RS hG (wP.mem (w' := []) hP (fun _ h => absurd h List.not_mem_nil)) hS (fun _ h => h.elim)) rfl rfl hl.1 rfl (lv_room (Nat.le_of_ble_eq_true rfl)) dX1_differ_77 ⟨Nat.le_refl _, Nat.le_refl _⟩) (fun r_77 e_77 => ?_)
      subst e_77
      exact ret (nI (pcN (m1 ^^^ m2))) 80 ls dX1_differ_80 rfl (by rw [← hN, if_neg (by rintro (h | h | h | h); exact h16 (Or.inl h); exact h16 (Or.inr h); exact h35 (Or.inl h); exact h35 (Or.inr h)), iN_nI (by omega), iN_nI (by omega), hm1.2, hm2.2])
    · have h35 : y < 1 ∨ nI N < y := nb_f c_35
      refine lv_iconst (v := (-1)) hx hb dX1_differ_38 (by decide) ?_
      exact ret (-1) 39 ls dX1_differ_39 rfl (by rw [← hN]; exact (if_pos (Or.inr (Or.inr h35))).symm)
