theorem AL.cons {G : Gt} {x : Nat} {vs : List Nat} {w : va_W} (h : AL G x vs w) : ∃ fs tl, w = (x, .inr (5, fs)) :: tl := by
  rcases h with ⟨mc, rfl, rfl⟩ | ⟨mc, ea, cap, f, rfl, h⟩
  · exact ⟨_, _, rfl⟩
  · exact ⟨_, _, rfl⟩
set_option maxHeartbeats 4000000 in
set_option maxRecDepth 100000 in
theorem metJ2_toArrayA (l : Launch) (G : Gt) (x ea n cap : Nat) (mc : Int32) (f : Nat → Option Nat) (ob : va_W) (hn : n ≤ cap) (hc : cap ≤ 512) (hob : ∀ j, j < n → ∀ y, f j = some y → AnyOb G ob y) (sz : Nat) : CWq l G yJ2_toArray cJ2_toArray 1 (.array (.object "java/lang/Object")) 3 1 512 67 [.ref (x)] ((x, .inr (5, [.int (mc), .ref (ea), .int (nI n)])) :: (ea, .inl (gA G 3, cap, .inr (.inr (.inr (.inr (f)))))) :: ob) sz (fun r w1 => ∃ q g, r = some q ∧ w1 = (q, .inl (gA G 3, n, .inr (.inr (.inr (.inr g))))) :: ((wL G x ea mc n cap f) ++ ob) ∧ ∀ j, j < n → g j = f j) := by
  refine mkWq (by decide) (Nat.le_of_ble_eq_true rfl) (by first | exact Or.inl ⟨_, rfl⟩ | exact Or.inr ⟨_, rfl⟩) ?_
  intro p e s m args below meth c Q A hx hb hts hown hin hml hG hsz hP hD hA hA0 hS ret ls hl
  refine lv_aload_n hx hb dJ2_toArray_0 rfl (lv_at hl 0 rfl) ?_
  refine va_get (D := gD G) (ci := 5) (v := .ref (ea)) (C := RJ2) (T := TJ2) (N := 3) hx hb hts in_J2 hown hG.K hP 0 rfl rfl 1 (by decide) (hts _ q92) (fun _ h9 => h9) rfl dJ2_toArray_1 ?_
  refine lv_aload_n hx hb dJ2_toArray_4 rfl (lv_at hl 0 rfl) ?_
  refine va_get (D := gD G) (ci := 5) (v := .int (nI n)) (C := RJ2) (T := TJ2) (N := 3) hx hb hts in_J2 hown hG.K hP 0 rfl rfl 2 (by decide) (hts _ q95) (fun _ h9 => h9) rfl dJ2_toArray_5 ?_
  have hP := wP.perm (w' := ((ea, .inl (gA G 3, cap, .inr (.inr (.inr (.inr (f)))))) :: ob) ++ [(x, .inr (5, [.int (mc), .ref (ea), .int (nI n)]))]) hP (pm_ (fun _ z => by simp only [List.count_append, List.count_cons, List.count_nil]; omega))
  have hD := va_D.perm (w' := ((ea, .inl (gA G 3, cap, .inr (.inr (.inr (.inr (f)))))) :: ob) ++ [(x, .inr (5, [.int (mc), .ref (ea), .int (nI n)]))]) hD (pm_ (fun _ z => by simp only [List.count_append, List.count_cons, List.count_nil]; omega))
  refine cl_q (wr := [(x, .inr (5, [.int (mc), .ref (ea), .int (nI n)]))]) (va_runS (As := [.ref (ea), .int (nI n)]) (rest := []) ⟨hx, hb, hml, hown, hts⟩ (metJ11_copyOf l G ea cap n f ob hc (by omega) (fun j _ h y hy => hob j h y hy) _) (va_cwS 2 hts (lw_S q303 q304 q44 q305) rfl rfl rfl (by decide +kernel) ⟨Nat.le_of_ble_eq_true rfl, Nat.le_of_ble_eq_true rfl⟩) (pre_WS hG hP hD hS hA0) rfl rfl hl.1 rfl (lv_room (Nat.le_of_ble_eq_true rfl)) dJ2_toArray_8 ⟨Nat.le_of_ble_eq_true rfl, Nat.le_of_ble_eq_true rfl⟩) hP hD hS hA (fun r_8 w1 H locs hp hP hD hS => ?_)
  obtain ⟨q1, g1, rfl, rfl, hg1, -⟩ := hp
  have hP := wP.perm (w' := ((q1, .inl (gA G 3, n, .inr (.inr (.inr (.inr (g1)))))) :: (x, .inr (5, [.int (mc), .ref (ea), .int (nI n)])) :: (ea, .inl (gA G 3, cap, .inr (.inr (.inr (.inr (f)))))) :: ob)) hP (pm_ (fun _ z => by simp only [List.count_append, List.count_cons, List.count_nil]; omega))
  have hD := va_D.perm (w' := ((q1, .inl (gA G 3, n, .inr (.inr (.inr (.inr (g1)))))) :: (x, .inr (5, [.int (mc), .ref (ea), .int (nI n)])) :: (ea, .inl (gA G 3, cap, .inr (.inr (.inr (.inr (f)))))) :: ob)) hD (pm_ (fun _ z => by simp only [List.count_append, List.count_cons, List.count_nil]; omega))
  exact ret (some (q1)) _ 11 ls _ _ _ _ dJ2_toArray_11 (Nat.le_of_ble_eq_true rfl) (Nat.le_of_ble_eq_true rfl) hP hD hS (⟨q1, g1, rfl, rfl, fun j hj => hg1 j (by omega) hj⟩)
set_option maxHeartbeats 4000000 in
set_option maxRecDepth 100000 in
theorem metJ2_toArrayE (l : Launch) (G : Gt) (x : Nat) (mc : Int32) (ob : va_W) (sz : Nat) : CWq l G yJ2_toArray cJ2_toArray 1 (.array (.object "java/lang/Object")) 3 1 512 67 [.ref (x)] ((x, .inr (5, [.int (mc), .ref (gad G 256), .int (0)])) :: ob) sz (fun r w1 => ∃ q g, r = some q ∧ w1 = (q, .inl (gA G 3, 0, .inr (.inr (.inr (.inr g))))) :: ((wLE G x mc) ++ ob)) := by
  refine mkWq (by decide) (Nat.le_of_ble_eq_true rfl) (by first | exact Or.inl ⟨_, rfl⟩ | exact Or.inr ⟨_, rfl⟩) ?_
  intro p e s m args below meth c Q A hx hb hts hown hin hml hG hsz hP hD hA hA0 hS ret ls hl
  refine lv_aload_n hx hb dJ2_toArray_0 rfl (lv_at hl 0 rfl) ?_
  refine va_get (D := gD G) (ci := 5) (v := .ref (gad G 256)) (C := RJ2) (T := TJ2) (N := 3) hx hb hts in_J2 hown hG.K hP 0 rfl rfl 1 (by decide) (hts _ q92) (fun _ h9 => h9) rfl dJ2_toArray_1 ?_
  refine lv_aload_n hx hb dJ2_toArray_4 rfl (lv_at hl 0 rfl) ?_
  refine va_get (D := gD G) (ci := 5) (v := .int (0)) (C := RJ2) (T := TJ2) (N := 3) hx hb hts in_J2 hown hG.K hP 0 rfl rfl 2 (by decide) (hts _ q95) (fun _ h9 => h9) rfl dJ2_toArray_5 ?_
  refine top_i (y := nI 0) (rfl) ?_
  have hP := wP.perm (w' := [] ++ ((x, .inr (5, [.int (mc), .ref (gad G 256), .int (0)])) :: ob)) hP (pm_ (fun _ z => by simp only [List.count_append, List.count_cons, List.count_nil]; omega))
  have hD := va_D.perm (w' := [] ++ ((x, .inr (5, [.int (mc), .ref (gad G 256), .int (0)])) :: ob)) hD (pm_ (fun _ z => by simp only [List.count_append, List.count_cons, List.count_nil]; omega))
  refine cl_q (wr := ((x, .inr (5, [.int (mc), .ref (gad G 256), .int (0)])) :: ob)) (va_runS (As := [.ref (gad G 256), .int (nI 0)]) (rest := []) ⟨hx, hb, hml, hown, hts⟩ (metJ11_copyOfE l G 0 (by decide) _) (va_cwS 2 hts (lw_S q303 q304 q44 q305) rfl rfl rfl (by decide +kernel) ⟨Nat.le_of_ble_eq_true rfl, Nat.le_of_ble_eq_true rfl⟩) (pre_WS hG hP hD hS hA0) rfl rfl hl.1 rfl (lv_room (Nat.le_of_ble_eq_true rfl)) dJ2_toArray_8 ⟨Nat.le_of_ble_eq_true rfl, Nat.le_of_ble_eq_true rfl⟩) hP hD hS hA (fun r_8 w1 H locs hp hP hD hS => ?_)
  obtain ⟨q1, g1, rfl, rfl⟩ := hp
  have hP := wP.perm (w' := ((q1, .inl (gA G 3, 0, .inr (.inr (.inr (.inr (g1)))))) :: (x, .inr (5, [.int (mc), .ref (gad G 256), .int (0)])) :: ob)) hP (pm_ (fun _ z => by simp only [List.count_append, List.count_cons, List.count_nil]; omega))
  have hD := va_D.perm (w' := ((q1, .inl (gA G 3, 0, .inr (.inr (.inr (.inr (g1)))))) :: (x, .inr (5, [.int (mc), .ref (gad G 256), .int (0)])) :: ob)) hD (pm_ (fun _ z => by simp only [List.count_append, List.count_cons, List.count_nil]; omega))
  exact ret (some (q1)) _ 11 ls _ _ _ _ dJ2_toArray_11 (Nat.le_of_ble_eq_true rfl) (Nat.le_of_ble_eq_true rfl) hP hD hS (⟨q1, g1, rfl, rfl⟩)
theorem metJ2_toArray (l : Launch) (G : Gt) (x : Nat) (vs : List Nat) (w ob : va_W) (hw : AL G x vs w) (hvs : ∀ y ∈ vs, AnyOb G ob y) (sz : Nat) : CWq l G yJ2_toArray cJ2_toArray 1 (.array (.object "java/lang/Object")) 3 1 512 67 [.ref x] (w ++ ob) sz (fun r w1 => ∃ q g, r = some q ∧ w1 = (q, .inl (gA G 3, vs.length, .inr (.inr (.inr (.inr g))))) :: (w ++ ob) ∧ ∀ j, j < vs.length → g j = some (vs.getD j 0)) := by
  rcases hw with ⟨mc, rfl, rfl⟩ | ⟨mc, ea, cap, f, rfl, h1, h2, h3, h4, h9⟩
  · exact CWq.post (metJ2_toArrayE l G x mc ob sz) (fun r w ⟨q, g, h1, h2⟩ => ⟨q, g, h1, h2, fun j hj => absurd hj (Nat.not_lt_zero _)⟩)
  · refine CWq.post (metJ2_toArrayA l G x ea vs.length cap mc f ob h1 h3 (fun j hj y hy => ?_) sz) (fun r w ⟨q, g, g1, g2, g3⟩ => ⟨q, g, g1, g2, fun j hj => by rw [g3 j hj, h4 j hj]⟩)
    rw [h4 j hj] at hy
    cases hy
    rw [List.getD_eq_getElem?_getD, List.getElem?_eq_getElem hj]
    exact hvs _ (List.getElem_mem hj)
theorem aa_end {G : Gt} {x qa n k C : Nat} {mc : Int32} {m : Nat} {vs us : List Nat} {f : Nat → Option Nat} {wr : va_W} (h1 : ∀ j, j < n → f j = some (vs.getD j 0)) (h2 : ∀ j, j < k → f (n + j) = some (us.getD j 0)) (hn : n = vs.length) (hk : k = us.length) (hC : n + k ≤ C) (hC2 : C ≤ 512) (h0 : 1 ≤ C) (hm : m = n + k) (h9 : ∀ j, n + k ≤ j → f j = none) : ∃ w2 : va_W, AL G x (vs ++ us) w2 ∧ (x, .inr (5, [.int mc, .ref qa, .int (nI m)])) :: (qa, .inl (gA G 3, C, .inr (.inr (.inr (.inr f))))) :: wr = w2 ++ wr := by
  subst hm hn hk
  refine ⟨wL G x qa mc (vs ++ us).length C f, Or.inr ⟨mc, qa, C, f, rfl, by rw [List.length_append]; exact hC, h0, hC2, ?_, by rw [List.length_append]; exact h9⟩, by rw [List.length_append]; rfl⟩
  intro j hj
  rw [List.length_append] at hj
  rw [List.getD_eq_getElem?_getD, List.getElem?_append]
  by_cases h : j < vs.length
  · rw [if_pos h, h1 j h, List.getD_eq_getElem?_getD]
  · rw [if_neg h]
    have := h2 (j - vs.length) (by omega)
    rw [show vs.length + (j - vs.length) = j by omega] at this
    rw [this, List.getD_eq_getElem?_getD]
set_option maxHeartbeats 4000000 in
set_option maxRecDepth 100000 in
theorem metJ2_addAllA (l : Launch) (G : Gt) (x ea n cap : Nat) (mc : Int32) (f : Nat → Option Nat) (vs : List Nat) (y : Nat) (us : List Nat) (fsy : List Value) (tly ob : va_W) (hy : AL G y us ((y, .inr (5, fsy)) :: tly)) (hus : ∀ z ∈ us, AnyOb G ob z) (hn : n ≤ cap) (hc : cap ≤ 512) (h1 : 1 ≤ cap) (hne : n = vs.length) (hn' : vs.length ≤ cap) (hf : ∀ j, j < n → f j = some (vs.getD j 0)) (h3 : n + us.length ≤ 300) (hob : ∀ j, j < cap → ∀ y, f j = some y → AnyOb G ob y) (hf9 : ∀ j, n ≤ j → f j = none) (sz : Nat) : CWi l G yJ2_addAll cJ2_addAll 6 .boolean 4 2 1024 90 [.ref (x), .ref (y)] ((x, .inr (5, [.int (mc), .ref (ea), .int (nI n)])) :: (ea, .inl (gA G 3, cap, .inr (.inr (.inr (.inr (f)))))) :: (y, .inr (5, fsy)) :: (tly ++ (ob))) sz (fun r w1 => ∃ w2 : va_W, AL G x (vs ++ us) w2 ∧ w1 = w2 ++ ((y, .inr (5, fsy)) :: (tly ++ ob))) := by
  refine mkWi (by decide) (Nat.le_of_ble_eq_true rfl) ?_
  intro p e s m args below meth c Q A hx hb hts hown hin hml hG hsz hP hD hA hA0 hS ret ls hl
  obtain ⟨k, hk⟩ : ∃ k, k = us.length := ⟨_, rfl⟩
  have hob0 : ∀ {H : Heap} {wx : va_W}, wP G wx H → (∀ q ∈ ob, q ∈ wx) → wP G ob H := fun h h2 => h.mem h2
  refine lv_aload_n hx hb dJ2_addAll_0 rfl (lv_at hl 1 rfl) ?_
  have hP := wP.perm (w' := ((y, .inr (5, fsy)) :: (tly ++ (ob))) ++ [(x, .inr (5, [.int (mc), .ref (ea), .int (nI n)])), (ea, .inl (gA G 3, cap, .inr (.inr (.inr (.inr (f))))))]) hP (pm_ (fun _ z => by simp only [List.count_append, List.count_cons, List.count_nil]; omega))
  have hD := va_D.perm (w' := ((y, .inr (5, fsy)) :: (tly ++ (ob))) ++ [(x, .inr (5, [.int (mc), .ref (ea), .int (nI n)])), (ea, .inl (gA G 3, cap, .inr (.inr (.inr (.inr (f))))))]) hD (pm_ (fun _ z => by simp only [List.count_append, List.count_cons, List.count_nil]; omega))
  refine clF_q (wr := [(x, .inr (5, [.int (mc), .ref (ea), .int (nI n)])), (ea, .inl (gA G 3, cap, .inr (.inr (.inr (.inr (f))))))]) (va_runF (As := []) (rest := []) (hG.K.1 5 _ rfl).2 ⟨hx, hb, hml, hown, hts⟩ (metJ2_toArray l G y us ((y, .inr (5, fsy)) :: tly) ob hy hus _) (va_cwF 0 hts (lw_F (x := ({ cls := "java/util/Collection", name := "toArray", desc := "()[Ljava/lang/Object;" } : Jvm.MethodName)) (y := ({ cls := "java/util/ArrayList", name := "toArray", desc := "()[Ljava/lang/Object;" } : Jvm.MethodName)) q758 q762 q764 q32 q766) rfl rfl rfl (hG.face (C := "java/util/ArrayList") (x := ({ cls := "java/util/Collection", name := "toArray", desc := "()[Ljava/lang/Object;" } : Jvm.MethodName)) (y := ({ cls := "java/util/ArrayList", name := "toArray", desc := "()[Ljava/lang/Object;" } : Jvm.MethodName)) q760 q759 q765 q763 q761 (by decide)) (by decide +kernel) ⟨Nat.le_of_ble_eq_true rfl, Nat.le_of_ble_eq_true rfl⟩) (pre_WV (q0 := 0) hG hP hD hS hA0 rfl rfl) rfl rfl hl.1 rfl (lv_room (Nat.le_of_ble_eq_true rfl)) dJ2_addAll_1 ⟨Nat.le_of_ble_eq_true rfl, Nat.le_of_ble_eq_true rfl⟩) hP hD hS hA (fun r_1 w1 H locs hp hP hD hS => ?_)
  obtain ⟨q1, g1, rfl, rfl, hg1⟩ := hp
  rw [← hk] at hg1 hP hD
  have hP := wP.perm (w' := ((x, .inr (5, [.int (mc), .ref (ea), .int (nI n)])) :: (ea, .inl (gA G 3, cap, .inr (.inr (.inr (.inr (f)))))) :: (q1, .inl (gA G 3, k, .inr (.inr (.inr (.inr (g1)))))) :: (y, .inr (5, fsy)) :: (tly ++ (ob)))) hP (pm_ (fun _ z => by simp only [List.count_append, List.count_cons, List.count_nil]; omega))
  have hD := va_D.perm (w' := ((x, .inr (5, [.int (mc), .ref (ea), .int (nI n)])) :: (ea, .inl (gA G 3, cap, .inr (.inr (.inr (.inr (f)))))) :: (q1, .inl (gA G 3, k, .inr (.inr (.inr (.inr (g1)))))) :: (y, .inr (5, fsy)) :: (tly ++ (ob)))) hD (pm_ (fun _ z => by simp only [List.count_append, List.count_cons, List.count_nil]; omega))
  refine lv_astore_n (lv' := [(2, .ref (q1)), (0, .ref (x)), (1, .ref (y))]) hx hb dJ2_addAll_6 rfl hl (by decide) rfl (fun ls hl => ?_)
  refine lv_aload_n hx hb dJ2_addAll_7 rfl (lv_at hl 1 rfl) ?_
  refine lv_dup hx hb dJ2_addAll_8 rfl ?_
  refine va_get (D := gD G) (ci := 5) (v := .int (mc)) (C := RJ2) (T := TJ2) (N := 3) hx hb hts in_J2 hown hG.K hP 0 rfl rfl 0 (by decide) (hts _ q99) (fun x9 h9 => u_same (hts _ q98) x9 h9) rfl dJ2_addAll_9 ?_
  refine lv_iconst (v := 1) hx hb dJ2_addAll_12 (by decide) ?_
  refine lv_iadd hx hb dJ2_addAll_13 ?_
  refine va_put (D := gD G) (ci := 5) (v := .int ((mc) + (1))) (ty := .int) (C := RJ2) (T := TJ2) (N := 3) hx hb hts in_J2 tyJ2 tyJ2_ok nmJ2 hown hG.K hP hD hS 0 rfl rfl 0 (by decide) (hts _ q99) (fun x9 h9 => u_same (hts _ q98) x9 h9) rfl (by decide +kernel) rfl rfl (Nat.le_of_ble_eq_true rfl) dJ2_addAll_14 (fun H locs hP hD hS => ?_)
  have hP : wP G ((x, .inr (5, [.int ((mc) + (1)), .ref (ea), .int (nI n)])) :: (ea, .inl (gA G 3, cap, .inr (.inr (.inr (.inr (f)))))) :: (q1, .inl (gA G 3, k, .inr (.inr (.inr (.inr (g1)))))) :: (y, .inr (5, fsy)) :: (tly ++ (ob))) H := hP
  have hD : va_D A ((x, .inr (5, [.int ((mc) + (1)), .ref (ea), .int (nI n)])) :: (ea, .inl (gA G 3, cap, .inr (.inr (.inr (.inr (f)))))) :: (q1, .inl (gA G 3, k, .inr (.inr (.inr (.inr (g1)))))) :: (y, .inr (5, fsy)) :: (tly ++ (ob))) := hD
  refine lv_aload_n hx hb dJ2_addAll_17 rfl (lv_at hl 0 rfl) ?_
  refine va_alen (v := nI (k)) hx hb hG.K hP 2 3 rfl rfl rfl dJ2_addAll_18 ?_
  refine lv_istore_n (lv' := [(3, .int (nI (k))), (2, .ref (q1)), (0, .ref (x)), (1, .ref (y))]) hx hb dJ2_addAll_19 rfl hl (by decide) rfl (fun ls hl => ?_)
  refine lv_iload_n hx hb dJ2_addAll_20 rfl (lv_at hl 0 rfl) ?_
  refine lv_if_ne (tgt := 26) hx hb dJ2_addAll_21 (by decide) (fun c_21 => ?_) (fun c_21 => ?_)
  · have h21 : k ≠ 0 := nI_ne (b := 0) c_21
    refine lv_iload_n hx hb dJ2_addAll_26 rfl (lv_at hl 0 rfl) ?_
    refine lv_aload_n hx hb dJ2_addAll_27 rfl (lv_at hl 2 rfl) ?_
    refine va_get (D := gD G) (ci := 5) (v := .ref (ea)) (C := RJ2) (T := TJ2) (N := 3) hx hb hts in_J2 hown hG.K hP 0 rfl rfl 1 (by decide) (hts _ q92) (fun _ h9 => h9) rfl dJ2_addAll_28 ?_
    refine lv_dup hx hb dJ2_addAll_31 rfl ?_
    refine lv_astore (lv' := [(4, .ref (ea)), (3, .int (nI (k))), (2, .ref (q1)), (0, .ref (x)), (1, .ref (y))]) hx hb dJ2_addAll_32 hl (by decide) rfl (fun ls hl => ?_)
    refine va_alen (v := nI (cap)) hx hb hG.K hP 1 3 rfl rfl rfl dJ2_addAll_34 ?_
    refine lv_aload_n hx hb dJ2_addAll_35 rfl (lv_at hl 3 rfl) ?_
    refine va_get (D := gD G) (ci := 5) (v := .int (nI n)) (C := RJ2) (T := TJ2) (N := 3) hx hb hts in_J2 hown hG.K hP 0 rfl rfl 2 (by decide) (hts _ q95) (fun _ h9 => h9) rfl dJ2_addAll_36 ?_
    refine lv_dup hx hb dJ2_addAll_39 rfl ?_
    refine lv_istore (lv' := [(5, .int (nI n)), (4, .ref (ea)), (3, .int (nI (k))), (2, .ref (q1)), (0, .ref (x)), (1, .ref (y))]) hx hb dJ2_addAll_40 hl (by decide) rfl (fun ls hl => ?_)
    refine lv_isub hx hb dJ2_addAll_42 ?_
    refine top_i (y := nI (cap - n)) (pk_sub hn) ?_
    refine lv_icmp_le (tgt := 56) hx hb dJ2_addAll_43 (by decide) (fun c_43 => ?_) (fun c_43 => ?_)
    · have h43 : k ≤ cap - n := nI_ge' (a := cap - n) (b := k) c_43
      refine lv_aload_n hx hb dJ2_addAll_56 rfl (lv_at hl 3 rfl) ?_
      refine lv_iconst (v := 0) hx hb dJ2_addAll_57 (by decide) ?_
      refine lv_aload hx hb dJ2_addAll_58 (lv_at hl 1 rfl) ?_
      refine lv_iload hx hb dJ2_addAll_60 (lv_at hl 0 rfl) ?_
      refine lv_iload_n hx hb dJ2_addAll_62 rfl (lv_at hl 2 rfl) ?_
      refine va_copyM hx hb (by rw [hml]; exact hl.1.symm) hown (hts _ q885) (hts _ q224) (hts _ q223) (hts _ q37) hG.K hP hD hS 2 1 3 3 rfl rfl rfl rfl (by decide) (nI_pos (by omega)) (nI_pos (by omega)) (by rw [clamp0, nI_clamp (show k < 2 ^ 31 by omega)]; omega) (by rw [nI_clamp (show n < 2 ^ 31 by omega), nI_clamp (show k < 2 ^ 31 by omega)]; omega) (by intro i hi z hz; rw [clamp0, Nat.zero_add] at hz; rw [nI_clamp (show k < 2 ^ 31 by omega)] at hi; rw [hg1 i hi] at hz; cases hz; exact hus _ (by rw [List.getD_eq_getElem?_getD, List.getElem?_eq_getElem (by omega)]; exact List.getElem_mem _) s H hG (base_same hG hS hA0).1 (hP.mem (fun q hq => by simp only [List.mem_cons, List.mem_append]; simp [hq]))) (Nat.le_of_ble_eq_true rfl) (Nat.le_of_ble_eq_true rfl) dJ2_addAll_63 (fun H locs hP hD hS => ?_)
      rw [clamp0, nI_clamp (show n < 2 ^ 31 by omega), nI_clamp (show k < 2 ^ 31 by omega)] at hP hD
      have hP : wP G ((x, .inr (5, [.int ((mc) + (1)), .ref (ea), .int (nI n)])) :: (ea, .inl (gA G 3, cap, .inr (.inr (.inr (.inr (va_cpy g1 f 0 n k)))))) :: (q1, .inl (gA G 3, k, .inr (.inr (.inr (.inr (g1)))))) :: (y, .inr (5, fsy)) :: (tly ++ (ob))) H := hP
      have hD : va_D A ((x, .inr (5, [.int ((mc) + (1)), .ref (ea), .int (nI n)])) :: (ea, .inl (gA G 3, cap, .inr (.inr (.inr (.inr (va_cpy g1 f 0 n k)))))) :: (q1, .inl (gA G 3, k, .inr (.inr (.inr (.inr (g1)))))) :: (y, .inr (5, fsy)) :: (tly ++ (ob))) := hD
      refine lv_aload_n hx hb dJ2_addAll_66 rfl (lv_at hl 4 rfl) ?_
      refine lv_iload hx hb dJ2_addAll_67 (lv_at hl 0 rfl) ?_
      refine lv_iload_n hx hb dJ2_addAll_69 rfl (lv_at hl 2 rfl) ?_
      refine lv_iadd hx hb dJ2_addAll_70 ?_
      refine top_i (y := nI (n + k)) (nI_add n k) ?_
      refine va_put (D := gD G) (ci := 5) (v := .int (nI (n + k))) (ty := .int) (C := RJ2) (T := TJ2) (N := 3) hx hb hts in_J2 tyJ2 tyJ2_ok nmJ2 hown hG.K hP hD hS 0 rfl rfl 2 (by decide) (hts _ q95) (fun _ h9 => h9) rfl (by decide +kernel) rfl rfl (Nat.le_of_ble_eq_true rfl) dJ2_addAll_71 (fun H locs hP hD hS => ?_)
      have hP : wP G ((x, .inr (5, [.int ((mc) + (1)), .ref (ea), .int (nI (n + k))])) :: (ea, .inl (gA G 3, cap, .inr (.inr (.inr (.inr (va_cpy g1 f 0 n k)))))) :: (q1, .inl (gA G 3, k, .inr (.inr (.inr (.inr (g1)))))) :: (y, .inr (5, fsy)) :: (tly ++ (ob))) H := hP
      have hD : va_D A ((x, .inr (5, [.int ((mc) + (1)), .ref (ea), .int (nI (n + k))])) :: (ea, .inl (gA G 3, cap, .inr (.inr (.inr (.inr (va_cpy g1 f 0 n k)))))) :: (q1, .inl (gA G 3, k, .inr (.inr (.inr (.inr (g1)))))) :: (y, .inr (5, fsy)) :: (tly ++ (ob))) := hD
      refine lv_iconst (v := 1) hx hb dJ2_addAll_74 (by decide) ?_
      have hP := (wP.perm (w' := [(q1, .inl (gA G 3, k, .inr (.inr (.inr (.inr (g1))))))] ++ ((x, .inr (5, [.int ((mc) + (1)), .ref (ea), .int (nI (n + k))])) :: (ea, .inl (gA G 3, cap, .inr (.inr (.inr (.inr (va_cpy g1 f 0 n k)))))) :: (y, .inr (5, fsy)) :: (tly ++ (ob)))) hP (pm_ (fun _ z => by simp only [List.count_append, List.count_cons, List.count_nil]; omega))).right
      have hD := (va_D.perm (w' := [(q1, .inl (gA G 3, k, .inr (.inr (.inr (.inr (g1))))))] ++ ((x, .inr (5, [.int ((mc) + (1)), .ref (ea), .int (nI (n + k))])) :: (ea, .inl (gA G 3, cap, .inr (.inr (.inr (.inr (va_cpy g1 f 0 n k)))))) :: (y, .inr (5, fsy)) :: (tly ++ (ob)))) hD (pm_ (fun _ z => by simp only [List.count_append, List.count_cons, List.count_nil]; omega))).right
      exact ret (1) _ 75 ls _ _ _ _ dJ2_addAll_75 rfl (Nat.le_of_ble_eq_true rfl) (Nat.le_of_ble_eq_true rfl) hP hD hS (aa_end (fun j hj => by rw [pk_cpy_out (Or.inl (by omega)), hf j (by omega)]) (fun j hj => by rw [pk_cpy_in (by omega) (by omega), Nat.zero_add, show n + j - n = j by omega, hg1 j (by omega)]) hne hk (by omega) hc (by omega) rfl (fun j hj => by rw [pk_cpy_out (Or.inr hj)]; exact hf9 j (by omega)))
    · have h43 : cap - n < k := nI_nge (a := cap - n) (b := k) c_43
      refine lv_aload_n hx hb dJ2_addAll_46 rfl (lv_at hl 4 rfl) ?_
      refine lv_iload hx hb dJ2_addAll_47 (lv_at hl 0 rfl) ?_
      refine lv_iload_n hx hb dJ2_addAll_49 rfl (lv_at hl 2 rfl) ?_
      refine lv_iadd hx hb dJ2_addAll_50 ?_
      refine top_i (y := nI (n + k)) (nI_add n k) ?_
      have hP := wP.perm (w' := ((x, .inr (5, [.int ((mc) + (1)), .ref (ea), .int (nI n)])) :: (ea, .inl (gA G 3, cap, .inr (.inr (.inr (.inr (f)))))) :: ob) ++ ((q1, .inl (gA G 3, k, .inr (.inr (.inr (.inr (g1)))))) :: (y, .inr (5, fsy)) :: tly)) hP (pm_ (fun _ z => by simp only [List.count_append, List.count_cons, List.count_nil]; omega))
      have hD := va_D.perm (w' := ((x, .inr (5, [.int ((mc) + (1)), .ref (ea), .int (nI n)])) :: (ea, .inl (gA G 3, cap, .inr (.inr (.inr (.inr (f)))))) :: ob) ++ ((q1, .inl (gA G 3, k, .inr (.inr (.inr (.inr (g1)))))) :: (y, .inr (5, fsy)) :: tly)) hD (pm_ (fun _ z => by simp only [List.count_append, List.count_cons, List.count_nil]; omega))
      refine cl_q (wr := ((q1, .inl (gA G 3, k, .inr (.inr (.inr (.inr (g1)))))) :: (y, .inr (5, fsy)) :: tly)) (va_runV (As := [.int (nI (n + k))]) (rest := []) ⟨hx, hb, hml, hown, hts⟩ (metJ2_grow_2 l G x ea n cap (n + k) (mc + 1) f ob h1 (by omega) (by omega) hob _) (cwV 1 hts (lw_V q289 q291 qs5 q32 q292) rfl rfl rfl (by decide +kernel) ⟨Nat.le_of_ble_eq_true rfl, Nat.le_of_ble_eq_true rfl⟩) (pre_WV (q0 := 0) hG hP hD hS hA0 rfl rfl) rfl rfl hl.1 rfl (lv_room (Nat.le_of_ble_eq_true rfl)) dJ2_addAll_51 ⟨Nat.le_of_ble_eq_true rfl, Nat.le_of_ble_eq_true rfl⟩) hP hD hS hA (fun r_51 w1 H locs hp hP hD hS => ?_)
      obtain ⟨q2, C, g2, rfl, rfl, hC1, hC2, hg2, hg9⟩ := hp
      have hP := wP.perm (w' := ((x, .inr (5, [.int (mc + 1), .ref (q2), .int (nI n)])) :: (q2, .inl (gA G 3, C, .inr (.inr (.inr (.inr (g2)))))) :: (q1, .inl (gA G 3, k, .inr (.inr (.inr (.inr (g1)))))) :: (y, .inr (5, fsy)) :: (tly ++ (ob)))) hP (pm_ (fun _ z => by simp only [List.count_append, List.count_cons, List.count_nil]; omega))
      have hD := va_D.perm (w' := ((x, .inr (5, [.int (mc + 1), .ref (q2), .int (nI n)])) :: (q2, .inl (gA G 3, C, .inr (.inr (.inr (.inr (g2)))))) :: (q1, .inl (gA G 3, k, .inr (.inr (.inr (.inr (g1)))))) :: (y, .inr (5, fsy)) :: (tly ++ (ob)))) hD (pm_ (fun _ z => by simp only [List.count_append, List.count_cons, List.count_nil]; omega))
      refine lv_astore (lv' := [(4, .ref (q2)), (5, .int (nI n)), (3, .int (nI (k))), (2, .ref (q1)), (0, .ref (x)), (1, .ref (y))]) hx hb dJ2_addAll_54 hl (by decide) rfl (fun ls hl => ?_)
      refine lv_aload_n hx hb dJ2_addAll_56 rfl (lv_at hl 3 rfl) ?_
      refine lv_iconst (v := 0) hx hb dJ2_addAll_57 (by decide) ?_
      refine lv_aload hx hb dJ2_addAll_58 (lv_at hl 0 rfl) ?_
      refine lv_iload hx hb dJ2_addAll_60 (lv_at hl 1 rfl) ?_
      refine lv_iload_n hx hb dJ2_addAll_62 rfl (lv_at hl 2 rfl) ?_
      refine va_copyM hx hb (by rw [hml]; exact hl.1.symm) hown (hts _ q885) (hts _ q224) (hts _ q223) (hts _ q37) hG.K hP hD hS 2 1 3 3 rfl rfl rfl rfl (by decide) (nI_pos (by omega)) (nI_pos (by omega)) (by rw [clamp0, nI_clamp (show k < 2 ^ 31 by omega)]; omega) (by rw [nI_clamp (show n < 2 ^ 31 by omega), nI_clamp (show k < 2 ^ 31 by omega)]; omega) (by intro i hi z hz; rw [clamp0, Nat.zero_add] at hz; rw [nI_clamp (show k < 2 ^ 31 by omega)] at hi; rw [hg1 i hi] at hz; cases hz; exact hus _ (by rw [List.getD_eq_getElem?_getD, List.getElem?_eq_getElem (by omega)]; exact List.getElem_mem _) s H hG (base_same hG hS hA0).1 (hP.mem (fun q hq => by simp only [List.mem_cons, List.mem_append]; simp [hq]))) (Nat.le_of_ble_eq_true rfl) (Nat.le_of_ble_eq_true rfl) dJ2_addAll_63 (fun H locs hP hD hS => ?_)
      rw [clamp0, nI_clamp (show n < 2 ^ 31 by omega), nI_clamp (show k < 2 ^ 31 by omega)] at hP hD
      have hP : wP G ((x, .inr (5, [.int (mc + 1), .ref (q2), .int (nI n)])) :: (q2, .inl (gA G 3, C, .inr (.inr (.inr (.inr (va_cpy g1 g2 0 n k)))))) :: (q1, .inl (gA G 3, k, .inr (.inr (.inr (.inr (g1)))))) :: (y, .inr (5, fsy)) :: (tly ++ (ob))) H := hP
      have hD : va_D A ((x, .inr (5, [.int (mc + 1), .ref (q2), .int (nI n)])) :: (q2, .inl (gA G 3, C, .inr (.inr (.inr (.inr (va_cpy g1 g2 0 n k)))))) :: (q1, .inl (gA G 3, k, .inr (.inr (.inr (.inr (g1)))))) :: (y, .inr (5, fsy)) :: (tly ++ (ob))) := hD
      refine lv_aload_n hx hb dJ2_addAll_66 rfl (lv_at hl 4 rfl) ?_
      refine lv_iload hx hb dJ2_addAll_67 (lv_at hl 1 rfl) ?_
      refine lv_iload_n hx hb dJ2_addAll_69 rfl (lv_at hl 2 rfl) ?_
      refine lv_iadd hx hb dJ2_addAll_70 ?_
      refine top_i (y := nI (n + k)) (nI_add n k) ?_
      refine va_put (D := gD G) (ci := 5) (v := .int (nI (n + k))) (ty := .int) (C := RJ2) (T := TJ2) (N := 3) hx hb hts in_J2 tyJ2 tyJ2_ok nmJ2 hown hG.K hP hD hS 0 rfl rfl 2 (by decide) (hts _ q95) (fun _ h9 => h9) rfl (by decide +kernel) rfl rfl (Nat.le_of_ble_eq_true rfl) dJ2_addAll_71 (fun H locs hP hD hS => ?_)
      have hP : wP G ((x, .inr (5, [.int (mc + 1), .ref (q2), .int (nI (n + k))])) :: (q2, .inl (gA G 3, C, .inr (.inr (.inr (.inr (va_cpy g1 g2 0 n k)))))) :: (q1, .inl (gA G 3, k, .inr (.inr (.inr (.inr (g1)))))) :: (y, .inr (5, fsy)) :: (tly ++ (ob))) H := hP
      have hD : va_D A ((x, .inr (5, [.int (mc + 1), .ref (q2), .int (nI (n + k))])) :: (q2, .inl (gA G 3, C, .inr (.inr (.inr (.inr (va_cpy g1 g2 0 n k)))))) :: (q1, .inl (gA G 3, k, .inr (.inr (.inr (.inr (g1)))))) :: (y, .inr (5, fsy)) :: (tly ++ (ob))) := hD
      refine lv_iconst (v := 1) hx hb dJ2_addAll_74 (by decide) ?_
      have hP := (wP.perm (w' := [(q1, .inl (gA G 3, k, .inr (.inr (.inr (.inr (g1))))))] ++ ((x, .inr (5, [.int (mc + 1), .ref (q2), .int (nI (n + k))])) :: (q2, .inl (gA G 3, C, .inr (.inr (.inr (.inr (va_cpy g1 g2 0 n k)))))) :: (y, .inr (5, fsy)) :: (tly ++ (ob)))) hP (pm_ (fun _ z => by simp only [List.count_append, List.count_cons, List.count_nil]; omega))).right
      have hD := (va_D.perm (w' := [(q1, .inl (gA G 3, k, .inr (.inr (.inr (.inr (g1))))))] ++ ((x, .inr (5, [.int (mc + 1), .ref (q2), .int (nI (n + k))])) :: (q2, .inl (gA G 3, C, .inr (.inr (.inr (.inr (va_cpy g1 g2 0 n k)))))) :: (y, .inr (5, fsy)) :: (tly ++ (ob)))) hD (pm_ (fun _ z => by simp only [List.count_append, List.count_cons, List.count_nil]; omega))).right
      exact ret (1) _ 75 ls _ _ _ _ dJ2_addAll_75 rfl (Nat.le_of_ble_eq_true rfl) (Nat.le_of_ble_eq_true rfl) hP hD hS (aa_end (fun j hj => by rw [pk_cpy_out (Or.inl (by omega)), hg2 j (by omega), hf j (by omega)]) (fun j hj => by rw [pk_cpy_in (by omega) (by omega), Nat.zero_add, show n + j - n = j by omega, hg1 j (by omega)]) hne hk hC1 hC2 (by omega) rfl (fun j hj => by rw [pk_cpy_out (Or.inr hj)]; by_cases h8 : cap ≤ j <;> first | exact hg9 j h8 | (rw [hg2 j (by omega)]; exact hf9 j (by omega))))
  · have h21 : k = 0 := nI_e (b := 0) (by rw [nI_0]; simpa using c_21)
    refine lv_iconst (v := 0) hx hb dJ2_addAll_24 (by decide) ?_
    have hP := (wP.perm (w' := [(q1, .inl (gA G 3, k, .inr (.inr (.inr (.inr (g1))))))] ++ ((x, .inr (5, [.int ((mc) + (1)), .ref (ea), .int (nI n)])) :: (ea, .inl (gA G 3, cap, .inr (.inr (.inr (.inr (f)))))) :: (y, .inr (5, fsy)) :: (tly ++ (ob)))) hP (pm_ (fun _ z => by simp only [List.count_append, List.count_cons, List.count_nil]; omega))).right
    have hD := (va_D.perm (w' := [(q1, .inl (gA G 3, k, .inr (.inr (.inr (.inr (g1))))))] ++ ((x, .inr (5, [.int ((mc) + (1)), .ref (ea), .int (nI n)])) :: (ea, .inl (gA G 3, cap, .inr (.inr (.inr (.inr (f)))))) :: (y, .inr (5, fsy)) :: (tly ++ (ob)))) hD (pm_ (fun _ z => by simp only [List.count_append, List.count_cons, List.count_nil]; omega))).right
    exact ret (0) _ 25 ls _ _ _ _ dJ2_addAll_25 rfl (Nat.le_of_ble_eq_true rfl) (Nat.le_of_ble_eq_true rfl) hP hD hS (by have hu : us = [] := List.length_eq_zero_iff.mp (by omega); subst hu; rw [List.append_nil]; exact ⟨wL G x ea (mc + 1) vs.length cap f, Or.inr ⟨mc + 1, ea, cap, f, rfl, hn', h1, hc, fun j hj => hf j (by omega), fun j hj => hf9 j (by omega)⟩, by rw [hne]; rfl⟩)
set_option maxHeartbeats 4000000 in
set_option maxRecDepth 100000 in
theorem metJ2_addAllE (l : Launch) (G : Gt) (x : Nat) (mc : Int32) (y : Nat) (us : List Nat) (fsy : List Value) (tly ob : va_W) (hy : AL G y us ((y, .inr (5, fsy)) :: tly)) (hus : ∀ z ∈ us, AnyOb G ob z) (h3 : us.length ≤ 300) (sz : Nat) : CWi l G yJ2_addAll cJ2_addAll 6 .boolean 4 2 1024 90 [.ref (x), .ref (y)] ((x, .inr (5, [.int (mc), .ref (gad G 256), .int (0)])) :: (y, .inr (5, fsy)) :: (tly ++ (ob))) sz (fun r w1 => ∃ w2 : va_W, AL G x (us) w2 ∧ w1 = w2 ++ ((y, .inr (5, fsy)) :: (tly ++ ob))) := by
  refine mkWi (by decide) (Nat.le_of_ble_eq_true rfl) ?_
  intro p e s m args below meth c Q A hx hb hts hown hin hml hG hsz hP hD hA hA0 hS ret ls hl
  obtain ⟨k, hk⟩ : ∃ k, k = us.length := ⟨_, rfl⟩
  have hob0 : ∀ {H : Heap} {wx : va_W}, wP G wx H → (∀ q ∈ ob, q ∈ wx) → wP G ob H := fun h h2 => h.mem h2
  refine lv_aload_n hx hb dJ2_addAll_0 rfl (lv_at hl 1 rfl) ?_
  have hP := wP.perm (w' := ((y, .inr (5, fsy)) :: (tly ++ (ob))) ++ [(x, .inr (5, [.int (mc), .ref (gad G 256), .int (0)]))]) hP (pm_ (fun _ z => by simp only [List.count_append, List.count_cons, List.count_nil]; omega))
  have hD := va_D.perm (w' := ((y, .inr (5, fsy)) :: (tly ++ (ob))) ++ [(x, .inr (5, [.int (mc), .ref (gad G 256), .int (0)]))]) hD (pm_ (fun _ z => by simp only [List.count_append, List.count_cons, List.count_nil]; omega))
  refine clF_q (wr := [(x, .inr (5, [.int (mc), .ref (gad G 256), .int (0)]))]) (va_runF (As := []) (rest := []) (hG.K.1 5 _ rfl).2 ⟨hx, hb, hml, hown, hts⟩ (metJ2_toArray l G y us ((y, .inr (5, fsy)) :: tly) ob hy hus _) (va_cwF 0 hts (lw_F (x := ({ cls := "java/util/Collection", name := "toArray", desc := "()[Ljava/lang/Object;" } : Jvm.MethodName)) (y := ({ cls := "java/util/ArrayList", name := "toArray", desc := "()[Ljava/lang/Object;" } : Jvm.MethodName)) q758 q762 q764 q32 q766) rfl rfl rfl (hG.face (C := "java/util/ArrayList") (x := ({ cls := "java/util/Collection", name := "toArray", desc := "()[Ljava/lang/Object;" } : Jvm.MethodName)) (y := ({ cls := "java/util/ArrayList", name := "toArray", desc := "()[Ljava/lang/Object;" } : Jvm.MethodName)) q760 q759 q765 q763 q761 (by decide)) (by decide +kernel) ⟨Nat.le_of_ble_eq_true rfl, Nat.le_of_ble_eq_true rfl⟩) (pre_WV (q0 := 0) hG hP hD hS hA0 rfl rfl) rfl rfl hl.1 rfl (lv_room (Nat.le_of_ble_eq_true rfl)) dJ2_addAll_1 ⟨Nat.le_of_ble_eq_true rfl, Nat.le_of_ble_eq_true rfl⟩) hP hD hS hA (fun r_1 w1 H locs hp hP hD hS => ?_)
  obtain ⟨q1, g1, rfl, rfl, hg1⟩ := hp
  rw [← hk] at hg1 hP hD
  have hP := wP.perm (w' := ((x, .inr (5, [.int (mc), .ref (gad G 256), .int (0)])) :: (q1, .inl (gA G 3, k, .inr (.inr (.inr (.inr (g1)))))) :: (y, .inr (5, fsy)) :: (tly ++ (ob)))) hP (pm_ (fun _ z => by simp only [List.count_append, List.count_cons, List.count_nil]; omega))
  have hD := va_D.perm (w' := ((x, .inr (5, [.int (mc), .ref (gad G 256), .int (0)])) :: (q1, .inl (gA G 3, k, .inr (.inr (.inr (.inr (g1)))))) :: (y, .inr (5, fsy)) :: (tly ++ (ob)))) hD (pm_ (fun _ z => by simp only [List.count_append, List.count_cons, List.count_nil]; omega))
  refine lv_astore_n (lv' := [(2, .ref (q1)), (0, .ref (x)), (1, .ref (y))]) hx hb dJ2_addAll_6 rfl hl (by decide) rfl (fun ls hl => ?_)
  refine lv_aload_n hx hb dJ2_addAll_7 rfl (lv_at hl 1 rfl) ?_
  refine lv_dup hx hb dJ2_addAll_8 rfl ?_
  refine va_get (D := gD G) (ci := 5) (v := .int (mc)) (C := RJ2) (T := TJ2) (N := 3) hx hb hts in_J2 hown hG.K hP 0 rfl rfl 0 (by decide) (hts _ q99) (fun x9 h9 => u_same (hts _ q98) x9 h9) rfl dJ2_addAll_9 ?_
  refine lv_iconst (v := 1) hx hb dJ2_addAll_12 (by decide) ?_
  refine lv_iadd hx hb dJ2_addAll_13 ?_
  refine va_put (D := gD G) (ci := 5) (v := .int ((mc) + (1))) (ty := .int) (C := RJ2) (T := TJ2) (N := 3) hx hb hts in_J2 tyJ2 tyJ2_ok nmJ2 hown hG.K hP hD hS 0 rfl rfl 0 (by decide) (hts _ q99) (fun x9 h9 => u_same (hts _ q98) x9 h9) rfl (by decide +kernel) rfl rfl (Nat.le_of_ble_eq_true rfl) dJ2_addAll_14 (fun H locs hP hD hS => ?_)
  have hP : wP G ((x, .inr (5, [.int ((mc) + (1)), .ref (gad G 256), .int (0)])) :: (q1, .inl (gA G 3, k, .inr (.inr (.inr (.inr (g1)))))) :: (y, .inr (5, fsy)) :: (tly ++ (ob))) H := hP
  have hD : va_D A ((x, .inr (5, [.int ((mc) + (1)), .ref (gad G 256), .int (0)])) :: (q1, .inl (gA G 3, k, .inr (.inr (.inr (.inr (g1)))))) :: (y, .inr (5, fsy)) :: (tly ++ (ob))) := hD
  refine lv_aload_n hx hb dJ2_addAll_17 rfl (lv_at hl 0 rfl) ?_
  refine va_alen (v := nI (k)) hx hb hG.K hP 1 3 rfl rfl rfl dJ2_addAll_18 ?_
  refine lv_istore_n (lv' := [(3, .int (nI (k))), (2, .ref (q1)), (0, .ref (x)), (1, .ref (y))]) hx hb dJ2_addAll_19 rfl hl (by decide) rfl (fun ls hl => ?_)
  refine lv_iload_n hx hb dJ2_addAll_20 rfl (lv_at hl 0 rfl) ?_
  refine lv_if_ne (tgt := 26) hx hb dJ2_addAll_21 (by decide) (fun c_21 => ?_) (fun c_21 => ?_)
  · have h21 : k ≠ 0 := nI_ne (b := 0) c_21
    refine lv_iload_n hx hb dJ2_addAll_26 rfl (lv_at hl 0 rfl) ?_
    refine lv_aload_n hx hb dJ2_addAll_27 rfl (lv_at hl 2 rfl) ?_
    refine va_get (D := gD G) (ci := 5) (v := .ref (gad G 256)) (C := RJ2) (T := TJ2) (N := 3) hx hb hts in_J2 hown hG.K hP 0 rfl rfl 1 (by decide) (hts _ q92) (fun _ h9 => h9) rfl dJ2_addAll_28 ?_
    refine lv_dup hx hb dJ2_addAll_31 rfl ?_
    refine lv_astore (lv' := [(4, .ref (gad G 256)), (3, .int (nI (k))), (2, .ref (q1)), (0, .ref (x)), (1, .ref (y))]) hx hb dJ2_addAll_32 hl (by decide) rfl (fun ls hl => ?_)
    refine va_tlen (v := 0) hx hb (hG.sfA hA0).2.1 hS rfl dJ2_addAll_34 ?_
    refine lv_aload_n hx hb dJ2_addAll_35 rfl (lv_at hl 3 rfl) ?_
    refine va_get (D := gD G) (ci := 5) (v := .int (0)) (C := RJ2) (T := TJ2) (N := 3) hx hb hts in_J2 hown hG.K hP 0 rfl rfl 2 (by decide) (hts _ q95) (fun _ h9 => h9) rfl dJ2_addAll_36 ?_
    refine lv_dup hx hb dJ2_addAll_39 rfl ?_
    refine lv_istore (lv' := [(5, .int (0)), (4, .ref (gad G 256)), (3, .int (nI (k))), (2, .ref (q1)), (0, .ref (x)), (1, .ref (y))]) hx hb dJ2_addAll_40 hl (by decide) rfl (fun ls hl => ?_)
    refine lv_isub hx hb dJ2_addAll_42 ?_
    refine top_i (y := 0) (rfl) ?_
    refine lv_icmp_le (tgt := 56) hx hb dJ2_addAll_43 (by decide) (fun c_43 => absurd c_43 (nI_nle (by omega) (by omega))) (fun c_43 => ?_)
    refine lv_aload_n hx hb dJ2_addAll_46 rfl (lv_at hl 4 rfl) ?_
    refine lv_iload hx hb dJ2_addAll_47 (lv_at hl 0 rfl) ?_
    refine lv_iload_n hx hb dJ2_addAll_49 rfl (lv_at hl 2 rfl) ?_
    refine lv_iadd hx hb dJ2_addAll_50 ?_
    refine top_i (y := nI k) (by rw [Int32.zero_add]) ?_
    have hP := wP.perm (w' := [(x, .inr (5, [.int ((mc) + (1)), .ref (gad G 256), .int (0)]))] ++ ((q1, .inl (gA G 3, k, .inr (.inr (.inr (.inr (g1)))))) :: (y, .inr (5, fsy)) :: (tly ++ (ob)))) hP (pm_ (fun _ z => by simp only [List.count_append, List.count_cons, List.count_nil]; omega))
    have hD := va_D.perm (w' := [(x, .inr (5, [.int ((mc) + (1)), .ref (gad G 256), .int (0)]))] ++ ((q1, .inl (gA G 3, k, .inr (.inr (.inr (.inr (g1)))))) :: (y, .inr (5, fsy)) :: (tly ++ (ob)))) hD (pm_ (fun _ z => by simp only [List.count_append, List.count_cons, List.count_nil]; omega))
    refine cl_q (wr := ((q1, .inl (gA G 3, k, .inr (.inr (.inr (.inr (g1)))))) :: (y, .inr (5, fsy)) :: (tly ++ (ob)))) (va_runV (As := [.int (nI k)]) (rest := []) ⟨hx, hb, hml, hown, hts⟩ (metJ2_grow_2E l G x k (mc + 1) (by omega) _) (cwV 1 hts (lw_V q289 q291 qs5 q32 q292) rfl rfl rfl (by decide +kernel) ⟨Nat.le_of_ble_eq_true rfl, Nat.le_of_ble_eq_true rfl⟩) (pre_WV (q0 := 0) hG hP hD hS hA0 rfl rfl) rfl rfl hl.1 rfl (lv_room (Nat.le_of_ble_eq_true rfl)) dJ2_addAll_51 ⟨Nat.le_of_ble_eq_true rfl, Nat.le_of_ble_eq_true rfl⟩) hP hD hS hA (fun r_51 w1 H locs hp hP hD hS => ?_)
    obtain ⟨q2, C, rfl, rfl, hC1, hC2, hC3⟩ := hp
    have hP := wP.perm (w' := ((x, .inr (5, [.int (mc + 1), .ref (q2), .int (0)])) :: (q2, .inl (gA G 3, C, .inr (.inr (.inr (.inr ((fun _ => none))))))) :: (q1, .inl (gA G 3, k, .inr (.inr (.inr (.inr (g1)))))) :: (y, .inr (5, fsy)) :: (tly ++ (ob)))) hP (pm_ (fun _ z => by simp only [List.count_append, List.count_cons, List.count_nil]; omega))
    have hD := va_D.perm (w' := ((x, .inr (5, [.int (mc + 1), .ref (q2), .int (0)])) :: (q2, .inl (gA G 3, C, .inr (.inr (.inr (.inr ((fun _ => none))))))) :: (q1, .inl (gA G 3, k, .inr (.inr (.inr (.inr (g1)))))) :: (y, .inr (5, fsy)) :: (tly ++ (ob)))) hD (pm_ (fun _ z => by simp only [List.count_append, List.count_cons, List.count_nil]; omega))
    refine lv_astore (lv' := [(4, .ref (q2)), (5, .int (0)), (3, .int (nI (k))), (2, .ref (q1)), (0, .ref (x)), (1, .ref (y))]) hx hb dJ2_addAll_54 hl (by decide) rfl (fun ls hl => ?_)
    refine lv_aload_n hx hb dJ2_addAll_56 rfl (lv_at hl 3 rfl) ?_
    refine lv_iconst (v := 0) hx hb dJ2_addAll_57 (by decide) ?_
    refine lv_aload hx hb dJ2_addAll_58 (lv_at hl 0 rfl) ?_
    refine lv_iload hx hb dJ2_addAll_60 (lv_at hl 1 rfl) ?_
    refine lv_iload_n hx hb dJ2_addAll_62 rfl (lv_at hl 2 rfl) ?_
    refine va_copyM hx hb (by rw [hml]; exact hl.1.symm) hown (hts _ q885) (hts _ q224) (hts _ q223) (hts _ q37) hG.K hP hD hS 2 1 3 3 rfl rfl rfl rfl (by decide) (by decide) (nI_pos (by omega)) (by rw [clamp0, nI_clamp (show k < 2 ^ 31 by omega)]; omega) (by rw [clamp0, nI_clamp (show k < 2 ^ 31 by omega)]; omega) (by intro i hi z hz; rw [clamp0, Nat.zero_add] at hz; rw [nI_clamp (show k < 2 ^ 31 by omega)] at hi; rw [hg1 i hi] at hz; cases hz; exact hus _ (by rw [List.getD_eq_getElem?_getD, List.getElem?_eq_getElem (by omega)]; exact List.getElem_mem _) s H hG (base_same hG hS hA0).1 (hP.mem (fun q hq => by simp only [List.mem_cons, List.mem_append]; simp [hq]))) (Nat.le_of_ble_eq_true rfl) (Nat.le_of_ble_eq_true rfl) dJ2_addAll_63 (fun H locs hP hD hS => ?_)
    rw [clamp0, nI_clamp (show k < 2 ^ 31 by omega)] at hP hD
    have hP : wP G ((x, .inr (5, [.int (mc + 1), .ref (q2), .int (0)])) :: (q2, .inl (gA G 3, C, .inr (.inr (.inr (.inr (va_cpy g1 ((fun _ => none)) 0 0 k)))))) :: (q1, .inl (gA G 3, k, .inr (.inr (.inr (.inr (g1)))))) :: (y, .inr (5, fsy)) :: (tly ++ (ob))) H := hP
    have hD : va_D A ((x, .inr (5, [.int (mc + 1), .ref (q2), .int (0)])) :: (q2, .inl (gA G 3, C, .inr (.inr (.inr (.inr (va_cpy g1 ((fun _ => none)) 0 0 k)))))) :: (q1, .inl (gA G 3, k, .inr (.inr (.inr (.inr (g1)))))) :: (y, .inr (5, fsy)) :: (tly ++ (ob))) := hD
    refine lv_aload_n hx hb dJ2_addAll_66 rfl (lv_at hl 4 rfl) ?_
    refine lv_iload hx hb dJ2_addAll_67 (lv_at hl 1 rfl) ?_
    refine lv_iload_n hx hb dJ2_addAll_69 rfl (lv_at hl 2 rfl) ?_
    refine lv_iadd hx hb dJ2_addAll_70 ?_
    refine top_i (y := nI k) (by rw [Int32.zero_add]) ?_
    refine va_put (D := gD G) (ci := 5) (v := .int (nI k)) (ty := .int) (C := RJ2) (T := TJ2) (N := 3) hx hb hts in_J2 tyJ2 tyJ2_ok nmJ2 hown hG.K hP hD hS 0 rfl rfl 2 (by decide) (hts _ q95) (fun _ h9 => h9) rfl (by decide +kernel) rfl rfl (Nat.le_of_ble_eq_true rfl) dJ2_addAll_71 (fun H locs hP hD hS => ?_)
    have hP : wP G ((x, .inr (5, [.int (mc + 1), .ref (q2), .int (nI k)])) :: (q2, .inl (gA G 3, C, .inr (.inr (.inr (.inr (va_cpy g1 ((fun _ => none)) 0 0 k)))))) :: (q1, .inl (gA G 3, k, .inr (.inr (.inr (.inr (g1)))))) :: (y, .inr (5, fsy)) :: (tly ++ (ob))) H := hP
    have hD : va_D A ((x, .inr (5, [.int (mc + 1), .ref (q2), .int (nI k)])) :: (q2, .inl (gA G 3, C, .inr (.inr (.inr (.inr (va_cpy g1 ((fun _ => none)) 0 0 k)))))) :: (q1, .inl (gA G 3, k, .inr (.inr (.inr (.inr (g1)))))) :: (y, .inr (5, fsy)) :: (tly ++ (ob))) := hD
    refine lv_iconst (v := 1) hx hb dJ2_addAll_74 (by decide) ?_
    have hP := (wP.perm (w' := [(q1, .inl (gA G 3, k, .inr (.inr (.inr (.inr (g1))))))] ++ ((x, .inr (5, [.int (mc + 1), .ref (q2), .int (nI k)])) :: (q2, .inl (gA G 3, C, .inr (.inr (.inr (.inr (va_cpy g1 ((fun _ => none)) 0 0 k)))))) :: (y, .inr (5, fsy)) :: (tly ++ (ob)))) hP (pm_ (fun _ z => by simp only [List.count_append, List.count_cons, List.count_nil]; omega))).right
    have hD := (va_D.perm (w' := [(q1, .inl (gA G 3, k, .inr (.inr (.inr (.inr (g1))))))] ++ ((x, .inr (5, [.int (mc + 1), .ref (q2), .int (nI k)])) :: (q2, .inl (gA G 3, C, .inr (.inr (.inr (.inr (va_cpy g1 ((fun _ => none)) 0 0 k)))))) :: (y, .inr (5, fsy)) :: (tly ++ (ob)))) hD (pm_ (fun _ z => by simp only [List.count_append, List.count_cons, List.count_nil]; omega))).right
    exact ret (1) _ 75 ls _ _ _ _ dJ2_addAll_75 rfl (Nat.le_of_ble_eq_true rfl) (Nat.le_of_ble_eq_true rfl) hP hD hS (aa_end (vs := []) (n := 0) (fun j hj => absurd hj (Nat.not_lt_zero _)) (fun j hj => by rw [pk_cpy_in (by omega) (by omega), Nat.zero_add, show 0 + j - 0 = j by omega, hg1 j (by omega)]) rfl hk (by omega) hC2 (by omega) (Nat.zero_add k).symm (fun j hj => by rw [pk_cpy_out (Or.inr hj)]))
  · have h21 : k = 0 := nI_e (b := 0) (by rw [nI_0]; simpa using c_21)
    refine lv_iconst (v := 0) hx hb dJ2_addAll_24 (by decide) ?_
    have hP := (wP.perm (w' := [(q1, .inl (gA G 3, k, .inr (.inr (.inr (.inr (g1))))))] ++ ((x, .inr (5, [.int ((mc) + (1)), .ref (gad G 256), .int (0)])) :: (y, .inr (5, fsy)) :: (tly ++ (ob)))) hP (pm_ (fun _ z => by simp only [List.count_append, List.count_cons, List.count_nil]; omega))).right
    have hD := (va_D.perm (w' := [(q1, .inl (gA G 3, k, .inr (.inr (.inr (.inr (g1))))))] ++ ((x, .inr (5, [.int ((mc) + (1)), .ref (gad G 256), .int (0)])) :: (y, .inr (5, fsy)) :: (tly ++ (ob)))) hD (pm_ (fun _ z => by simp only [List.count_append, List.count_cons, List.count_nil]; omega))).right
    exact ret (0) _ 25 ls _ _ _ _ dJ2_addAll_25 rfl (Nat.le_of_ble_eq_true rfl) (Nat.le_of_ble_eq_true rfl) hP hD hS (by have hu : us = [] := List.length_eq_zero_iff.mp (by omega); subst hu; exact ⟨wLE G x (mc + 1), Or.inl ⟨mc + 1, rfl, rfl⟩, rfl⟩)
/-- List.addAll -/
theorem metJ2_addAll (l : Launch) (G : Gt) (x y : Nat) (vs us : List Nat) (w wy ob : va_W) (hw : AL G x vs w) (hy : AL G y us wy) (hvs : ∀ z ∈ vs, AnyOb G ob z) (hus : ∀ z ∈ us, AnyOb G ob z) (hn : vs.length + us.length ≤ 300) (sz : Nat) : CWi l G yJ2_addAll cJ2_addAll 6 .boolean 4 2 1024 90 [.ref x, .ref y] (w ++ (wy ++ ob)) sz (fun r w1 => ∃ w2 : va_W, AL G x (vs ++ us) w2 ∧ w1 = w2 ++ (wy ++ ob)) := by
  obtain ⟨fsy, tly, rfl⟩ := hy.cons
  rcases hw with ⟨mc, rfl, rfl⟩ | ⟨mc, ea, cap, f, rfl, h1, h2, h3, h4, h9⟩
  · exact metJ2_addAllE l G x mc y us fsy tly ob hy hus (by simpa using hn) sz
  · refine metJ2_addAllA l G x ea vs.length cap mc f vs y us fsy tly ob hy hus h1 h3 h2 rfl h1 h4 hn (fun j hj z hz => ?_) h9 sz
    by_cases h : j < vs.length
    · rw [h4 j h] at hz
      cases hz
      rw [List.getD_eq_getElem?_getD, List.getElem?_eq_getElem h]
      exact hvs _ (List.getElem_mem h)
    · rw [h9 j (by omega)] at hz
      cases hz
