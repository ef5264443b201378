set_option maxHeartbeats 4000000 in
set_option maxRecDepth 100000 in
theorem metJ2_add_2 (l : Launch) (G : Gt) (x v ea n cap : Nat) (mc : Int32) (f : Nat → Option Nat) (ob : va_W) (hv : AnyOb G ob v) (h1 : 1 ≤ cap) (hn : n ≤ cap) (hc : cap ≤ 512) (h3 : n < 300) (hob : ∀ j, j < n → ∀ y, f j = some y → AnyOb G ob y) (hf9 : ∀ j, n ≤ j → f j = none) (sz : Nat) : CWv l G yJ2_add_2 cJ2_add_2 4 5 1 512 110 [.ref (x), .ref (v), .ref (ea), .int (nI n)] ((x, .inr (5, [.int (mc), .ref (ea), .int (nI n)])) :: (ea, .inl (gA G 3, cap, .inr (.inr (.inr (.inr (f)))))) :: ob) sz (fun w1 => ∃ q C g, w1 = (x, .inr (5, [.int (mc), .ref q, .int (nI (n + 1))])) :: (q, .inl (gA G 3, C, .inr (.inr (.inr (.inr g))))) :: ob ∧ n + 1 ≤ C ∧ C ≤ 512 ∧ (∀ j, j < n → g j = f j) ∧ g n = some v ∧ ∀ j, n + 1 ≤ j → g j = none) := by
  refine mkWv (by decide) (Nat.le_of_ble_eq_true rfl) ?_
  intro p e s m args below meth c Q A hx hb hts hown hin hml hG hsz hP hD hA hA0 hS ret ls hl
  refine lv_iload_n hx hb dJ2_add_2_0 rfl (lv_at hl 3 rfl) ?_
  refine lv_aload_n hx hb dJ2_add_2_1 rfl (lv_at hl 2 rfl) ?_
  refine va_alen (v := nI (cap)) hx hb hG.K hP 1 3 rfl rfl rfl dJ2_add_2_2 ?_
  refine lv_icmp_ne (tgt := 11) hx hb dJ2_add_2_3 (by decide) (fun c_3 => ?_) (fun c_3 => ?_)
  · have h3 : n ≠ cap := nI_ne c_3
    refine lv_aload_n hx hb dJ2_add_2_11 rfl (lv_at hl 2 rfl) ?_
    refine lv_iload_n hx hb dJ2_add_2_12 rfl (lv_at hl 3 rfl) ?_
    refine lv_aload_n hx hb dJ2_add_2_13 rfl (lv_at hl 1 rfl) ?_
    refine qa_st (j := n) hx hb hG.K hP hD hS 1 3 rfl rfl (hv s _ hG (base_same hG hS hA0).1 (hP.mem (fun q hq => List.mem_cons_of_mem _ (List.mem_cons_of_mem _ hq)))) (by omega) (by omega) dJ2_add_2_14 (fun H locs hP hD hS => ?_)
    have hP : wP G ((x, .inr (5, [.int (mc), .ref (ea), .int (nI n)])) :: (ea, .inl (gA G 3, cap, .inr (.inr (.inr (.inr (va_up f (n) (some (v)))))))) :: ob) H := hP
    have hD : va_D A ((x, .inr (5, [.int (mc), .ref (ea), .int (nI n)])) :: (ea, .inl (gA G 3, cap, .inr (.inr (.inr (.inr (va_up f (n) (some (v)))))))) :: ob) := hD
    refine lv_aload_n hx hb dJ2_add_2_15 rfl (lv_at hl 0 rfl) ?_
    refine lv_iload_n hx hb dJ2_add_2_16 rfl (lv_at hl 3 rfl) ?_
    refine lv_iconst (v := 1) hx hb dJ2_add_2_17 (by decide) ?_
    refine lv_iadd hx hb dJ2_add_2_18 ?_
    refine top_i (y := nI (n + 1)) (nI_1 n) ?_
    refine va_put (D := gD G) (ci := 5) (v := .int (nI (n + 1))) (ty := .int) (C := RJ2) (T := TJ2) (N := 3) hx hb hts in_J2 tyJ2 tyJ2_ok nmJ2 hown hG.K hP hD hS 0 rfl rfl 2 (by decide) (hts _ q95) (fun _ h9 => h9) rfl (by decide +kernel) rfl rfl (Nat.le_of_ble_eq_true rfl) dJ2_add_2_19 (fun H locs hP hD hS => ?_)
    have hP : wP G ((x, .inr (5, [.int (mc), .ref (ea), .int (nI (n + 1))])) :: (ea, .inl (gA G 3, cap, .inr (.inr (.inr (.inr (va_up f (n) (some (v)))))))) :: ob) H := hP
    have hD : va_D A ((x, .inr (5, [.int (mc), .ref (ea), .int (nI (n + 1))])) :: (ea, .inl (gA G 3, cap, .inr (.inr (.inr (.inr (va_up f (n) (some (v)))))))) :: ob) := hD
    exact ret _ 22 ls _ _ _ _ dJ2_add_2_22 (Nat.le_of_ble_eq_true rfl) (Nat.le_of_ble_eq_true rfl) hP hD hS (⟨ea, cap, _, rfl, by omega, hc, fun j hj => by rw [va_up_ne _ _ (by omega)], va_up_self _ _ _, fun j hj => by rw [va_up_ne _ _ (by omega)]; exact hf9 j (by omega)⟩)
  · have h3 : n = cap := nI_e (by simpa using c_3); subst h3
    refine lv_aload_n hx hb dJ2_add_2_6 rfl (lv_at hl 0 rfl) ?_
    refine cl_q0 (va_runV (As := []) (rest := []) ⟨hx, hb, hml, hown, hts⟩ (metJ2_grow l G x ea n mc f ob h1 (by omega) hob _) (cwV 0 hts (lw_V q285 q287 qs4 q32 q288) rfl rfl rfl (by decide +kernel) ⟨Nat.le_of_ble_eq_true rfl, Nat.le_of_ble_eq_true rfl⟩) (pre_WV0 (q0 := 0) hG hP hD hS hA0 rfl rfl) rfl rfl hl.1 rfl (lv_room (Nat.le_of_ble_eq_true rfl)) dJ2_add_2_7 ⟨Nat.le_of_ble_eq_true rfl, Nat.le_of_ble_eq_true rfl⟩) hP hD hS hA (fun r_7 w1 H locs hp hP hD hS => ?_)
    obtain ⟨q1, C, g1, rfl, rfl, hC1, hC2, hg1, hg9⟩ := hp
    have hP : wP G ((x, .inr (5, [.int (mc), .ref (q1), .int (nI n)])) :: (q1, .inl (gA G 3, C, .inr (.inr (.inr (.inr (g1)))))) :: ob) H := hP
    have hD : va_D A ((x, .inr (5, [.int (mc), .ref (q1), .int (nI n)])) :: (q1, .inl (gA G 3, C, .inr (.inr (.inr (.inr (g1)))))) :: ob) := hD
    refine lv_astore_n (lv' := [(2, .ref (q1)), (0, .ref (x)), (1, .ref (v)), (3, .int (nI n))]) hx hb dJ2_add_2_10 rfl hl (by decide) rfl (fun ls hl => ?_)
    refine lv_aload_n hx hb dJ2_add_2_11 rfl (lv_at hl 0 rfl) ?_
    refine lv_iload_n hx hb dJ2_add_2_12 rfl (lv_at hl 3 rfl) ?_
    refine lv_aload_n hx hb dJ2_add_2_13 rfl (lv_at hl 2 rfl) ?_
    refine qa_st (j := n) hx hb hG.K hP hD hS 1 3 rfl rfl (hv s _ hG (base_same hG hS hA0).1 (hP.mem (fun q hq => List.mem_cons_of_mem _ (List.mem_cons_of_mem _ hq)))) (by omega) (by omega) dJ2_add_2_14 (fun H locs hP hD hS => ?_)
    have hP : wP G ((x, .inr (5, [.int (mc), .ref (q1), .int (nI n)])) :: (q1, .inl (gA G 3, C, .inr (.inr (.inr (.inr (va_up g1 (n) (some (v)))))))) :: ob) H := hP
    have hD : va_D A ((x, .inr (5, [.int (mc), .ref (q1), .int (nI n)])) :: (q1, .inl (gA G 3, C, .inr (.inr (.inr (.inr (va_up g1 (n) (some (v)))))))) :: ob) := hD
    refine lv_aload_n hx hb dJ2_add_2_15 rfl (lv_at hl 1 rfl) ?_
    refine lv_iload_n hx hb dJ2_add_2_16 rfl (lv_at hl 3 rfl) ?_
    refine lv_iconst (v := 1) hx hb dJ2_add_2_17 (by decide) ?_
    refine lv_iadd hx hb dJ2_add_2_18 ?_
    refine top_i (y := nI (n + 1)) (nI_1 n) ?_
    refine va_put (D := gD G) (ci := 5) (v := .int (nI (n + 1))) (ty := .int) (C := RJ2) (T := TJ2) (N := 3) hx hb hts in_J2 tyJ2 tyJ2_ok nmJ2 hown hG.K hP hD hS 0 rfl rfl 2 (by decide) (hts _ q95) (fun _ h9 => h9) rfl (by decide +kernel) rfl rfl (Nat.le_of_ble_eq_true rfl) dJ2_add_2_19 (fun H locs hP hD hS => ?_)
    have hP : wP G ((x, .inr (5, [.int (mc), .ref (q1), .int (nI (n + 1))])) :: (q1, .inl (gA G 3, C, .inr (.inr (.inr (.inr (va_up g1 (n) (some (v)))))))) :: ob) H := hP
    have hD : va_D A ((x, .inr (5, [.int (mc), .ref (q1), .int (nI (n + 1))])) :: (q1, .inl (gA G 3, C, .inr (.inr (.inr (.inr (va_up g1 (n) (some (v)))))))) :: ob) := hD
    exact ret _ 22 ls _ _ _ _ dJ2_add_2_22 (Nat.le_of_ble_eq_true rfl) (Nat.le_of_ble_eq_true rfl) hP hD hS (⟨q1, C, _, rfl, hC1, hC2, fun j hj => by rw [va_up_ne _ _ (by omega)]; exact hg1 j hj, va_up_self _ _ _, fun j hj => by rw [va_up_ne _ _ (by omega)]; exact hg9 j (by omega)⟩)
set_option maxHeartbeats 4000000 in
set_option maxRecDepth 100000 in
theorem metJ2_add_2E (l : Launch) (G : Gt) (x v : Nat) (mc : Int32) (ob : va_W) (hv : AnyOb G ob v) (sz : Nat) : CWv l G yJ2_add_2 cJ2_add_2 4 3 1 512 59 [.ref (x), .ref (v), .ref (gad G 256), .int (0)] ((x, .inr (5, [.int (mc), .ref (gad G 256), .int (0)])) :: ob) sz (fun w1 => ∃ q C g, w1 = (x, .inr (5, [.int (mc), .ref q, .int (nI (0 + 1))])) :: (q, .inl (gA G 3, C, .inr (.inr (.inr (.inr g))))) :: ob ∧ 0 + 1 ≤ C ∧ C ≤ 512 ∧ (∀ j, j < 0 → g j = none) ∧ g 0 = some v ∧ ∀ j, 0 + 1 ≤ j → g j = none) := by
  refine mkWv (by decide) (Nat.le_of_ble_eq_true rfl) ?_
  intro p e s m args below meth c Q A hx hb hts hown hin hml hG hsz hP hD hA hA0 hS ret ls hl
  refine lv_iload_n hx hb dJ2_add_2_0 rfl (lv_at hl 3 rfl) ?_
  refine lv_aload_n hx hb dJ2_add_2_1 rfl (lv_at hl 2 rfl) ?_
  refine va_tlen (v := 0) hx hb (hG.sfA hA0).2.1 hS rfl dJ2_add_2_2 ?_
  refine lv_icmp_ne (tgt := 11) hx hb dJ2_add_2_3 (by decide) (fun c_3 => absurd c_3 (fun h => h rfl)) (fun c_3 => ?_)
  refine lv_aload_n hx hb dJ2_add_2_6 rfl (lv_at hl 0 rfl) ?_
  have hP := wP.perm (w' := [(x, .inr (5, [.int (mc), .ref (gad G 256), .int (0)]))] ++ (ob)) hP (pm_ (fun _ z => by simp only [List.count_append, List.count_cons, List.count_nil]; omega))
  have hD := va_D.perm (w' := [(x, .inr (5, [.int (mc), .ref (gad G 256), .int (0)]))] ++ (ob)) hD (pm_ (fun _ z => by simp only [List.count_append, List.count_cons, List.count_nil]; omega))
  refine cl_q (wr := (ob)) (va_runV (As := []) (rest := []) ⟨hx, hb, hml, hown, hts⟩ (metJ2_growE l G x mc _) (cwV 0 hts (lw_V q285 q287 qs4 q32 q288) rfl rfl rfl (by decide +kernel) ⟨Nat.le_of_ble_eq_true rfl, Nat.le_of_ble_eq_true rfl⟩) (pre_WV (q0 := 0) hG hP hD hS hA0 rfl rfl) rfl rfl hl.1 rfl (lv_room (Nat.le_of_ble_eq_true rfl)) dJ2_add_2_7 ⟨Nat.le_of_ble_eq_true rfl, Nat.le_of_ble_eq_true rfl⟩) hP hD hS hA (fun r_7 w1 H locs hp hP hD hS => ?_)
  obtain ⟨q1, C, rfl, rfl, hC1, hC2, hC3⟩ := hp
  have hP := wP.perm (w' := ((x, .inr (5, [.int (mc), .ref (q1), .int (0)])) :: (q1, .inl (gA G 3, C, .inr (.inr (.inr (.inr ((fun _ => none))))))) :: ob)) hP (pm_ (fun _ z => by simp only [List.count_append, List.count_cons, List.count_nil]; omega))
  have hD := va_D.perm (w' := ((x, .inr (5, [.int (mc), .ref (q1), .int (0)])) :: (q1, .inl (gA G 3, C, .inr (.inr (.inr (.inr ((fun _ => none))))))) :: ob)) hD (pm_ (fun _ z => by simp only [List.count_append, List.count_cons, List.count_nil]; omega))
  refine lv_astore_n (lv' := [(2, .ref (q1)), (0, .ref (x)), (1, .ref (v)), (3, .int (0))]) hx hb dJ2_add_2_10 rfl hl (by decide) rfl (fun ls hl => ?_)
  refine lv_aload_n hx hb dJ2_add_2_11 rfl (lv_at hl 0 rfl) ?_
  refine lv_iload_n hx hb dJ2_add_2_12 rfl (lv_at hl 3 rfl) ?_
  refine lv_aload_n hx hb dJ2_add_2_13 rfl (lv_at hl 2 rfl) ?_
  refine qa_st (j := 0) hx hb hG.K hP hD hS 1 3 rfl rfl (hv s _ hG (base_same hG hS hA0).1 (hP.mem (fun q hq => List.mem_cons_of_mem _ (List.mem_cons_of_mem _ hq)))) (by omega) (by omega) dJ2_add_2_14 (fun H locs hP hD hS => ?_)
  have hP : wP G ((x, .inr (5, [.int (mc), .ref (q1), .int (0)])) :: (q1, .inl (gA G 3, C, .inr (.inr (.inr (.inr (va_up ((fun _ => none)) (0) (some (v)))))))) :: ob) H := hP
  have hD : va_D A ((x, .inr (5, [.int (mc), .ref (q1), .int (0)])) :: (q1, .inl (gA G 3, C, .inr (.inr (.inr (.inr (va_up ((fun _ => none)) (0) (some (v)))))))) :: ob) := hD
  refine lv_aload_n hx hb dJ2_add_2_15 rfl (lv_at hl 1 rfl) ?_
  refine lv_iload_n hx hb dJ2_add_2_16 rfl (lv_at hl 3 rfl) ?_
  refine lv_iconst (v := 1) hx hb dJ2_add_2_17 (by decide) ?_
  refine lv_iadd hx hb dJ2_add_2_18 ?_
  refine top_i (y := nI (0 + 1)) (rfl) ?_
  refine va_put (D := gD G) (ci := 5) (v := .int (nI (0 + 1))) (ty := .int) (C := RJ2) (T := TJ2) (N := 3) hx hb hts in_J2 tyJ2 tyJ2_ok nmJ2 hown hG.K hP hD hS 0 rfl rfl 2 (by decide) (hts _ q95) (fun _ h9 => h9) rfl (by decide +kernel) rfl rfl (Nat.le_of_ble_eq_true rfl) dJ2_add_2_19 (fun H locs hP hD hS => ?_)
  have hP : wP G ((x, .inr (5, [.int (mc), .ref (q1), .int (nI (0 + 1))])) :: (q1, .inl (gA G 3, C, .inr (.inr (.inr (.inr (va_up ((fun _ => none)) (0) (some (v)))))))) :: ob) H := hP
  have hD : va_D A ((x, .inr (5, [.int (mc), .ref (q1), .int (nI (0 + 1))])) :: (q1, .inl (gA G 3, C, .inr (.inr (.inr (.inr (va_up ((fun _ => none)) (0) (some (v)))))))) :: ob) := hD
  exact ret _ 22 ls _ _ _ _ dJ2_add_2_22 (Nat.le_of_ble_eq_true rfl) (Nat.le_of_ble_eq_true rfl) hP hD hS (⟨q1, C, _, rfl, hC3, hC2, fun j hj => absurd hj (Nat.not_lt_zero _), va_up_self _ _ _, fun j hj => by rw [va_up_ne _ _ (by omega)]⟩)
set_option maxHeartbeats 4000000 in
set_option maxRecDepth 100000 in
theorem metJ2_addA (l : Launch) (G : Gt) (x v ea n cap : Nat) (mc : Int32) (f : Nat → Option Nat) (ob : va_W) (hv : AnyOb G ob v) (h1 : 1 ≤ cap) (hn : n ≤ cap) (hc : cap ≤ 512) (h3 : n < 300) (hob : ∀ j, j < n → ∀ y, f j = some y → AnyOb G ob y) (hf9 : ∀ j, n ≤ j → f j = none) (sz : Nat) : CWi l G yJ2_add cJ2_add 2 .boolean 6 1 512 133 [.ref (x), .ref (v)] ((x, .inr (5, [.int (mc), .ref (ea), .int (nI n)])) :: (ea, .inl (gA G 3, cap, .inr (.inr (.inr (.inr (f)))))) :: ob) sz (fun r w1 => r = 1 ∧ ∃ q C g, w1 = (x, .inr (5, [.int (mc + 1), .ref q, .int (nI (n + 1))])) :: (q, .inl (gA G 3, C, .inr (.inr (.inr (.inr g))))) :: ob ∧ n + 1 ≤ C ∧ C ≤ 512 ∧ (∀ j, j < n → g j = f j) ∧ g n = some v ∧ ∀ j, n + 1 ≤ j → g j = none) := by
  refine mkWi (by decide) (Nat.le_of_ble_eq_true rfl) ?_
  intro p e s m args below meth c Q A hx hb hts hown hin hml hG hsz hP hD hA hA0 hS ret ls hl
  refine lv_aload_n hx hb dJ2_add_0 rfl (lv_at hl 0 rfl) ?_
  refine lv_dup hx hb dJ2_add_1 rfl ?_
  refine va_get (D := gD G) (ci := 5) (v := .int (mc)) (C := RJ2) (T := TJ2) (N := 3) hx hb hts in_J2 hown hG.K hP 0 rfl rfl 0 (by decide) (hts _ q99) (fun x9 h9 => u_same (hts _ q98) x9 h9) rfl dJ2_add_2 ?_
  refine lv_iconst (v := 1) hx hb dJ2_add_5 (by decide) ?_
  refine lv_iadd hx hb dJ2_add_6 ?_
  refine va_put (D := gD G) (ci := 5) (v := .int ((mc) + (1))) (ty := .int) (C := RJ2) (T := TJ2) (N := 3) hx hb hts in_J2 tyJ2 tyJ2_ok nmJ2 hown hG.K hP hD hS 0 rfl rfl 0 (by decide) (hts _ q99) (fun x9 h9 => u_same (hts _ q98) x9 h9) rfl (by decide +kernel) rfl rfl (Nat.le_of_ble_eq_true rfl) dJ2_add_7 (fun H locs hP hD hS => ?_)
  have hP : wP G ((x, .inr (5, [.int ((mc) + (1)), .ref (ea), .int (nI n)])) :: (ea, .inl (gA G 3, cap, .inr (.inr (.inr (.inr (f)))))) :: ob) H := hP
  have hD : va_D A ((x, .inr (5, [.int ((mc) + (1)), .ref (ea), .int (nI n)])) :: (ea, .inl (gA G 3, cap, .inr (.inr (.inr (.inr (f)))))) :: ob) := hD
  refine lv_aload_n hx hb dJ2_add_10 rfl (lv_at hl 0 rfl) ?_
  refine lv_aload_n hx hb dJ2_add_11 rfl (lv_at hl 1 rfl) ?_
  refine lv_aload_n hx hb dJ2_add_12 rfl (lv_at hl 0 rfl) ?_
  refine va_get (D := gD G) (ci := 5) (v := .ref (ea)) (C := RJ2) (T := TJ2) (N := 3) hx hb hts in_J2 hown hG.K hP 0 rfl rfl 1 (by decide) (hts _ q92) (fun _ h9 => h9) rfl dJ2_add_13 ?_
  refine lv_aload_n hx hb dJ2_add_16 rfl (lv_at hl 0 rfl) ?_
  refine va_get (D := gD G) (ci := 5) (v := .int (nI n)) (C := RJ2) (T := TJ2) (N := 3) hx hb hts in_J2 hown hG.K hP 0 rfl rfl 2 (by decide) (hts _ q95) (fun _ h9 => h9) rfl dJ2_add_17 ?_
  refine cl_v0 (va_runV (As := [.ref (v), .ref (ea), .int (nI n)]) (rest := []) ⟨hx, hb, hml, hown, hts⟩ (metJ2_add_2 l G x v ea n cap (mc + 1) f ob hv h1 hn hc h3 hob hf9 _) (cwV 3 hts (lw_V q281 q283 qs3 q32 q284) rfl rfl rfl (by decide +kernel) ⟨Nat.le_of_ble_eq_true rfl, Nat.le_of_ble_eq_true rfl⟩) (pre_WV0 (q0 := 0) hG hP hD hS hA0 rfl rfl) rfl rfl hl.1 rfl (lv_room (Nat.le_of_ble_eq_true rfl)) dJ2_add_20 ⟨Nat.le_of_ble_eq_true rfl, Nat.le_of_ble_eq_true rfl⟩) hP hD hS hA (fun w1 H locs hp hP hD hS => ?_)
  obtain ⟨q1, C, g1, rfl, hC1, hC2, hg1, hg2, hg9⟩ := hp
  have hP : wP G ((x, .inr (5, [.int (mc + 1), .ref (q1), .int (nI (n + 1))])) :: (q1, .inl (gA G 3, C, .inr (.inr (.inr (.inr (g1)))))) :: ob) H := hP
  have hD : va_D A ((x, .inr (5, [.int (mc + 1), .ref (q1), .int (nI (n + 1))])) :: (q1, .inl (gA G 3, C, .inr (.inr (.inr (.inr (g1)))))) :: ob) := hD
  refine lv_iconst (v := 1) hx hb dJ2_add_23 (by decide) ?_
  exact ret (1) _ 24 ls _ _ _ _ dJ2_add_24 rfl (Nat.le_of_ble_eq_true rfl) (Nat.le_of_ble_eq_true rfl) hP hD hS (⟨rfl, q1, C, g1, rfl, hC1, hC2, hg1, hg2, hg9⟩)
set_option maxHeartbeats 4000000 in
set_option maxRecDepth 100000 in
theorem metJ2_addE (l : Launch) (G : Gt) (x v : Nat) (mc : Int32) (ob : va_W) (hv : AnyOb G ob v) (sz : Nat) : CWi l G yJ2_add cJ2_add 2 .boolean 6 1 512 133 [.ref (x), .ref (v)] ((x, .inr (5, [.int (mc), .ref (gad G 256), .int (0)])) :: ob) sz (fun r w1 => r = 1 ∧ ∃ q C g, w1 = (x, .inr (5, [.int (mc + 1), .ref q, .int (nI (0 + 1))])) :: (q, .inl (gA G 3, C, .inr (.inr (.inr (.inr g))))) :: ob ∧ 0 + 1 ≤ C ∧ C ≤ 512 ∧ (∀ j, j < 0 → g j = none) ∧ g 0 = some v ∧ ∀ j, 0 + 1 ≤ j → g j = none) := by
  refine mkWi (by decide) (Nat.le_of_ble_eq_true rfl) ?_
  intro p e s m args below meth c Q A hx hb hts hown hin hml hG hsz hP hD hA hA0 hS ret ls hl
  refine lv_aload_n hx hb dJ2_add_0 rfl (lv_at hl 0 rfl) ?_
  refine lv_dup hx hb dJ2_add_1 rfl ?_
  refine va_get (D := gD G) (ci := 5) (v := .int (mc)) (C := RJ2) (T := TJ2) (N := 3) hx hb hts in_J2 hown hG.K hP 0 rfl rfl 0 (by decide) (hts _ q99) (fun x9 h9 => u_same (hts _ q98) x9 h9) rfl dJ2_add_2 ?_
  refine lv_iconst (v := 1) hx hb dJ2_add_5 (by decide) ?_
  refine lv_iadd hx hb dJ2_add_6 ?_
  refine va_put (D := gD G) (ci := 5) (v := .int ((mc) + (1))) (ty := .int) (C := RJ2) (T := TJ2) (N := 3) hx hb hts in_J2 tyJ2 tyJ2_ok nmJ2 hown hG.K hP hD hS 0 rfl rfl 0 (by decide) (hts _ q99) (fun x9 h9 => u_same (hts _ q98) x9 h9) rfl (by decide +kernel) rfl rfl (Nat.le_of_ble_eq_true rfl) dJ2_add_7 (fun H locs hP hD hS => ?_)
  have hP : wP G ((x, .inr (5, [.int ((mc) + (1)), .ref (gad G 256), .int (0)])) :: ob) H := hP
  have hD : va_D A ((x, .inr (5, [.int ((mc) + (1)), .ref (gad G 256), .int (0)])) :: ob) := hD
  refine lv_aload_n hx hb dJ2_add_10 rfl (lv_at hl 0 rfl) ?_
  refine lv_aload_n hx hb dJ2_add_11 rfl (lv_at hl 1 rfl) ?_
  refine lv_aload_n hx hb dJ2_add_12 rfl (lv_at hl 0 rfl) ?_
  refine va_get (D := gD G) (ci := 5) (v := .ref (gad G 256)) (C := RJ2) (T := TJ2) (N := 3) hx hb hts in_J2 hown hG.K hP 0 rfl rfl 1 (by decide) (hts _ q92) (fun _ h9 => h9) rfl dJ2_add_13 ?_
  refine lv_aload_n hx hb dJ2_add_16 rfl (lv_at hl 0 rfl) ?_
  refine va_get (D := gD G) (ci := 5) (v := .int (0)) (C := RJ2) (T := TJ2) (N := 3) hx hb hts in_J2 hown hG.K hP 0 rfl rfl 2 (by decide) (hts _ q95) (fun _ h9 => h9) rfl dJ2_add_17 ?_
  refine cl_v0 (va_runV (As := [.ref (v), .ref (gad G 256), .int (0)]) (rest := []) ⟨hx, hb, hml, hown, hts⟩ (metJ2_add_2E l G x v (mc + 1) ob hv _) (cwV 3 hts (lw_V q281 q283 qs3 q32 q284) rfl rfl rfl (by decide +kernel) ⟨Nat.le_of_ble_eq_true rfl, Nat.le_of_ble_eq_true rfl⟩) (pre_WV0 (q0 := 0) hG hP hD hS hA0 rfl rfl) rfl rfl hl.1 rfl (lv_room (Nat.le_of_ble_eq_true rfl)) dJ2_add_20 ⟨Nat.le_of_ble_eq_true rfl, Nat.le_of_ble_eq_true rfl⟩) hP hD hS hA (fun w1 H locs hp hP hD hS => ?_)
  obtain ⟨q1, C, g1, rfl, hC1, hC2, hg1, hg2, hg9⟩ := hp
  have hP : wP G ((x, .inr (5, [.int (mc + 1), .ref (q1), .int (nI (0 + 1))])) :: (q1, .inl (gA G 3, C, .inr (.inr (.inr (.inr (g1)))))) :: ob) H := hP
  have hD : va_D A ((x, .inr (5, [.int (mc + 1), .ref (q1), .int (nI (0 + 1))])) :: (q1, .inl (gA G 3, C, .inr (.inr (.inr (.inr (g1)))))) :: ob) := hD
  refine lv_iconst (v := 1) hx hb dJ2_add_23 (by decide) ?_
  exact ret (1) _ 24 ls _ _ _ _ dJ2_add_24 rfl (Nat.le_of_ble_eq_true rfl) (Nat.le_of_ble_eq_true rfl) hP hD hS (⟨rfl, q1, C, g1, rfl, hC1, hC2, hg1, hg2, hg9⟩)
theorem Met.post_ {l : Launch} {y : MethodName} {ws : List Cond} {rm : Room} {Pc : Array Value → State → Prop} {Qc Qc' : Array Value → State → Outcome → State → Prop} {mc ms : Nat} {free : Addr → Prop} (h : Met l y ws rm Pc Qc mc ms free) (hq : ∀ a U o t, Qc a U o t → Qc' a U o t) : Met l y ws rm Pc Qc' mc ms free := by
  intro p e h1 h2 h3 s m args below h4 h5 h6 h7
  obtain ⟨n, o, g1, g2, g3, g4, g5⟩ := h p e h1 h2 h3 s m args below h4 h5 h6 h7
  exact ⟨n, o, g1, g2, g3, hq _ _ _ _ g4, g5⟩
theorem CWi.post {l : Launch} {G : Gt} {y : MethodName} {b : ByteArray} {L : Nat} {r : FieldType} {fr ce sl lo : Nat} {av : List Value} {w0 : va_W} {sz : Nat} {post post' : Int32 → va_W → Prop} (h : CWi l G y b L r fr ce sl lo av w0 sz post) (hp : ∀ r w, post r w → post' r w) : CWi l G y b L r fr ce sl lo av w0 sz post' :=
  Met.post_ h (fun a U o t hq => by obtain ⟨⟨r, u, h1, h2, h3⟩, h4⟩ := hq; exact ⟨⟨r, u, h1, hp r u h2, h3⟩, h4⟩)
theorem CWv.post {l : Launch} {G : Gt} {y : MethodName} {b : ByteArray} {L : Nat} {fr ce sl lo : Nat} {av : List Value} {w0 : va_W} {sz : Nat} {post post' : va_W → Prop} (h : CWv l G y b L fr ce sl lo av w0 sz post) (hp : ∀ w, post w → post' w) : CWv l G y b L fr ce sl lo av w0 sz post' :=
  Met.post_ h (fun a U o t hq => by obtain ⟨⟨u, h1, h2, h3⟩, h4⟩ := hq; exact ⟨⟨u, h1, hp u h2, h3⟩, h4⟩)
theorem CWq.post {l : Launch} {G : Gt} {y : MethodName} {b : ByteArray} {L : Nat} {r : FieldType} {fr ce sl lo : Nat} {av : List Value} {w0 : va_W} {sz : Nat} {post post' : Option Nat → va_W → Prop} (h : CWq l G y b L r fr ce sl lo av w0 sz post) (hp : ∀ r w, post r w → post' r w) : CWq l G y b L r fr ce sl lo av w0 sz post' :=
  Met.post_ h (fun a U o t hq => by obtain ⟨⟨r, u, h1, h2, h3⟩, h4⟩ := hq; exact ⟨⟨r, u, h1, hp r u h2, h3⟩, h4⟩)
theorem AL_push {vs : List Nat} {v : Nat} {f g : Nat → Option Nat} (h : ∀ j, j < vs.length → f j = some (vs.getD j 0)) (h1 : ∀ j, j < vs.length → g j = f j) (h2 : g vs.length = some v) : ∀ j, j < (vs ++ [v]).length → g j = some ((vs ++ [v]).getD j 0) := by
  intro j hj
  rw [List.length_append, List.length_singleton] at hj
  rw [List.getD_eq_getElem?_getD, List.getElem?_append]
  by_cases h3 : j < vs.length
  · rw [if_pos h3, h1 j h3, h j h3, List.getD_eq_getElem?_getD]
  · have : j = vs.length := by omega
    subst this
    rw [if_neg h3, h2, Nat.sub_self]
    rfl
/-- List.add: one more at the end -/
theorem metJ2_add (l : Launch) (G : Gt) (x v : Nat) (vs : List Nat) (w ob : va_W) (hw : AL G x vs w) (hv : AnyOb G ob v) (hvs : ∀ y ∈ vs, AnyOb G ob y) (hn : vs.length < 300) (sz : Nat) : CWi l G yJ2_add cJ2_add 2 .boolean 6 1 512 133 [.ref x, .ref v] (w ++ ob) sz (fun r w1 => r = 1 ∧ ∃ w2, AL G x (vs ++ [v]) w2 ∧ w1 = w2 ++ ob) := by
  rcases hw with ⟨mc, rfl, rfl⟩ | ⟨mc, ea, cap, f, rfl, h1, h2, h3, h4, h9⟩
  · refine CWi.post (metJ2_addE l G x v mc ob hv sz) ?_
    rintro r w ⟨h1, q, C, g, rfl, h2, h3, h4, h5, h6⟩
    exact ⟨h1, wL G x q (mc + 1) 1 C g, Or.inr ⟨mc + 1, q, C, g, rfl, h2, h2, h3, fun j hj => by
      have : j = 0 := by simpa using hj
      subst this
      exact h5, h6⟩, rfl⟩
  · refine CWi.post (metJ2_addA l G x v ea vs.length cap mc f ob hv h2 h1 h3 hn (fun j hj y hy => ?_) h9 sz) ?_
    · rw [h4 j hj] at hy
      cases hy
      rw [List.getD_eq_getElem?_getD, List.getElem?_eq_getElem hj]
      exact hvs _ (List.getElem_mem hj)
    · rintro r w ⟨g1, q, C, g, rfl, g2, g3, g4, g5, g6⟩
      refine ⟨g1, wL G x q (mc + 1) (vs.length + 1) C g, Or.inr ⟨mc + 1, q, C, g, ?_, ?_, by omega, g3, AL_push h4 g4 g5, ?_⟩, rfl⟩
      · rw [List.length_append]; rfl
      · rw [List.length_append]; exact g2
      · rw [List.length_append]; exact g6
set_option maxHeartbeats 4000000 in
set_option maxRecDepth 100000 in
theorem metJ2_clearA (l : Launch) (G : Gt) (x ea n cap : Nat) (mc : Int32) (f : Nat → Option Nat) (hn : n ≤ cap) (hc : cap ≤ 512) (hf9 : ∀ j, n ≤ j → f j = none) (sz : Nat) : CWv l G yJ2_clear cJ2_clear 4 0 0 0 0 [.ref (x)] [(x, .inr (5, [.int (mc), .ref (ea), .int (nI n)])), (ea, .inl (gA G 3, cap, .inr (.inr (.inr (.inr (f))))))] sz (fun w1 => ∃ mc2 g, w1 = wL G x ea mc2 0 cap g ∧ ∀ i, g i = none) := by
  refine mkWv (by decide) (Nat.le_of_ble_eq_true rfl) ?_
  intro p e s m args below meth c Q A hx hb hts hown hin hml hG hsz hP hD hA hA0 hS ret ls hl
  have L27 : ∀ (d : Nat) (j : Nat) (v3 : Int32) (g : Nat → Option Nat), j ≤ n → n + 1 ≤ j + d → v3 = nI j → (∀ i, i < j ∨ n ≤ i → g i = none) → ∀ (H : Heap) (locs : List Loc), wP G [(x, .inr (5, [.int (mc + 1), .ref (ea), .int (0)])), (ea, .inl (gA G 3, cap, .inr (.inr (.inr (.inr (g))))))] H → va_D A [(x, .inr (5, [.int (mc + 1), .ref (ea), .int (0)])), (ea, .inl (gA G 3, cap, .inr (.inr (.inr (.inr (g))))))] → va_S A s.heap H locs → ∀ ls : Array Slot, lv_has ls 4 [(3, .int (v3)), (2, .int (nI n)), (1, .ref (ea)), (0, .ref (x))] → W p l e (rm_ 0 0 0 0) s m args below meth c H locs 0 0 Q (F0 m 27 ls []) := by
    intro d
    induction d with
    | zero => intros; omega
    | succ d ih_27 =>
      intro j v3 g hj hd e3 hg H locs hP hD hS ls hl
      subst e3
      refine lv_iload_n hx hb dJ2_clear_27 rfl (lv_at hl 0 rfl) ?_
      refine lv_iload_n hx hb dJ2_clear_28 rfl (lv_at hl 1 rfl) ?_
      refine lv_icmp_ge (tgt := 42) hx hb dJ2_clear_29 (by decide) (fun c_29 => ?_) (fun c_29 => ?_)
      · have h29 : n ≤ j := nI_ge' (a := j) (b := n) c_29
        exact ret _ 42 ls _ _ _ _ dJ2_clear_42 (Nat.le_of_ble_eq_true rfl) (Nat.le_of_ble_eq_true rfl) hP hD hS (⟨_, _, rfl, fun i => hg i (by omega)⟩)
      · have h29 : j < n := nI_nge (a := j) (b := n) c_29
        refine lv_aload_n hx hb dJ2_clear_32 rfl (lv_at hl 2 rfl) ?_
        refine lv_iload_n hx hb dJ2_clear_33 rfl (lv_at hl 0 rfl) ?_
        refine lv_null hx hb dJ2_clear_34 ?_
        refine qa_sn (j := j) hx hb hG.K hP hD hS 1 3 rfl rfl (by omega) (by omega) dJ2_clear_35 (fun H locs hP hD hS => ?_)
        have hP : wP G [(x, .inr (5, [.int (mc + 1), .ref (ea), .int (0)])), (ea, .inl (gA G 3, cap, .inr (.inr (.inr (.inr (va_up g (j) none))))))] H := hP
        have hD : va_D A [(x, .inr (5, [.int (mc + 1), .ref (ea), .int (0)])), (ea, .inl (gA G 3, cap, .inr (.inr (.inr (.inr (va_up g (j) none))))))] := hD
        refine lv_iinc (v := nI (j + 1)) (lv' := [(3, .int (nI (j + 1))), (2, .int (nI n)), (1, .ref (ea)), (0, .ref (x))]) hx hb dJ2_clear_36 hl (k := 0) rfl (nI_1 j) (by decide) rfl (fun ls hl => ?_)
        refine lv_goto (tgt := 27) hx hb dJ2_clear_39 (by decide) ?_
        exact ih_27 (j + 1) _ _ (by omega) (by omega) rfl (fun i hi => by by_cases h : i = j <;> first | (rw [h, va_up_self]) | (rw [va_up_ne _ _ h]; exact hg i (by omega))) _ _ hP hD hS ls hl
  refine lv_aload_n hx hb dJ2_clear_0 rfl (lv_at hl 0 rfl) ?_
  refine lv_dup hx hb dJ2_clear_1 rfl ?_
  refine va_get (D := gD G) (ci := 5) (v := .int (mc)) (C := RJ2) (T := TJ2) (N := 3) hx hb hts in_J2 hown hG.K hP 0 rfl rfl 0 (by decide) (hts _ q99) (fun x9 h9 => u_same (hts _ q98) x9 h9) rfl dJ2_clear_2 ?_
  refine lv_iconst (v := 1) hx hb dJ2_clear_5 (by decide) ?_
  refine lv_iadd hx hb dJ2_clear_6 ?_
  refine va_put (D := gD G) (ci := 5) (v := .int ((mc) + (1))) (ty := .int) (C := RJ2) (T := TJ2) (N := 3) hx hb hts in_J2 tyJ2 tyJ2_ok nmJ2 hown hG.K hP hD hS 0 rfl rfl 0 (by decide) (hts _ q99) (fun x9 h9 => u_same (hts _ q98) x9 h9) rfl (by decide +kernel) rfl rfl (Nat.le_of_ble_eq_true rfl) dJ2_clear_7 (fun H locs hP hD hS => ?_)
  have hP : wP G [(x, .inr (5, [.int ((mc) + (1)), .ref (ea), .int (nI n)])), (ea, .inl (gA G 3, cap, .inr (.inr (.inr (.inr (f))))))] H := hP
  have hD : va_D A [(x, .inr (5, [.int ((mc) + (1)), .ref (ea), .int (nI n)])), (ea, .inl (gA G 3, cap, .inr (.inr (.inr (.inr (f))))))] := hD
  refine lv_aload_n hx hb dJ2_clear_10 rfl (lv_at hl 0 rfl) ?_
  refine va_get (D := gD G) (ci := 5) (v := .ref (ea)) (C := RJ2) (T := TJ2) (N := 3) hx hb hts in_J2 hown hG.K hP 0 rfl rfl 1 (by decide) (hts _ q92) (fun _ h9 => h9) rfl dJ2_clear_11 ?_
  refine lv_astore_n (lv' := [(1, .ref (ea)), (0, .ref (x))]) hx hb dJ2_clear_14 rfl hl (by decide) rfl (fun ls hl => ?_)
  refine lv_aload_n hx hb dJ2_clear_15 rfl (lv_at hl 1 rfl) ?_
  refine va_get (D := gD G) (ci := 5) (v := .int (nI n)) (C := RJ2) (T := TJ2) (N := 3) hx hb hts in_J2 hown hG.K hP 0 rfl rfl 2 (by decide) (hts _ q95) (fun _ h9 => h9) rfl dJ2_clear_16 ?_
  refine lv_istore_n (lv' := [(2, .int (nI n)), (1, .ref (ea)), (0, .ref (x))]) hx hb dJ2_clear_19 rfl hl (by decide) rfl (fun ls hl => ?_)
  refine lv_aload_n hx hb dJ2_clear_20 rfl (lv_at hl 2 rfl) ?_
  refine lv_iconst (v := 0) hx hb dJ2_clear_21 (by decide) ?_
  refine lv_dup_x1 hx hb dJ2_clear_22 rfl rfl ?_
  refine va_put (D := gD G) (ci := 5) (v := .int (0)) (ty := .int) (C := RJ2) (T := TJ2) (N := 3) hx hb hts in_J2 tyJ2 tyJ2_ok nmJ2 hown hG.K hP hD hS 0 rfl rfl 2 (by decide) (hts _ q95) (fun _ h9 => h9) rfl (by decide +kernel) rfl rfl (Nat.le_of_ble_eq_true rfl) dJ2_clear_23 (fun H locs hP hD hS => ?_)
  have hP : wP G [(x, .inr (5, [.int ((mc) + (1)), .ref (ea), .int (0)])), (ea, .inl (gA G 3, cap, .inr (.inr (.inr (.inr (f))))))] H := hP
  have hD : va_D A [(x, .inr (5, [.int ((mc) + (1)), .ref (ea), .int (0)])), (ea, .inl (gA G 3, cap, .inr (.inr (.inr (.inr (f))))))] := hD
  refine lv_istore_n (lv' := [(3, .int (0)), (2, .int (nI n)), (1, .ref (ea)), (0, .ref (x))]) hx hb dJ2_clear_26 rfl hl (by decide) rfl (fun ls hl => ?_)
  exact L27 (n + 1) 0 _ _ (by omega) (by omega) rfl (fun i hi => hf9 i (by omega)) _ _ hP hD hS ls hl
set_option maxHeartbeats 4000000 in
set_option maxRecDepth 100000 in
theorem metJ2_clearE (l : Launch) (G : Gt) (x : Nat) (mc : Int32) (sz : Nat) : CWv l G yJ2_clear cJ2_clear 4 0 0 0 0 [.ref (x)] [(x, .inr (5, [.int (mc), .ref (gad G 256), .int (0)]))] sz (fun w1 => ∃ mc2, w1 = wLE G x mc2) := by
  refine mkWv (by decide) (Nat.le_of_ble_eq_true rfl) ?_
  intro p e s m args below meth c Q A hx hb hts hown hin hml hG hsz hP hD hA hA0 hS ret ls hl
  refine lv_aload_n hx hb dJ2_clear_0 rfl (lv_at hl 0 rfl) ?_
  refine lv_dup hx hb dJ2_clear_1 rfl ?_
  refine va_get (D := gD G) (ci := 5) (v := .int (mc)) (C := RJ2) (T := TJ2) (N := 3) hx hb hts in_J2 hown hG.K hP 0 rfl rfl 0 (by decide) (hts _ q99) (fun x9 h9 => u_same (hts _ q98) x9 h9) rfl dJ2_clear_2 ?_
  refine lv_iconst (v := 1) hx hb dJ2_clear_5 (by decide) ?_
  refine lv_iadd hx hb dJ2_clear_6 ?_
  refine va_put (D := gD G) (ci := 5) (v := .int ((mc) + (1))) (ty := .int) (C := RJ2) (T := TJ2) (N := 3) hx hb hts in_J2 tyJ2 tyJ2_ok nmJ2 hown hG.K hP hD hS 0 rfl rfl 0 (by decide) (hts _ q99) (fun x9 h9 => u_same (hts _ q98) x9 h9) rfl (by decide +kernel) rfl rfl (Nat.le_of_ble_eq_true rfl) dJ2_clear_7 (fun H locs hP hD hS => ?_)
  have hP : wP G [(x, .inr (5, [.int ((mc) + (1)), .ref (gad G 256), .int (0)]))] H := hP
  have hD : va_D A [(x, .inr (5, [.int ((mc) + (1)), .ref (gad G 256), .int (0)]))] := hD
  refine lv_aload_n hx hb dJ2_clear_10 rfl (lv_at hl 0 rfl) ?_
  refine va_get (D := gD G) (ci := 5) (v := .ref (gad G 256)) (C := RJ2) (T := TJ2) (N := 3) hx hb hts in_J2 hown hG.K hP 0 rfl rfl 1 (by decide) (hts _ q92) (fun _ h9 => h9) rfl dJ2_clear_11 ?_
  refine lv_astore_n (lv' := [(1, .ref (gad G 256)), (0, .ref (x))]) hx hb dJ2_clear_14 rfl hl (by decide) rfl (fun ls hl => ?_)
  refine lv_aload_n hx hb dJ2_clear_15 rfl (lv_at hl 1 rfl) ?_
  refine va_get (D := gD G) (ci := 5) (v := .int (0)) (C := RJ2) (T := TJ2) (N := 3) hx hb hts in_J2 hown hG.K hP 0 rfl rfl 2 (by decide) (hts _ q95) (fun _ h9 => h9) rfl dJ2_clear_16 ?_
  refine lv_istore_n (lv' := [(2, .int (0)), (1, .ref (gad G 256)), (0, .ref (x))]) hx hb dJ2_clear_19 rfl hl (by decide) rfl (fun ls hl => ?_)
  refine lv_aload_n hx hb dJ2_clear_20 rfl (lv_at hl 2 rfl) ?_
  refine lv_iconst (v := 0) hx hb dJ2_clear_21 (by decide) ?_
  refine lv_dup_x1 hx hb dJ2_clear_22 rfl rfl ?_
  refine va_put (D := gD G) (ci := 5) (v := .int (0)) (ty := .int) (C := RJ2) (T := TJ2) (N := 3) hx hb hts in_J2 tyJ2 tyJ2_ok nmJ2 hown hG.K hP hD hS 0 rfl rfl 2 (by decide) (hts _ q95) (fun _ h9 => h9) rfl (by decide +kernel) rfl rfl (Nat.le_of_ble_eq_true rfl) dJ2_clear_23 (fun H locs hP hD hS => ?_)
  have hP : wP G [(x, .inr (5, [.int ((mc) + (1)), .ref (gad G 256), .int (0)]))] H := hP
  have hD : va_D A [(x, .inr (5, [.int ((mc) + (1)), .ref (gad G 256), .int (0)]))] := hD
  refine lv_istore_n (lv' := [(3, .int (0)), (2, .int (0)), (1, .ref (gad G 256)), (0, .ref (x))]) hx hb dJ2_clear_26 rfl hl (by decide) rfl (fun ls hl => ?_)
  refine lv_iload_n hx hb dJ2_clear_27 rfl (lv_at hl 0 rfl) ?_
  refine lv_iload_n hx hb dJ2_clear_28 rfl (lv_at hl 1 rfl) ?_
  refine lv_icmp_ge (tgt := 42) hx hb dJ2_clear_29 (by decide) (fun c_29 => ?_) (fun c_29 => absurd (by decide) c_29)
  exact ret _ 42 ls _ _ _ _ dJ2_clear_42 (Nat.le_of_ble_eq_true rfl) (Nat.le_of_ble_eq_true rfl) hP hD hS (⟨mc + 1, rfl⟩)
theorem metJ2_clear (l : Launch) (G : Gt) (x : Nat) (vs : List Nat) (w : va_W) (hw : AL G x vs w) (sz : Nat) : CWv l G yJ2_clear cJ2_clear 4 0 0 0 0 [.ref x] w sz (fun w1 => AL G x [] w1) := by
  rcases hw with ⟨mc, rfl, rfl⟩ | ⟨mc, ea, cap, f, rfl, h1, h2, h3, h4, h9⟩
  · exact CWv.post (metJ2_clearE l G x mc sz) (fun w ⟨mc2, h⟩ => Or.inl ⟨mc2, rfl, h⟩)
  · exact CWv.post (metJ2_clearA l G x ea vs.length cap mc f h1 h3 h9 sz) (fun w ⟨mc2, g, h, hg⟩ => Or.inr ⟨mc2, ea, cap, g, h, Nat.zero_le _, h2, h3, fun j hj => absurd hj (Nat.not_lt_zero _), fun j _ => hg j⟩)
