set_option maxHeartbeats 4000000 in
set_option maxRecDepth 100000 in
theorem metJ7_bitCount (l : Launch) (G : Gt) (m0 : Nat) (hm : m0 < 16384) : CR l G yJ7_bitCount cJ7_bitCount 1 .int 0 0 [.int (nI m0)] [] (fun r => r = nI (ctB m0.testBit 14)) := by
  refine mkRi (by decide) (Nat.le_of_ble_eq_true rfl) ?_
  intro p e s m args below meth c Q hx hb hts hown hml hG hP hS ret ls hl
  obtain ⟨hb1, hb2⟩ := bc_ok hm
  obtain ⟨x1, hx1⟩ : ∃ x, bc1 m0 = x := ⟨_, rfl⟩
  obtain ⟨x2, hx2⟩ : ∃ x, bc2 x1 = x := ⟨_, rfl⟩
  obtain ⟨x3, hx3⟩ : ∃ x, bc3 x2 = x := ⟨_, rfl⟩
  obtain ⟨x4, hx4⟩ : ∃ x, bc4 x3 = x := ⟨_, rfl⟩
  obtain ⟨x5, hx5⟩ : ∃ x, bc5 x4 = x := ⟨_, rfl⟩
  rw [hx1, hx2, hx3, hx4, hx5] at hb2
  have b1 : x1 ≤ m0 := by rw [← hx1]; exact Nat.sub_le _ _
  have b2 : x2 ≤ 858993459 + 858993459 := by rw [← hx2]; exact Nat.add_le_add Nat.and_le_right Nat.and_le_right
  have b3 : x3 ≤ 252645135 := by rw [← hx3]; exact Nat.and_le_right
  have b4 : x4 ≤ 505290270 := by rw [← hx4]; unfold bc4; omega
  have b5 : x5 ≤ 1010580540 := by rw [← hx5]; unfold bc5; omega
  refine lv_iload_n hx hb dJ7_bitCount_0 rfl (lv_at hl 0 rfl) ?_
  refine lv_iload_n hx hb dJ7_bitCount_1 rfl (lv_at hl 0 rfl) ?_
  refine lv_iconst (v := 1) hx hb dJ7_bitCount_2 (by decide) ?_
  refine lv_iushr hx hb dJ7_bitCount_3 rfl ?_
  refine top_i (y := nI (m0 / 2)) (pk_ushrN (by omega) _ 1 (by decide)) ?_
  refine lv_ldcw (v := (1431655765)) hx hb hown (hts _ q239) dJ7_bitCount_4 ?_
  refine lv_iand hx hb dJ7_bitCount_7 ?_
  refine top_i (y := nI ((m0 / 2) &&& 1431655765)) (nx_and (m0 / 2) 1431655765) ?_
  refine lv_isub hx hb dJ7_bitCount_8 ?_
  refine top_i (y := nI x1) (by rw [pk_sub hb1]; exact congrArg nI hx1) ?_
  refine lv_istore_n (lv' := [(0, .int (nI x1))]) hx hb dJ7_bitCount_9 rfl hl (by decide) rfl (fun ls hl => ?_)
  refine lv_iload_n hx hb dJ7_bitCount_10 rfl (lv_at hl 0 rfl) ?_
  refine lv_ldcw (v := (858993459)) hx hb hown (hts _ q240) dJ7_bitCount_11 ?_
  refine lv_iand hx hb dJ7_bitCount_14 ?_
  refine top_i (y := nI (x1 &&& 858993459)) (nx_and x1 858993459) ?_
  refine lv_iload_n hx hb dJ7_bitCount_15 rfl (lv_at hl 0 rfl) ?_
  refine lv_iconst (v := 2) hx hb dJ7_bitCount_16 (by decide) ?_
  refine lv_iushr hx hb dJ7_bitCount_17 rfl ?_
  refine top_i (y := nI (x1 / 4)) (pk_ushrN (by omega) _ 2 (by decide)) ?_
  refine lv_ldcw (v := (858993459)) hx hb hown (hts _ q240) dJ7_bitCount_18 ?_
  refine lv_iand hx hb dJ7_bitCount_21 ?_
  refine top_i (y := nI ((x1 / 4) &&& 858993459)) (nx_and (x1 / 4) 858993459) ?_
  refine lv_iadd hx hb dJ7_bitCount_22 ?_
  refine top_i (y := nI x2) (by rw [nI_add]; exact congrArg nI hx2) ?_
  refine lv_istore_n (lv' := [(0, .int (nI x2))]) hx hb dJ7_bitCount_23 rfl hl (by decide) rfl (fun ls hl => ?_)
  refine lv_iload_n hx hb dJ7_bitCount_24 rfl (lv_at hl 0 rfl) ?_
  refine lv_iload_n hx hb dJ7_bitCount_25 rfl (lv_at hl 0 rfl) ?_
  refine lv_iconst (v := 4) hx hb dJ7_bitCount_26 (by decide) ?_
  refine lv_iushr hx hb dJ7_bitCount_27 rfl ?_
  refine top_i (y := nI (x2 / 16)) (pk_ushrN (by omega) _ 4 (by decide)) ?_
  refine lv_iadd hx hb dJ7_bitCount_28 ?_
  refine top_i (y := nI (x2 + x2 / 16)) (nI_add _ _) ?_
  refine lv_ldcw (v := (252645135)) hx hb hown (hts _ q241) dJ7_bitCount_29 ?_
  refine lv_iand hx hb dJ7_bitCount_32 ?_
  refine top_i (y := nI x3) ((nx_and _ 252645135).trans (congrArg nI hx3)) ?_
  refine lv_istore_n (lv' := [(0, .int (nI x3))]) hx hb dJ7_bitCount_33 rfl hl (by decide) rfl (fun ls hl => ?_)
  refine lv_iload_n hx hb dJ7_bitCount_34 rfl (lv_at hl 0 rfl) ?_
  refine lv_iload_n hx hb dJ7_bitCount_35 rfl (lv_at hl 0 rfl) ?_
  refine lv_bipush (v := 8) hx hb dJ7_bitCount_36 (by decide) ?_
  refine lv_iushr hx hb dJ7_bitCount_38 rfl ?_
  refine top_i (y := nI (x3 / 256)) (pk_ushrN (by omega) _ 8 (by decide)) ?_
  refine lv_iadd hx hb dJ7_bitCount_39 ?_
  refine top_i (y := nI x4) (by rw [nI_add]; exact congrArg nI hx4) ?_
  refine lv_istore_n (lv' := [(0, .int (nI x4))]) hx hb dJ7_bitCount_40 rfl hl (by decide) rfl (fun ls hl => ?_)
  refine lv_iload_n hx hb dJ7_bitCount_41 rfl (lv_at hl 0 rfl) ?_
  refine lv_iload_n hx hb dJ7_bitCount_42 rfl (lv_at hl 0 rfl) ?_
  refine lv_bipush (v := 16) hx hb dJ7_bitCount_43 (by decide) ?_
  refine lv_iushr hx hb dJ7_bitCount_45 rfl ?_
  refine top_i (y := nI (x4 / 65536)) (pk_ushrN (by omega) _ 16 (by decide)) ?_
  refine lv_iadd hx hb dJ7_bitCount_46 ?_
  refine top_i (y := nI x5) (by rw [nI_add]; exact congrArg nI hx5) ?_
  refine lv_istore_n (lv' := [(0, .int (nI x5))]) hx hb dJ7_bitCount_47 rfl hl (by decide) rfl (fun ls hl => ?_)
  refine lv_iload_n hx hb dJ7_bitCount_48 rfl (lv_at hl 0 rfl) ?_
  refine lv_bipush (v := 63) hx hb dJ7_bitCount_49 (by decide) ?_
  refine lv_iand hx hb dJ7_bitCount_51 ?_
  refine top_i (y := nI (ctB m0.testBit 14)) ((nx_and x5 63).trans (congrArg nI hb2)) ?_
  exact ret (nI (ctB m0.testBit 14)) 52 ls dJ7_bitCount_52 rfl (rfl)
set_option maxHeartbeats 4000000 in
set_option maxRecDepth 100000 in
theorem metJ6_init (l : Launch) (G : Gt) (x : Nat) (sz : Nat) : CWv l G yJ6_init cJ6_init 1 1 0 0 12 [.ref (x)] [(x, .inr (8, [.int (0)]))] sz (fun w1 => w1 = [(x, .inr (8, [.int (0)]))]) := by
  refine mkWv (by decide) (Nat.le_of_ble_eq_true rfl) ?_
  intro p e s m args below meth c Q A hx hb hts hown hin hml hG hsz hP hD hA hA0 hS ret ls hl
  refine lv_aload_n hx hb dJ6_init_0 rfl (lv_at hl 0 rfl) ?_
  refine W.objInit hx hb hown (hts _ q359) (hts _ q71) (hts _ q72) rfl (by rw [hml]; exact hl.1) rfl dJ6_init_1 (Nat.le_of_ble_eq_true rfl) (Nat.le_of_ble_eq_true rfl) ?_
  refine W.eq (g2 := F0 m 4 ls []) rfl ?_
  exact ret _ 4 ls _ _ _ _ dJ6_init_4 (Nat.le_of_ble_eq_true rfl) (Nat.le_of_ble_eq_true rfl) hP hD hS (rfl)
set_option maxHeartbeats 4000000 in
set_option maxRecDepth 100000 in
theorem metJ7_init (l : Launch) (G : Gt) (x : Nat) (v : Int32) (sz : Nat) : CWv l G yJ7_init cJ7_init 2 2 0 0 32 [.ref (x), .int (v)] [(x, .inr (8, [.int (0)]))] sz (fun w1 => w1 = [(x, .inr (8, [.int v]))]) := by
  refine mkWv (by decide) (Nat.le_of_ble_eq_true rfl) ?_
  intro p e s m args below meth c Q A hx hb hts hown hin hml hG hsz hP hD hA hA0 hS ret ls hl
  refine lv_aload_n hx hb dJ7_init_0 rfl (lv_at hl 0 rfl) ?_
  refine cl_v0 (va_runI (As := []) (rest := []) ⟨hx, hb, hml, hown, hts⟩ (metJ6_init l G x _) (cwI 0 hts (lw_meth q358) rfl rfl rfl (hts _ q38) (hts _ q356) (hts _ q357) rfl (by decide +kernel) ⟨Nat.le_of_ble_eq_true rfl, Nat.le_of_ble_eq_true rfl⟩) (pre_WS0 (As := [.ref (x)]) hG hP hD hS hA0) rfl rfl hl.1 rfl (lv_room (Nat.le_of_ble_eq_true rfl)) dJ7_init_1 ⟨Nat.le_of_ble_eq_true rfl, Nat.le_of_ble_eq_true rfl⟩) hP hD hS hA (fun w1 H locs hp hP hD hS => ?_)
  subst hp
  have hP : wP G [(x, .inr (8, [.int (0)]))] H := hP
  have hD : va_D A [(x, .inr (8, [.int (0)]))] := hD
  refine lv_aload_n hx hb dJ7_init_4 rfl (lv_at hl 0 rfl) ?_
  refine lv_iload_n hx hb dJ7_init_5 rfl (lv_at hl 1 rfl) ?_
  refine va_putF (D := gD G) (ci := 8) (v := .int (v)) (ty := .int) (C := RJ7) (T := TJ7) (N := 1) hx hb hts in_J7 tyJ7 tyJ7_ok nmJ7 hown hG.K hP hD hS 0 rfl rfl 0 (by decide) (hts _ q360) (fun _ h9 => h9) rfl hin rfl (by decide +kernel) rfl rfl (Nat.le_of_ble_eq_true rfl) dJ7_init_6 (fun H locs hP hD hS => ?_)
  have hP : wP G [(x, .inr (8, [.int (v)]))] H := hP
  have hD : va_D A [(x, .inr (8, [.int (v)]))] := hD
  exact ret _ 9 ls _ _ _ _ dJ7_init_9 (Nat.le_of_ble_eq_true rfl) (Nat.le_of_ble_eq_true rfl) hP hD hS (rfl)
/-- y holds the Integer v: a made one, whose cell is w; or one of the cache -/
def bxW (G : Gt) (v : Int32) (y : Nat) (w : va_W) : Prop := w = [(y, .inr (8, [.int v]))] ∨ (w = [] ∧ ∃ k, k < 256 ∧ y = gad G k ∧ v = vb_c k)
set_option maxHeartbeats 4000000 in
set_option maxRecDepth 100000 in
theorem metJ7_valueOf (l : Launch) (G : Gt) (v : Int32) (sz : Nat) : CWq l G yJ7_valueOf cJ7_valueOf 1 (.object "java/lang/Integer") 3 1 1 53 [.int (v)] [] sz (fun r w1 => ∃ y, r = some y ∧ bxW G v y w1) := by
  refine mkWq (by decide) (Nat.le_of_ble_eq_true rfl) (by first | exact Or.inl ⟨_, rfl⟩ | exact Or.inr ⟨_, rfl⟩) ?_
  intro p e s m args below meth c Q A hx hb hts hown hin hml hG hsz hP hD hA hA0 hS ret ls hl
  refine lv_iload_n hx hb dJ7_valueOf_0 rfl (lv_at hl 0 rfl) ?_
  refine lv_bipush (v := (-128)) hx hb dJ7_valueOf_1 (by decide) ?_
  refine lv_icmp_lt (tgt := 23) hx hb dJ7_valueOf_3 (by decide) (fun c_3 => ?_) (fun c_3 => ?_)
  · skip
    refine va_new (D := gD G) (ci := 8) (fs := [.int (0)]) (C := RJ7) (T := TJ7) (N := 1) hx hb hts in_J7 tyJ7 tyJ7_ok hown (hts _ q351) (hts _ q352) (hts _ q39) hG.K hP hD hS hA rfl (fun j hj => match j, hj with | 0, _ => rfl | j + 1, hj => absurd hj (by omega)) (Nat.le_of_ble_eq_true rfl) (Nat.le_of_ble_eq_true rfl) dJ7_valueOf_23 (fun o1 H hP hD hS => ?_)
    have hP : wP G [(o1, .inr (8, [.int (0)]))] H := hP
    have hD : va_D A [(o1, .inr (8, [.int (0)]))] := hD
    refine lv_dup hx hb dJ7_valueOf_26 rfl ?_
    refine lv_iload_n hx hb dJ7_valueOf_27 rfl (lv_at hl 0 rfl) ?_
    refine cl_v0 (va_runI (As := [.int (v)]) (rest := [.ref (o1)]) ⟨hx, hb, hml, hown, hts⟩ (metJ7_init l G o1 v _) (cwI 1 hts (lw_meth q355) rfl rfl rfl (hts _ q39) (hts _ q353) (hts _ q354) rfl (by decide +kernel) ⟨Nat.le_of_ble_eq_true rfl, Nat.le_of_ble_eq_true rfl⟩) (pre_WS0 (As := [.ref (o1), .int (v)]) hG hP hD hS hA0) rfl rfl hl.1 rfl (lv_room (Nat.le_of_ble_eq_true rfl)) dJ7_valueOf_28 ⟨Nat.le_of_ble_eq_true rfl, Nat.le_of_ble_eq_true rfl⟩) hP hD hS hA (fun w1 H locs hp hP hD hS => ?_)
    subst hp
    have hP : wP G [(o1, .inr (8, [.int (v)]))] H := hP
    have hD : va_D A [(o1, .inr (8, [.int (v)]))] := hD
    exact ret (some (o1)) _ 31 ls _ _ _ _ dJ7_valueOf_31 (Nat.le_of_ble_eq_true rfl) (Nat.le_of_ble_eq_true rfl) hP hD hS (⟨o1, rfl, Or.inl rfl⟩)
  · skip
    refine lv_iload_n hx hb dJ7_valueOf_6 rfl (lv_at hl 0 rfl) ?_
    refine va_gets hx hb (hG.sfA hA0).2.2.2.1 hS hown (hts _ q347) (fun _ h9 => h9) dJ7_valueOf_7 ?_
    refine lv_icmp_gt (tgt := 23) hx hb dJ7_valueOf_10 (by decide) (fun c_10 => ?_) (fun c_10 => ?_)
    · skip
      refine va_new (D := gD G) (ci := 8) (fs := [.int (0)]) (C := RJ7) (T := TJ7) (N := 1) hx hb hts in_J7 tyJ7 tyJ7_ok hown (hts _ q351) (hts _ q352) (hts _ q39) hG.K hP hD hS hA rfl (fun j hj => match j, hj with | 0, _ => rfl | j + 1, hj => absurd hj (by omega)) (Nat.le_of_ble_eq_true rfl) (Nat.le_of_ble_eq_true rfl) dJ7_valueOf_23 (fun o2 H hP hD hS => ?_)
      have hP : wP G [(o2, .inr (8, [.int (0)]))] H := hP
      have hD : va_D A [(o2, .inr (8, [.int (0)]))] := hD
      refine lv_dup hx hb dJ7_valueOf_26 rfl ?_
      refine lv_iload_n hx hb dJ7_valueOf_27 rfl (lv_at hl 0 rfl) ?_
      refine cl_v0 (va_runI (As := [.int (v)]) (rest := [.ref (o2)]) ⟨hx, hb, hml, hown, hts⟩ (metJ7_init l G o2 v _) (cwI 1 hts (lw_meth q355) rfl rfl rfl (hts _ q39) (hts _ q353) (hts _ q354) rfl (by decide +kernel) ⟨Nat.le_of_ble_eq_true rfl, Nat.le_of_ble_eq_true rfl⟩) (pre_WS0 (As := [.ref (o2), .int (v)]) hG hP hD hS hA0) rfl rfl hl.1 rfl (lv_room (Nat.le_of_ble_eq_true rfl)) dJ7_valueOf_28 ⟨Nat.le_of_ble_eq_true rfl, Nat.le_of_ble_eq_true rfl⟩) hP hD hS hA (fun w1 H locs hp hP hD hS => ?_)
      subst hp
      have hP : wP G [(o2, .inr (8, [.int (v)]))] H := hP
      have hD : va_D A [(o2, .inr (8, [.int (v)]))] := hD
      exact ret (some (o2)) _ 31 ls _ _ _ _ dJ7_valueOf_31 (Nat.le_of_ble_eq_true rfl) (Nat.le_of_ble_eq_true rfl) hP hD hS (⟨o2, rfl, Or.inl rfl⟩)
    · obtain ⟨k, hk1, hk2, hk3⟩ := bx_small c_3 c_10
      refine va_gets hx hb (hG.sfA hA0).2.2.2.2.1 hS hown (hts _ q349) (fun _ h9 => h9) dJ7_valueOf_13 ?_
      refine lv_iload_n hx hb dJ7_valueOf_16 rfl (lv_at hl 0 rfl) ?_
      refine lv_sipush (v := 128) hx hb dJ7_valueOf_17 (by decide) ?_
      refine lv_iadd hx hb dJ7_valueOf_20 ?_
      refine vb_tq hx hb (hG.sfA hA0).2.2.2.2.2.1 hS (by rw [hk2]; exact vp_in_nI hk1 (by decide)) (v := .ref (gad G k)) (by rw [hk2, nI_clamp (by omega)]) dJ7_valueOf_21 ?_
      exact ret (some (gad G k)) _ 22 ls _ _ _ _ dJ7_valueOf_22 (Nat.le_of_ble_eq_true rfl) (Nat.le_of_ble_eq_true rfl) hP hD hS (⟨gad G k, rfl, Or.inr ⟨rfl, k, hk1, rfl, hk3⟩⟩)
set_option maxHeartbeats 4000000 in
set_option maxRecDepth 100000 in
theorem metJ7_intValueO (l : Launch) (G : Gt) (x : Nat) (v : Int32) : CR l G yJ7_intValue cJ7_intValue 1 .int 0 0 [.ref (x)] [(x, .inr (8, [.int (v)]))] (fun r => r = v) := by
  refine mkRi (by decide) (Nat.le_of_ble_eq_true rfl) ?_
  intro p e s m args below meth c Q hx hb hts hown hml hG hP hS ret ls hl
  refine lv_aload_n hx hb dJ7_intValue_0 rfl (lv_at hl 0 rfl) ?_
  refine va_get (D := gD G) (ci := 8) (v := .int (v)) (C := RJ7) (T := TJ7) (N := 1) hx hb hts in_J7 hown hG.K hP 0 rfl rfl 0 (by decide) (hts _ q360) (fun _ h9 => h9) rfl dJ7_intValue_1 ?_
  exact ret (v) 4 ls dJ7_intValue_4 rfl (rfl)
set_option maxHeartbeats 4000000 in
set_option maxRecDepth 100000 in
theorem metJ7_intValueC (l : Launch) (G : Gt) (k : Nat) (hk : k < 256) : CR l G yJ7_intValue cJ7_intValue 1 .int 0 0 [.ref (gad G k)] [] (fun r => r = vb_c k) := by
  refine mkRi (by decide) (Nat.le_of_ble_eq_true rfl) ?_
  intro p e s m args below meth c Q hx hb hts hown hml hG hP hS ret ls hl
  refine lv_aload_n hx hb dJ7_intValue_0 rfl (lv_at hl 0 rfl) ?_
  refine va_getX hx hb hG.sfR.2.2.2.2.2.2.1.2 hk hS hown (hts _ q360) (fun _ h9 => h9) dJ7_intValue_1 ?_
  exact ret (vb_c k) 4 ls dJ7_intValue_4 rfl (rfl)
theorem metJ7_intValue (l : Launch) (G : Gt) (y : Nat) (v : Int32) (w : va_W) (hw : bxW G v y w) : CR l G yJ7_intValue cJ7_intValue 1 .int 0 0 [.ref y] w (fun r => r = v) := by
  rcases hw with rfl | ⟨rfl, k, hk, rfl, rfl⟩
  · exact metJ7_intValueO l G y v
  · exact metJ7_intValueC l G k hk
theorem bx_recv {G : Gt} {s : State} {H : Heap} {A0 : Nat → Prop} {locs : List Loc} {y : Nat} {v : Int32} {w : va_W} (hw : bxW G v y w) (hG : GG G s) (hP : wP G w H) (hS : va_S A0 s.heap H locs) (hA0 : ∀ q, A0 q → gz G ≤ q) : ∃ cell : Cell, H[y]? = some cell ∧ cell.vm.isStatics = false ∧ s.vm.findClass "java/lang/Integer" = some cell.cls := by
  rcases hw with rfl | ⟨rfl, k, hk, rfl, rfl⟩
  · exact va_recv hG.K hP (ci := 8) (q0 := 0) rfl rfl
  · exact va_Orecv ((hG.sfA hA0).2.2.2.2.2.2.1.1 k hk) hS
theorem any_O {G : Gt} {U : State} {H : Heap} {y : Nat} {C : String} (hG : GG G U) (hO : va_O C y (fun q => gz G ≤ q) U U.heap) (hl : ∀ q, q < gz G → H[q]? = U.heap[q]?) (hc : Cond.castable C "java/lang/Object" ∈ lw_tbl) : va_Any "java/lang/Object" U H y := by
  obtain ⟨cell, h1, h2, h3, h4⟩ := hO
  have hlt : y < gz G := Nat.not_le.mp h4
  obtain ⟨kC, hk, -⟩ := Vm.findClass_spec h3
  exact ⟨cell, (hl y hlt).trans h1, h2, ⟨kC, hk⟩, fun comp hcomp => asg_of (hG.cast hc) comp cell.cls hcomp h3⟩
theorem AnyOb.mono {G : Gt} {ob ob' : va_W} {y : Nat} (h : AnyOb G ob y) (hs : ∀ q ∈ ob, q ∈ ob') : AnyOb G ob' y := fun U H hG hl hP => h U H hG hl (hP.mem hs)
theorem AnyOb_o {G : Gt} {ob : va_W} {y ci : Nat} {fs : List Value} {r : vw_C} (hm : (y, .inr (ci, fs)) ∈ ob) (hc : vwCl[ci]? = some r) (h : Cond.castable r.1 "java/lang/Object" ∈ lw_tbl) : AnyOb G ob y := fun U H hG hl hP => any_of hG hP hm hc h
theorem AnyOb_bx {G : Gt} {v : Int32} {y : Nat} {w : va_W} (hw : bxW G v y w) : AnyOb G w y := by
  rcases hw with rfl | ⟨rfl, k, hk, rfl, rfl⟩
  · exact AnyOb_o (ci := 8) List.mem_cons_self rfl q1350
  · exact fun U H hG hl hP => any_O hG (hG.sf.2.2.2.2.2.2.1.1 k hk) hl q1350
noncomputable def gbo (G : Gt) (b : Bool) : Nat := gad G (if b then 258 else 259)
set_option maxHeartbeats 4000000 in
set_option maxRecDepth 100000 in
theorem metJ12_valueOf (l : Launch) (G : Gt) (bo : Bool) : CRq l G yJ12_valueOf cJ12_valueOf 1 (.object "java/lang/Boolean") 0 0 [.int (b2i bo)] [] (fun r => r = some (gbo G bo)) := by
  refine mkRq (by decide) (Nat.le_of_ble_eq_true rfl) (by first | exact Or.inl ⟨_, rfl⟩ | exact Or.inr ⟨_, rfl⟩) ?_
  intro p e s m args below meth c Q hx hb hts hown hml hG hP hS ret ls hl
  refine lv_iload_n hx hb dJ12_valueOf_0 rfl (lv_at hl 0 rfl) ?_
  refine lv_if_eq (tgt := 10) hx hb dJ12_valueOf_1 (by decide) (fun c_1 => ?_) (fun c_1 => ?_)
  · have h1 : bo = false := b2i_0.mp c_1
    refine va_gets hx hb hG.sfR.2.2.2.2.2.2.2.2.2.2.1 hS hown (hts _ q590) (fun _ h9 => h9) dJ12_valueOf_10 ?_
    exact ret (some (gad G 259)) 13 ls dJ12_valueOf_13 (by rw [h1]; rfl)
  · have h1 : bo = true := b2i_n0.mp c_1
    refine va_gets hx hb hG.sfR.2.2.2.2.2.2.2.1 hS hown (hts _ q588) (fun _ h9 => h9) dJ12_valueOf_4 ?_
    refine lv_goto (tgt := 13) hx hb dJ12_valueOf_7 (by decide) ?_
    exact ret (some (gad G 258)) 13 ls dJ12_valueOf_13 (by rw [h1]; rfl)
set_option maxHeartbeats 4000000 in
set_option maxRecDepth 100000 in
theorem metJ12_booleanValuetrue (l : Launch) (G : Gt)  : CR l G yJ12_booleanValue cJ12_booleanValue 1 .boolean 0 0 [.ref (gad G 258)] [] (fun r => r = b2i true) := by
  refine mkRi (by decide) (Nat.le_of_ble_eq_true rfl) ?_
  intro p e s m args below meth c Q hx hb hts hown hml hG hP hS ret ls hl
  refine lv_aload_n hx hb dJ12_booleanValue_0 rfl (lv_at hl 0 rfl) ?_
  refine va_getX (N := 1) (v := fun _ => .int 1) (ad := fun _ => gad G 258) (i := 0) hx hb (fun i hi => hG.sfR.2.2.2.2.2.2.2.2.2.1) (by decide) hS hown (hts _ q1382) (fun _ h9 => h9) dJ12_booleanValue_1 ?_
  exact ret (b2i true) 4 ls dJ12_booleanValue_4 (b2i_nar _) (rfl)
set_option maxHeartbeats 4000000 in
set_option maxRecDepth 100000 in
theorem metJ12_booleanValuefalse (l : Launch) (G : Gt)  : CR l G yJ12_booleanValue cJ12_booleanValue 1 .boolean 0 0 [.ref (gad G 259)] [] (fun r => r = b2i false) := by
  refine mkRi (by decide) (Nat.le_of_ble_eq_true rfl) ?_
  intro p e s m args below meth c Q hx hb hts hown hml hG hP hS ret ls hl
  refine lv_aload_n hx hb dJ12_booleanValue_0 rfl (lv_at hl 0 rfl) ?_
  refine va_getX (N := 1) (v := fun _ => .int 0) (ad := fun _ => gad G 259) (i := 0) hx hb (fun i hi => hG.sfR.2.2.2.2.2.2.2.2.2.2.2.2.1) (by decide) hS hown (hts _ q1382) (fun _ h9 => h9) dJ12_booleanValue_1 ?_
  exact ret (b2i false) 4 ls dJ12_booleanValue_4 (b2i_nar _) (rfl)
theorem metJ12_booleanValue (l : Launch) (G : Gt) (bo : Bool) : CR l G yJ12_booleanValue cJ12_booleanValue 1 .boolean 0 0 [.ref (gbo G bo)] [] (fun r => r = b2i bo) := by
  cases bo
  · exact metJ12_booleanValuefalse l G
  · exact metJ12_booleanValuetrue l G
theorem bo_recv {G : Gt} {s : State} {H : Heap} {A0 : Nat → Prop} {locs : List Loc} (bo : Bool) (hG : GG G s) (hS : va_S A0 s.heap H locs) (hA0 : ∀ q, A0 q → gz G ≤ q) : ∃ cell : Cell, H[gbo G bo]? = some cell ∧ cell.vm.isStatics = false ∧ s.vm.findClass "java/lang/Boolean" = some cell.cls := by
  cases bo
  · exact va_Orecv (hG.sfA hA0).2.2.2.2.2.2.2.2.2.2.2.1 hS
  · exact va_Orecv (hG.sfA hA0).2.2.2.2.2.2.2.2.1 hS
