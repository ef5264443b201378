set_option maxHeartbeats 4000000 in
set_option maxRecDepth 100000 in
theorem metJ13_getKey (l : Launch) (G : Gt) (q : Nat) (ek : Int32) (ei ev : Nat) (bf af : Option Nat) : CRq l G yJ13_getKey cJ13_getKey 1 (.object "java/lang/Object") 0 0 [.ref (q)] [(q, .inr (7, [.int (ek), .ref (ei), .ref (ev), .null, va_rf (bf), va_rf (af)]))] (fun r => r = some ei) := by
  refine mkRq (by decide) (Nat.le_of_ble_eq_true rfl) (by first | exact Or.inl ⟨_, rfl⟩ | exact Or.inr ⟨_, rfl⟩) ?_
  intro p e s m args below meth c Q hx hb hts hown hml hG hP hS ret ls hl
  refine lv_aload_n hx hb dJ13_getKey_0 rfl (lv_at hl 0 rfl) ?_
  refine va_get (D := gD G) (ci := 7) (v := .ref (ei)) (C := RJ14) (T := TJ14) (N := 6) hx hb hts in_J14 hown hG.K hP 0 rfl rfl 1 (by decide) (hts _ q530) (fun _ h9 => h9) rfl dJ13_getKey_1 ?_
  exact ret (some (ei)) 4 ls dJ13_getKey_4 (rfl)
set_option maxHeartbeats 4000000 in
set_option maxRecDepth 100000 in
theorem metJ13_getValue (l : Launch) (G : Gt) (q : Nat) (ek : Int32) (ei ev : Nat) (bf af : Option Nat) : CRq l G yJ13_getValue cJ13_getValue 1 (.object "java/lang/Object") 0 0 [.ref (q)] [(q, .inr (7, [.int (ek), .ref (ei), .ref (ev), .null, va_rf (bf), va_rf (af)]))] (fun r => r = some ev) := by
  refine mkRq (by decide) (Nat.le_of_ble_eq_true rfl) (by first | exact Or.inl ⟨_, rfl⟩ | exact Or.inr ⟨_, rfl⟩) ?_
  intro p e s m args below meth c Q hx hb hts hown hml hG hP hS ret ls hl
  refine lv_aload_n hx hb dJ13_getValue_0 rfl (lv_at hl 0 rfl) ?_
  refine va_get (D := gD G) (ci := 7) (v := .ref (ev)) (C := RJ14) (T := TJ14) (N := 6) hx hb hts in_J14 hown hG.K hP 0 rfl rfl 2 (by decide) (hts _ q536) (fun _ h9 => h9) rfl dJ13_getValue_1 ?_
  exact ret (some (ev)) 4 ls dJ13_getValue_4 (rfl)
set_option maxHeartbeats 4000000 in
set_option maxRecDepth 100000 in
theorem metJ17_hasNext0 (l : Launch) (G : Gt) (it h : Nat) (cu : Option Nat) (mo : Int32) : CR l G yJ17_hasNext cJ17_hasNext 1 .boolean 0 0 [.ref (it)] [(it, .inr (9, [.null, va_rf (cu), .int (mo), .int (0), .ref (h)]))] (fun r => r = 0) := by
  refine mkRi (by decide) (Nat.le_of_ble_eq_true rfl) ?_
  intro p e s m args below meth c Q hx hb hts hown hml hG hP hS ret ls hl
  refine lv_aload_n hx hb dJ17_hasNext_0 rfl (lv_at hl 0 rfl) ?_
  refine va_get (D := gD G) (ci := 9) (v := .null) (C := RJ18) (T := TJ18) (N := 5) hx hb hts in_J18 hown hG.K hP 0 rfl rfl 0 (by decide) (hts _ q820) (fun _ h9 => h9) rfl dJ17_hasNext_1 ?_
  refine lv_ifnullN (tgt := 11) hx hb dJ17_hasNext_4 (by decide) ?_
  refine lv_iconst (v := 0) hx hb dJ17_hasNext_11 (by decide) ?_
  exact ret (0) 12 ls dJ17_hasNext_12 rfl (rfl)
set_option maxHeartbeats 4000000 in
set_option maxRecDepth 100000 in
theorem metJ17_hasNext1 (l : Launch) (G : Gt) (it h q : Nat) (cu : Option Nat) (mo : Int32) : CR l G yJ17_hasNext cJ17_hasNext 1 .boolean 0 0 [.ref (it)] [(it, .inr (9, [.ref (q), va_rf (cu), .int (mo), .int (0), .ref (h)]))] (fun r => r = 1) := by
  refine mkRi (by decide) (Nat.le_of_ble_eq_true rfl) ?_
  intro p e s m args below meth c Q hx hb hts hown hml hG hP hS ret ls hl
  refine lv_aload_n hx hb dJ17_hasNext_0 rfl (lv_at hl 0 rfl) ?_
  refine va_get (D := gD G) (ci := 9) (v := .ref (q)) (C := RJ18) (T := TJ18) (N := 5) hx hb hts in_J18 hown hG.K hP 0 rfl rfl 0 (by decide) (hts _ q820) (fun _ h9 => h9) rfl dJ17_hasNext_1 ?_
  refine lv_ifnull hx hb dJ17_hasNext_4 ?_
  refine lv_iconst (v := 1) hx hb dJ17_hasNext_7 (by decide) ?_
  refine lv_goto (tgt := 12) hx hb dJ17_hasNext_8 (by decide) ?_
  exact ret (1) 12 ls dJ17_hasNext_12 rfl (rfl)
set_option maxHeartbeats 4000000 in
set_option maxRecDepth 100000 in
theorem metJ17_nextNode (l : Launch) (G : Gt) (it h n q : Nat) (tab en hd tl cu : Option Nat) (mo th ek : Int32) (ei ev : Nat) (bf af : Option Nat) (sz : Nat) : CWq l G yJ17_nextNode cJ17_nextNode 2 (.object "java/util/LinkedHashMap$Entry") 0 0 0 0 [.ref (it)] [(it, .inr (9, [.ref (q), va_rf (cu), .int (mo), .int (0), .ref (h)])), (h, .inr (6, [va_rf (tab), va_rf (en), .int (nI n), .int (mo), .int (th), .float (1061158912), .null, .null, va_rf (hd), va_rf (tl), .int (0), .int (0)])), (q, .inr (7, [.int (ek), .ref (ei), .ref (ev), .null, va_rf (bf), va_rf (af)]))] sz (fun r w1 => r = some q ∧ w1 = [(it, .inr (9, [va_rf (af), .ref (q), .int (mo), .int (0), .ref (h)])), (h, .inr (6, [va_rf (tab), va_rf (en), .int (nI n), .int (mo), .int (th), .float (1061158912), .null, .null, va_rf (hd), va_rf (tl), .int (0), .int (0)])), (q, .inr (7, [.int (ek), .ref (ei), .ref (ev), .null, va_rf (bf), va_rf (af)]))]) := by
  refine mkWq (by decide) (Nat.le_of_ble_eq_true rfl) (by first | exact Or.inl ⟨_, rfl⟩ | exact Or.inr ⟨_, rfl⟩) ?_
  intro p e s m args below meth c Q A hx hb hts hown hin hml hG hsz hP hD hA hA0 hS ret ls hl
  refine lv_aload_n hx hb dJ17_nextNode_0 rfl (lv_at hl 0 rfl) ?_
  refine va_get (D := gD G) (ci := 9) (v := .ref (q)) (C := RJ18) (T := TJ18) (N := 5) hx hb hts in_J18 hown hG.K hP 0 rfl rfl 0 (by decide) (hts _ q820) (fun _ h9 => h9) rfl dJ17_nextNode_1 ?_
  refine lv_astore_n (lv' := [(1, .ref (q)), (0, .ref (it))]) hx hb dJ17_nextNode_4 rfl hl (by decide) rfl (fun ls hl => ?_)
  refine lv_aload_n hx hb dJ17_nextNode_5 rfl (lv_at hl 1 rfl) ?_
  refine va_get (D := gD G) (ci := 9) (v := .ref (h)) (C := RJ18) (T := TJ18) (N := 5) hx hb hts in_J18 hown hG.K hP 0 rfl rfl 4 (by decide) (hts _ q824) (fun _ h9 => h9) rfl dJ17_nextNode_6 ?_
  refine va_get (D := gD G) (ci := 6) (v := .int (mo)) (C := RJ5) (T := TJ5) (N := 12) hx hb hts in_J5 hown hG.K hP 1 rfl rfl 3 (by decide) (hts _ q133) (fun x9 h9 => u_same (hts _ q134) x9 h9) rfl dJ17_nextNode_9 ?_
  refine lv_aload_n hx hb dJ17_nextNode_12 rfl (lv_at hl 1 rfl) ?_
  refine va_get (D := gD G) (ci := 9) (v := .int (mo)) (C := RJ18) (T := TJ18) (N := 5) hx hb hts in_J18 hown hG.K hP 0 rfl rfl 2 (by decide) (hts _ q822) (fun _ h9 => h9) rfl dJ17_nextNode_13 ?_
  refine lv_icmp_eq (tgt := 27) hx hb dJ17_nextNode_16 (by decide) (fun c_16 => ?_) (fun c_16 => absurd (rfl) c_16)
  refine lv_aload_n hx hb dJ17_nextNode_27 rfl (lv_at hl 0 rfl) ?_
  refine lv_ifnonnull (tgt := 39) hx hb dJ17_nextNode_28 (by decide) ?_
  refine lv_aload_n hx hb dJ17_nextNode_39 rfl (lv_at hl 1 rfl) ?_
  refine lv_aload_n hx hb dJ17_nextNode_40 rfl (lv_at hl 0 rfl) ?_
  refine va_put (D := gD G) (ci := 9) (v := .ref (q)) (ty := .object "java/util/LinkedHashMap$Entry") (C := RJ18) (T := TJ18) (N := 5) hx hb hts in_J18 tyJ18 tyJ18_ok nmJ18 hown hG.K hP hD hS 0 rfl rfl 1 (by decide) (hts _ q821) (fun _ h9 => h9) rfl (by decide +kernel) rfl rfl (Nat.le_of_ble_eq_true rfl) dJ17_nextNode_41 (fun H locs hP hD hS => ?_)
  have hP : wP G [(it, .inr (9, [.ref (q), .ref (q), .int (mo), .int (0), .ref (h)])), (h, .inr (6, [va_rf (tab), va_rf (en), .int (nI n), .int (mo), .int (th), .float (1061158912), .null, .null, va_rf (hd), va_rf (tl), .int (0), .int (0)])), (q, .inr (7, [.int (ek), .ref (ei), .ref (ev), .null, va_rf (bf), va_rf (af)]))] H := hP
  have hD : va_D A [(it, .inr (9, [.ref (q), .ref (q), .int (mo), .int (0), .ref (h)])), (h, .inr (6, [va_rf (tab), va_rf (en), .int (nI n), .int (mo), .int (th), .float (1061158912), .null, .null, va_rf (hd), va_rf (tl), .int (0), .int (0)])), (q, .inr (7, [.int (ek), .ref (ei), .ref (ev), .null, va_rf (bf), va_rf (af)]))] := hD
  refine lv_aload_n hx hb dJ17_nextNode_44 rfl (lv_at hl 1 rfl) ?_
  refine lv_aload_n hx hb dJ17_nextNode_45 rfl (lv_at hl 1 rfl) ?_
  refine va_get (D := gD G) (ci := 9) (v := .int (0)) (C := RJ18) (T := TJ18) (N := 5) hx hb hts in_J18 hown hG.K hP 0 rfl rfl 3 (by decide) (hts _ q823) (fun _ h9 => h9) rfl dJ17_nextNode_46 ?_
  refine lv_if_eq (tgt := 59) hx hb dJ17_nextNode_49 (by decide) (fun c_49 => ?_) (fun c_49 => absurd (rfl) c_49)
  refine lv_aload_n hx hb dJ17_nextNode_59 rfl (lv_at hl 0 rfl) ?_
  refine va_get (D := gD G) (ci := 7) (v := va_rf (af)) (C := RJ14) (T := TJ14) (N := 6) hx hb hts in_J14 hown hG.K hP 2 rfl rfl 5 (by decide) (hts _ q523) (fun _ h9 => h9) rfl dJ17_nextNode_60 ?_
  refine va_put (D := gD G) (ci := 9) (v := va_rf (af)) (ty := .object "java/util/LinkedHashMap$Entry") (C := RJ18) (T := TJ18) (N := 5) hx hb hts in_J18 tyJ18 tyJ18_ok nmJ18 hown hG.K hP hD hS 0 rfl rfl 0 (by decide) (hts _ q820) (fun _ h9 => h9) rfl (by decide +kernel) (rf_nar _ _) (rf_fit _ _) (Nat.le_of_ble_eq_true rfl) dJ17_nextNode_63 (fun H locs hP hD hS => ?_)
  have hP : wP G [(it, .inr (9, [va_rf (af), .ref (q), .int (mo), .int (0), .ref (h)])), (h, .inr (6, [va_rf (tab), va_rf (en), .int (nI n), .int (mo), .int (th), .float (1061158912), .null, .null, va_rf (hd), va_rf (tl), .int (0), .int (0)])), (q, .inr (7, [.int (ek), .ref (ei), .ref (ev), .null, va_rf (bf), va_rf (af)]))] H := hP
  have hD : va_D A [(it, .inr (9, [va_rf (af), .ref (q), .int (mo), .int (0), .ref (h)])), (h, .inr (6, [va_rf (tab), va_rf (en), .int (nI n), .int (mo), .int (th), .float (1061158912), .null, .null, va_rf (hd), va_rf (tl), .int (0), .int (0)])), (q, .inr (7, [.int (ek), .ref (ei), .ref (ev), .null, va_rf (bf), va_rf (af)]))] := hD
  refine lv_aload_n hx hb dJ17_nextNode_66 rfl (lv_at hl 0 rfl) ?_
  exact ret (some (q)) _ 67 ls _ _ _ _ dJ17_nextNode_67 (Nat.le_of_ble_eq_true rfl) (Nat.le_of_ble_eq_true rfl) hP hD hS (⟨rfl, rfl⟩)
set_option maxHeartbeats 4000000 in
set_option maxRecDepth 100000 in
theorem metJ18_next_2 (l : Launch) (G : Gt) (it h n q : Nat) (tab en hd tl cu : Option Nat) (mo th ek : Int32) (ei ev : Nat) (bf af : Option Nat) (sz : Nat) : CWq l G yJ18_next_2 cJ18_next_2 1 (.object "java/util/Map$Entry") 1 0 0 21 [.ref (it)] [(it, .inr (9, [.ref (q), va_rf (cu), .int (mo), .int (0), .ref (h)])), (h, .inr (6, [va_rf (tab), va_rf (en), .int (nI n), .int (mo), .int (th), .float (1061158912), .null, .null, va_rf (hd), va_rf (tl), .int (0), .int (0)])), (q, .inr (7, [.int (ek), .ref (ei), .ref (ev), .null, va_rf (bf), va_rf (af)]))] sz (fun r w1 => r = some q ∧ w1 = [(it, .inr (9, [va_rf (af), .ref (q), .int (mo), .int (0), .ref (h)])), (h, .inr (6, [va_rf (tab), va_rf (en), .int (nI n), .int (mo), .int (th), .float (1061158912), .null, .null, va_rf (hd), va_rf (tl), .int (0), .int (0)])), (q, .inr (7, [.int (ek), .ref (ei), .ref (ev), .null, va_rf (bf), va_rf (af)]))]) := by
  refine mkWq (by decide) (Nat.le_of_ble_eq_true rfl) (by first | exact Or.inl ⟨_, rfl⟩ | exact Or.inr ⟨_, rfl⟩) ?_
  intro p e s m args below meth c Q A hx hb hts hown hin hml hG hsz hP hD hA hA0 hS ret ls hl
  refine lv_aload_n hx hb dJ18_next_2_0 rfl (lv_at hl 0 rfl) ?_
  refine cl_q0 (va_runU (As := []) (rest := []) ⟨hx, hb, hml, hown, hts⟩ (metJ17_nextNode l G it h n q tab en hd tl cu mo th ek ei ev bf af _) (va_cwU 0 hts (lw_U (owner := "java/util/LinkedHashMap$LinkedHashIterator") (x := ({ cls := "java/util/LinkedHashMap$LinkedEntryIterator", name := "nextNode", desc := "()Ljava/util/LinkedHashMap$Entry;" } : Jvm.MethodName)) (y := ({ cls := "java/util/LinkedHashMap$LinkedHashIterator", name := "nextNode", desc := "()Ljava/util/LinkedHashMap$Entry;" } : Jvm.MethodName)) q875 q876 q878 q879 q52 q880) rfl rfl rfl rfl (by decide +kernel) ⟨Nat.le_of_ble_eq_true rfl, Nat.le_of_ble_eq_true rfl⟩) (pre_WV0 (q0 := 0) hG hP hD hS hA0 rfl rfl) rfl rfl hl.1 rfl (lv_room (Nat.le_of_ble_eq_true rfl)) dJ18_next_2_1 ⟨Nat.le_of_ble_eq_true rfl, Nat.le_of_ble_eq_true rfl⟩) hP hD hS hA (fun r_1 w1 H locs hp hP hD hS => ?_)
  obtain ⟨rfl, rfl⟩ := hp
  have hP : wP G [(it, .inr (9, [va_rf (af), .ref (q), .int (mo), .int (0), .ref (h)])), (h, .inr (6, [va_rf (tab), va_rf (en), .int (nI n), .int (mo), .int (th), .float (1061158912), .null, .null, va_rf (hd), va_rf (tl), .int (0), .int (0)])), (q, .inr (7, [.int (ek), .ref (ei), .ref (ev), .null, va_rf (bf), va_rf (af)]))] H := hP
  have hD : va_D A [(it, .inr (9, [va_rf (af), .ref (q), .int (mo), .int (0), .ref (h)])), (h, .inr (6, [va_rf (tab), va_rf (en), .int (nI n), .int (mo), .int (th), .float (1061158912), .null, .null, va_rf (hd), va_rf (tl), .int (0), .int (0)])), (q, .inr (7, [.int (ek), .ref (ei), .ref (ev), .null, va_rf (bf), va_rf (af)]))] := hD
  exact ret (some (q)) _ 4 ls _ _ _ _ dJ18_next_2_4 (Nat.le_of_ble_eq_true rfl) (Nat.le_of_ble_eq_true rfl) hP hD hS (⟨rfl, rfl⟩)
set_option maxHeartbeats 4000000 in
set_option maxRecDepth 100000 in
theorem metJ18_next (l : Launch) (G : Gt) (it h n q : Nat) (tab en hd tl cu : Option Nat) (mo th ek : Int32) (ei ev : Nat) (bf af : Option Nat) (sz : Nat) : CWq l G yJ18_next cJ18_next 1 (.object "java/lang/Object") 2 0 0 41 [.ref (it)] [(it, .inr (9, [.ref (q), va_rf (cu), .int (mo), .int (0), .ref (h)])), (h, .inr (6, [va_rf (tab), va_rf (en), .int (nI n), .int (mo), .int (th), .float (1061158912), .null, .null, va_rf (hd), va_rf (tl), .int (0), .int (0)])), (q, .inr (7, [.int (ek), .ref (ei), .ref (ev), .null, va_rf (bf), va_rf (af)]))] sz (fun r w1 => r = some q ∧ w1 = [(it, .inr (9, [va_rf (af), .ref (q), .int (mo), .int (0), .ref (h)])), (h, .inr (6, [va_rf (tab), va_rf (en), .int (nI n), .int (mo), .int (th), .float (1061158912), .null, .null, va_rf (hd), va_rf (tl), .int (0), .int (0)])), (q, .inr (7, [.int (ek), .ref (ei), .ref (ev), .null, va_rf (bf), va_rf (af)]))]) := by
  refine mkWq (by decide) (Nat.le_of_ble_eq_true rfl) (by first | exact Or.inl ⟨_, rfl⟩ | exact Or.inr ⟨_, rfl⟩) ?_
  intro p e s m args below meth c Q A hx hb hts hown hin hml hG hsz hP hD hA hA0 hS ret ls hl
  refine lv_aload_n hx hb dJ18_next_0 rfl (lv_at hl 0 rfl) ?_
  refine cl_q0 (va_runV (As := []) (rest := []) ⟨hx, hb, hml, hown, hts⟩ (metJ18_next_2 l G it h n q tab en hd tl cu mo th ek ei ev bf af _) (cwV 0 hts (lw_V q871 q872 q873 q53 q874) rfl rfl rfl (by decide +kernel) ⟨Nat.le_of_ble_eq_true rfl, Nat.le_of_ble_eq_true rfl⟩) (pre_WV0 (q0 := 0) hG hP hD hS hA0 rfl rfl) rfl rfl hl.1 rfl (lv_room (Nat.le_of_ble_eq_true rfl)) dJ18_next_1 ⟨Nat.le_of_ble_eq_true rfl, Nat.le_of_ble_eq_true rfl⟩) hP hD hS hA (fun r_1 w1 H locs hp hP hD hS => ?_)
  obtain ⟨rfl, rfl⟩ := hp
  have hP : wP G [(it, .inr (9, [va_rf (af), .ref (q), .int (mo), .int (0), .ref (h)])), (h, .inr (6, [va_rf (tab), va_rf (en), .int (nI n), .int (mo), .int (th), .float (1061158912), .null, .null, va_rf (hd), va_rf (tl), .int (0), .int (0)])), (q, .inr (7, [.int (ek), .ref (ei), .ref (ev), .null, va_rf (bf), va_rf (af)]))] H := hP
  have hD : va_D A [(it, .inr (9, [va_rf (af), .ref (q), .int (mo), .int (0), .ref (h)])), (h, .inr (6, [va_rf (tab), va_rf (en), .int (nI n), .int (mo), .int (th), .float (1061158912), .null, .null, va_rf (hd), va_rf (tl), .int (0), .int (0)])), (q, .inr (7, [.int (ek), .ref (ei), .ref (ev), .null, va_rf (bf), va_rf (af)]))] := hD
  exact ret (some (q)) _ 4 ls _ _ _ _ dJ18_next_4 (Nat.le_of_ble_eq_true rfl) (Nat.le_of_ble_eq_true rfl) hP hD hS (⟨rfl, rfl⟩)
set_option maxHeartbeats 4000000 in
set_option maxRecDepth 100000 in
theorem metJ17_init (l : Launch) (G : Gt) (it h n : Nat) (tab en hd tl : Option Nat) (mo th : Int32) (sz : Nat) : CWv l G yJ17_init cJ17_init 3 1 0 0 12 [.ref (it), .ref (h), .int (0)] [(it, .inr (9, [.null, .null, .int (0), .int (0), .null])), (h, .inr (6, [va_rf (tab), va_rf (en), .int (nI n), .int (mo), .int (th), .float (1061158912), .null, .null, va_rf (hd), va_rf (tl), .int (0), .int (0)]))] sz (fun w1 => w1 = [(it, .inr (9, [va_rf (hd), .null, .int (mo), .int (0), .ref (h)])), (h, .inr (6, [va_rf (tab), va_rf (en), .int (nI n), .int (mo), .int (th), .float (1061158912), .null, .null, va_rf (hd), va_rf (tl), .int (0), .int (0)]))]) := by
  refine mkWv (by decide) (Nat.le_of_ble_eq_true rfl) ?_
  intro p e s m args below meth c Q A hx hb hts hown hin hml hG hsz hP hD hA hA0 hS ret ls hl
  refine lv_aload_n hx hb dJ17_init_0 rfl (lv_at hl 0 rfl) ?_
  refine lv_aload_n hx hb dJ17_init_1 rfl (lv_at hl 1 rfl) ?_
  refine va_putF (D := gD G) (ci := 9) (v := .ref (h)) (ty := .object "java/util/LinkedHashMap") (C := RJ18) (T := TJ18) (N := 5) hx hb hts in_J18 tyJ18 tyJ18_ok nmJ18 hown hG.K hP hD hS 0 rfl rfl 4 (by decide) (hts _ q824) (fun _ h9 => h9) rfl hin rfl (by decide +kernel) rfl rfl (Nat.le_of_ble_eq_true rfl) dJ17_init_2 (fun H locs hP hD hS => ?_)
  have hP : wP G [(it, .inr (9, [.null, .null, .int (0), .int (0), .ref (h)])), (h, .inr (6, [va_rf (tab), va_rf (en), .int (nI n), .int (mo), .int (th), .float (1061158912), .null, .null, va_rf (hd), va_rf (tl), .int (0), .int (0)]))] H := hP
  have hD : va_D A [(it, .inr (9, [.null, .null, .int (0), .int (0), .ref (h)])), (h, .inr (6, [va_rf (tab), va_rf (en), .int (nI n), .int (mo), .int (th), .float (1061158912), .null, .null, va_rf (hd), va_rf (tl), .int (0), .int (0)]))] := hD
  refine lv_aload_n hx hb dJ17_init_5 rfl (lv_at hl 0 rfl) ?_
  refine W.objInit hx hb hown (hts _ q819) (hts _ q71) (hts _ q72) rfl (by rw [hml]; exact hl.1) rfl dJ17_init_6 (Nat.le_of_ble_eq_true rfl) (Nat.le_of_ble_eq_true rfl) ?_
  refine W.eq (g2 := F0 m 9 ls []) rfl ?_
  refine lv_aload_n hx hb dJ17_init_9 rfl (lv_at hl 0 rfl) ?_
  refine lv_iload_n hx hb dJ17_init_10 rfl (lv_at hl 2 rfl) ?_
  refine va_put (D := gD G) (ci := 9) (v := .int (0)) (ty := .boolean) (C := RJ18) (T := TJ18) (N := 5) hx hb hts in_J18 tyJ18 tyJ18_ok nmJ18 hown hG.K hP hD hS 0 rfl rfl 3 (by decide) (hts _ q823) (fun _ h9 => h9) rfl (by decide +kernel) rfl rfl (Nat.le_of_ble_eq_true rfl) dJ17_init_11 (fun H locs hP hD hS => ?_)
  have hP : wP G [(it, .inr (9, [.null, .null, .int (0), .int (0), .ref (h)])), (h, .inr (6, [va_rf (tab), va_rf (en), .int (nI n), .int (mo), .int (th), .float (1061158912), .null, .null, va_rf (hd), va_rf (tl), .int (0), .int (0)]))] H := hP
  have hD : va_D A [(it, .inr (9, [.null, .null, .int (0), .int (0), .ref (h)])), (h, .inr (6, [va_rf (tab), va_rf (en), .int (nI n), .int (mo), .int (th), .float (1061158912), .null, .null, va_rf (hd), va_rf (tl), .int (0), .int (0)]))] := hD
  refine lv_aload_n hx hb dJ17_init_14 rfl (lv_at hl 0 rfl) ?_
  refine lv_iload_n hx hb dJ17_init_15 rfl (lv_at hl 2 rfl) ?_
  refine lv_if_eq (tgt := 26) hx hb dJ17_init_16 (by decide) (fun c_16 => ?_) (fun c_16 => absurd (rfl) c_16)
  refine lv_aload_n hx hb dJ17_init_26 rfl (lv_at hl 1 rfl) ?_
  refine va_get (D := gD G) (ci := 6) (v := va_rf (hd)) (C := RJ5) (T := TJ5) (N := 12) hx hb hts in_J5 hown hG.K hP 1 rfl rfl 8 (by decide) (hts _ q122) (fun _ h9 => h9) rfl dJ17_init_27 ?_
  refine va_put (D := gD G) (ci := 9) (v := va_rf (hd)) (ty := .object "java/util/LinkedHashMap$Entry") (C := RJ18) (T := TJ18) (N := 5) hx hb hts in_J18 tyJ18 tyJ18_ok nmJ18 hown hG.K hP hD hS 0 rfl rfl 0 (by decide) (hts _ q820) (fun _ h9 => h9) rfl (by decide +kernel) (rf_nar _ _) (rf_fit _ _) (Nat.le_of_ble_eq_true rfl) dJ17_init_30 (fun H locs hP hD hS => ?_)
  have hP : wP G [(it, .inr (9, [va_rf (hd), .null, .int (0), .int (0), .ref (h)])), (h, .inr (6, [va_rf (tab), va_rf (en), .int (nI n), .int (mo), .int (th), .float (1061158912), .null, .null, va_rf (hd), va_rf (tl), .int (0), .int (0)]))] H := hP
  have hD : va_D A [(it, .inr (9, [va_rf (hd), .null, .int (0), .int (0), .ref (h)])), (h, .inr (6, [va_rf (tab), va_rf (en), .int (nI n), .int (mo), .int (th), .float (1061158912), .null, .null, va_rf (hd), va_rf (tl), .int (0), .int (0)]))] := hD
  refine lv_aload_n hx hb dJ17_init_33 rfl (lv_at hl 0 rfl) ?_
  refine lv_aload_n hx hb dJ17_init_34 rfl (lv_at hl 1 rfl) ?_
  refine va_get (D := gD G) (ci := 6) (v := .int (mo)) (C := RJ5) (T := TJ5) (N := 12) hx hb hts in_J5 hown hG.K hP 1 rfl rfl 3 (by decide) (hts _ q133) (fun x9 h9 => u_same (hts _ q134) x9 h9) rfl dJ17_init_35 ?_
  refine va_put (D := gD G) (ci := 9) (v := .int (mo)) (ty := .int) (C := RJ18) (T := TJ18) (N := 5) hx hb hts in_J18 tyJ18 tyJ18_ok nmJ18 hown hG.K hP hD hS 0 rfl rfl 2 (by decide) (hts _ q822) (fun _ h9 => h9) rfl (by decide +kernel) rfl rfl (Nat.le_of_ble_eq_true rfl) dJ17_init_38 (fun H locs hP hD hS => ?_)
  have hP : wP G [(it, .inr (9, [va_rf (hd), .null, .int (mo), .int (0), .ref (h)])), (h, .inr (6, [va_rf (tab), va_rf (en), .int (nI n), .int (mo), .int (th), .float (1061158912), .null, .null, va_rf (hd), va_rf (tl), .int (0), .int (0)]))] H := hP
  have hD : va_D A [(it, .inr (9, [va_rf (hd), .null, .int (mo), .int (0), .ref (h)])), (h, .inr (6, [va_rf (tab), va_rf (en), .int (nI n), .int (mo), .int (th), .float (1061158912), .null, .null, va_rf (hd), va_rf (tl), .int (0), .int (0)]))] := hD
  refine lv_aload_n hx hb dJ17_init_41 rfl (lv_at hl 0 rfl) ?_
  refine lv_null hx hb dJ17_init_42 ?_
  refine va_put (D := gD G) (ci := 9) (v := .null) (ty := .object "java/util/LinkedHashMap$Entry") (C := RJ18) (T := TJ18) (N := 5) hx hb hts in_J18 tyJ18 tyJ18_ok nmJ18 hown hG.K hP hD hS 0 rfl rfl 1 (by decide) (hts _ q821) (fun _ h9 => h9) rfl (by decide +kernel) rfl rfl (Nat.le_of_ble_eq_true rfl) dJ17_init_43 (fun H locs hP hD hS => ?_)
  have hP : wP G [(it, .inr (9, [va_rf (hd), .null, .int (mo), .int (0), .ref (h)])), (h, .inr (6, [va_rf (tab), va_rf (en), .int (nI n), .int (mo), .int (th), .float (1061158912), .null, .null, va_rf (hd), va_rf (tl), .int (0), .int (0)]))] H := hP
  have hD : va_D A [(it, .inr (9, [va_rf (hd), .null, .int (mo), .int (0), .ref (h)])), (h, .inr (6, [va_rf (tab), va_rf (en), .int (nI n), .int (mo), .int (th), .float (1061158912), .null, .null, va_rf (hd), va_rf (tl), .int (0), .int (0)]))] := hD
  exact ret _ 46 ls _ _ _ _ dJ17_init_46 (Nat.le_of_ble_eq_true rfl) (Nat.le_of_ble_eq_true rfl) hP hD hS (rfl)
set_option maxHeartbeats 4000000 in
set_option maxRecDepth 100000 in
theorem metJ18_init (l : Launch) (G : Gt) (it h n : Nat) (tab en hd tl : Option Nat) (mo th : Int32) (sz : Nat) : CWv l G yJ18_init cJ18_init 3 2 0 0 34 [.ref (it), .ref (h), .int (0)] [(it, .inr (9, [.null, .null, .int (0), .int (0), .null])), (h, .inr (6, [va_rf (tab), va_rf (en), .int (nI n), .int (mo), .int (th), .float (1061158912), .null, .null, va_rf (hd), va_rf (tl), .int (0), .int (0)]))] sz (fun w1 => w1 = [(it, .inr (9, [va_rf (hd), .null, .int (mo), .int (0), .ref (h)])), (h, .inr (6, [va_rf (tab), va_rf (en), .int (nI n), .int (mo), .int (th), .float (1061158912), .null, .null, va_rf (hd), va_rf (tl), .int (0), .int (0)]))]) := by
  refine mkWv (by decide) (Nat.le_of_ble_eq_true rfl) ?_
  intro p e s m args below meth c Q A hx hb hts hown hin hml hG hsz hP hD hA hA0 hS ret ls hl
  refine lv_aload_n hx hb dJ18_init_0 rfl (lv_at hl 0 rfl) ?_
  refine lv_aload_n hx hb dJ18_init_1 rfl (lv_at hl 1 rfl) ?_
  refine lv_iload_n hx hb dJ18_init_2 rfl (lv_at hl 2 rfl) ?_
  refine cl_v0 (va_runI (As := [.ref (h), .int (0)]) (rest := []) ⟨hx, hb, hml, hown, hts⟩ (metJ17_init l G it h n tab en hd tl mo th _) (cwI 2 hts (lw_meth q818) rfl rfl rfl (hts _ q52) (hts _ q816) (hts _ q817) rfl (by decide +kernel) ⟨Nat.le_of_ble_eq_true rfl, Nat.le_of_ble_eq_true rfl⟩) (pre_WS0 (As := [.ref (it), .ref (h), .int (0)]) hG hP hD hS hA0) rfl rfl hl.1 rfl (lv_room (Nat.le_of_ble_eq_true rfl)) dJ18_init_3 ⟨Nat.le_of_ble_eq_true rfl, Nat.le_of_ble_eq_true rfl⟩) hP hD hS hA (fun w1 H locs hp hP hD hS => ?_)
  subst hp
  have hP : wP G [(it, .inr (9, [va_rf (hd), .null, .int (mo), .int (0), .ref (h)])), (h, .inr (6, [va_rf (tab), va_rf (en), .int (nI n), .int (mo), .int (th), .float (1061158912), .null, .null, va_rf (hd), va_rf (tl), .int (0), .int (0)]))] H := hP
  have hD : va_D A [(it, .inr (9, [va_rf (hd), .null, .int (mo), .int (0), .ref (h)])), (h, .inr (6, [va_rf (tab), va_rf (en), .int (nI n), .int (mo), .int (th), .float (1061158912), .null, .null, va_rf (hd), va_rf (tl), .int (0), .int (0)]))] := hD
  exact ret _ 6 ls _ _ _ _ dJ18_init_6 (Nat.le_of_ble_eq_true rfl) (Nat.le_of_ble_eq_true rfl) hP hD hS (rfl)
set_option maxHeartbeats 4000000 in
set_option maxRecDepth 100000 in
theorem metJ20_iterator (l : Launch) (G : Gt) (z h n : Nat) (tab en hd tl : Option Nat) (mo th : Int32) (sz : Nat) : CWq l G yJ20_iterator cJ20_iterator 1 (.object "java/util/Iterator") 3 1 5 56 [.ref (z)] [(z, .inr (10, [.int (0), .ref (h)])), (h, .inr (6, [va_rf (tab), va_rf (en), .int (nI n), .int (mo), .int (th), .float (1061158912), .null, .null, va_rf (hd), va_rf (tl), .int (0), .int (0)]))] sz (fun r w1 => ∃ qi, r = some qi ∧ w1 = [(z, .inr (10, [.int (0), .ref (h)])), (h, .inr (6, [va_rf (tab), va_rf (en), .int (nI n), .int (mo), .int (th), .float (1061158912), .null, .null, va_rf (hd), va_rf (tl), .int (0), .int (0)])), (qi, .inr (9, [va_rf (hd), .null, .int (mo), .int (0), .ref (h)]))]) := by
  refine mkWq (by decide) (Nat.le_of_ble_eq_true rfl) (by first | exact Or.inl ⟨_, rfl⟩ | exact Or.inr ⟨_, rfl⟩) ?_
  intro p e s m args below meth c Q A hx hb hts hown hin hml hG hsz hP hD hA hA0 hS ret ls hl
  refine va_new (D := gD G) (ci := 9) (fs := [.null, .null, .int (0), .int (0), .null]) (C := RJ18) (T := TJ18) (N := 5) hx hb hts in_J18 tyJ18 tyJ18_ok hown (hts _ q811) (hts _ q812) (hts _ q53) hG.K hP hD hS hA rfl (fun j hj => match j, hj with | 0, _ => rfl | 1, _ => rfl | 2, _ => rfl | 3, _ => rfl | 4, _ => rfl | j + 5, hj => absurd hj (by omega)) (Nat.le_of_ble_eq_true rfl) (Nat.le_of_ble_eq_true rfl) dJ20_iterator_0 (fun o1 H hP hD hS => ?_)
  have hP : wP G [(z, .inr (10, [.int (0), .ref (h)])), (h, .inr (6, [va_rf (tab), va_rf (en), .int (nI n), .int (mo), .int (th), .float (1061158912), .null, .null, va_rf (hd), va_rf (tl), .int (0), .int (0)])), (o1, .inr (9, [.null, .null, .int (0), .int (0), .null]))] H := hP
  have hD : va_D A [(z, .inr (10, [.int (0), .ref (h)])), (h, .inr (6, [va_rf (tab), va_rf (en), .int (nI n), .int (mo), .int (th), .float (1061158912), .null, .null, va_rf (hd), va_rf (tl), .int (0), .int (0)])), (o1, .inr (9, [.null, .null, .int (0), .int (0), .null]))] := hD
  refine lv_dup hx hb dJ20_iterator_3 rfl ?_
  refine lv_aload_n hx hb dJ20_iterator_4 rfl (lv_at hl 0 rfl) ?_
  refine va_get (D := gD G) (ci := 10) (v := .ref (h)) (C := RJ20) (T := TJ20) (N := 2) hx hb hts in_J20 hown hG.K hP 0 rfl rfl 1 (by decide) (hts _ q922) (fun _ h9 => h9) rfl dJ20_iterator_5 ?_
  refine lv_aload_n hx hb dJ20_iterator_8 rfl (lv_at hl 0 rfl) ?_
  refine va_get (D := gD G) (ci := 10) (v := .int (0)) (C := RJ20) (T := TJ20) (N := 2) hx hb hts in_J20 hown hG.K hP 0 rfl rfl 0 (by decide) (hts _ q921) (fun _ h9 => h9) rfl dJ20_iterator_9 ?_
  have hP := wP.perm (w' := [(o1, .inr (9, [.null, .null, .int (0), .int (0), .null])), (h, .inr (6, [va_rf (tab), va_rf (en), .int (nI n), .int (mo), .int (th), .float (1061158912), .null, .null, va_rf (hd), va_rf (tl), .int (0), .int (0)]))] ++ [(z, .inr (10, [.int (0), .ref (h)]))]) hP (pm_ (fun _ z => by simp only [List.count_append, List.count_cons, List.count_nil]; omega))
  have hD := va_D.perm (w' := [(o1, .inr (9, [.null, .null, .int (0), .int (0), .null])), (h, .inr (6, [va_rf (tab), va_rf (en), .int (nI n), .int (mo), .int (th), .float (1061158912), .null, .null, va_rf (hd), va_rf (tl), .int (0), .int (0)]))] ++ [(z, .inr (10, [.int (0), .ref (h)]))]) hD (pm_ (fun _ z => by simp only [List.count_append, List.count_cons, List.count_nil]; omega))
  refine cl_v (wr := [(z, .inr (10, [.int (0), .ref (h)]))]) (va_runI (As := [.ref (h), .int (0)]) (rest := [.ref (o1)]) ⟨hx, hb, hml, hown, hts⟩ (metJ18_init l G o1 h n tab en hd tl mo th _) (cwI 2 hts (lw_meth q815) rfl rfl rfl (hts _ q53) (hts _ q813) (hts _ q814) rfl (by decide +kernel) ⟨Nat.le_of_ble_eq_true rfl, Nat.le_of_ble_eq_true rfl⟩) (pre_WS (As := [.ref (o1), .ref (h), .int (0)]) hG hP hD hS hA0) rfl rfl hl.1 rfl (lv_room (Nat.le_of_ble_eq_true rfl)) dJ20_iterator_12 ⟨Nat.le_of_ble_eq_true rfl, Nat.le_of_ble_eq_true rfl⟩) hP hD hS hA (fun w1 H locs hp hP hD hS => ?_)
  subst hp
  have hP : wP G ([(o1, .inr (9, [va_rf (hd), .null, .int (mo), .int (0), .ref (h)])), (h, .inr (6, [va_rf (tab), va_rf (en), .int (nI n), .int (mo), .int (th), .float (1061158912), .null, .null, va_rf (hd), va_rf (tl), .int (0), .int (0)]))] ++ [(z, .inr (10, [.int (0), .ref (h)]))]) H := hP
  have hD : va_D A ([(o1, .inr (9, [va_rf (hd), .null, .int (mo), .int (0), .ref (h)])), (h, .inr (6, [va_rf (tab), va_rf (en), .int (nI n), .int (mo), .int (th), .float (1061158912), .null, .null, va_rf (hd), va_rf (tl), .int (0), .int (0)]))] ++ [(z, .inr (10, [.int (0), .ref (h)]))]) := hD
  have hP := wP.perm (w' := [(z, .inr (10, [.int (0), .ref (h)])), (h, .inr (6, [va_rf (tab), va_rf (en), .int (nI n), .int (mo), .int (th), .float (1061158912), .null, .null, va_rf (hd), va_rf (tl), .int (0), .int (0)])), (o1, .inr (9, [va_rf (hd), .null, .int (mo), .int (0), .ref (h)]))]) hP (pm_ (fun _ z => by simp only [List.count_append, List.count_cons, List.count_nil]; omega))
  have hD := va_D.perm (w' := [(z, .inr (10, [.int (0), .ref (h)])), (h, .inr (6, [va_rf (tab), va_rf (en), .int (nI n), .int (mo), .int (th), .float (1061158912), .null, .null, va_rf (hd), va_rf (tl), .int (0), .int (0)])), (o1, .inr (9, [va_rf (hd), .null, .int (mo), .int (0), .ref (h)]))]) hD (pm_ (fun _ z => by simp only [List.count_append, List.count_cons, List.count_nil]; omega))
  exact ret (some (o1)) _ 15 ls _ _ _ _ dJ20_iterator_15 (Nat.le_of_ble_eq_true rfl) (Nat.le_of_ble_eq_true rfl) hP hD hS (⟨o1, rfl, rfl⟩)
set_option maxHeartbeats 4000000 in
set_option maxRecDepth 100000 in
theorem metJ0_initZ (l : Launch) (G : Gt) (z h : Nat) (sz : Nat) : CWv l G yJ0_init cJ0_init 1 1 0 0 12 [.ref (z)] [(z, .inr (10, [.int (0), .ref (h)]))] sz (fun w1 => w1 = [(z, .inr (10, [.int (0), .ref (h)]))]) := by
  refine mkWv (by decide) (Nat.le_of_ble_eq_true rfl) ?_
  intro p e s m args below meth c Q A hx hb hts hown hin hml hG hsz hP hD hA hA0 hS ret ls hl
  refine lv_aload_n hx hb dJ0_init_0 rfl (lv_at hl 0 rfl) ?_
  refine W.objInit hx hb hown (hts _ q89) (hts _ q71) (hts _ q72) rfl (by rw [hml]; exact hl.1) rfl dJ0_init_1 (Nat.le_of_ble_eq_true rfl) (Nat.le_of_ble_eq_true rfl) ?_
  refine W.eq (g2 := F0 m 4 ls []) rfl ?_
  exact ret _ 4 ls _ _ _ _ dJ0_init_4 (Nat.le_of_ble_eq_true rfl) (Nat.le_of_ble_eq_true rfl) hP hD hS (rfl)
set_option maxHeartbeats 4000000 in
set_option maxRecDepth 100000 in
theorem metJ19_init (l : Launch) (G : Gt) (z h : Nat) (sz : Nat) : CWv l G yJ19_init cJ19_init 1 2 0 0 32 [.ref (z)] [(z, .inr (10, [.int (0), .ref (h)]))] sz (fun w1 => w1 = [(z, .inr (10, [.int (0), .ref (h)]))]) := by
  refine mkWv (by decide) (Nat.le_of_ble_eq_true rfl) ?_
  intro p e s m args below meth c Q A hx hb hts hown hin hml hG hsz hP hD hA hA0 hS ret ls hl
  refine lv_aload_n hx hb dJ19_init_0 rfl (lv_at hl 0 rfl) ?_
  refine cl_v0 (va_runI (As := []) (rest := []) ⟨hx, hb, hml, hown, hts⟩ (metJ0_initZ l G z h _) (cwI 0 hts (lw_meth q88) rfl rfl rfl (hts _ q30) (hts _ q920) (hts _ q87) rfl (by decide +kernel) ⟨Nat.le_of_ble_eq_true rfl, Nat.le_of_ble_eq_true rfl⟩) (pre_WS0 (As := [.ref (z)]) hG hP hD hS hA0) rfl rfl hl.1 rfl (lv_room (Nat.le_of_ble_eq_true rfl)) dJ19_init_1 ⟨Nat.le_of_ble_eq_true rfl, Nat.le_of_ble_eq_true rfl⟩) hP hD hS hA (fun w1 H locs hp hP hD hS => ?_)
  subst hp
  have hP : wP G [(z, .inr (10, [.int (0), .ref (h)]))] H := hP
  have hD : va_D A [(z, .inr (10, [.int (0), .ref (h)]))] := hD
  exact ret _ 4 ls _ _ _ _ dJ19_init_4 (Nat.le_of_ble_eq_true rfl) (Nat.le_of_ble_eq_true rfl) hP hD hS (rfl)
set_option maxHeartbeats 4000000 in
set_option maxRecDepth 100000 in
theorem metJ20_init (l : Launch) (G : Gt) (z h : Nat) (sz : Nat) : CWv l G yJ20_init cJ20_init 3 3 0 0 52 [.ref (z), .ref (h), .int (0)] [(z, .inr (10, [.int (0), .null]))] sz (fun w1 => w1 = [(z, .inr (10, [.int (0), .ref (h)]))]) := by
  refine mkWv (by decide) (Nat.le_of_ble_eq_true rfl) ?_
  intro p e s m args below meth c Q A hx hb hts hown hin hml hG hsz hP hD hA hA0 hS ret ls hl
  refine lv_aload_n hx hb dJ20_init_0 rfl (lv_at hl 0 rfl) ?_
  refine lv_aload_n hx hb dJ20_init_1 rfl (lv_at hl 1 rfl) ?_
  refine va_putF (D := gD G) (ci := 10) (v := .ref (h)) (ty := .object "java/util/LinkedHashMap") (C := RJ20) (T := TJ20) (N := 2) hx hb hts in_J20 tyJ20 tyJ20_ok nmJ20 hown hG.K hP hD hS 0 rfl rfl 1 (by decide) (hts _ q922) (fun _ h9 => h9) rfl hin rfl (by decide +kernel) rfl rfl (Nat.le_of_ble_eq_true rfl) dJ20_init_2 (fun H locs hP hD hS => ?_)
  have hP : wP G [(z, .inr (10, [.int (0), .ref (h)]))] H := hP
  have hD : va_D A [(z, .inr (10, [.int (0), .ref (h)]))] := hD
  refine lv_aload_n hx hb dJ20_init_5 rfl (lv_at hl 0 rfl) ?_
  refine cl_v0 (va_runI (As := []) (rest := []) ⟨hx, hb, hml, hown, hts⟩ (metJ19_init l G z h _) (cwI 0 hts (lw_meth q919) rfl rfl rfl (hts _ q55) (hts _ q917) (hts _ q918) rfl (by decide +kernel) ⟨Nat.le_of_ble_eq_true rfl, Nat.le_of_ble_eq_true rfl⟩) (pre_WS0 (As := [.ref (z)]) hG hP hD hS hA0) rfl rfl hl.1 rfl (lv_room (Nat.le_of_ble_eq_true rfl)) dJ20_init_6 ⟨Nat.le_of_ble_eq_true rfl, Nat.le_of_ble_eq_true rfl⟩) hP hD hS hA (fun w1 H locs hp hP hD hS => ?_)
  subst hp
  have hP : wP G [(z, .inr (10, [.int (0), .ref (h)]))] H := hP
  have hD : va_D A [(z, .inr (10, [.int (0), .ref (h)]))] := hD
  refine lv_aload_n hx hb dJ20_init_9 rfl (lv_at hl 0 rfl) ?_
  refine lv_iload_n hx hb dJ20_init_10 rfl (lv_at hl 2 rfl) ?_
  refine va_putF (D := gD G) (ci := 10) (v := .int (0)) (ty := .boolean) (C := RJ20) (T := TJ20) (N := 2) hx hb hts in_J20 tyJ20 tyJ20_ok nmJ20 hown hG.K hP hD hS 0 rfl rfl 0 (by decide) (hts _ q921) (fun _ h9 => h9) rfl hin rfl (by decide +kernel) rfl rfl (Nat.le_of_ble_eq_true rfl) dJ20_init_11 (fun H locs hP hD hS => ?_)
  have hP : wP G [(z, .inr (10, [.int (0), .ref (h)]))] H := hP
  have hD : va_D A [(z, .inr (10, [.int (0), .ref (h)]))] := hD
  exact ret _ 14 ls _ _ _ _ dJ20_init_14 (Nat.le_of_ble_eq_true rfl) (Nat.le_of_ble_eq_true rfl) hP hD hS (rfl)
set_option maxHeartbeats 4000000 in
set_option maxRecDepth 100000 in
theorem metJ5_ses0 (l : Launch) (G : Gt) (h n : Nat) (tab hd tl : Option Nat) (mo th : Int32) (sz : Nat) : CWq l G yJ5_sequencedEntrySet cJ5_sequencedEntrySet 3 (.object "java/util/SequencedSet") 4 1 2 74 [.ref (h)] [(h, .inr (6, [va_rf (tab), .null, .int (nI n), .int (mo), .int (th), .float (1061158912), .null, .null, va_rf (hd), va_rf (tl), .int (0), .int (0)]))] sz (fun r w1 => ∃ z, r = some z ∧ w1 = [(h, .inr (6, [va_rf (tab), .ref (z), .int (nI n), .int (mo), .int (th), .float (1061158912), .null, .null, va_rf (hd), va_rf (tl), .int (0), .int (0)])), (z, .inr (10, [.int (0), .ref (h)]))]) := by
  refine mkWq (by decide) (Nat.le_of_ble_eq_true rfl) (by first | exact Or.inl ⟨_, rfl⟩ | exact Or.inr ⟨_, rfl⟩) ?_
  intro p e s m args below meth c Q A hx hb hts hown hin hml hG hsz hP hD hA hA0 hS ret ls hl
  refine lv_aload_n hx hb dJ5_sequencedEntrySet_0 rfl (lv_at hl 0 rfl) ?_
  refine va_get (D := gD G) (ci := 6) (v := .null) (C := RJ5) (T := TJ5) (N := 12) hx hb hts in_J5 hown hG.K hP 0 rfl rfl 1 (by decide) (hts _ q128) (fun x9 h9 => u_same (hts _ q129) x9 h9) rfl dJ5_sequencedEntrySet_1 ?_
  refine lv_astore_nN (lv' := [(1, .null), (0, .ref (h))]) hx hb dJ5_sequencedEntrySet_4 rfl hl (by decide) rfl (fun ls hl => ?_)
  refine lv_aload_nN hx hb dJ5_sequencedEntrySet_5 rfl (lv_at hl 0 rfl) ?_
  refine lv_ifnonnullN hx hb dJ5_sequencedEntrySet_6 ?_
  refine va_new (D := gD G) (ci := 10) (fs := [.int (0), .null]) (C := RJ20) (T := TJ20) (N := 2) hx hb hts in_J20 tyJ20 tyJ20_ok hown (hts _ q912) (hts _ q913) (hts _ q56) hG.K hP hD hS hA rfl (fun j hj => match j, hj with | 0, _ => rfl | 1, _ => rfl | j + 2, hj => absurd hj (by omega)) (Nat.le_of_ble_eq_true rfl) (Nat.le_of_ble_eq_true rfl) dJ5_sequencedEntrySet_9 (fun o1 H hP hD hS => ?_)
  have hP : wP G [(h, .inr (6, [va_rf (tab), .null, .int (nI n), .int (mo), .int (th), .float (1061158912), .null, .null, va_rf (hd), va_rf (tl), .int (0), .int (0)])), (o1, .inr (10, [.int (0), .null]))] H := hP
  have hD : va_D A [(h, .inr (6, [va_rf (tab), .null, .int (nI n), .int (mo), .int (th), .float (1061158912), .null, .null, va_rf (hd), va_rf (tl), .int (0), .int (0)])), (o1, .inr (10, [.int (0), .null]))] := hD
  refine lv_dup hx hb dJ5_sequencedEntrySet_12 rfl ?_
  refine lv_aload_n hx hb dJ5_sequencedEntrySet_13 rfl (lv_at hl 1 rfl) ?_
  refine lv_iconst (v := 0) hx hb dJ5_sequencedEntrySet_14 (by decide) ?_
  have hP := wP.perm (w' := [(o1, .inr (10, [.int (0), .null]))] ++ [(h, .inr (6, [va_rf (tab), .null, .int (nI n), .int (mo), .int (th), .float (1061158912), .null, .null, va_rf (hd), va_rf (tl), .int (0), .int (0)]))]) hP (pm_ (fun _ z => by simp only [List.count_append, List.count_cons, List.count_nil]; omega))
  have hD := va_D.perm (w' := [(o1, .inr (10, [.int (0), .null]))] ++ [(h, .inr (6, [va_rf (tab), .null, .int (nI n), .int (mo), .int (th), .float (1061158912), .null, .null, va_rf (hd), va_rf (tl), .int (0), .int (0)]))]) hD (pm_ (fun _ z => by simp only [List.count_append, List.count_cons, List.count_nil]; omega))
  refine cl_v (wr := [(h, .inr (6, [va_rf (tab), .null, .int (nI n), .int (mo), .int (th), .float (1061158912), .null, .null, va_rf (hd), va_rf (tl), .int (0), .int (0)]))]) (va_runI (As := [.ref (h), .int (0)]) (rest := [.ref (o1)]) ⟨hx, hb, hml, hown, hts⟩ (metJ20_init l G o1 h _) (cwI 2 hts (lw_meth q916) rfl rfl rfl (hts _ q56) (hts _ q914) (hts _ q915) rfl (by decide +kernel) ⟨Nat.le_of_ble_eq_true rfl, Nat.le_of_ble_eq_true rfl⟩) (pre_WS (As := [.ref (o1), .ref (h), .int (0)]) hG hP hD hS hA0) rfl rfl hl.1 rfl (lv_room (Nat.le_of_ble_eq_true rfl)) dJ5_sequencedEntrySet_15 ⟨Nat.le_of_ble_eq_true rfl, Nat.le_of_ble_eq_true rfl⟩) hP hD hS hA (fun w1 H locs hp hP hD hS => ?_)
  subst hp
  have hP : wP G ([(o1, .inr (10, [.int (0), .ref (h)]))] ++ [(h, .inr (6, [va_rf (tab), .null, .int (nI n), .int (mo), .int (th), .float (1061158912), .null, .null, va_rf (hd), va_rf (tl), .int (0), .int (0)]))]) H := hP
  have hD : va_D A ([(o1, .inr (10, [.int (0), .ref (h)]))] ++ [(h, .inr (6, [va_rf (tab), .null, .int (nI n), .int (mo), .int (th), .float (1061158912), .null, .null, va_rf (hd), va_rf (tl), .int (0), .int (0)]))]) := hD
  have hP := wP.perm (w' := [(h, .inr (6, [va_rf (tab), .null, .int (nI n), .int (mo), .int (th), .float (1061158912), .null, .null, va_rf (hd), va_rf (tl), .int (0), .int (0)])), (o1, .inr (10, [.int (0), .ref (h)]))]) hP (pm_ (fun _ z => by simp only [List.count_append, List.count_cons, List.count_nil]; omega))
  have hD := va_D.perm (w' := [(h, .inr (6, [va_rf (tab), .null, .int (nI n), .int (mo), .int (th), .float (1061158912), .null, .null, va_rf (hd), va_rf (tl), .int (0), .int (0)])), (o1, .inr (10, [.int (0), .ref (h)]))]) hD (pm_ (fun _ z => by simp only [List.count_append, List.count_cons, List.count_nil]; omega))
  refine lv_astore_n (lv' := [(2, .ref (o1)), (1, .null), (0, .ref (h))]) hx hb dJ5_sequencedEntrySet_18 rfl hl (by decide) rfl (fun ls hl => ?_)
  refine lv_aload_n hx hb dJ5_sequencedEntrySet_19 rfl (lv_at hl 2 rfl) ?_
  refine lv_aload_n hx hb dJ5_sequencedEntrySet_20 rfl (lv_at hl 0 rfl) ?_
  refine va_put (D := gD G) (ci := 6) (v := .ref (o1)) (ty := .object "java/util/Set") (C := RJ5) (T := TJ5) (N := 12) hx hb hts in_J5 tyJ5 tyJ5_ok nmJ5 hown hG.K hP hD hS 0 rfl rfl 1 (by decide) (hts _ q128) (fun x9 h9 => u_same (hts _ q129) x9 h9) rfl (by decide +kernel) rfl rfl (Nat.le_of_ble_eq_true rfl) dJ5_sequencedEntrySet_21 (fun H locs hP hD hS => ?_)
  have hP : wP G [(h, .inr (6, [va_rf (tab), .ref (o1), .int (nI n), .int (mo), .int (th), .float (1061158912), .null, .null, va_rf (hd), va_rf (tl), .int (0), .int (0)])), (o1, .inr (10, [.int (0), .ref (h)]))] H := hP
  have hD : va_D A [(h, .inr (6, [va_rf (tab), .ref (o1), .int (nI n), .int (mo), .int (th), .float (1061158912), .null, .null, va_rf (hd), va_rf (tl), .int (0), .int (0)])), (o1, .inr (10, [.int (0), .ref (h)]))] := hD
  refine lv_aload_n hx hb dJ5_sequencedEntrySet_24 rfl (lv_at hl 0 rfl) ?_
  exact ret (some (o1)) _ 25 ls _ _ _ _ dJ5_sequencedEntrySet_25 (Nat.le_of_ble_eq_true rfl) (Nat.le_of_ble_eq_true rfl) hP hD hS (⟨o1, rfl, rfl⟩)
set_option maxHeartbeats 4000000 in
set_option maxRecDepth 100000 in
theorem metJ5_ses1 (l : Launch) (G : Gt) (h n z : Nat) (tab hd tl : Option Nat) (mo th : Int32) (sz : Nat) : CWq l G yJ5_sequencedEntrySet cJ5_sequencedEntrySet 3 (.object "java/util/SequencedSet") 0 1 2 0 [.ref (h)] [(h, .inr (6, [va_rf (tab), .ref (z), .int (nI n), .int (mo), .int (th), .float (1061158912), .null, .null, va_rf (hd), va_rf (tl), .int (0), .int (0)])), (z, .inr (10, [.int (0), .ref (h)]))] sz (fun r w1 => r = some z ∧ w1 = [(h, .inr (6, [va_rf (tab), .ref (z), .int (nI n), .int (mo), .int (th), .float (1061158912), .null, .null, va_rf (hd), va_rf (tl), .int (0), .int (0)])), (z, .inr (10, [.int (0), .ref (h)]))]) := by
  refine mkWq (by decide) (Nat.le_of_ble_eq_true rfl) (by first | exact Or.inl ⟨_, rfl⟩ | exact Or.inr ⟨_, rfl⟩) ?_
  intro p e s m args below meth c Q A hx hb hts hown hin hml hG hsz hP hD hA hA0 hS ret ls hl
  refine lv_aload_n hx hb dJ5_sequencedEntrySet_0 rfl (lv_at hl 0 rfl) ?_
  refine va_get (D := gD G) (ci := 6) (v := .ref (z)) (C := RJ5) (T := TJ5) (N := 12) hx hb hts in_J5 hown hG.K hP 0 rfl rfl 1 (by decide) (hts _ q128) (fun x9 h9 => u_same (hts _ q129) x9 h9) rfl dJ5_sequencedEntrySet_1 ?_
  refine lv_astore_n (lv' := [(1, .ref (z)), (0, .ref (h))]) hx hb dJ5_sequencedEntrySet_4 rfl hl (by decide) rfl (fun ls hl => ?_)
  refine lv_aload_n hx hb dJ5_sequencedEntrySet_5 rfl (lv_at hl 0 rfl) ?_
  refine lv_ifnonnull (tgt := 26) hx hb dJ5_sequencedEntrySet_6 (by decide) ?_
  refine lv_aload_n hx hb dJ5_sequencedEntrySet_26 rfl (lv_at hl 0 rfl) ?_
  refine va_castY hx hb hown (hts _ q928) (hG.cast q1348) (va_recv hG.K hP (ci := 10) (q0 := 1) rfl rfl) dJ5_sequencedEntrySet_27 ?_
  exact ret (some (z)) _ 30 ls _ _ _ _ dJ5_sequencedEntrySet_30 (Nat.le_of_ble_eq_true rfl) (Nat.le_of_ble_eq_true rfl) hP hD hS (⟨rfl, rfl⟩)
set_option maxHeartbeats 4000000 in
set_option maxRecDepth 100000 in
theorem metJ5_es0 (l : Launch) (G : Gt) (h n : Nat) (tab hd tl : Option Nat) (mo th : Int32) (sz : Nat) : CWq l G yJ5_entrySet cJ5_entrySet 1 (.object "java/util/Set") 6 1 2 200 [.ref (h)] [(h, .inr (6, [va_rf (tab), .null, .int (nI n), .int (mo), .int (th), .float (1061158912), .null, .null, va_rf (hd), va_rf (tl), .int (0), .int (0)]))] sz (fun r w1 => ∃ z, r = some z ∧ w1 = [(h, .inr (6, [va_rf (tab), .ref (z), .int (nI n), .int (mo), .int (th), .float (1061158912), .null, .null, va_rf (hd), va_rf (tl), .int (0), .int (0)])), (z, .inr (10, [.int (0), .ref (h)]))]) := by
  refine mkWq (by decide) (Nat.le_of_ble_eq_true rfl) (by first | exact Or.inl ⟨_, rfl⟩ | exact Or.inr ⟨_, rfl⟩) ?_
  intro p e s m args below meth c Q A hx hb hts hown hin hml hG hsz hP hD hA hA0 hS ret ls hl
  refine lv_aload_n hx hb dJ5_entrySet_0 rfl (lv_at hl 0 rfl) ?_
  refine cl_q0 (va_runV (As := []) (rest := []) ⟨hx, hb, hml, hown, hts⟩ (metJ5_ses0 l G h n tab hd tl mo th _) (cwV 0 hts (lw_V q908 q909 q910 q35 q911) rfl rfl rfl (by decide +kernel) ⟨Nat.le_of_ble_eq_true rfl, Nat.le_of_ble_eq_true rfl⟩) (pre_WV0 (q0 := 0) hG hP hD hS hA0 rfl rfl) rfl rfl hl.1 rfl (lv_room (Nat.le_of_ble_eq_true rfl)) dJ5_entrySet_1 ⟨Nat.le_of_ble_eq_true rfl, Nat.le_of_ble_eq_true rfl⟩) hP hD hS hA (fun r_1 w1 H locs hp hP hD hS => ?_)
  obtain ⟨z, rfl, rfl⟩ := hp
  have hP : wP G [(h, .inr (6, [va_rf (tab), .ref (z), .int (nI n), .int (mo), .int (th), .float (1061158912), .null, .null, va_rf (hd), va_rf (tl), .int (0), .int (0)])), (z, .inr (10, [.int (0), .ref (h)]))] H := hP
  have hD : va_D A [(h, .inr (6, [va_rf (tab), .ref (z), .int (nI n), .int (mo), .int (th), .float (1061158912), .null, .null, va_rf (hd), va_rf (tl), .int (0), .int (0)])), (z, .inr (10, [.int (0), .ref (h)]))] := hD
  exact ret (some (z)) _ 4 ls _ _ _ _ dJ5_entrySet_4 (Nat.le_of_ble_eq_true rfl) (Nat.le_of_ble_eq_true rfl) hP hD hS (⟨z, rfl, rfl⟩)
set_option maxHeartbeats 4000000 in
set_option maxRecDepth 100000 in
theorem metJ5_es1 (l : Launch) (G : Gt) (h n z : Nat) (tab hd tl : Option Nat) (mo th : Int32) (sz : Nat) : CWq l G yJ5_entrySet cJ5_entrySet 1 (.object "java/util/Set") 6 1 2 200 [.ref (h)] [(h, .inr (6, [va_rf (tab), .ref (z), .int (nI n), .int (mo), .int (th), .float (1061158912), .null, .null, va_rf (hd), va_rf (tl), .int (0), .int (0)])), (z, .inr (10, [.int (0), .ref (h)]))] sz (fun r w1 => r = some z ∧ w1 = [(h, .inr (6, [va_rf (tab), .ref (z), .int (nI n), .int (mo), .int (th), .float (1061158912), .null, .null, va_rf (hd), va_rf (tl), .int (0), .int (0)])), (z, .inr (10, [.int (0), .ref (h)]))]) := by
  refine mkWq (by decide) (Nat.le_of_ble_eq_true rfl) (by first | exact Or.inl ⟨_, rfl⟩ | exact Or.inr ⟨_, rfl⟩) ?_
  intro p e s m args below meth c Q A hx hb hts hown hin hml hG hsz hP hD hA hA0 hS ret ls hl
  refine lv_aload_n hx hb dJ5_entrySet_0 rfl (lv_at hl 0 rfl) ?_
  refine cl_q0 (va_runV (As := []) (rest := []) ⟨hx, hb, hml, hown, hts⟩ (metJ5_ses1 l G h n z tab hd tl mo th _) (cwV 0 hts (lw_V q908 q909 q910 q35 q911) rfl rfl rfl (by decide +kernel) ⟨Nat.le_of_ble_eq_true rfl, Nat.le_of_ble_eq_true rfl⟩) (pre_WV0 (q0 := 0) hG hP hD hS hA0 rfl rfl) rfl rfl hl.1 rfl (lv_room (Nat.le_of_ble_eq_true rfl)) dJ5_entrySet_1 ⟨Nat.le_of_ble_eq_true rfl, Nat.le_of_ble_eq_true rfl⟩) hP hD hS hA (fun r_1 w1 H locs hp hP hD hS => ?_)
  obtain ⟨rfl, rfl⟩ := hp
  have hP : wP G [(h, .inr (6, [va_rf (tab), .ref (z), .int (nI n), .int (mo), .int (th), .float (1061158912), .null, .null, va_rf (hd), va_rf (tl), .int (0), .int (0)])), (z, .inr (10, [.int (0), .ref (h)]))] H := hP
  have hD : va_D A [(h, .inr (6, [va_rf (tab), .ref (z), .int (nI n), .int (mo), .int (th), .float (1061158912), .null, .null, va_rf (hd), va_rf (tl), .int (0), .int (0)])), (z, .inr (10, [.int (0), .ref (h)]))] := hD
  exact ret (some (z)) _ 4 ls _ _ _ _ dJ5_entrySet_4 (Nat.le_of_ble_eq_true rfl) (Nat.le_of_ble_eq_true rfl) hP hD hS (⟨rfl, rfl⟩)
theorem metJ5_entrySet (l : Launch) (G : Gt) (h n : Nat) (tab hd tl ent : Option Nat) (mo th : Int32) (sz : Nat) : CWq l G yJ5_entrySet cJ5_entrySet 1 (.object "java/util/Set") 6 1 2 200 [.ref h] (moC h tab ent n mo th hd tl :: esW h ent) sz (fun r w1 => ∃ z, r = some z ∧ w1 = moC h tab (some z) n mo th hd tl :: esW h (some z)) := by
  cases ent with
  | none => exact metJ5_es0 l G h n tab hd tl mo th sz
  | some z => exact CWq.post (metJ5_es1 l G h n z tab hd tl mo th sz) (fun r w hp => ⟨z, hp⟩)
