set_option maxHeartbeats 4000000 in
set_option maxRecDepth 100000 in
theorem metJ13_init (l : Launch) (G : Gt) (q k : Nat) (bo : Bool) (sz : Nat) : CWv l G yJ13_init cJ13_init 5 1 0 0 12 [.ref (q), .int (nI k), .ref (gI G k), .ref (gbo G bo), .null] [(q, .inr (7, [.int (0), .null, .null, .null, .null, .null]))] sz (fun w1 => w1 = [(q, .inr (7, [.int (nI k), .ref (gI G k), .ref (gbo G bo), .null, .null, .null]))]) := by
  refine mkWv (by decide) (Nat.le_of_ble_eq_true rfl) ?_
  intro p e s m args below meth c Q A hx hb hts hown hin hml hG hsz hP hD hA hA0 hS ret ls hl
  refine lv_aload_n hx hb dJ13_init_0 rfl (lv_at hl 0 rfl) ?_
  refine W.objInit hx hb hown (hts _ q519) (hts _ q71) (hts _ q72) rfl (by rw [hml]; exact hl.1) rfl dJ13_init_1 (Nat.le_of_ble_eq_true rfl) (Nat.le_of_ble_eq_true rfl) ?_
  refine W.eq (g2 := F0 m 4 ls []) rfl ?_
  refine lv_aload_n hx hb dJ13_init_4 rfl (lv_at hl 0 rfl) ?_
  refine lv_iload_n hx hb dJ13_init_5 rfl (lv_at hl 1 rfl) ?_
  refine va_putF (D := gD G) (ci := 7) (v := .int (nI k)) (ty := .int) (C := RJ14) (T := TJ14) (N := 6) hx hb hts in_J14 tyJ14 tyJ14_ok nmJ14 hown hG.K hP hD hS 0 rfl rfl 0 (by decide) (hts _ q524) (fun _ h9 => h9) rfl hin rfl (by decide +kernel) rfl rfl (Nat.le_of_ble_eq_true rfl) dJ13_init_6 (fun H locs hP hD hS => ?_)
  have hP : wP G [(q, .inr (7, [.int (nI k), .null, .null, .null, .null, .null]))] H := hP
  have hD : va_D A [(q, .inr (7, [.int (nI k), .null, .null, .null, .null, .null]))] := hD
  refine lv_aload_n hx hb dJ13_init_9 rfl (lv_at hl 0 rfl) ?_
  refine lv_aload_n hx hb dJ13_init_10 rfl (lv_at hl 2 rfl) ?_
  refine va_putF (D := gD G) (ci := 7) (v := .ref (gI G k)) (ty := .object "java/lang/Object") (C := RJ14) (T := TJ14) (N := 6) hx hb hts in_J14 tyJ14 tyJ14_ok nmJ14 hown hG.K hP hD hS 0 rfl rfl 1 (by decide) (hts _ q530) (fun _ h9 => h9) rfl hin rfl (by decide +kernel) rfl rfl (Nat.le_of_ble_eq_true rfl) dJ13_init_11 (fun H locs hP hD hS => ?_)
  have hP : wP G [(q, .inr (7, [.int (nI k), .ref (gI G k), .null, .null, .null, .null]))] H := hP
  have hD : va_D A [(q, .inr (7, [.int (nI k), .ref (gI G k), .null, .null, .null, .null]))] := hD
  refine lv_aload_n hx hb dJ13_init_14 rfl (lv_at hl 0 rfl) ?_
  refine lv_aload_n hx hb dJ13_init_15 rfl (lv_at hl 3 rfl) ?_
  refine va_put (D := gD G) (ci := 7) (v := .ref (gbo G bo)) (ty := .object "java/lang/Object") (C := RJ14) (T := TJ14) (N := 6) hx hb hts in_J14 tyJ14 tyJ14_ok nmJ14 hown hG.K hP hD hS 0 rfl rfl 2 (by decide) (hts _ q536) (fun _ h9 => h9) rfl (by decide +kernel) rfl rfl (Nat.le_of_ble_eq_true rfl) dJ13_init_16 (fun H locs hP hD hS => ?_)
  have hP : wP G [(q, .inr (7, [.int (nI k), .ref (gI G k), .ref (gbo G bo), .null, .null, .null]))] H := hP
  have hD : va_D A [(q, .inr (7, [.int (nI k), .ref (gI G k), .ref (gbo G bo), .null, .null, .null]))] := hD
  refine lv_aload_n hx hb dJ13_init_19 rfl (lv_at hl 0 rfl) ?_
  refine lv_aloadN hx hb dJ13_init_20 (lv_at hl 4 rfl) ?_
  refine va_put (D := gD G) (ci := 7) (v := .null) (ty := .object "java/util/HashMap$Node") (C := RJ14) (T := TJ14) (N := 6) hx hb hts in_J14 tyJ14 tyJ14_ok nmJ14 hown hG.K hP hD hS 0 rfl rfl 3 (by decide) (hts _ q540) (fun _ h9 => h9) rfl (by decide +kernel) rfl rfl (Nat.le_of_ble_eq_true rfl) dJ13_init_22 (fun H locs hP hD hS => ?_)
  have hP : wP G [(q, .inr (7, [.int (nI k), .ref (gI G k), .ref (gbo G bo), .null, .null, .null]))] H := hP
  have hD : va_D A [(q, .inr (7, [.int (nI k), .ref (gI G k), .ref (gbo G bo), .null, .null, .null]))] := hD
  exact ret _ 25 ls _ _ _ _ dJ13_init_25 (Nat.le_of_ble_eq_true rfl) (Nat.le_of_ble_eq_true rfl) hP hD hS (rfl)
set_option maxHeartbeats 4000000 in
set_option maxRecDepth 100000 in
theorem metJ14_init (l : Launch) (G : Gt) (q k : Nat) (bo : Bool) (sz : Nat) : CWv l G yJ14_init cJ14_init 5 2 0 0 36 [.ref (q), .int (nI k), .ref (gI G k), .ref (gbo G bo), .null] [(q, .inr (7, [.int (0), .null, .null, .null, .null, .null]))] sz (fun w1 => w1 = [(q, .inr (7, [.int (nI k), .ref (gI G k), .ref (gbo G bo), .null, .null, .null]))]) := by
  refine mkWv (by decide) (Nat.le_of_ble_eq_true rfl) ?_
  intro p e s m args below meth c Q A hx hb hts hown hin hml hG hsz hP hD hA hA0 hS ret ls hl
  refine lv_aload_n hx hb dJ14_init_0 rfl (lv_at hl 0 rfl) ?_
  refine lv_iload_n hx hb dJ14_init_1 rfl (lv_at hl 1 rfl) ?_
  refine lv_aload_n hx hb dJ14_init_2 rfl (lv_at hl 2 rfl) ?_
  refine lv_aload_n hx hb dJ14_init_3 rfl (lv_at hl 3 rfl) ?_
  refine lv_aloadN hx hb dJ14_init_4 (lv_at hl 4 rfl) ?_
  refine cl_v0 (va_runI (As := [.int (nI k), .ref (gI G k), .ref (gbo G bo), .null]) (rest := []) ⟨hx, hb, hml, hown, hts⟩ (metJ13_init l G q k bo _) (cwI 4 hts (lw_meth q518) rfl rfl rfl (hts _ q47) (hts _ q516) (hts _ q517) rfl (by decide +kernel) ⟨Nat.le_of_ble_eq_true rfl, Nat.le_of_ble_eq_true rfl⟩) (pre_WS0 (As := [.ref (q), .int (nI k), .ref (gI G k), .ref (gbo G bo), .null]) hG hP hD hS hA0) rfl rfl hl.1 rfl (lv_room (Nat.le_of_ble_eq_true rfl)) dJ14_init_6 ⟨Nat.le_of_ble_eq_true rfl, Nat.le_of_ble_eq_true rfl⟩) hP hD hS hA (fun w1 H locs hp hP hD hS => ?_)
  subst hp
  have hP : wP G [(q, .inr (7, [.int (nI k), .ref (gI G k), .ref (gbo G bo), .null, .null, .null]))] H := hP
  have hD : va_D A [(q, .inr (7, [.int (nI k), .ref (gI G k), .ref (gbo G bo), .null, .null, .null]))] := hD
  exact ret _ 9 ls _ _ _ _ dJ14_init_9 (Nat.le_of_ble_eq_true rfl) (Nat.le_of_ble_eq_true rfl) hP hD hS (rfl)
set_option maxHeartbeats 4000000 in
set_option maxRecDepth 100000 in
theorem metJ5_lk0 (l : Launch) (G : Gt) (h n q k : Nat) (bo : Bool) (tab en : Option Nat) (mo th : Int32) (sz : Nat) : CWv l G yJ5_linkNodeAtEnd cJ5_linkNodeAtEnd 3 0 0 0 0 [.ref (h), .ref (q)] [(h, .inr (6, [va_rf (tab), va_rf (en), .int (nI n), .int (mo), .int (th), .float (1061158912), .null, .null, .null, .null, .int (0), .int (0)])), (q, .inr (7, [.int (nI k), .ref (gI G k), .ref (gbo G bo), .null, .null, .null]))] sz (fun w1 => w1 = [(h, .inr (6, [va_rf (tab), va_rf (en), .int (nI n), .int (mo), .int (th), .float (1061158912), .null, .null, .ref (q), .ref (q), .int (0), .int (0)])), (q, .inr (7, [.int (nI k), .ref (gI G k), .ref (gbo G bo), .null, .null, .null]))]) := by
  refine mkWv (by decide) (Nat.le_of_ble_eq_true rfl) ?_
  intro p e s m args below meth c Q A hx hb hts hown hin hml hG hsz hP hD hA hA0 hS ret ls hl
  refine lv_aload_n hx hb dJ5_linkNodeAtEnd_0 rfl (lv_at hl 0 rfl) ?_
  refine va_get (D := gD G) (ci := 6) (v := .int (0)) (C := RJ5) (T := TJ5) (N := 12) hx hb hts in_J5 hown hG.K hP 0 rfl rfl 11 (by decide) (hts _ q126) (fun _ h9 => h9) rfl dJ5_linkNodeAtEnd_1 ?_
  refine lv_iconst (v := 1) hx hb dJ5_linkNodeAtEnd_4 (by decide) ?_
  refine lv_icmp_ne (tgt := 43) hx hb dJ5_linkNodeAtEnd_5 (by decide) (fun c_5 => ?_) (fun c_5 => absurd c_5 (by decide))
  refine lv_aload_n hx hb dJ5_linkNodeAtEnd_43 rfl (lv_at hl 0 rfl) ?_
  refine va_get (D := gD G) (ci := 6) (v := .null) (C := RJ5) (T := TJ5) (N := 12) hx hb hts in_J5 hown hG.K hP 0 rfl rfl 9 (by decide) (hts _ q124) (fun _ h9 => h9) rfl dJ5_linkNodeAtEnd_44 ?_
  refine lv_astore_nN (lv' := [(2, .null), (0, .ref (h)), (1, .ref (q))]) hx hb dJ5_linkNodeAtEnd_47 rfl hl (by decide) rfl (fun ls hl => ?_)
  refine lv_aload_n hx hb dJ5_linkNodeAtEnd_48 rfl (lv_at hl 1 rfl) ?_
  refine lv_aload_n hx hb dJ5_linkNodeAtEnd_49 rfl (lv_at hl 2 rfl) ?_
  refine va_put (D := gD G) (ci := 6) (v := .ref (q)) (ty := .object "java/util/LinkedHashMap$Entry") (C := RJ5) (T := TJ5) (N := 12) hx hb hts in_J5 tyJ5 tyJ5_ok nmJ5 hown hG.K hP hD hS 0 rfl rfl 9 (by decide) (hts _ q124) (fun _ h9 => h9) rfl (by decide +kernel) rfl rfl (Nat.le_of_ble_eq_true rfl) dJ5_linkNodeAtEnd_50 (fun H locs hP hD hS => ?_)
  have hP : wP G [(h, .inr (6, [va_rf (tab), va_rf (en), .int (nI n), .int (mo), .int (th), .float (1061158912), .null, .null, .null, .ref (q), .int (0), .int (0)])), (q, .inr (7, [.int (nI k), .ref (gI G k), .ref (gbo G bo), .null, .null, .null]))] H := hP
  have hD : va_D A [(h, .inr (6, [va_rf (tab), va_rf (en), .int (nI n), .int (mo), .int (th), .float (1061158912), .null, .null, .null, .ref (q), .int (0), .int (0)])), (q, .inr (7, [.int (nI k), .ref (gI G k), .ref (gbo G bo), .null, .null, .null]))] := hD
  refine lv_aload_nN hx hb dJ5_linkNodeAtEnd_53 rfl (lv_at hl 0 rfl) ?_
  refine lv_ifnonnullN hx hb dJ5_linkNodeAtEnd_54 ?_
  refine lv_aload_n hx hb dJ5_linkNodeAtEnd_57 rfl (lv_at hl 1 rfl) ?_
  refine lv_aload_n hx hb dJ5_linkNodeAtEnd_58 rfl (lv_at hl 2 rfl) ?_
  refine va_put (D := gD G) (ci := 6) (v := .ref (q)) (ty := .object "java/util/LinkedHashMap$Entry") (C := RJ5) (T := TJ5) (N := 12) hx hb hts in_J5 tyJ5 tyJ5_ok nmJ5 hown hG.K hP hD hS 0 rfl rfl 8 (by decide) (hts _ q121) (fun _ h9 => h9) rfl (by decide +kernel) rfl rfl (Nat.le_of_ble_eq_true rfl) dJ5_linkNodeAtEnd_59 (fun H locs hP hD hS => ?_)
  have hP : wP G [(h, .inr (6, [va_rf (tab), va_rf (en), .int (nI n), .int (mo), .int (th), .float (1061158912), .null, .null, .ref (q), .ref (q), .int (0), .int (0)])), (q, .inr (7, [.int (nI k), .ref (gI G k), .ref (gbo G bo), .null, .null, .null]))] H := hP
  have hD : va_D A [(h, .inr (6, [va_rf (tab), va_rf (en), .int (nI n), .int (mo), .int (th), .float (1061158912), .null, .null, .ref (q), .ref (q), .int (0), .int (0)])), (q, .inr (7, [.int (nI k), .ref (gI G k), .ref (gbo G bo), .null, .null, .null]))] := hD
  refine lv_goto (tgt := 75) hx hb dJ5_linkNodeAtEnd_62 (by decide) ?_
  exact ret _ 75 ls _ _ _ _ dJ5_linkNodeAtEnd_75 (Nat.le_of_ble_eq_true rfl) (Nat.le_of_ble_eq_true rfl) hP hD hS (rfl)
set_option maxHeartbeats 4000000 in
set_option maxRecDepth 100000 in
theorem metJ5_lk1 (l : Launch) (G : Gt) (h n q k qb : Nat) (bo : Bool) (tab en hd : Option Nat) (mo th : Int32) (bk : Int32) (bi bv : Nat) (bp : Option Nat) (sz : Nat) : CWv l G yJ5_linkNodeAtEnd cJ5_linkNodeAtEnd 3 0 0 0 0 [.ref (h), .ref (q)] [(h, .inr (6, [va_rf (tab), va_rf (en), .int (nI n), .int (mo), .int (th), .float (1061158912), .null, .null, va_rf (hd), .ref (qb), .int (0), .int (0)])), (q, .inr (7, [.int (nI k), .ref (gI G k), .ref (gbo G bo), .null, .null, .null])), (qb, .inr (7, [.int (bk), .ref (bi), .ref (bv), .null, va_rf (bp), .null]))] sz (fun w1 => w1 = [(h, .inr (6, [va_rf (tab), va_rf (en), .int (nI n), .int (mo), .int (th), .float (1061158912), .null, .null, va_rf (hd), .ref (q), .int (0), .int (0)])), (q, .inr (7, [.int (nI k), .ref (gI G k), .ref (gbo G bo), .null, .ref (qb), .null])), (qb, .inr (7, [.int (bk), .ref (bi), .ref (bv), .null, va_rf (bp), .ref (q)]))]) := by
  refine mkWv (by decide) (Nat.le_of_ble_eq_true rfl) ?_
  intro p e s m args below meth c Q A hx hb hts hown hin hml hG hsz hP hD hA hA0 hS ret ls hl
  refine lv_aload_n hx hb dJ5_linkNodeAtEnd_0 rfl (lv_at hl 0 rfl) ?_
  refine va_get (D := gD G) (ci := 6) (v := .int (0)) (C := RJ5) (T := TJ5) (N := 12) hx hb hts in_J5 hown hG.K hP 0 rfl rfl 11 (by decide) (hts _ q126) (fun _ h9 => h9) rfl dJ5_linkNodeAtEnd_1 ?_
  refine lv_iconst (v := 1) hx hb dJ5_linkNodeAtEnd_4 (by decide) ?_
  refine lv_icmp_ne (tgt := 43) hx hb dJ5_linkNodeAtEnd_5 (by decide) (fun c_5 => ?_) (fun c_5 => absurd c_5 (by decide))
  refine lv_aload_n hx hb dJ5_linkNodeAtEnd_43 rfl (lv_at hl 0 rfl) ?_
  refine va_get (D := gD G) (ci := 6) (v := .ref (qb)) (C := RJ5) (T := TJ5) (N := 12) hx hb hts in_J5 hown hG.K hP 0 rfl rfl 9 (by decide) (hts _ q124) (fun _ h9 => h9) rfl dJ5_linkNodeAtEnd_44 ?_
  refine lv_astore_n (lv' := [(2, .ref (qb)), (0, .ref (h)), (1, .ref (q))]) hx hb dJ5_linkNodeAtEnd_47 rfl hl (by decide) rfl (fun ls hl => ?_)
  refine lv_aload_n hx hb dJ5_linkNodeAtEnd_48 rfl (lv_at hl 1 rfl) ?_
  refine lv_aload_n hx hb dJ5_linkNodeAtEnd_49 rfl (lv_at hl 2 rfl) ?_
  refine va_put (D := gD G) (ci := 6) (v := .ref (q)) (ty := .object "java/util/LinkedHashMap$Entry") (C := RJ5) (T := TJ5) (N := 12) hx hb hts in_J5 tyJ5 tyJ5_ok nmJ5 hown hG.K hP hD hS 0 rfl rfl 9 (by decide) (hts _ q124) (fun _ h9 => h9) rfl (by decide +kernel) rfl rfl (Nat.le_of_ble_eq_true rfl) dJ5_linkNodeAtEnd_50 (fun H locs hP hD hS => ?_)
  have hP : wP G [(h, .inr (6, [va_rf (tab), va_rf (en), .int (nI n), .int (mo), .int (th), .float (1061158912), .null, .null, va_rf (hd), .ref (q), .int (0), .int (0)])), (q, .inr (7, [.int (nI k), .ref (gI G k), .ref (gbo G bo), .null, .null, .null])), (qb, .inr (7, [.int (bk), .ref (bi), .ref (bv), .null, va_rf (bp), .null]))] H := hP
  have hD : va_D A [(h, .inr (6, [va_rf (tab), va_rf (en), .int (nI n), .int (mo), .int (th), .float (1061158912), .null, .null, va_rf (hd), .ref (q), .int (0), .int (0)])), (q, .inr (7, [.int (nI k), .ref (gI G k), .ref (gbo G bo), .null, .null, .null])), (qb, .inr (7, [.int (bk), .ref (bi), .ref (bv), .null, va_rf (bp), .null]))] := hD
  refine lv_aload_n hx hb dJ5_linkNodeAtEnd_53 rfl (lv_at hl 0 rfl) ?_
  refine lv_ifnonnull (tgt := 65) hx hb dJ5_linkNodeAtEnd_54 (by decide) ?_
  refine lv_aload_n hx hb dJ5_linkNodeAtEnd_65 rfl (lv_at hl 2 rfl) ?_
  refine lv_aload_n hx hb dJ5_linkNodeAtEnd_66 rfl (lv_at hl 0 rfl) ?_
  refine va_put (D := gD G) (ci := 7) (v := .ref (qb)) (ty := .object "java/util/LinkedHashMap$Entry") (C := RJ14) (T := TJ14) (N := 6) hx hb hts in_J14 tyJ14 tyJ14_ok nmJ14 hown hG.K hP hD hS 1 rfl rfl 4 (by decide) (hts _ q520) (fun _ h9 => h9) rfl (by decide +kernel) rfl rfl (Nat.le_of_ble_eq_true rfl) dJ5_linkNodeAtEnd_67 (fun H locs hP hD hS => ?_)
  have hP : wP G [(h, .inr (6, [va_rf (tab), va_rf (en), .int (nI n), .int (mo), .int (th), .float (1061158912), .null, .null, va_rf (hd), .ref (q), .int (0), .int (0)])), (q, .inr (7, [.int (nI k), .ref (gI G k), .ref (gbo G bo), .null, .ref (qb), .null])), (qb, .inr (7, [.int (bk), .ref (bi), .ref (bv), .null, va_rf (bp), .null]))] H := hP
  have hD : va_D A [(h, .inr (6, [va_rf (tab), va_rf (en), .int (nI n), .int (mo), .int (th), .float (1061158912), .null, .null, va_rf (hd), .ref (q), .int (0), .int (0)])), (q, .inr (7, [.int (nI k), .ref (gI G k), .ref (gbo G bo), .null, .ref (qb), .null])), (qb, .inr (7, [.int (bk), .ref (bi), .ref (bv), .null, va_rf (bp), .null]))] := hD
  refine lv_aload_n hx hb dJ5_linkNodeAtEnd_70 rfl (lv_at hl 0 rfl) ?_
  refine lv_aload_n hx hb dJ5_linkNodeAtEnd_71 rfl (lv_at hl 2 rfl) ?_
  refine va_put (D := gD G) (ci := 7) (v := .ref (q)) (ty := .object "java/util/LinkedHashMap$Entry") (C := RJ14) (T := TJ14) (N := 6) hx hb hts in_J14 tyJ14 tyJ14_ok nmJ14 hown hG.K hP hD hS 2 rfl rfl 5 (by decide) (hts _ q522) (fun _ h9 => h9) rfl (by decide +kernel) rfl rfl (Nat.le_of_ble_eq_true rfl) dJ5_linkNodeAtEnd_72 (fun H locs hP hD hS => ?_)
  have hP : wP G [(h, .inr (6, [va_rf (tab), va_rf (en), .int (nI n), .int (mo), .int (th), .float (1061158912), .null, .null, va_rf (hd), .ref (q), .int (0), .int (0)])), (q, .inr (7, [.int (nI k), .ref (gI G k), .ref (gbo G bo), .null, .ref (qb), .null])), (qb, .inr (7, [.int (bk), .ref (bi), .ref (bv), .null, va_rf (bp), .ref (q)]))] H := hP
  have hD : va_D A [(h, .inr (6, [va_rf (tab), va_rf (en), .int (nI n), .int (mo), .int (th), .float (1061158912), .null, .null, va_rf (hd), .ref (q), .int (0), .int (0)])), (q, .inr (7, [.int (nI k), .ref (gI G k), .ref (gbo G bo), .null, .ref (qb), .null])), (qb, .inr (7, [.int (bk), .ref (bi), .ref (bv), .null, va_rf (bp), .ref (q)]))] := hD
  exact ret _ 75 ls _ _ _ _ dJ5_linkNodeAtEnd_75 (Nat.le_of_ble_eq_true rfl) (Nat.le_of_ble_eq_true rfl) hP hD hS (rfl)
theorem pmL {α : Type} (a b c : α) (A : List α) : (a :: ((A ++ [c]) ++ [b])).Perm ([a, b, c] ++ A) := pm_ (fun _ z => by simp only [List.count_append, List.count_cons, List.count_nil]; omega)
theorem metJ5_lk (l : Launch) (G : Gt) (h n : Nat) (tab en : Option Nat) (mo th : Int32) (x : En) (es : List En) (sz : Nat) : CWv l G yJ5_linkNodeAtEnd cJ5_linkNodeAtEnd 3 0 0 0 0 [.ref h, .ref x.1] (moC h tab en n mo th (hdE es none) (lsE none es) :: enO G x :: enW G none es none) sz (fun w1 => w1 = moC h tab en n mo th (hdE (es ++ [x]) none) (some x.1) :: enW G none (es ++ [x]) none) := by
  rcases nil_or_snoc es with rfl | ⟨l1, b, rfl⟩
  · exact metJ5_lk0 l G h n x.1 x.2.1 x.2.2 tab en mo th sz
  · rw [lsE_snoc, enW_snoc]
    refine CWv.postp (CWv.perm ((metJ5_lk1 l G h n x.1 x.2.1 b.1 x.2.2 tab en (hdE (l1 ++ [b]) none) mo th (nI b.2.1) (gI G b.2.1) (gbo G b.2.2) (lsE none l1) sz).frame (enW G none l1 (some b.1))) ?_) ?_
    · exact pm10' _ _ _ _
    · rintro w ⟨w2, rfl, rfl⟩
      refine ⟨_, ?_, rfl⟩
      rw [hdE_sn, enW_snoc, enW_snoc, lsE_snoc]
      exact pmL _ _ _ _
set_option maxHeartbeats 4000000 in
set_option maxRecDepth 100000 in
theorem metJ5_newNode (l : Launch) (G : Gt) (h n k : Nat) (bo : Bool) (tab en : Option Nat) (mo th : Int32) (es : List En) (sz : Nat) : CWq l G yJ5_newNode cJ5_newNode 6 (.object "java/util/HashMap$Node") 3 1 6 60 [.ref (h), .int (nI k), .ref (gI G k), .ref (gbo G bo), .null] ((h, .inr (6, [va_rf (tab), va_rf (en), .int (nI n), .int (mo), .int (th), .float (1061158912), .null, .null, va_rf (hdE es none), va_rf (lsE none es), .int (0), .int (0)])) :: enW G none es none) sz (fun r w1 => ∃ q, r = some q ∧ w1 = ((h, .inr (6, [va_rf (tab), va_rf (en), .int (nI n), .int (mo), .int (th), .float (1061158912), .null, .null, va_rf (hdE (es ++ [(q, k, bo)]) none), .ref (q), .int (0), .int (0)])) :: enW G none (es ++ [(q, k, bo)]) none)) := by
  refine mkWq (by decide) (Nat.le_of_ble_eq_true rfl) (by first | exact Or.inl ⟨_, rfl⟩ | exact Or.inr ⟨_, rfl⟩) ?_
  intro p e s m args below meth c Q A hx hb hts hown hin hml hG hsz hP hD hA hA0 hS ret ls hl
  refine va_new (D := gD G) (ci := 7) (fs := [.int (0), .null, .null, .null, .null, .null]) (C := RJ14) (T := TJ14) (N := 6) hx hb hts in_J14 tyJ14 tyJ14_ok hown (hts _ q511) (hts _ q512) (hts _ q48) hG.K hP hD hS hA rfl (fun j hj => match j, hj with | 0, _ => rfl | 1, _ => rfl | 2, _ => rfl | 3, _ => rfl | 4, _ => rfl | 5, _ => rfl | j + 6, hj => absurd hj (by omega)) (Nat.le_of_ble_eq_true rfl) (Nat.le_of_ble_eq_true rfl) dJ5_newNode_0 (fun o1 H hP hD hS => ?_)
  have hP := wP.perm hP (List.perm_append_singleton _ _).symm
  have hD := va_D.perm hD (List.perm_append_singleton _ _).symm
  have hP : wP G ((o1, .inr (7, [.int (0), .null, .null, .null, .null, .null])) :: (h, .inr (6, [va_rf (tab), va_rf (en), .int (nI n), .int (mo), .int (th), .float (1061158912), .null, .null, va_rf (hdE es none), va_rf (lsE none es), .int (0), .int (0)])) :: enW G none es none) H := hP
  have hD : va_D A ((o1, .inr (7, [.int (0), .null, .null, .null, .null, .null])) :: (h, .inr (6, [va_rf (tab), va_rf (en), .int (nI n), .int (mo), .int (th), .float (1061158912), .null, .null, va_rf (hdE es none), va_rf (lsE none es), .int (0), .int (0)])) :: enW G none es none) := hD
  refine lv_dup hx hb dJ5_newNode_3 rfl ?_
  refine lv_iload_n hx hb dJ5_newNode_4 rfl (lv_at hl 1 rfl) ?_
  refine lv_aload_n hx hb dJ5_newNode_5 rfl (lv_at hl 2 rfl) ?_
  refine lv_aload_n hx hb dJ5_newNode_6 rfl (lv_at hl 3 rfl) ?_
  refine lv_aloadN hx hb dJ5_newNode_7 (lv_at hl 4 rfl) ?_
  have hP := wP.perm (w' := [(o1, .inr (7, [.int (0), .null, .null, .null, .null, .null]))] ++ ((h, .inr (6, [va_rf (tab), va_rf (en), .int (nI n), .int (mo), .int (th), .float (1061158912), .null, .null, va_rf (hdE es none), va_rf (lsE none es), .int (0), .int (0)])) :: enW G none es none)) hP (pm_ (fun _ z => by simp only [List.count_append, List.count_cons, List.count_nil]; omega))
  have hD := va_D.perm (w' := [(o1, .inr (7, [.int (0), .null, .null, .null, .null, .null]))] ++ ((h, .inr (6, [va_rf (tab), va_rf (en), .int (nI n), .int (mo), .int (th), .float (1061158912), .null, .null, va_rf (hdE es none), va_rf (lsE none es), .int (0), .int (0)])) :: enW G none es none)) hD (pm_ (fun _ z => by simp only [List.count_append, List.count_cons, List.count_nil]; omega))
  refine cl_v (wr := ((h, .inr (6, [va_rf (tab), va_rf (en), .int (nI n), .int (mo), .int (th), .float (1061158912), .null, .null, va_rf (hdE es none), va_rf (lsE none es), .int (0), .int (0)])) :: enW G none es none)) (va_runI (As := [.int (nI k), .ref (gI G k), .ref (gbo G bo), .null]) (rest := [.ref (o1)]) ⟨hx, hb, hml, hown, hts⟩ (metJ14_init l G o1 k bo _) (cwI 4 hts (lw_meth q515) rfl rfl rfl (hts _ q48) (hts _ q513) (hts _ q514) rfl (by decide +kernel) ⟨Nat.le_of_ble_eq_true rfl, Nat.le_of_ble_eq_true rfl⟩) (pre_WS (As := [.ref (o1), .int (nI k), .ref (gI G k), .ref (gbo G bo), .null]) hG hP hD hS hA0) rfl rfl hl.1 rfl (lv_room (Nat.le_of_ble_eq_true rfl)) dJ5_newNode_9 ⟨Nat.le_of_ble_eq_true rfl, Nat.le_of_ble_eq_true rfl⟩) hP hD hS hA (fun w1 H locs hp hP hD hS => ?_)
  subst hp
  have hP : wP G ([(o1, .inr (7, [.int (nI k), .ref (gI G k), .ref (gbo G bo), .null, .null, .null]))] ++ ((h, .inr (6, [va_rf (tab), va_rf (en), .int (nI n), .int (mo), .int (th), .float (1061158912), .null, .null, va_rf (hdE es none), va_rf (lsE none es), .int (0), .int (0)])) :: enW G none es none)) H := hP
  have hD : va_D A ([(o1, .inr (7, [.int (nI k), .ref (gI G k), .ref (gbo G bo), .null, .null, .null]))] ++ ((h, .inr (6, [va_rf (tab), va_rf (en), .int (nI n), .int (mo), .int (th), .float (1061158912), .null, .null, va_rf (hdE es none), va_rf (lsE none es), .int (0), .int (0)])) :: enW G none es none)) := hD
  have hP := wP.perm (w' := ((h, .inr (6, [va_rf (tab), va_rf (en), .int (nI n), .int (mo), .int (th), .float (1061158912), .null, .null, va_rf (hdE es none), va_rf (lsE none es), .int (0), .int (0)])) :: (o1, .inr (7, [.int (nI k), .ref (gI G k), .ref (gbo G bo), .null, .null, .null])) :: enW G none es none)) hP (pm_ (fun _ z => by simp only [List.count_append, List.count_cons, List.count_nil]; omega))
  have hD := va_D.perm (w' := ((h, .inr (6, [va_rf (tab), va_rf (en), .int (nI n), .int (mo), .int (th), .float (1061158912), .null, .null, va_rf (hdE es none), va_rf (lsE none es), .int (0), .int (0)])) :: (o1, .inr (7, [.int (nI k), .ref (gI G k), .ref (gbo G bo), .null, .null, .null])) :: enW G none es none)) hD (pm_ (fun _ z => by simp only [List.count_append, List.count_cons, List.count_nil]; omega))
  refine lv_astore (lv' := [(5, .ref (o1)), (0, .ref (h)), (1, .int (nI k)), (2, .ref (gI G k)), (3, .ref (gbo G bo)), (4, .null)]) hx hb dJ5_newNode_12 hl (by decide) rfl (fun ls hl => ?_)
  refine lv_aload_n hx hb dJ5_newNode_14 rfl (lv_at hl 1 rfl) ?_
  refine lv_aload hx hb dJ5_newNode_15 (lv_at hl 0 rfl) ?_
  refine cl_v0 (va_runV (As := [.ref (o1)]) (rest := []) ⟨hx, hb, hml, hown, hts⟩ (metJ5_lk l G h n tab en mo th (o1, k, bo) es _) (cwV 1 hts (lw_V q630 q632 qs7 q35 q633) rfl rfl rfl (by decide +kernel) ⟨Nat.le_of_ble_eq_true rfl, Nat.le_of_ble_eq_true rfl⟩) (pre_WV0 (q0 := 0) hG hP hD hS hA0 rfl rfl) rfl rfl hl.1 rfl (lv_room (Nat.le_of_ble_eq_true rfl)) dJ5_newNode_17 ⟨Nat.le_of_ble_eq_true rfl, Nat.le_of_ble_eq_true rfl⟩) hP hD hS hA (fun w1 H locs hp hP hD hS => ?_)
  subst hp
  have hP : wP G ((h, .inr (6, [va_rf (tab), va_rf (en), .int (nI n), .int (mo), .int (th), .float (1061158912), .null, .null, va_rf (hdE (es ++ [(o1, k, bo)]) none), .ref (o1), .int (0), .int (0)])) :: enW G none (es ++ [(o1, k, bo)]) none) H := hP
  have hD : va_D A ((h, .inr (6, [va_rf (tab), va_rf (en), .int (nI n), .int (mo), .int (th), .float (1061158912), .null, .null, va_rf (hdE (es ++ [(o1, k, bo)]) none), .ref (o1), .int (0), .int (0)])) :: enW G none (es ++ [(o1, k, bo)]) none) := hD
  refine lv_aload hx hb dJ5_newNode_20 (lv_at hl 0 rfl) ?_
  exact ret (some (o1)) _ 22 ls _ _ _ _ dJ5_newNode_22 (Nat.le_of_ble_eq_true rfl) (Nat.le_of_ble_eq_true rfl) hP hD hS (⟨o1, rfl, rfl⟩)
set_option maxHeartbeats 4000000 in
set_option maxRecDepth 100000 in
theorem metJ5_eldest (l : Launch) (G : Gt) (h q : Nat) : CR l G yJ5_removeEldestEntry cJ5_removeEldestEntry 2 .boolean 0 0 [.ref (h), .ref (q)] [] (fun r => r = 0) := by
  refine mkRi (by decide) (Nat.le_of_ble_eq_true rfl) ?_
  intro p e s m args below meth c Q hx hb hts hown hml hG hP hS ret ls hl
  refine lv_iconst (v := 0) hx hb dJ5_removeEldestEntry_0 (by decide) ?_
  exact ret (0) 1 ls dJ5_removeEldestEntry_1 rfl (rfl)
set_option maxHeartbeats 4000000 in
set_option maxRecDepth 100000 in
theorem metJ5_ani (l : Launch) (G : Gt) (h n hd : Nat) (tab en tl : Option Nat) (mo th : Int32) (sz : Nat) : CWv l G yJ5_afterNodeInsertion cJ5_afterNodeInsertion 4 1 0 0 21 [.ref (h), .int (1)] [(h, .inr (6, [va_rf (tab), va_rf (en), .int (nI n), .int (mo), .int (th), .float (1061158912), .null, .null, .ref (hd), va_rf (tl), .int (0), .int (0)]))] sz (fun w1 => w1 = [(h, .inr (6, [va_rf (tab), va_rf (en), .int (nI n), .int (mo), .int (th), .float (1061158912), .null, .null, .ref (hd), va_rf (tl), .int (0), .int (0)]))]) := by
  refine mkWv (by decide) (Nat.le_of_ble_eq_true rfl) ?_
  intro p e s m args below meth c Q A hx hb hts hown hin hml hG hsz hP hD hA hA0 hS ret ls hl
  refine lv_iload_n hx hb dJ5_afterNodeInsertion_0 rfl (lv_at hl 1 rfl) ?_
  refine lv_if_eq (tgt := 39) hx hb dJ5_afterNodeInsertion_1 (by decide) (fun c_1 => absurd c_1 (by decide)) (fun c_1 => ?_)
  refine lv_aload_n hx hb dJ5_afterNodeInsertion_4 rfl (lv_at hl 0 rfl) ?_
  refine va_get (D := gD G) (ci := 6) (v := .ref (hd)) (C := RJ5) (T := TJ5) (N := 12) hx hb hts in_J5 hown hG.K hP 0 rfl rfl 8 (by decide) (hts _ q121) (fun _ h9 => h9) rfl dJ5_afterNodeInsertion_5 ?_
  refine lv_dup hx hb dJ5_afterNodeInsertion_8 rfl ?_
  refine lv_astore_n (lv' := [(2, .ref (hd)), (0, .ref (h)), (1, .int (1))]) hx hb dJ5_afterNodeInsertion_9 rfl hl (by decide) rfl (fun ls hl => ?_)
  refine lv_ifnull hx hb dJ5_afterNodeInsertion_10 ?_
  refine lv_aload_n hx hb dJ5_afterNodeInsertion_13 rfl (lv_at hl 1 rfl) ?_
  refine lv_aload_n hx hb dJ5_afterNodeInsertion_14 rfl (lv_at hl 0 rfl) ?_
  refine vp_callSi (W.runV (As := [.ref (hd)]) (rest := []) ⟨hx, hb, hml, hown, hts⟩ (metJ5_eldest l G h hd) (cwV 1 hts (lw_V q701 q702 q703 q35 q704) rfl rfl rfl (by decide +kernel) ⟨Nat.le_of_ble_eq_true rfl, Nat.le_of_ble_eq_true rfl⟩) (pre_RVo (va_recv hG.K hP (ci := 6) (q0 := 0) rfl rfl) hG (wP.mem (w' := []) hP (fun _ h => absurd h List.not_mem_nil)) hS hA0) rfl rfl hl.1 rfl (lv_room (Nat.le_of_ble_eq_true rfl)) dJ5_afterNodeInsertion_15 ⟨Nat.le_of_ble_eq_true rfl, Nat.le_of_ble_eq_true rfl⟩) (fun r_15 e_15 => ?_)
  subst e_15
  refine lv_if_eq (tgt := 39) hx hb dJ5_afterNodeInsertion_18 (by decide) (fun c_18 => ?_) (fun c_18 => absurd (rfl) c_18)
  exact ret _ 39 ls _ _ _ _ dJ5_afterNodeInsertion_39 (Nat.le_of_ble_eq_true rfl) (Nat.le_of_ble_eq_true rfl) hP hD hS (rfl)
set_option maxHeartbeats 4000000 in
set_option maxRecDepth 100000 in
theorem metJ4_rs0 (l : Launch) (G : Gt) (h n : Nat) (en hd tl : Option Nat) (mo : Int32) (sz : Nat) : CWq l G yJ4_resize cJ4_resize 14 (.array (.object "java/util/HashMap$Node")) 0 1 32 0 [.ref (h)] [(h, .inr (6, [.null, va_rf (en), .int (nI n), .int (mo), .int (0), .float (1061158912), .null, .null, va_rf (hd), va_rf (tl), .int (0), .int (0)]))] sz (fun r w1 => ∃ q, r = some q ∧ w1 = [(h, .inr (6, [.ref (q), va_rf (en), .int (nI n), .int (mo), .int (12), .float (1061158912), .null, .null, va_rf (hd), va_rf (tl), .int (0), .int (0)])), (q, .inl (gA G 5, 16, .inr (.inr (.inr (.inr ((fun _ => none)))))))]) := by
  refine mkWq (by decide) (Nat.le_of_ble_eq_true rfl) (by first | exact Or.inl ⟨_, rfl⟩ | exact Or.inr ⟨_, rfl⟩) ?_
  intro p e s m args below meth c Q A hx hb hts hown hin hml hG hsz hP hD hA hA0 hS ret ls hl
  refine lv_aload_n hx hb dJ4_resize_0 rfl (lv_at hl 0 rfl) ?_
  refine va_get (D := gD G) (ci := 6) (v := .null) (C := RJ5) (T := TJ5) (N := 12) hx hb hts in_J5 hown hG.K hP 0 rfl rfl 0 (by decide) (hts _ q127) (fun _ h9 => h9) rfl dJ4_resize_1 ?_
  refine lv_astore_nN (lv' := [(1, .null), (0, .ref (h))]) hx hb dJ4_resize_4 rfl hl (by decide) rfl (fun ls hl => ?_)
  refine lv_aload_nN hx hb dJ4_resize_5 rfl (lv_at hl 0 rfl) ?_
  refine lv_ifnonnullN hx hb dJ4_resize_6 ?_
  refine lv_iconst (v := 0) hx hb dJ4_resize_9 (by decide) ?_
  refine lv_goto (tgt := 15) hx hb dJ4_resize_10 (by decide) ?_
  refine lv_istore_n (lv' := [(2, .int (0)), (1, .null), (0, .ref (h))]) hx hb dJ4_resize_15 rfl hl (by decide) rfl (fun ls hl => ?_)
  refine lv_aload_n hx hb dJ4_resize_16 rfl (lv_at hl 2 rfl) ?_
  refine va_get (D := gD G) (ci := 6) (v := .int (0)) (C := RJ5) (T := TJ5) (N := 12) hx hb hts in_J5 hown hG.K hP 0 rfl rfl 4 (by decide) (hts _ q137) (fun _ h9 => h9) rfl dJ4_resize_17 ?_
  refine lv_istore_n (lv' := [(3, .int (0)), (2, .int (0)), (1, .null), (0, .ref (h))]) hx hb dJ4_resize_20 rfl hl (by decide) rfl (fun ls hl => ?_)
  refine lv_iconst (v := 0) hx hb dJ4_resize_21 (by decide) ?_
  refine lv_istore (lv' := [(5, .int (0)), (3, .int (0)), (2, .int (0)), (1, .null), (0, .ref (h))]) hx hb dJ4_resize_22 hl (by decide) rfl (fun ls hl => ?_)
  refine lv_iload_n hx hb dJ4_resize_24 rfl (lv_at hl 2 rfl) ?_
  refine lv_if_le (tgt := 67) hx hb dJ4_resize_25 (by decide) (fun c_25 => ?_) (fun c_25 => absurd (by decide) c_25)
  refine lv_iload_n hx hb dJ4_resize_67 rfl (lv_at hl 1 rfl) ?_
  refine lv_if_le (tgt := 77) hx hb dJ4_resize_68 (by decide) (fun c_68 => ?_) (fun c_68 => absurd (by decide) c_68)
  refine lv_bipush (v := 16) hx hb dJ4_resize_77 (by decide) ?_
  refine lv_istore (lv' := [(4, .int (16)), (5, .int (0)), (3, .int (0)), (2, .int (0)), (1, .null), (0, .ref (h))]) hx hb dJ4_resize_79 hl (by decide) rfl (fun ls hl => ?_)
  refine lv_bipush (v := 12) hx hb dJ4_resize_81 (by decide) ?_
  refine lv_istore (lv' := [(5, .int (12)), (4, .int (16)), (3, .int (0)), (2, .int (0)), (1, .null), (0, .ref (h))]) hx hb dJ4_resize_83 hl (by decide) rfl (fun ls hl => ?_)
  refine lv_iload hx hb dJ4_resize_85 (lv_at hl 0 rfl) ?_
  refine lv_if_ne (tgt := 125) hx hb dJ4_resize_87 (by decide) (fun c_87 => ?_) (fun c_87 => absurd c_87 (by decide))
  refine lv_aload_n hx hb dJ4_resize_125 rfl (lv_at hl 5 rfl) ?_
  refine lv_iload hx hb dJ4_resize_126 (lv_at hl 0 rfl) ?_
  refine va_put (D := gD G) (ci := 6) (v := .int (12)) (ty := .int) (C := RJ5) (T := TJ5) (N := 12) hx hb hts in_J5 tyJ5 tyJ5_ok nmJ5 hown hG.K hP hD hS 0 rfl rfl 4 (by decide) (hts _ q137) (fun _ h9 => h9) rfl (by decide +kernel) rfl rfl (Nat.le_of_ble_eq_true rfl) dJ4_resize_128 (fun H locs hP hD hS => ?_)
  have hP : wP G [(h, .inr (6, [.null, va_rf (en), .int (nI n), .int (mo), .int (12), .float (1061158912), .null, .null, va_rf (hd), va_rf (tl), .int (0), .int (0)]))] H := hP
  have hD : va_D A [(h, .inr (6, [.null, va_rf (en), .int (nI n), .int (mo), .int (12), .float (1061158912), .null, .null, va_rf (hd), va_rf (tl), .int (0), .int (0)]))] := hD
  refine lv_iload hx hb dJ4_resize_131 (lv_at hl 1 rfl) ?_
  refine va_newq (D := gD G) (N' := 16) hx hb hown (hts _ q611) (hG.AO q612) hG.K hP hD hS hA (by decide) (by decide) (by decide) (Nat.le_of_ble_eq_true rfl) (Nat.le_of_ble_eq_true rfl) dJ4_resize_133 (fun o1 cA H hK hP hD hS => ?_)
  obtain rfl := arrQ (k := 5) rfl hG hK
  clear hK
  have hP : wP G [(h, .inr (6, [.null, va_rf (en), .int (nI n), .int (mo), .int (12), .float (1061158912), .null, .null, va_rf (hd), va_rf (tl), .int (0), .int (0)])), (o1, .inl (gA G 5, 16, .inr (.inr (.inr (.inr ((fun _ => none)))))))] H := hP
  have hD : va_D A [(h, .inr (6, [.null, va_rf (en), .int (nI n), .int (mo), .int (12), .float (1061158912), .null, .null, va_rf (hd), va_rf (tl), .int (0), .int (0)])), (o1, .inl (gA G 5, 16, .inr (.inr (.inr (.inr ((fun _ => none)))))))] := hD
  refine lv_astore (lv' := [(6, .ref (o1)), (5, .int (12)), (4, .int (16)), (3, .int (0)), (2, .int (0)), (1, .null), (0, .ref (h))]) hx hb dJ4_resize_136 hl (by decide) rfl (fun ls hl => ?_)
  refine lv_aload_n hx hb dJ4_resize_138 rfl (lv_at hl 6 rfl) ?_
  refine lv_aload hx hb dJ4_resize_139 (lv_at hl 0 rfl) ?_
  refine va_put (D := gD G) (ci := 6) (v := .ref (o1)) (ty := .array (.object "java/util/HashMap$Node")) (C := RJ5) (T := TJ5) (N := 12) hx hb hts in_J5 tyJ5 tyJ5_ok nmJ5 hown hG.K hP hD hS 0 rfl rfl 0 (by decide) (hts _ q127) (fun _ h9 => h9) rfl (by decide +kernel) rfl rfl (Nat.le_of_ble_eq_true rfl) dJ4_resize_141 (fun H locs hP hD hS => ?_)
  have hP : wP G [(h, .inr (6, [.ref (o1), va_rf (en), .int (nI n), .int (mo), .int (12), .float (1061158912), .null, .null, va_rf (hd), va_rf (tl), .int (0), .int (0)])), (o1, .inl (gA G 5, 16, .inr (.inr (.inr (.inr ((fun _ => none)))))))] H := hP
  have hD : va_D A [(h, .inr (6, [.ref (o1), va_rf (en), .int (nI n), .int (mo), .int (12), .float (1061158912), .null, .null, va_rf (hd), va_rf (tl), .int (0), .int (0)])), (o1, .inl (gA G 5, 16, .inr (.inr (.inr (.inr ((fun _ => none)))))))] := hD
  refine lv_aload_nN hx hb dJ4_resize_144 rfl (lv_at hl 5 rfl) ?_
  refine lv_ifnullN (tgt := 353) hx hb dJ4_resize_145 (by decide) ?_
  refine lv_aload hx hb dJ4_resize_353 (lv_at hl 0 rfl) ?_
  exact ret (some (o1)) _ 355 ls _ _ _ _ dJ4_resize_355 (Nat.le_of_ble_eq_true rfl) (Nat.le_of_ble_eq_true rfl) hP hD hS (⟨o1, rfl, rfl⟩)
theorem and_31 : ∀ j, j < 16 → j &&& 31 = j := by decide
theorem enC_mem {G : Gt} {es1 es2 : List En} {x : En} {p n : Option Nat} : enC G x (lsE p es1) (hdE es2 n) ∈ enW G p (es1 ++ x :: es2) n := by
  rw [enW_app]
  exact List.mem_append_right _ List.mem_cons_self
theorem rs_g {f g : Nat → Option Nat} {j : Nat} (hj : j < 16) (hg : ∀ i, i < 16 → g i = if i < j then none else f i) : ∀ i, i < 16 → va_up g j none i = if i < j + 1 then none else f i := by
  intro i hi
  by_cases h : i = j
  · rw [h, va_up_self, if_pos (by omega)]
  · rw [va_up_ne _ _ h, hg i hi]
    by_cases h2 : i < j
    · rw [if_pos h2, if_pos (by omega)]
    · rw [if_neg h2, if_neg (by omega)]
theorem rs_f {f g : Nat → Option Nat} {j q : Nat} (hj : f j = some q) (hg : ∀ i, g i = if i < j then f i else none) : ∀ i, va_up g j (some q) i = if i < j + 1 then f i else none := by
  intro i
  by_cases h : i = j
  · rw [h, va_up_self, if_pos (by omega), hj]
  · rw [va_up_ne _ _ h, hg i]
    by_cases h2 : i < j
    · rw [if_pos h2, if_pos (by omega)]
    · rw [if_neg h2, if_neg (by omega)]
theorem rs_g0 {f g : Nat → Option Nat} {j : Nat} (hj : f j = none) (hg : ∀ i, i < 16 → g i = if i < j then none else f i) : ∀ i, i < 16 → g i = if i < j + 1 then none else f i := by
  intro i hi
  rw [hg i hi]
  by_cases h : i = j
  · rw [h, if_neg (by omega), if_pos (by omega), hj]
  · by_cases h2 : i < j
    · rw [if_pos h2, if_pos (by omega)]
    · rw [if_neg h2, if_neg (by omega)]
theorem rs_f0 {f g : Nat → Option Nat} {j : Nat} (hj : f j = none) (hg : ∀ i, g i = if i < j then f i else none) : ∀ i, g i = if i < j + 1 then f i else none := by
  intro i
  rw [hg i]
  by_cases h : i = j
  · rw [h, if_neg (by omega), if_pos (by omega), hj]
  · by_cases h2 : i < j
    · rw [if_pos h2, if_pos (by omega)]
    · rw [if_neg h2, if_neg (by omega)]
set_option maxHeartbeats 4000000 in
set_option maxRecDepth 100000 in
theorem metJ4_rs1 (l : Launch) (G : Gt) (h n t : Nat) (f : Nat → Option Nat) (en hd tl : Option Nat) (mo : Int32) (es : List En) (hf : ∀ j, j < 16 → f j = tbE es j) (sz : Nat) : CWq l G yJ4_resize cJ4_resize 14 (.array (.object "java/util/HashMap$Node")) 0 1 32 0 [.ref (h)] ((h, .inr (6, [.ref (t), va_rf (en), .int (nI n), .int (mo), .int (12), .float (1061158912), .null, .null, va_rf (hd), va_rf (tl), .int (0), .int (0)])) :: (t, .inl (gA G 5, 16, .inr (.inr (.inr (.inr (f)))))) :: enW G none es none) sz (fun r w1 => ∃ q g, r = some q ∧ w1 = ((h, .inr (6, [.ref (q), va_rf (en), .int (nI n), .int (mo), .int (24), .float (1061158912), .null, .null, va_rf (hd), va_rf (tl), .int (0), .int (0)])) :: (q, .inl (gA G 5, 32, .inr (.inr (.inr (.inr (g)))))) :: enW G none es none) ∧ ∀ i, g i = if i < 16 then f i else none) := by
  refine mkWq (by decide) (Nat.le_of_ble_eq_true rfl) (by first | exact Or.inl ⟨_, rfl⟩ | exact Or.inr ⟨_, rfl⟩) ?_
  intro p e s m args below meth c Q A hx hb hts hown hin hml hG hsz hP hD hA hA0 hS ret ls hl
  refine lv_aload_n hx hb dJ4_resize_0 rfl (lv_at hl 0 rfl) ?_
  refine va_get (D := gD G) (ci := 6) (v := .ref (t)) (C := RJ5) (T := TJ5) (N := 12) hx hb hts in_J5 hown hG.K hP 0 rfl rfl 0 (by decide) (hts _ q127) (fun _ h9 => h9) rfl dJ4_resize_1 ?_
  refine lv_astore_n (lv' := [(1, .ref (t)), (0, .ref (h))]) hx hb dJ4_resize_4 rfl hl (by decide) rfl (fun ls hl => ?_)
  refine lv_aload_n hx hb dJ4_resize_5 rfl (lv_at hl 0 rfl) ?_
  refine lv_ifnonnull (tgt := 13) hx hb dJ4_resize_6 (by decide) ?_
  refine lv_aload_n hx hb dJ4_resize_13 rfl (lv_at hl 0 rfl) ?_
  refine va_alen (v := nI (16)) hx hb hG.K hP 1 5 rfl rfl rfl dJ4_resize_14 ?_
  refine lv_istore_n (lv' := [(2, .int (nI (16))), (1, .ref (t)), (0, .ref (h))]) hx hb dJ4_resize_15 rfl hl (by decide) rfl (fun ls hl => ?_)
  refine lv_aload_n hx hb dJ4_resize_16 rfl (lv_at hl 2 rfl) ?_
  refine va_get (D := gD G) (ci := 6) (v := .int (12)) (C := RJ5) (T := TJ5) (N := 12) hx hb hts in_J5 hown hG.K hP 0 rfl rfl 4 (by decide) (hts _ q137) (fun _ h9 => h9) rfl dJ4_resize_17 ?_
  refine lv_istore_n (lv' := [(3, .int (12)), (2, .int (nI (16))), (1, .ref (t)), (0, .ref (h))]) hx hb dJ4_resize_20 rfl hl (by decide) rfl (fun ls hl => ?_)
  refine lv_iconst (v := 0) hx hb dJ4_resize_21 (by decide) ?_
  refine lv_istore (lv' := [(5, .int (0)), (3, .int (12)), (2, .int (nI (16))), (1, .ref (t)), (0, .ref (h))]) hx hb dJ4_resize_22 hl (by decide) rfl (fun ls hl => ?_)
  refine lv_iload_n hx hb dJ4_resize_24 rfl (lv_at hl 2 rfl) ?_
  refine lv_if_le (tgt := 67) hx hb dJ4_resize_25 (by decide) (fun c_25 => absurd c_25 (by decide)) (fun c_25 => ?_)
  refine lv_iload_n hx hb dJ4_resize_28 rfl (lv_at hl 2 rfl) ?_
  refine lv_ldc (v := (1073741824)) hx hb hown (hts _ q608) dJ4_resize_29 ?_
  refine lv_icmp_lt (tgt := 42) hx hb dJ4_resize_31 (by decide) (fun c_31 => ?_) (fun c_31 => absurd (by decide) c_31)
  refine lv_iload_n hx hb dJ4_resize_42 rfl (lv_at hl 2 rfl) ?_
  refine lv_iconst (v := 1) hx hb dJ4_resize_43 (by decide) ?_
  refine lv_ishl hx hb dJ4_resize_44 ?_
  refine top_i (y := nI 32) (by decide) ?_
  refine lv_dup hx hb dJ4_resize_45 rfl ?_
  refine lv_istore (lv' := [(4, .int (nI 32)), (5, .int (0)), (3, .int (12)), (2, .int (nI (16))), (1, .ref (t)), (0, .ref (h))]) hx hb dJ4_resize_46 hl (by decide) rfl (fun ls hl => ?_)
  refine lv_ldc (v := (1073741824)) hx hb hown (hts _ q608) dJ4_resize_48 ?_
  refine lv_icmp_ge (tgt := 85) hx hb dJ4_resize_50 (by decide) (fun c_50 => absurd c_50 (by decide)) (fun c_50 => ?_)
  refine lv_iload_n hx hb dJ4_resize_53 rfl (lv_at hl 3 rfl) ?_
  refine lv_bipush (v := 16) hx hb dJ4_resize_54 (by decide) ?_
  refine lv_icmp_lt (tgt := 85) hx hb dJ4_resize_56 (by decide) (fun c_56 => absurd c_56 (by decide)) (fun c_56 => ?_)
  refine lv_iload_n hx hb dJ4_resize_59 rfl (lv_at hl 2 rfl) ?_
  refine lv_iconst (v := 1) hx hb dJ4_resize_60 (by decide) ?_
  refine lv_ishl hx hb dJ4_resize_61 ?_
  refine top_i (y := 24) (by decide) ?_
  refine lv_istore (lv' := [(5, .int (24)), (4, .int (nI 32)), (3, .int (12)), (2, .int (nI (16))), (1, .ref (t)), (0, .ref (h))]) hx hb dJ4_resize_62 hl (by decide) rfl (fun ls hl => ?_)
  refine lv_goto (tgt := 85) hx hb dJ4_resize_64 (by decide) ?_
  refine lv_iload hx hb dJ4_resize_85 (lv_at hl 0 rfl) ?_
  refine lv_if_ne (tgt := 125) hx hb dJ4_resize_87 (by decide) (fun c_87 => ?_) (fun c_87 => absurd c_87 (by decide))
  refine lv_aload_n hx hb dJ4_resize_125 rfl (lv_at hl 5 rfl) ?_
  refine lv_iload hx hb dJ4_resize_126 (lv_at hl 0 rfl) ?_
  refine va_put (D := gD G) (ci := 6) (v := .int (24)) (ty := .int) (C := RJ5) (T := TJ5) (N := 12) hx hb hts in_J5 tyJ5 tyJ5_ok nmJ5 hown hG.K hP hD hS 0 rfl rfl 4 (by decide) (hts _ q137) (fun _ h9 => h9) rfl (by decide +kernel) rfl rfl (Nat.le_of_ble_eq_true rfl) dJ4_resize_128 (fun H locs hP hD hS => ?_)
  have hP : wP G ((h, .inr (6, [.ref (t), va_rf (en), .int (nI n), .int (mo), .int (24), .float (1061158912), .null, .null, va_rf (hd), va_rf (tl), .int (0), .int (0)])) :: (t, .inl (gA G 5, 16, .inr (.inr (.inr (.inr (f)))))) :: enW G none es none) H := hP
  have hD : va_D A ((h, .inr (6, [.ref (t), va_rf (en), .int (nI n), .int (mo), .int (24), .float (1061158912), .null, .null, va_rf (hd), va_rf (tl), .int (0), .int (0)])) :: (t, .inl (gA G 5, 16, .inr (.inr (.inr (.inr (f)))))) :: enW G none es none) := hD
  refine lv_iload hx hb dJ4_resize_131 (lv_at hl 1 rfl) ?_
  refine va_newq (D := gD G) (N' := 32) hx hb hown (hts _ q611) (hG.AO q612) hG.K hP hD hS hA (by decide) (by decide) (by decide) (Nat.le_of_ble_eq_true rfl) (Nat.le_of_ble_eq_true rfl) dJ4_resize_133 (fun o1 cA H hK hP hD hS => ?_)
  obtain rfl := arrQ (k := 5) rfl hG hK
  clear hK
  have hP := wP.perm hP (List.perm_append_singleton _ _).symm
  have hD := va_D.perm hD (List.perm_append_singleton _ _).symm
  have hP : wP G ((o1, .inl (gA G 5, 32, .inr (.inr (.inr (.inr ((fun _ => none))))))) :: (h, .inr (6, [.ref (t), va_rf (en), .int (nI n), .int (mo), .int (24), .float (1061158912), .null, .null, va_rf (hd), va_rf (tl), .int (0), .int (0)])) :: (t, .inl (gA G 5, 16, .inr (.inr (.inr (.inr (f)))))) :: enW G none es none) H := hP
  have hD : va_D A ((o1, .inl (gA G 5, 32, .inr (.inr (.inr (.inr ((fun _ => none))))))) :: (h, .inr (6, [.ref (t), va_rf (en), .int (nI n), .int (mo), .int (24), .float (1061158912), .null, .null, va_rf (hd), va_rf (tl), .int (0), .int (0)])) :: (t, .inl (gA G 5, 16, .inr (.inr (.inr (.inr (f)))))) :: enW G none es none) := hD
  refine lv_astore (lv' := [(6, .ref (o1)), (5, .int (24)), (4, .int (nI 32)), (3, .int (12)), (2, .int (nI (16))), (1, .ref (t)), (0, .ref (h))]) hx hb dJ4_resize_136 hl (by decide) rfl (fun ls hl => ?_)
  refine lv_aload_n hx hb dJ4_resize_138 rfl (lv_at hl 6 rfl) ?_
  refine lv_aload hx hb dJ4_resize_139 (lv_at hl 0 rfl) ?_
  refine va_put (D := gD G) (ci := 6) (v := .ref (o1)) (ty := .array (.object "java/util/HashMap$Node")) (C := RJ5) (T := TJ5) (N := 12) hx hb hts in_J5 tyJ5 tyJ5_ok nmJ5 hown hG.K hP hD hS 1 rfl rfl 0 (by decide) (hts _ q127) (fun _ h9 => h9) rfl (by decide +kernel) rfl rfl (Nat.le_of_ble_eq_true rfl) dJ4_resize_141 (fun H locs hP hD hS => ?_)
  have hP : wP G ((o1, .inl (gA G 5, 32, .inr (.inr (.inr (.inr ((fun _ => none))))))) :: (h, .inr (6, [.ref (o1), va_rf (en), .int (nI n), .int (mo), .int (24), .float (1061158912), .null, .null, va_rf (hd), va_rf (tl), .int (0), .int (0)])) :: (t, .inl (gA G 5, 16, .inr (.inr (.inr (.inr (f)))))) :: enW G none es none) H := hP
  have hD : va_D A ((o1, .inl (gA G 5, 32, .inr (.inr (.inr (.inr ((fun _ => none))))))) :: (h, .inr (6, [.ref (o1), va_rf (en), .int (nI n), .int (mo), .int (24), .float (1061158912), .null, .null, va_rf (hd), va_rf (tl), .int (0), .int (0)])) :: (t, .inl (gA G 5, 16, .inr (.inr (.inr (.inr (f)))))) :: enW G none es none) := hD
  refine lv_aload_n hx hb dJ4_resize_144 rfl (lv_at hl 5 rfl) ?_
  refine lv_ifnull hx hb dJ4_resize_145 ?_
  have L151 : ∀ (d : Nat) (j : Nat) (v7 : Int32) (g f2 : Nat → Option Nat), j ≤ 16 → 17 ≤ j + d → v7 = nI j → (∀ i, i < 16 → g i = if i < j then none else f i) → (∀ i, f2 i = if i < j then f i else none) → ∀ (H : Heap) (locs : List Loc), wP G ((h, .inr (6, [.ref (o1), va_rf (en), .int (nI n), .int (mo), .int (24), .float (1061158912), .null, .null, va_rf (hd), va_rf (tl), .int (0), .int (0)])) :: (t, .inl (gA G 5, 16, .inr (.inr (.inr (.inr (g)))))) :: (o1, .inl (gA G 5, 32, .inr (.inr (.inr (.inr (f2)))))) :: enW G none es none) H → va_D A ((h, .inr (6, [.ref (o1), va_rf (en), .int (nI n), .int (mo), .int (24), .float (1061158912), .null, .null, va_rf (hd), va_rf (tl), .int (0), .int (0)])) :: (t, .inl (gA G 5, 16, .inr (.inr (.inr (.inr (g)))))) :: (o1, .inl (gA G 5, 32, .inr (.inr (.inr (.inr (f2)))))) :: enW G none es none) → va_S A s.heap H locs → ∀ ls : Array Slot, lv_has ls 14 [(7, .int (v7)), (6, .ref (o1)), (5, .int (24)), (4, .int (nI 32)), (3, .int (12)), (2, .int (nI 16)), (1, .ref (t)), (0, .ref (h))] → W p l e (rm_ 0 1 32 0) s m args below meth c H locs 1 32 Q (F0 m 151 ls []) := by
    intro d
    induction d with
    | zero => intros; omega
    | succ d ih_151 =>
      intro j v7 g f2 hj hd9 e7 hg hf2 H locs hP hD hS ls hl
      subst e7
      refine lv_iload hx hb dJ4_resize_151 (lv_at hl 0 rfl) ?_
      refine lv_iload_n hx hb dJ4_resize_153 rfl (lv_at hl 5 rfl) ?_
      refine lv_icmp_ge (tgt := 353) hx hb dJ4_resize_154 (by decide) (fun c_154 => ?_) (fun c_154 => ?_)
      · have h154 : j = 16 := by have := nI_ge' (a := j) (b := 16) c_154; omega
        refine lv_aload hx hb dJ4_resize_353 (lv_at hl 1 rfl) ?_
        have hP := (wP.perm (w' := [(t, .inl (gA G 5, 16, .inr (.inr (.inr (.inr (g))))))] ++ ((h, .inr (6, [.ref (o1), va_rf (en), .int (nI n), .int (mo), .int (24), .float (1061158912), .null, .null, va_rf (hd), va_rf (tl), .int (0), .int (0)])) :: (o1, .inl (gA G 5, 32, .inr (.inr (.inr (.inr (f2)))))) :: enW G none es none)) hP (pm_ (fun _ z => by simp only [List.count_append, List.count_cons, List.count_nil]; omega))).right
        have hD := (va_D.perm (w' := [(t, .inl (gA G 5, 16, .inr (.inr (.inr (.inr (g))))))] ++ ((h, .inr (6, [.ref (o1), va_rf (en), .int (nI n), .int (mo), .int (24), .float (1061158912), .null, .null, va_rf (hd), va_rf (tl), .int (0), .int (0)])) :: (o1, .inl (gA G 5, 32, .inr (.inr (.inr (.inr (f2)))))) :: enW G none es none)) hD (pm_ (fun _ z => by simp only [List.count_append, List.count_cons, List.count_nil]; omega))).right
        exact ret (some (o1)) _ 355 ls _ _ _ _ dJ4_resize_355 (Nat.le_of_ble_eq_true rfl) (Nat.le_of_ble_eq_true rfl) hP hD hS (by subst h154; exact ⟨o1, f2, rfl, rfl, hf2⟩)
      · have h154 : j < 16 := nI_nge (a := j) (b := 16) c_154
        refine lv_aload_n hx hb dJ4_resize_157 rfl (lv_at hl 6 rfl) ?_
        refine lv_iload hx hb dJ4_resize_158 (lv_at hl 0 rfl) ?_
        refine qa_ld (j := j) hx hb hG.K hP 1 5 rfl rfl (by omega) (by omega) dJ4_resize_160 ?_
        refine top_q (y := f j) (by rw [hg j h154, if_neg (by omega)]) ?_
        rcases hfj : f j with _ | q
        · skip
          refine lv_dup hx hb dJ4_resize_161 rfl ?_
          refine lv_astoreN (lv' := [(8, .null), (7, .int (nI j)), (6, .ref (o1)), (5, .int (24)), (4, .int (nI 32)), (3, .int (12)), (2, .int (nI 16)), (1, .ref (t)), (0, .ref (h))]) hx hb dJ4_resize_162 hl (by decide) rfl (fun ls hl => ?_)
          refine lv_ifnullN (tgt := 347) hx hb dJ4_resize_164 (by decide) ?_
          refine lv_iinc (v := nI (j + 1)) (lv' := [(7, .int (nI (j + 1))), (8, .null), (6, .ref (o1)), (5, .int (24)), (4, .int (nI 32)), (3, .int (12)), (2, .int (nI 16)), (1, .ref (t)), (0, .ref (h))]) hx hb dJ4_resize_347 hl (k := 1) rfl (nI_1 j) (by decide) rfl (fun ls hl => ?_)
          refine lv_goto (tgt := 151) hx hb dJ4_resize_350 (by decide) ?_
          exact ih_151 (j + 1) _ _ _ (by omega) (by omega) rfl (rs_g0 hfj hg) (rs_f0 hfj hf2) _ _ hP hD hS ls (lv_sub hl [0, 2, 3, 4, 5, 6, 7, 8] rfl)
        · skip
          obtain ⟨es1, bo, es2, hes⟩ := tbE_some ((hf j h154).symm.trans hfj)
          have hme : enC G (q, j, bo) (lsE none es1) (hdE es2 none) ∈ enW G none es none := by rw [hes]; exact enC_mem
          refine lv_dup hx hb dJ4_resize_161 rfl ?_
          refine lv_astore (lv' := [(8, .ref (q)), (7, .int (nI j)), (6, .ref (o1)), (5, .int (24)), (4, .int (nI 32)), (3, .int (12)), (2, .int (nI 16)), (1, .ref (t)), (0, .ref (h))]) hx hb dJ4_resize_162 hl (by decide) rfl (fun ls hl => ?_)
          refine lv_ifnull hx hb dJ4_resize_164 ?_
          refine lv_aload_n hx hb dJ4_resize_167 rfl (lv_at hl 7 rfl) ?_
          refine lv_iload hx hb dJ4_resize_168 (lv_at hl 1 rfl) ?_
          refine lv_null hx hb dJ4_resize_170 ?_
          refine qa_sn (j := j) hx hb hG.K hP hD hS 1 5 rfl rfl (by omega) (by omega) dJ4_resize_171 (fun H locs hP hD hS => ?_)
          have hP : wP G ((h, .inr (6, [.ref (o1), va_rf (en), .int (nI n), .int (mo), .int (24), .float (1061158912), .null, .null, va_rf (hd), va_rf (tl), .int (0), .int (0)])) :: (t, .inl (gA G 5, 16, .inr (.inr (.inr (.inr (va_up g (j) none)))))) :: (o1, .inl (gA G 5, 32, .inr (.inr (.inr (.inr (f2)))))) :: enW G none es none) H := hP
          have hD : va_D A ((h, .inr (6, [.ref (o1), va_rf (en), .int (nI n), .int (mo), .int (24), .float (1061158912), .null, .null, va_rf (hd), va_rf (tl), .int (0), .int (0)])) :: (t, .inl (gA G 5, 16, .inr (.inr (.inr (.inr (va_up g (j) none)))))) :: (o1, .inl (gA G 5, 32, .inr (.inr (.inr (.inr (f2)))))) :: enW G none es none) := hD
          refine lv_aload hx hb dJ4_resize_172 (lv_at hl 0 rfl) ?_
          obtain ⟨kx, hkx⟩ := List.getElem?_of_mem (show (q, .inr (7, [.int (nI j), .ref (gI G j), .ref (gbo G bo), .null, va_rf (lsE none es1), va_rf (hdE es2 none)])) ∈ ((h, .inr (6, [.ref (o1), va_rf (en), .int (nI n), .int (mo), .int (24), .float (1061158912), .null, .null, va_rf (hd), va_rf (tl), .int (0), .int (0)])) :: (t, .inl (gA G 5, 16, .inr (.inr (.inr (.inr (va_up g (j) none)))))) :: (o1, .inl (gA G 5, 32, .inr (.inr (.inr (.inr (f2)))))) :: enW G none es none) from List.mem_cons_of_mem _ (List.mem_cons_of_mem _ (List.mem_cons_of_mem _ hme)))
          refine va_get (D := gD G) (ci := 7) (v := .null) (C := RJ14) (T := TJ14) (N := 6) hx hb hts in_J14 hown hG.K hP kx hkx rfl 3 (by decide) (hts _ q544) (fun _ h9 => h9) rfl dJ4_resize_174 ?_
          refine lv_ifnonnullN hx hb dJ4_resize_177 ?_
          refine lv_aload hx hb dJ4_resize_180 (lv_at hl 2 rfl) ?_
          refine lv_aload hx hb dJ4_resize_182 (lv_at hl 0 rfl) ?_
          obtain ⟨kx, hkx⟩ := List.getElem?_of_mem (show (q, .inr (7, [.int (nI j), .ref (gI G j), .ref (gbo G bo), .null, va_rf (lsE none es1), va_rf (hdE es2 none)])) ∈ ((h, .inr (6, [.ref (o1), va_rf (en), .int (nI n), .int (mo), .int (24), .float (1061158912), .null, .null, va_rf (hd), va_rf (tl), .int (0), .int (0)])) :: (t, .inl (gA G 5, 16, .inr (.inr (.inr (.inr (va_up g (j) none)))))) :: (o1, .inl (gA G 5, 32, .inr (.inr (.inr (.inr (f2)))))) :: enW G none es none) from List.mem_cons_of_mem _ (List.mem_cons_of_mem _ (List.mem_cons_of_mem _ hme)))
          refine va_get (D := gD G) (ci := 7) (v := .int (nI j)) (C := RJ14) (T := TJ14) (N := 6) hx hb hts in_J14 hown hG.K hP kx hkx rfl 0 (by decide) (hts _ q529) (fun _ h9 => h9) rfl dJ4_resize_184 ?_
          refine lv_iload hx hb dJ4_resize_187 (lv_at hl 4 rfl) ?_
          refine lv_iconst (v := 1) hx hb dJ4_resize_189 (by decide) ?_
          refine lv_isub hx hb dJ4_resize_190 ?_
          refine top_i (y := nI 31) (by decide) ?_
          refine lv_iand hx hb dJ4_resize_191 ?_
          refine top_i (y := nI j) (by rw [nx_and, and_31 j h154]) ?_
          refine lv_aload hx hb dJ4_resize_192 (lv_at hl 0 rfl) ?_
          refine qa_st (j := j) hx hb hG.K hP hD hS 2 5 rfl rfl (any_of hG hP (List.mem_cons_of_mem _ (List.mem_cons_of_mem _ (List.mem_cons_of_mem _ hme))) rfl q1369) (by omega) (by omega) dJ4_resize_194 (fun H locs hP hD hS => ?_)
          have hP : wP G ((h, .inr (6, [.ref (o1), va_rf (en), .int (nI n), .int (mo), .int (24), .float (1061158912), .null, .null, va_rf (hd), va_rf (tl), .int (0), .int (0)])) :: (t, .inl (gA G 5, 16, .inr (.inr (.inr (.inr (va_up g (j) none)))))) :: (o1, .inl (gA G 5, 32, .inr (.inr (.inr (.inr (va_up f2 (j) (some (q)))))))) :: enW G none es none) H := hP
          have hD : va_D A ((h, .inr (6, [.ref (o1), va_rf (en), .int (nI n), .int (mo), .int (24), .float (1061158912), .null, .null, va_rf (hd), va_rf (tl), .int (0), .int (0)])) :: (t, .inl (gA G 5, 16, .inr (.inr (.inr (.inr (va_up g (j) none)))))) :: (o1, .inl (gA G 5, 32, .inr (.inr (.inr (.inr (va_up f2 (j) (some (q)))))))) :: enW G none es none) := hD
          refine lv_goto (tgt := 347) hx hb dJ4_resize_195 (by decide) ?_
          refine lv_iinc (v := nI (j + 1)) (lv' := [(7, .int (nI (j + 1))), (8, .ref (q)), (6, .ref (o1)), (5, .int (24)), (4, .int (nI 32)), (3, .int (12)), (2, .int (nI 16)), (1, .ref (t)), (0, .ref (h))]) hx hb dJ4_resize_347 hl (k := 1) rfl (nI_1 j) (by decide) rfl (fun ls hl => ?_)
          refine lv_goto (tgt := 151) hx hb dJ4_resize_350 (by decide) ?_
          exact ih_151 (j + 1) _ _ _ (by omega) (by omega) rfl (rs_g h154 hg) (rs_f hfj hf2) _ _ hP hD hS ls (lv_sub hl [0, 2, 3, 4, 5, 6, 7, 8] rfl)
  have hP := wP.perm (w' := ((h, .inr (6, [.ref (o1), va_rf (en), .int (nI n), .int (mo), .int (24), .float (1061158912), .null, .null, va_rf (hd), va_rf (tl), .int (0), .int (0)])) :: (t, .inl (gA G 5, 16, .inr (.inr (.inr (.inr (f)))))) :: (o1, .inl (gA G 5, 32, .inr (.inr (.inr (.inr ((fun _ => none))))))) :: enW G none es none)) hP (pm_ (fun _ z => by simp only [List.count_append, List.count_cons, List.count_nil]; omega))
  have hD := va_D.perm (w' := ((h, .inr (6, [.ref (o1), va_rf (en), .int (nI n), .int (mo), .int (24), .float (1061158912), .null, .null, va_rf (hd), va_rf (tl), .int (0), .int (0)])) :: (t, .inl (gA G 5, 16, .inr (.inr (.inr (.inr (f)))))) :: (o1, .inl (gA G 5, 32, .inr (.inr (.inr (.inr ((fun _ => none))))))) :: enW G none es none)) hD (pm_ (fun _ z => by simp only [List.count_append, List.count_cons, List.count_nil]; omega))
  refine lv_iconst (v := 0) hx hb dJ4_resize_148 (by decide) ?_
  refine lv_istore (lv' := [(7, .int (0)), (6, .ref (o1)), (5, .int (24)), (4, .int (nI 32)), (3, .int (12)), (2, .int (nI (16))), (1, .ref (t)), (0, .ref (h))]) hx hb dJ4_resize_149 hl (by decide) rfl (fun ls hl => ?_)
  exact L151 17 0 _ f (fun _ => none) (by omega) (by omega) rfl (fun i hi => by rw [if_neg (by omega)]) (fun i => by rw [if_neg (by omega)]) _ _ hP hD hS ls hl
