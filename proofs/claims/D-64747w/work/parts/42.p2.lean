theorem CWv.postp {l : Launch} {G : Gt} {y : MethodName} {b : ByteArray} {L : Nat} {fr ce sl lo : Nat} {av : List Value} {w0 : va_W} {sz : Nat} {post post' : va_W → Prop} (h : CWv l G y b L fr ce sl lo av w0 sz post) (hp : ∀ w, post w → ∃ w', w'.Perm w ∧ post' w') : CWv l G y b L fr ce sl lo av w0 sz post' :=
  Met.post_ h (fun a U o t hq => by
    obtain ⟨⟨u, h1, h2, h3⟩, h4⟩ := hq
    obtain ⟨w', g1, g2⟩ := hp u h2
    exact ⟨⟨w', h1, g2, h3.1.perm g1, h3.2.perm g1⟩, h4⟩)
theorem CWi.postp {l : Launch} {G : Gt} {y : MethodName} {b : ByteArray} {L : Nat} {r : FieldType} {fr ce sl lo : Nat} {av : List Value} {w0 : va_W} {sz : Nat} {post post' : Int32 → va_W → Prop} (h : CWi l G y b L r fr ce sl lo av w0 sz post) (hp : ∀ rv w, post rv w → ∃ w', w'.Perm w ∧ post' rv w') : CWi l G y b L r fr ce sl lo av w0 sz post' :=
  Met.post_ h (fun a U o t hq => by
    obtain ⟨⟨rv, u, h1, h2, h3⟩, h4⟩ := hq
    obtain ⟨w', g1, g2⟩ := hp rv u h2
    exact ⟨⟨rv, w', h1, g2, h3.1.perm g1, h3.2.perm g1⟩, h4⟩)
theorem CWq.postp {l : Launch} {G : Gt} {y : MethodName} {b : ByteArray} {L : Nat} {r : FieldType} {fr ce sl lo : Nat} {av : List Value} {w0 : va_W} {sz : Nat} {post post' : Option Nat → va_W → Prop} (h : CWq l G y b L r fr ce sl lo av w0 sz post) (hp : ∀ rv w, post rv w → ∃ w', w'.Perm w ∧ post' rv w') : CWq l G y b L r fr ce sl lo av w0 sz post' :=
  Met.post_ h (fun a U o t hq => by
    obtain ⟨⟨rv, u, h1, h2, h3⟩, h4⟩ := hq
    obtain ⟨w', g1, g2⟩ := hp rv u h2
    exact ⟨⟨rv, w', h1, g2, h3.1.perm g1, h3.2.perm g1⟩, h4⟩)
theorem CWl.postp {l : Launch} {G : Gt} {y : MethodName} {b : ByteArray} {L : Nat} {fr ce sl lo : Nat} {av : List Value} {w0 : va_W} {sz : Nat} {post post' : Int64 → va_W → Prop} (h : CWl l G y b L fr ce sl lo av w0 sz post) (hp : ∀ rv w, post rv w → ∃ w', w'.Perm w ∧ post' rv w') : CWl l G y b L fr ce sl lo av w0 sz post' :=
  Met.post_ h (fun a U o t hq => by
    obtain ⟨⟨rv, u, h1, h2, h3⟩, h4⟩ := hq
    obtain ⟨w', g1, g2⟩ := hp rv u h2
    exact ⟨⟨rv, w', h1, g2, h3.1.perm g1, h3.2.perm g1⟩, h4⟩)
set_option maxHeartbeats 4000000 in
set_option maxRecDepth 100000 in
theorem metJ5_anr00 (l : Launch) (G : Gt) (h n q : Nat) (tab en hd tl : Option Nat) (mo th ek : Int32) (ei ev : Nat) (sz : Nat) : CWv l G yJ5_afterNodeRemoval cJ5_afterNodeRemoval 5 0 0 0 0 [.ref (h), .ref (q)] [(h, .inr (6, [va_rf (tab), va_rf (en), .int (nI n), .int (mo), .int (th), .float (1061158912), .null, .null, va_rf (hd), va_rf (tl), .int (0), .int (0)])), (q, .inr (7, [.int (ek), .ref (ei), .ref (ev), .null, .null, .null]))] sz (fun w1 => w1 = [(h, .inr (6, [va_rf (tab), va_rf (en), .int (nI n), .int (mo), .int (th), .float (1061158912), .null, .null, .null, .null, .int (0), .int (0)])), (q, .inr (7, [.int (ek), .ref (ei), .ref (ev), .null, .null, .null]))]) := by
  refine mkWv (by decide) (Nat.le_of_ble_eq_true rfl) ?_
  intro p e s m args below meth c Q A hx hb hts hown hin hml hG hsz hP hD hA hA0 hS ret ls hl
  refine lv_aload_n hx hb dJ5_afterNodeRemoval_0 rfl (lv_at hl 1 rfl) ?_
  refine va_castS hx hb hown (hts _ q511) (hG.K.1 7 _ rfl).2 (va_recv hG.K hP (ci := 7) (q0 := 1) rfl rfl) dJ5_afterNodeRemoval_1 ?_
  refine lv_astore_n (lv' := [(2, .ref (q)), (0, .ref (h)), (1, .ref (q))]) hx hb dJ5_afterNodeRemoval_4 rfl hl (by decide) rfl (fun ls hl => ?_)
  refine lv_aload_n hx hb dJ5_afterNodeRemoval_5 rfl (lv_at hl 0 rfl) ?_
  refine va_get (D := gD G) (ci := 7) (v := .null) (C := RJ14) (T := TJ14) (N := 6) hx hb hts in_J14 hown hG.K hP 1 rfl rfl 4 (by decide) (hts _ q520) (fun _ h9 => h9) rfl dJ5_afterNodeRemoval_6 ?_
  refine lv_astore_nN (lv' := [(3, .null), (2, .ref (q)), (0, .ref (h)), (1, .ref (q))]) hx hb dJ5_afterNodeRemoval_9 rfl hl (by decide) rfl (fun ls hl => ?_)
  refine lv_aload_n hx hb dJ5_afterNodeRemoval_10 rfl (lv_at hl 1 rfl) ?_
  refine va_get (D := gD G) (ci := 7) (v := .null) (C := RJ14) (T := TJ14) (N := 6) hx hb hts in_J14 hown hG.K hP 1 rfl rfl 5 (by decide) (hts _ q522) (fun _ h9 => h9) rfl dJ5_afterNodeRemoval_11 ?_
  refine lv_astoreN (lv' := [(4, .null), (3, .null), (2, .ref (q)), (0, .ref (h)), (1, .ref (q))]) hx hb dJ5_afterNodeRemoval_14 hl (by decide) rfl (fun ls hl => ?_)
  refine lv_aload_n hx hb dJ5_afterNodeRemoval_16 rfl (lv_at hl 2 rfl) ?_
  refine lv_aload_n hx hb dJ5_afterNodeRemoval_17 rfl (lv_at hl 2 rfl) ?_
  refine lv_null hx hb dJ5_afterNodeRemoval_18 ?_
  refine lv_dup_x1 hx hb dJ5_afterNodeRemoval_19 rfl rfl ?_
  refine va_put (D := gD G) (ci := 7) (v := .null) (ty := .object "java/util/LinkedHashMap$Entry") (C := RJ14) (T := TJ14) (N := 6) hx hb hts in_J14 tyJ14 tyJ14_ok nmJ14 hown hG.K hP hD hS 1 rfl rfl 5 (by decide) (hts _ q522) (fun _ h9 => h9) rfl (by decide +kernel) rfl rfl (Nat.le_of_ble_eq_true rfl) dJ5_afterNodeRemoval_20 (fun H locs hP hD hS => ?_)
  have hP : wP G [(h, .inr (6, [va_rf (tab), va_rf (en), .int (nI n), .int (mo), .int (th), .float (1061158912), .null, .null, va_rf (hd), va_rf (tl), .int (0), .int (0)])), (q, .inr (7, [.int (ek), .ref (ei), .ref (ev), .null, .null, .null]))] H := hP
  have hD : va_D A [(h, .inr (6, [va_rf (tab), va_rf (en), .int (nI n), .int (mo), .int (th), .float (1061158912), .null, .null, va_rf (hd), va_rf (tl), .int (0), .int (0)])), (q, .inr (7, [.int (ek), .ref (ei), .ref (ev), .null, .null, .null]))] := hD
  refine va_put (D := gD G) (ci := 7) (v := .null) (ty := .object "java/util/LinkedHashMap$Entry") (C := RJ14) (T := TJ14) (N := 6) hx hb hts in_J14 tyJ14 tyJ14_ok nmJ14 hown hG.K hP hD hS 1 rfl rfl 4 (by decide) (hts _ q520) (fun _ h9 => h9) rfl (by decide +kernel) rfl rfl (Nat.le_of_ble_eq_true rfl) dJ5_afterNodeRemoval_23 (fun H locs hP hD hS => ?_)
  have hP : wP G [(h, .inr (6, [va_rf (tab), va_rf (en), .int (nI n), .int (mo), .int (th), .float (1061158912), .null, .null, va_rf (hd), va_rf (tl), .int (0), .int (0)])), (q, .inr (7, [.int (ek), .ref (ei), .ref (ev), .null, .null, .null]))] H := hP
  have hD : va_D A [(h, .inr (6, [va_rf (tab), va_rf (en), .int (nI n), .int (mo), .int (th), .float (1061158912), .null, .null, va_rf (hd), va_rf (tl), .int (0), .int (0)])), (q, .inr (7, [.int (ek), .ref (ei), .ref (ev), .null, .null, .null]))] := hD
  refine lv_aload_nN hx hb dJ5_afterNodeRemoval_26 rfl (lv_at hl 1 rfl) ?_
  refine lv_ifnonnullN hx hb dJ5_afterNodeRemoval_27 ?_
  refine lv_aload_n hx hb dJ5_afterNodeRemoval_30 rfl (lv_at hl 3 rfl) ?_
  refine lv_aloadN hx hb dJ5_afterNodeRemoval_31 (lv_at hl 0 rfl) ?_
  refine va_put (D := gD G) (ci := 6) (v := .null) (ty := .object "java/util/LinkedHashMap$Entry") (C := RJ5) (T := TJ5) (N := 12) hx hb hts in_J5 tyJ5 tyJ5_ok nmJ5 hown hG.K hP hD hS 0 rfl rfl 8 (by decide) (hts _ q121) (fun _ h9 => h9) rfl (by decide +kernel) rfl rfl (Nat.le_of_ble_eq_true rfl) dJ5_afterNodeRemoval_33 (fun H locs hP hD hS => ?_)
  have hP : wP G [(h, .inr (6, [va_rf (tab), va_rf (en), .int (nI n), .int (mo), .int (th), .float (1061158912), .null, .null, .null, va_rf (tl), .int (0), .int (0)])), (q, .inr (7, [.int (ek), .ref (ei), .ref (ev), .null, .null, .null]))] H := hP
  have hD : va_D A [(h, .inr (6, [va_rf (tab), va_rf (en), .int (nI n), .int (mo), .int (th), .float (1061158912), .null, .null, .null, va_rf (tl), .int (0), .int (0)])), (q, .inr (7, [.int (ek), .ref (ei), .ref (ev), .null, .null, .null]))] := hD
  refine lv_goto (tgt := 45) hx hb dJ5_afterNodeRemoval_36 (by decide) ?_
  refine lv_aloadN hx hb dJ5_afterNodeRemoval_45 (lv_at hl 0 rfl) ?_
  refine lv_ifnonnullN hx hb dJ5_afterNodeRemoval_47 ?_
  refine lv_aload_n hx hb dJ5_afterNodeRemoval_50 rfl (lv_at hl 3 rfl) ?_
  refine lv_aload_nN hx hb dJ5_afterNodeRemoval_51 rfl (lv_at hl 1 rfl) ?_
  refine va_put (D := gD G) (ci := 6) (v := .null) (ty := .object "java/util/LinkedHashMap$Entry") (C := RJ5) (T := TJ5) (N := 12) hx hb hts in_J5 tyJ5 tyJ5_ok nmJ5 hown hG.K hP hD hS 0 rfl rfl 9 (by decide) (hts _ q124) (fun _ h9 => h9) rfl (by decide +kernel) rfl rfl (Nat.le_of_ble_eq_true rfl) dJ5_afterNodeRemoval_52 (fun H locs hP hD hS => ?_)
  have hP : wP G [(h, .inr (6, [va_rf (tab), va_rf (en), .int (nI n), .int (mo), .int (th), .float (1061158912), .null, .null, .null, .null, .int (0), .int (0)])), (q, .inr (7, [.int (ek), .ref (ei), .ref (ev), .null, .null, .null]))] H := hP
  have hD : va_D A [(h, .inr (6, [va_rf (tab), va_rf (en), .int (nI n), .int (mo), .int (th), .float (1061158912), .null, .null, .null, .null, .int (0), .int (0)])), (q, .inr (7, [.int (ek), .ref (ei), .ref (ev), .null, .null, .null]))] := hD
  refine lv_goto (tgt := 64) hx hb dJ5_afterNodeRemoval_55 (by decide) ?_
  exact ret _ 64 ls _ _ _ _ dJ5_afterNodeRemoval_64 (Nat.le_of_ble_eq_true rfl) (Nat.le_of_ble_eq_true rfl) hP hD hS (rfl)
set_option maxHeartbeats 4000000 in
set_option maxRecDepth 100000 in
theorem metJ5_anr01 (l : Launch) (G : Gt) (h n q : Nat) (tab en hd tl : Option Nat) (mo th ek : Int32) (ei ev : Nat) (qa : Nat) (nk : Int32) (ni nv : Nat) (ap : Option Nat) (sz : Nat) : CWv l G yJ5_afterNodeRemoval cJ5_afterNodeRemoval 5 0 0 0 0 [.ref (h), .ref (q)] [(h, .inr (6, [va_rf (tab), va_rf (en), .int (nI n), .int (mo), .int (th), .float (1061158912), .null, .null, va_rf (hd), va_rf (tl), .int (0), .int (0)])), (q, .inr (7, [.int (ek), .ref (ei), .ref (ev), .null, .null, .ref (qa)])), (qa, .inr (7, [.int (nk), .ref (ni), .ref (nv), .null, .ref (q), va_rf (ap)]))] sz (fun w1 => w1 = [(h, .inr (6, [va_rf (tab), va_rf (en), .int (nI n), .int (mo), .int (th), .float (1061158912), .null, .null, .ref (qa), va_rf (tl), .int (0), .int (0)])), (q, .inr (7, [.int (ek), .ref (ei), .ref (ev), .null, .null, .null])), (qa, .inr (7, [.int (nk), .ref (ni), .ref (nv), .null, .null, va_rf (ap)]))]) := by
  refine mkWv (by decide) (Nat.le_of_ble_eq_true rfl) ?_
  intro p e s m args below meth c Q A hx hb hts hown hin hml hG hsz hP hD hA hA0 hS ret ls hl
  refine lv_aload_n hx hb dJ5_afterNodeRemoval_0 rfl (lv_at hl 1 rfl) ?_
  refine va_castS hx hb hown (hts _ q511) (hG.K.1 7 _ rfl).2 (va_recv hG.K hP (ci := 7) (q0 := 1) rfl rfl) dJ5_afterNodeRemoval_1 ?_
  refine lv_astore_n (lv' := [(2, .ref (q)), (0, .ref (h)), (1, .ref (q))]) hx hb dJ5_afterNodeRemoval_4 rfl hl (by decide) rfl (fun ls hl => ?_)
  refine lv_aload_n hx hb dJ5_afterNodeRemoval_5 rfl (lv_at hl 0 rfl) ?_
  refine va_get (D := gD G) (ci := 7) (v := .null) (C := RJ14) (T := TJ14) (N := 6) hx hb hts in_J14 hown hG.K hP 1 rfl rfl 4 (by decide) (hts _ q520) (fun _ h9 => h9) rfl dJ5_afterNodeRemoval_6 ?_
  refine lv_astore_nN (lv' := [(3, .null), (2, .ref (q)), (0, .ref (h)), (1, .ref (q))]) hx hb dJ5_afterNodeRemoval_9 rfl hl (by decide) rfl (fun ls hl => ?_)
  refine lv_aload_n hx hb dJ5_afterNodeRemoval_10 rfl (lv_at hl 1 rfl) ?_
  refine va_get (D := gD G) (ci := 7) (v := .ref (qa)) (C := RJ14) (T := TJ14) (N := 6) hx hb hts in_J14 hown hG.K hP 1 rfl rfl 5 (by decide) (hts _ q522) (fun _ h9 => h9) rfl dJ5_afterNodeRemoval_11 ?_
  refine lv_astore (lv' := [(4, .ref (qa)), (3, .null), (2, .ref (q)), (0, .ref (h)), (1, .ref (q))]) hx hb dJ5_afterNodeRemoval_14 hl (by decide) rfl (fun ls hl => ?_)
  refine lv_aload_n hx hb dJ5_afterNodeRemoval_16 rfl (lv_at hl 2 rfl) ?_
  refine lv_aload_n hx hb dJ5_afterNodeRemoval_17 rfl (lv_at hl 2 rfl) ?_
  refine lv_null hx hb dJ5_afterNodeRemoval_18 ?_
  refine lv_dup_x1 hx hb dJ5_afterNodeRemoval_19 rfl rfl ?_
  refine va_put (D := gD G) (ci := 7) (v := .null) (ty := .object "java/util/LinkedHashMap$Entry") (C := RJ14) (T := TJ14) (N := 6) hx hb hts in_J14 tyJ14 tyJ14_ok nmJ14 hown hG.K hP hD hS 1 rfl rfl 5 (by decide) (hts _ q522) (fun _ h9 => h9) rfl (by decide +kernel) rfl rfl (Nat.le_of_ble_eq_true rfl) dJ5_afterNodeRemoval_20 (fun H locs hP hD hS => ?_)
  have hP : wP G [(h, .inr (6, [va_rf (tab), va_rf (en), .int (nI n), .int (mo), .int (th), .float (1061158912), .null, .null, va_rf (hd), va_rf (tl), .int (0), .int (0)])), (q, .inr (7, [.int (ek), .ref (ei), .ref (ev), .null, .null, .null])), (qa, .inr (7, [.int (nk), .ref (ni), .ref (nv), .null, .ref (q), va_rf (ap)]))] H := hP
  have hD : va_D A [(h, .inr (6, [va_rf (tab), va_rf (en), .int (nI n), .int (mo), .int (th), .float (1061158912), .null, .null, va_rf (hd), va_rf (tl), .int (0), .int (0)])), (q, .inr (7, [.int (ek), .ref (ei), .ref (ev), .null, .null, .null])), (qa, .inr (7, [.int (nk), .ref (ni), .ref (nv), .null, .ref (q), va_rf (ap)]))] := hD
  refine va_put (D := gD G) (ci := 7) (v := .null) (ty := .object "java/util/LinkedHashMap$Entry") (C := RJ14) (T := TJ14) (N := 6) hx hb hts in_J14 tyJ14 tyJ14_ok nmJ14 hown hG.K hP hD hS 1 rfl rfl 4 (by decide) (hts _ q520) (fun _ h9 => h9) rfl (by decide +kernel) rfl rfl (Nat.le_of_ble_eq_true rfl) dJ5_afterNodeRemoval_23 (fun H locs hP hD hS => ?_)
  have hP : wP G [(h, .inr (6, [va_rf (tab), va_rf (en), .int (nI n), .int (mo), .int (th), .float (1061158912), .null, .null, va_rf (hd), va_rf (tl), .int (0), .int (0)])), (q, .inr (7, [.int (ek), .ref (ei), .ref (ev), .null, .null, .null])), (qa, .inr (7, [.int (nk), .ref (ni), .ref (nv), .null, .ref (q), va_rf (ap)]))] H := hP
  have hD : va_D A [(h, .inr (6, [va_rf (tab), va_rf (en), .int (nI n), .int (mo), .int (th), .float (1061158912), .null, .null, va_rf (hd), va_rf (tl), .int (0), .int (0)])), (q, .inr (7, [.int (ek), .ref (ei), .ref (ev), .null, .null, .null])), (qa, .inr (7, [.int (nk), .ref (ni), .ref (nv), .null, .ref (q), va_rf (ap)]))] := hD
  refine lv_aload_nN hx hb dJ5_afterNodeRemoval_26 rfl (lv_at hl 1 rfl) ?_
  refine lv_ifnonnullN hx hb dJ5_afterNodeRemoval_27 ?_
  refine lv_aload_n hx hb dJ5_afterNodeRemoval_30 rfl (lv_at hl 3 rfl) ?_
  refine lv_aload hx hb dJ5_afterNodeRemoval_31 (lv_at hl 0 rfl) ?_
  refine va_put (D := gD G) (ci := 6) (v := .ref (qa)) (ty := .object "java/util/LinkedHashMap$Entry") (C := RJ5) (T := TJ5) (N := 12) hx hb hts in_J5 tyJ5 tyJ5_ok nmJ5 hown hG.K hP hD hS 0 rfl rfl 8 (by decide) (hts _ q121) (fun _ h9 => h9) rfl (by decide +kernel) rfl rfl (Nat.le_of_ble_eq_true rfl) dJ5_afterNodeRemoval_33 (fun H locs hP hD hS => ?_)
  have hP : wP G [(h, .inr (6, [va_rf (tab), va_rf (en), .int (nI n), .int (mo), .int (th), .float (1061158912), .null, .null, .ref (qa), va_rf (tl), .int (0), .int (0)])), (q, .inr (7, [.int (ek), .ref (ei), .ref (ev), .null, .null, .null])), (qa, .inr (7, [.int (nk), .ref (ni), .ref (nv), .null, .ref (q), va_rf (ap)]))] H := hP
  have hD : va_D A [(h, .inr (6, [va_rf (tab), va_rf (en), .int (nI n), .int (mo), .int (th), .float (1061158912), .null, .null, .ref (qa), va_rf (tl), .int (0), .int (0)])), (q, .inr (7, [.int (ek), .ref (ei), .ref (ev), .null, .null, .null])), (qa, .inr (7, [.int (nk), .ref (ni), .ref (nv), .null, .ref (q), va_rf (ap)]))] := hD
  refine lv_goto (tgt := 45) hx hb dJ5_afterNodeRemoval_36 (by decide) ?_
  refine lv_aload hx hb dJ5_afterNodeRemoval_45 (lv_at hl 0 rfl) ?_
  refine lv_ifnonnull (tgt := 58) hx hb dJ5_afterNodeRemoval_47 (by decide) ?_
  refine lv_aload hx hb dJ5_afterNodeRemoval_58 (lv_at hl 0 rfl) ?_
  refine lv_aload_nN hx hb dJ5_afterNodeRemoval_60 rfl (lv_at hl 1 rfl) ?_
  refine va_put (D := gD G) (ci := 7) (v := .null) (ty := .object "java/util/LinkedHashMap$Entry") (C := RJ14) (T := TJ14) (N := 6) hx hb hts in_J14 tyJ14 tyJ14_ok nmJ14 hown hG.K hP hD hS 2 rfl rfl 4 (by decide) (hts _ q520) (fun _ h9 => h9) rfl (by decide +kernel) rfl rfl (Nat.le_of_ble_eq_true rfl) dJ5_afterNodeRemoval_61 (fun H locs hP hD hS => ?_)
  have hP : wP G [(h, .inr (6, [va_rf (tab), va_rf (en), .int (nI n), .int (mo), .int (th), .float (1061158912), .null, .null, .ref (qa), va_rf (tl), .int (0), .int (0)])), (q, .inr (7, [.int (ek), .ref (ei), .ref (ev), .null, .null, .null])), (qa, .inr (7, [.int (nk), .ref (ni), .ref (nv), .null, .null, va_rf (ap)]))] H := hP
  have hD : va_D A [(h, .inr (6, [va_rf (tab), va_rf (en), .int (nI n), .int (mo), .int (th), .float (1061158912), .null, .null, .ref (qa), va_rf (tl), .int (0), .int (0)])), (q, .inr (7, [.int (ek), .ref (ei), .ref (ev), .null, .null, .null])), (qa, .inr (7, [.int (nk), .ref (ni), .ref (nv), .null, .null, va_rf (ap)]))] := hD
  exact ret _ 64 ls _ _ _ _ dJ5_afterNodeRemoval_64 (Nat.le_of_ble_eq_true rfl) (Nat.le_of_ble_eq_true rfl) hP hD hS (rfl)
set_option maxHeartbeats 4000000 in
set_option maxRecDepth 100000 in
theorem metJ5_anr10 (l : Launch) (G : Gt) (h n q : Nat) (tab en hd tl : Option Nat) (mo th ek : Int32) (ei ev : Nat) (qb : Nat) (bk : Int32) (bi bv : Nat) (bp : Option Nat) (sz : Nat) : CWv l G yJ5_afterNodeRemoval cJ5_afterNodeRemoval 5 0 0 0 0 [.ref (h), .ref (q)] [(h, .inr (6, [va_rf (tab), va_rf (en), .int (nI n), .int (mo), .int (th), .float (1061158912), .null, .null, va_rf (hd), va_rf (tl), .int (0), .int (0)])), (q, .inr (7, [.int (ek), .ref (ei), .ref (ev), .null, .ref (qb), .null])), (qb, .inr (7, [.int (bk), .ref (bi), .ref (bv), .null, va_rf (bp), .ref (q)]))] sz (fun w1 => w1 = [(h, .inr (6, [va_rf (tab), va_rf (en), .int (nI n), .int (mo), .int (th), .float (1061158912), .null, .null, va_rf (hd), .ref (qb), .int (0), .int (0)])), (q, .inr (7, [.int (ek), .ref (ei), .ref (ev), .null, .null, .null])), (qb, .inr (7, [.int (bk), .ref (bi), .ref (bv), .null, va_rf (bp), .null]))]) := by
  refine mkWv (by decide) (Nat.le_of_ble_eq_true rfl) ?_
  intro p e s m args below meth c Q A hx hb hts hown hin hml hG hsz hP hD hA hA0 hS ret ls hl
  refine lv_aload_n hx hb dJ5_afterNodeRemoval_0 rfl (lv_at hl 1 rfl) ?_
  refine va_castS hx hb hown (hts _ q511) (hG.K.1 7 _ rfl).2 (va_recv hG.K hP (ci := 7) (q0 := 1) rfl rfl) dJ5_afterNodeRemoval_1 ?_
  refine lv_astore_n (lv' := [(2, .ref (q)), (0, .ref (h)), (1, .ref (q))]) hx hb dJ5_afterNodeRemoval_4 rfl hl (by decide) rfl (fun ls hl => ?_)
  refine lv_aload_n hx hb dJ5_afterNodeRemoval_5 rfl (lv_at hl 0 rfl) ?_
  refine va_get (D := gD G) (ci := 7) (v := .ref (qb)) (C := RJ14) (T := TJ14) (N := 6) hx hb hts in_J14 hown hG.K hP 1 rfl rfl 4 (by decide) (hts _ q520) (fun _ h9 => h9) rfl dJ5_afterNodeRemoval_6 ?_
  refine lv_astore_n (lv' := [(3, .ref (qb)), (2, .ref (q)), (0, .ref (h)), (1, .ref (q))]) hx hb dJ5_afterNodeRemoval_9 rfl hl (by decide) rfl (fun ls hl => ?_)
  refine lv_aload_n hx hb dJ5_afterNodeRemoval_10 rfl (lv_at hl 1 rfl) ?_
  refine va_get (D := gD G) (ci := 7) (v := .null) (C := RJ14) (T := TJ14) (N := 6) hx hb hts in_J14 hown hG.K hP 1 rfl rfl 5 (by decide) (hts _ q522) (fun _ h9 => h9) rfl dJ5_afterNodeRemoval_11 ?_
  refine lv_astoreN (lv' := [(4, .null), (3, .ref (qb)), (2, .ref (q)), (0, .ref (h)), (1, .ref (q))]) hx hb dJ5_afterNodeRemoval_14 hl (by decide) rfl (fun ls hl => ?_)
  refine lv_aload_n hx hb dJ5_afterNodeRemoval_16 rfl (lv_at hl 2 rfl) ?_
  refine lv_aload_n hx hb dJ5_afterNodeRemoval_17 rfl (lv_at hl 2 rfl) ?_
  refine lv_null hx hb dJ5_afterNodeRemoval_18 ?_
  refine lv_dup_x1 hx hb dJ5_afterNodeRemoval_19 rfl rfl ?_
  refine va_put (D := gD G) (ci := 7) (v := .null) (ty := .object "java/util/LinkedHashMap$Entry") (C := RJ14) (T := TJ14) (N := 6) hx hb hts in_J14 tyJ14 tyJ14_ok nmJ14 hown hG.K hP hD hS 1 rfl rfl 5 (by decide) (hts _ q522) (fun _ h9 => h9) rfl (by decide +kernel) rfl rfl (Nat.le_of_ble_eq_true rfl) dJ5_afterNodeRemoval_20 (fun H locs hP hD hS => ?_)
  have hP : wP G [(h, .inr (6, [va_rf (tab), va_rf (en), .int (nI n), .int (mo), .int (th), .float (1061158912), .null, .null, va_rf (hd), va_rf (tl), .int (0), .int (0)])), (q, .inr (7, [.int (ek), .ref (ei), .ref (ev), .null, .ref (qb), .null])), (qb, .inr (7, [.int (bk), .ref (bi), .ref (bv), .null, va_rf (bp), .ref (q)]))] H := hP
  have hD : va_D A [(h, .inr (6, [va_rf (tab), va_rf (en), .int (nI n), .int (mo), .int (th), .float (1061158912), .null, .null, va_rf (hd), va_rf (tl), .int (0), .int (0)])), (q, .inr (7, [.int (ek), .ref (ei), .ref (ev), .null, .ref (qb), .null])), (qb, .inr (7, [.int (bk), .ref (bi), .ref (bv), .null, va_rf (bp), .ref (q)]))] := hD
  refine va_put (D := gD G) (ci := 7) (v := .null) (ty := .object "java/util/LinkedHashMap$Entry") (C := RJ14) (T := TJ14) (N := 6) hx hb hts in_J14 tyJ14 tyJ14_ok nmJ14 hown hG.K hP hD hS 1 rfl rfl 4 (by decide) (hts _ q520) (fun _ h9 => h9) rfl (by decide +kernel) rfl rfl (Nat.le_of_ble_eq_true rfl) dJ5_afterNodeRemoval_23 (fun H locs hP hD hS => ?_)
  have hP : wP G [(h, .inr (6, [va_rf (tab), va_rf (en), .int (nI n), .int (mo), .int (th), .float (1061158912), .null, .null, va_rf (hd), va_rf (tl), .int (0), .int (0)])), (q, .inr (7, [.int (ek), .ref (ei), .ref (ev), .null, .null, .null])), (qb, .inr (7, [.int (bk), .ref (bi), .ref (bv), .null, va_rf (bp), .ref (q)]))] H := hP
  have hD : va_D A [(h, .inr (6, [va_rf (tab), va_rf (en), .int (nI n), .int (mo), .int (th), .float (1061158912), .null, .null, va_rf (hd), va_rf (tl), .int (0), .int (0)])), (q, .inr (7, [.int (ek), .ref (ei), .ref (ev), .null, .null, .null])), (qb, .inr (7, [.int (bk), .ref (bi), .ref (bv), .null, va_rf (bp), .ref (q)]))] := hD
  refine lv_aload_n hx hb dJ5_afterNodeRemoval_26 rfl (lv_at hl 1 rfl) ?_
  refine lv_ifnonnull (tgt := 39) hx hb dJ5_afterNodeRemoval_27 (by decide) ?_
  refine lv_aload_n hx hb dJ5_afterNodeRemoval_39 rfl (lv_at hl 1 rfl) ?_
  refine lv_aloadN hx hb dJ5_afterNodeRemoval_40 (lv_at hl 0 rfl) ?_
  refine va_put (D := gD G) (ci := 7) (v := .null) (ty := .object "java/util/LinkedHashMap$Entry") (C := RJ14) (T := TJ14) (N := 6) hx hb hts in_J14 tyJ14 tyJ14_ok nmJ14 hown hG.K hP hD hS 2 rfl rfl 5 (by decide) (hts _ q522) (fun _ h9 => h9) rfl (by decide +kernel) rfl rfl (Nat.le_of_ble_eq_true rfl) dJ5_afterNodeRemoval_42 (fun H locs hP hD hS => ?_)
  have hP : wP G [(h, .inr (6, [va_rf (tab), va_rf (en), .int (nI n), .int (mo), .int (th), .float (1061158912), .null, .null, va_rf (hd), va_rf (tl), .int (0), .int (0)])), (q, .inr (7, [.int (ek), .ref (ei), .ref (ev), .null, .null, .null])), (qb, .inr (7, [.int (bk), .ref (bi), .ref (bv), .null, va_rf (bp), .null]))] H := hP
  have hD : va_D A [(h, .inr (6, [va_rf (tab), va_rf (en), .int (nI n), .int (mo), .int (th), .float (1061158912), .null, .null, va_rf (hd), va_rf (tl), .int (0), .int (0)])), (q, .inr (7, [.int (ek), .ref (ei), .ref (ev), .null, .null, .null])), (qb, .inr (7, [.int (bk), .ref (bi), .ref (bv), .null, va_rf (bp), .null]))] := hD
  refine lv_aloadN hx hb dJ5_afterNodeRemoval_45 (lv_at hl 0 rfl) ?_
  refine lv_ifnonnullN hx hb dJ5_afterNodeRemoval_47 ?_
  refine lv_aload_n hx hb dJ5_afterNodeRemoval_50 rfl (lv_at hl 3 rfl) ?_
  refine lv_aload_n hx hb dJ5_afterNodeRemoval_51 rfl (lv_at hl 1 rfl) ?_
  refine va_put (D := gD G) (ci := 6) (v := .ref (qb)) (ty := .object "java/util/LinkedHashMap$Entry") (C := RJ5) (T := TJ5) (N := 12) hx hb hts in_J5 tyJ5 tyJ5_ok nmJ5 hown hG.K hP hD hS 0 rfl rfl 9 (by decide) (hts _ q124) (fun _ h9 => h9) rfl (by decide +kernel) rfl rfl (Nat.le_of_ble_eq_true rfl) dJ5_afterNodeRemoval_52 (fun H locs hP hD hS => ?_)
  have hP : wP G [(h, .inr (6, [va_rf (tab), va_rf (en), .int (nI n), .int (mo), .int (th), .float (1061158912), .null, .null, va_rf (hd), .ref (qb), .int (0), .int (0)])), (q, .inr (7, [.int (ek), .ref (ei), .ref (ev), .null, .null, .null])), (qb, .inr (7, [.int (bk), .ref (bi), .ref (bv), .null, va_rf (bp), .null]))] H := hP
  have hD : va_D A [(h, .inr (6, [va_rf (tab), va_rf (en), .int (nI n), .int (mo), .int (th), .float (1061158912), .null, .null, va_rf (hd), .ref (qb), .int (0), .int (0)])), (q, .inr (7, [.int (ek), .ref (ei), .ref (ev), .null, .null, .null])), (qb, .inr (7, [.int (bk), .ref (bi), .ref (bv), .null, va_rf (bp), .null]))] := hD
  refine lv_goto (tgt := 64) hx hb dJ5_afterNodeRemoval_55 (by decide) ?_
  exact ret _ 64 ls _ _ _ _ dJ5_afterNodeRemoval_64 (Nat.le_of_ble_eq_true rfl) (Nat.le_of_ble_eq_true rfl) hP hD hS (rfl)
set_option maxHeartbeats 4000000 in
set_option maxRecDepth 100000 in
theorem metJ5_anr11 (l : Launch) (G : Gt) (h n q : Nat) (tab en hd tl : Option Nat) (mo th ek : Int32) (ei ev : Nat) (qb : Nat) (bk : Int32) (bi bv : Nat) (bp : Option Nat) (qa : Nat) (nk : Int32) (ni nv : Nat) (ap : Option Nat) (sz : Nat) : CWv l G yJ5_afterNodeRemoval cJ5_afterNodeRemoval 5 0 0 0 0 [.ref (h), .ref (q)] [(h, .inr (6, [va_rf (tab), va_rf (en), .int (nI n), .int (mo), .int (th), .float (1061158912), .null, .null, va_rf (hd), va_rf (tl), .int (0), .int (0)])), (q, .inr (7, [.int (ek), .ref (ei), .ref (ev), .null, .ref (qb), .ref (qa)])), (qb, .inr (7, [.int (bk), .ref (bi), .ref (bv), .null, va_rf (bp), .ref (q)])), (qa, .inr (7, [.int (nk), .ref (ni), .ref (nv), .null, .ref (q), va_rf (ap)]))] sz (fun w1 => w1 = [(h, .inr (6, [va_rf (tab), va_rf (en), .int (nI n), .int (mo), .int (th), .float (1061158912), .null, .null, va_rf (hd), va_rf (tl), .int (0), .int (0)])), (q, .inr (7, [.int (ek), .ref (ei), .ref (ev), .null, .null, .null])), (qb, .inr (7, [.int (bk), .ref (bi), .ref (bv), .null, va_rf (bp), .ref (qa)])), (qa, .inr (7, [.int (nk), .ref (ni), .ref (nv), .null, .ref (qb), va_rf (ap)]))]) := by
  refine mkWv (by decide) (Nat.le_of_ble_eq_true rfl) ?_
  intro p e s m args below meth c Q A hx hb hts hown hin hml hG hsz hP hD hA hA0 hS ret ls hl
  refine lv_aload_n hx hb dJ5_afterNodeRemoval_0 rfl (lv_at hl 1 rfl) ?_
  refine va_castS hx hb hown (hts _ q511) (hG.K.1 7 _ rfl).2 (va_recv hG.K hP (ci := 7) (q0 := 1) rfl rfl) dJ5_afterNodeRemoval_1 ?_
  refine lv_astore_n (lv' := [(2, .ref (q)), (0, .ref (h)), (1, .ref (q))]) hx hb dJ5_afterNodeRemoval_4 rfl hl (by decide) rfl (fun ls hl => ?_)
  refine lv_aload_n hx hb dJ5_afterNodeRemoval_5 rfl (lv_at hl 0 rfl) ?_
  refine va_get (D := gD G) (ci := 7) (v := .ref (qb)) (C := RJ14) (T := TJ14) (N := 6) hx hb hts in_J14 hown hG.K hP 1 rfl rfl 4 (by decide) (hts _ q520) (fun _ h9 => h9) rfl dJ5_afterNodeRemoval_6 ?_
  refine lv_astore_n (lv' := [(3, .ref (qb)), (2, .ref (q)), (0, .ref (h)), (1, .ref (q))]) hx hb dJ5_afterNodeRemoval_9 rfl hl (by decide) rfl (fun ls hl => ?_)
  refine lv_aload_n hx hb dJ5_afterNodeRemoval_10 rfl (lv_at hl 1 rfl) ?_
  refine va_get (D := gD G) (ci := 7) (v := .ref (qa)) (C := RJ14) (T := TJ14) (N := 6) hx hb hts in_J14 hown hG.K hP 1 rfl rfl 5 (by decide) (hts _ q522) (fun _ h9 => h9) rfl dJ5_afterNodeRemoval_11 ?_
  refine lv_astore (lv' := [(4, .ref (qa)), (3, .ref (qb)), (2, .ref (q)), (0, .ref (h)), (1, .ref (q))]) hx hb dJ5_afterNodeRemoval_14 hl (by decide) rfl (fun ls hl => ?_)
  refine lv_aload_n hx hb dJ5_afterNodeRemoval_16 rfl (lv_at hl 2 rfl) ?_
  refine lv_aload_n hx hb dJ5_afterNodeRemoval_17 rfl (lv_at hl 2 rfl) ?_
  refine lv_null hx hb dJ5_afterNodeRemoval_18 ?_
  refine lv_dup_x1 hx hb dJ5_afterNodeRemoval_19 rfl rfl ?_
  refine va_put (D := gD G) (ci := 7) (v := .null) (ty := .object "java/util/LinkedHashMap$Entry") (C := RJ14) (T := TJ14) (N := 6) hx hb hts in_J14 tyJ14 tyJ14_ok nmJ14 hown hG.K hP hD hS 1 rfl rfl 5 (by decide) (hts _ q522) (fun _ h9 => h9) rfl (by decide +kernel) rfl rfl (Nat.le_of_ble_eq_true rfl) dJ5_afterNodeRemoval_20 (fun H locs hP hD hS => ?_)
  have hP : wP G [(h, .inr (6, [va_rf (tab), va_rf (en), .int (nI n), .int (mo), .int (th), .float (1061158912), .null, .null, va_rf (hd), va_rf (tl), .int (0), .int (0)])), (q, .inr (7, [.int (ek), .ref (ei), .ref (ev), .null, .ref (qb), .null])), (qb, .inr (7, [.int (bk), .ref (bi), .ref (bv), .null, va_rf (bp), .ref (q)])), (qa, .inr (7, [.int (nk), .ref (ni), .ref (nv), .null, .ref (q), va_rf (ap)]))] H := hP
  have hD : va_D A [(h, .inr (6, [va_rf (tab), va_rf (en), .int (nI n), .int (mo), .int (th), .float (1061158912), .null, .null, va_rf (hd), va_rf (tl), .int (0), .int (0)])), (q, .inr (7, [.int (ek), .ref (ei), .ref (ev), .null, .ref (qb), .null])), (qb, .inr (7, [.int (bk), .ref (bi), .ref (bv), .null, va_rf (bp), .ref (q)])), (qa, .inr (7, [.int (nk), .ref (ni), .ref (nv), .null, .ref (q), va_rf (ap)]))] := hD
  refine va_put (D := gD G) (ci := 7) (v := .null) (ty := .object "java/util/LinkedHashMap$Entry") (C := RJ14) (T := TJ14) (N := 6) hx hb hts in_J14 tyJ14 tyJ14_ok nmJ14 hown hG.K hP hD hS 1 rfl rfl 4 (by decide) (hts _ q520) (fun _ h9 => h9) rfl (by decide +kernel) rfl rfl (Nat.le_of_ble_eq_true rfl) dJ5_afterNodeRemoval_23 (fun H locs hP hD hS => ?_)
  have hP : wP G [(h, .inr (6, [va_rf (tab), va_rf (en), .int (nI n), .int (mo), .int (th), .float (1061158912), .null, .null, va_rf (hd), va_rf (tl), .int (0), .int (0)])), (q, .inr (7, [.int (ek), .ref (ei), .ref (ev), .null, .null, .null])), (qb, .inr (7, [.int (bk), .ref (bi), .ref (bv), .null, va_rf (bp), .ref (q)])), (qa, .inr (7, [.int (nk), .ref (ni), .ref (nv), .null, .ref (q), va_rf (ap)]))] H := hP
  have hD : va_D A [(h, .inr (6, [va_rf (tab), va_rf (en), .int (nI n), .int (mo), .int (th), .float (1061158912), .null, .null, va_rf (hd), va_rf (tl), .int (0), .int (0)])), (q, .inr (7, [.int (ek), .ref (ei), .ref (ev), .null, .null, .null])), (qb, .inr (7, [.int (bk), .ref (bi), .ref (bv), .null, va_rf (bp), .ref (q)])), (qa, .inr (7, [.int (nk), .ref (ni), .ref (nv), .null, .ref (q), va_rf (ap)]))] := hD
  refine lv_aload_n hx hb dJ5_afterNodeRemoval_26 rfl (lv_at hl 1 rfl) ?_
  refine lv_ifnonnull (tgt := 39) hx hb dJ5_afterNodeRemoval_27 (by decide) ?_
  refine lv_aload_n hx hb dJ5_afterNodeRemoval_39 rfl (lv_at hl 1 rfl) ?_
  refine lv_aload hx hb dJ5_afterNodeRemoval_40 (lv_at hl 0 rfl) ?_
  refine va_put (D := gD G) (ci := 7) (v := .ref (qa)) (ty := .object "java/util/LinkedHashMap$Entry") (C := RJ14) (T := TJ14) (N := 6) hx hb hts in_J14 tyJ14 tyJ14_ok nmJ14 hown hG.K hP hD hS 2 rfl rfl 5 (by decide) (hts _ q522) (fun _ h9 => h9) rfl (by decide +kernel) rfl rfl (Nat.le_of_ble_eq_true rfl) dJ5_afterNodeRemoval_42 (fun H locs hP hD hS => ?_)
  have hP : wP G [(h, .inr (6, [va_rf (tab), va_rf (en), .int (nI n), .int (mo), .int (th), .float (1061158912), .null, .null, va_rf (hd), va_rf (tl), .int (0), .int (0)])), (q, .inr (7, [.int (ek), .ref (ei), .ref (ev), .null, .null, .null])), (qb, .inr (7, [.int (bk), .ref (bi), .ref (bv), .null, va_rf (bp), .ref (qa)])), (qa, .inr (7, [.int (nk), .ref (ni), .ref (nv), .null, .ref (q), va_rf (ap)]))] H := hP
  have hD : va_D A [(h, .inr (6, [va_rf (tab), va_rf (en), .int (nI n), .int (mo), .int (th), .float (1061158912), .null, .null, va_rf (hd), va_rf (tl), .int (0), .int (0)])), (q, .inr (7, [.int (ek), .ref (ei), .ref (ev), .null, .null, .null])), (qb, .inr (7, [.int (bk), .ref (bi), .ref (bv), .null, va_rf (bp), .ref (qa)])), (qa, .inr (7, [.int (nk), .ref (ni), .ref (nv), .null, .ref (q), va_rf (ap)]))] := hD
  refine lv_aload hx hb dJ5_afterNodeRemoval_45 (lv_at hl 0 rfl) ?_
  refine lv_ifnonnull (tgt := 58) hx hb dJ5_afterNodeRemoval_47 (by decide) ?_
  refine lv_aload hx hb dJ5_afterNodeRemoval_58 (lv_at hl 0 rfl) ?_
  refine lv_aload_n hx hb dJ5_afterNodeRemoval_60 rfl (lv_at hl 1 rfl) ?_
  refine va_put (D := gD G) (ci := 7) (v := .ref (qb)) (ty := .object "java/util/LinkedHashMap$Entry") (C := RJ14) (T := TJ14) (N := 6) hx hb hts in_J14 tyJ14 tyJ14_ok nmJ14 hown hG.K hP hD hS 3 rfl rfl 4 (by decide) (hts _ q520) (fun _ h9 => h9) rfl (by decide +kernel) rfl rfl (Nat.le_of_ble_eq_true rfl) dJ5_afterNodeRemoval_61 (fun H locs hP hD hS => ?_)
  have hP : wP G [(h, .inr (6, [va_rf (tab), va_rf (en), .int (nI n), .int (mo), .int (th), .float (1061158912), .null, .null, va_rf (hd), va_rf (tl), .int (0), .int (0)])), (q, .inr (7, [.int (ek), .ref (ei), .ref (ev), .null, .null, .null])), (qb, .inr (7, [.int (bk), .ref (bi), .ref (bv), .null, va_rf (bp), .ref (qa)])), (qa, .inr (7, [.int (nk), .ref (ni), .ref (nv), .null, .ref (qb), va_rf (ap)]))] H := hP
  have hD : va_D A [(h, .inr (6, [va_rf (tab), va_rf (en), .int (nI n), .int (mo), .int (th), .float (1061158912), .null, .null, va_rf (hd), va_rf (tl), .int (0), .int (0)])), (q, .inr (7, [.int (ek), .ref (ei), .ref (ev), .null, .null, .null])), (qb, .inr (7, [.int (bk), .ref (bi), .ref (bv), .null, va_rf (bp), .ref (qa)])), (qa, .inr (7, [.int (nk), .ref (ni), .ref (nv), .null, .ref (qb), va_rf (ap)]))] := hD
  exact ret _ 64 ls _ _ _ _ dJ5_afterNodeRemoval_64 (Nat.le_of_ble_eq_true rfl) (Nat.le_of_ble_eq_true rfl) hP hD hS (rfl)
/-- an entry's cell out of the chain -/
noncomputable abbrev enO (G : Gt) (e : En) : Nat × va_E := (e.1, .inr (7, [.int (nI e.2.1), .ref (gI G e.2.1), .ref (gbo G e.2.2), .null, .null, .null]))
theorem nil_or_snoc (es : List En) : es = [] ∨ ∃ l b, es = l ++ [b] := by
  rcases List.eq_nil_or_concat es with h | ⟨l, b, h⟩
  · exact Or.inl h
  · exact Or.inr ⟨l, b, by rw [h, List.concat_eq_append]⟩
theorem hdE_sn (l1 : List En) (b : En) (r : List En) (n : Option Nat) : hdE ((l1 ++ [b]) ++ r) n = hdE (l1 ++ [b]) none := by cases l1 <;> rfl
theorem pm10 {α : Type} (a b c : α) (A : List α) : (a :: b :: ((A ++ [c]) ++ [])).Perm ([a, b, c] ++ A) := pm_ (fun _ z => by simp only [List.count_append, List.count_cons, List.count_nil]; omega)
theorem pm10' {α : Type} (a b c : α) (A : List α) : (a :: b :: (A ++ [c])).Perm ([a, b, c] ++ A) := pm_ (fun _ z => by simp only [List.count_append, List.count_cons, List.count_nil]; omega)
theorem pm11 {α : Type} (a b c d : α) (A B : List α) : (a :: b :: ((A ++ [c]) ++ (d :: B))).Perm ([a, b, c, d] ++ (A ++ B)) := pm_ (fun _ z => by simp only [List.count_append, List.count_cons, List.count_nil]; omega)
theorem metJ5_anr (l : Launch) (G : Gt) (h n : Nat) (tab en : Option Nat) (mo th : Int32) (x : En) (es1 es2 : List En) (sz : Nat) : CWv l G yJ5_afterNodeRemoval cJ5_afterNodeRemoval 5 0 0 0 0 [.ref h, .ref x.1] (moC h tab en n mo th (hdE (es1 ++ x :: es2) none) (lsE none (es1 ++ x :: es2)) :: enC G x (lsE none es1) (hdE es2 none) :: (enW G none es1 (some x.1) ++ enW G (some x.1) es2 none)) sz (fun w1 => w1 = moC h tab en n mo th (hdE (es1 ++ es2) none) (lsE none (es1 ++ es2)) :: enO G x :: enW G none (es1 ++ es2) none) := by
  rcases nil_or_snoc es1 with rfl | ⟨l1, b, rfl⟩
  · cases es2 with
    | nil => exact metJ5_anr00 l G h n x.1 tab en (some x.1) (some x.1) mo th (nI x.2.1) (gI G x.2.1) (gbo G x.2.2) sz
    | cons a l2 =>
      refine CWv.postp (CWv.perm ((metJ5_anr01 l G h n x.1 tab en (some x.1) (lsE none (x :: a :: l2)) mo th (nI x.2.1) (gI G x.2.1) (gbo G x.2.2) a.1 (nI a.2.1) (gI G a.2.1) (gbo G a.2.2) (hdE l2 none) sz).frame (enW G (some a.1) l2 none)) ?_) ?_
      · exact List.Perm.refl _
      · rintro w ⟨w2, rfl, rfl⟩
        exact ⟨_, List.Perm.refl _, rfl⟩
  · rw [enW_snoc, lsE_snoc, hdE_sn]
    cases es2 with
    | nil =>
      rw [lsE_snoc]
      refine CWv.postp (CWv.perm ((metJ5_anr10 l G h n x.1 tab en (hdE (l1 ++ [b]) none) (some x.1) mo th (nI x.2.1) (gI G x.2.1) (gbo G x.2.2) b.1 (nI b.2.1) (gI G b.2.1) (gbo G b.2.2) (lsE none l1) sz).frame (enW G none l1 (some b.1))) ?_) ?_
      · exact pm10 _ _ _ _
      · rintro w ⟨w2, rfl, rfl⟩
        refine ⟨_, ?_, rfl⟩
        rw [List.append_nil, enW_snoc, lsE_snoc]
        exact pm10' _ _ _ _
    | cons a l2 =>
      rw [lsE_app]
      refine CWv.postp (CWv.perm ((metJ5_anr11 l G h n x.1 tab en (hdE (l1 ++ [b]) none) (lsE (some a.1) l2) mo th (nI x.2.1) (gI G x.2.1) (gbo G x.2.2) b.1 (nI b.2.1) (gI G b.2.1) (gbo G b.2.2) (lsE none l1) a.1 (nI a.2.1) (gI G a.2.1) (gbo G a.2.2) (hdE l2 none) sz).frame (enW G none l1 (some b.1) ++ enW G (some a.1) l2 none)) ?_) ?_
      · exact pm11 _ _ _ _ _ _
      · rintro w ⟨w2, rfl, rfl⟩
        refine ⟨_, ?_, rfl⟩
        rw [enW_app, enW_snoc, lsE_snoc, hdE_sn, lsE_app]
        exact pm11 _ _ _ _ _ _
