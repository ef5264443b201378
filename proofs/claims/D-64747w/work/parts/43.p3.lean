set_option maxRecDepth 100000 in
theorem nc_ent {G : Gt} {U : State} (hG : GG G U) : va_Nc "java/util/LinkedHashMap$Entry" "java/util/HashMap$TreeNode" U := hG.nocast (by decide +kernel)
theorem and_16 : ∀ k, k < 15 → 16 - 1 &&& k = k := by decide
theorem and_32 : ∀ k, k < 15 → 32 - 1 &&& k = k := by decide
set_option maxHeartbeats 4000000 in
set_option maxRecDepth 100000 in
theorem metJ4_rnA (l : Launch) (G : Gt) (h n k : Nat) (en hd tl : Option Nat) (mo th : Int32) (sz : Nat) : CWq l G yJ4_removeNode cJ4_removeNode 14 (.object "java/util/HashMap$Node") 0 0 0 0 [.ref (h), .int (nI k), .ref (gI G k), .null, .int (0), .int (1)] [(h, .inr (6, [.null, va_rf (en), .int (nI n), .int (mo), .int (th), .float (1061158912), .null, .null, va_rf (hd), va_rf (tl), .int (0), .int (0)]))] sz (fun r w1 => r = none ∧ w1 = [(h, .inr (6, [.null, va_rf (en), .int (nI n), .int (mo), .int (th), .float (1061158912), .null, .null, va_rf (hd), va_rf (tl), .int (0), .int (0)]))]) := by
  refine mkWq (by decide) (Nat.le_of_ble_eq_true rfl) (by first | exact Or.inl ⟨_, rfl⟩ | exact Or.inr ⟨_, rfl⟩) ?_
  intro p e s m args below meth c Q A hx hb hts hown hin hml hG hsz hP hD hA hA0 hS ret ls hl
  refine lv_aload_n hx hb dJ4_removeNode_0 rfl (lv_at hl 0 rfl) ?_
  refine va_get (D := gD G) (ci := 6) (v := .null) (C := RJ5) (T := TJ5) (N := 12) hx hb hts in_J5 hown hG.K hP 0 rfl rfl 0 (by decide) (hts _ q127) (fun _ h9 => h9) rfl dJ4_removeNode_1 ?_
  refine lv_dup hx hb dJ4_removeNode_4 rfl ?_
  refine lv_astoreN (lv' := [(6, .null), (0, .ref (h)), (1, .int (nI k)), (2, .ref (gI G k)), (3, .null), (4, .int (0)), (5, .int (1))]) hx hb dJ4_removeNode_5 hl (by decide) rfl (fun ls hl => ?_)
  refine lv_ifnullN (tgt := 289) hx hb dJ4_removeNode_7 (by decide) ?_
  refine lv_null hx hb dJ4_removeNode_289 ?_
  exact ret (none) _ 290 ls _ _ _ _ dJ4_removeNode_290 (Nat.le_of_ble_eq_true rfl) (Nat.le_of_ble_eq_true rfl) hP hD hS (⟨rfl, rfl⟩)
set_option maxHeartbeats 4000000 in
set_option maxRecDepth 100000 in
theorem metJ4_rnB (l : Launch) (G : Gt) (h n k : Nat) (en hd tl : Option Nat) (mo th : Int32) (cap t : Nat) (f : Nat → Option Nat) (hc : 16 ≤ cap) (hc2 : cap ≤ 32) (hk : k ≤ 14) (hck : cap - 1 &&& k = k) (hf : f k = none) (sz : Nat) : CWq l G yJ4_removeNode cJ4_removeNode 14 (.object "java/util/HashMap$Node") 0 0 0 0 [.ref (h), .int (nI k), .ref (gI G k), .null, .int (0), .int (1)] [(h, .inr (6, [.ref (t), va_rf (en), .int (nI n), .int (mo), .int (th), .float (1061158912), .null, .null, va_rf (hd), va_rf (tl), .int (0), .int (0)])), (t, .inl (gA G 5, cap, .inr (.inr (.inr (.inr (f))))))] sz (fun r w1 => r = none ∧ w1 = [(h, .inr (6, [.ref (t), va_rf (en), .int (nI n), .int (mo), .int (th), .float (1061158912), .null, .null, va_rf (hd), va_rf (tl), .int (0), .int (0)])), (t, .inl (gA G 5, cap, .inr (.inr (.inr (.inr (f))))))]) := by
  refine mkWq (by decide) (Nat.le_of_ble_eq_true rfl) (by first | exact Or.inl ⟨_, rfl⟩ | exact Or.inr ⟨_, rfl⟩) ?_
  intro p e s m args below meth c Q A hx hb hts hown hin hml hG hsz hP hD hA hA0 hS ret ls hl
  refine lv_aload_n hx hb dJ4_removeNode_0 rfl (lv_at hl 0 rfl) ?_
  refine va_get (D := gD G) (ci := 6) (v := .ref (t)) (C := RJ5) (T := TJ5) (N := 12) hx hb hts in_J5 hown hG.K hP 0 rfl rfl 0 (by decide) (hts _ q127) (fun _ h9 => h9) rfl dJ4_removeNode_1 ?_
  refine lv_dup hx hb dJ4_removeNode_4 rfl ?_
  refine lv_astore (lv' := [(6, .ref (t)), (0, .ref (h)), (1, .int (nI k)), (2, .ref (gI G k)), (3, .null), (4, .int (0)), (5, .int (1))]) hx hb dJ4_removeNode_5 hl (by decide) rfl (fun ls hl => ?_)
  refine lv_ifnull hx hb dJ4_removeNode_7 ?_
  refine lv_aload hx hb dJ4_removeNode_10 (lv_at hl 0 rfl) ?_
  refine va_alen (v := nI (cap)) hx hb hG.K hP 1 5 rfl rfl rfl dJ4_removeNode_12 ?_
  refine lv_dup hx hb dJ4_removeNode_13 rfl ?_
  refine lv_istore (lv' := [(8, .int (nI (cap))), (6, .ref (t)), (0, .ref (h)), (1, .int (nI k)), (2, .ref (gI G k)), (3, .null), (4, .int (0)), (5, .int (1))]) hx hb dJ4_removeNode_14 hl (by decide) rfl (fun ls hl => ?_)
  refine lv_if_le (tgt := 289) hx hb dJ4_removeNode_16 (by decide) (fun c_16 => absurd c_16 (nI_nle (by omega) (by omega))) (fun c_16 => ?_)
  refine lv_aload hx hb dJ4_removeNode_19 (lv_at hl 1 rfl) ?_
  refine lv_iload hx hb dJ4_removeNode_21 (lv_at hl 0 rfl) ?_
  refine lv_iconst (v := 1) hx hb dJ4_removeNode_23 (by decide) ?_
  refine lv_isub hx hb dJ4_removeNode_24 ?_
  refine top_i (y := nI (cap - 1)) (pk_sub (b := 1) (by omega)) ?_
  refine lv_iload_n hx hb dJ4_removeNode_25 rfl (lv_at hl 3 rfl) ?_
  refine lv_iand hx hb dJ4_removeNode_26 ?_
  refine top_i (y := nI k) (by rw [nx_and, hck]) ?_
  refine lv_dup hx hb dJ4_removeNode_27 rfl ?_
  refine lv_istore (lv' := [(9, .int (nI k)), (8, .int (nI (cap))), (6, .ref (t)), (0, .ref (h)), (1, .int (nI k)), (2, .ref (gI G k)), (3, .null), (4, .int (0)), (5, .int (1))]) hx hb dJ4_removeNode_28 hl (by decide) rfl (fun ls hl => ?_)
  refine qa_ld (j := k) hx hb hG.K hP 1 5 rfl rfl (by omega) (by omega) dJ4_removeNode_30 ?_
  refine top_q (y := none) (hf) ?_
  refine lv_dup hx hb dJ4_removeNode_31 rfl ?_
  refine lv_astoreN (lv' := [(7, .null), (9, .int (nI k)), (8, .int (nI (cap))), (6, .ref (t)), (0, .ref (h)), (1, .int (nI k)), (2, .ref (gI G k)), (3, .null), (4, .int (0)), (5, .int (1))]) hx hb dJ4_removeNode_32 hl (by decide) rfl (fun ls hl => ?_)
  refine lv_ifnullN (tgt := 289) hx hb dJ4_removeNode_34 (by decide) ?_
  refine lv_null hx hb dJ4_removeNode_289 ?_
  exact ret (none) _ 290 ls _ _ _ _ dJ4_removeNode_290 (Nat.le_of_ble_eq_true rfl) (Nat.le_of_ble_eq_true rfl) hP hD hS (⟨rfl, rfl⟩)
set_option maxHeartbeats 4000000 in
set_option maxRecDepth 100000 in
theorem metJ4_rnC (l : Launch) (G : Gt) (h n k q : Nat) (bo : Bool) (es1 es2 : List En) (en : Option Nat) (mo th : Int32) (cap t : Nat) (f : Nat → Option Nat) (hc : 16 ≤ cap) (hc2 : cap ≤ 32) (hk : k ≤ 14) (hck : cap - 1 &&& k = k) (hf : f k = some q) (hn : 1 ≤ n) (sz : Nat) : CWq l G yJ4_removeNode cJ4_removeNode 14 (.object "java/util/HashMap$Node") 1 0 0 24 [.ref (h), .int (nI k), .ref (gI G k), .null, .int (0), .int (1)] ((h, .inr (6, [.ref (t), va_rf (en), .int (nI n), .int (mo), .int (th), .float (1061158912), .null, .null, va_rf (hdE (es1 ++ (q, k, bo) :: es2) none), va_rf (lsE none (es1 ++ (q, k, bo) :: es2)), .int (0), .int (0)])) :: (t, .inl (gA G 5, cap, .inr (.inr (.inr (.inr (f)))))) :: (q, .inr (7, [.int (nI k), .ref (gI G k), .ref (gbo G bo), .null, va_rf (lsE none es1), va_rf (hdE es2 none)])) :: (enW G none es1 (some q) ++ (enW G (some q) es2 none))) sz (fun r w1 => r = some q ∧ w1 = ((h, .inr (6, [.ref (t), va_rf (en), .int (nI (n - 1)), .int (mo + 1), .int (th), .float (1061158912), .null, .null, va_rf (hdE (es1 ++ es2) none), va_rf (lsE none (es1 ++ es2)), .int (0), .int (0)])) :: (t, .inl (gA G 5, cap, .inr (.inr (.inr (.inr (va_up f k none)))))) :: (q, .inr (7, [.int (nI k), .ref (gI G k), .ref (gbo G bo), .null, .null, .null])) :: enW G none (es1 ++ es2) none)) := by
  refine mkWq (by decide) (Nat.le_of_ble_eq_true rfl) (by first | exact Or.inl ⟨_, rfl⟩ | exact Or.inr ⟨_, rfl⟩) ?_
  intro p e s m args below meth c Q A hx hb hts hown hin hml hG hsz hP hD hA hA0 hS ret ls hl
  refine lv_aload_n hx hb dJ4_removeNode_0 rfl (lv_at hl 0 rfl) ?_
  refine va_get (D := gD G) (ci := 6) (v := .ref (t)) (C := RJ5) (T := TJ5) (N := 12) hx hb hts in_J5 hown hG.K hP 0 rfl rfl 0 (by decide) (hts _ q127) (fun _ h9 => h9) rfl dJ4_removeNode_1 ?_
  refine lv_dup hx hb dJ4_removeNode_4 rfl ?_
  refine lv_astore (lv' := [(6, .ref (t)), (0, .ref (h)), (1, .int (nI k)), (2, .ref (gI G k)), (3, .null), (4, .int (0)), (5, .int (1))]) hx hb dJ4_removeNode_5 hl (by decide) rfl (fun ls hl => ?_)
  refine lv_ifnull hx hb dJ4_removeNode_7 ?_
  refine lv_aload hx hb dJ4_removeNode_10 (lv_at hl 0 rfl) ?_
  refine va_alen (v := nI (cap)) hx hb hG.K hP 1 5 rfl rfl rfl dJ4_removeNode_12 ?_
  refine lv_dup hx hb dJ4_removeNode_13 rfl ?_
  refine lv_istore (lv' := [(8, .int (nI (cap))), (6, .ref (t)), (0, .ref (h)), (1, .int (nI k)), (2, .ref (gI G k)), (3, .null), (4, .int (0)), (5, .int (1))]) hx hb dJ4_removeNode_14 hl (by decide) rfl (fun ls hl => ?_)
  refine lv_if_le (tgt := 289) hx hb dJ4_removeNode_16 (by decide) (fun c_16 => absurd c_16 (nI_nle (by omega) (by omega))) (fun c_16 => ?_)
  refine lv_aload hx hb dJ4_removeNode_19 (lv_at hl 1 rfl) ?_
  refine lv_iload hx hb dJ4_removeNode_21 (lv_at hl 0 rfl) ?_
  refine lv_iconst (v := 1) hx hb dJ4_removeNode_23 (by decide) ?_
  refine lv_isub hx hb dJ4_removeNode_24 ?_
  refine top_i (y := nI (cap - 1)) (pk_sub (b := 1) (by omega)) ?_
  refine lv_iload_n hx hb dJ4_removeNode_25 rfl (lv_at hl 3 rfl) ?_
  refine lv_iand hx hb dJ4_removeNode_26 ?_
  refine top_i (y := nI k) (by rw [nx_and, hck]) ?_
  refine lv_dup hx hb dJ4_removeNode_27 rfl ?_
  refine lv_istore (lv' := [(9, .int (nI k)), (8, .int (nI (cap))), (6, .ref (t)), (0, .ref (h)), (1, .int (nI k)), (2, .ref (gI G k)), (3, .null), (4, .int (0)), (5, .int (1))]) hx hb dJ4_removeNode_28 hl (by decide) rfl (fun ls hl => ?_)
  refine qa_ld (j := k) hx hb hG.K hP 1 5 rfl rfl (by omega) (by omega) dJ4_removeNode_30 ?_
  refine top_q (y := some (q)) (hf) ?_
  refine lv_dup hx hb dJ4_removeNode_31 rfl ?_
  refine lv_astore (lv' := [(7, .ref (q)), (9, .int (nI k)), (8, .int (nI (cap))), (6, .ref (t)), (0, .ref (h)), (1, .int (nI k)), (2, .ref (gI G k)), (3, .null), (4, .int (0)), (5, .int (1))]) hx hb dJ4_removeNode_32 hl (by decide) rfl (fun ls hl => ?_)
  refine lv_ifnull hx hb dJ4_removeNode_34 ?_
  refine lv_null hx hb dJ4_removeNode_37 ?_
  refine lv_astoreN (lv' := [(10, .null), (7, .ref (q)), (9, .int (nI k)), (8, .int (nI (cap))), (6, .ref (t)), (0, .ref (h)), (1, .int (nI k)), (2, .ref (gI G k)), (3, .null), (4, .int (0)), (5, .int (1))]) hx hb dJ4_removeNode_38 hl (by decide) rfl (fun ls hl => ?_)
  refine lv_aload hx hb dJ4_removeNode_40 (lv_at hl 1 rfl) ?_
  refine va_get (D := gD G) (ci := 7) (v := .int (nI k)) (C := RJ14) (T := TJ14) (N := 6) hx hb hts in_J14 hown hG.K hP 2 rfl rfl 0 (by decide) (hts _ q529) (fun _ h9 => h9) rfl dJ4_removeNode_42 ?_
  refine lv_iload_n hx hb dJ4_removeNode_45 rfl (lv_at hl 6 rfl) ?_
  refine lv_icmp_ne (tgt := 81) hx hb dJ4_removeNode_46 (by decide) (fun c_46 => absurd c_46 (fun h => h rfl)) (fun c_46 => ?_)
  refine lv_aload hx hb dJ4_removeNode_49 (lv_at hl 1 rfl) ?_
  refine va_get (D := gD G) (ci := 7) (v := .ref (gI G k)) (C := RJ14) (T := TJ14) (N := 6) hx hb hts in_J14 hown hG.K hP 2 rfl rfl 1 (by decide) (hts _ q535) (fun _ h9 => h9) rfl dJ4_removeNode_51 ?_
  refine lv_dup hx hb dJ4_removeNode_54 rfl ?_
  refine lv_astore (lv' := [(12, .ref (gI G k)), (10, .null), (7, .ref (q)), (9, .int (nI k)), (8, .int (nI (cap))), (6, .ref (t)), (0, .ref (h)), (1, .int (nI k)), (2, .ref (gI G k)), (3, .null), (4, .int (0)), (5, .int (1))]) hx hb dJ4_removeNode_55 hl (by decide) rfl (fun ls hl => ?_)
  refine lv_aload_n hx hb dJ4_removeNode_57 rfl (lv_at hl 8 rfl) ?_
  refine lv_acmp_eq (rx := (some (gI G k))) (ry := (some (gI G k))) (tgt := 74) hx hb dJ4_removeNode_58 (by decide) (fun c_58 => ?_) (fun c_58 => absurd (rfl) c_58)
  refine lv_aload hx hb dJ4_removeNode_74 (lv_at hl 2 rfl) ?_
  refine lv_astore (lv' := [(10, .ref (q)), (12, .ref (gI G k)), (7, .ref (q)), (9, .int (nI k)), (8, .int (nI (cap))), (6, .ref (t)), (0, .ref (h)), (1, .int (nI k)), (2, .ref (gI G k)), (3, .null), (4, .int (0)), (5, .int (1))]) hx hb dJ4_removeNode_76 hl (by decide) rfl (fun ls hl => ?_)
  refine lv_goto (tgt := 171) hx hb dJ4_removeNode_78 (by decide) ?_
  refine lv_aload hx hb dJ4_removeNode_171 (lv_at hl 0 rfl) ?_
  refine lv_ifnull hx hb dJ4_removeNode_173 ?_
  refine lv_iload hx hb dJ4_removeNode_176 (lv_at hl 10 rfl) ?_
  refine lv_if_eq (tgt := 206) hx hb dJ4_removeNode_178 (by decide) (fun c_178 => ?_) (fun c_178 => absurd (rfl) c_178)
  refine lv_aload hx hb dJ4_removeNode_206 (lv_at hl 0 rfl) ?_
  refine va_instNo hx hb hown (hts _ q443) (nc_ent hG) (va_recv hG.K hP (ci := 7) (q0 := 2) rfl rfl) dJ4_removeNode_208 ?_
  refine lv_if_eq (tgt := 230) hx hb dJ4_removeNode_211 (by decide) (fun c_211 => ?_) (fun c_211 => absurd (rfl) c_211)
  refine lv_aload hx hb dJ4_removeNode_230 (lv_at hl 0 rfl) ?_
  refine lv_aload hx hb dJ4_removeNode_232 (lv_at hl 2 rfl) ?_
  refine lv_acmp_ne (rx := (some (q))) (ry := (some (q))) (tgt := 250) hx hb dJ4_removeNode_234 (by decide) (fun c_234 => absurd c_234 (fun h => h rfl)) (fun c_234 => ?_)
  refine lv_aload hx hb dJ4_removeNode_237 (lv_at hl 5 rfl) ?_
  refine lv_iload hx hb dJ4_removeNode_239 (lv_at hl 3 rfl) ?_
  refine lv_aload hx hb dJ4_removeNode_241 (lv_at hl 0 rfl) ?_
  refine va_get (D := gD G) (ci := 7) (v := .null) (C := RJ14) (T := TJ14) (N := 6) hx hb hts in_J14 hown hG.K hP 2 rfl rfl 3 (by decide) (hts _ q544) (fun _ h9 => h9) rfl dJ4_removeNode_243 ?_
  refine qa_sn (j := k) hx hb hG.K hP hD hS 1 5 rfl rfl (by omega) (by omega) dJ4_removeNode_246 (fun H locs hP hD hS => ?_)
  have hP : wP G ((h, .inr (6, [.ref (t), va_rf (en), .int (nI n), .int (mo), .int (th), .float (1061158912), .null, .null, va_rf (hdE (es1 ++ (q, k, bo) :: es2) none), va_rf (lsE none (es1 ++ (q, k, bo) :: es2)), .int (0), .int (0)])) :: (t, .inl (gA G 5, cap, .inr (.inr (.inr (.inr (va_up f (k) none)))))) :: (q, .inr (7, [.int (nI k), .ref (gI G k), .ref (gbo G bo), .null, va_rf (lsE none es1), va_rf (hdE es2 none)])) :: (enW G none es1 (some q) ++ (enW G (some q) es2 none))) H := hP
  have hD : va_D A ((h, .inr (6, [.ref (t), va_rf (en), .int (nI n), .int (mo), .int (th), .float (1061158912), .null, .null, va_rf (hdE (es1 ++ (q, k, bo) :: es2) none), va_rf (lsE none (es1 ++ (q, k, bo) :: es2)), .int (0), .int (0)])) :: (t, .inl (gA G 5, cap, .inr (.inr (.inr (.inr (va_up f (k) none)))))) :: (q, .inr (7, [.int (nI k), .ref (gI G k), .ref (gbo G bo), .null, va_rf (lsE none es1), va_rf (hdE es2 none)])) :: (enW G none es1 (some q) ++ (enW G (some q) es2 none))) := hD
  refine lv_goto (tgt := 260) hx hb dJ4_removeNode_247 (by decide) ?_
  refine lv_aload_n hx hb dJ4_removeNode_260 rfl (lv_at hl 6 rfl) ?_
  refine lv_dup hx hb dJ4_removeNode_261 rfl ?_
  refine va_get (D := gD G) (ci := 6) (v := .int (mo)) (C := RJ5) (T := TJ5) (N := 12) hx hb hts in_J5 hown hG.K hP 0 rfl rfl 3 (by decide) (hts _ q136) (fun _ h9 => h9) rfl dJ4_removeNode_262 ?_
  refine lv_iconst (v := 1) hx hb dJ4_removeNode_265 (by decide) ?_
  refine lv_iadd hx hb dJ4_removeNode_266 ?_
  refine va_put (D := gD G) (ci := 6) (v := .int ((mo) + (1))) (ty := .int) (C := RJ5) (T := TJ5) (N := 12) hx hb hts in_J5 tyJ5 tyJ5_ok nmJ5 hown hG.K hP hD hS 0 rfl rfl 3 (by decide) (hts _ q136) (fun _ h9 => h9) rfl (by decide +kernel) rfl rfl (Nat.le_of_ble_eq_true rfl) dJ4_removeNode_267 (fun H locs hP hD hS => ?_)
  have hP : wP G ((h, .inr (6, [.ref (t), va_rf (en), .int (nI n), .int ((mo) + (1)), .int (th), .float (1061158912), .null, .null, va_rf (hdE (es1 ++ (q, k, bo) :: es2) none), va_rf (lsE none (es1 ++ (q, k, bo) :: es2)), .int (0), .int (0)])) :: (t, .inl (gA G 5, cap, .inr (.inr (.inr (.inr (va_up f (k) none)))))) :: (q, .inr (7, [.int (nI k), .ref (gI G k), .ref (gbo G bo), .null, va_rf (lsE none es1), va_rf (hdE es2 none)])) :: (enW G none es1 (some q) ++ (enW G (some q) es2 none))) H := hP
  have hD : va_D A ((h, .inr (6, [.ref (t), va_rf (en), .int (nI n), .int ((mo) + (1)), .int (th), .float (1061158912), .null, .null, va_rf (hdE (es1 ++ (q, k, bo) :: es2) none), va_rf (lsE none (es1 ++ (q, k, bo) :: es2)), .int (0), .int (0)])) :: (t, .inl (gA G 5, cap, .inr (.inr (.inr (.inr (va_up f (k) none)))))) :: (q, .inr (7, [.int (nI k), .ref (gI G k), .ref (gbo G bo), .null, va_rf (lsE none es1), va_rf (hdE es2 none)])) :: (enW G none es1 (some q) ++ (enW G (some q) es2 none))) := hD
  refine lv_aload_n hx hb dJ4_removeNode_270 rfl (lv_at hl 6 rfl) ?_
  refine lv_dup hx hb dJ4_removeNode_271 rfl ?_
  refine va_get (D := gD G) (ci := 6) (v := .int (nI n)) (C := RJ5) (T := TJ5) (N := 12) hx hb hts in_J5 hown hG.K hP 0 rfl rfl 2 (by decide) (hts _ q132) (fun _ h9 => h9) rfl dJ4_removeNode_272 ?_
  refine lv_iconst (v := 1) hx hb dJ4_removeNode_275 (by decide) ?_
  refine lv_isub hx hb dJ4_removeNode_276 ?_
  refine top_i (y := nI (n - 1)) (pk_sub (b := 1) (by omega)) ?_
  refine va_put (D := gD G) (ci := 6) (v := .int (nI (n - 1))) (ty := .int) (C := RJ5) (T := TJ5) (N := 12) hx hb hts in_J5 tyJ5 tyJ5_ok nmJ5 hown hG.K hP hD hS 0 rfl rfl 2 (by decide) (hts _ q132) (fun _ h9 => h9) rfl (by decide +kernel) rfl rfl (Nat.le_of_ble_eq_true rfl) dJ4_removeNode_277 (fun H locs hP hD hS => ?_)
  have hP : wP G ((h, .inr (6, [.ref (t), va_rf (en), .int (nI (n - 1)), .int ((mo) + (1)), .int (th), .float (1061158912), .null, .null, va_rf (hdE (es1 ++ (q, k, bo) :: es2) none), va_rf (lsE none (es1 ++ (q, k, bo) :: es2)), .int (0), .int (0)])) :: (t, .inl (gA G 5, cap, .inr (.inr (.inr (.inr (va_up f (k) none)))))) :: (q, .inr (7, [.int (nI k), .ref (gI G k), .ref (gbo G bo), .null, va_rf (lsE none es1), va_rf (hdE es2 none)])) :: (enW G none es1 (some q) ++ (enW G (some q) es2 none))) H := hP
  have hD : va_D A ((h, .inr (6, [.ref (t), va_rf (en), .int (nI (n - 1)), .int ((mo) + (1)), .int (th), .float (1061158912), .null, .null, va_rf (hdE (es1 ++ (q, k, bo) :: es2) none), va_rf (lsE none (es1 ++ (q, k, bo) :: es2)), .int (0), .int (0)])) :: (t, .inl (gA G 5, cap, .inr (.inr (.inr (.inr (va_up f (k) none)))))) :: (q, .inr (7, [.int (nI k), .ref (gI G k), .ref (gbo G bo), .null, va_rf (lsE none es1), va_rf (hdE es2 none)])) :: (enW G none es1 (some q) ++ (enW G (some q) es2 none))) := hD
  refine lv_aload_n hx hb dJ4_removeNode_280 rfl (lv_at hl 6 rfl) ?_
  refine lv_aload hx hb dJ4_removeNode_281 (lv_at hl 0 rfl) ?_
  have hP := wP.perm (w' := ((h, .inr (6, [.ref (t), va_rf (en), .int (nI (n - 1)), .int ((mo) + (1)), .int (th), .float (1061158912), .null, .null, va_rf (hdE (es1 ++ (q, k, bo) :: es2) none), va_rf (lsE none (es1 ++ (q, k, bo) :: es2)), .int (0), .int (0)])) :: (q, .inr (7, [.int (nI k), .ref (gI G k), .ref (gbo G bo), .null, va_rf (lsE none es1), va_rf (hdE es2 none)])) :: (enW G none es1 (some q) ++ (enW G (some q) es2 none))) ++ [(t, .inl (gA G 5, cap, .inr (.inr (.inr (.inr (va_up f (k) none))))))]) hP (pm_ (fun _ z => by simp only [List.count_append, List.count_cons, List.count_nil]; omega))
  have hD := va_D.perm (w' := ((h, .inr (6, [.ref (t), va_rf (en), .int (nI (n - 1)), .int ((mo) + (1)), .int (th), .float (1061158912), .null, .null, va_rf (hdE (es1 ++ (q, k, bo) :: es2) none), va_rf (lsE none (es1 ++ (q, k, bo) :: es2)), .int (0), .int (0)])) :: (q, .inr (7, [.int (nI k), .ref (gI G k), .ref (gbo G bo), .null, va_rf (lsE none es1), va_rf (hdE es2 none)])) :: (enW G none es1 (some q) ++ (enW G (some q) es2 none))) ++ [(t, .inl (gA G 5, cap, .inr (.inr (.inr (.inr (va_up f (k) none))))))]) hD (pm_ (fun _ z => by simp only [List.count_append, List.count_cons, List.count_nil]; omega))
  refine cl_v (wr := [(t, .inl (gA G 5, cap, .inr (.inr (.inr (.inr (va_up f (k) none))))))]) (va_runU (As := [.ref (q)]) (rest := []) ⟨hx, hb, hml, hown, hts⟩ (metJ5_anr l G h (n - 1) (some t) en (mo + 1) th (q, k, bo) es1 es2 _) (va_cwA 1 hts (lw_U (owner := "java/util/HashMap") (x := ({ cls := "java/util/HashMap", name := "afterNodeRemoval", desc := "(Ljava/util/HashMap$Node;)V" } : Jvm.MethodName)) (y := ({ cls := "java/util/LinkedHashMap", name := "afterNodeRemoval", desc := "(Ljava/util/HashMap$Node;)V" } : Jvm.MethodName)) q578 q580 q581 q582 q35 q583) rfl rfl rfl (hG.decl q584) (by decide +kernel) ⟨Nat.le_of_ble_eq_true rfl, Nat.le_of_ble_eq_true rfl⟩) (pre_WV (q0 := 0) hG hP hD hS hA0 rfl rfl) rfl rfl hl.1 rfl (lv_room (Nat.le_of_ble_eq_true rfl)) dJ4_removeNode_283 ⟨Nat.le_of_ble_eq_true rfl, Nat.le_of_ble_eq_true rfl⟩) hP hD hS hA (fun w1 H locs hp hP hD hS => ?_)
  subst hp
  have hP : wP G (((h, .inr (6, [.ref (t), va_rf (en), .int (nI (n - 1)), .int (mo + 1), .int (th), .float (1061158912), .null, .null, va_rf (hdE (es1 ++ es2) none), va_rf (lsE none (es1 ++ es2)), .int (0), .int (0)])) :: (q, .inr (7, [.int (nI k), .ref (gI G k), .ref (gbo G bo), .null, .null, .null])) :: enW G none (es1 ++ es2) none) ++ [(t, .inl (gA G 5, cap, .inr (.inr (.inr (.inr (va_up f (k) none))))))]) H := hP
  have hD : va_D A (((h, .inr (6, [.ref (t), va_rf (en), .int (nI (n - 1)), .int (mo + 1), .int (th), .float (1061158912), .null, .null, va_rf (hdE (es1 ++ es2) none), va_rf (lsE none (es1 ++ es2)), .int (0), .int (0)])) :: (q, .inr (7, [.int (nI k), .ref (gI G k), .ref (gbo G bo), .null, .null, .null])) :: enW G none (es1 ++ es2) none) ++ [(t, .inl (gA G 5, cap, .inr (.inr (.inr (.inr (va_up f (k) none))))))]) := hD
  have hP := wP.perm (w' := ((h, .inr (6, [.ref (t), va_rf (en), .int (nI (n - 1)), .int (mo + 1), .int (th), .float (1061158912), .null, .null, va_rf (hdE (es1 ++ es2) none), va_rf (lsE none (es1 ++ es2)), .int (0), .int (0)])) :: (t, .inl (gA G 5, cap, .inr (.inr (.inr (.inr (va_up f k none)))))) :: (q, .inr (7, [.int (nI k), .ref (gI G k), .ref (gbo G bo), .null, .null, .null])) :: enW G none (es1 ++ es2) none)) hP (pm_ (fun _ z => by simp only [List.count_append, List.count_cons, List.count_nil]; omega))
  have hD := va_D.perm (w' := ((h, .inr (6, [.ref (t), va_rf (en), .int (nI (n - 1)), .int (mo + 1), .int (th), .float (1061158912), .null, .null, va_rf (hdE (es1 ++ es2) none), va_rf (lsE none (es1 ++ es2)), .int (0), .int (0)])) :: (t, .inl (gA G 5, cap, .inr (.inr (.inr (.inr (va_up f k none)))))) :: (q, .inr (7, [.int (nI k), .ref (gI G k), .ref (gbo G bo), .null, .null, .null])) :: enW G none (es1 ++ es2) none)) hD (pm_ (fun _ z => by simp only [List.count_append, List.count_cons, List.count_nil]; omega))
  refine lv_aload hx hb dJ4_removeNode_286 (lv_at hl 0 rfl) ?_
  exact ret (some (q)) _ 288 ls _ _ _ _ dJ4_removeNode_288 (Nat.le_of_ble_eq_true rfl) (Nat.le_of_ble_eq_true rfl) hP hD hS (⟨rfl, rfl⟩)
set_option maxHeartbeats 4000000 in
set_option maxRecDepth 100000 in
theorem metJ4_rmA (l : Launch) (G : Gt) (h n k : Nat) (en hd tl : Option Nat) (mo th : Int32) (hk : k ≤ 14) (sz : Nat) : CWq l G yJ4_remove cJ4_remove 3 (.object "java/lang/Object") 9 0 0 400 [.ref (h), .ref (gI G k)] [(h, .inr (6, [.null, va_rf (en), .int (nI n), .int (mo), .int (th), .float (1061158912), .null, .null, va_rf (hd), va_rf (tl), .int (0), .int (0)]))] sz (fun _ w1 => w1 = [(h, .inr (6, [.null, va_rf (en), .int (nI n), .int (mo), .int (th), .float (1061158912), .null, .null, va_rf (hd), va_rf (tl), .int (0), .int (0)]))]) := by
  refine mkWq (by decide) (Nat.le_of_ble_eq_true rfl) (by first | exact Or.inl ⟨_, rfl⟩ | exact Or.inr ⟨_, rfl⟩) ?_
  intro p e s m args below meth c Q A hx hb hts hown hin hml hG hsz hP hD hA hA0 hS ret ls hl
  refine lv_aload_n hx hb dJ4_remove_0 rfl (lv_at hl 0 rfl) ?_
  refine lv_aload_n hx hb dJ4_remove_1 rfl (lv_at hl 1 rfl) ?_
  refine vp_callSi (W.runS (As := [.ref (gI G k)]) (rest := [.ref (h)]) ⟨hx, hb, hml, hown, hts⟩ (metJ4_hash l G k hk) (va_cwS 1 hts (lw_S q374 q375 q34 q376) rfl rfl rfl (by decide +kernel) ⟨Nat.le_of_ble_eq_true rfl, Nat.le_of_ble_eq_true rfl⟩) (pre_RS hG (wP.mem (w' := []) hP (fun _ h => absurd h List.not_mem_nil)) hS hA0) rfl rfl hl.1 rfl (lv_room (Nat.le_of_ble_eq_true rfl)) dJ4_remove_2 ⟨Nat.le_of_ble_eq_true rfl, Nat.le_of_ble_eq_true rfl⟩) (fun r_2 e_2 => ?_)
  subst e_2
  refine lv_aload_n hx hb dJ4_remove_5 rfl (lv_at hl 1 rfl) ?_
  refine lv_null hx hb dJ4_remove_6 ?_
  refine lv_iconst (v := 0) hx hb dJ4_remove_7 (by decide) ?_
  refine lv_iconst (v := 1) hx hb dJ4_remove_8 (by decide) ?_
  refine cl_q0 (va_runU (As := [.int (nI k), .ref (gI G k), .null, .int (0), .int (1)]) (rest := []) ⟨hx, hb, hml, hown, hts⟩ (metJ4_rnA l G h n k en hd tl mo th _) (va_cwU 5 hts (lw_U (owner := "java/util/HashMap") (x := ({ cls := "java/util/HashMap", name := "removeNode", desc := "(ILjava/lang/Object;Ljava/lang/Object;ZZ)Ljava/util/HashMap$Node;" } : Jvm.MethodName)) (y := ({ cls := "java/util/HashMap", name := "removeNode", desc := "(ILjava/lang/Object;Ljava/lang/Object;ZZ)Ljava/util/HashMap$Node;" } : Jvm.MethodName)) q406 q408 q409 q407 q34 q410) rfl rfl rfl rfl (by decide +kernel) ⟨Nat.le_of_ble_eq_true rfl, Nat.le_of_ble_eq_true rfl⟩) (pre_WV0 (q0 := 0) hG hP hD hS hA0 rfl rfl) rfl rfl hl.1 rfl (lv_room (Nat.le_of_ble_eq_true rfl)) dJ4_remove_9 ⟨Nat.le_of_ble_eq_true rfl, Nat.le_of_ble_eq_true rfl⟩) hP hD hS hA (fun r_9 w1 H locs hp hP hD hS => ?_)
  obtain ⟨rfl, rfl⟩ := hp
  have hP : wP G [(h, .inr (6, [.null, va_rf (en), .int (nI n), .int (mo), .int (th), .float (1061158912), .null, .null, va_rf (hd), va_rf (tl), .int (0), .int (0)]))] H := hP
  have hD : va_D A [(h, .inr (6, [.null, va_rf (en), .int (nI n), .int (mo), .int (th), .float (1061158912), .null, .null, va_rf (hd), va_rf (tl), .int (0), .int (0)]))] := hD
  refine lv_dup hx hb dJ4_remove_12 rfl ?_
  refine lv_astore_nN (lv' := [(2, .null), (0, .ref (h)), (1, .ref (gI G k))]) hx hb dJ4_remove_13 rfl hl (by decide) rfl (fun ls hl => ?_)
  refine lv_ifnonnullN hx hb dJ4_remove_14 ?_
  refine lv_null hx hb dJ4_remove_17 ?_
  refine lv_goto (tgt := 25) hx hb dJ4_remove_18 (by decide) ?_
  exact ret (none) _ 25 ls _ _ _ _ dJ4_remove_25 (Nat.le_of_ble_eq_true rfl) (Nat.le_of_ble_eq_true rfl) hP hD hS (rfl)
set_option maxHeartbeats 4000000 in
set_option maxRecDepth 100000 in
theorem metJ4_rmB (l : Launch) (G : Gt) (h n k : Nat) (en hd tl : Option Nat) (mo th : Int32) (cap t : Nat) (f : Nat → Option Nat) (hc : 16 ≤ cap) (hc2 : cap ≤ 32) (hk : k ≤ 14) (hck : cap - 1 &&& k = k) (hf : f k = none) (sz : Nat) : CWq l G yJ4_remove cJ4_remove 3 (.object "java/lang/Object") 9 0 0 400 [.ref (h), .ref (gI G k)] [(h, .inr (6, [.ref (t), va_rf (en), .int (nI n), .int (mo), .int (th), .float (1061158912), .null, .null, va_rf (hd), va_rf (tl), .int (0), .int (0)])), (t, .inl (gA G 5, cap, .inr (.inr (.inr (.inr (f))))))] sz (fun _ w1 => w1 = [(h, .inr (6, [.ref (t), va_rf (en), .int (nI n), .int (mo), .int (th), .float (1061158912), .null, .null, va_rf (hd), va_rf (tl), .int (0), .int (0)])), (t, .inl (gA G 5, cap, .inr (.inr (.inr (.inr (f))))))]) := by
  refine mkWq (by decide) (Nat.le_of_ble_eq_true rfl) (by first | exact Or.inl ⟨_, rfl⟩ | exact Or.inr ⟨_, rfl⟩) ?_
  intro p e s m args below meth c Q A hx hb hts hown hin hml hG hsz hP hD hA hA0 hS ret ls hl
  refine lv_aload_n hx hb dJ4_remove_0 rfl (lv_at hl 0 rfl) ?_
  refine lv_aload_n hx hb dJ4_remove_1 rfl (lv_at hl 1 rfl) ?_
  refine vp_callSi (W.runS (As := [.ref (gI G k)]) (rest := [.ref (h)]) ⟨hx, hb, hml, hown, hts⟩ (metJ4_hash l G k hk) (va_cwS 1 hts (lw_S q374 q375 q34 q376) rfl rfl rfl (by decide +kernel) ⟨Nat.le_of_ble_eq_true rfl, Nat.le_of_ble_eq_true rfl⟩) (pre_RS hG (wP.mem (w' := []) hP (fun _ h => absurd h List.not_mem_nil)) hS hA0) rfl rfl hl.1 rfl (lv_room (Nat.le_of_ble_eq_true rfl)) dJ4_remove_2 ⟨Nat.le_of_ble_eq_true rfl, Nat.le_of_ble_eq_true rfl⟩) (fun r_2 e_2 => ?_)
  subst e_2
  refine lv_aload_n hx hb dJ4_remove_5 rfl (lv_at hl 1 rfl) ?_
  refine lv_null hx hb dJ4_remove_6 ?_
  refine lv_iconst (v := 0) hx hb dJ4_remove_7 (by decide) ?_
  refine lv_iconst (v := 1) hx hb dJ4_remove_8 (by decide) ?_
  refine cl_q0 (va_runU (As := [.int (nI k), .ref (gI G k), .null, .int (0), .int (1)]) (rest := []) ⟨hx, hb, hml, hown, hts⟩ (metJ4_rnB l G h n k en hd tl mo th cap t f hc hc2 hk hck hf _) (va_cwU 5 hts (lw_U (owner := "java/util/HashMap") (x := ({ cls := "java/util/HashMap", name := "removeNode", desc := "(ILjava/lang/Object;Ljava/lang/Object;ZZ)Ljava/util/HashMap$Node;" } : Jvm.MethodName)) (y := ({ cls := "java/util/HashMap", name := "removeNode", desc := "(ILjava/lang/Object;Ljava/lang/Object;ZZ)Ljava/util/HashMap$Node;" } : Jvm.MethodName)) q406 q408 q409 q407 q34 q410) rfl rfl rfl rfl (by decide +kernel) ⟨Nat.le_of_ble_eq_true rfl, Nat.le_of_ble_eq_true rfl⟩) (pre_WV0 (q0 := 0) hG hP hD hS hA0 rfl rfl) rfl rfl hl.1 rfl (lv_room (Nat.le_of_ble_eq_true rfl)) dJ4_remove_9 ⟨Nat.le_of_ble_eq_true rfl, Nat.le_of_ble_eq_true rfl⟩) hP hD hS hA (fun r_9 w1 H locs hp hP hD hS => ?_)
  obtain ⟨rfl, rfl⟩ := hp
  have hP : wP G [(h, .inr (6, [.ref (t), va_rf (en), .int (nI n), .int (mo), .int (th), .float (1061158912), .null, .null, va_rf (hd), va_rf (tl), .int (0), .int (0)])), (t, .inl (gA G 5, cap, .inr (.inr (.inr (.inr (f))))))] H := hP
  have hD : va_D A [(h, .inr (6, [.ref (t), va_rf (en), .int (nI n), .int (mo), .int (th), .float (1061158912), .null, .null, va_rf (hd), va_rf (tl), .int (0), .int (0)])), (t, .inl (gA G 5, cap, .inr (.inr (.inr (.inr (f))))))] := hD
  refine lv_dup hx hb dJ4_remove_12 rfl ?_
  refine lv_astore_nN (lv' := [(2, .null), (0, .ref (h)), (1, .ref (gI G k))]) hx hb dJ4_remove_13 rfl hl (by decide) rfl (fun ls hl => ?_)
  refine lv_ifnonnullN hx hb dJ4_remove_14 ?_
  refine lv_null hx hb dJ4_remove_17 ?_
  refine lv_goto (tgt := 25) hx hb dJ4_remove_18 (by decide) ?_
  exact ret (none) _ 25 ls _ _ _ _ dJ4_remove_25 (Nat.le_of_ble_eq_true rfl) (Nat.le_of_ble_eq_true rfl) hP hD hS (rfl)
set_option maxHeartbeats 4000000 in
set_option maxRecDepth 100000 in
theorem metJ4_rmC (l : Launch) (G : Gt) (h n k q : Nat) (bo : Bool) (es1 es2 : List En) (en : Option Nat) (mo th : Int32) (cap t : Nat) (f : Nat → Option Nat) (hc : 16 ≤ cap) (hc2 : cap ≤ 32) (hk : k ≤ 14) (hck : cap - 1 &&& k = k) (hf : f k = some q) (hn : 1 ≤ n) (sz : Nat) : CWq l G yJ4_remove cJ4_remove 3 (.object "java/lang/Object") 9 0 0 400 [.ref (h), .ref (gI G k)] ((h, .inr (6, [.ref (t), va_rf (en), .int (nI n), .int (mo), .int (th), .float (1061158912), .null, .null, va_rf (hdE (es1 ++ (q, k, bo) :: es2) none), va_rf (lsE none (es1 ++ (q, k, bo) :: es2)), .int (0), .int (0)])) :: (t, .inl (gA G 5, cap, .inr (.inr (.inr (.inr (f)))))) :: (q, .inr (7, [.int (nI k), .ref (gI G k), .ref (gbo G bo), .null, va_rf (lsE none es1), va_rf (hdE es2 none)])) :: (enW G none es1 (some q) ++ (enW G (some q) es2 none))) sz (fun _ w1 => w1 = ((h, .inr (6, [.ref (t), va_rf (en), .int (nI (n - 1)), .int (mo + 1), .int (th), .float (1061158912), .null, .null, va_rf (hdE (es1 ++ es2) none), va_rf (lsE none (es1 ++ es2)), .int (0), .int (0)])) :: (t, .inl (gA G 5, cap, .inr (.inr (.inr (.inr (va_up f k none)))))) :: (q, .inr (7, [.int (nI k), .ref (gI G k), .ref (gbo G bo), .null, .null, .null])) :: enW G none (es1 ++ es2) none)) := by
  refine mkWq (by decide) (Nat.le_of_ble_eq_true rfl) (by first | exact Or.inl ⟨_, rfl⟩ | exact Or.inr ⟨_, rfl⟩) ?_
  intro p e s m args below meth c Q A hx hb hts hown hin hml hG hsz hP hD hA hA0 hS ret ls hl
  refine lv_aload_n hx hb dJ4_remove_0 rfl (lv_at hl 0 rfl) ?_
  refine lv_aload_n hx hb dJ4_remove_1 rfl (lv_at hl 1 rfl) ?_
  refine vp_callSi (W.runS (As := [.ref (gI G k)]) (rest := [.ref (h)]) ⟨hx, hb, hml, hown, hts⟩ (metJ4_hash l G k hk) (va_cwS 1 hts (lw_S q374 q375 q34 q376) rfl rfl rfl (by decide +kernel) ⟨Nat.le_of_ble_eq_true rfl, Nat.le_of_ble_eq_true rfl⟩) (pre_RS hG (wP.mem (w' := []) hP (fun _ h => absurd h List.not_mem_nil)) hS hA0) rfl rfl hl.1 rfl (lv_room (Nat.le_of_ble_eq_true rfl)) dJ4_remove_2 ⟨Nat.le_of_ble_eq_true rfl, Nat.le_of_ble_eq_true rfl⟩) (fun r_2 e_2 => ?_)
  subst e_2
  refine lv_aload_n hx hb dJ4_remove_5 rfl (lv_at hl 1 rfl) ?_
  refine lv_null hx hb dJ4_remove_6 ?_
  refine lv_iconst (v := 0) hx hb dJ4_remove_7 (by decide) ?_
  refine lv_iconst (v := 1) hx hb dJ4_remove_8 (by decide) ?_
  refine cl_q0 (va_runU (As := [.int (nI k), .ref (gI G k), .null, .int (0), .int (1)]) (rest := []) ⟨hx, hb, hml, hown, hts⟩ (metJ4_rnC l G h n k q bo es1 es2 en mo th cap t f hc hc2 hk hck hf hn _) (va_cwU 5 hts (lw_U (owner := "java/util/HashMap") (x := ({ cls := "java/util/HashMap", name := "removeNode", desc := "(ILjava/lang/Object;Ljava/lang/Object;ZZ)Ljava/util/HashMap$Node;" } : Jvm.MethodName)) (y := ({ cls := "java/util/HashMap", name := "removeNode", desc := "(ILjava/lang/Object;Ljava/lang/Object;ZZ)Ljava/util/HashMap$Node;" } : Jvm.MethodName)) q406 q408 q409 q407 q34 q410) rfl rfl rfl rfl (by decide +kernel) ⟨Nat.le_of_ble_eq_true rfl, Nat.le_of_ble_eq_true rfl⟩) (pre_WV0 (q0 := 0) hG hP hD hS hA0 rfl rfl) rfl rfl hl.1 rfl (lv_room (Nat.le_of_ble_eq_true rfl)) dJ4_remove_9 ⟨Nat.le_of_ble_eq_true rfl, Nat.le_of_ble_eq_true rfl⟩) hP hD hS hA (fun r_9 w1 H locs hp hP hD hS => ?_)
  obtain ⟨rfl, rfl⟩ := hp
  have hP : wP G ((h, .inr (6, [.ref (t), va_rf (en), .int (nI (n - 1)), .int (mo + 1), .int (th), .float (1061158912), .null, .null, va_rf (hdE (es1 ++ es2) none), va_rf (lsE none (es1 ++ es2)), .int (0), .int (0)])) :: (t, .inl (gA G 5, cap, .inr (.inr (.inr (.inr (va_up f k none)))))) :: (q, .inr (7, [.int (nI k), .ref (gI G k), .ref (gbo G bo), .null, .null, .null])) :: enW G none (es1 ++ es2) none) H := hP
  have hD : va_D A ((h, .inr (6, [.ref (t), va_rf (en), .int (nI (n - 1)), .int (mo + 1), .int (th), .float (1061158912), .null, .null, va_rf (hdE (es1 ++ es2) none), va_rf (lsE none (es1 ++ es2)), .int (0), .int (0)])) :: (t, .inl (gA G 5, cap, .inr (.inr (.inr (.inr (va_up f k none)))))) :: (q, .inr (7, [.int (nI k), .ref (gI G k), .ref (gbo G bo), .null, .null, .null])) :: enW G none (es1 ++ es2) none) := hD
  refine lv_dup hx hb dJ4_remove_12 rfl ?_
  refine lv_astore_n (lv' := [(2, .ref (q)), (0, .ref (h)), (1, .ref (gI G k))]) hx hb dJ4_remove_13 rfl hl (by decide) rfl (fun ls hl => ?_)
  refine lv_ifnonnull (tgt := 21) hx hb dJ4_remove_14 (by decide) ?_
  refine lv_aload_n hx hb dJ4_remove_21 rfl (lv_at hl 0 rfl) ?_
  refine va_get (D := gD G) (ci := 7) (v := .ref (gbo G bo)) (C := RJ14) (T := TJ14) (N := 6) hx hb hts in_J14 hown hG.K hP 2 rfl rfl 2 (by decide) (hts _ q539) (fun _ h9 => h9) rfl dJ4_remove_22 ?_
  exact ret (some (gbo G bo)) _ 25 ls _ _ _ _ dJ4_remove_25 (Nat.le_of_ble_eq_true rfl) (Nat.le_of_ble_eq_true rfl) hP hD hS (rfl)
