theorem i2l_le (a b : Int32) : a.toInt64 ≤ b.toInt64 ↔ a ≤ b := by
  rw [Int64.le_iff_toInt_le, Int32.le_iff_toInt_le, Int32.toInt_toInt64, Int32.toInt_toInt64]
theorem in_I {k lo hi : Int32} {l h : Int64} (hl : l = lo.toInt64) (hh : h = hi.toInt64) : (decide (l ≤ k.toInt64) && decide (k.toInt64 ≤ h)) = !decide (k < lo ∨ hi < k) := by
  subst hl hh
  apply Bool.eq_iff_iff.mpr
  rw [Bool.and_eq_true, decide_eq_true_eq, decide_eq_true_eq, Bool.not_eq_true', decide_eq_false_iff_not, i2l_le, i2l_le, not_or, Int32.not_lt, Int32.not_lt]
theorem nb_f {P : Prop} [Decidable P] (h : b2i (!decide P) = 0) : P := by
  by_cases hp : P
  · exact hp
  · simp [hp, b2i] at h
theorem nb_t {P : Prop} [Decidable P] (h : ¬ b2i (!decide P) = 0) : ¬ P := fun hp => h (by simp [hp, b2i])
/-- what features, parents, kinds and levels are -/
def FX (S : St) (iv fp fk fl : Nat → Int32) : Prop := iv 11 = nI (sN S) ∧ (∀ j, 1 ≤ j → j ≤ sN S → fp j = nI (sPa S j) ∧ fk j = nI (sKi S j)) ∧ ∀ j, j < sN S → fl j = nI (dpN (sPa S) 15 (sPa S (j + 1)))
abbrev wX (G : Gt) (a : Nat → Nat) (iv fp fk fl : Nat → Int32) (n : Nat) : va_W := [xC a iv, (a 0, .inl (gA G 0, 15, .inl fp)), (a 1, .inl (gA G 0, 15, .inl fk)), (a 2, .inl (gA G 0, n, .inl fl))]
set_option maxHeartbeats 4000000 in
set_option maxRecDepth 100000 in
theorem metX1_feature (l : Launch) (G : Gt) (a : Nat → Nat) (iv : Nat → Int32) (fp fk fl : Nat → Int32) (S : St) (n : Nat) (hnS : n = sN S) (hW : WS S) (hX : FX S iv fp fk fl) (pp k : Int32) (sz : Nat) : CWi l G yX1_feature cX1_feature 4 .int 1 1 14 25 [.ref (a 15), .int (pp), .int (k)] [(a 15, .inr (0, [.ref (a 0), .ref (a 1), .ref (a 2), .ref (a 3), .ref (a 4), .ref (a 5), .ref (a 6), .int (iv 7), .ref (a 8), .ref (a 9), .int (iv 10), .int (iv 11), .ref (a 12), .int (iv 13), .ref (a 14)])), (a 0, .inl (gA G 0, 15, .inl (fp))), (a 1, .inl (gA G 0, 15, .inl (fk))), (a 2, .inl (gA G 0, n, .inl (fl)))] sz (fun r w1 => (stFeature S pp k = (r, S) ∧ w1 = wX G a iv fp fk fl n) ∨ ∃ g q fl2, pp = nI g ∧ g ≤ n ∧ (n ≠ 0 → 1 ≤ g) ∧ sbad n pp = false ∧ ¬ k < 0 ∧ ¬ 2 < k ∧ n ≠ 14 ∧ stFeature S pp k = (r, (sN S + 1, va_up (sPa S) (sN S + 1) (iN pp), va_up (sKi S) (sN S + 1) (iN k), S.2.2.2)) ∧ w1 = wX G (va_up a 2 q) (va_up (va_up iv 11 (nI (n + 1))) 10 0) (upd fp (n + 1) pp) (upd fk (n + 1) k) fl2 (n + 1) ∧ (∀ j, j < n → fl2 j = fl j) ∧ fl2 n = nI (dpN (sPa S) 15 g)) := by
  refine mkWi (by decide) (Nat.le_of_ble_eq_true rfl) ?_
  intro p e s m args below meth c Q A hx hb hts hown hin hml hG hsz hP hD hA hA0 hS ret ls hl
  have hn : iv 11 = nI n := by rw [hnS]; exact hX.1
  have hn4 : n ≤ 14 := by rw [hnS]; exact hW.1
  have J24 : sbad n pp = false → ∀ (H : Heap) (locs : List Loc), wP G [(a 15, .inr (0, [.ref (a 0), .ref (a 1), .ref (a 2), .ref (a 3), .ref (a 4), .ref (a 5), .ref (a 6), .int (iv 7), .ref (a 8), .ref (a 9), .int (iv 10), .int (iv 11), .ref (a 12), .int (iv 13), .ref (a 14)])), (a 0, .inl (gA G 0, 15, .inl (fp))), (a 1, .inl (gA G 0, 15, .inl (fk))), (a 2, .inl (gA G 0, n, .inl (fl)))] H → va_D A [(a 15, .inr (0, [.ref (a 0), .ref (a 1), .ref (a 2), .ref (a 3), .ref (a 4), .ref (a 5), .ref (a 6), .int (iv 7), .ref (a 8), .ref (a 9), .int (iv 10), .int (iv 11), .ref (a 12), .int (iv 13), .ref (a 14)])), (a 0, .inl (gA G 0, 15, .inl (fp))), (a 1, .inl (gA G 0, 15, .inl (fk))), (a 2, .inl (gA G 0, n, .inl (fl)))] → va_S A s.heap H locs → ∀ ls : Array Slot, lv_has ls 4 [(0, .ref (a 15)), (1, .int (pp)), (2, .int (k))] → W p l e (rm_ 1 1 14 25) s m args below meth c H locs 0 0 Q (F0 m 24 ls []) := by
    intro  hsb H locs hP hD hS ls hl
    refine lv_iload_n hx hb dX1_feature_24 rfl (lv_at hl 2 rfl) ?_
    refine lv_i2l (v := (k).toInt64) hx hb dX1_feature_25 rfl ?_
    refine lv_lconst (v := 0) hx hb dX1_feature_26 (by decide) ?_
    refine lv_ldc2 (v := (2)) hx hb hown (hts _ q218) dX1_feature_27 ?_
    refine vp_callSi (W.runS (As := [.long ((k).toInt64), .long (0), .long (2)]) (rest := []) ⟨hx, hb, hml, hown, hts⟩ (metX1_isIn l G (k.toInt64) (0) (2)) (va_cwS 3 hts (lw_S q219 q220 q29 q221) rfl rfl rfl (by decide +kernel) ⟨Nat.le_of_ble_eq_true rfl, Nat.le_of_ble_eq_true rfl⟩) (pre_RS hG (wP.mem (w' := []) hP (fun _ h => absurd h List.not_mem_nil)) hS hA0) rfl rfl hl.1 rfl (lv_room (Nat.le_of_ble_eq_true rfl)) dX1_feature_30 ⟨Nat.le_of_ble_eq_true rfl, Nat.le_of_ble_eq_true rfl⟩) (fun r_30 e_30 => ?_)
    subst e_30
    refine top_i (y := b2i (!decide (k < 0 ∨ 2 < k))) (congrArg b2i (in_I (lo := 0) (hi := 2) rfl rfl)) ?_
    refine lv_if_ne (tgt := 39) hx hb dX1_feature_33 (by decide) (fun c_33 => ?_) (fun c_33 => ?_)
    · have h33 : ¬ (k < 0 ∨ 2 < k) := nb_t c_33; have k1 : ¬ k < 0 := fun h => h33 (Or.inl h); have k2 : ¬ 2 < k := fun h => h33 (Or.inr h)
      refine lv_aload_n hx hb dX1_feature_39 rfl (lv_at hl 0 rfl) ?_
      refine va_get (D := gD G) (ci := 0) (v := .int (iv 11)) (C := RX1) (T := TX1) (N := 15) hx hb hts in_X1 hown hG.K hP 0 rfl rfl 11 (by decide) (hts _ q175) (fun _ h9 => h9) rfl dX1_feature_40 ?_
      refine top_i (y := nI n) (hn) ?_
      refine lv_bipush (v := 14) hx hb dX1_feature_43 (by decide) ?_
      refine lv_icmp_ne (tgt := 51) hx hb dX1_feature_45 (by decide) (fun c_45 => ?_) (fun c_45 => ?_)
      · have h45 : n ≠ 14 := nI_ne (a := n) (b := 14) c_45
        obtain ⟨g, rfl, hg1, hg2⟩ := sbad_of hn4 hsb
        refine lv_aload_n hx hb dX1_feature_51 rfl (lv_at hl 0 rfl) ?_
        refine lv_dup hx hb dX1_feature_52 rfl ?_
        refine va_get (D := gD G) (ci := 0) (v := .int (iv 11)) (C := RX1) (T := TX1) (N := 15) hx hb hts in_X1 hown hG.K hP 0 rfl rfl 11 (by decide) (hts _ q175) (fun _ h9 => h9) rfl dX1_feature_53 ?_
        refine top_i (y := nI n) (hn) ?_
        refine lv_iconst (v := 1) hx hb dX1_feature_56 (by decide) ?_
        refine lv_iadd hx hb dX1_feature_57 ?_
        refine top_i (y := nI (n + 1)) (nI_1 n) ?_
        refine va_put (D := gD G) (ci := 0) (v := .int (nI (n + 1))) (ty := .int) (C := RX1) (T := TX1) (N := 15) hx hb hts in_X1 tyX1 tyX1_ok nmX1 hown hG.K hP hD hS 0 rfl rfl 11 (by decide) (hts _ q175) (fun _ h9 => h9) rfl (by decide +kernel) rfl rfl (Nat.le_of_ble_eq_true rfl) dX1_feature_58 (fun H locs hP hD hS => ?_)
        have hP : wP G [(a 15, .inr (0, [.ref (a 0), .ref (a 1), .ref (a 2), .ref (a 3), .ref (a 4), .ref (a 5), .ref (a 6), .int (iv 7), .ref (a 8), .ref (a 9), .int (iv 10), .int (nI (n + 1)), .ref (a 12), .int (iv 13), .ref (a 14)])), (a 0, .inl (gA G 0, 15, .inl (fp))), (a 1, .inl (gA G 0, 15, .inl (fk))), (a 2, .inl (gA G 0, n, .inl (fl)))] H := hP
        have hD : va_D A [(a 15, .inr (0, [.ref (a 0), .ref (a 1), .ref (a 2), .ref (a 3), .ref (a 4), .ref (a 5), .ref (a 6), .int (iv 7), .ref (a 8), .ref (a 9), .int (iv 10), .int (nI (n + 1)), .ref (a 12), .int (iv 13), .ref (a 14)])), (a 0, .inl (gA G 0, 15, .inl (fp))), (a 1, .inl (gA G 0, 15, .inl (fk))), (a 2, .inl (gA G 0, n, .inl (fl)))] := hD
        refine lv_aload_n hx hb dX1_feature_61 rfl (lv_at hl 0 rfl) ?_
        refine va_get (D := gD G) (ci := 0) (v := .ref (a 0)) (C := RX1) (T := TX1) (N := 15) hx hb hts in_X1 hown hG.K hP 0 rfl rfl 0 (by decide) (hts _ q164) (fun _ h9 => h9) rfl dX1_feature_62 ?_
        refine lv_aload_n hx hb dX1_feature_65 rfl (lv_at hl 0 rfl) ?_
        refine va_get (D := gD G) (ci := 0) (v := .int (nI (n + 1))) (C := RX1) (T := TX1) (N := 15) hx hb hts in_X1 hown hG.K hP 0 rfl rfl 11 (by decide) (hts _ q175) (fun _ h9 => h9) rfl dX1_feature_66 ?_
        refine lv_iload_n hx hb dX1_feature_69 rfl (lv_at hl 1 rfl) ?_
        refine ia_st (j := n + 1) hx hb hG.K hP hD hS 1 0 rfl rfl (by omega) (by omega) dX1_feature_70 (fun H locs hP hD hS => ?_)
        have hP : wP G [(a 15, .inr (0, [.ref (a 0), .ref (a 1), .ref (a 2), .ref (a 3), .ref (a 4), .ref (a 5), .ref (a 6), .int (iv 7), .ref (a 8), .ref (a 9), .int (iv 10), .int (nI (n + 1)), .ref (a 12), .int (iv 13), .ref (a 14)])), (a 0, .inl (gA G 0, 15, .inl (upd fp (n + 1) (nI g)))), (a 1, .inl (gA G 0, 15, .inl (fk))), (a 2, .inl (gA G 0, n, .inl (fl)))] H := hP
        have hD : va_D A [(a 15, .inr (0, [.ref (a 0), .ref (a 1), .ref (a 2), .ref (a 3), .ref (a 4), .ref (a 5), .ref (a 6), .int (iv 7), .ref (a 8), .ref (a 9), .int (iv 10), .int (nI (n + 1)), .ref (a 12), .int (iv 13), .ref (a 14)])), (a 0, .inl (gA G 0, 15, .inl (upd fp (n + 1) (nI g)))), (a 1, .inl (gA G 0, 15, .inl (fk))), (a 2, .inl (gA G 0, n, .inl (fl)))] := hD
        refine lv_aload_n hx hb dX1_feature_71 rfl (lv_at hl 0 rfl) ?_
        refine va_get (D := gD G) (ci := 0) (v := .ref (a 1)) (C := RX1) (T := TX1) (N := 15) hx hb hts in_X1 hown hG.K hP 0 rfl rfl 1 (by decide) (hts _ q165) (fun _ h9 => h9) rfl dX1_feature_72 ?_
        refine lv_aload_n hx hb dX1_feature_75 rfl (lv_at hl 0 rfl) ?_
        refine va_get (D := gD G) (ci := 0) (v := .int (nI (n + 1))) (C := RX1) (T := TX1) (N := 15) hx hb hts in_X1 hown hG.K hP 0 rfl rfl 11 (by decide) (hts _ q175) (fun _ h9 => h9) rfl dX1_feature_76 ?_
        refine lv_iload_n hx hb dX1_feature_79 rfl (lv_at hl 2 rfl) ?_
        refine ia_st (j := n + 1) hx hb hG.K hP hD hS 2 0 rfl rfl (by omega) (by omega) dX1_feature_80 (fun H locs hP hD hS => ?_)
        have hP : wP G [(a 15, .inr (0, [.ref (a 0), .ref (a 1), .ref (a 2), .ref (a 3), .ref (a 4), .ref (a 5), .ref (a 6), .int (iv 7), .ref (a 8), .ref (a 9), .int (iv 10), .int (nI (n + 1)), .ref (a 12), .int (iv 13), .ref (a 14)])), (a 0, .inl (gA G 0, 15, .inl (upd fp (n + 1) (nI g)))), (a 1, .inl (gA G 0, 15, .inl (upd fk (n + 1) (k)))), (a 2, .inl (gA G 0, n, .inl (fl)))] H := hP
        have hD : va_D A [(a 15, .inr (0, [.ref (a 0), .ref (a 1), .ref (a 2), .ref (a 3), .ref (a 4), .ref (a 5), .ref (a 6), .int (iv 7), .ref (a 8), .ref (a 9), .int (iv 10), .int (nI (n + 1)), .ref (a 12), .int (iv 13), .ref (a 14)])), (a 0, .inl (gA G 0, 15, .inl (upd fp (n + 1) (nI g)))), (a 1, .inl (gA G 0, 15, .inl (upd fk (n + 1) (k)))), (a 2, .inl (gA G 0, n, .inl (fl)))] := hD
        refine lv_aload_n hx hb dX1_feature_81 rfl (lv_at hl 0 rfl) ?_
        refine va_get (D := gD G) (ci := 0) (v := .int (nI (n + 1))) (C := RX1) (T := TX1) (N := 15) hx hb hts in_X1 hown hG.K hP 0 rfl rfl 11 (by decide) (hts _ q175) (fun _ h9 => h9) rfl dX1_feature_82 ?_
        refine va_newa (D := gD G) (atype := .int) (ty := .int) (N' := n + 1) (a0 := (n + 1, .inl (fun _ => 0))) hx hb (hts _ q107) rfl hG.K hP hD hS hA (fun _ => rfl) (nI_pos (by omega)) (nI_clamp (by omega)) (by show _ * 4 ≤ _; omega) (Nat.le_of_ble_eq_true rfl) (by show 0 + _ ≤ 14; omega) dX1_feature_85 (fun o1 cA H hK hP hD hS => ?_)
        obtain rfl := arrP (k := 0) (fun _ => rfl) rfl hG hK
        clear hK
        have hP : wP G [(a 15, .inr (0, [.ref (a 0), .ref (a 1), .ref (a 2), .ref (a 3), .ref (a 4), .ref (a 5), .ref (a 6), .int (iv 7), .ref (a 8), .ref (a 9), .int (iv 10), .int (nI (n + 1)), .ref (a 12), .int (iv 13), .ref (a 14)])), (a 0, .inl (gA G 0, 15, .inl (upd fp (n + 1) (nI g)))), (a 1, .inl (gA G 0, 15, .inl (upd fk (n + 1) (k)))), (a 2, .inl (gA G 0, n, .inl (fl))), (o1, .inl (gA G 0, n + 1, .inl ((fun _ => 0))))] H := hP
        have hD : va_D A [(a 15, .inr (0, [.ref (a 0), .ref (a 1), .ref (a 2), .ref (a 3), .ref (a 4), .ref (a 5), .ref (a 6), .int (iv 7), .ref (a 8), .ref (a 9), .int (iv 10), .int (nI (n + 1)), .ref (a 12), .int (iv 13), .ref (a 14)])), (a 0, .inl (gA G 0, 15, .inl (upd fp (n + 1) (nI g)))), (a 1, .inl (gA G 0, 15, .inl (upd fk (n + 1) (k)))), (a 2, .inl (gA G 0, n, .inl (fl))), (o1, .inl (gA G 0, n + 1, .inl ((fun _ => 0))))] := hD
        refine W.widen (k := 1) (n := 14) (by omega) (by omega) ?_
        refine lv_astore_n (lv' := [(3, .ref (o1)), (0, .ref (a 15)), (1, .int (nI g)), (2, .int (k))]) hx hb dX1_feature_87 rfl hl (by decide) rfl (fun ls hl => ?_)
        refine lv_aload_n hx hb dX1_feature_88 rfl (lv_at hl 1 rfl) ?_
        refine va_get (D := gD G) (ci := 0) (v := .ref (a 2)) (C := RX1) (T := TX1) (N := 15) hx hb hts in_X1 hown hG.K hP 0 rfl rfl 2 (by decide) (hts _ q166) (fun _ h9 => h9) rfl dX1_feature_89 ?_
        refine lv_iconst (v := 0) hx hb dX1_feature_92 (by decide) ?_
        refine lv_aload_n hx hb dX1_feature_93 rfl (lv_at hl 0 rfl) ?_
        refine lv_iconst (v := 0) hx hb dX1_feature_94 (by decide) ?_
        refine lv_aload_n hx hb dX1_feature_95 rfl (lv_at hl 1 rfl) ?_
        refine va_get (D := gD G) (ci := 0) (v := .ref (a 2)) (C := RX1) (T := TX1) (N := 15) hx hb hts in_X1 hown hG.K hP 0 rfl rfl 2 (by decide) (hts _ q166) (fun _ h9 => h9) rfl dX1_feature_96 ?_
        refine va_alen (v := nI (n)) hx hb hG.K hP 3 0 rfl rfl rfl dX1_feature_99 ?_
        refine va_copyi (ty := .int) hx hb (by rw [hml]; exact hl.1.symm) hown (hts _ q222) (hts _ q224) (hts _ q223) (hts _ q37) hG.K hP hD hS 3 4 0 0 rfl rfl rfl rfl rfl (by decide) (by decide) (nI_pos (by omega)) (by rw [clamp0, nI_clamp (show n < 2 ^ 31 by omega)]; omega) (by rw [clamp0, nI_clamp (show n < 2 ^ 31 by omega)]; omega) (fun _ _ => rfl) (Nat.le_of_ble_eq_true rfl) (Nat.le_of_ble_eq_true rfl) dX1_feature_100 (fun H locs hP hD hS => ?_)
        rw [clamp0, nI_clamp (show n < 2 ^ 31 by omega)] at hP hD
        have hP : wP G [(a 15, .inr (0, [.ref (a 0), .ref (a 1), .ref (a 2), .ref (a 3), .ref (a 4), .ref (a 5), .ref (a 6), .int (iv 7), .ref (a 8), .ref (a 9), .int (iv 10), .int (nI (n + 1)), .ref (a 12), .int (iv 13), .ref (a 14)])), (a 0, .inl (gA G 0, 15, .inl (upd fp (n + 1) (nI g)))), (a 1, .inl (gA G 0, 15, .inl (upd fk (n + 1) (k)))), (a 2, .inl (gA G 0, n, .inl (fl))), (o1, .inl (gA G 0, n + 1, .inl (va_cpy (fl) ((fun _ => 0)) 0 0 (n))))] H := hP
        have hD : va_D A [(a 15, .inr (0, [.ref (a 0), .ref (a 1), .ref (a 2), .ref (a 3), .ref (a 4), .ref (a 5), .ref (a 6), .int (iv 7), .ref (a 8), .ref (a 9), .int (iv 10), .int (nI (n + 1)), .ref (a 12), .int (iv 13), .ref (a 14)])), (a 0, .inl (gA G 0, 15, .inl (upd fp (n + 1) (nI g)))), (a 1, .inl (gA G 0, 15, .inl (upd fk (n + 1) (k)))), (a 2, .inl (gA G 0, n, .inl (fl))), (o1, .inl (gA G 0, n + 1, .inl (va_cpy (fl) ((fun _ => 0)) 0 0 (n))))] := hD
        refine lv_aload_n hx hb dX1_feature_103 rfl (lv_at hl 0 rfl) ?_
        refine lv_aload_n hx hb dX1_feature_104 rfl (lv_at hl 1 rfl) ?_
        refine va_get (D := gD G) (ci := 0) (v := .int (nI (n + 1))) (C := RX1) (T := TX1) (N := 15) hx hb hts in_X1 hown hG.K hP 0 rfl rfl 11 (by decide) (hts _ q175) (fun _ h9 => h9) rfl dX1_feature_105 ?_
        refine lv_iconst (v := 1) hx hb dX1_feature_108 (by decide) ?_
        refine lv_isub hx hb dX1_feature_109 ?_
        refine top_i (y := nI n) (nI_pred n) ?_
        refine lv_iload_n hx hb dX1_feature_110 rfl (lv_at hl 2 rfl) ?_
        refine lv_if_ne (tgt := 118) hx hb dX1_feature_111 (by decide) (fun c_111 => ?_) (fun c_111 => ?_)
        · have h111 : g ≠ 0 := nI_ne (a := g) (b := 0) c_111; have hlv := hX.2.2 (g - 1) (by omega); rw [Nat.sub_add_cancel (show 1 ≤ g by omega)] at hlv; have hds := dp_step (pa := sPa S) (n := sN S) (fun j h1 h2 => (hW.2.1 j h1 h2).1) (show 1 ≤ g by omega) (by omega) hW.1
          refine lv_aload_n hx hb dX1_feature_118 rfl (lv_at hl 1 rfl) ?_
          refine va_get (D := gD G) (ci := 0) (v := .ref (a 2)) (C := RX1) (T := TX1) (N := 15) hx hb hts in_X1 hown hG.K hP 0 rfl rfl 2 (by decide) (hts _ q166) (fun _ h9 => h9) rfl dX1_feature_119 ?_
          refine lv_iload_n hx hb dX1_feature_122 rfl (lv_at hl 2 rfl) ?_
          refine lv_iconst (v := 1) hx hb dX1_feature_123 (by decide) ?_
          refine lv_isub hx hb dX1_feature_124 ?_
          refine top_i (y := nI (g - 1)) (pk_sub (b := 1) (by omega)) ?_
          refine ia_ld (j := g - 1) hx hb hG.K hP 3 0 rfl rfl (by omega) (by omega) dX1_feature_125 ?_
          refine top_i (y := nI (dpN (sPa S) 15 (sPa S g))) (hlv) ?_
          refine lv_iconst (v := 1) hx hb dX1_feature_126 (by decide) ?_
          refine lv_iadd hx hb dX1_feature_127 ?_
          refine top_i (y := nI (dpN (sPa S) 15 g)) (by rw [hds]; exact nI_1 _) ?_
          refine ia_st (j := n) hx hb hG.K hP hD hS 4 0 rfl rfl (by omega) (by omega) dX1_feature_128 (fun H locs hP hD hS => ?_)
          have hP : wP G [(a 15, .inr (0, [.ref (a 0), .ref (a 1), .ref (a 2), .ref (a 3), .ref (a 4), .ref (a 5), .ref (a 6), .int (iv 7), .ref (a 8), .ref (a 9), .int (iv 10), .int (nI (n + 1)), .ref (a 12), .int (iv 13), .ref (a 14)])), (a 0, .inl (gA G 0, 15, .inl (upd fp (n + 1) (nI g)))), (a 1, .inl (gA G 0, 15, .inl (upd fk (n + 1) (k)))), (a 2, .inl (gA G 0, n, .inl (fl))), (o1, .inl (gA G 0, n + 1, .inl (upd (va_cpy (fl) ((fun _ => 0)) 0 0 (n)) (n) (nI (dpN (sPa S) 15 g)))))] H := hP
          have hD : va_D A [(a 15, .inr (0, [.ref (a 0), .ref (a 1), .ref (a 2), .ref (a 3), .ref (a 4), .ref (a 5), .ref (a 6), .int (iv 7), .ref (a 8), .ref (a 9), .int (iv 10), .int (nI (n + 1)), .ref (a 12), .int (iv 13), .ref (a 14)])), (a 0, .inl (gA G 0, 15, .inl (upd fp (n + 1) (nI g)))), (a 1, .inl (gA G 0, 15, .inl (upd fk (n + 1) (k)))), (a 2, .inl (gA G 0, n, .inl (fl))), (o1, .inl (gA G 0, n + 1, .inl (upd (va_cpy (fl) ((fun _ => 0)) 0 0 (n)) (n) (nI (dpN (sPa S) 15 g)))))] := hD
          refine lv_aload_n hx hb dX1_feature_129 rfl (lv_at hl 1 rfl) ?_
          refine lv_aload_n hx hb dX1_feature_130 rfl (lv_at hl 0 rfl) ?_
          refine va_put (D := gD G) (ci := 0) (v := .ref (o1)) (ty := .array (.int)) (C := RX1) (T := TX1) (N := 15) hx hb hts in_X1 tyX1 tyX1_ok nmX1 hown hG.K hP hD hS 0 rfl rfl 2 (by decide) (hts _ q166) (fun _ h9 => h9) rfl (by decide +kernel) rfl rfl (Nat.le_of_ble_eq_true rfl) dX1_feature_131 (fun H locs hP hD hS => ?_)
          have hP : wP G [(a 15, .inr (0, [.ref (a 0), .ref (a 1), .ref (o1), .ref (a 3), .ref (a 4), .ref (a 5), .ref (a 6), .int (iv 7), .ref (a 8), .ref (a 9), .int (iv 10), .int (nI (n + 1)), .ref (a 12), .int (iv 13), .ref (a 14)])), (a 0, .inl (gA G 0, 15, .inl (upd fp (n + 1) (nI g)))), (a 1, .inl (gA G 0, 15, .inl (upd fk (n + 1) (k)))), (a 2, .inl (gA G 0, n, .inl (fl))), (o1, .inl (gA G 0, n + 1, .inl (upd (va_cpy (fl) ((fun _ => 0)) 0 0 (n)) (n) (nI (dpN (sPa S) 15 g)))))] H := hP
          have hD : va_D A [(a 15, .inr (0, [.ref (a 0), .ref (a 1), .ref (o1), .ref (a 3), .ref (a 4), .ref (a 5), .ref (a 6), .int (iv 7), .ref (a 8), .ref (a 9), .int (iv 10), .int (nI (n + 1)), .ref (a 12), .int (iv 13), .ref (a 14)])), (a 0, .inl (gA G 0, 15, .inl (upd fp (n + 1) (nI g)))), (a 1, .inl (gA G 0, 15, .inl (upd fk (n + 1) (k)))), (a 2, .inl (gA G 0, n, .inl (fl))), (o1, .inl (gA G 0, n + 1, .inl (upd (va_cpy (fl) ((fun _ => 0)) 0 0 (n)) (n) (nI (dpN (sPa S) 15 g)))))] := hD
          refine lv_aload_n hx hb dX1_feature_134 rfl (lv_at hl 1 rfl) ?_
          refine lv_iconst (v := 0) hx hb dX1_feature_135 (by decide) ?_
          refine va_put (D := gD G) (ci := 0) (v := .int (0)) (ty := .boolean) (C := RX1) (T := TX1) (N := 15) hx hb hts in_X1 tyX1 tyX1_ok nmX1 hown hG.K hP hD hS 0 rfl rfl 10 (by decide) (hts _ q174) (fun _ h9 => h9) rfl (by decide +kernel) rfl rfl (Nat.le_of_ble_eq_true rfl) dX1_feature_136 (fun H locs hP hD hS => ?_)
          have hP : wP G [(a 15, .inr (0, [.ref (a 0), .ref (a 1), .ref (o1), .ref (a 3), .ref (a 4), .ref (a 5), .ref (a 6), .int (iv 7), .ref (a 8), .ref (a 9), .int (0), .int (nI (n + 1)), .ref (a 12), .int (iv 13), .ref (a 14)])), (a 0, .inl (gA G 0, 15, .inl (upd fp (n + 1) (nI g)))), (a 1, .inl (gA G 0, 15, .inl (upd fk (n + 1) (k)))), (a 2, .inl (gA G 0, n, .inl (fl))), (o1, .inl (gA G 0, n + 1, .inl (upd (va_cpy (fl) ((fun _ => 0)) 0 0 (n)) (n) (nI (dpN (sPa S) 15 g)))))] H := hP
          have hD : va_D A [(a 15, .inr (0, [.ref (a 0), .ref (a 1), .ref (o1), .ref (a 3), .ref (a 4), .ref (a 5), .ref (a 6), .int (iv 7), .ref (a 8), .ref (a 9), .int (0), .int (nI (n + 1)), .ref (a 12), .int (iv 13), .ref (a 14)])), (a 0, .inl (gA G 0, 15, .inl (upd fp (n + 1) (nI g)))), (a 1, .inl (gA G 0, 15, .inl (upd fk (n + 1) (k)))), (a 2, .inl (gA G 0, n, .inl (fl))), (o1, .inl (gA G 0, n + 1, .inl (upd (va_cpy (fl) ((fun _ => 0)) 0 0 (n)) (n) (nI (dpN (sPa S) 15 g)))))] := hD
          refine lv_aload_n hx hb dX1_feature_139 rfl (lv_at hl 1 rfl) ?_
          refine va_get (D := gD G) (ci := 0) (v := .int (nI (n + 1))) (C := RX1) (T := TX1) (N := 15) hx hb hts in_X1 hown hG.K hP 0 rfl rfl 11 (by decide) (hts _ q175) (fun _ h9 => h9) rfl dX1_feature_140 ?_
          have hP := (wP.perm (w' := [(a 2, .inl (gA G 0, n, .inl (fl)))] ++ [(a 15, .inr (0, [.ref (a 0), .ref (a 1), .ref (o1), .ref (a 3), .ref (a 4), .ref (a 5), .ref (a 6), .int (iv 7), .ref (a 8), .ref (a 9), .int (0), .int (nI (n + 1)), .ref (a 12), .int (iv 13), .ref (a 14)])), (a 0, .inl (gA G 0, 15, .inl (upd fp (n + 1) (nI g)))), (a 1, .inl (gA G 0, 15, .inl (upd fk (n + 1) (k)))), (o1, .inl (gA G 0, n + 1, .inl (upd (va_cpy (fl) ((fun _ => 0)) 0 0 (n)) (n) (nI (dpN (sPa S) 15 g)))))]) hP (pm_ (fun _ z => by simp only [List.count_append, List.count_cons, List.count_nil]; omega))).right
          have hD := (va_D.perm (w' := [(a 2, .inl (gA G 0, n, .inl (fl)))] ++ [(a 15, .inr (0, [.ref (a 0), .ref (a 1), .ref (o1), .ref (a 3), .ref (a 4), .ref (a 5), .ref (a 6), .int (iv 7), .ref (a 8), .ref (a 9), .int (0), .int (nI (n + 1)), .ref (a 12), .int (iv 13), .ref (a 14)])), (a 0, .inl (gA G 0, 15, .inl (upd fp (n + 1) (nI g)))), (a 1, .inl (gA G 0, 15, .inl (upd fk (n + 1) (k)))), (o1, .inl (gA G 0, n + 1, .inl (upd (va_cpy (fl) ((fun _ => 0)) 0 0 (n)) (n) (nI (dpN (sPa S) 15 g)))))]) hD (pm_ (fun _ z => by simp only [List.count_append, List.count_cons, List.count_nil]; omega))).right
          exact ret (nI (n + 1)) _ 143 ls _ _ _ _ dX1_feature_143 rfl (Nat.le_of_ble_eq_true rfl) (Nat.le_of_ble_eq_true rfl) hP hD hS (by subst hnS; exact Or.inr ⟨g, o1, _, rfl, hg1, hg2, hsb, k1, k2, h45, ft_4 hsb k1 k2 h45, rfl, fun j hj => by rw [pk_un (by omega), pk_cpy_in (Nat.zero_le _) (by omega)]; simp, pk_us⟩)
        · have h111 : g = 0 := nI_e (a := g) (b := 0) c_111
          refine lv_iconst (v := 0) hx hb dX1_feature_114 (by decide) ?_
          refine lv_goto (tgt := 128) hx hb dX1_feature_115 (by decide) ?_
          refine top_i (y := nI (dpN (sPa S) 15 g)) (by rw [h111]; rfl) ?_
          refine ia_st (j := n) hx hb hG.K hP hD hS 4 0 rfl rfl (by omega) (by omega) dX1_feature_128 (fun H locs hP hD hS => ?_)
          have hP : wP G [(a 15, .inr (0, [.ref (a 0), .ref (a 1), .ref (a 2), .ref (a 3), .ref (a 4), .ref (a 5), .ref (a 6), .int (iv 7), .ref (a 8), .ref (a 9), .int (iv 10), .int (nI (n + 1)), .ref (a 12), .int (iv 13), .ref (a 14)])), (a 0, .inl (gA G 0, 15, .inl (upd fp (n + 1) (nI g)))), (a 1, .inl (gA G 0, 15, .inl (upd fk (n + 1) (k)))), (a 2, .inl (gA G 0, n, .inl (fl))), (o1, .inl (gA G 0, n + 1, .inl (upd (va_cpy (fl) ((fun _ => 0)) 0 0 (n)) (n) (nI (dpN (sPa S) 15 g)))))] H := hP
          have hD : va_D A [(a 15, .inr (0, [.ref (a 0), .ref (a 1), .ref (a 2), .ref (a 3), .ref (a 4), .ref (a 5), .ref (a 6), .int (iv 7), .ref (a 8), .ref (a 9), .int (iv 10), .int (nI (n + 1)), .ref (a 12), .int (iv 13), .ref (a 14)])), (a 0, .inl (gA G 0, 15, .inl (upd fp (n + 1) (nI g)))), (a 1, .inl (gA G 0, 15, .inl (upd fk (n + 1) (k)))), (a 2, .inl (gA G 0, n, .inl (fl))), (o1, .inl (gA G 0, n + 1, .inl (upd (va_cpy (fl) ((fun _ => 0)) 0 0 (n)) (n) (nI (dpN (sPa S) 15 g)))))] := hD
          refine lv_aload_n hx hb dX1_feature_129 rfl (lv_at hl 1 rfl) ?_
          refine lv_aload_n hx hb dX1_feature_130 rfl (lv_at hl 0 rfl) ?_
          refine va_put (D := gD G) (ci := 0) (v := .ref (o1)) (ty := .array (.int)) (C := RX1) (T := TX1) (N := 15) hx hb hts in_X1 tyX1 tyX1_ok nmX1 hown hG.K hP hD hS 0 rfl rfl 2 (by decide) (hts _ q166) (fun _ h9 => h9) rfl (by decide +kernel) rfl rfl (Nat.le_of_ble_eq_true rfl) dX1_feature_131 (fun H locs hP hD hS => ?_)
          have hP : wP G [(a 15, .inr (0, [.ref (a 0), .ref (a 1), .ref (o1), .ref (a 3), .ref (a 4), .ref (a 5), .ref (a 6), .int (iv 7), .ref (a 8), .ref (a 9), .int (iv 10), .int (nI (n + 1)), .ref (a 12), .int (iv 13), .ref (a 14)])), (a 0, .inl (gA G 0, 15, .inl (upd fp (n + 1) (nI g)))), (a 1, .inl (gA G 0, 15, .inl (upd fk (n + 1) (k)))), (a 2, .inl (gA G 0, n, .inl (fl))), (o1, .inl (gA G 0, n + 1, .inl (upd (va_cpy (fl) ((fun _ => 0)) 0 0 (n)) (n) (nI (dpN (sPa S) 15 g)))))] H := hP
          have hD : va_D A [(a 15, .inr (0, [.ref (a 0), .ref (a 1), .ref (o1), .ref (a 3), .ref (a 4), .ref (a 5), .ref (a 6), .int (iv 7), .ref (a 8), .ref (a 9), .int (iv 10), .int (nI (n + 1)), .ref (a 12), .int (iv 13), .ref (a 14)])), (a 0, .inl (gA G 0, 15, .inl (upd fp (n + 1) (nI g)))), (a 1, .inl (gA G 0, 15, .inl (upd fk (n + 1) (k)))), (a 2, .inl (gA G 0, n, .inl (fl))), (o1, .inl (gA G 0, n + 1, .inl (upd (va_cpy (fl) ((fun _ => 0)) 0 0 (n)) (n) (nI (dpN (sPa S) 15 g)))))] := hD
          refine lv_aload_n hx hb dX1_feature_134 rfl (lv_at hl 1 rfl) ?_
          refine lv_iconst (v := 0) hx hb dX1_feature_135 (by decide) ?_
          refine va_put (D := gD G) (ci := 0) (v := .int (0)) (ty := .boolean) (C := RX1) (T := TX1) (N := 15) hx hb hts in_X1 tyX1 tyX1_ok nmX1 hown hG.K hP hD hS 0 rfl rfl 10 (by decide) (hts _ q174) (fun _ h9 => h9) rfl (by decide +kernel) rfl rfl (Nat.le_of_ble_eq_true rfl) dX1_feature_136 (fun H locs hP hD hS => ?_)
          have hP : wP G [(a 15, .inr (0, [.ref (a 0), .ref (a 1), .ref (o1), .ref (a 3), .ref (a 4), .ref (a 5), .ref (a 6), .int (iv 7), .ref (a 8), .ref (a 9), .int (0), .int (nI (n + 1)), .ref (a 12), .int (iv 13), .ref (a 14)])), (a 0, .inl (gA G 0, 15, .inl (upd fp (n + 1) (nI g)))), (a 1, .inl (gA G 0, 15, .inl (upd fk (n + 1) (k)))), (a 2, .inl (gA G 0, n, .inl (fl))), (o1, .inl (gA G 0, n + 1, .inl (upd (va_cpy (fl) ((fun _ => 0)) 0 0 (n)) (n) (nI (dpN (sPa S) 15 g)))))] H := hP
          have hD : va_D A [(a 15, .inr (0, [.ref (a 0), .ref (a 1), .ref (o1), .ref (a 3), .ref (a 4), .ref (a 5), .ref (a 6), .int (iv 7), .ref (a 8), .ref (a 9), .int (0), .int (nI (n + 1)), .ref (a 12), .int (iv 13), .ref (a 14)])), (a 0, .inl (gA G 0, 15, .inl (upd fp (n + 1) (nI g)))), (a 1, .inl (gA G 0, 15, .inl (upd fk (n + 1) (k)))), (a 2, .inl (gA G 0, n, .inl (fl))), (o1, .inl (gA G 0, n + 1, .inl (upd (va_cpy (fl) ((fun _ => 0)) 0 0 (n)) (n) (nI (dpN (sPa S) 15 g)))))] := hD
          refine lv_aload_n hx hb dX1_feature_139 rfl (lv_at hl 1 rfl) ?_
          refine va_get (D := gD G) (ci := 0) (v := .int (nI (n + 1))) (C := RX1) (T := TX1) (N := 15) hx hb hts in_X1 hown hG.K hP 0 rfl rfl 11 (by decide) (hts _ q175) (fun _ h9 => h9) rfl dX1_feature_140 ?_
          have hP := (wP.perm (w' := [(a 2, .inl (gA G 0, n, .inl (fl)))] ++ [(a 15, .inr (0, [.ref (a 0), .ref (a 1), .ref (o1), .ref (a 3), .ref (a 4), .ref (a 5), .ref (a 6), .int (iv 7), .ref (a 8), .ref (a 9), .int (0), .int (nI (n + 1)), .ref (a 12), .int (iv 13), .ref (a 14)])), (a 0, .inl (gA G 0, 15, .inl (upd fp (n + 1) (nI g)))), (a 1, .inl (gA G 0, 15, .inl (upd fk (n + 1) (k)))), (o1, .inl (gA G 0, n + 1, .inl (upd (va_cpy (fl) ((fun _ => 0)) 0 0 (n)) (n) (nI (dpN (sPa S) 15 g)))))]) hP (pm_ (fun _ z => by simp only [List.count_append, List.count_cons, List.count_nil]; omega))).right
          have hD := (va_D.perm (w' := [(a 2, .inl (gA G 0, n, .inl (fl)))] ++ [(a 15, .inr (0, [.ref (a 0), .ref (a 1), .ref (o1), .ref (a 3), .ref (a 4), .ref (a 5), .ref (a 6), .int (iv 7), .ref (a 8), .ref (a 9), .int (0), .int (nI (n + 1)), .ref (a 12), .int (iv 13), .ref (a 14)])), (a 0, .inl (gA G 0, 15, .inl (upd fp (n + 1) (nI g)))), (a 1, .inl (gA G 0, 15, .inl (upd fk (n + 1) (k)))), (o1, .inl (gA G 0, n + 1, .inl (upd (va_cpy (fl) ((fun _ => 0)) 0 0 (n)) (n) (nI (dpN (sPa S) 15 g)))))]) hD (pm_ (fun _ z => by simp only [List.count_append, List.count_cons, List.count_nil]; omega))).right
          exact ret (nI (n + 1)) _ 143 ls _ _ _ _ dX1_feature_143 rfl (Nat.le_of_ble_eq_true rfl) (Nat.le_of_ble_eq_true rfl) hP hD hS (by subst hnS; exact Or.inr ⟨g, o1, _, rfl, hg1, hg2, hsb, k1, k2, h45, ft_4 hsb k1 k2 h45, rfl, fun j hj => by rw [pk_un (by omega), pk_cpy_in (Nat.zero_le _) (by omega)]; simp, pk_us⟩)
      · have h45 : n = 14 := nI_e (a := n) (b := 14) c_45
        refine lv_bipush (v := (-4)) hx hb dX1_feature_48 (by decide) ?_
        exact ret (-4) _ 50 ls _ _ _ _ dX1_feature_50 rfl (Nat.le_of_ble_eq_true rfl) (Nat.le_of_ble_eq_true rfl) hP hD hS (by subst hnS; exact Or.inl ⟨ft_3 hsb k1 k2 h45, rfl⟩)
    · have h33 : k < 0 ∨ 2 < k := nb_f c_33
      refine lv_bipush (v := (-2)) hx hb dX1_feature_36 (by decide) ?_
      exact ret (-2) _ 38 ls _ _ _ _ dX1_feature_38 rfl (Nat.le_of_ble_eq_true rfl) (Nat.le_of_ble_eq_true rfl) hP hD hS (by subst hnS; exact Or.inl ⟨ft_2 hsb h33, rfl⟩)
  refine lv_aload_n hx hb dX1_feature_0 rfl (lv_at hl 0 rfl) ?_
  refine va_get (D := gD G) (ci := 0) (v := .int (iv 11)) (C := RX1) (T := TX1) (N := 15) hx hb hts in_X1 hown hG.K hP 0 rfl rfl 11 (by decide) (hts _ q175) (fun _ h9 => h9) rfl dX1_feature_1 ?_
  refine top_i (y := nI n) (hn) ?_
  refine lv_if_ne (tgt := 14) hx hb dX1_feature_4 (by decide) (fun c_4 => ?_) (fun c_4 => ?_)
  · have h4 : n ≠ 0 := nI_ne (a := n) (b := 0) c_4
    refine lv_aload_n hx hb dX1_feature_14 rfl (lv_at hl 0 rfl) ?_
    refine lv_iload_n hx hb dX1_feature_15 rfl (lv_at hl 1 rfl) ?_
    refine vp_callSi (W.runV (As := [.int (pp)]) (rest := []) ⟨hx, hb, hml, hown, hts⟩ (metX1_is l G a iv (pp)) (cwV 1 hts (lw_V q214 q216 qs0 q29 q217) rfl rfl rfl (by decide +kernel) ⟨Nat.le_of_ble_eq_true rfl, Nat.le_of_ble_eq_true rfl⟩) (pre_RV (q0 := 0) hG (wP.left (wP.perm (w' := [(a 15, .inr (0, [.ref (a 0), .ref (a 1), .ref (a 2), .ref (a 3), .ref (a 4), .ref (a 5), .ref (a 6), .int (iv 7), .ref (a 8), .ref (a 9), .int (iv 10), .int (iv 11), .ref (a 12), .int (iv 13), .ref (a 14)]))] ++ [(a 0, .inl (gA G 0, 15, .inl (fp))), (a 1, .inl (gA G 0, 15, .inl (fk))), (a 2, .inl (gA G 0, n, .inl (fl)))]) hP (pm_ (fun _ z => by simp only [List.count_append, List.count_cons, List.count_nil]; omega)))) hS hA0 rfl rfl) rfl rfl hl.1 rfl (lv_room (Nat.le_of_ble_eq_true rfl)) dX1_feature_16 ⟨Nat.le_of_ble_eq_true rfl, Nat.le_of_ble_eq_true rfl⟩) (fun r_16 e_16 => ?_)
    subst e_16
    refine top_i (y := b2i (isF (pp) (nI n))) (congrArg (fun z => b2i (isF (pp) z)) hn) ?_
    refine lv_if_ne (tgt := 24) hx hb dX1_feature_19 (by decide) (fun c_19 => ?_) (fun c_19 => ?_)
    · have h19 : isF pp (nI n) = true := b2i_n0.mp c_19
      exact J24 (by simp [sbad, h4, h19]) _ _ hP hD hS ls hl
    · have h19 : isF pp (nI n) = false := b2i_0.mp c_19
      refine lv_iconst (v := (-1)) hx hb dX1_feature_22 (by decide) ?_
      exact ret (-1) _ 23 ls _ _ _ _ dX1_feature_23 rfl (Nat.le_of_ble_eq_true rfl) (Nat.le_of_ble_eq_true rfl) hP hD hS (by subst hnS; exact Or.inl ⟨ft_1 (by simp [sbad, h4, h19]), rfl⟩)
  · have h4 : n = 0 := nI_e (a := n) (b := 0) c_4
    refine lv_iload_n hx hb dX1_feature_7 rfl (lv_at hl 1 rfl) ?_
    refine lv_if_eq (tgt := 24) hx hb dX1_feature_8 (by decide) (fun c_8 => ?_) (fun c_8 => ?_)
    · skip
      exact J24 (by simp [sbad, h4, c_8]) _ _ hP hD hS ls hl
    · skip
      refine lv_goto (tgt := 22) hx hb dX1_feature_11 (by decide) ?_
      refine lv_iconst (v := (-1)) hx hb dX1_feature_22 (by decide) ?_
      exact ret (-1) _ 23 ls _ _ _ _ dX1_feature_23 rfl (Nat.le_of_ble_eq_true rfl) (Nat.le_of_ble_eq_true rfl) hP hD hS (by subst hnS; exact Or.inl ⟨ft_1 (by simp [sbad, h4, c_8]), rfl⟩)
theorem asg_rf (vm : Vm) (c : ClassId) : vm.assignable c c = true := by
  show vm.assignableAux (255 + 1) c c = true
  rw [Vm.assignableAux, beq_self_eq_true, Bool.true_or]
theorem GG.gg {G : Gt} {U : State} (hG : GG G U) : ∃ kA, U.vm.classes[gA G 6]? = some kA ∧ kA.kind = .array (gA G 0) (.array .int) ∧ ∃ kI, U.vm.classes[gA G 0]? = some kI := by
  obtain ⟨comp, cA, kA, hcomp, -, hkA, hkind, hname⟩ := arrayOverA_spec (hG.at q74)
  have hal := hG.warm.alike
  obtain ⟨kA', h1, h2⟩ := hal.2.2 _ _ hkA
  have e1 : cA = gA G 6 := by
    have h6 : U.vm.findClass ("[" ++ (FieldType.array .int).toString) = some (gA G 6) := (hG.K.2 6 _ rfl).2
    rw [hal.findClass] at h6
    exact Option.some.inj (hname.symm.trans h6)
  have h5 : U.vm.findClass ("[" ++ FieldType.int.toString) = some (gA G 0) := (hG.K.2 0 _ rfl).2
  have e2 : comp = gA G 0 := by
    have h5' := h5
    rw [hal.findClass] at h5'
    exact Option.some.inj (hcomp.symm.trans h5')
  subst e1 e2
  obtain ⟨kI, hkI, -⟩ := Vm.findClass_spec h5
  exact ⟨kA', h1, by rw [h2]; exact hkind, kI, hkI⟩
section RowsG
variable {p : Program} {l : Launch} {e : Env} {R : Room} {s : State} {m : MethodId} {args : Array Value} {below : List Frame} {meth : Method} {c : Code} {H : Heap} {locs : List Loc} {cells slots : Nat} {Q : State → Prop} {cc : ByteArray} {pc : Nat} {ls : Array Slot} {rest : List Value} {A0 : Nat → Prop} {D : va_G} {cl : List vw_C} {tys : List (ClassId × FieldType)} {ws : va_W} {H0 : Heap} {a j n : Nat} {cA : ClassId}
/-- an int array into an array of int arrays -/
theorem ga_st {G : Gt} (hx : p.tables.exec = Jvm.exec) (hb : c.code = cc) {f : Nat → Option Nat} {v n1 : Nat} {g : Nat → Int32} (hG : GG G s) (hP : wP G ws H) (hD : va_D A0 ws) (hS : va_S A0 H0 H locs) (q0 q1 : Nat) (ha : ws[q0]? = some (a, .inl (gA G 6, n, .inr (.inr (.inr (.inr f)))))) (hv : ws[q1]? = some (v, .inl (gA G 0, n1, .inl g))) (hj : j < n) (hn : n < 2 ^ 31) (hdg : decode cc pc = .ok (.aastore, 1))
    (kk : ∀ (H1 : Heap) (locs1 : List Loc), wP G (ws.set q0 (a, .inl (gA G 6, n, .inr (.inr (.inr (.inr (va_up f j (some v)))))))) H1 → va_D A0 (ws.set q0 (a, .inl (gA G 6, n, .inr (.inr (.inr (.inr (va_up f j (some v)))))))) → va_S A0 H0 H1 locs1 → W p l e R s m args below meth c H1 locs1 cells slots Q (F0 m (pc + 1) ls rest)) : W p l e R s m args below meth c H locs cells slots Q (F0 m pc ls (.ref v :: .int (nI j) :: .ref a :: rest)) := by
  have hin := vp_in_nI hj hn
  have hlt : (nI j).toNatClampNeg < n := Nat.not_le.mp fun q => hin (Or.inr q)
  have h0 : ¬ nI j < 0 := fun q => hin (Or.inl q)
  obtain ⟨kA, k1, k2, kI, k3⟩ := hG.gg
  refine W.aast hx hb (hP q0 _ ha) (fun q h => by cases h) (fun h => by cases h) k1 k2 rfl k3 ⟨h0, by show _ < (arrV _ _ _).slots.size; rw [arrV_size]; exact hlt⟩ (hP q1 _ hv) (fun q h => by cases h) k3 (asg_rf _ _) rfl rfl hdg fun H1 e z oq => ?_
  rw [nI_clamp (by omega)] at e
  refine kk H1 _ (hP.set hD ha ?_ oq) (hD.set ha) (hS.put z oq (hD.2 q0 _ ha))
  show H1[a]? = some (vp_cell _ _)
  rw [e]
  rw [vp_cell_q, vp_cell_q, arrV_store]
  congr 2
  funext q
  by_cases hq : q = j
  · subst hq
    simp [updV, va_up, va_rf]
  · simp [updV, va_up, hq]
end RowsG
set_option maxHeartbeats 4000000 in
set_option maxRecDepth 100000 in
theorem metX1_group (l : Launch) (G : Gt) (a : Nat → Nat) (iv : Nat → Int32) (fp fk : Nat → Int32) (gf : Nat → Option Nat) (S : St) (n : Nat) (hnS : n = sN S) (hn : iv 11 = nI n) (hW : WS S) (hp1 : 1 ≤ sN S → sPa S 1 = 0) (hpaS : ∀ j, 1 ≤ j → j ≤ sN S → fp j = nI (sPa S j) ∧ fk j = nI (sKi S j) ∧ sPa S j ≤ 14 ∧ sKi S j ≤ 2) (x lo hi : Int32) (sz : Nat) : CWi l G yX1_group cX1_group 4 .int 2 1 2 43 [.ref (a 15), .int (x), .int (lo), .int (hi)] [(a 15, .inr (0, [.ref (a 0), .ref (a 1), .ref (a 2), .ref (a 3), .ref (a 4), .ref (a 5), .ref (a 6), .int (iv 7), .ref (a 8), .ref (a 9), .int (iv 10), .int (iv 11), .ref (a 12), .int (iv 13), .ref (a 14)])), (a 0, .inl (gA G 0, 15, .inl (fp))), (a 1, .inl (gA G 0, 15, .inl (fk))), (a 5, .inl (gA G 6, 15, .inr (.inr (.inr (.inr (gf))))))] sz (fun r w1 => (stGroup S x lo hi = (r, S) ∧ w1 = [(a 15, .inr (0, [.ref (a 0), .ref (a 1), .ref (a 2), .ref (a 3), .ref (a 4), .ref (a 5), .ref (a 6), .int (iv 7), .ref (a 8), .ref (a 9), .int (iv 10), .int (iv 11), .ref (a 12), .int (iv 13), .ref (a 14)])), (a 0, .inl (gA G 0, 15, .inl (fp))), (a 1, .inl (gA G 0, 15, .inl (fk))), (a 5, .inl (gA G 6, 15, .inr (.inr (.inr (.inr (gf))))))]) ∨ ∃ g q pr, x = nI g ∧ 1 ≤ g ∧ g ≤ sN S ∧ ¬ lo < 0 ∧ ¬ hi < lo ∧ ¬ 14 < hi ∧ isF (nI g) (nI (sN S)) = true ∧ r = nI (pcN (gmN (sPa S) (sKi S) g (n + 1))) ∧ w1 = [xC a (va_up iv 10 0), (a 0, .inl (gA G 0, 15, .inl fp)), (a 1, .inl (gA G 0, 15, .inl fk)), (a 5, .inl (gA G 6, 15, .inr (.inr (.inr (.inr (va_up gf g (some q))))))), (q, .inl (gA G 0, 2, .inl pr))] ∧ pr = upd (upd (fun _ => 0) 0 lo) 1 hi) := by
  refine mkWi (by decide) (Nat.le_of_ble_eq_true rfl) ?_
  intro p e s m args below meth c Q A hx hb hts hown hin hml hG hsz hP hD hA hA0 hS ret ls hl
  have hn4 : n ≤ 14 := by rw [hnS]; exact hW.1
  refine lv_aload_n hx hb dX1_group_0 rfl (lv_at hl 0 rfl) ?_
  refine lv_iload_n hx hb dX1_group_1 rfl (lv_at hl 1 rfl) ?_
  refine vp_callSi (W.runV (As := [.int (x)]) (rest := []) ⟨hx, hb, hml, hown, hts⟩ (metX1_is l G a iv (x)) (cwV 1 hts (lw_V q214 q216 qs0 q29 q217) rfl rfl rfl (by decide +kernel) ⟨Nat.le_of_ble_eq_true rfl, Nat.le_of_ble_eq_true rfl⟩) (pre_RV (q0 := 0) hG (wP.left (wP.perm (w' := [(a 15, .inr (0, [.ref (a 0), .ref (a 1), .ref (a 2), .ref (a 3), .ref (a 4), .ref (a 5), .ref (a 6), .int (iv 7), .ref (a 8), .ref (a 9), .int (iv 10), .int (iv 11), .ref (a 12), .int (iv 13), .ref (a 14)]))] ++ [(a 0, .inl (gA G 0, 15, .inl (fp))), (a 1, .inl (gA G 0, 15, .inl (fk))), (a 5, .inl (gA G 6, 15, .inr (.inr (.inr (.inr (gf))))))]) hP (pm_ (fun _ z => by simp only [List.count_append, List.count_cons, List.count_nil]; omega)))) hS hA0 rfl rfl) rfl rfl hl.1 rfl (lv_room (Nat.le_of_ble_eq_true rfl)) dX1_group_2 ⟨Nat.le_of_ble_eq_true rfl, Nat.le_of_ble_eq_true rfl⟩) (fun r_2 e_2 => ?_)
  subst e_2
  refine top_i (y := b2i (isF (x) (nI n))) (congrArg (fun z => b2i (isF (x) z)) hn) ?_
  refine lv_if_ne (tgt := 10) hx hb dX1_group_5 (by decide) (fun c_5 => ?_) (fun c_5 => ?_)
  · have h5 : isF x (nI n) = true := b2i_n0.mp c_5; obtain ⟨g, rfl, hg1, hg2, hg4⟩ := isF_gb hW (by rw [hnS] at h5; exact h5)
    refine lv_iload_n hx hb dX1_group_10 rfl (lv_at hl 2 rfl) ?_
    refine lv_i2l (v := (lo).toInt64) hx hb dX1_group_11 rfl ?_
    refine lv_lconst (v := 0) hx hb dX1_group_12 (by decide) ?_
    refine lv_iload_n hx hb dX1_group_13 rfl (lv_at hl 3 rfl) ?_
    refine lv_i2l (v := (hi).toInt64) hx hb dX1_group_14 rfl ?_
    refine vp_callSi (W.runS (As := [.long ((lo).toInt64), .long (0), .long ((hi).toInt64)]) (rest := []) ⟨hx, hb, hml, hown, hts⟩ (metX1_isIn l G (lo.toInt64) (0) (hi.toInt64)) (va_cwS 3 hts (lw_S q219 q220 q29 q221) rfl rfl rfl (by decide +kernel) ⟨Nat.le_of_ble_eq_true rfl, Nat.le_of_ble_eq_true rfl⟩) (pre_RS hG (wP.mem (w' := []) hP (fun _ h => absurd h List.not_mem_nil)) hS hA0) rfl rfl hl.1 rfl (lv_room (Nat.le_of_ble_eq_true rfl)) dX1_group_15 ⟨Nat.le_of_ble_eq_true rfl, Nat.le_of_ble_eq_true rfl⟩) (fun r_15 e_15 => ?_)
    subst e_15
    refine top_i (y := b2i (!decide (lo < 0 ∨ hi < lo))) (congrArg b2i (in_I (lo := 0) (hi := hi) rfl rfl)) ?_
    refine lv_if_eq (tgt := 27) hx hb dX1_group_18 (by decide) (fun c_18 => ?_) (fun c_18 => ?_)
    · have h18 : lo < 0 ∨ hi < lo := nb_f c_18
      refine lv_bipush (v := (-2)) hx hb dX1_group_27 (by decide) ?_
      exact ret (-2) _ 29 ls _ _ _ _ dX1_group_29 rfl (Nat.le_of_ble_eq_true rfl) (Nat.le_of_ble_eq_true rfl) hP hD hS (by subst hnS; exact Or.inl ⟨gp_2 h5 (h18.elim Or.inl (fun h => Or.inr (Or.inl h))), rfl⟩)
    · have h18 : ¬ (lo < 0 ∨ hi < lo) := nb_t c_18; have k1 : ¬ lo < 0 := fun h => h18 (Or.inl h); have k2 : ¬ hi < lo := fun h => h18 (Or.inr h)
      refine lv_iload_n hx hb dX1_group_21 rfl (lv_at hl 3 rfl) ?_
      refine lv_bipush (v := 14) hx hb dX1_group_22 (by decide) ?_
      refine lv_icmp_le (tgt := 30) hx hb dX1_group_24 (by decide) (fun c_24 => ?_) (fun c_24 => ?_)
      · have h24 : ¬ 14 < hi := Int32.not_lt.mpr c_24
        refine lv_aload_n hx hb dX1_group_30 rfl (lv_at hl 0 rfl) ?_
        refine va_get (D := gD G) (ci := 0) (v := .ref (a 5)) (C := RX1) (T := TX1) (N := 15) hx hb hts in_X1 hown hG.K hP 0 rfl rfl 5 (by decide) (hts _ q169) (fun _ h9 => h9) rfl dX1_group_31 ?_
        refine lv_iload_n hx hb dX1_group_34 rfl (lv_at hl 1 rfl) ?_
        refine lv_iconst (v := 2) hx hb dX1_group_35 (by decide) ?_
        refine va_newa (D := gD G) (atype := .int) (ty := .int) (N' := 2) (a0 := (2, .inl (fun _ => 0))) hx hb (hts _ q107) rfl hG.K hP hD hS hA (fun _ => rfl) (by decide) (by decide) (by decide) (Nat.le_of_ble_eq_true rfl) (Nat.le_of_ble_eq_true rfl) dX1_group_36 (fun o1 cA H hK hP hD hS => ?_)
        obtain rfl := arrP (k := 0) (fun _ => rfl) rfl hG hK
        clear hK
        have hP : wP G [(a 15, .inr (0, [.ref (a 0), .ref (a 1), .ref (a 2), .ref (a 3), .ref (a 4), .ref (a 5), .ref (a 6), .int (iv 7), .ref (a 8), .ref (a 9), .int (iv 10), .int (iv 11), .ref (a 12), .int (iv 13), .ref (a 14)])), (a 0, .inl (gA G 0, 15, .inl (fp))), (a 1, .inl (gA G 0, 15, .inl (fk))), (a 5, .inl (gA G 6, 15, .inr (.inr (.inr (.inr (gf)))))), (o1, .inl (gA G 0, 2, .inl ((fun _ => 0))))] H := hP
        have hD : va_D A [(a 15, .inr (0, [.ref (a 0), .ref (a 1), .ref (a 2), .ref (a 3), .ref (a 4), .ref (a 5), .ref (a 6), .int (iv 7), .ref (a 8), .ref (a 9), .int (iv 10), .int (iv 11), .ref (a 12), .int (iv 13), .ref (a 14)])), (a 0, .inl (gA G 0, 15, .inl (fp))), (a 1, .inl (gA G 0, 15, .inl (fk))), (a 5, .inl (gA G 6, 15, .inr (.inr (.inr (.inr (gf)))))), (o1, .inl (gA G 0, 2, .inl ((fun _ => 0))))] := hD
        refine lv_dup hx hb dX1_group_38 rfl ?_
        refine lv_iconst (v := 0) hx hb dX1_group_39 (by decide) ?_
        refine lv_iload_n hx hb dX1_group_40 rfl (lv_at hl 2 rfl) ?_
        refine ia_st (j := 0) hx hb hG.K hP hD hS 4 0 rfl rfl (by omega) (by omega) dX1_group_41 (fun H locs hP hD hS => ?_)
        have hP : wP G [(a 15, .inr (0, [.ref (a 0), .ref (a 1), .ref (a 2), .ref (a 3), .ref (a 4), .ref (a 5), .ref (a 6), .int (iv 7), .ref (a 8), .ref (a 9), .int (iv 10), .int (iv 11), .ref (a 12), .int (iv 13), .ref (a 14)])), (a 0, .inl (gA G 0, 15, .inl (fp))), (a 1, .inl (gA G 0, 15, .inl (fk))), (a 5, .inl (gA G 6, 15, .inr (.inr (.inr (.inr (gf)))))), (o1, .inl (gA G 0, 2, .inl (upd ((fun _ => 0)) (0) (lo))))] H := hP
        have hD : va_D A [(a 15, .inr (0, [.ref (a 0), .ref (a 1), .ref (a 2), .ref (a 3), .ref (a 4), .ref (a 5), .ref (a 6), .int (iv 7), .ref (a 8), .ref (a 9), .int (iv 10), .int (iv 11), .ref (a 12), .int (iv 13), .ref (a 14)])), (a 0, .inl (gA G 0, 15, .inl (fp))), (a 1, .inl (gA G 0, 15, .inl (fk))), (a 5, .inl (gA G 6, 15, .inr (.inr (.inr (.inr (gf)))))), (o1, .inl (gA G 0, 2, .inl (upd ((fun _ => 0)) (0) (lo))))] := hD
        refine lv_dup hx hb dX1_group_42 rfl ?_
        refine lv_iconst (v := 1) hx hb dX1_group_43 (by decide) ?_
        refine lv_iload_n hx hb dX1_group_44 rfl (lv_at hl 3 rfl) ?_
        refine ia_st (j := 1) hx hb hG.K hP hD hS 4 0 rfl rfl (by omega) (by omega) dX1_group_45 (fun H locs hP hD hS => ?_)
        have hP : wP G [(a 15, .inr (0, [.ref (a 0), .ref (a 1), .ref (a 2), .ref (a 3), .ref (a 4), .ref (a 5), .ref (a 6), .int (iv 7), .ref (a 8), .ref (a 9), .int (iv 10), .int (iv 11), .ref (a 12), .int (iv 13), .ref (a 14)])), (a 0, .inl (gA G 0, 15, .inl (fp))), (a 1, .inl (gA G 0, 15, .inl (fk))), (a 5, .inl (gA G 6, 15, .inr (.inr (.inr (.inr (gf)))))), (o1, .inl (gA G 0, 2, .inl (upd (upd ((fun _ => 0)) (0) (lo)) (1) (hi))))] H := hP
        have hD : va_D A [(a 15, .inr (0, [.ref (a 0), .ref (a 1), .ref (a 2), .ref (a 3), .ref (a 4), .ref (a 5), .ref (a 6), .int (iv 7), .ref (a 8), .ref (a 9), .int (iv 10), .int (iv 11), .ref (a 12), .int (iv 13), .ref (a 14)])), (a 0, .inl (gA G 0, 15, .inl (fp))), (a 1, .inl (gA G 0, 15, .inl (fk))), (a 5, .inl (gA G 6, 15, .inr (.inr (.inr (.inr (gf)))))), (o1, .inl (gA G 0, 2, .inl (upd (upd ((fun _ => 0)) (0) (lo)) (1) (hi))))] := hD
        refine ga_st (j := g) hx hb hG hP hD hS 3 4 rfl rfl (by omega) (by omega) dX1_group_46 (fun H locs hP hD hS => ?_)
        have hP : wP G [(a 15, .inr (0, [.ref (a 0), .ref (a 1), .ref (a 2), .ref (a 3), .ref (a 4), .ref (a 5), .ref (a 6), .int (iv 7), .ref (a 8), .ref (a 9), .int (iv 10), .int (iv 11), .ref (a 12), .int (iv 13), .ref (a 14)])), (a 0, .inl (gA G 0, 15, .inl (fp))), (a 1, .inl (gA G 0, 15, .inl (fk))), (a 5, .inl (gA G 6, 15, .inr (.inr (.inr (.inr (va_up gf (g) (some (o1)))))))), (o1, .inl (gA G 0, 2, .inl (upd (upd ((fun _ => 0)) (0) (lo)) (1) (hi))))] H := hP
        have hD : va_D A [(a 15, .inr (0, [.ref (a 0), .ref (a 1), .ref (a 2), .ref (a 3), .ref (a 4), .ref (a 5), .ref (a 6), .int (iv 7), .ref (a 8), .ref (a 9), .int (iv 10), .int (iv 11), .ref (a 12), .int (iv 13), .ref (a 14)])), (a 0, .inl (gA G 0, 15, .inl (fp))), (a 1, .inl (gA G 0, 15, .inl (fk))), (a 5, .inl (gA G 6, 15, .inr (.inr (.inr (.inr (va_up gf (g) (some (o1)))))))), (o1, .inl (gA G 0, 2, .inl (upd (upd ((fun _ => 0)) (0) (lo)) (1) (hi))))] := hD
        refine lv_aload_n hx hb dX1_group_47 rfl (lv_at hl 0 rfl) ?_
        refine lv_iconst (v := 0) hx hb dX1_group_48 (by decide) ?_
        refine va_put (D := gD G) (ci := 0) (v := .int (0)) (ty := .boolean) (C := RX1) (T := TX1) (N := 15) hx hb hts in_X1 tyX1 tyX1_ok nmX1 hown hG.K hP hD hS 0 rfl rfl 10 (by decide) (hts _ q174) (fun _ h9 => h9) rfl (by decide +kernel) rfl rfl (Nat.le_of_ble_eq_true rfl) dX1_group_49 (fun H locs hP hD hS => ?_)
        have hP : wP G [(a 15, .inr (0, [.ref (a 0), .ref (a 1), .ref (a 2), .ref (a 3), .ref (a 4), .ref (a 5), .ref (a 6), .int (iv 7), .ref (a 8), .ref (a 9), .int (0), .int (iv 11), .ref (a 12), .int (iv 13), .ref (a 14)])), (a 0, .inl (gA G 0, 15, .inl (fp))), (a 1, .inl (gA G 0, 15, .inl (fk))), (a 5, .inl (gA G 6, 15, .inr (.inr (.inr (.inr (va_up gf (g) (some (o1)))))))), (o1, .inl (gA G 0, 2, .inl (upd (upd ((fun _ => 0)) (0) (lo)) (1) (hi))))] H := hP
        have hD : va_D A [(a 15, .inr (0, [.ref (a 0), .ref (a 1), .ref (a 2), .ref (a 3), .ref (a 4), .ref (a 5), .ref (a 6), .int (iv 7), .ref (a 8), .ref (a 9), .int (0), .int (iv 11), .ref (a 12), .int (iv 13), .ref (a 14)])), (a 0, .inl (gA G 0, 15, .inl (fp))), (a 1, .inl (gA G 0, 15, .inl (fk))), (a 5, .inl (gA G 6, 15, .inr (.inr (.inr (.inr (va_up gf (g) (some (o1)))))))), (o1, .inl (gA G 0, 2, .inl (upd (upd ((fun _ => 0)) (0) (lo)) (1) (hi))))] := hD
        refine lv_aload_n hx hb dX1_group_52 rfl (lv_at hl 0 rfl) ?_
        refine lv_iload_n hx hb dX1_group_53 rfl (lv_at hl 1 rfl) ?_
        refine vp_callSi (W.runV (As := [.int (nI g)]) (rest := []) ⟨hx, hb, hml, hown, hts⟩ (metX1_groupedBelow l G a (va_up iv 10 0) fp fk n g (sPa S) (sKi S) hn hn4 hg1 hg4 (hp1 (by omega)) (by rw [hnS]; exact hpaS)) (cwV 1 hts (lw_V q229 q231 qs1 q29 q232) rfl rfl rfl (by decide +kernel) ⟨Nat.le_of_ble_eq_true rfl, Nat.le_of_ble_eq_true rfl⟩) (pre_RV (q0 := 0) hG (wP.left (wP.perm (w' := [(a 15, .inr (0, [.ref (a 0), .ref (a 1), .ref (a 2), .ref (a 3), .ref (a 4), .ref (a 5), .ref (a 6), .int (iv 7), .ref (a 8), .ref (a 9), .int (0), .int (iv 11), .ref (a 12), .int (iv 13), .ref (a 14)])), (a 0, .inl (gA G 0, 15, .inl (fp))), (a 1, .inl (gA G 0, 15, .inl (fk)))] ++ [(a 5, .inl (gA G 6, 15, .inr (.inr (.inr (.inr (va_up gf (g) (some (o1)))))))), (o1, .inl (gA G 0, 2, .inl (upd (upd ((fun _ => 0)) (0) (lo)) (1) (hi))))]) hP (pm_ (fun _ z => by simp only [List.count_append, List.count_cons, List.count_nil]; omega)))) hS hA0 rfl rfl) rfl rfl hl.1 rfl (lv_room (Nat.le_of_ble_eq_true rfl)) dX1_group_54 ⟨Nat.le_of_ble_eq_true rfl, Nat.le_of_ble_eq_true rfl⟩) (fun r_54 e_54 => ?_)
        subst e_54
        refine vp_callSi (W.runS (As := [.int (nI (gmN (sPa S) (sKi S) g (n + 1)))]) (rest := []) ⟨hx, hb, hml, hown, hts⟩ (metJ7_bitCount l G (gmN (sPa S) (sKi S) g (n + 1)) (Nat.lt_of_lt_of_le (gmN_lt _ _ _ _) (p2_14 hn4))) (va_cwS 1 hts (lw_S q236 q237 q39 q238) rfl rfl rfl (by decide +kernel) ⟨Nat.le_of_ble_eq_true rfl, Nat.le_of_ble_eq_true rfl⟩) (pre_RS hG (wP.mem (w' := []) hP (fun _ h => absurd h List.not_mem_nil)) hS hA0) rfl rfl hl.1 rfl (lv_room (Nat.le_of_ble_eq_true rfl)) dX1_group_57 ⟨Nat.le_of_ble_eq_true rfl, Nat.le_of_ble_eq_true rfl⟩) (fun r_57 e_57 => ?_)
        subst e_57
        exact ret (nI (pcN (gmN (sPa S) (sKi S) g (n + 1)))) _ 60 ls _ _ _ _ dX1_group_60 rfl (Nat.le_of_ble_eq_true rfl) (Nat.le_of_ble_eq_true rfl) hP hD hS (by subst hnS; exact Or.inr ⟨g, o1, _, rfl, hg1, hg2, k1, k2, h24, h5, rfl, rfl, rfl⟩)
      · have h24 : 14 < hi := Int32.not_le.mp c_24
        refine lv_bipush (v := (-2)) hx hb dX1_group_27 (by decide) ?_
        exact ret (-2) _ 29 ls _ _ _ _ dX1_group_29 rfl (Nat.le_of_ble_eq_true rfl) (Nat.le_of_ble_eq_true rfl) hP hD hS (by subst hnS; exact Or.inl ⟨gp_2 h5 (Or.inr (Or.inr h24)), rfl⟩)
  · have h5 : isF x (nI n) = false := b2i_0.mp c_5
    refine lv_iconst (v := (-1)) hx hb dX1_group_8 (by decide) ?_
    exact ret (-1) _ 9 ls _ _ _ _ dX1_group_9 rfl (Nat.le_of_ble_eq_true rfl) (Nat.le_of_ble_eq_true rfl) hP hD hS (by subst hnS; exact Or.inl ⟨gp_1 h5, rfl⟩)
