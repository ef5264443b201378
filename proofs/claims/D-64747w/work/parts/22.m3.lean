theorem ft_1 {S : St} {p k : Int32} (h : sbad (sN S) p = true) : stFeature S p k = (-1, S) := by unfold stFeature; rw [if_pos h]
theorem ft_2 {S : St} {p k : Int32} (h : sbad (sN S) p = false) (h2 : k < 0 ∨ 2 < k) : stFeature S p k = (-2, S) := by unfold stFeature; rw [if_neg (by simp [h]), if_pos h2]
theorem ft_3 {S : St} {p k : Int32} (h : sbad (sN S) p = false) (h2 : ¬ k < 0) (h3 : ¬ 2 < k) (h4 : sN S = 14) : stFeature S p k = (-4, S) := by unfold stFeature; rw [if_neg (by simp [h]), if_neg (fun h => h.elim h2 h3), if_pos h4]
theorem ft_4 {S : St} {p k : Int32} (h : sbad (sN S) p = false) (h2 : ¬ k < 0) (h3 : ¬ 2 < k) (h4 : sN S ≠ 14) : stFeature S p k = (nI (sN S + 1), (sN S + 1, va_up (sPa S) (sN S + 1) (iN p), va_up (sKi S) (sN S + 1) (iN k), S.2.2.2)) := by unfold stFeature; rw [if_neg (by simp [h]), if_neg (fun h => h.elim h2 h3), if_neg h4]
theorem sbad_of {n : Nat} {p : Int32} (hn : n ≤ 14) (h : sbad n p = false) : ∃ g, p = nI g ∧ g ≤ n ∧ (n ≠ 0 → 1 ≤ g) := by
  unfold sbad at h
  split at h
  · rename_i h0
    exact ⟨0, by rw [nI_0]; simpa using h, Nat.zero_le _, fun h => absurd h0 h⟩
  · obtain ⟨g, h1, h2, h3⟩ := (isF_iff hn).mp (by simpa using h)
    exact ⟨g, h3, h2, fun _ => h1⟩
theorem le2_of {k : Int32} {m : Nat} {M : Int32} (hM : M.toInt = m) (h2 : ¬ k < 0) (h3 : ¬ M < k) : ∃ j, k = nI j ∧ j ≤ m := by
  obtain ⟨j, h, e⟩ := nI_of2 hM h2 (Int32.not_lt.mp h3)
  exact ⟨j, e, h⟩
theorem MR_ft {S : St} {iv : Nat → Int32} {f : Nat → Nat → Int32} {p k : Int32} (hW : WS S) (h : MR S iv f) (hb : sbad (sN S) p = false) (h2 : ¬ k < 0) (h3 : ¬ 2 < k) : MR (sN S + 1, va_up (sPa S) (sN S + 1) (iN p), va_up (sKi S) (sN S + 1) (iN k), S.2.2.2) (va_up (va_up (va_up iv 0 0) 7 (nI (sN S + 1))) 16 0) (va_up (va_up f 1 (upd (f 1) (sN S + 1) p)) 2 (upd (f 2) (sN S + 1) k)) := by
  have hn := hW.1
  obtain ⟨g, rfl, hg, -⟩ := sbad_of hn hb
  obtain ⟨j, rfl, hj⟩ := le2_of (m := 2) (by decide) h2 h3
  obtain ⟨m1, m2, m3, m4, m5, m6, m7, m8, m9, m10, m11⟩ := h
  refine ⟨rfl, ?_, m3, m4, m5, m6, m7, m8, m9, Or.inl rfl, m11⟩
  intro i hi1 hi2
  have hi2 : i ≤ sN S + 1 := hi2
  show upd (f 1) (sN S + 1) (nI g) i = nI (va_up (sPa S) (sN S + 1) (iN (nI g)) i) ∧ upd (f 2) (sN S + 1) (nI j) i = nI (va_up (sKi S) (sN S + 1) (iN (nI j)) i)
  rw [iN_nI (by omega), iN_nI (by omega)]
  by_cases hi : i = sN S + 1
  · rw [hi, pk_us, pk_us, va_up_self, va_up_self]; exact ⟨rfl, rfl⟩
  · rw [pk_un hi, pk_un hi, va_up_ne _ _ hi, va_up_ne _ _ hi]; exact m2 i hi1 (by omega)
set_option maxHeartbeats 4000000 in
set_option maxRecDepth 100000 in
theorem metX2_feature (l : Launch) (G : Gt) (a : Nat → Nat) (iv : Nat → Int32) (f : Nat → Nat → Int32) (S : St) (hW : WS S) (hM : MR S iv f) (pp k : Int32) (sz : Nat) : CWi l G yX2_feature cX2_feature 3 .int 1 0 0 21 [.ref (a 0), .int (pp), .int (k)] (wM G a iv f) sz (fun r w1 => r = (stFeature S pp k).1 ∧ MW G a (stFeature S pp k).2 w1) := by
  refine mkWi (by decide) (Nat.le_of_ble_eq_true rfl) ?_
  intro p e s m args below meth c Q A hx hb hts hown hin hml hG hsz hP hD hA hA0 hS ret ls hl
  obtain ⟨n, hnS⟩ : ∃ n, n = sN S := ⟨_, rfl⟩
  have hn : iv 7 = nI n := by rw [hnS]; exact hM.1
  have hn4 : n ≤ 14 := by rw [hnS]; exact hW.1
  have J29 : sbad n pp = false → ∀ (H : Heap) (locs : List Loc), wP G (wM G a (va_up iv 0 (0)) f) H → va_D A (wM G a (va_up iv 0 (0)) f) → va_S A s.heap H locs → ∀ ls : Array Slot, lv_has ls 3 [(0, .ref (a 0)), (1, .int (pp)), (2, .int (k))] → W p l e (rm_ 1 0 0 21) s m args below meth c H locs 0 0 Q (F0 m 29 ls []) := by
    intro  hsb H locs hP hD hS ls hl
    refine lv_iload_n hx hb dX2_feature_29 rfl (lv_at hl 2 rfl) ?_
    refine lv_if_lt (tgt := 38) hx hb dX2_feature_30 (by decide) (fun c_30 => ?_) (fun c_30 => ?_)
    · skip
      refine lv_bipush (v := (-2)) hx hb dX2_feature_38 (by decide) ?_
      exact ret (-2) _ 40 ls _ _ 0 0 dX2_feature_40 rfl (Nat.le_refl _) (Nat.le_refl _) hP hD hS (by subst hnS; exact mwr (ft_2 hsb (Or.inl c_30)) rfl hM)
    · skip
      refine lv_iload_n hx hb dX2_feature_33 rfl (lv_at hl 2 rfl) ?_
      refine lv_iconst (v := 2) hx hb dX2_feature_34 (by decide) ?_
      refine lv_icmp_le (tgt := 41) hx hb dX2_feature_35 (by decide) (fun c_35 => ?_) (fun c_35 => ?_)
      · skip
        refine lv_aload_n hx hb dX2_feature_41 rfl (lv_at hl 0 rfl) ?_
        refine va_get (D := gD G) (ci := 1) (v := .int (iv 7)) (C := RX2) (T := TX2) (N := 27) hx hb hts in_X2 hown hG.K hP 0 rfl rfl 7 (by decide) (hts _ q1160) (fun _ h9 => h9) rfl dX2_feature_42 ?_
        refine top_i (y := nI n) (hn) ?_
        refine lv_bipush (v := 14) hx hb dX2_feature_45 (by decide) ?_
        refine lv_icmp_ne (tgt := 53) hx hb dX2_feature_47 (by decide) (fun c_47 => ?_) (fun c_47 => ?_)
        · have h47 : n ≠ 14 := nI_ne (a := n) (b := 14) c_47
          refine lv_aload_n hx hb dX2_feature_53 rfl (lv_at hl 0 rfl) ?_
          refine lv_dup hx hb dX2_feature_54 rfl ?_
          refine va_get (D := gD G) (ci := 1) (v := .int (iv 7)) (C := RX2) (T := TX2) (N := 27) hx hb hts in_X2 hown hG.K hP 0 rfl rfl 7 (by decide) (hts _ q1160) (fun _ h9 => h9) rfl dX2_feature_55 ?_
          refine top_i (y := nI n) (hn) ?_
          refine lv_iconst (v := 1) hx hb dX2_feature_58 (by decide) ?_
          refine lv_iadd hx hb dX2_feature_59 ?_
          refine top_i (y := nI (n + 1)) (nI_1 n) ?_
          refine va_put (D := gD G) (ci := 1) (v := .int (nI (n + 1))) (ty := .int) (C := RX2) (T := TX2) (N := 27) hx hb hts in_X2 tyX2 tyX2_ok nmX2 hown hG.K hP hD hS 0 rfl rfl 7 (by decide) (hts _ q1160) (fun _ h9 => h9) rfl (by decide +kernel) rfl rfl (Nat.le_of_ble_eq_true rfl) dX2_feature_60 (fun H locs hP hD hS => ?_)
          have hP : wP G (wM G a (va_up (va_up iv 0 (0)) 7 (nI (n + 1))) f) H := hP
          have hD : va_D A (wM G a (va_up (va_up iv 0 (0)) 7 (nI (n + 1))) f) := hD
          refine lv_aload_n hx hb dX2_feature_63 rfl (lv_at hl 0 rfl) ?_
          refine va_get (D := gD G) (ci := 1) (v := .ref (a 1)) (C := RX2) (T := TX2) (N := 27) hx hb hts in_X2 hown hG.K hP 0 rfl rfl 1 (by decide) (hts _ q1154) (fun _ h9 => h9) rfl dX2_feature_64 ?_
          refine lv_aload_n hx hb dX2_feature_67 rfl (lv_at hl 0 rfl) ?_
          refine va_get (D := gD G) (ci := 1) (v := .int (nI (n + 1))) (C := RX2) (T := TX2) (N := 27) hx hb hts in_X2 hown hG.K hP 0 rfl rfl 7 (by decide) (hts _ q1160) (fun _ h9 => h9) rfl dX2_feature_68 ?_
          refine lv_iload_n hx hb dX2_feature_71 rfl (lv_at hl 1 rfl) ?_
          refine ia_st (j := n + 1) hx hb hG.K hP hD hS 1 0 rfl rfl (by omega) (by decide) dX2_feature_72 (fun H locs hP hD hS => ?_)
          have hP : wP G (wM G a (va_up (va_up iv 0 (0)) 7 (nI (n + 1))) (va_up f 1 (upd (f 1) (n + 1) (pp)))) H := hP
          have hD : va_D A (wM G a (va_up (va_up iv 0 (0)) 7 (nI (n + 1))) (va_up f 1 (upd (f 1) (n + 1) (pp)))) := hD
          refine lv_aload_n hx hb dX2_feature_73 rfl (lv_at hl 0 rfl) ?_
          refine va_get (D := gD G) (ci := 1) (v := .ref (a 2)) (C := RX2) (T := TX2) (N := 27) hx hb hts in_X2 hown hG.K hP 0 rfl rfl 2 (by decide) (hts _ q1155) (fun _ h9 => h9) rfl dX2_feature_74 ?_
          refine lv_aload_n hx hb dX2_feature_77 rfl (lv_at hl 0 rfl) ?_
          refine va_get (D := gD G) (ci := 1) (v := .int (nI (n + 1))) (C := RX2) (T := TX2) (N := 27) hx hb hts in_X2 hown hG.K hP 0 rfl rfl 7 (by decide) (hts _ q1160) (fun _ h9 => h9) rfl dX2_feature_78 ?_
          refine lv_iload_n hx hb dX2_feature_81 rfl (lv_at hl 2 rfl) ?_
          refine ia_st (j := n + 1) hx hb hG.K hP hD hS 2 0 rfl rfl (by omega) (by decide) dX2_feature_82 (fun H locs hP hD hS => ?_)
          have hP : wP G (wM G a (va_up (va_up iv 0 (0)) 7 (nI (n + 1))) (va_up (va_up f 1 (upd (f 1) (n + 1) (pp))) 2 (upd (f 2) (n + 1) (k)))) H := hP
          have hD : va_D A (wM G a (va_up (va_up iv 0 (0)) 7 (nI (n + 1))) (va_up (va_up f 1 (upd (f 1) (n + 1) (pp))) 2 (upd (f 2) (n + 1) (k)))) := hD
          refine lv_aload_n hx hb dX2_feature_83 rfl (lv_at hl 0 rfl) ?_
          refine lv_iconst (v := 0) hx hb dX2_feature_84 (by decide) ?_
          refine va_put (D := gD G) (ci := 1) (v := .int (0)) (ty := .boolean) (C := RX2) (T := TX2) (N := 27) hx hb hts in_X2 tyX2 tyX2_ok nmX2 hown hG.K hP hD hS 0 rfl rfl 16 (by decide) (hts _ q1169) (fun _ h9 => h9) rfl (by decide +kernel) rfl rfl (Nat.le_of_ble_eq_true rfl) dX2_feature_85 (fun H locs hP hD hS => ?_)
          have hP : wP G (wM G a (va_up (va_up (va_up iv 0 (0)) 7 (nI (n + 1))) 16 (0)) (va_up (va_up f 1 (upd (f 1) (n + 1) (pp))) 2 (upd (f 2) (n + 1) (k)))) H := hP
          have hD : va_D A (wM G a (va_up (va_up (va_up iv 0 (0)) 7 (nI (n + 1))) 16 (0)) (va_up (va_up f 1 (upd (f 1) (n + 1) (pp))) 2 (upd (f 2) (n + 1) (k)))) := hD
          refine lv_aload_n hx hb dX2_feature_88 rfl (lv_at hl 0 rfl) ?_
          refine va_get (D := gD G) (ci := 1) (v := .int (nI (n + 1))) (C := RX2) (T := TX2) (N := 27) hx hb hts in_X2 hown hG.K hP 0 rfl rfl 7 (by decide) (hts _ q1160) (fun _ h9 => h9) rfl dX2_feature_89 ?_
          exact ret (nI (n + 1)) _ 92 ls _ _ 0 0 dX2_feature_92 rfl (Nat.le_refl _) (Nat.le_refl _) hP hD hS (by subst hnS; exact mwr (ft_4 hsb c_30 (by simpa using c_35) h47) rfl (MR_ft hW hM hsb c_30 (by simpa using c_35)))
        · have h47 : n = 14 := nI_e (a := n) (b := 14) c_47
          refine lv_bipush (v := (-4)) hx hb dX2_feature_50 (by decide) ?_
          exact ret (-4) _ 52 ls _ _ 0 0 dX2_feature_52 rfl (Nat.le_refl _) (Nat.le_refl _) hP hD hS (by subst hnS; exact mwr (ft_3 hsb c_30 (by simpa using c_35) h47) rfl hM)
      · skip
        refine lv_bipush (v := (-2)) hx hb dX2_feature_38 (by decide) ?_
        exact ret (-2) _ 40 ls _ _ 0 0 dX2_feature_40 rfl (Nat.le_refl _) (Nat.le_refl _) hP hD hS (by subst hnS; exact mwr (ft_2 hsb (Or.inr (by simpa using c_35))) rfl hM)
  refine lv_aload_n hx hb dX2_feature_0 rfl (lv_at hl 0 rfl) ?_
  refine lv_iconst (v := 0) hx hb dX2_feature_1 (by decide) ?_
  refine va_put (D := gD G) (ci := 1) (v := .int (0)) (ty := .int) (C := RX2) (T := TX2) (N := 27) hx hb hts in_X2 tyX2 tyX2_ok nmX2 hown hG.K hP hD hS 0 rfl rfl 0 (by decide) (hts _ q1153) (fun _ h9 => h9) rfl (by decide +kernel) rfl rfl (Nat.le_of_ble_eq_true rfl) dX2_feature_2 (fun H locs hP hD hS => ?_)
  have hP : wP G (wM G a (va_up iv 0 (0)) f) H := hP
  have hD : va_D A (wM G a (va_up iv 0 (0)) f) := hD
  refine lv_aload_n hx hb dX2_feature_5 rfl (lv_at hl 0 rfl) ?_
  refine va_get (D := gD G) (ci := 1) (v := .int (iv 7)) (C := RX2) (T := TX2) (N := 27) hx hb hts in_X2 hown hG.K hP 0 rfl rfl 7 (by decide) (hts _ q1160) (fun _ h9 => h9) rfl dX2_feature_6 ?_
  refine top_i (y := nI n) (hn) ?_
  refine lv_if_ne (tgt := 19) hx hb dX2_feature_9 (by decide) (fun c_9 => ?_) (fun c_9 => ?_)
  · have h9 : n ≠ 0 := nI_ne (a := n) (b := 0) c_9
    refine lv_aload_n hx hb dX2_feature_19 rfl (lv_at hl 0 rfl) ?_
    refine lv_iload_n hx hb dX2_feature_20 rfl (lv_at hl 1 rfl) ?_
    refine vp_callSi (W.runV (As := [.int (pp)]) (rest := []) ⟨hx, hb, hml, hown, hts⟩ (metX2_isFeature l G a (va_up iv 0 (0)) f (pp)) (cwV 1 hts (lw_V q1244 q1246 qs15 q36 q1247) rfl rfl rfl (by decide +kernel) ⟨Nat.le_of_ble_eq_true rfl, Nat.le_of_ble_eq_true rfl⟩) (pre_RV (q0 := 0) hG hP hS hA0 rfl rfl) rfl rfl hl.1 rfl (lv_room (Nat.le_of_ble_eq_true rfl)) dX2_feature_21 ⟨Nat.le_refl _, Nat.le_refl _⟩) (fun r_21 e_21 => ?_)
    subst e_21
    refine top_i (y := b2i (isF (pp) (nI n))) (congrArg (fun z => b2i (isF (pp) z)) hn) ?_
    refine lv_if_ne (tgt := 29) hx hb dX2_feature_24 (by decide) (fun c_24 => ?_) (fun c_24 => ?_)
    · have h24 : isF pp (nI n) = true := b2i_n0.mp c_24
      exact J29 (by simp [sbad, h9, h24]) _ _ hP hD hS ls hl
    · have h24 : isF pp (nI n) = false := b2i_0.mp c_24
      refine lv_iconst (v := (-1)) hx hb dX2_feature_27 (by decide) ?_
      exact ret (-1) _ 28 ls _ _ 0 0 dX2_feature_28 rfl (Nat.le_refl _) (Nat.le_refl _) hP hD hS (by subst hnS; exact mwr (ft_1 (by simp [sbad, h9, h24])) rfl hM)
  · have h9 : n = 0 := nI_e (a := n) (b := 0) c_9
    refine lv_iload_n hx hb dX2_feature_12 rfl (lv_at hl 1 rfl) ?_
    refine lv_if_eq (tgt := 29) hx hb dX2_feature_13 (by decide) (fun c_13 => ?_) (fun c_13 => ?_)
    · skip
      exact J29 (by simp [sbad, h9, c_13]) _ _ hP hD hS ls hl
    · skip
      refine lv_goto (tgt := 27) hx hb dX2_feature_16 (by decide) ?_
      refine lv_iconst (v := (-1)) hx hb dX2_feature_27 (by decide) ?_
      exact ret (-1) _ 28 ls _ _ 0 0 dX2_feature_28 rfl (Nat.le_refl _) (Nat.le_refl _) hP hD hS (by subst hnS; exact mwr (ft_1 (by simp [sbad, h9, c_13])) rfl hM)
theorem gp_1 {S : St} {g lo hi : Int32} (h : isF g (nI (sN S)) = false) : stGroup S g lo hi = (-1, S) := by unfold stGroup; rw [if_pos (by simp [h])]
theorem gp_2 {S : St} {g lo hi : Int32} (h : isF g (nI (sN S)) = true) (h2 : lo < 0 ∨ hi < lo ∨ 14 < hi) : stGroup S g lo hi = (-2, S) := by unfold stGroup; rw [if_neg (by simp [h]), if_pos h2]
theorem gp_3 {S : St} {g : Nat} {lo hi : Int32} (hg : g < 2 ^ 31) (h : isF (nI g) (nI (sN S)) = true) (h2 : ¬ lo < 0) (h3 : ¬ hi < lo) (h4 : ¬ 14 < hi) : stGroup S (nI g) lo hi = (nI (ctB (gbP (sPa S) (sKi S) g) (sN S + 1)), (sN S, sPa S, sKi S, va_up (sGr S) g (some (iN lo, iN hi)), S.2.2.2.2)) := by unfold stGroup; rw [if_neg (by simp [h]), if_neg (fun h => h.elim h2 (fun h => h.elim h3 h4)), iN_nI hg]
theorem MR_gp {S : St} {iv : Nat → Int32} {f : Nat → Nat → Int32} {g : Nat} {lo hi : Int32} (hg1 : 1 ≤ g) (h : MR S iv f) (h2 : ¬ lo < 0) (h3 : ¬ hi < lo) (h4 : ¬ 14 < hi) : MR (sN S, sPa S, sKi S, va_up (sGr S) g (some (iN lo, iN hi)), S.2.2.2.2) (va_up (va_up iv 0 0) 16 0) (va_up (va_up (va_up f 3 (upd (f 3) g 1)) 4 (upd (f 4) g lo)) 5 (upd (f 5) g hi)) := by
  obtain ⟨m1, m2, m3, m4, m5, m6, m7, m8, m9, m10, m11⟩ := h
  refine ⟨m1, m2, ?_, m4, m5, m6, m7, m8, m9, Or.inl rfl, m11⟩
  intro i
  show upd (f 3) g 1 i = b2i (va_up (sGr S) g (some (iN lo, iN hi)) i).isSome ∧ ∀ q, va_up (sGr S) g (some (iN lo, iN hi)) i = some q → upd (f 4) g lo i = nI q.1 ∧ upd (f 5) g hi i = nI q.2
  by_cases hi' : i = g
  · rw [hi', pk_us, pk_us, pk_us, va_up_self]
    refine ⟨rfl, fun q hq => ?_⟩
    cases hq
    obtain ⟨a, ha, rfl⟩ := nI_of h2
    obtain ⟨b, hb, rfl⟩ := nI_of (x := hi) (fun h9 => h3 (Int32.lt_of_lt_of_le h9 (nI_pos' ha)))
    exact ⟨by rw [iN_nI ha], by rw [iN_nI hb]⟩
  · rw [pk_un hi', pk_un hi', pk_un hi', va_up_ne _ _ hi']; exact m3 i
theorem isF_gb {S : St} {x : Int32} (hW : WS S) (h : isF x (nI (sN S)) = true) : ∃ g, x = nI g ∧ 1 ≤ g ∧ g ≤ sN S ∧ g ≤ 14 := by
  obtain ⟨g, h1, h2, h3⟩ := (isF_iff hW.1).mp h
  exact ⟨g, h3, h1, h2, Nat.le_trans h2 hW.1⟩
theorem MR.pa {S : St} {iv : Nat → Int32} {f : Nat → Nat → Int32} (hW : WS S) (h : MR S iv f) : ∀ j, 1 ≤ j → j ≤ sN S → f 1 j = nI (sPa S j) ∧ f 2 j = nI (sKi S j) ∧ sPa S j ≤ 14 ∧ sKi S j ≤ 2 := by
  intro j h1 h2
  obtain ⟨a, b⟩ := h.2.1 j h1 h2
  obtain ⟨c, -, d⟩ := hW.2.1 j h1 h2
  have := hW.1
  exact ⟨a, b, by omega, d⟩
set_option maxHeartbeats 4000000 in
set_option maxRecDepth 100000 in
theorem metX2_group (l : Launch) (G : Gt) (a : Nat → Nat) (iv : Nat → Int32) (f : Nat → Nat → Int32) (S : St) (hW : WS S) (hM : MR S iv f) (x lo hi : Int32) (sz : Nat) : CWi l G yX2_group cX2_group 4 .int 1 0 0 23 [.ref (a 0), .int (x), .int (lo), .int (hi)] (wM G a iv f) sz (fun r w1 => r = (stGroup S x lo hi).1 ∧ MW G a (stGroup S x lo hi).2 w1) := by
  refine mkWi (by decide) (Nat.le_of_ble_eq_true rfl) ?_
  intro p e s m args below meth c Q A hx hb hts hown hin hml hG hsz hP hD hA hA0 hS ret ls hl
  obtain ⟨n, hnS⟩ : ∃ n, n = sN S := ⟨_, rfl⟩
  have hn : iv 7 = nI n := by rw [hnS]; exact hM.1
  have hn4 : n ≤ 14 := by rw [hnS]; exact hW.1
  have hpaS := hM.pa hW
  refine lv_aload_n hx hb dX2_group_0 rfl (lv_at hl 0 rfl) ?_
  refine lv_iconst (v := 0) hx hb dX2_group_1 (by decide) ?_
  refine va_put (D := gD G) (ci := 1) (v := .int (0)) (ty := .int) (C := RX2) (T := TX2) (N := 27) hx hb hts in_X2 tyX2 tyX2_ok nmX2 hown hG.K hP hD hS 0 rfl rfl 0 (by decide) (hts _ q1153) (fun _ h9 => h9) rfl (by decide +kernel) rfl rfl (Nat.le_of_ble_eq_true rfl) dX2_group_2 (fun H locs hP hD hS => ?_)
  have hP : wP G (wM G a (va_up iv 0 (0)) f) H := hP
  have hD : va_D A (wM G a (va_up iv 0 (0)) f) := hD
  refine lv_aload_n hx hb dX2_group_5 rfl (lv_at hl 0 rfl) ?_
  refine lv_iload_n hx hb dX2_group_6 rfl (lv_at hl 1 rfl) ?_
  refine vp_callSi (W.runV (As := [.int (x)]) (rest := []) ⟨hx, hb, hml, hown, hts⟩ (metX2_isFeature l G a (va_up iv 0 (0)) f (x)) (cwV 1 hts (lw_V q1244 q1246 qs15 q36 q1247) rfl rfl rfl (by decide +kernel) ⟨Nat.le_of_ble_eq_true rfl, Nat.le_of_ble_eq_true rfl⟩) (pre_RV (q0 := 0) hG hP hS hA0 rfl rfl) rfl rfl hl.1 rfl (lv_room (Nat.le_of_ble_eq_true rfl)) dX2_group_7 ⟨Nat.le_refl _, Nat.le_refl _⟩) (fun r_7 e_7 => ?_)
  subst e_7
  refine top_i (y := b2i (isF (x) (nI n))) (congrArg (fun z => b2i (isF (x) z)) hn) ?_
  refine lv_if_ne (tgt := 15) hx hb dX2_group_10 (by decide) (fun c_10 => ?_) (fun c_10 => ?_)
  · have h10 : isF x (nI n) = true := b2i_n0.mp c_10; obtain ⟨g, rfl, hg1, hg2, hg4⟩ := isF_gb hW (by rw [hnS] at h10; exact h10)
    refine lv_iload_n hx hb dX2_group_15 rfl (lv_at hl 2 rfl) ?_
    refine lv_if_lt (tgt := 30) hx hb dX2_group_16 (by decide) (fun c_16 => ?_) (fun c_16 => ?_)
    · skip
      refine lv_bipush (v := (-2)) hx hb dX2_group_30 (by decide) ?_
      exact ret (-2) _ 32 ls _ _ 0 0 dX2_group_32 rfl (Nat.le_refl _) (Nat.le_refl _) hP hD hS (by subst hnS; exact mwr (gp_2 h10 (Or.inl c_16)) rfl hM)
    · skip
      refine lv_iload_n hx hb dX2_group_19 rfl (lv_at hl 3 rfl) ?_
      refine lv_iload_n hx hb dX2_group_20 rfl (lv_at hl 2 rfl) ?_
      refine lv_icmp_lt (tgt := 30) hx hb dX2_group_21 (by decide) (fun c_21 => ?_) (fun c_21 => ?_)
      · skip
        refine lv_bipush (v := (-2)) hx hb dX2_group_30 (by decide) ?_
        exact ret (-2) _ 32 ls _ _ 0 0 dX2_group_32 rfl (Nat.le_refl _) (Nat.le_refl _) hP hD hS (by subst hnS; exact mwr (gp_2 h10 (Or.inr (Or.inl c_21))) rfl hM)
      · skip
        refine lv_iload_n hx hb dX2_group_24 rfl (lv_at hl 3 rfl) ?_
        refine lv_bipush (v := 14) hx hb dX2_group_25 (by decide) ?_
        refine lv_icmp_le (tgt := 33) hx hb dX2_group_27 (by decide) (fun c_27 => ?_) (fun c_27 => ?_)
        · skip
          refine lv_aload_n hx hb dX2_group_33 rfl (lv_at hl 0 rfl) ?_
          refine va_get (D := gD G) (ci := 1) (v := .ref (a 3)) (C := RX2) (T := TX2) (N := 27) hx hb hts in_X2 hown hG.K hP 0 rfl rfl 3 (by decide) (hts _ q1156) (fun _ h9 => h9) rfl dX2_group_34 ?_
          refine lv_iload_n hx hb dX2_group_37 rfl (lv_at hl 1 rfl) ?_
          refine lv_iconst (v := 1) hx hb dX2_group_38 (by decide) ?_
          refine za_st (j := g) hx hb hG.K hP hD hS 3 1 rfl rfl rfl (by omega) (by decide) dX2_group_39 (fun H locs hP hD hS => ?_)
          have hP : wP G (wM G a (va_up iv 0 (0)) (va_up f 3 (upd (f 3) (g) (1)))) H := hP
          have hD : va_D A (wM G a (va_up iv 0 (0)) (va_up f 3 (upd (f 3) (g) (1)))) := hD
          refine lv_aload_n hx hb dX2_group_40 rfl (lv_at hl 0 rfl) ?_
          refine va_get (D := gD G) (ci := 1) (v := .ref (a 4)) (C := RX2) (T := TX2) (N := 27) hx hb hts in_X2 hown hG.K hP 0 rfl rfl 4 (by decide) (hts _ q1157) (fun _ h9 => h9) rfl dX2_group_41 ?_
          refine lv_iload_n hx hb dX2_group_44 rfl (lv_at hl 1 rfl) ?_
          refine lv_iload_n hx hb dX2_group_45 rfl (lv_at hl 2 rfl) ?_
          refine ia_st (j := g) hx hb hG.K hP hD hS 4 0 rfl rfl (by omega) (by decide) dX2_group_46 (fun H locs hP hD hS => ?_)
          have hP : wP G (wM G a (va_up iv 0 (0)) (va_up (va_up f 3 (upd (f 3) (g) (1))) 4 (upd (f 4) (g) (lo)))) H := hP
          have hD : va_D A (wM G a (va_up iv 0 (0)) (va_up (va_up f 3 (upd (f 3) (g) (1))) 4 (upd (f 4) (g) (lo)))) := hD
          refine lv_aload_n hx hb dX2_group_47 rfl (lv_at hl 0 rfl) ?_
          refine va_get (D := gD G) (ci := 1) (v := .ref (a 5)) (C := RX2) (T := TX2) (N := 27) hx hb hts in_X2 hown hG.K hP 0 rfl rfl 5 (by decide) (hts _ q1158) (fun _ h9 => h9) rfl dX2_group_48 ?_
          refine lv_iload_n hx hb dX2_group_51 rfl (lv_at hl 1 rfl) ?_
          refine lv_iload_n hx hb dX2_group_52 rfl (lv_at hl 3 rfl) ?_
          refine ia_st (j := g) hx hb hG.K hP hD hS 5 0 rfl rfl (by omega) (by decide) dX2_group_53 (fun H locs hP hD hS => ?_)
          have hP : wP G (wM G a (va_up iv 0 (0)) (va_up (va_up (va_up f 3 (upd (f 3) (g) (1))) 4 (upd (f 4) (g) (lo))) 5 (upd (f 5) (g) (hi)))) H := hP
          have hD : va_D A (wM G a (va_up iv 0 (0)) (va_up (va_up (va_up f 3 (upd (f 3) (g) (1))) 4 (upd (f 4) (g) (lo))) 5 (upd (f 5) (g) (hi)))) := hD
          refine lv_aload_n hx hb dX2_group_54 rfl (lv_at hl 0 rfl) ?_
          refine lv_iconst (v := 0) hx hb dX2_group_55 (by decide) ?_
          refine va_put (D := gD G) (ci := 1) (v := .int (0)) (ty := .boolean) (C := RX2) (T := TX2) (N := 27) hx hb hts in_X2 tyX2 tyX2_ok nmX2 hown hG.K hP hD hS 0 rfl rfl 16 (by decide) (hts _ q1169) (fun _ h9 => h9) rfl (by decide +kernel) rfl rfl (Nat.le_of_ble_eq_true rfl) dX2_group_56 (fun H locs hP hD hS => ?_)
          have hP : wP G (wM G a (va_up (va_up iv 0 (0)) 16 (0)) (va_up (va_up (va_up f 3 (upd (f 3) (g) (1))) 4 (upd (f 4) (g) (lo))) 5 (upd (f 5) (g) (hi)))) H := hP
          have hD : va_D A (wM G a (va_up (va_up iv 0 (0)) 16 (0)) (va_up (va_up (va_up f 3 (upd (f 3) (g) (1))) 4 (upd (f 4) (g) (lo))) 5 (upd (f 5) (g) (hi)))) := hD
          refine lv_aload_n hx hb dX2_group_59 rfl (lv_at hl 0 rfl) ?_
          refine lv_iload_n hx hb dX2_group_60 rfl (lv_at hl 1 rfl) ?_
          refine vp_callSi (W.runV (As := [.int (nI g)]) (rest := []) ⟨hx, hb, hml, hown, hts⟩ (metX2_groupedBelow l G a (va_up (va_up iv 0 (0)) 16 (0)) (va_up (va_up (va_up f 3 (upd (f 3) (g) (1))) 4 (upd (f 4) (g) (lo))) 5 (upd (f 5) (g) (hi))) n g (sPa S) (sKi S) hn hn4 hg4 (by rw [hnS]; exact hpaS)) (cwV 1 hts (lw_V q1252 q1254 qs16 q36 q1255) rfl rfl rfl (by decide +kernel) ⟨Nat.le_of_ble_eq_true rfl, Nat.le_of_ble_eq_true rfl⟩) (pre_RV (q0 := 0) hG hP hS hA0 rfl rfl) rfl rfl hl.1 rfl (lv_room (Nat.le_of_ble_eq_true rfl)) dX2_group_61 ⟨Nat.le_refl _, Nat.le_refl _⟩) (fun r_61 e_61 => ?_)
          subst e_61
          exact ret (nI (ctB (gbP (sPa S) (sKi S) g) (n + 1))) _ 64 ls _ _ 0 0 dX2_group_64 rfl (Nat.le_refl _) (Nat.le_refl _) hP hD hS (by subst hnS; exact mwr (gp_3 (by omega) h10 c_16 c_21 (by simpa using c_27)) rfl (MR_gp hg1 hM c_16 c_21 (by simpa using c_27)))
        · skip
          refine lv_bipush (v := (-2)) hx hb dX2_group_30 (by decide) ?_
          exact ret (-2) _ 32 ls _ _ 0 0 dX2_group_32 rfl (Nat.le_refl _) (Nat.le_refl _) hP hD hS (by subst hnS; exact mwr (gp_2 h10 (Or.inr (Or.inr (by simpa using c_27)))) rfl hM)
  · have h10 : isF x (nI n) = false := b2i_0.mp c_10
    refine lv_iconst (v := (-1)) hx hb dX2_group_13 (by decide) ?_
    exact ret (-1) _ 14 ls _ _ 0 0 dX2_group_14 rfl (Nat.le_refl _) (Nat.le_refl _) hP hD hS (by subst hnS; exact mwr (gp_1 h10) rfl hM)
theorem fo_1 {S : St} {op x y : Int32} (h : isL x (nI (sN S)) = false ∨ isL y (nI (sN S)) = false) : stFormula S op x y = (-1, S) := by unfold stFormula; rw [if_pos (by rcases h with h | h <;> simp [h])]
theorem fo_2 {S : St} {op x y : Int32} (h : isL x (nI (sN S)) = true) (h' : isL y (nI (sN S)) = true) (h2 : op < 0 ∨ 3 < op) : stFormula S op x y = (-2, S) := by unfold stFormula; rw [if_neg (by simp [h, h']), if_pos h2]
theorem fo_3 {S : St} {op x y : Int32} (h : isL x (nI (sN S)) = true) (h' : isL y (nI (sN S)) = true) (h2 : ¬ op < 0) (h3 : ¬ 3 < op) (h4 : sNf S = 40) : stFormula S op x y = (-4, S) := by unfold stFormula; rw [if_neg (by simp [h, h']), if_neg (fun h => h.elim h2 h3), if_pos h4]
theorem fo_4 {S : St} {op x y : Int32} (h : isL x (nI (sN S)) = true) (h' : isL y (nI (sN S)) = true) (h2 : ¬ op < 0) (h3 : ¬ 3 < op) (h4 : sNf S ≠ 40) (h5 : stAlw op x y = true) : stFormula S op x y = (0, S) := by unfold stFormula; rw [if_neg (by simp [h, h']), if_neg (fun h => h.elim h2 h3), if_neg h4, if_pos h5]
theorem fo_5 {S : St} {op x y : Int32} (h : isL x (nI (sN S)) = true) (h' : isL y (nI (sN S)) = true) (h2 : ¬ op < 0) (h3 : ¬ 3 < op) (h4 : sNf S ≠ 40) (h5 : stAlw op x y = false) : stFormula S op x y = (nI (sNf S + 1), (sN S, sPa S, sKi S, sGr S, sNf S + 1, va_up (sFo S) (sNf S) (iN op, toLit x, toLit y), S.2.2.2.2.2.2)) := by unfold stFormula; rw [if_neg (by simp [h, h']), if_neg (fun h => h.elim h2 h3), if_neg h4, if_neg (by simp [h5])]
theorem isL_lit {S : St} {x : Int32} (hW : WS S) (h : isL x (nI (sN S)) = true) : litI (toLit x) = x ∧ 1 ≤ (toLit x).1 ∧ (toLit x).1 ≤ sN S := by
  obtain ⟨t, h1, h2, rfl⟩ := (isL_iff hW.1).mp h
  rw [toLit_litI h1 (Nat.le_trans h2 hW.1)]
  exact ⟨rfl, h1, h2⟩
theorem MR_fo {S : St} {iv : Nat → Int32} {f : Nat → Nat → Int32} {op x y : Int32} (hW : WS S) (h : MR S iv f) (hx : isL x (nI (sN S)) = true) (hy : isL y (nI (sN S)) = true) (h2 : ¬ op < 0) : MR (sN S, sPa S, sKi S, sGr S, sNf S + 1, va_up (sFo S) (sNf S) (iN op, toLit x, toLit y), S.2.2.2.2.2.2) (va_up (va_up (va_up iv 0 0) 11 (nI (sNf S + 1))) 16 0) (va_up (va_up (va_up f 8 (upd (f 8) (sNf S) op)) 9 (upd (f 9) (sNf S) x)) 10 (upd (f 10) (sNf S) y)) := by
  obtain ⟨m1, m2, m3, m4, m5, m6, m7, m8, m9, m10, m11⟩ := h
  refine ⟨m1, m2, m3, m4, rfl, ?_, m7, m8, m9, Or.inl rfl, m11⟩
  intro i hi1
  have hi1 : i < sNf S + 1 := hi1
  show upd (f 8) (sNf S) op i = nI (va_up (sFo S) (sNf S) (iN op, toLit x, toLit y) i).1 ∧ upd (f 9) (sNf S) x i = litI (va_up (sFo S) (sNf S) (iN op, toLit x, toLit y) i).2.1 ∧ upd (f 10) (sNf S) y i = litI (va_up (sFo S) (sNf S) (iN op, toLit x, toLit y) i).2.2
  by_cases hi : i = sNf S
  · rw [hi, pk_us, pk_us, pk_us, va_up_self]
    obtain ⟨j, hj, rfl⟩ := nI_of h2
    exact ⟨by rw [iN_nI hj], (isL_lit hW hx).1.symm, (isL_lit hW hy).1.symm⟩
  · rw [pk_un hi, pk_un hi, pk_un hi, va_up_ne _ _ hi]; exact m6 i (by omega)
set_option maxHeartbeats 4000000 in
set_option maxRecDepth 100000 in
theorem metX2_formula (l : Launch) (G : Gt) (a : Nat → Nat) (iv : Nat → Int32) (f : Nat → Nat → Int32) (S : St) (hW : WS S) (hM : MR S iv f) (op x y : Int32) (sz : Nat) : CWi l G yX2_formula cX2_formula 5 .int 2 0 0 42 [.ref (a 0), .int (op), .int (x), .int (y)] (wM G a iv f) sz (fun r w1 => r = (stFormula S op x y).1 ∧ MW G a (stFormula S op x y).2 w1) := by
  refine mkWi (by decide) (Nat.le_of_ble_eq_true rfl) ?_
  intro p e s m args below meth c Q A hx hb hts hown hin hml hG hsz hP hD hA hA0 hS ret ls hl
  obtain ⟨n, hnS⟩ : ∃ n, n = sN S := ⟨_, rfl⟩
  have hn : iv 7 = nI n := by rw [hnS]; exact hM.1
  have hn4 : n ≤ 14 := by rw [hnS]; exact hW.1
  obtain ⟨k, hkS⟩ : ∃ k, k = sNf S := ⟨_, rfl⟩
  have hk : iv 11 = nI k := by rw [hkS]; exact hM.2.2.2.2.1
  have hk4 : k ≤ 40 := by rw [hkS]; exact hW.2.2.2.1
  refine lv_aload_n hx hb dX2_formula_0 rfl (lv_at hl 0 rfl) ?_
  refine lv_iconst (v := 0) hx hb dX2_formula_1 (by decide) ?_
  refine va_put (D := gD G) (ci := 1) (v := .int (0)) (ty := .int) (C := RX2) (T := TX2) (N := 27) hx hb hts in_X2 tyX2 tyX2_ok nmX2 hown hG.K hP hD hS 0 rfl rfl 0 (by decide) (hts _ q1153) (fun _ h9 => h9) rfl (by decide +kernel) rfl rfl (Nat.le_of_ble_eq_true rfl) dX2_formula_2 (fun H locs hP hD hS => ?_)
  have hP : wP G (wM G a (va_up iv 0 (0)) f) H := hP
  have hD : va_D A (wM G a (va_up iv 0 (0)) f) := hD
  refine lv_aload_n hx hb dX2_formula_5 rfl (lv_at hl 0 rfl) ?_
  refine lv_iload_n hx hb dX2_formula_6 rfl (lv_at hl 2 rfl) ?_
  refine vp_callSi (W.runV (As := [.int (x)]) (rest := []) ⟨hx, hb, hml, hown, hts⟩ (metX2_isLiteral l G a (va_up iv 0 (0)) f (x)) (cwV 1 hts (lw_V q1260 q1262 qs17 q36 q1263) rfl rfl rfl (by decide +kernel) ⟨Nat.le_of_ble_eq_true rfl, Nat.le_of_ble_eq_true rfl⟩) (pre_RV (q0 := 0) hG hP hS hA0 rfl rfl) rfl rfl hl.1 rfl (lv_room (Nat.le_of_ble_eq_true rfl)) dX2_formula_7 ⟨Nat.le_refl _, Nat.le_refl _⟩) (fun r_7 e_7 => ?_)
  subst e_7
  refine top_i (y := b2i (isL (x) (nI n))) (congrArg (fun z => b2i (isL (x) z)) hn) ?_
  refine lv_if_eq (tgt := 21) hx hb dX2_formula_10 (by decide) (fun c_10 => ?_) (fun c_10 => ?_)
  · have h10 : isL x (nI n) = false := b2i_0.mp c_10
    refine lv_iconst (v := (-1)) hx hb dX2_formula_21 (by decide) ?_
    exact ret (-1) _ 22 ls _ _ 0 0 dX2_formula_22 rfl (Nat.le_refl _) (Nat.le_refl _) hP hD hS (by subst hnS; exact mwr (fo_1 (Or.inl h10)) rfl hM)
  · have h10 : isL x (nI n) = true := b2i_n0.mp c_10
    refine lv_aload_n hx hb dX2_formula_13 rfl (lv_at hl 0 rfl) ?_
    refine lv_iload_n hx hb dX2_formula_14 rfl (lv_at hl 3 rfl) ?_
    refine vp_callSi (W.runV (As := [.int (y)]) (rest := []) ⟨hx, hb, hml, hown, hts⟩ (metX2_isLiteral l G a (va_up iv 0 (0)) f (y)) (cwV 1 hts (lw_V q1260 q1262 qs17 q36 q1263) rfl rfl rfl (by decide +kernel) ⟨Nat.le_of_ble_eq_true rfl, Nat.le_of_ble_eq_true rfl⟩) (pre_RV (q0 := 0) hG hP hS hA0 rfl rfl) rfl rfl hl.1 rfl (lv_room (Nat.le_of_ble_eq_true rfl)) dX2_formula_15 ⟨Nat.le_refl _, Nat.le_refl _⟩) (fun r_15 e_15 => ?_)
    subst e_15
    refine top_i (y := b2i (isL (y) (nI n))) (congrArg (fun z => b2i (isL (y) z)) hn) ?_
    refine lv_if_ne (tgt := 23) hx hb dX2_formula_18 (by decide) (fun c_18 => ?_) (fun c_18 => ?_)
    · have h18 : isL y (nI n) = true := b2i_n0.mp c_18
      refine lv_iload_n hx hb dX2_formula_23 rfl (lv_at hl 1 rfl) ?_
      refine lv_if_lt (tgt := 32) hx hb dX2_formula_24 (by decide) (fun c_24 => ?_) (fun c_24 => ?_)
      · skip
        refine lv_bipush (v := (-2)) hx hb dX2_formula_32 (by decide) ?_
        exact ret (-2) _ 34 ls _ _ 0 0 dX2_formula_34 rfl (Nat.le_refl _) (Nat.le_refl _) hP hD hS (by subst hnS; exact mwr (fo_2 h10 h18 (Or.inl c_24)) rfl hM)
      · skip
        refine lv_iload_n hx hb dX2_formula_27 rfl (lv_at hl 1 rfl) ?_
        refine lv_iconst (v := 3) hx hb dX2_formula_28 (by decide) ?_
        refine lv_icmp_le (tgt := 35) hx hb dX2_formula_29 (by decide) (fun c_29 => ?_) (fun c_29 => ?_)
        · skip
          have J68 : ∀ (v : Int32), v = b2i (stAlw op x y) → ∀ (H : Heap) (locs : List Loc), wP G (wM G a (va_up iv 0 (0)) f) H → va_D A (wM G a (va_up iv 0 (0)) f) → va_S A s.heap H locs → ∀ ls : Array Slot, lv_has ls 5 [(0, .ref (a 0)), (1, .int (op)), (2, .int (x)), (3, .int (y))] → W p l e (rm_ 2 0 0 42) s m args below meth c H locs 0 0 Q (F0 m 68 ls [.int (v)]) := by
            intro v ev H locs hP hD hS ls hl
            subst ev
            refine lv_istore (lv' := [(4, .int (b2i (stAlw op x y))), (0, .ref (a 0)), (1, .int (op)), (2, .int (x)), (3, .int (y))]) hx hb dX2_formula_68 hl (by decide) rfl (fun ls hl => ?_)
            refine lv_aload_n hx hb dX2_formula_70 rfl (lv_at hl 1 rfl) ?_
            refine va_get (D := gD G) (ci := 1) (v := .int (iv 11)) (C := RX2) (T := TX2) (N := 27) hx hb hts in_X2 hown hG.K hP 0 rfl rfl 11 (by decide) (hts _ q1164) (fun _ h9 => h9) rfl dX2_formula_71 ?_
            refine top_i (y := nI k) (hk) ?_
            refine lv_bipush (v := 40) hx hb dX2_formula_74 (by decide) ?_
            refine lv_icmp_ne (tgt := 82) hx hb dX2_formula_76 (by decide) (fun c_76 => ?_) (fun c_76 => ?_)
            · have h76 : k ≠ 40 := nI_ne (a := k) (b := 40) c_76
              refine lv_iload hx hb dX2_formula_82 (lv_at hl 0 rfl) ?_
              refine lv_if_eq (tgt := 89) hx hb dX2_formula_84 (by decide) (fun c_84 => ?_) (fun c_84 => ?_)
              · have h84 : stAlw op x y = false := b2i_0.mp c_84
                refine lv_aload_n hx hb dX2_formula_89 rfl (lv_at hl 1 rfl) ?_
                refine va_get (D := gD G) (ci := 1) (v := .ref (a 8)) (C := RX2) (T := TX2) (N := 27) hx hb hts in_X2 hown hG.K hP 0 rfl rfl 8 (by decide) (hts _ q1161) (fun _ h9 => h9) rfl dX2_formula_90 ?_
                refine lv_aload_n hx hb dX2_formula_93 rfl (lv_at hl 1 rfl) ?_
                refine va_get (D := gD G) (ci := 1) (v := .int (iv 11)) (C := RX2) (T := TX2) (N := 27) hx hb hts in_X2 hown hG.K hP 0 rfl rfl 11 (by decide) (hts _ q1164) (fun _ h9 => h9) rfl dX2_formula_94 ?_
                refine top_i (y := nI k) (hk) ?_
                refine lv_iload_n hx hb dX2_formula_97 rfl (lv_at hl 2 rfl) ?_
                refine ia_st (j := k) hx hb hG.K hP hD hS 7 0 rfl rfl (by omega) (by decide) dX2_formula_98 (fun H locs hP hD hS => ?_)
                have hP : wP G (wM G a (va_up iv 0 (0)) (va_up f 8 (upd (f 8) (k) (op)))) H := hP
                have hD : va_D A (wM G a (va_up iv 0 (0)) (va_up f 8 (upd (f 8) (k) (op)))) := hD
                refine lv_aload_n hx hb dX2_formula_99 rfl (lv_at hl 1 rfl) ?_
                refine va_get (D := gD G) (ci := 1) (v := .ref (a 9)) (C := RX2) (T := TX2) (N := 27) hx hb hts in_X2 hown hG.K hP 0 rfl rfl 9 (by decide) (hts _ q1162) (fun _ h9 => h9) rfl dX2_formula_100 ?_
                refine lv_aload_n hx hb dX2_formula_103 rfl (lv_at hl 1 rfl) ?_
                refine va_get (D := gD G) (ci := 1) (v := .int (iv 11)) (C := RX2) (T := TX2) (N := 27) hx hb hts in_X2 hown hG.K hP 0 rfl rfl 11 (by decide) (hts _ q1164) (fun _ h9 => h9) rfl dX2_formula_104 ?_
                refine top_i (y := nI k) (hk) ?_
                refine lv_iload_n hx hb dX2_formula_107 rfl (lv_at hl 3 rfl) ?_
                refine ia_st (j := k) hx hb hG.K hP hD hS 8 0 rfl rfl (by omega) (by decide) dX2_formula_108 (fun H locs hP hD hS => ?_)
                have hP : wP G (wM G a (va_up iv 0 (0)) (va_up (va_up f 8 (upd (f 8) (k) (op))) 9 (upd (f 9) (k) (x)))) H := hP
                have hD : va_D A (wM G a (va_up iv 0 (0)) (va_up (va_up f 8 (upd (f 8) (k) (op))) 9 (upd (f 9) (k) (x)))) := hD
                refine lv_aload_n hx hb dX2_formula_109 rfl (lv_at hl 1 rfl) ?_
                refine va_get (D := gD G) (ci := 1) (v := .ref (a 10)) (C := RX2) (T := TX2) (N := 27) hx hb hts in_X2 hown hG.K hP 0 rfl rfl 10 (by decide) (hts _ q1163) (fun _ h9 => h9) rfl dX2_formula_110 ?_
                refine lv_aload_n hx hb dX2_formula_113 rfl (lv_at hl 1 rfl) ?_
                refine va_get (D := gD G) (ci := 1) (v := .int (iv 11)) (C := RX2) (T := TX2) (N := 27) hx hb hts in_X2 hown hG.K hP 0 rfl rfl 11 (by decide) (hts _ q1164) (fun _ h9 => h9) rfl dX2_formula_114 ?_
                refine top_i (y := nI k) (hk) ?_
                refine lv_iload_n hx hb dX2_formula_117 rfl (lv_at hl 4 rfl) ?_
                refine ia_st (j := k) hx hb hG.K hP hD hS 9 0 rfl rfl (by omega) (by decide) dX2_formula_118 (fun H locs hP hD hS => ?_)
                have hP : wP G (wM G a (va_up iv 0 (0)) (va_up (va_up (va_up f 8 (upd (f 8) (k) (op))) 9 (upd (f 9) (k) (x))) 10 (upd (f 10) (k) (y)))) H := hP
                have hD : va_D A (wM G a (va_up iv 0 (0)) (va_up (va_up (va_up f 8 (upd (f 8) (k) (op))) 9 (upd (f 9) (k) (x))) 10 (upd (f 10) (k) (y)))) := hD
                refine lv_aload_n hx hb dX2_formula_119 rfl (lv_at hl 1 rfl) ?_
                refine lv_dup hx hb dX2_formula_120 rfl ?_
                refine va_get (D := gD G) (ci := 1) (v := .int (iv 11)) (C := RX2) (T := TX2) (N := 27) hx hb hts in_X2 hown hG.K hP 0 rfl rfl 11 (by decide) (hts _ q1164) (fun _ h9 => h9) rfl dX2_formula_121 ?_
                refine top_i (y := nI k) (hk) ?_
                refine lv_iconst (v := 1) hx hb dX2_formula_124 (by decide) ?_
                refine lv_iadd hx hb dX2_formula_125 ?_
                refine top_i (y := nI (k + 1)) (nI_1 k) ?_
                refine va_put (D := gD G) (ci := 1) (v := .int (nI (k + 1))) (ty := .int) (C := RX2) (T := TX2) (N := 27) hx hb hts in_X2 tyX2 tyX2_ok nmX2 hown hG.K hP hD hS 0 rfl rfl 11 (by decide) (hts _ q1164) (fun _ h9 => h9) rfl (by decide +kernel) rfl rfl (Nat.le_of_ble_eq_true rfl) dX2_formula_126 (fun H locs hP hD hS => ?_)
                have hP : wP G (wM G a (va_up (va_up iv 0 (0)) 11 (nI (k + 1))) (va_up (va_up (va_up f 8 (upd (f 8) (k) (op))) 9 (upd (f 9) (k) (x))) 10 (upd (f 10) (k) (y)))) H := hP
                have hD : va_D A (wM G a (va_up (va_up iv 0 (0)) 11 (nI (k + 1))) (va_up (va_up (va_up f 8 (upd (f 8) (k) (op))) 9 (upd (f 9) (k) (x))) 10 (upd (f 10) (k) (y)))) := hD
                refine lv_aload_n hx hb dX2_formula_129 rfl (lv_at hl 1 rfl) ?_
                refine lv_iconst (v := 0) hx hb dX2_formula_130 (by decide) ?_
                refine va_put (D := gD G) (ci := 1) (v := .int (0)) (ty := .boolean) (C := RX2) (T := TX2) (N := 27) hx hb hts in_X2 tyX2 tyX2_ok nmX2 hown hG.K hP hD hS 0 rfl rfl 16 (by decide) (hts _ q1169) (fun _ h9 => h9) rfl (by decide +kernel) rfl rfl (Nat.le_of_ble_eq_true rfl) dX2_formula_131 (fun H locs hP hD hS => ?_)
                have hP : wP G (wM G a (va_up (va_up (va_up iv 0 (0)) 11 (nI (k + 1))) 16 (0)) (va_up (va_up (va_up f 8 (upd (f 8) (k) (op))) 9 (upd (f 9) (k) (x))) 10 (upd (f 10) (k) (y)))) H := hP
                have hD : va_D A (wM G a (va_up (va_up (va_up iv 0 (0)) 11 (nI (k + 1))) 16 (0)) (va_up (va_up (va_up f 8 (upd (f 8) (k) (op))) 9 (upd (f 9) (k) (x))) 10 (upd (f 10) (k) (y)))) := hD
                refine lv_aload_n hx hb dX2_formula_134 rfl (lv_at hl 1 rfl) ?_
                refine va_get (D := gD G) (ci := 1) (v := .int (nI (k + 1))) (C := RX2) (T := TX2) (N := 27) hx hb hts in_X2 hown hG.K hP 0 rfl rfl 11 (by decide) (hts _ q1164) (fun _ h9 => h9) rfl dX2_formula_135 ?_
                exact ret (nI (k + 1)) _ 138 ls _ _ 0 0 dX2_formula_138 rfl (Nat.le_refl _) (Nat.le_refl _) hP hD hS (by subst hnS hkS; exact mwr (fo_5 h10 h18 c_24 (by simpa using c_29) h76 h84) rfl (MR_fo hW hM h10 h18 c_24))
              · have h84 : stAlw op x y = true := b2i_n0.mp c_84
                refine lv_iconst (v := 0) hx hb dX2_formula_87 (by decide) ?_
                exact ret (0) _ 88 ls _ _ 0 0 dX2_formula_88 rfl (Nat.le_refl _) (Nat.le_refl _) hP hD hS (by subst hnS hkS; exact mwr (fo_4 h10 h18 c_24 (by simpa using c_29) h76 h84) rfl hM)
            · have h76 : k = 40 := nI_e (a := k) (b := 40) c_76
              refine lv_bipush (v := (-4)) hx hb dX2_formula_79 (by decide) ?_
              exact ret (-4) _ 81 ls _ _ 0 0 dX2_formula_81 rfl (Nat.le_refl _) (Nat.le_refl _) hP hD hS (by subst hnS hkS; exact mwr (fo_3 h10 h18 c_24 (by simpa using c_29) h76) rfl hM)
          refine lv_iload_n hx hb dX2_formula_35 rfl (lv_at hl 1 rfl) ?_
          refine lv_if_eq (tgt := 44) hx hb dX2_formula_36 (by decide) (fun c_36 => ?_) (fun c_36 => ?_)
          · skip
            refine lv_iload_n hx hb dX2_formula_44 rfl (lv_at hl 2 rfl) ?_
            refine lv_iload_n hx hb dX2_formula_45 rfl (lv_at hl 3 rfl) ?_
            refine lv_icmp_ne (tgt := 53) hx hb dX2_formula_46 (by decide) (fun c_46 => ?_) (fun c_46 => ?_)
            · skip
              refine lv_iconst (v := 0) hx hb dX2_formula_53 (by decide) ?_
              refine lv_goto (tgt := 68) hx hb dX2_formula_54 (by decide) ?_
              exact J68 _ (by simp [stAlw, b2i, *]) _ _ hP hD hS ls hl
            · skip
              refine lv_iconst (v := 1) hx hb dX2_formula_49 (by decide) ?_
              refine lv_goto (tgt := 68) hx hb dX2_formula_50 (by decide) ?_
              exact J68 _ (by simp [stAlw, b2i, *]) _ _ hP hD hS ls hl
          · skip
            refine lv_iload_n hx hb dX2_formula_39 rfl (lv_at hl 1 rfl) ?_
            refine lv_iconst (v := 3) hx hb dX2_formula_40 (by decide) ?_
            refine lv_icmp_ne (tgt := 57) hx hb dX2_formula_41 (by decide) (fun c_41 => ?_) (fun c_41 => ?_)
            · skip
              refine lv_iload_n hx hb dX2_formula_57 rfl (lv_at hl 2 rfl) ?_
              refine lv_iload_n hx hb dX2_formula_58 rfl (lv_at hl 3 rfl) ?_
              refine lv_ineg hx hb dX2_formula_59 ?_
              refine lv_icmp_ne (tgt := 67) hx hb dX2_formula_60 (by decide) (fun c_60 => ?_) (fun c_60 => ?_)
              · skip
                refine lv_iconst (v := 0) hx hb dX2_formula_67 (by decide) ?_
                exact J68 _ (by simp [stAlw, b2i, *]) _ _ hP hD hS ls hl
              · skip
                refine lv_iconst (v := 1) hx hb dX2_formula_63 (by decide) ?_
                refine lv_goto (tgt := 68) hx hb dX2_formula_64 (by decide) ?_
                exact J68 _ (by simp [stAlw, b2i, *]) _ _ hP hD hS ls hl
            · skip
              refine lv_iload_n hx hb dX2_formula_44 rfl (lv_at hl 2 rfl) ?_
              refine lv_iload_n hx hb dX2_formula_45 rfl (lv_at hl 3 rfl) ?_
              refine lv_icmp_ne (tgt := 53) hx hb dX2_formula_46 (by decide) (fun c_46 => ?_) (fun c_46 => ?_)
              · skip
                refine lv_iconst (v := 0) hx hb dX2_formula_53 (by decide) ?_
                refine lv_goto (tgt := 68) hx hb dX2_formula_54 (by decide) ?_
                exact J68 _ (by simp [stAlw, b2i, *]) _ _ hP hD hS ls hl
              · skip
                refine lv_iconst (v := 1) hx hb dX2_formula_49 (by decide) ?_
                refine lv_goto (tgt := 68) hx hb dX2_formula_50 (by decide) ?_
                exact J68 _ (by simp [stAlw, b2i, *]) _ _ hP hD hS ls hl
        · skip
          refine lv_bipush (v := (-2)) hx hb dX2_formula_32 (by decide) ?_
          exact ret (-2) _ 34 ls _ _ 0 0 dX2_formula_34 rfl (Nat.le_refl _) (Nat.le_refl _) hP hD hS (by subst hnS; exact mwr (fo_2 h10 h18 (Or.inr (by simpa using c_29))) rfl hM)
    · have h18 : isL y (nI n) = false := b2i_0.mp c_18
      refine lv_iconst (v := (-1)) hx hb dX2_formula_21 (by decide) ?_
      exact ret (-1) _ 22 ls _ _ 0 0 dX2_formula_22 rfl (Nat.le_refl _) (Nat.le_refl _) hP hD hS (by subst hnS; exact mwr (fo_1 (Or.inr h18)) rfl hM)
theorem at_1 {S : St} {g w v : Int32} (h : ¬ g = 0) (h1 : isF g (nI (sN S)) = false) : stAttr S g w v = (-1, S) := by unfold stAttr; rw [if_pos (by simp [h, h1])]
theorem at_2 {S : St} {g w v : Int32} (h : g = 0 ∨ isF g (nI (sN S)) = true) (h2 : w < 0 ∨ 3 < w ∨ v < -(stBd g) ∨ stBd g < v) : stAttr S g w v = (-2, S) := by unfold stAttr; rw [if_neg (by rcases h with h | h <;> simp [h]), if_pos h2]
theorem at_3 {S : St} {w : Nat} {v : Int32} (hw : w < 2 ^ 31) (h1 : ¬ nI w < 0) (h2 : ¬ 3 < nI w) (h3 : ¬ v < -(stBd 0)) (h4 : ¬ stBd 0 < v) : stAttr S 0 (nI w) v = (1, (sN S, sPa S, sKi S, sGr S, sNf S, sFo S, sAt S, va_up (sLm S) w (some v), S.2.2.2.2.2.2.2.2)) := by unfold stAttr; rw [if_neg (by simp), if_neg (fun h => h.elim h1 (fun h => h.elim h2 (fun h => h.elim h3 h4))), if_pos rfl, iN_nI hw]
theorem at_4 {S : St} {g w : Nat} {v : Int32} (hg : g < 2 ^ 31) (hw : w < 2 ^ 31) (h : ¬ nI g = 0) (h0 : isF (nI g) (nI (sN S)) = true) (h1 : ¬ nI w < 0) (h2 : ¬ 3 < nI w) (h3 : ¬ v < -(stBd (nI g))) (h4 : ¬ stBd (nI g) < v) : stAttr S (nI g) (nI w) v = (1, (sN S, sPa S, sKi S, sGr S, sNf S, sFo S, va_up (sAt S) w (va_up (sAt S w) g v), S.2.2.2.2.2.2.2)) := by unfold stAttr; rw [if_neg (by simp [h0]), if_neg (fun h => h.elim h1 (fun h => h.elim h2 (fun h => h.elim h3 h4))), if_neg h, iN_nI hw, iN_nI hg]
theorem MR_at3 {S : St} {iv : Nat → Int32} {f : Nat → Nat → Int32} {w : Nat} {v : Int32} (h : MR S iv f) : MR (sN S, sPa S, sKi S, sGr S, sNf S, sFo S, sAt S, va_up (sLm S) w (some v), S.2.2.2.2.2.2.2.2) (va_up (va_up iv 0 0) 16 0) (va_up (va_up f 12 (upd (f 12) w 1)) 13 (upd (f 13) w v)) := by
  obtain ⟨m1, m2, m3, m4, m5, m6, m7, m8, m9, m10, m11⟩ := h
  refine ⟨m1, m2, m3, m4, m5, m6, ?_, m8, m9, Or.inl rfl, m11⟩
  intro i hi1
  show upd (f 12) w 1 i = b2i (va_up (sLm S) w (some v) i).isSome ∧ ∀ z, va_up (sLm S) w (some v) i = some z → upd (f 13) w v i = z
  by_cases hi : i = w
  · rw [hi, pk_us, pk_us, va_up_self]
    exact ⟨rfl, fun z hz => by cases hz; rfl⟩
  · rw [pk_un hi, pk_un hi, va_up_ne _ _ hi]; exact m7 i hi1
theorem MR_at4 {S : St} {iv : Nat → Int32} {f : Nat → Nat → Int32} {g w : Nat} {v : Int32} (hw : w < 4) (h : MR S iv f) : MR (sN S, sPa S, sKi S, sGr S, sNf S, sFo S, va_up (sAt S) w (va_up (sAt S w) g v), S.2.2.2.2.2.2.2) (va_up (va_up iv 0 0) 16 0) (va_up f 6 (upd (f 6) (4 * g + w) v)) := by
  obtain ⟨m1, m2, m3, m4, m5, m6, m7, m8, m9, m10, m11⟩ := h
  refine ⟨m1, m2, m3, ?_, m5, m6, m7, m8, m9, Or.inl rfl, m11⟩
  intro u i hu hi1 hi2
  show upd (f 6) (4 * g + w) v (4 * i + u) = va_up (sAt S) w (va_up (sAt S w) g v) u i
  by_cases hi : u = w
  · subst hi
    rw [va_up_self]
    by_cases hj : i = g
    · rw [hj, pk_us, va_up_self]
    · rw [pk_un (by omega), va_up_ne _ _ hj]; exact m4 u i hu hi1 hi2
  · rw [pk_un (by omega), va_up_ne _ _ hi]; exact m4 u i hu hi1 hi2
set_option maxHeartbeats 4000000 in
set_option maxRecDepth 100000 in
theorem metX2_attribute (l : Launch) (G : Gt) (a : Nat → Nat) (iv : Nat → Int32) (f : Nat → Nat → Int32) (S : St) (hW : WS S) (hM : MR S iv f) (x wh v : Int32) (sz : Nat) : CWi l G yX2_attribute cX2_attribute 5 .int 1 0 0 21 [.ref (a 0), .int (x), .int (wh), .int (v)] (wM G a iv f) sz (fun r w1 => r = (stAttr S x wh v).1 ∧ MW G a (stAttr S x wh v).2 w1) := by
  refine mkWi (by decide) (Nat.le_of_ble_eq_true rfl) ?_
  intro p e s m args below meth c Q A hx hb hts hown hin hml hG hsz hP hD hA hA0 hS ret ls hl
  obtain ⟨n, hnS⟩ : ∃ n, n = sN S := ⟨_, rfl⟩
  have hn : iv 7 = nI n := by rw [hnS]; exact hM.1
  have hn4 : n ≤ 14 := by rw [hnS]; exact hW.1
  have J34 : (x = 0 ∨ isF x (nI n) = true) → ∀ (H : Heap) (locs : List Loc), wP G (wM G a (va_up iv 0 (0)) f) H → va_D A (wM G a (va_up iv 0 (0)) f) → va_S A s.heap H locs → ∀ ls : Array Slot, lv_has ls 5 [(4, .int (stBd x)), (0, .ref (a 0)), (1, .int (x)), (2, .int (wh)), (3, .int (v))] → W p l e (rm_ 1 0 0 21) s m args below meth c H locs 0 0 Q (F0 m 34 ls []) := by
    intro  hx0 H locs hP hD hS ls hl
    refine lv_iload_n hx hb dX2_attribute_34 rfl (lv_at hl 3 rfl) ?_
    refine lv_if_lt (tgt := 56) hx hb dX2_attribute_35 (by decide) (fun c_35 => ?_) (fun c_35 => ?_)
    · skip
      refine lv_bipush (v := (-2)) hx hb dX2_attribute_56 (by decide) ?_
      exact ret (-2) _ 58 ls _ _ 0 0 dX2_attribute_58 rfl (Nat.le_refl _) (Nat.le_refl _) hP hD hS (by subst hnS; exact mwr (at_2 hx0 (Or.inl c_35)) rfl hM)
    · skip
      refine lv_iload_n hx hb dX2_attribute_38 rfl (lv_at hl 3 rfl) ?_
      refine lv_iconst (v := 3) hx hb dX2_attribute_39 (by decide) ?_
      refine lv_icmp_gt (tgt := 56) hx hb dX2_attribute_40 (by decide) (fun c_40 => ?_) (fun c_40 => ?_)
      · skip
        refine lv_bipush (v := (-2)) hx hb dX2_attribute_56 (by decide) ?_
        exact ret (-2) _ 58 ls _ _ 0 0 dX2_attribute_58 rfl (Nat.le_refl _) (Nat.le_refl _) hP hD hS (by subst hnS; exact mwr (at_2 hx0 (Or.inr (Or.inl c_40))) rfl hM)
      · skip
        refine lv_iload_n hx hb dX2_attribute_43 rfl (lv_at hl 4 rfl) ?_
        refine lv_iload hx hb dX2_attribute_44 (lv_at hl 0 rfl) ?_
        refine lv_ineg hx hb dX2_attribute_46 ?_
        refine lv_icmp_lt (tgt := 56) hx hb dX2_attribute_47 (by decide) (fun c_47 => ?_) (fun c_47 => ?_)
        · skip
          refine lv_bipush (v := (-2)) hx hb dX2_attribute_56 (by decide) ?_
          exact ret (-2) _ 58 ls _ _ 0 0 dX2_attribute_58 rfl (Nat.le_refl _) (Nat.le_refl _) hP hD hS (by subst hnS; exact mwr (at_2 hx0 (Or.inr (Or.inr (Or.inl c_47)))) rfl hM)
        · skip
          refine lv_iload_n hx hb dX2_attribute_50 rfl (lv_at hl 4 rfl) ?_
          refine lv_iload hx hb dX2_attribute_51 (lv_at hl 0 rfl) ?_
          refine lv_icmp_le (tgt := 59) hx hb dX2_attribute_53 (by decide) (fun c_53 => ?_) (fun c_53 => ?_)
          · obtain ⟨w, rfl, hw4⟩ := le2_of (k := wh) (m := 3) (by decide) c_35 c_40
            refine lv_iload_n hx hb dX2_attribute_59 rfl (lv_at hl 2 rfl) ?_
            refine lv_if_ne (tgt := 80) hx hb dX2_attribute_60 (by decide) (fun c_60 => ?_) (fun c_60 => ?_)
            · obtain ⟨g, rfl, hg1, hg2, hg4⟩ := isF_gb hW (by rw [hnS] at hx0; exact hx0.resolve_left c_60); have h14 := hx0.resolve_left c_60
              refine lv_aload_n hx hb dX2_attribute_80 rfl (lv_at hl 1 rfl) ?_
              refine va_get (D := gD G) (ci := 1) (v := .ref (a 6)) (C := RX2) (T := TX2) (N := 27) hx hb hts in_X2 hown hG.K hP 0 rfl rfl 6 (by decide) (hts _ q1159) (fun _ h9 => h9) rfl dX2_attribute_81 ?_
              refine lv_iconst (v := 4) hx hb dX2_attribute_84 (by decide) ?_
              refine lv_iload_n hx hb dX2_attribute_85 rfl (lv_at hl 2 rfl) ?_
              refine lv_imul hx hb dX2_attribute_86 ?_
              refine lv_iload_n hx hb dX2_attribute_87 rfl (lv_at hl 3 rfl) ?_
              refine lv_iadd hx hb dX2_attribute_88 ?_
              refine top_i (y := nI (4 * g + w)) (by rw [show (4 : Int32) = nI 4 from rfl, pk_mul, nI_add]) ?_
              refine lv_iload_n hx hb dX2_attribute_89 rfl (lv_at hl 4 rfl) ?_
              refine ia_st (j := 4 * g + w) hx hb hG.K hP hD hS 6 0 rfl rfl (by omega) (by decide) dX2_attribute_90 (fun H locs hP hD hS => ?_)
              have hP : wP G (wM G a (va_up iv 0 (0)) (va_up f 6 (upd (f 6) (4 * g + w) (v)))) H := hP
              have hD : va_D A (wM G a (va_up iv 0 (0)) (va_up f 6 (upd (f 6) (4 * g + w) (v)))) := hD
              refine lv_aload_n hx hb dX2_attribute_91 rfl (lv_at hl 1 rfl) ?_
              refine lv_iconst (v := 0) hx hb dX2_attribute_92 (by decide) ?_
              refine va_put (D := gD G) (ci := 1) (v := .int (0)) (ty := .boolean) (C := RX2) (T := TX2) (N := 27) hx hb hts in_X2 tyX2 tyX2_ok nmX2 hown hG.K hP hD hS 0 rfl rfl 16 (by decide) (hts _ q1169) (fun _ h9 => h9) rfl (by decide +kernel) rfl rfl (Nat.le_of_ble_eq_true rfl) dX2_attribute_93 (fun H locs hP hD hS => ?_)
              have hP : wP G (wM G a (va_up (va_up iv 0 (0)) 16 (0)) (va_up f 6 (upd (f 6) (4 * g + w) (v)))) H := hP
              have hD : va_D A (wM G a (va_up (va_up iv 0 (0)) 16 (0)) (va_up f 6 (upd (f 6) (4 * g + w) (v)))) := hD
              refine lv_iconst (v := 1) hx hb dX2_attribute_96 (by decide) ?_
              exact ret (1) _ 97 ls _ _ 0 0 dX2_attribute_97 rfl (Nat.le_refl _) (Nat.le_refl _) hP hD hS (by subst hnS; exact mwr (at_4 (by omega) (by omega) c_60 h14 c_35 c_40 c_47 (by simpa using c_53)) rfl (MR_at4 (by omega) hM))
            · have c_60 : x = 0 := (by simpa using c_60); subst c_60
              refine lv_aload_n hx hb dX2_attribute_63 rfl (lv_at hl 1 rfl) ?_
              refine va_get (D := gD G) (ci := 1) (v := .ref (a 12)) (C := RX2) (T := TX2) (N := 27) hx hb hts in_X2 hown hG.K hP 0 rfl rfl 12 (by decide) (hts _ q1165) (fun _ h9 => h9) rfl dX2_attribute_64 ?_
              refine lv_iload_n hx hb dX2_attribute_67 rfl (lv_at hl 3 rfl) ?_
              refine lv_iconst (v := 1) hx hb dX2_attribute_68 (by decide) ?_
              refine za_st (j := w) hx hb hG.K hP hD hS 10 1 rfl rfl rfl (by omega) (by decide) dX2_attribute_69 (fun H locs hP hD hS => ?_)
              have hP : wP G (wM G a (va_up iv 0 (0)) (va_up f 12 (upd (f 12) (w) (1)))) H := hP
              have hD : va_D A (wM G a (va_up iv 0 (0)) (va_up f 12 (upd (f 12) (w) (1)))) := hD
              refine lv_aload_n hx hb dX2_attribute_70 rfl (lv_at hl 1 rfl) ?_
              refine va_get (D := gD G) (ci := 1) (v := .ref (a 13)) (C := RX2) (T := TX2) (N := 27) hx hb hts in_X2 hown hG.K hP 0 rfl rfl 13 (by decide) (hts _ q1166) (fun _ h9 => h9) rfl dX2_attribute_71 ?_
              refine lv_iload_n hx hb dX2_attribute_74 rfl (lv_at hl 3 rfl) ?_
              refine lv_iload_n hx hb dX2_attribute_75 rfl (lv_at hl 4 rfl) ?_
              refine ia_st (j := w) hx hb hG.K hP hD hS 11 0 rfl rfl (by omega) (by decide) dX2_attribute_76 (fun H locs hP hD hS => ?_)
              have hP : wP G (wM G a (va_up iv 0 (0)) (va_up (va_up f 12 (upd (f 12) (w) (1))) 13 (upd (f 13) (w) (v)))) H := hP
              have hD : va_D A (wM G a (va_up iv 0 (0)) (va_up (va_up f 12 (upd (f 12) (w) (1))) 13 (upd (f 13) (w) (v)))) := hD
              refine lv_goto (tgt := 91) hx hb dX2_attribute_77 (by decide) ?_
              refine lv_aload_n hx hb dX2_attribute_91 rfl (lv_at hl 1 rfl) ?_
              refine lv_iconst (v := 0) hx hb dX2_attribute_92 (by decide) ?_
              refine va_put (D := gD G) (ci := 1) (v := .int (0)) (ty := .boolean) (C := RX2) (T := TX2) (N := 27) hx hb hts in_X2 tyX2 tyX2_ok nmX2 hown hG.K hP hD hS 0 rfl rfl 16 (by decide) (hts _ q1169) (fun _ h9 => h9) rfl (by decide +kernel) rfl rfl (Nat.le_of_ble_eq_true rfl) dX2_attribute_93 (fun H locs hP hD hS => ?_)
              have hP : wP G (wM G a (va_up (va_up iv 0 (0)) 16 (0)) (va_up (va_up f 12 (upd (f 12) (w) (1))) 13 (upd (f 13) (w) (v)))) H := hP
              have hD : va_D A (wM G a (va_up (va_up iv 0 (0)) 16 (0)) (va_up (va_up f 12 (upd (f 12) (w) (1))) 13 (upd (f 13) (w) (v)))) := hD
              refine lv_iconst (v := 1) hx hb dX2_attribute_96 (by decide) ?_
              exact ret (1) _ 97 ls _ _ 0 0 dX2_attribute_97 rfl (Nat.le_refl _) (Nat.le_refl _) hP hD hS (by subst hnS; exact mwr (at_3 (by omega) c_35 c_40 c_47 (by simpa using c_53)) rfl (MR_at3 hM))
          · skip
            refine lv_bipush (v := (-2)) hx hb dX2_attribute_56 (by decide) ?_
            exact ret (-2) _ 58 ls _ _ 0 0 dX2_attribute_58 rfl (Nat.le_refl _) (Nat.le_refl _) hP hD hS (by subst hnS; exact mwr (at_2 hx0 (Or.inr (Or.inr (Or.inr (by simpa using c_53))))) rfl hM)
  have J19 : (x = 0 ∨ isF x (nI n) = true) → ∀ (H : Heap) (locs : List Loc), wP G (wM G a (va_up iv 0 (0)) f) H → va_D A (wM G a (va_up iv 0 (0)) f) → va_S A s.heap H locs → ∀ ls : Array Slot, lv_has ls 5 [(0, .ref (a 0)), (1, .int (x)), (2, .int (wh)), (3, .int (v))] → W p l e (rm_ 1 0 0 21) s m args below meth c H locs 0 0 Q (F0 m 19 ls []) := by
    intro  hx0 H locs hP hD hS ls hl
    refine lv_iload_n hx hb dX2_attribute_19 rfl (lv_at hl 1 rfl) ?_
    refine lv_if_ne (tgt := 29) hx hb dX2_attribute_20 (by decide) (fun c_20 => ?_) (fun c_20 => ?_)
    · skip
      refine lv_sipush (v := 1000) hx hb dX2_attribute_29 (by decide) ?_
      refine top_i (y := stBd x) (by simp [stBd, c_20]) ?_
      refine lv_istore (lv' := [(4, .int (stBd x)), (0, .ref (a 0)), (1, .int (x)), (2, .int (wh)), (3, .int (v))]) hx hb dX2_attribute_32 hl (by decide) rfl (fun ls hl => ?_)
      exact J34 hx0 _ _ hP hD hS ls hl
    · skip
      refine lv_sipush (v := 10000) hx hb dX2_attribute_23 (by decide) ?_
      refine lv_goto (tgt := 32) hx hb dX2_attribute_26 (by decide) ?_
      refine top_i (y := stBd x) (by simp [stBd, c_20]) ?_
      refine lv_istore (lv' := [(4, .int (stBd x)), (0, .ref (a 0)), (1, .int (x)), (2, .int (wh)), (3, .int (v))]) hx hb dX2_attribute_32 hl (by decide) rfl (fun ls hl => ?_)
      exact J34 hx0 _ _ hP hD hS ls hl
  refine lv_aload_n hx hb dX2_attribute_0 rfl (lv_at hl 0 rfl) ?_
  refine lv_iconst (v := 0) hx hb dX2_attribute_1 (by decide) ?_
  refine va_put (D := gD G) (ci := 1) (v := .int (0)) (ty := .int) (C := RX2) (T := TX2) (N := 27) hx hb hts in_X2 tyX2 tyX2_ok nmX2 hown hG.K hP hD hS 0 rfl rfl 0 (by decide) (hts _ q1153) (fun _ h9 => h9) rfl (by decide +kernel) rfl rfl (Nat.le_of_ble_eq_true rfl) dX2_attribute_2 (fun H locs hP hD hS => ?_)
  have hP : wP G (wM G a (va_up iv 0 (0)) f) H := hP
  have hD : va_D A (wM G a (va_up iv 0 (0)) f) := hD
  refine lv_iload_n hx hb dX2_attribute_5 rfl (lv_at hl 1 rfl) ?_
  refine lv_if_eq (tgt := 19) hx hb dX2_attribute_6 (by decide) (fun c_6 => ?_) (fun c_6 => ?_)
  · skip
    exact J19 (Or.inl c_6) _ _ hP hD hS ls hl
  · skip
    refine lv_aload_n hx hb dX2_attribute_9 rfl (lv_at hl 0 rfl) ?_
    refine lv_iload_n hx hb dX2_attribute_10 rfl (lv_at hl 1 rfl) ?_
    refine vp_callSi (W.runV (As := [.int (x)]) (rest := []) ⟨hx, hb, hml, hown, hts⟩ (metX2_isFeature l G a (va_up iv 0 (0)) f (x)) (cwV 1 hts (lw_V q1244 q1246 qs15 q36 q1247) rfl rfl rfl (by decide +kernel) ⟨Nat.le_of_ble_eq_true rfl, Nat.le_of_ble_eq_true rfl⟩) (pre_RV (q0 := 0) hG hP hS hA0 rfl rfl) rfl rfl hl.1 rfl (lv_room (Nat.le_of_ble_eq_true rfl)) dX2_attribute_11 ⟨Nat.le_refl _, Nat.le_refl _⟩) (fun r_11 e_11 => ?_)
    subst e_11
    refine top_i (y := b2i (isF (x) (nI n))) (congrArg (fun z => b2i (isF (x) z)) hn) ?_
    refine lv_if_ne (tgt := 19) hx hb dX2_attribute_14 (by decide) (fun c_14 => ?_) (fun c_14 => ?_)
    · have h14 : isF x (nI n) = true := b2i_n0.mp c_14
      exact J19 (Or.inr h14) _ _ hP hD hS ls hl
    · have h14 : isF x (nI n) = false := b2i_0.mp c_14
      refine lv_iconst (v := (-1)) hx hb dX2_attribute_17 (by decide) ?_
      exact ret (-1) _ 18 ls _ _ 0 0 dX2_attribute_18 rfl (Nat.le_refl _) (Nat.le_refl _) hP hD hS (by subst hnS; exact mwr (at_1 c_6 h14) rfl hM)
