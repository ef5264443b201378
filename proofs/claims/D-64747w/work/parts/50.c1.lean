/-! FeatureSolve: numbers and masks; bit f of a mask is 2^(f-1) -/
abbrev xC (a : Nat → Nat) (iv : Nat → Int32) : Nat × va_E := (a 15, .inr (0, [.ref (a 0), .ref (a 1), .ref (a 2), .ref (a 3), .ref (a 4), .ref (a 5), .ref (a 6), .int (iv 7), .ref (a 8), .ref (a 9), .int (iv 10), .int (iv 11), .ref (a 12), .int (iv 13), .ref (a 14)]))
theorem and2p (i j : Nat) : i &&& 2 ^ j = if i.testBit j then 2 ^ j else 0 := by
  apply Nat.eq_of_testBit_eq
  intro k
  rw [Nat.testBit_and, Nat.testBit_two_pow]
  by_cases h : j = k
  · subst h
    cases hb : i.testBit j <;> simp [Nat.testBit_two_pow]
  · cases hb : i.testBit j <;> simp [h, Nat.testBit_two_pow]
theorem bm_0 {i j : Nat} (hi : i < 2 ^ 31) (hj : j < 31) : (nI i &&& nI (2 ^ j) = 0) ↔ i.testBit j = false := by
  rw [nx_and, and2p]
  cases h : i.testBit j with
  | false => simp; rfl
  | true =>
    rw [if_pos rfl]
    constructor
    · intro h'
      exact absurd h' (nI_ne0 (Nat.two_pow_pos j) (Nat.pow_lt_pow_right (by decide) hj))
    · intro h'; cases h'
theorem bm_t {i g : Nat} (hi : i < 2 ^ 31) (hg : g ≤ 14) (h : ¬ nI i &&& nI (2 ^ (g - 1)) = 0) : i.testBit (g - 1) = true := by
  cases hb : i.testBit (g - 1) with
  | true => rfl
  | false => exact absurd ((bm_0 hi (by omega)).mpr hb) h
theorem bm_f {i g : Nat} (hi : i < 2 ^ 31) (hg : g ≤ 14) (h : nI i &&& nI (2 ^ (g - 1)) = 0) : i.testBit (g - 1) = false := (bm_0 hi (by omega)).mp h
theorem bm_fm {i g : Nat} (hi : i < 2 ^ 31) (hg : g ≤ 14) (h : i.testBit (g - 1) = false) : nI i &&& nI (2 ^ (g - 1)) = 0 := (bm_0 hi (by omega)).mpr h
theorem isL_neg {x : Int32} {n : Nat} (hn : n ≤ 14) (h : x < 0) : isL x (nI n) = isF (-x) (nI n) := by
  have h1 : isF x (nI n) = false := by
    have : x < 1 := by rw [Int32.lt_iff_toInt_lt] at h ⊢; exact Int.lt_trans h (by decide)
    simp [isF, this]
  unfold isL
  rw [h1, Bool.false_or]
  cases h2 : isF (-x) (nI n) with
  | false => simp
  | true =>
    obtain ⟨g, g1, g2, g3⟩ := (isF_iff hn).mp h2
    have hx : x = -(nI g) := by rw [← g3, neg_neg_i]
    have h3 : ¬ x < -14 := by
      rw [hx, Int32.lt_iff_toInt_lt, sb_negT (by omega)]
      have e : (-14 : Int32).toInt = -14 := by decide
      omega
    simp [h, h3]
theorem isL_pos' {x : Int32} {n : Nat} (h : ¬ x < 0) : isL x (nI n) = isF x (nI n) := by
  unfold isL
  simp [h]
def gmN (pa ki : Nat → Nat) (g : Nat) : Nat → Nat
  | 0 => 0
  | k + 1 => if gbP pa ki g k then gmN pa ki g k ||| 2 ^ (k - 1) else gmN pa ki g k
theorem gmN_lt (pa ki : Nat → Nat) (g k : Nat) : gmN pa ki g (k + 1) < 2 ^ k := by
  induction k with
  | zero => simp [gmN, gbP]
  | succ k ih =>
    rw [gmN]
    have h1 : gmN pa ki g (k + 1) < 2 ^ (k + 1) := by rw [Nat.pow_succ]; omega
    split
    · exact Nat.or_lt_two_pow h1 (by rw [Nat.add_sub_cancel, Nat.pow_succ]; have := Nat.two_pow_pos k; omega)
    · exact h1
set_option maxHeartbeats 4000000 in
set_option maxRecDepth 100000 in
theorem metX1_bit (l : Launch) (G : Gt) (g : Nat) (hg1 : 1 ≤ g) (hg2 : g ≤ 14) : CR l G yX1_bit cX1_bit 1 .int 0 0 [.int (nI g)] [] (fun r => r = nI (2 ^ (g - 1))) := by
  refine mkRi (by decide) (Nat.le_of_ble_eq_true rfl) ?_
  intro p e s m args below meth c Q hx hb hts hown hml hG hP hS ret ls hl
  refine lv_iconst (v := 1) hx hb dX1_bit_0 (by decide) ?_
  refine lv_iload_n hx hb dX1_bit_1 rfl (lv_at hl 0 rfl) ?_
  refine lv_iconst (v := 1) hx hb dX1_bit_2 (by decide) ?_
  refine lv_isub hx hb dX1_bit_3 ?_
  refine top_i (y := nI (g - 1)) (pk_sub (b := 1) (by omega)) ?_
  refine lv_ishl hx hb dX1_bit_4 ?_
  refine top_i (y := nI (2 ^ (g - 1))) (by rw [show (1 : Int32) = nI 1 from rfl, sh_l (by omega) (by have := p2_le (show g - 1 ≤ 13 by omega); omega), Nat.one_mul]) ?_
  exact ret (nI (2 ^ (g - 1))) 5 ls dX1_bit_5 rfl (rfl)
set_option maxHeartbeats 4000000 in
set_option maxRecDepth 100000 in
theorem metX1_is (l : Launch) (G : Gt) (a : Nat → Nat) (iv : Nat → Int32) (x : Int32) : CR l G yX1_is cX1_is 2 .boolean 0 0 [.ref (a 15), .int (x)] [(a 15, .inr (0, [.ref (a 0), .ref (a 1), .ref (a 2), .ref (a 3), .ref (a 4), .ref (a 5), .ref (a 6), .int (iv 7), .ref (a 8), .ref (a 9), .int (iv 10), .int (iv 11), .ref (a 12), .int (iv 13), .ref (a 14)]))] (fun r => r = b2i (isF x (iv 11))) := by
  refine mkRi (by decide) (Nat.le_of_ble_eq_true rfl) ?_
  intro p e s m args below meth c Q hx hb hts hown hml hG hP hS ret ls hl
  refine lv_iload_n hx hb dX1_is_0 rfl (lv_at hl 1 rfl) ?_
  refine lv_iconst (v := 1) hx hb dX1_is_1 (by decide) ?_
  refine lv_icmp_lt (tgt := 17) hx hb dX1_is_2 (by decide) (fun c_2 => ?_) (fun c_2 => ?_)
  · skip
    refine lv_iconst (v := 0) hx hb dX1_is_17 (by decide) ?_
    exact ret (0) 18 ls dX1_is_18 rfl (by simp [b2i, isF, c_2])
  · skip
    refine lv_iload_n hx hb dX1_is_5 rfl (lv_at hl 1 rfl) ?_
    refine lv_aload_n hx hb dX1_is_6 rfl (lv_at hl 0 rfl) ?_
    refine va_get (D := gD G) (ci := 0) (v := .int (iv 11)) (C := RX1) (T := TX1) (N := 15) hx hb hts in_X1 hown hG.K hP 0 rfl rfl 11 (by decide) (hts _ q175) (fun _ h9 => h9) rfl dX1_is_7 ?_
    refine lv_icmp_gt (tgt := 17) hx hb dX1_is_10 (by decide) (fun c_10 => ?_) (fun c_10 => ?_)
    · skip
      refine lv_iconst (v := 0) hx hb dX1_is_17 (by decide) ?_
      exact ret (0) 18 ls dX1_is_18 rfl (by simp [b2i, isF, c_2, c_10])
    · skip
      refine lv_iconst (v := 1) hx hb dX1_is_13 (by decide) ?_
      refine lv_goto (tgt := 18) hx hb dX1_is_14 (by decide) ?_
      exact ret (1) 18 ls dX1_is_18 rfl (by simp [b2i, isF, c_2, c_10])
set_option maxHeartbeats 4000000 in
set_option maxRecDepth 100000 in
theorem metX1_isIn (l : Launch) (G : Gt) (v fm to : Int64) : CR l G yX1_isIn cX1_isIn 6 .boolean 0 0 [.long (v), .long (fm), .long (to)] [] (fun r => r = b2i (decide (fm ≤ v) && decide (v ≤ to))) := by
  refine mkRi (by decide) (Nat.le_of_ble_eq_true rfl) ?_
  intro p e s m args below meth c Q hx hb hts hown hml hG hP hS ret ls hl
  refine lv_lload_n hx hb dX1_isIn_0 rfl (lv_at hl 0 rfl) ?_
  refine lv_lload_n hx hb dX1_isIn_1 rfl (lv_at hl 1 rfl) ?_
  refine W.lcmp hx hb dX1_isIn_2 ?_
  refine lv_if_lt (tgt := 17) hx hb dX1_isIn_3 (by decide) (fun c_3 => ?_) (fun c_3 => ?_)
  · have h3 : ¬ fm ≤ v := Int64.not_le.mpr ((lg_cmp_lt v fm).mp c_3)
    refine lv_iconst (v := 0) hx hb dX1_isIn_17 (by decide) ?_
    exact ret (0) 18 ls dX1_isIn_18 rfl (by simp [b2i, h3])
  · have h3 : fm ≤ v := Int64.not_lt.mp (fun h => c_3 ((lg_cmp_lt v fm).mpr h))
    refine lv_lload_n hx hb dX1_isIn_6 rfl (lv_at hl 0 rfl) ?_
    refine lv_lload hx hb dX1_isIn_7 (lv_at hl 2 rfl) ?_
    refine W.lcmp hx hb dX1_isIn_9 ?_
    refine lv_if_gt (tgt := 17) hx hb dX1_isIn_10 (by decide) (fun c_10 => ?_) (fun c_10 => ?_)
    · have h10 : ¬ v ≤ to := Int64.not_le.mpr ((lg_cmp_gt v to).mp c_10)
      refine lv_iconst (v := 0) hx hb dX1_isIn_17 (by decide) ?_
      exact ret (0) 18 ls dX1_isIn_18 rfl (by simp [b2i, h3, h10])
    · have h10 : v ≤ to := Int64.not_lt.mp (fun h => c_10 ((lg_cmp_gt v to).mpr h))
      refine lv_iconst (v := 1) hx hb dX1_isIn_13 (by decide) ?_
      refine lv_goto (tgt := 18) hx hb dX1_isIn_14 (by decide) ?_
      exact ret (1) 18 ls dX1_isIn_18 rfl (by simp [b2i, h3, h10])
theorem isL_min {x : Int32} {n : Nat} (hn : n ≤ 14) (h : x = -2147483648) : isL x (nI n) = false := by
  subst h
  rw [isL_neg hn (by decide), show -(-2147483648 : Int32) = -2147483648 by decide]
  unfold isF
  rw [show decide (¬ (-2147483648 : Int32) < 1) = false by decide, Bool.false_and]
set_option maxHeartbeats 4000000 in
set_option maxRecDepth 100000 in
theorem metX1_isSigned (l : Launch) (G : Gt) (a : Nat → Nat) (iv : Nat → Int32) (x : Int32) (n : Nat) (hn : iv 11 = nI n) (hn4 : n ≤ 14) : CR l G yX1_isSigned cX1_isSigned 2 .boolean 1 21 [.ref (a 15), .int (x)] [(a 15, .inr (0, [.ref (a 0), .ref (a 1), .ref (a 2), .ref (a 3), .ref (a 4), .ref (a 5), .ref (a 6), .int (iv 7), .ref (a 8), .ref (a 9), .int (iv 10), .int (iv 11), .ref (a 12), .int (iv 13), .ref (a 14)]))] (fun r => r = b2i (isL x (nI n))) := by
  refine mkRi (by decide) (Nat.le_of_ble_eq_true rfl) ?_
  intro p e s m args below meth c Q hx hb hts hown hml hG hP hS ret ls hl
  have habs : isF (if 0 ≤ x then x else 0 - x) (nI n) = isL x (nI n) := by
    by_cases h : 0 ≤ x
    · rw [if_pos h, isL_pos' (Int32.not_lt.mpr h)]
    · rw [if_neg h, isL_neg hn4 (Int32.not_le.mp h), Int32.zero_sub]
  refine lv_iload_n hx hb dX1_isSigned_0 rfl (lv_at hl 1 rfl) ?_
  refine lv_ldc (v := (-2147483648)) hx hb hown (hts _ q250) dX1_isSigned_1 ?_
  refine lv_icmp_eq (tgt := 21) hx hb dX1_isSigned_3 (by decide) (fun c_3 => ?_) (fun c_3 => ?_)
  · have h3 : isL x (nI n) = false := isL_min hn4 c_3
    refine lv_iconst (v := 0) hx hb dX1_isSigned_21 (by decide) ?_
    exact ret (0) 22 ls dX1_isSigned_22 rfl (by rw [h3]; rfl)
  · skip
    refine lv_aload_n hx hb dX1_isSigned_6 rfl (lv_at hl 0 rfl) ?_
    refine lv_iload_n hx hb dX1_isSigned_7 rfl (lv_at hl 1 rfl) ?_
    refine va_mabs hx hb (by rw [hml]; exact hl.1.symm) hown (hts _ q251) (hts _ q252) (hts _ q40) (hts _ q253) (Nat.le_of_ble_eq_true rfl) (Nat.le_of_ble_eq_true rfl) (Nat.le_of_ble_eq_true rfl) (Nat.le_of_ble_eq_true rfl) dX1_isSigned_8 ?_
    refine vp_callSi (W.runV (As := [.int (if 0 ≤ x then x else 0 - x)]) (rest := []) ⟨hx, hb, hml, hown, hts⟩ (metX1_is l G a iv (if 0 ≤ x then x else 0 - x)) (cwV 1 hts (lw_V q214 q216 qs0 q29 q217) rfl rfl rfl (by decide +kernel) ⟨Nat.le_of_ble_eq_true rfl, Nat.le_of_ble_eq_true rfl⟩) (pre_RV (q0 := 0) hG hP hS (fun _ h => h.elim) rfl rfl) rfl rfl hl.1 rfl (lv_room (Nat.le_of_ble_eq_true rfl)) dX1_isSigned_11 ⟨Nat.le_refl _, Nat.le_refl _⟩) (fun r_11 e_11 => ?_)
    subst e_11
    refine top_i (y := b2i (isL x (nI n))) (by rw [hn, habs]) ?_
    refine lv_if_eq (tgt := 21) hx hb dX1_isSigned_14 (by decide) (fun c_14 => ?_) (fun c_14 => ?_)
    · have h14 := b2i_0.mp c_14
      refine lv_iconst (v := 0) hx hb dX1_isSigned_21 (by decide) ?_
      exact ret (0) 22 ls dX1_isSigned_22 rfl (by rw [h14]; rfl)
    · have h14 := b2i_n0.mp c_14
      refine lv_iconst (v := 1) hx hb dX1_isSigned_17 (by decide) ?_
      refine lv_goto (tgt := 22) hx hb dX1_isSigned_18 (by decide) ?_
      exact ret (1) 22 ls dX1_isSigned_22 rfl (by rw [h14]; rfl)
set_option maxHeartbeats 4000000 in
set_option maxRecDepth 100000 in
theorem metX1_all (l : Launch) (G : Gt) (a : Nat → Nat) (iv : Nat → Int32) (n : Nat) (hn : iv 11 = nI n) (hn4 : n ≤ 14) : CR l G yX1_all cX1_all 1 .int 0 0 [.ref (a 15)] [(a 15, .inr (0, [.ref (a 0), .ref (a 1), .ref (a 2), .ref (a 3), .ref (a 4), .ref (a 5), .ref (a 6), .int (iv 7), .ref (a 8), .ref (a 9), .int (iv 10), .int (iv 11), .ref (a 12), .int (iv 13), .ref (a 14)]))] (fun r => r = nI (2 ^ n - 1)) := by
  refine mkRi (by decide) (Nat.le_of_ble_eq_true rfl) ?_
  intro p e s m args below meth c Q hx hb hts hown hml hG hP hS ret ls hl
  refine lv_iconst (v := 1) hx hb dX1_all_0 (by decide) ?_
  refine lv_aload_n hx hb dX1_all_1 rfl (lv_at hl 0 rfl) ?_
  refine va_get (D := gD G) (ci := 0) (v := .int (iv 11)) (C := RX1) (T := TX1) (N := 15) hx hb hts in_X1 hown hG.K hP 0 rfl rfl 11 (by decide) (hts _ q175) (fun _ h9 => h9) rfl dX1_all_2 ?_
  refine top_i (y := nI n) (hn) ?_
  refine lv_ishl hx hb dX1_all_5 ?_
  refine top_i (y := nI (2 ^ n)) (by rw [show (1 : Int32) = nI 1 from rfl, sh_l (by omega) (by have := p2_14 hn4; omega), Nat.one_mul]) ?_
  refine lv_iconst (v := 1) hx hb dX1_all_6 (by decide) ?_
  refine lv_isub hx hb dX1_all_7 ?_
  refine top_i (y := nI (2 ^ n - 1)) (pk_sub (b := 1) (Nat.two_pow_pos n)) ?_
  exact ret (nI (2 ^ n - 1)) 8 ls dX1_all_8 rfl (rfl)
theorem gm_2 {pa ki : Nat → Nat} {g : Nat} (hg : 1 ≤ g) (h1 : pa 1 = 0) : gmN pa ki g 2 = 0 := by
  have : gbP pa ki g 1 = false := by simp [gbP, h1]; omega
  simp [gmN, gbP, h1]
  omega
theorem gm_end {pa ki : Nat → Nat} {g n j : Nat} (hg : 1 ≤ g) (h1 : pa 1 = 0) (hj : j = n + 1 ∨ (n ≤ 1 ∧ j = 2)) : nI (gmN pa ki g j) = nI (gmN pa ki g (n + 1)) := by
  rcases hj with rfl | ⟨hn, rfl⟩
  · rfl
  · rcases (show n = 0 ∨ n = 1 by omega) with rfl | rfl
    · rw [gm_2 hg h1]; simp [gmN, gbP]
    · rfl
set_option maxHeartbeats 4000000 in
set_option maxRecDepth 100000 in
theorem metX1_groupedBelow (l : Launch) (G : Gt) (a : Nat → Nat) (iv : Nat → Int32) (fp fk : Nat → Int32) (n g : Nat) (pa ki : Nat → Nat) (hn : iv 11 = nI n) (hn4 : n ≤ 14) (hg1 : 1 ≤ g) (hg4 : g ≤ 14) (h1 : pa 1 = 0) (hpa : ∀ j, 1 ≤ j → j ≤ n → fp j = nI (pa j) ∧ fk j = nI (ki j) ∧ pa j ≤ 14 ∧ ki j ≤ 2) : CR l G yX1_groupedBelow cX1_groupedBelow 4 .int 1 20 [.ref (a 15), .int (nI g)] [(a 15, .inr (0, [.ref (a 0), .ref (a 1), .ref (a 2), .ref (a 3), .ref (a 4), .ref (a 5), .ref (a 6), .int (iv 7), .ref (a 8), .ref (a 9), .int (iv 10), .int (iv 11), .ref (a 12), .int (iv 13), .ref (a 14)])), (a 0, .inl (gA G 0, 15, .inl (fp))), (a 1, .inl (gA G 0, 15, .inl (fk)))] (fun r => r = nI (gmN pa ki g (n + 1))) := by
  refine mkRi (by decide) (Nat.le_of_ble_eq_true rfl) ?_
  intro p e s m args below meth c Q hx hb hts hown hml hG hP hS ret ls hl
  have L4 : ∀ (d : Nat) (j : Nat) (v3 v2 : Int32), j ≤ n + 1 ∨ j = 2 → n + 3 ≤ j + d → 2 ≤ j → v3 = nI j → v2 = nI (gmN pa ki g j) → ∀ ls : Array Slot, lv_has ls 4 [(3, .int (v3)), (2, .int (v2)), (0, .ref (a 15)), (1, .int (nI g))] → W p l e (rm_ 1 0 0 20) s m args below meth c s.heap [] 0 0 Q (F0 m 4 ls []) := by
    intro d
    induction d with
    | zero => intros; omega
    | succ d ih_4 =>
      intro j v3 v2 hj2 hd hj1 e3 e2 ls hl
      subst e3 e2
      refine lv_iload_n hx hb dX1_groupedBelow_4 rfl (lv_at hl 0 rfl) ?_
      refine lv_aload_n hx hb dX1_groupedBelow_5 rfl (lv_at hl 2 rfl) ?_
      refine va_get (D := gD G) (ci := 0) (v := .int (iv 11)) (C := RX1) (T := TX1) (N := 15) hx hb hts in_X1 hown hG.K hP 0 rfl rfl 11 (by decide) (hts _ q175) (fun _ h9 => h9) rfl dX1_groupedBelow_6 ?_
      refine top_i (y := nI n) (hn) ?_
      refine lv_icmp_gt (tgt := 49) hx hb dX1_groupedBelow_9 (by decide) (fun c_9 => ?_) (fun c_9 => ?_)
      · have h9 : n < j := nI_gt (a := j) (b := n) c_9
        refine lv_iload_n hx hb dX1_groupedBelow_49 rfl (lv_at hl 1 rfl) ?_
        exact ret (nI (gmN pa ki g j)) 50 ls dX1_groupedBelow_50 rfl (gm_end hg1 h1 (by omega))
      · have h9 : j ≤ n := nI_ngt (a := j) (b := n) c_9; obtain ⟨hp1, hp2, hp3, hp4⟩ := hpa j (by omega) h9
        refine lv_iload_n hx hb dX1_groupedBelow_12 rfl (lv_at hl 1 rfl) ?_
        have J41 : ∀ (v : Int32), nI (gmN pa ki g j) ||| v = nI (gmN pa ki g (j + 1)) → ∀ ls : Array Slot, lv_has ls 4 [(3, .int (nI j)), (2, .int (nI (gmN pa ki g j))), (0, .ref (a 15)), (1, .int (nI g))] → W p l e (rm_ 1 0 0 20) s m args below meth c s.heap [] 0 0 Q (F0 m 41 ls [.int (v), .int (nI (gmN pa ki g j))]) := by
          intro v ev ls hl
          refine lv_ior hx hb dX1_groupedBelow_41 ?_
          refine top_i (y := nI (gmN pa ki g (j + 1))) (ev) ?_
          refine lv_istore_n (lv' := [(2, .int (nI (gmN pa ki g (j + 1)))), (3, .int (nI j)), (0, .ref (a 15)), (1, .int (nI g))]) hx hb dX1_groupedBelow_42 rfl hl (by decide) rfl (fun ls hl => ?_)
          refine lv_iinc (v := nI (j + 1)) (lv' := [(3, .int (nI (j + 1))), (2, .int (nI (gmN pa ki g (j + 1)))), (0, .ref (a 15)), (1, .int (nI g))]) hx hb dX1_groupedBelow_43 hl (k := 1) rfl (nI_1 j) (by decide) rfl (fun ls hl => ?_)
          refine lv_goto (tgt := 4) hx hb dX1_groupedBelow_46 (by decide) ?_
          exact ih_4 (j + 1) _ _ (by omega) (by omega) (by omega) rfl rfl ls hl
        refine lv_aload_n hx hb dX1_groupedBelow_13 rfl (lv_at hl 2 rfl) ?_
        refine va_get (D := gD G) (ci := 0) (v := .ref (a 0)) (C := RX1) (T := TX1) (N := 15) hx hb hts in_X1 hown hG.K hP 0 rfl rfl 0 (by decide) (hts _ q164) (fun _ h9 => h9) rfl dX1_groupedBelow_14 ?_
        refine lv_iload_n hx hb dX1_groupedBelow_17 rfl (lv_at hl 0 rfl) ?_
        refine ia_ld (j := j) hx hb hG.K hP 1 0 rfl rfl (by omega) (by omega) dX1_groupedBelow_18 ?_
        refine top_i (y := nI (pa j)) (hp1) ?_
        refine lv_iload_n hx hb dX1_groupedBelow_19 rfl (lv_at hl 3 rfl) ?_
        refine lv_icmp_ne (tgt := 40) hx hb dX1_groupedBelow_20 (by decide) (fun c_20 => ?_) (fun c_20 => ?_)
        · have h20 : pa j ≠ g := nI_ne (a := pa j) (b := g) c_20
          refine lv_iconst (v := 0) hx hb dX1_groupedBelow_40 (by decide) ?_
          exact J41 _ (by rw [gmN, if_neg (by simp [gbP, h20]), Int32.or_zero]) ls hl
        · have h20 : pa j = g := nI_e (a := pa j) (b := g) c_20
          refine lv_aload_n hx hb dX1_groupedBelow_23 rfl (lv_at hl 2 rfl) ?_
          refine va_get (D := gD G) (ci := 0) (v := .ref (a 1)) (C := RX1) (T := TX1) (N := 15) hx hb hts in_X1 hown hG.K hP 0 rfl rfl 1 (by decide) (hts _ q165) (fun _ h9 => h9) rfl dX1_groupedBelow_24 ?_
          refine lv_iload_n hx hb dX1_groupedBelow_27 rfl (lv_at hl 0 rfl) ?_
          refine ia_ld (j := j) hx hb hG.K hP 2 0 rfl rfl (by omega) (by omega) dX1_groupedBelow_28 ?_
          refine top_i (y := nI (ki j)) (hp2) ?_
          refine lv_iconst (v := 2) hx hb dX1_groupedBelow_29 (by decide) ?_
          refine lv_icmp_ne (tgt := 40) hx hb dX1_groupedBelow_30 (by decide) (fun c_30 => ?_) (fun c_30 => ?_)
          · have h30 : ki j ≠ 2 := nI_ne (a := ki j) (b := 2) c_30
            refine lv_iconst (v := 0) hx hb dX1_groupedBelow_40 (by decide) ?_
            exact J41 _ (by rw [gmN, if_neg (by simp [gbP, h20, h30]), Int32.or_zero]) ls hl
          · have h30 : ki j = 2 := nI_e (a := ki j) (b := 2) c_30
            refine lv_iload_n hx hb dX1_groupedBelow_33 rfl (lv_at hl 0 rfl) ?_
            refine vp_callSi (W.runS (As := [.int (nI j)]) (rest := [.int (nI (gmN pa ki g j))]) ⟨hx, hb, hml, hown, hts⟩ (metX1_bit l G j (by omega) (by omega)) (va_cwS 1 hts (lw_S q233 q234 q29 q235) rfl rfl rfl (by decide +kernel) ⟨Nat.le_of_ble_eq_true rfl, Nat.le_of_ble_eq_true rfl⟩) (pre_RS hG (wP.mem (w' := []) hP (fun _ h => absurd h List.not_mem_nil)) hS (fun _ h => h.elim)) rfl rfl hl.1 rfl (lv_room (Nat.le_of_ble_eq_true rfl)) dX1_groupedBelow_34 ⟨Nat.le_refl _, Nat.le_refl _⟩) (fun r_34 e_34 => ?_)
            subst e_34
            refine lv_goto (tgt := 41) hx hb dX1_groupedBelow_37 (by decide) ?_
            exact J41 _ (by rw [nx_or, gmN, if_pos (by simp [gbP, h20, h30]; omega)]) ls hl
  refine lv_iconst (v := 0) hx hb dX1_groupedBelow_0 (by decide) ?_
  refine lv_istore_n (lv' := [(2, .int (0)), (0, .ref (a 15)), (1, .int (nI g))]) hx hb dX1_groupedBelow_1 rfl hl (by decide) rfl (fun ls hl => ?_)
  refine lv_iconst (v := 2) hx hb dX1_groupedBelow_2 (by decide) ?_
  refine lv_istore_n (lv' := [(3, .int (2)), (2, .int (0)), (0, .ref (a 15)), (1, .int (nI g))]) hx hb dX1_groupedBelow_3 rfl hl (by decide) rfl (fun ls hl => ?_)
  exact L4 (n + 3) 2 _ _ (by omega) (by omega) (by omega) rfl (by rw [gm_2 hg1 h1]; rfl) ls hl
