theorem litI_key {t : Lit} {g : Nat} (h1 : 1 ≤ t.1) (h2 : t.1 ≤ 14) (h3 : 1 ≤ g) (h4 : g ≤ 14) : (litI t = nI g ∨ litI t = -(nI g)) ↔ t.1 = g := by
  obtain ⟨k, sg⟩ := t
  have e1 : ∀ x, x ≤ 14 → (nI x).toInt = (x : Int) := fun x h => nI_toInt (by omega)
  have e2 : ∀ x, x ≤ 14 → (-(nI x)).toInt = -(x : Int) := fun x h => sb_negT (by omega)
  have h2 : k ≤ 14 := h2
  have h1 : 1 ≤ k := h1
  have a1 := e1 k h2
  have a2 := e2 k h2
  have b1 := e1 g h4
  have b2 := e2 g h4
  cases sg with
  | true =>
    show (nI k = nI g ∨ nI k = -(nI g)) ↔ k = g
    rw [← Int32.toInt_inj, ← Int32.toInt_inj, a1, b1, b2]
    omega
  | false =>
    show (-(nI k) = nI g ∨ -(nI k) = -(nI g)) ↔ k = g
    rw [← Int32.toInt_inj, ← Int32.toInt_inj, a2, b1, b2]
    omega
/-- the last place below k of a choice of g; -1 -/
def chI (ch : List Lit) (g : Nat) : Nat → Int32
  | 0 => -1
  | k + 1 => if (ch.getD k (0, true)).1 = g then nI k else chI ch g k
theorem nodup_le : ∀ (m : Nat) (l : List Nat), l.Nodup → (∀ x ∈ l, x < m) → l.length ≤ m := by
  intro m
  induction m with
  | zero => intro l _ h; cases l with
    | nil => exact Nat.le_refl _
    | cons x l => exact absurd (h x List.mem_cons_self) (by omega)
  | succ m ih =>
    intro l hn h
    by_cases hm : m ∈ l
    · have h1 := ih (l.erase m) (hn.erase m) (fun x hx => by
        have := (hn.mem_erase_iff).mp hx
        have := h x this.2
        omega)
      have := List.length_erase_of_mem hm
      omega
    · have h1 := ih l hn (fun x hx => by
        have := h x hx
        have : x ≠ m := fun e => hm (e ▸ hx)
        omega)
      omega
theorem ch_len {n : Nat} {ch : List Lit} (hn : n ≤ 14) (h : ∀ t ∈ ch, 1 ≤ t.1 ∧ t.1 ≤ n) (hd : (ch.map (·.1)).Nodup) : ch.length ≤ n := by
  have := nodup_le n ((ch.map (·.1)).map (fun x => x - 1)) ?_ ?_
  · simpa using this
  · rw [List.nodup_iff_pairwise_ne] at hd ⊢
    rw [List.pairwise_map]
    refine List.Pairwise.imp_of_mem ?_ hd
    intro x y hx hy hxy e
    obtain ⟨t, ht, rfl⟩ := List.mem_map.mp hx
    obtain ⟨u, hu, rfl⟩ := List.mem_map.mp hy
    have := h t ht
    have := h u hu
    omega
  · intro x hx
    obtain ⟨y, hy, rfl⟩ := List.mem_map.mp hx
    obtain ⟨t, ht, rfl⟩ := List.mem_map.mp hy
    have := h t ht
    omega
theorem chI_none {ch : List Lit} {g k : Nat} (h : ∀ j, j < k → (ch.getD j (0, true)).1 ≠ g) : chI ch g k = -1 := by
  induction k with
  | zero => rfl
  | succ k ih => rw [chI, if_neg (h k (by omega)), ih (fun j hj => h j (by omega))]
theorem chI_some {ch : List Lit} {g : Nat} : ∀ k, (∀ j, j < k → (ch.getD j (0, true)).1 ≠ g) ∨ ∃ j, j < k ∧ chI ch g k = nI j ∧ (ch.getD j (0, true)).1 = g := by
  intro k
  induction k with
  | zero => exact Or.inl (fun j hj => absurd hj (by omega))
  | succ k ih =>
    by_cases h : (ch.getD k (0, true)).1 = g
    · exact Or.inr ⟨k, by omega, by rw [chI, if_pos h], h⟩
    · rcases ih with ih | ⟨j, h1, h2, h3⟩
      · exact Or.inl (fun j hj => by
          rcases Nat.lt_or_eq_of_le (Nat.le_of_lt_succ hj) with h' | h'
          · exact ih j h'
          · rw [h']; exact h)
      · exact Or.inr ⟨j, by omega, by rw [chI, if_neg h, h2], h3⟩
theorem chDel_erase : ∀ (ch : List Lit) (g k : Nat), (ch.map (·.1)).Nodup → k < ch.length → (ch.getD k (0, true)).1 = g → chDel ch g = ch.eraseIdx k := by
  intro ch
  induction ch with
  | nil => intro g k _ h; exact absurd h (by simp)
  | cons t ch ih =>
    intro g k hn hk hg
    rw [List.map_cons, List.nodup_cons] at hn
    cases k with
    | zero =>
      have hg : t.1 = g := hg
      rw [chDel, List.filter_cons, if_neg (by simp [hg]), List.eraseIdx_cons_zero, List.filter_eq_self]
      intro u hu
      rw [decide_eq_true_eq]
      intro e
      exact hn.1 (by rw [hg, ← e]; exact List.mem_map_of_mem hu)
    | succ k =>
      have hk : k < ch.length := by simpa using hk
      have hg : (ch.getD k (0, true)).1 = g := by simpa using hg
      have hne : t.1 ≠ g := by
        intro e
        refine hn.1 ?_
        rw [e, ← hg, List.getD_eq_getElem?_getD, List.getElem?_eq_getElem hk]
        exact List.mem_map_of_mem (List.getElem_mem hk)
      rw [chDel, List.filter_cons, if_pos (by simp [hne]), List.eraseIdx_cons_succ]
      have := ih g k hn.2 hk hg
      rw [chDel] at this
      rw [this]
theorem chDel_self {ch : List Lit} {g : Nat} (h : ∀ j, j < ch.length → (ch.getD j (0, true)).1 ≠ g) : chDel ch g = ch := by
  rw [chDel, List.filter_eq_self]
  intro t ht
  rw [decide_eq_true_eq]
  intro e
  obtain ⟨j, hj⟩ := List.getElem?_of_mem ht
  have hlt := (List.getElem?_eq_some_iff.mp hj).1
  refine h j hlt ?_
  rw [List.getD_eq_getElem?_getD, hj]
  exact e
theorem getD_in {ch : List Lit} {P : Lit → Prop} (h : ∀ t ∈ ch, P t) {k : Nat} (hk : k < ch.length) : P (ch.getD k (0, true)) := by
  rw [List.getD_eq_getElem?_getD, List.getElem?_eq_getElem hk]
  exact h _ (List.getElem_mem hk)

set_option maxHeartbeats 4000000 in
set_option maxRecDepth 100000 in
theorem metX2_choiceOf (l : Launch) (G : Gt) (a : Nat → Nat) (iv : Nat → Int32) (f : Nat → Nat → Int32) (g : Nat) (ch : List Lit) (hc : iv 15 = nI ch.length) (hc4 : ch.length ≤ 14) (hcf : ∀ k, k < ch.length → f 14 k = litI (ch.getD k (0, true))) (hch : ∀ k, k < ch.length → 1 ≤ (ch.getD k (0, true)).1 ∧ (ch.getD k (0, true)).1 ≤ 14) (hg1 : 1 ≤ g) (hg2 : g ≤ 14) : CR l G yX2_choiceOf cX2_choiceOf 4 .int 0 0 [.ref (a 0), .int (nI g)] (wM G a iv f) (fun r => r = chI ch g ch.length) := by
  refine mkRi (by decide) (Nat.le_of_ble_eq_true rfl) ?_
  intro p e s m args below meth c Q hx hb hts hown hml hG hP hS ret ls hl
  have L4 : ∀ (d : Nat) (j : Nat) (v3 v2 : Int32), j ≤ ch.length → ch.length + 1 ≤ j + d → v3 = nI j → v2 = chI ch g j → ∀ ls : Array Slot, lv_has ls 4 [(3, .int (v3)), (2, .int (v2)), (0, .ref (a 0)), (1, .int (nI g))] → W p l e (rm_ 0 0 0 0) s m args below meth c s.heap [] 0 0 Q (F0 m 4 ls []) := by
    intro d
    induction d with
    | zero => intros; omega
    | succ d ih_4 =>
      intro j v3 v2 hj2 hd e3 e2 ls hl
      subst e3 e2
      refine lv_iload_n hx hb dX2_choiceOf_4 rfl (lv_at hl 0 rfl) ?_
      refine lv_aload_n hx hb dX2_choiceOf_5 rfl (lv_at hl 2 rfl) ?_
      refine va_get (D := gD G) (ci := 1) (v := .int (iv 15)) (C := RX2) (T := TX2) (N := 27) hx hb hts in_X2 hown hG.K hP 0 rfl rfl 15 (by decide) (hts _ q1168) (fun _ h9 => h9) rfl dX2_choiceOf_6 ?_
      refine top_i (y := nI ch.length) (hc) ?_
      refine lv_icmp_ge (tgt := 45) hx hb dX2_choiceOf_9 (by decide) (fun c_9 => ?_) (fun c_9 => ?_)
      · have h9 : ch.length ≤ j := nI_ge' (a := j) (b := ch.length) c_9; have hj4 : j = ch.length := (by omega)
        refine lv_iload_n hx hb dX2_choiceOf_45 rfl (lv_at hl 1 rfl) ?_
        exact ret (chI ch g j) 46 ls dX2_choiceOf_46 rfl (by rw [hj4])
      · have h9 : j < ch.length := nI_nge (a := j) (b := ch.length) c_9; have hpj := hcf j h9; have hkj := litI_key (hch j h9).1 (hch j h9).2 hg1 hg2
        have J38 : ∀ (v : Int32), v = chI ch g (j + 1) → ∀ ls : Array Slot, lv_has ls 4 [(3, .int (nI j)), (2, .int (chI ch g j)), (0, .ref (a 0)), (1, .int (nI g))] → W p l e (rm_ 0 0 0 0) s m args below meth c s.heap [] 0 0 Q (F0 m 38 ls [.int (v)]) := by
          intro v ev ls hl
          subst ev
          refine lv_istore_n (lv' := [(2, .int (chI ch g (j + 1))), (3, .int (nI j)), (0, .ref (a 0)), (1, .int (nI g))]) hx hb dX2_choiceOf_38 rfl hl (by decide) rfl (fun ls hl => ?_)
          refine lv_iinc (v := nI (j + 1)) (lv' := [(3, .int (nI (j + 1))), (2, .int (chI ch g (j + 1))), (0, .ref (a 0)), (1, .int (nI g))]) hx hb dX2_choiceOf_39 hl (k := 1) rfl (nI_1 j) (by decide) rfl (fun ls hl => ?_)
          refine lv_goto (tgt := 4) hx hb dX2_choiceOf_42 (by decide) ?_
          exact ih_4 (j + 1) _ _ (by omega) (by omega) rfl rfl ls hl
        refine lv_aload_n hx hb dX2_choiceOf_12 rfl (lv_at hl 2 rfl) ?_
        refine va_get (D := gD G) (ci := 1) (v := .ref (a 14)) (C := RX2) (T := TX2) (N := 27) hx hb hts in_X2 hown hG.K hP 0 rfl rfl 14 (by decide) (hts _ q1167) (fun _ h9 => h9) rfl dX2_choiceOf_13 ?_
        refine lv_iload_n hx hb dX2_choiceOf_16 rfl (lv_at hl 0 rfl) ?_
        refine ia_ld (j := j) hx hb hG.K hP 12 0 rfl rfl (by omega) (by decide) dX2_choiceOf_17 ?_
        refine top_i (y := litI (ch.getD j (0, true))) (hpj) ?_
        refine lv_iload_n hx hb dX2_choiceOf_18 rfl (lv_at hl 3 rfl) ?_
        refine lv_icmp_eq (tgt := 33) hx hb dX2_choiceOf_19 (by decide) (fun c_19 => ?_) (fun c_19 => ?_)
        · skip
          refine lv_iload_n hx hb dX2_choiceOf_33 rfl (lv_at hl 0 rfl) ?_
          refine lv_goto (tgt := 38) hx hb dX2_choiceOf_34 (by decide) ?_
          exact J38 _ (by rw [chI, if_pos (hkj.mp (Or.inl c_19))]) ls hl
        · skip
          refine lv_aload_n hx hb dX2_choiceOf_22 rfl (lv_at hl 2 rfl) ?_
          refine va_get (D := gD G) (ci := 1) (v := .ref (a 14)) (C := RX2) (T := TX2) (N := 27) hx hb hts in_X2 hown hG.K hP 0 rfl rfl 14 (by decide) (hts _ q1167) (fun _ h9 => h9) rfl dX2_choiceOf_23 ?_
          refine lv_iload_n hx hb dX2_choiceOf_26 rfl (lv_at hl 0 rfl) ?_
          refine ia_ld (j := j) hx hb hG.K hP 12 0 rfl rfl (by omega) (by decide) dX2_choiceOf_27 ?_
          refine top_i (y := litI (ch.getD j (0, true))) (hpj) ?_
          refine lv_iload_n hx hb dX2_choiceOf_28 rfl (lv_at hl 3 rfl) ?_
          refine lv_ineg hx hb dX2_choiceOf_29 ?_
          refine lv_icmp_ne (tgt := 37) hx hb dX2_choiceOf_30 (by decide) (fun c_30 => ?_) (fun c_30 => ?_)
          · skip
            refine lv_iload_n hx hb dX2_choiceOf_37 rfl (lv_at hl 1 rfl) ?_
            exact J38 _ (by rw [chI, if_neg (fun h => (hkj.mpr h).elim c_19 c_30)]) ls hl
          · skip
            refine lv_iload_n hx hb dX2_choiceOf_33 rfl (lv_at hl 0 rfl) ?_
            refine lv_goto (tgt := 38) hx hb dX2_choiceOf_34 (by decide) ?_
            exact J38 _ (by rw [chI, if_pos (hkj.mp (Or.inr (by simpa using c_30)))]) ls hl
  refine lv_iconst (v := (-1)) hx hb dX2_choiceOf_0 (by decide) ?_
  refine lv_istore_n (lv' := [(2, .int (-1)), (0, .ref (a 0)), (1, .int (nI g))]) hx hb dX2_choiceOf_1 rfl hl (by decide) rfl (fun ls hl => ?_)
  refine lv_iconst (v := 0) hx hb dX2_choiceOf_2 (by decide) ?_
  refine lv_istore_n (lv' := [(3, .int (0)), (2, .int (-1)), (0, .ref (a 0)), (1, .int (nI g))]) hx hb dX2_choiceOf_3 rfl hl (by decide) rfl (fun ls hl => ?_)
  exact L4 (ch.length + 1) 0 _ _ (by omega) (by omega) rfl rfl ls hl
theorem fg_0 {ch : List Lit} {k : Nat} {g : Nat → Int32} (h : ∀ j, j < ch.length → g j = litI (ch.getD j (0, true))) : ∀ i, i < ch.length → g i = if k ≤ i ∧ i < k then litI (ch.getD (i + 1) (0, true)) else litI (ch.getD i (0, true)) := by
  intro i hi
  rw [if_neg (by omega)]
  exact h i hi
theorem fg_s {ch : List Lit} {k j : Nat} {g : Nat → Int32} (h1 : k ≤ j) (h2 : j + 1 < ch.length) (hg : ∀ i, i < ch.length → g i = if k ≤ i ∧ i < j then litI (ch.getD (i + 1) (0, true)) else litI (ch.getD i (0, true))) : ∀ i, i < ch.length → upd g j (g (j + 1)) i = if k ≤ i ∧ i < j + 1 then litI (ch.getD (i + 1) (0, true)) else litI (ch.getD i (0, true)) := by
  intro i hi
  by_cases hij : i = j
  · rw [hij, pk_us, if_pos (by omega), hg (j + 1) (by omega), if_neg (by omega)]
  · rw [pk_un hij, hg i hi]
    by_cases h8 : k ≤ i ∧ i < j
    · rw [if_pos h8, if_pos (by omega)]
    · rw [if_neg h8, if_neg (by omega)]
theorem fg_l {ch : List Lit} {k j : Nat} {g : Nat → Int32} (h1 : k ≤ j) (h2 : j + 1 = ch.length) (hg : ∀ i, i < ch.length → g i = if k ≤ i ∧ i < j then litI (ch.getD (i + 1) (0, true)) else litI (ch.getD i (0, true))) : ∀ i, i < ch.length → g i = if k ≤ i ∧ i + 1 < ch.length then litI (ch.getD (i + 1) (0, true)) else litI (ch.getD i (0, true)) := by
  intro i hi
  rw [hg i hi]
  by_cases h8 : k ≤ i ∧ i < j
  · rw [if_pos h8, if_pos (by omega)]
  · rw [if_neg h8, if_neg (by omega)]
theorem fg_end {ch : List Lit} {k : Nat} {g : Nat → Int32} (hk : k < ch.length) (h : ∀ j, j < ch.length → g j = if k ≤ j ∧ j + 1 < ch.length then litI (ch.getD (j + 1) (0, true)) else litI (ch.getD j (0, true))) : ∀ j, j < ch.length - 1 → g j = litI ((ch.eraseIdx k).getD j (0, true)) := by
  intro j hj
  rw [h j (by omega), List.getD_eq_getElem?_getD, List.getD_eq_getElem?_getD, List.getD_eq_getElem?_getD, List.getElem?_eraseIdx]
  by_cases h1 : j < k
  · rw [if_pos h1, if_neg (by omega)]
  · rw [if_neg h1, if_pos (by omega)]
set_option maxHeartbeats 4000000 in
set_option maxRecDepth 100000 in
theorem metX2_forget (l : Launch) (G : Gt) (a : Nat → Nat) (iv : Nat → Int32) (f : Nat → Nat → Int32) (k : Nat) (ch : List Lit) (hc : iv 15 = nI ch.length) (hc4 : ch.length ≤ 14) (hcf : ∀ k, k < ch.length → f 14 k = litI (ch.getD k (0, true))) (hk : k < ch.length) (sz : Nat) : CWv l G yX2_forget cX2_forget 3 0 0 0 0 [.ref (a 0), .int (nI k)] (wM G a iv f) sz (fun w1 => ∃ g, w1 = wM G a (va_up iv 15 (nI (ch.length - 1))) (va_up f 14 g) ∧ ∀ j, j < ch.length - 1 → g j = litI ((ch.eraseIdx k).getD j (0, true))) := by
  refine mkWv (by decide) (Nat.le_of_ble_eq_true rfl) ?_
  intro p e s m args below meth c Q A hx hb hts hown hin hml hG hsz hP hD hA hA0 hS ret ls hl
  have L2 : ∀ (d : Nat) (j : Nat) (v2 : Int32) (g : Nat → Int32), k ≤ j → j + 1 ≤ ch.length → ch.length + 1 ≤ j + d → v2 = nI j → (∀ i, i < ch.length → g i = if k ≤ i ∧ i < j then litI (ch.getD (i + 1) (0, true)) else litI (ch.getD i (0, true))) → ∀ (H : Heap) (locs : List Loc), wP G (wM G a iv (va_up f 14 (g))) H → va_D A (wM G a iv (va_up f 14 (g))) → va_S A s.heap H locs → ∀ ls : Array Slot, lv_has ls 3 [(2, .int (v2)), (0, .ref (a 0)), (1, .int (nI k))] → W p l e (rm_ 0 0 0 0) s m args below meth c H locs 0 0 Q (F0 m 2 ls []) := by
    intro d
    induction d with
    | zero => intros; omega
    | succ d ih_2 =>
      intro j v2 g hj1 hj2 hd e2 hg H locs hP hD hS ls hl
      subst e2
      refine lv_iload_n hx hb dX2_forget_2 rfl (lv_at hl 0 rfl) ?_
      refine lv_iconst (v := 1) hx hb dX2_forget_3 (by decide) ?_
      refine lv_iadd hx hb dX2_forget_4 ?_
      refine top_i (y := nI (j + 1)) (nI_1 j) ?_
      refine lv_aload_n hx hb dX2_forget_5 rfl (lv_at hl 1 rfl) ?_
      refine va_get (D := gD G) (ci := 1) (v := .int (iv 15)) (C := RX2) (T := TX2) (N := 27) hx hb hts in_X2 hown hG.K hP 0 rfl rfl 15 (by decide) (hts _ q1168) (fun _ h9 => h9) rfl dX2_forget_6 ?_
      refine top_i (y := nI ch.length) (hc) ?_
      refine lv_icmp_ge (tgt := 32) hx hb dX2_forget_9 (by decide) (fun c_9 => ?_) (fun c_9 => ?_)
      · have h9 : ch.length ≤ j + 1 := nI_ge' (a := j + 1) (b := ch.length) c_9; have hj4 : j + 1 = ch.length := (by omega)
        refine lv_aload_n hx hb dX2_forget_32 rfl (lv_at hl 1 rfl) ?_
        refine lv_dup hx hb dX2_forget_33 rfl ?_
        refine va_get (D := gD G) (ci := 1) (v := .int (iv 15)) (C := RX2) (T := TX2) (N := 27) hx hb hts in_X2 hown hG.K hP 0 rfl rfl 15 (by decide) (hts _ q1168) (fun _ h9 => h9) rfl dX2_forget_34 ?_
        refine top_i (y := nI ch.length) (hc) ?_
        refine lv_iconst (v := 1) hx hb dX2_forget_37 (by decide) ?_
        refine lv_isub hx hb dX2_forget_38 ?_
        refine top_i (y := nI (ch.length - 1)) (pk_sub (a := ch.length) (b := 1) (by omega)) ?_
        refine va_put (D := gD G) (ci := 1) (v := .int (nI (ch.length - 1))) (ty := .int) (C := RX2) (T := TX2) (N := 27) hx hb hts in_X2 tyX2 tyX2_ok nmX2 hown hG.K hP hD hS 0 rfl rfl 15 (by decide) (hts _ q1168) (fun _ h9 => h9) rfl (by decide +kernel) rfl rfl (Nat.le_of_ble_eq_true rfl) dX2_forget_39 (fun H locs hP hD hS => ?_)
        have hP : wP G (wM G a (va_up iv 15 (nI (ch.length - 1))) (va_up f 14 (g))) H := hP
        have hD : va_D A (wM G a (va_up iv 15 (nI (ch.length - 1))) (va_up f 14 (g))) := hD
        exact ret _ 42 ls _ _ 0 0 dX2_forget_42 (Nat.le_refl _) (Nat.le_refl _) hP hD hS (⟨g, rfl, fg_end hk (fg_l hj1 hj4 hg)⟩)
      · have h9 : j + 1 < ch.length := nI_nge (a := j + 1) (b := ch.length) c_9
        refine lv_aload_n hx hb dX2_forget_12 rfl (lv_at hl 1 rfl) ?_
        refine va_get (D := gD G) (ci := 1) (v := .ref (a 14)) (C := RX2) (T := TX2) (N := 27) hx hb hts in_X2 hown hG.K hP 0 rfl rfl 14 (by decide) (hts _ q1167) (fun _ h9 => h9) rfl dX2_forget_13 ?_
        refine lv_iload_n hx hb dX2_forget_16 rfl (lv_at hl 0 rfl) ?_
        refine lv_aload_n hx hb dX2_forget_17 rfl (lv_at hl 1 rfl) ?_
        refine va_get (D := gD G) (ci := 1) (v := .ref (a 14)) (C := RX2) (T := TX2) (N := 27) hx hb hts in_X2 hown hG.K hP 0 rfl rfl 14 (by decide) (hts _ q1167) (fun _ h9 => h9) rfl dX2_forget_18 ?_
        refine lv_iload_n hx hb dX2_forget_21 rfl (lv_at hl 0 rfl) ?_
        refine lv_iconst (v := 1) hx hb dX2_forget_22 (by decide) ?_
        refine lv_iadd hx hb dX2_forget_23 ?_
        refine top_i (y := nI (j + 1)) (nI_1 j) ?_
        refine ia_ld (j := j + 1) hx hb hG.K hP 12 0 rfl rfl (by omega) (by decide) dX2_forget_24 ?_
        refine ia_st (j := j) hx hb hG.K hP hD hS 12 0 rfl rfl (by omega) (by decide) dX2_forget_25 (fun H locs hP hD hS => ?_)
        have hP : wP G (wM G a iv (va_up f 14 (upd (g) (j) ((g) (j + 1))))) H := hP
        have hD : va_D A (wM G a iv (va_up f 14 (upd (g) (j) ((g) (j + 1))))) := hD
        refine lv_iinc (v := nI (j + 1)) (lv' := [(2, .int (nI (j + 1))), (0, .ref (a 0)), (1, .int (nI k))]) hx hb dX2_forget_26 hl (k := 0) rfl (nI_1 j) (by decide) rfl (fun ls hl => ?_)
        refine lv_goto (tgt := 2) hx hb dX2_forget_29 (by decide) ?_
        exact ih_2 (j + 1) _ _ (by omega) (by omega) (by omega) rfl (fg_s hj1 h9 hg) _ _ hP hD hS ls hl
  refine lv_iload_n hx hb dX2_forget_0 rfl (lv_at hl 1 rfl) ?_
  refine lv_istore_n (lv' := [(2, .int (nI k)), (0, .ref (a 0)), (1, .int (nI k))]) hx hb dX2_forget_1 rfl hl (by decide) rfl (fun ls hl => ?_)
  exact L2 (ch.length + 1) k _ (f 14) (by omega) (by omega) (by omega) rfl (fg_0 hcf) _ _ hP hD hS ls hl
theorem co_1 {S : St} {x : Int32} {on : Bool} (h : isL x (nI (sN S)) = false) : stChoose S x on = (-1, S) := by unfold stChoose; rw [if_pos (by simp [h])]
theorem co_2' {S : St} {x : Int32} {on : Bool} (h : isL x (nI (sN S)) = true) : stChoose S x on = (nI (chNew (sCh S) x on).length, (sN S, sPa S, sKi S, sGr S, sNf S, sFo S, sAt S, sLm S, chNew (sCh S) x on, S.2.2.2.2.2.2.2.2.2)) := by unfold stChoose; rw [if_neg (by simp [h])]
theorem MR_ch {S : St} {iv : Nat → Int32} {f : Nat → Nat → Int32} {ch : List Lit} {g : Nat → Int32} {v : Int32} (h : MR S iv f) (hv : v = nI ch.length) (hg : ∀ k, k < ch.length → g k = litI (ch.getD k (0, true))) : MR (sN S, sPa S, sKi S, sGr S, sNf S, sFo S, sAt S, sLm S, ch, S.2.2.2.2.2.2.2.2.2) (va_up (va_up iv 0 0) 15 v) (va_up f 14 g) := by
  obtain ⟨m1, m2, m3, m4, m5, m6, m7, m8, m9, m10, m11⟩ := h
  exact ⟨m1, m2, m3, m4, m5, m6, m7, hv, hg, m10, m11⟩
theorem isL_pos {n g : Nat} {sg : Bool} (h1 : 1 ≤ g) (h2 : g ≤ 14) : (0 < litI (g, sg)) ↔ sg = true := by
  cases sg with
  | true =>
    show 0 < nI g ↔ _
    exact ⟨fun _ => rfl, fun _ => nI_lt (a := 0) (by omega) (by omega)⟩
  | false =>
    show 0 < -(nI g) ↔ _
    refine ⟨fun h => absurd h ?_, fun h => by cases h⟩
    rw [Int32.not_lt]
    exact nI_neg_le (by omega)
theorem push_lit {ch : List Lit} {t : Lit} {f : Nat → Int32} {v : Int32} (hf : ∀ k, k < ch.length → f k = litI (ch.getD k (0, true))) (hv : v = litI t) : ∀ k, k < (ch ++ [t]).length → upd f ch.length v k = litI ((ch ++ [t]).getD k (0, true)) := by
  intro k hk
  rw [List.length_append, List.length_singleton] at hk
  rw [List.getD_eq_getElem?_getD, List.getElem?_append]
  by_cases h : k < ch.length
  · rw [if_pos h, pk_un (by omega), hf k h, List.getD_eq_getElem?_getD]
  · have : k = ch.length := by omega
    subst this
    rw [if_neg h, pk_us, hv, Nat.sub_self]
    rfl
theorem chNew_t {ch : List Lit} {g : Nat} {on : Bool} (h1 : 1 ≤ g) (h2 : g ≤ 14) : chNew ch (litI (g, true)) on = chDel ch g ++ [(g, on)] := by
  unfold chNew
  rw [if_pos (show (0 : Int32) < litI (g, true) from nI_lt (a := 0) (by omega) (by omega)), toLit_litI h1 h2]
theorem chNew_f {ch : List Lit} {g : Nat} {on : Bool} (h1 : 1 ≤ g) (h2 : g ≤ 14) : chNew ch (litI (g, false)) on = chDel ch g := by
  unfold chNew
  rw [if_neg (show ¬ (0 : Int32) < litI (g, false) from Int32.not_lt.mpr (nI_neg_le (by omega))), toLit_litI h1 h2]
theorem ch_len1 {n g : Nat} {ch : List Lit} (hn : n ≤ 14) (h : ∀ t ∈ ch, 1 ≤ t.1 ∧ t.1 ≤ n) (hd : (ch.map (·.1)).Nodup) (h1 : 1 ≤ g) (h2 : g ≤ n) (hg : ∀ j, j < ch.length → (ch.getD j (0, true)).1 ≠ g) : ch.length + 1 ≤ n := by
  have := ch_len (ch := (g, true) :: ch) hn (fun t ht => by
    rcases List.mem_cons.mp ht with e | e
    · rw [e]; exact ⟨h1, h2⟩
    · exact h t e) (by
    rw [List.map_cons, List.nodup_cons]
    refine ⟨fun hm => ?_, hd⟩
    obtain ⟨t, ht, e⟩ := List.mem_map.mp hm
    obtain ⟨j, hj⟩ := List.getElem?_of_mem ht
    refine hg j (List.getElem?_eq_some_iff.mp hj).1 ?_
    rw [List.getD_eq_getElem?_getD, hj]
    exact e)
  simpa using this
set_option maxHeartbeats 4000000 in
set_option maxRecDepth 100000 in
theorem metX2_choose (l : Launch) (G : Gt) (a : Nat → Nat) (iv : Nat → Int32) (f : Nat → Nat → Int32) (S : St) (hW : WS S) (hM : MR S iv f) (x : Int32) (on : Bool) (sz : Nat) : CWi l G yX2_choose cX2_choose 5 .int 2 0 0 42 [.ref (a 0), .int (x), .int (b2i on)] (wM G a iv f) sz (fun r w1 => r = (stChoose S x on).1 ∧ MW G a (stChoose S x on).2 w1) := by
  refine mkWi (by decide) (Nat.le_of_ble_eq_true rfl) ?_
  intro p e s m args below meth c Q A hx hb hts hown hin hml hG hsz hP hD hA hA0 hS ret ls hl
  obtain ⟨n, hnS⟩ : ∃ n, n = sN S := ⟨_, rfl⟩
  have hn : iv 7 = nI n := by rw [hnS]; exact hM.1
  have hn4 : n ≤ 14 := by rw [hnS]; exact hW.1
  refine lv_aload_n hx hb dX2_choose_0 rfl (lv_at hl 0 rfl) ?_
  refine lv_iconst (v := 0) hx hb dX2_choose_1 (by decide) ?_
  refine va_put (D := gD G) (ci := 1) (v := .int (0)) (ty := .int) (C := RX2) (T := TX2) (N := 27) hx hb hts in_X2 tyX2 tyX2_ok nmX2 hown hG.K hP hD hS 0 rfl rfl 0 (by decide) (hts _ q1153) (fun _ h9 => h9) rfl (by decide +kernel) rfl rfl (Nat.le_of_ble_eq_true rfl) dX2_choose_2 (fun H locs hP hD hS => ?_)
  have hP : wP G (wM G a (va_up iv 0 (0)) f) H := hP
  have hD : va_D A (wM G a (va_up iv 0 (0)) f) := hD
  refine lv_aload_n hx hb dX2_choose_5 rfl (lv_at hl 0 rfl) ?_
  refine lv_iload_n hx hb dX2_choose_6 rfl (lv_at hl 1 rfl) ?_
  refine vp_callSi (W.runV (As := [.int (x)]) (rest := []) ⟨hx, hb, hml, hown, hts⟩ (metX2_isLiteral l G a (va_up iv 0 (0)) f (x)) (cwV 1 hts (lw_V q1260 q1262 qs17 q36 q1263) rfl rfl rfl (by decide +kernel) ⟨Nat.le_of_ble_eq_true rfl, Nat.le_of_ble_eq_true rfl⟩) (pre_RV (q0 := 0) hG hP hS hA0 rfl rfl) rfl rfl hl.1 rfl (lv_room (Nat.le_of_ble_eq_true rfl)) dX2_choose_7 ⟨Nat.le_refl _, Nat.le_refl _⟩) (fun r_7 e_7 => ?_)
  subst e_7
  refine top_i (y := b2i (isL (x) (nI n))) (congrArg (fun z => b2i (isL (x) z)) hn) ?_
  refine lv_if_ne (tgt := 15) hx hb dX2_choose_10 (by decide) (fun c_10 => ?_) (fun c_10 => ?_)
  · have h10 : isL x (nI n) = true := b2i_n0.mp c_10
    obtain ⟨⟨g, sg⟩, hg1, hg2, hxe⟩ := (isL_iff hn4).mp h10
    have hg1 : 1 ≤ g := hg1
    have hg2 : g ≤ n := hg2
    subst hxe
    have hg4 : g ≤ 14 := by omega
    have hchn := hW.2.2.2.2.2.2.2.1
    have hnd := hW.2.2.2.2.2.2.2.2.1
    have hch0 : ∀ k, k < (sCh S).length → 1 ≤ ((sCh S).getD k (0, true)).1 ∧ ((sCh S).getD k (0, true)).1 ≤ 14 := fun k hk => getD_in (P := fun t => 1 ≤ t.1 ∧ t.1 ≤ 14) (fun t ht => ⟨(hchn t ht).1, Nat.le_trans (hchn t ht).2 hW.1⟩) hk
    have hcl : (sCh S).length ≤ 14 := Nat.le_trans (ch_len hW.1 hchn hnd) hW.1
    have hcv : iv 15 = nI (sCh S).length := hM.2.2.2.2.2.2.2.1
    have hcf := hM.2.2.2.2.2.2.2.2.1
    cases hsg : sg with
    | true =>
      subst hsg
      have hl : lv_has ls 5 [(0, .ref (a 0)), (1, .int (nI g)), (2, .int (b2i on))] := hl
      rcases chI_some (ch := sCh S) (g := g) (sCh S).length with hno | ⟨j, hj1, hj2, hj3⟩
      · skip
        have hdel := chDel_self hno
        have hl1 := ch_len1 hW.1 hchn hnd hg1 (by rw [← hnS]; exact hg2) hno
        refine lv_iload_n hx hb dX2_choose_15 rfl (lv_at hl 1 rfl) ?_
        refine lv_if_ge (tgt := 24) hx hb dX2_choose_16 (by decide) (fun c_16 => ?_) (fun c_16 => absurd (nI_pos' (by omega)) c_16)
        refine lv_iload_n hx hb dX2_choose_24 rfl (lv_at hl 1 rfl) ?_
        refine lv_istore_n (lv' := [(3, .int (nI g)), (0, .ref (a 0)), (1, .int (nI g)), (2, .int (b2i on))]) hx hb dX2_choose_25 rfl hl (by decide) rfl (fun ls hl => ?_)
        refine lv_aload_n hx hb dX2_choose_26 rfl (lv_at hl 1 rfl) ?_
        refine lv_iload_n hx hb dX2_choose_27 rfl (lv_at hl 0 rfl) ?_
        refine vp_callSi (W.runV (As := [.int (nI g)]) (rest := []) ⟨hx, hb, hml, hown, hts⟩ (metX2_choiceOf l G a (va_up iv 0 (0)) f g (sCh S) hcv hcl hcf hch0 hg1 (by omega)) (cwV 1 hts (lw_V q1272 q1274 qs18 q36 q1275) rfl rfl rfl (by decide +kernel) ⟨Nat.le_of_ble_eq_true rfl, Nat.le_of_ble_eq_true rfl⟩) (pre_RV (q0 := 0) hG hP hS hA0 rfl rfl) rfl rfl hl.1 rfl (lv_room (Nat.le_of_ble_eq_true rfl)) dX2_choose_28 ⟨Nat.le_refl _, Nat.le_refl _⟩) (fun r_28 e_28 => ?_)
        subst e_28
        refine top_i (y := -1) (chI_none hno) ?_
        refine lv_istore (lv' := [(4, .int (-1)), (3, .int (nI g)), (0, .ref (a 0)), (1, .int (nI g)), (2, .int (b2i on))]) hx hb dX2_choose_31 hl (by decide) rfl (fun ls hl => ?_)
        refine lv_iload hx hb dX2_choose_33 (lv_at hl 0 rfl) ?_
        refine lv_if_lt (tgt := 44) hx hb dX2_choose_35 (by decide) (fun c_35 => ?_) (fun c_35 => absurd (by decide) c_35)
        refine lv_iload_n hx hb dX2_choose_44 rfl (lv_at hl 3 rfl) ?_
        refine lv_if_le (tgt := 77) hx hb dX2_choose_45 (by decide) (fun c_45 => absurd c_45 (nI_nle hg1 (by omega))) (fun c_45 => ?_)
        refine lv_aload_n hx hb dX2_choose_48 rfl (lv_at hl 2 rfl) ?_
        refine va_get (D := gD G) (ci := 1) (v := .ref (a 14)) (C := RX2) (T := TX2) (N := 27) hx hb hts in_X2 hown hG.K hP 0 rfl rfl 14 (by decide) (hts _ q1167) (fun _ h9 => h9) rfl dX2_choose_49 ?_
        refine lv_aload_n hx hb dX2_choose_52 rfl (lv_at hl 2 rfl) ?_
        refine va_get (D := gD G) (ci := 1) (v := .int (iv 15)) (C := RX2) (T := TX2) (N := 27) hx hb hts in_X2 hown hG.K hP 0 rfl rfl 15 (by decide) (hts _ q1168) (fun _ h9 => h9) rfl dX2_choose_53 ?_
        refine top_i (y := nI (sCh S).length) (hcv) ?_
        refine lv_iload_n hx hb dX2_choose_56 rfl (lv_at hl 4 rfl) ?_
        refine lv_if_eq (tgt := 64) hx hb dX2_choose_57 (by decide) (fun c_57 => ?_) (fun c_57 => ?_)
        · have h57 : on = false := b2i_0.mp c_57
          refine lv_iload_n hx hb dX2_choose_64 rfl (lv_at hl 1 rfl) ?_
          refine lv_ineg hx hb dX2_choose_65 ?_
          refine ia_st (j := (sCh S).length) hx hb hG.K hP hD hS 12 0 rfl rfl (by omega) (by decide) dX2_choose_66 (fun H locs hP hD hS => ?_)
          have hP : wP G (wM G a (va_up iv 0 (0)) (va_up f 14 (upd (f 14) ((sCh S).length) (-(nI g))))) H := hP
          have hD : va_D A (wM G a (va_up iv 0 (0)) (va_up f 14 (upd (f 14) ((sCh S).length) (-(nI g))))) := hD
          refine lv_aload_n hx hb dX2_choose_67 rfl (lv_at hl 2 rfl) ?_
          refine lv_dup hx hb dX2_choose_68 rfl ?_
          refine va_get (D := gD G) (ci := 1) (v := .int (iv 15)) (C := RX2) (T := TX2) (N := 27) hx hb hts in_X2 hown hG.K hP 0 rfl rfl 15 (by decide) (hts _ q1168) (fun _ h9 => h9) rfl dX2_choose_69 ?_
          refine top_i (y := nI (sCh S).length) (hcv) ?_
          refine lv_iconst (v := 1) hx hb dX2_choose_72 (by decide) ?_
          refine lv_iadd hx hb dX2_choose_73 ?_
          refine top_i (y := nI ((sCh S).length + 1)) (nI_1 _) ?_
          refine va_put (D := gD G) (ci := 1) (v := .int (nI ((sCh S).length + 1))) (ty := .int) (C := RX2) (T := TX2) (N := 27) hx hb hts in_X2 tyX2 tyX2_ok nmX2 hown hG.K hP hD hS 0 rfl rfl 15 (by decide) (hts _ q1168) (fun _ h9 => h9) rfl (by decide +kernel) rfl rfl (Nat.le_of_ble_eq_true rfl) dX2_choose_74 (fun H locs hP hD hS => ?_)
          have hP : wP G (wM G a (va_up (va_up iv 0 (0)) 15 (nI ((sCh S).length + 1))) (va_up f 14 (upd (f 14) ((sCh S).length) (-(nI g))))) H := hP
          have hD : va_D A (wM G a (va_up (va_up iv 0 (0)) 15 (nI ((sCh S).length + 1))) (va_up f 14 (upd (f 14) ((sCh S).length) (-(nI g))))) := hD
          refine lv_aload_n hx hb dX2_choose_77 rfl (lv_at hl 2 rfl) ?_
          refine va_get (D := gD G) (ci := 1) (v := .int (nI ((sCh S).length + 1))) (C := RX2) (T := TX2) (N := 27) hx hb hts in_X2 hown hG.K hP 0 rfl rfl 15 (by decide) (hts _ q1168) (fun _ h9 => h9) rfl dX2_choose_78 ?_
          exact ret (nI ((sCh S).length + 1)) _ 81 ls _ _ 0 0 dX2_choose_81 rfl (Nat.le_refl _) (Nat.le_refl _) hP hD hS (by subst hnS; exact mwr (v := nI ((sCh S).length + 1)) (by rw [co_2' h10, chNew_t (g := g) hg1 hg4, hdel, List.length_append, List.length_singleton]) rfl (MR_ch (ch := (sCh S) ++ [(g, on)]) hM (by rw [List.length_append, List.length_singleton]) (fun k hk => by have h8 := push_lit (ch := (sCh S)) (t := (g, on)) hcf (v := -(nI g)) (by rw [h57]; rfl) k hk; skip; exact h8)))
        · have h57 : on = true := b2i_n0.mp c_57
          refine lv_iload_n hx hb dX2_choose_60 rfl (lv_at hl 1 rfl) ?_
          refine lv_goto (tgt := 66) hx hb dX2_choose_61 (by decide) ?_
          refine ia_st (j := (sCh S).length) hx hb hG.K hP hD hS 12 0 rfl rfl (by omega) (by decide) dX2_choose_66 (fun H locs hP hD hS => ?_)
          have hP : wP G (wM G a (va_up iv 0 (0)) (va_up f 14 (upd (f 14) ((sCh S).length) (nI g)))) H := hP
          have hD : va_D A (wM G a (va_up iv 0 (0)) (va_up f 14 (upd (f 14) ((sCh S).length) (nI g)))) := hD
          refine lv_aload_n hx hb dX2_choose_67 rfl (lv_at hl 2 rfl) ?_
          refine lv_dup hx hb dX2_choose_68 rfl ?_
          refine va_get (D := gD G) (ci := 1) (v := .int (iv 15)) (C := RX2) (T := TX2) (N := 27) hx hb hts in_X2 hown hG.K hP 0 rfl rfl 15 (by decide) (hts _ q1168) (fun _ h9 => h9) rfl dX2_choose_69 ?_
          refine top_i (y := nI (sCh S).length) (hcv) ?_
          refine lv_iconst (v := 1) hx hb dX2_choose_72 (by decide) ?_
          refine lv_iadd hx hb dX2_choose_73 ?_
          refine top_i (y := nI ((sCh S).length + 1)) (nI_1 _) ?_
          refine va_put (D := gD G) (ci := 1) (v := .int (nI ((sCh S).length + 1))) (ty := .int) (C := RX2) (T := TX2) (N := 27) hx hb hts in_X2 tyX2 tyX2_ok nmX2 hown hG.K hP hD hS 0 rfl rfl 15 (by decide) (hts _ q1168) (fun _ h9 => h9) rfl (by decide +kernel) rfl rfl (Nat.le_of_ble_eq_true rfl) dX2_choose_74 (fun H locs hP hD hS => ?_)
          have hP : wP G (wM G a (va_up (va_up iv 0 (0)) 15 (nI ((sCh S).length + 1))) (va_up f 14 (upd (f 14) ((sCh S).length) (nI g)))) H := hP
          have hD : va_D A (wM G a (va_up (va_up iv 0 (0)) 15 (nI ((sCh S).length + 1))) (va_up f 14 (upd (f 14) ((sCh S).length) (nI g)))) := hD
          refine lv_aload_n hx hb dX2_choose_77 rfl (lv_at hl 2 rfl) ?_
          refine va_get (D := gD G) (ci := 1) (v := .int (nI ((sCh S).length + 1))) (C := RX2) (T := TX2) (N := 27) hx hb hts in_X2 hown hG.K hP 0 rfl rfl 15 (by decide) (hts _ q1168) (fun _ h9 => h9) rfl dX2_choose_78 ?_
          exact ret (nI ((sCh S).length + 1)) _ 81 ls _ _ 0 0 dX2_choose_81 rfl (Nat.le_refl _) (Nat.le_refl _) hP hD hS (by subst hnS; exact mwr (v := nI ((sCh S).length + 1)) (by rw [co_2' h10, chNew_t (g := g) hg1 hg4, hdel, List.length_append, List.length_singleton]) rfl (MR_ch (ch := (sCh S) ++ [(g, on)]) hM (by rw [List.length_append, List.length_singleton]) (fun k hk => by have h8 := push_lit (ch := (sCh S)) (t := (g, on)) hcf (v := nI g) (by rw [h57]; rfl) k hk; skip; exact h8)))
      · skip
        have hdel := chDel_erase (sCh S) g j hnd hj1 hj3
        have hle : ((sCh S).eraseIdx j).length = (sCh S).length - 1 := List.length_eraseIdx_of_lt hj1
        refine lv_iload_n hx hb dX2_choose_15 rfl (lv_at hl 1 rfl) ?_
        refine lv_if_ge (tgt := 24) hx hb dX2_choose_16 (by decide) (fun c_16 => ?_) (fun c_16 => absurd (nI_pos' (by omega)) c_16)
        refine lv_iload_n hx hb dX2_choose_24 rfl (lv_at hl 1 rfl) ?_
        refine lv_istore_n (lv' := [(3, .int (nI g)), (0, .ref (a 0)), (1, .int (nI g)), (2, .int (b2i on))]) hx hb dX2_choose_25 rfl hl (by decide) rfl (fun ls hl => ?_)
        refine lv_aload_n hx hb dX2_choose_26 rfl (lv_at hl 1 rfl) ?_
        refine lv_iload_n hx hb dX2_choose_27 rfl (lv_at hl 0 rfl) ?_
        refine vp_callSi (W.runV (As := [.int (nI g)]) (rest := []) ⟨hx, hb, hml, hown, hts⟩ (metX2_choiceOf l G a (va_up iv 0 (0)) f g (sCh S) hcv hcl hcf hch0 hg1 (by omega)) (cwV 1 hts (lw_V q1272 q1274 qs18 q36 q1275) rfl rfl rfl (by decide +kernel) ⟨Nat.le_of_ble_eq_true rfl, Nat.le_of_ble_eq_true rfl⟩) (pre_RV (q0 := 0) hG hP hS hA0 rfl rfl) rfl rfl hl.1 rfl (lv_room (Nat.le_of_ble_eq_true rfl)) dX2_choose_28 ⟨Nat.le_refl _, Nat.le_refl _⟩) (fun r_28 e_28 => ?_)
        subst e_28
        refine top_i (y := nI j) (hj2) ?_
        refine lv_istore (lv' := [(4, .int (nI j)), (3, .int (nI g)), (0, .ref (a 0)), (1, .int (nI g)), (2, .int (b2i on))]) hx hb dX2_choose_31 hl (by decide) rfl (fun ls hl => ?_)
        refine lv_iload hx hb dX2_choose_33 (lv_at hl 0 rfl) ?_
        refine lv_if_lt (tgt := 44) hx hb dX2_choose_35 (by decide) (fun c_35 => absurd c_35 (nI_pos (by omega))) (fun c_35 => ?_)
        refine lv_aload_n hx hb dX2_choose_38 rfl (lv_at hl 2 rfl) ?_
        refine lv_iload hx hb dX2_choose_39 (lv_at hl 0 rfl) ?_
        refine cl_v0 (va_runV (As := [.int (nI j)]) (rest := []) ⟨hx, hb, hml, hown, hts⟩ (metX2_forget l G a (va_up iv 0 (0)) f j (sCh S) hcv hcl hcf hj1 _) (cwV 1 hts (lw_V q1276 q1278 qs19 q36 q1279) rfl rfl rfl (by decide +kernel) ⟨Nat.le_of_ble_eq_true rfl, Nat.le_of_ble_eq_true rfl⟩) (pre_WV0 (q0 := 0) hG hP hD hS hA0 rfl rfl) rfl rfl hl.1 rfl (lv_room (Nat.le_of_ble_eq_true rfl)) dX2_choose_41 ⟨Nat.le_refl _, Nat.le_refl _⟩) hP hD hS hA (fun w1 H locs hp hP hD hS => ?_)
        obtain ⟨g9, rfl, hg9⟩ := hp
        have hP : wP G (wM G a (va_up (va_up iv 0 (0)) 15 (nI ((sCh S).length - 1))) (va_up f 14 (g9))) H := hP
        have hD : va_D A (wM G a (va_up (va_up iv 0 (0)) 15 (nI ((sCh S).length - 1))) (va_up f 14 (g9))) := hD
        refine lv_iload_n hx hb dX2_choose_44 rfl (lv_at hl 3 rfl) ?_
        refine lv_if_le (tgt := 77) hx hb dX2_choose_45 (by decide) (fun c_45 => absurd c_45 (nI_nle hg1 (by omega))) (fun c_45 => ?_)
        refine lv_aload_n hx hb dX2_choose_48 rfl (lv_at hl 2 rfl) ?_
        refine va_get (D := gD G) (ci := 1) (v := .ref (a 14)) (C := RX2) (T := TX2) (N := 27) hx hb hts in_X2 hown hG.K hP 0 rfl rfl 14 (by decide) (hts _ q1167) (fun _ h9 => h9) rfl dX2_choose_49 ?_
        refine lv_aload_n hx hb dX2_choose_52 rfl (lv_at hl 2 rfl) ?_
        refine va_get (D := gD G) (ci := 1) (v := .int (nI ((sCh S).length - 1))) (C := RX2) (T := TX2) (N := 27) hx hb hts in_X2 hown hG.K hP 0 rfl rfl 15 (by decide) (hts _ q1168) (fun _ h9 => h9) rfl dX2_choose_53 ?_
        refine lv_iload_n hx hb dX2_choose_56 rfl (lv_at hl 4 rfl) ?_
        refine lv_if_eq (tgt := 64) hx hb dX2_choose_57 (by decide) (fun c_57 => ?_) (fun c_57 => ?_)
        · have h57 : on = false := b2i_0.mp c_57
          refine lv_iload_n hx hb dX2_choose_64 rfl (lv_at hl 1 rfl) ?_
          refine lv_ineg hx hb dX2_choose_65 ?_
          refine ia_st (j := (sCh S).length - 1) hx hb hG.K hP hD hS 12 0 rfl rfl (by omega) (by decide) dX2_choose_66 (fun H locs hP hD hS => ?_)
          have hP : wP G (wM G a (va_up (va_up iv 0 (0)) 15 (nI ((sCh S).length - 1))) (va_up f 14 (upd (g9) ((sCh S).length - 1) (-(nI g))))) H := hP
          have hD : va_D A (wM G a (va_up (va_up iv 0 (0)) 15 (nI ((sCh S).length - 1))) (va_up f 14 (upd (g9) ((sCh S).length - 1) (-(nI g))))) := hD
          refine lv_aload_n hx hb dX2_choose_67 rfl (lv_at hl 2 rfl) ?_
          refine lv_dup hx hb dX2_choose_68 rfl ?_
          refine va_get (D := gD G) (ci := 1) (v := .int (nI ((sCh S).length - 1))) (C := RX2) (T := TX2) (N := 27) hx hb hts in_X2 hown hG.K hP 0 rfl rfl 15 (by decide) (hts _ q1168) (fun _ h9 => h9) rfl dX2_choose_69 ?_
          refine lv_iconst (v := 1) hx hb dX2_choose_72 (by decide) ?_
          refine lv_iadd hx hb dX2_choose_73 ?_
          refine top_i (y := nI ((sCh S).length - 1 + 1)) (nI_1 _) ?_
          refine va_put (D := gD G) (ci := 1) (v := .int (nI ((sCh S).length - 1 + 1))) (ty := .int) (C := RX2) (T := TX2) (N := 27) hx hb hts in_X2 tyX2 tyX2_ok nmX2 hown hG.K hP hD hS 0 rfl rfl 15 (by decide) (hts _ q1168) (fun _ h9 => h9) rfl (by decide +kernel) rfl rfl (Nat.le_of_ble_eq_true rfl) dX2_choose_74 (fun H locs hP hD hS => ?_)
          have hP : wP G (wM G a (va_up (va_up iv 0 (0)) 15 (nI ((sCh S).length - 1 + 1))) (va_up f 14 (upd (g9) ((sCh S).length - 1) (-(nI g))))) H := hP
          have hD : va_D A (wM G a (va_up (va_up iv 0 (0)) 15 (nI ((sCh S).length - 1 + 1))) (va_up f 14 (upd (g9) ((sCh S).length - 1) (-(nI g))))) := hD
          refine lv_aload_n hx hb dX2_choose_77 rfl (lv_at hl 2 rfl) ?_
          refine va_get (D := gD G) (ci := 1) (v := .int (nI ((sCh S).length - 1 + 1))) (C := RX2) (T := TX2) (N := 27) hx hb hts in_X2 hown hG.K hP 0 rfl rfl 15 (by decide) (hts _ q1168) (fun _ h9 => h9) rfl dX2_choose_78 ?_
          exact ret (nI ((sCh S).length - 1 + 1)) _ 81 ls _ _ 0 0 dX2_choose_81 rfl (Nat.le_refl _) (Nat.le_refl _) hP hD hS (by subst hnS; exact mwr (v := nI ((sCh S).length - 1 + 1)) (by rw [co_2' h10, chNew_t (g := g) hg1 hg4, hdel, List.length_append, List.length_singleton, hle]) rfl (MR_ch (ch := ((sCh S).eraseIdx j) ++ [(g, on)]) hM (by rw [List.length_append, List.length_singleton, hle]) (fun k hk => by have h8 := push_lit (ch := ((sCh S).eraseIdx j)) (t := (g, on)) (by rw [hle]; exact hg9) (v := -(nI g)) (by rw [h57]; rfl) k hk; rw [hle] at h8; exact h8)))
        · have h57 : on = true := b2i_n0.mp c_57
          refine lv_iload_n hx hb dX2_choose_60 rfl (lv_at hl 1 rfl) ?_
          refine lv_goto (tgt := 66) hx hb dX2_choose_61 (by decide) ?_
          refine ia_st (j := (sCh S).length - 1) hx hb hG.K hP hD hS 12 0 rfl rfl (by omega) (by decide) dX2_choose_66 (fun H locs hP hD hS => ?_)
          have hP : wP G (wM G a (va_up (va_up iv 0 (0)) 15 (nI ((sCh S).length - 1))) (va_up f 14 (upd (g9) ((sCh S).length - 1) (nI g)))) H := hP
          have hD : va_D A (wM G a (va_up (va_up iv 0 (0)) 15 (nI ((sCh S).length - 1))) (va_up f 14 (upd (g9) ((sCh S).length - 1) (nI g)))) := hD
          refine lv_aload_n hx hb dX2_choose_67 rfl (lv_at hl 2 rfl) ?_
          refine lv_dup hx hb dX2_choose_68 rfl ?_
          refine va_get (D := gD G) (ci := 1) (v := .int (nI ((sCh S).length - 1))) (C := RX2) (T := TX2) (N := 27) hx hb hts in_X2 hown hG.K hP 0 rfl rfl 15 (by decide) (hts _ q1168) (fun _ h9 => h9) rfl dX2_choose_69 ?_
          refine lv_iconst (v := 1) hx hb dX2_choose_72 (by decide) ?_
          refine lv_iadd hx hb dX2_choose_73 ?_
          refine top_i (y := nI ((sCh S).length - 1 + 1)) (nI_1 _) ?_
          refine va_put (D := gD G) (ci := 1) (v := .int (nI ((sCh S).length - 1 + 1))) (ty := .int) (C := RX2) (T := TX2) (N := 27) hx hb hts in_X2 tyX2 tyX2_ok nmX2 hown hG.K hP hD hS 0 rfl rfl 15 (by decide) (hts _ q1168) (fun _ h9 => h9) rfl (by decide +kernel) rfl rfl (Nat.le_of_ble_eq_true rfl) dX2_choose_74 (fun H locs hP hD hS => ?_)
          have hP : wP G (wM G a (va_up (va_up iv 0 (0)) 15 (nI ((sCh S).length - 1 + 1))) (va_up f 14 (upd (g9) ((sCh S).length - 1) (nI g)))) H := hP
          have hD : va_D A (wM G a (va_up (va_up iv 0 (0)) 15 (nI ((sCh S).length - 1 + 1))) (va_up f 14 (upd (g9) ((sCh S).length - 1) (nI g)))) := hD
          refine lv_aload_n hx hb dX2_choose_77 rfl (lv_at hl 2 rfl) ?_
          refine va_get (D := gD G) (ci := 1) (v := .int (nI ((sCh S).length - 1 + 1))) (C := RX2) (T := TX2) (N := 27) hx hb hts in_X2 hown hG.K hP 0 rfl rfl 15 (by decide) (hts _ q1168) (fun _ h9 => h9) rfl dX2_choose_78 ?_
          exact ret (nI ((sCh S).length - 1 + 1)) _ 81 ls _ _ 0 0 dX2_choose_81 rfl (Nat.le_refl _) (Nat.le_refl _) hP hD hS (by subst hnS; exact mwr (v := nI ((sCh S).length - 1 + 1)) (by rw [co_2' h10, chNew_t (g := g) hg1 hg4, hdel, List.length_append, List.length_singleton, hle]) rfl (MR_ch (ch := ((sCh S).eraseIdx j) ++ [(g, on)]) hM (by rw [List.length_append, List.length_singleton, hle]) (fun k hk => by have h8 := push_lit (ch := ((sCh S).eraseIdx j)) (t := (g, on)) (by rw [hle]; exact hg9) (v := nI g) (by rw [h57]; rfl) k hk; rw [hle] at h8; exact h8)))
    | false =>
      subst hsg
      have hl : lv_has ls 5 [(0, .ref (a 0)), (1, .int (-(nI g))), (2, .int (b2i on))] := hl
      rcases chI_some (ch := sCh S) (g := g) (sCh S).length with hno | ⟨j, hj1, hj2, hj3⟩
      · skip
        have hdel := chDel_self hno
        have hl1 := ch_len1 hW.1 hchn hnd hg1 (by rw [← hnS]; exact hg2) hno
        refine lv_iload_n hx hb dX2_choose_15 rfl (lv_at hl 1 rfl) ?_
        refine lv_if_ge (tgt := 24) hx hb dX2_choose_16 (by decide) (fun c_16 => absurd c_16 (Int32.not_le.mpr (nI_neg_lt hg1 (by omega)))) (fun c_16 => ?_)
        refine lv_iload_n hx hb dX2_choose_19 rfl (lv_at hl 1 rfl) ?_
        refine lv_ineg hx hb dX2_choose_20 ?_
        refine lv_goto (tgt := 25) hx hb dX2_choose_21 (by decide) ?_
        refine top_i (y := nI g) (neg_neg_i _) ?_
        refine lv_istore_n (lv' := [(3, .int (nI g)), (0, .ref (a 0)), (1, .int (-(nI g))), (2, .int (b2i on))]) hx hb dX2_choose_25 rfl hl (by decide) rfl (fun ls hl => ?_)
        refine lv_aload_n hx hb dX2_choose_26 rfl (lv_at hl 1 rfl) ?_
        refine lv_iload_n hx hb dX2_choose_27 rfl (lv_at hl 0 rfl) ?_
        refine vp_callSi (W.runV (As := [.int (nI g)]) (rest := []) ⟨hx, hb, hml, hown, hts⟩ (metX2_choiceOf l G a (va_up iv 0 (0)) f g (sCh S) hcv hcl hcf hch0 hg1 (by omega)) (cwV 1 hts (lw_V q1272 q1274 qs18 q36 q1275) rfl rfl rfl (by decide +kernel) ⟨Nat.le_of_ble_eq_true rfl, Nat.le_of_ble_eq_true rfl⟩) (pre_RV (q0 := 0) hG hP hS hA0 rfl rfl) rfl rfl hl.1 rfl (lv_room (Nat.le_of_ble_eq_true rfl)) dX2_choose_28 ⟨Nat.le_refl _, Nat.le_refl _⟩) (fun r_28 e_28 => ?_)
        subst e_28
        refine top_i (y := -1) (chI_none hno) ?_
        refine lv_istore (lv' := [(4, .int (-1)), (3, .int (nI g)), (0, .ref (a 0)), (1, .int (-(nI g))), (2, .int (b2i on))]) hx hb dX2_choose_31 hl (by decide) rfl (fun ls hl => ?_)
        refine lv_iload hx hb dX2_choose_33 (lv_at hl 0 rfl) ?_
        refine lv_if_lt (tgt := 44) hx hb dX2_choose_35 (by decide) (fun c_35 => ?_) (fun c_35 => absurd (by decide) c_35)
        refine lv_iload_n hx hb dX2_choose_44 rfl (lv_at hl 3 rfl) ?_
        refine lv_if_le (tgt := 77) hx hb dX2_choose_45 (by decide) (fun c_45 => ?_) (fun c_45 => absurd (nI_neg_le (by omega)) c_45)
        refine lv_aload_n hx hb dX2_choose_77 rfl (lv_at hl 2 rfl) ?_
        refine va_get (D := gD G) (ci := 1) (v := .int (iv 15)) (C := RX2) (T := TX2) (N := 27) hx hb hts in_X2 hown hG.K hP 0 rfl rfl 15 (by decide) (hts _ q1168) (fun _ h9 => h9) rfl dX2_choose_78 ?_
        exact ret (iv 15) _ 81 ls _ _ 0 0 dX2_choose_81 rfl (Nat.le_refl _) (Nat.le_refl _) hP hD hS (by subst hnS; exact mwr (v := iv 15) (by rw [co_2' h10, chNew_f (g := g) hg1 hg4, hdel, hcv]) rfl hM)
      · skip
        have hdel := chDel_erase (sCh S) g j hnd hj1 hj3
        have hle : ((sCh S).eraseIdx j).length = (sCh S).length - 1 := List.length_eraseIdx_of_lt hj1
        refine lv_iload_n hx hb dX2_choose_15 rfl (lv_at hl 1 rfl) ?_
        refine lv_if_ge (tgt := 24) hx hb dX2_choose_16 (by decide) (fun c_16 => absurd c_16 (Int32.not_le.mpr (nI_neg_lt hg1 (by omega)))) (fun c_16 => ?_)
        refine lv_iload_n hx hb dX2_choose_19 rfl (lv_at hl 1 rfl) ?_
        refine lv_ineg hx hb dX2_choose_20 ?_
        refine lv_goto (tgt := 25) hx hb dX2_choose_21 (by decide) ?_
        refine top_i (y := nI g) (neg_neg_i _) ?_
        refine lv_istore_n (lv' := [(3, .int (nI g)), (0, .ref (a 0)), (1, .int (-(nI g))), (2, .int (b2i on))]) hx hb dX2_choose_25 rfl hl (by decide) rfl (fun ls hl => ?_)
        refine lv_aload_n hx hb dX2_choose_26 rfl (lv_at hl 1 rfl) ?_
        refine lv_iload_n hx hb dX2_choose_27 rfl (lv_at hl 0 rfl) ?_
        refine vp_callSi (W.runV (As := [.int (nI g)]) (rest := []) ⟨hx, hb, hml, hown, hts⟩ (metX2_choiceOf l G a (va_up iv 0 (0)) f g (sCh S) hcv hcl hcf hch0 hg1 (by omega)) (cwV 1 hts (lw_V q1272 q1274 qs18 q36 q1275) rfl rfl rfl (by decide +kernel) ⟨Nat.le_of_ble_eq_true rfl, Nat.le_of_ble_eq_true rfl⟩) (pre_RV (q0 := 0) hG hP hS hA0 rfl rfl) rfl rfl hl.1 rfl (lv_room (Nat.le_of_ble_eq_true rfl)) dX2_choose_28 ⟨Nat.le_refl _, Nat.le_refl _⟩) (fun r_28 e_28 => ?_)
        subst e_28
        refine top_i (y := nI j) (hj2) ?_
        refine lv_istore (lv' := [(4, .int (nI j)), (3, .int (nI g)), (0, .ref (a 0)), (1, .int (-(nI g))), (2, .int (b2i on))]) hx hb dX2_choose_31 hl (by decide) rfl (fun ls hl => ?_)
        refine lv_iload hx hb dX2_choose_33 (lv_at hl 0 rfl) ?_
        refine lv_if_lt (tgt := 44) hx hb dX2_choose_35 (by decide) (fun c_35 => absurd c_35 (nI_pos (by omega))) (fun c_35 => ?_)
        refine lv_aload_n hx hb dX2_choose_38 rfl (lv_at hl 2 rfl) ?_
        refine lv_iload hx hb dX2_choose_39 (lv_at hl 0 rfl) ?_
        refine cl_v0 (va_runV (As := [.int (nI j)]) (rest := []) ⟨hx, hb, hml, hown, hts⟩ (metX2_forget l G a (va_up iv 0 (0)) f j (sCh S) hcv hcl hcf hj1 _) (cwV 1 hts (lw_V q1276 q1278 qs19 q36 q1279) rfl rfl rfl (by decide +kernel) ⟨Nat.le_of_ble_eq_true rfl, Nat.le_of_ble_eq_true rfl⟩) (pre_WV0 (q0 := 0) hG hP hD hS hA0 rfl rfl) rfl rfl hl.1 rfl (lv_room (Nat.le_of_ble_eq_true rfl)) dX2_choose_41 ⟨Nat.le_refl _, Nat.le_refl _⟩) hP hD hS hA (fun w1 H locs hp hP hD hS => ?_)
        obtain ⟨g9, rfl, hg9⟩ := hp
        have hP : wP G (wM G a (va_up (va_up iv 0 (0)) 15 (nI ((sCh S).length - 1))) (va_up f 14 (g9))) H := hP
        have hD : va_D A (wM G a (va_up (va_up iv 0 (0)) 15 (nI ((sCh S).length - 1))) (va_up f 14 (g9))) := hD
        refine lv_iload_n hx hb dX2_choose_44 rfl (lv_at hl 3 rfl) ?_
        refine lv_if_le (tgt := 77) hx hb dX2_choose_45 (by decide) (fun c_45 => ?_) (fun c_45 => absurd (nI_neg_le (by omega)) c_45)
        refine lv_aload_n hx hb dX2_choose_77 rfl (lv_at hl 2 rfl) ?_
        refine va_get (D := gD G) (ci := 1) (v := .int (nI ((sCh S).length - 1))) (C := RX2) (T := TX2) (N := 27) hx hb hts in_X2 hown hG.K hP 0 rfl rfl 15 (by decide) (hts _ q1168) (fun _ h9 => h9) rfl dX2_choose_78 ?_
        exact ret (nI ((sCh S).length - 1)) _ 81 ls _ _ 0 0 dX2_choose_81 rfl (Nat.le_refl _) (Nat.le_refl _) hP hD hS (by subst hnS; exact mwr (by rw [co_2' h10, chNew_f (g := g) hg1 hg4, hdel, hle]) rfl (MR_ch (ch := ((sCh S).eraseIdx j)) hM (by rw [hle]) (by rw [hle]; exact hg9)))
  · have h10 : isL x (nI n) = false := b2i_0.mp c_10
    refine lv_iconst (v := (-1)) hx hb dX2_choose_13 (by decide) ?_
    exact ret (-1) _ 14 ls _ _ 0 0 dX2_choose_14 rfl (Nat.le_refl _) (Nat.le_refl _) hP hD hS (by subst hnS; exact mwr (co_1 h10) rfl hM)
