theorem ctB_okL (P : Nat → Bool) (m : Nat) : ctB P m = (okL P m).length := by
  induction m with
  | zero => rfl
  | succ m ih =>
    rw [ctB, okL, ih]
    by_cases h : P m
    · rw [if_pos h, if_pos h, List.length_cons]
    · rw [if_neg h, if_neg h]; rfl
theorem okL_filter (P R : Nat → Bool) (m : Nat) : (okL P m).filter R = okL (fun x => P x && R x) m := by
  induction m with
  | zero => rfl
  | succ m ih =>
    rw [okL, okL]
    cases h : P m <;> cases h' : R m <;> simp [h', ih]
theorem take_filter {l : List Nat} {R : Nat → Bool} {k : Nat} (hk : k < l.length) : (l.take (k + 1)).filter R = (l.take k).filter R ++ (if R (l.getD k 0) then [l.getD k 0] else []) := by
  have e : l.getD k 0 = l[k] := by rw [List.getD_eq_getElem?_getD, List.getElem?_eq_getElem hk]; rfl
  rw [e, List.take_succ_eq_append_getElem hk, List.filter_append]
  congr 1
  rw [List.filter_cons, List.filter_nil]
theorem st_cnt {S : St} {v : Int64} (h1 : ¬ v < 0) (h2 : ¬ v < lN (2 ^ sN S)) : stCount S v = lN ((okL (okS S) (2 ^ sN S)).filter (okCh (sN S) (sCh S) 0)).length := by
  unfold stCount
  rw [if_neg h1, if_neg h2, ctB_okL, okL_filter]
  rfl
theorem MR.cnd {S : St} {iv : Nat → Int32} {f : Nat → Nat → Int32} (h : MR S iv f) (hk : iv 16 = 1) : iv 18 = nI (okL (okS S) (2 ^ sN S)).length ∧ ∀ k, k < (okL (okS S) (2 ^ sN S)).length → f 17 k = nI ((okL (okS S) (2 ^ sN S)).getD k 0) := by
  rcases h.2.2.2.2.2.2.2.2.2.1 with h | h
  · exact absurd (hk.symm.trans h) (by decide)
  · exact h.2
set_option maxHeartbeats 4000000 in
set_option maxRecDepth 100000 in
theorem metX2_count (l : Launch) (G : Gt) (a : Nat → Nat) (iv : Nat → Int32) (f : Nat → Nat → Int32) (S : St) (hW : WS S) (hM : MR S iv f) (v : Int64) (sz : Nat) : CWl l G yX2_count cX2_count 6 4 0 0 90 [.ref (a 0), .long (v)] (wM G a iv f) sz (fun r w1 => r = stCount S v ∧ MW G a S w1) := by
  refine mkWl (by decide) (Nat.le_of_ble_eq_true rfl) ?_
  intro p e s m args below meth c Q A hx hb hts hown hin hml hG hsz hP hD hA hA0 hS ret ls hl
  obtain ⟨n, hnS⟩ : ∃ n, n = sN S := ⟨_, rfl⟩
  have hn : iv 7 = nI n := by rw [hnS]; exact hM.1
  have hn4 : n ≤ 14 := by rw [hnS]; exact hW.1
  have hp2 := p2_14 hn4
  refine lv_aload_n hx hb dX2_count_0 rfl (lv_at hl 0 rfl) ?_
  refine lv_iconst (v := 0) hx hb dX2_count_1 (by decide) ?_
  refine va_put (D := gD G) (ci := 1) (v := .int (0)) (ty := .int) (C := RX2) (T := TX2) (N := 27) hx hb hts in_X2 tyX2 tyX2_ok nmX2 hown hG.K hP hD hS 0 rfl rfl 0 (by decide) (hts _ q1153) (fun _ h9 => h9) rfl (by decide +kernel) rfl rfl (Nat.le_of_ble_eq_true rfl) dX2_count_2 (fun H locs hP hD hS => ?_)
  have hP : wP G (wM G a (va_up iv 0 (0)) f) H := hP
  have hD : va_D A (wM G a (va_up iv 0 (0)) f) := hD
  refine lv_lload_n hx hb dX2_count_5 rfl (lv_at hl 1 rfl) ?_
  refine lv_lconst (v := 0) hx hb dX2_count_6 (by decide) ?_
  refine W.lcmp hx hb dX2_count_7 ?_
  refine lv_if_ge (tgt := 15) hx hb dX2_count_8 (by decide) (fun c_8 => ?_) (fun c_8 => ?_)
  · have h8 : ¬ v < 0 := Int64.not_lt.mpr ((lg_cmp_ge v 0).mp c_8)
    refine lv_lconst (v := 1) hx hb dX2_count_15 (by decide) ?_
    refine lv_aload_n hx hb dX2_count_16 rfl (lv_at hl 0 rfl) ?_
    refine va_get (D := gD G) (ci := 1) (v := .int (iv 7)) (C := RX2) (T := TX2) (N := 27) hx hb hts in_X2 hown hG.K hP 0 rfl rfl 7 (by decide) (hts _ q1160) (fun _ h9 => h9) rfl dX2_count_17 ?_
    refine top_i (y := nI n) (hn) ?_
    refine lv_lshl hx hb dX2_count_20 rfl ?_
    refine top_l (y := lN (2 ^ n)) (by rw [show (1 : Int64) = lN 1 from rfl, wb_shl 1 (by omega), Nat.one_mul]) ?_
    refine lv_lload_n hx hb dX2_count_21 rfl (lv_at hl 1 rfl) ?_
    refine W.lcmp hx hb dX2_count_22 ?_
    refine lv_if_le (tgt := 30) hx hb dX2_count_23 (by decide) (fun c_23 => ?_) (fun c_23 => ?_)
    · have h23 : ¬ v < lN (2 ^ n) := Int64.not_lt.mpr ((lg_cmp_le _ _).mp c_23)
      refine lv_aload_n hx hb dX2_count_30 rfl (lv_at hl 0 rfl) ?_
      refine cl_v0 (va_runV (As := []) (rest := []) ⟨hx, hb, hml, hown, hts⟩ (metX2_know l G a (va_up iv 0 (0)) f S hW hM _) (cwV 0 hts (lw_V q1288 q1290 qs21 q36 q1291) rfl rfl rfl (by decide +kernel) ⟨Nat.le_of_ble_eq_true rfl, Nat.le_of_ble_eq_true rfl⟩) (pre_WV0 (q0 := 0) hG hP hD hS hA0 rfl rfl) rfl rfl hl.1 rfl (lv_room (Nat.le_of_ble_eq_true rfl)) dX2_count_31 ⟨Nat.le_refl _, Nat.le_refl _⟩) hP hD hS hA (fun w1 H locs hp hP hD hS => ?_)
      obtain ⟨iv, f, rfl, hM, hkn⟩ := hp
      clear hn
      have hn : iv 7 = nI n := by rw [hnS]; exact hM.1
      obtain ⟨L, hL⟩ : ∃ L, L = okL (okS S) (2 ^ n) := ⟨_, rfl⟩
      have hLl : L.length ≤ 2 ^ n := by rw [hL]; exact okL_len _ _
      obtain ⟨hkc, hks⟩ : iv 18 = nI L.length ∧ ∀ k, k < L.length → f 17 k = nI (L.getD k 0) := by rw [hL, hnS]; exact hM.cnd hkn
      have L39 : ∀ (d : Nat) (j : Nat) (v5 : Int32) (v3 : Int64), j ≤ L.length → L.length + 1 ≤ j + d → v5 = nI j → v3 = lN ((L.take j).filter (okCh n (sCh S) 0)).length → ∀ (H : Heap) (locs : List Loc), wP G (wM G a iv f) H → va_D A (wM G a iv f) → va_S A s.heap H locs → ∀ ls : Array Slot, lv_has ls 6 [(5, .int (v5)), (3, .long (v3)), (0, .ref (a 0)), (1, .long (v))] → W p l e (rm_ 4 0 0 90) s m args below meth c H locs 0 0 Q (F0 m 39 ls []) := by
        intro d
        induction d with
        | zero => intros; omega
        | succ d ih_39 =>
          intro j v5 v3 hj2 hd e5 e3 H locs hP hD hS ls hl
          subst e5 e3
          refine lv_iload hx hb dX2_count_39 (lv_at hl 0 rfl) ?_
          refine lv_aload_n hx hb dX2_count_41 rfl (lv_at hl 2 rfl) ?_
          refine va_get (D := gD G) (ci := 1) (v := .int (iv 18)) (C := RX2) (T := TX2) (N := 27) hx hb hts in_X2 hown hG.K hP 0 rfl rfl 18 (by decide) (hts _ q1171) (fun _ h9 => h9) rfl dX2_count_42 ?_
          refine top_i (y := nI L.length) (hkc) ?_
          refine lv_icmp_ge (tgt := 77) hx hb dX2_count_45 (by decide) (fun c_45 => ?_) (fun c_45 => ?_)
          · have h45 : L.length ≤ j := nI_ge' (a := j) (b := L.length) c_45; have hj4 : j = L.length := (by omega)
            refine lv_lload_n hx hb dX2_count_77 rfl (lv_at hl 1 rfl) ?_
            exact ret (lN ((L.take j).filter (okCh n (sCh S) 0)).length) _ 78 ls _ _ 0 0 dX2_count_78 (Nat.le_refl _) (Nat.le_refl _) hP hD hS (by subst hj4; rw [hnS] at h23; rw [st_cnt h8 h23, List.take_length, hL, hnS]; exact ⟨rfl, _, _, rfl, hM⟩)
          · have h45 : j < L.length := nI_nge (a := j) (b := L.length) c_45; have hsj := hks j h45; have hxl := (okL_mem (P := okS S) (m := 2 ^ n) (x := L.getD j 0) (by rw [← hL]; exact getD_mem0 h45)).1; have htf := take_filter (R := (okCh n (sCh S) 0)) h45
            have J70 : ∀ (x v3 : Int64), x = lN ((L.take (j + 1)).filter (okCh n (sCh S) 0)).length → ∀ (H : Heap) (locs : List Loc), wP G (wM G a iv f) H → va_D A (wM G a iv f) → va_S A s.heap H locs → ∀ ls : Array Slot, lv_has ls 6 [(5, .int (nI j)), (3, .long (v3)), (0, .ref (a 0)), (1, .long (v))] → W p l e (rm_ 4 0 0 90) s m args below meth c H locs 0 0 Q (F0 m 70 ls [.long (x)]) := by
              intro x v3 ev H locs hP hD hS ls hl
              subst ev
              refine lv_lstore_n (lv' := [(3, .long (lN ((L.take (j + 1)).filter (okCh n (sCh S) 0)).length)), (5, .int (nI j)), (0, .ref (a 0)), (1, .long (v))]) hx hb dX2_count_70 rfl hl (by decide) rfl (fun ls hl => ?_)
              refine lv_iinc (v := nI (j + 1)) (lv' := [(5, .int (nI (j + 1))), (3, .long (lN ((L.take (j + 1)).filter (okCh n (sCh S) 0)).length)), (0, .ref (a 0)), (1, .long (v))]) hx hb dX2_count_71 hl (k := 1) rfl (nI_1 j) (by decide) rfl (fun ls hl => ?_)
              refine lv_goto (tgt := 39) hx hb dX2_count_74 (by decide) ?_
              exact ih_39 (j + 1) _ _ (by omega) (by omega) rfl rfl _ _ hP hD hS ls hl
            refine lv_aload_n hx hb dX2_count_48 rfl (lv_at hl 2 rfl) ?_
            refine lv_aload_n hx hb dX2_count_49 rfl (lv_at hl 2 rfl) ?_
            refine va_get (D := gD G) (ci := 1) (v := .ref (a 17)) (C := RX2) (T := TX2) (N := 27) hx hb hts in_X2 hown hG.K hP 0 rfl rfl 17 (by decide) (hts _ q1170) (fun _ h9 => h9) rfl dX2_count_50 ?_
            refine lv_iload hx hb dX2_count_53 (lv_at hl 0 rfl) ?_
            refine ia_ld (j := j) hx hb hG.K hP 13 0 rfl rfl (by omega) (by decide) dX2_count_55 ?_
            refine top_i (y := nI (L.getD j 0)) (hsj) ?_
            refine lv_iconst (v := 0) hx hb dX2_count_56 (by decide) ?_
            refine top_i (y := nI 0) (nI_0.symm) ?_
            refine vp_callSi (W.runV (As := [.int (nI (L.getD j 0)), .int (nI 0)]) (rest := []) ⟨hx, hb, hml, hown, hts⟩ (metX2_keepsChoices l G a iv f n (L.getD j 0) 0 (sCh S) hn hn4 (by omega) (by decide) hM.2.2.2.2.2.2.2.1 hW.chl hM.2.2.2.2.2.2.2.2.1 (by rw [hnS]; exact MR.HCH hW)) (cwV 2 hts (lw_V q1312 q1314 qs27 q36 q1315) rfl rfl rfl (by decide +kernel) ⟨Nat.le_of_ble_eq_true rfl, Nat.le_of_ble_eq_true rfl⟩) (pre_RV (q0 := 0) hG hP hS hA0 rfl rfl) rfl rfl hl.1 rfl (lv_room (Nat.le_of_ble_eq_true rfl)) dX2_count_57 ⟨Nat.le_refl _, Nat.le_refl _⟩) (fun r_57 e_57 => ?_)
            subst e_57
            refine lv_if_eq (tgt := 69) hx hb dX2_count_60 (by decide) (fun c_60 => ?_) (fun c_60 => ?_)
            · have h60 : okCh n (sCh S) 0 (L.getD j 0) = false := b2i_0.mp c_60
              refine lv_lload_n hx hb dX2_count_69 rfl (lv_at hl 1 rfl) ?_
              exact J70 _ _ (by rw [htf, h60]; simp) _ _ hP hD hS ls hl
            · have h60 : okCh n (sCh S) 0 (L.getD j 0) = true := b2i_n0.mp c_60
              refine lv_lload_n hx hb dX2_count_63 rfl (lv_at hl 1 rfl) ?_
              refine lv_lconst (v := 1) hx hb dX2_count_64 (by decide) ?_
              refine lv_ladd hx hb dX2_count_65 ?_
              refine lv_goto (tgt := 70) hx hb dX2_count_66 (by decide) ?_
              exact J70 _ _ (by rw [htf, h60]; rw [if_pos rfl, List.length_append, List.length_singleton]; exact lN_1 _) _ _ hP hD hS ls hl
      refine lv_lconst (v := 0) hx hb dX2_count_34 (by decide) ?_
      refine lv_lstore_n (lv' := [(3, .long (0)), (0, .ref (a 0)), (1, .long (v))]) hx hb dX2_count_35 rfl hl (by decide) rfl (fun ls hl => ?_)
      refine lv_iconst (v := 0) hx hb dX2_count_36 (by decide) ?_
      refine lv_istore (lv' := [(5, .int (0)), (3, .long (0)), (0, .ref (a 0)), (1, .long (v))]) hx hb dX2_count_37 hl (by decide) rfl (fun ls hl => ?_)
      exact L39 (L.length + 1) 0 _ _ (by omega) (by omega) rfl rfl _ _ hP hD hS ls hl
    · have h23 : v < lN (2 ^ n) := Int64.not_le.mp (fun h => c_23 ((lg_cmp_le _ _).mpr h))
      refine lv_ldc2 (v := (-1)) hx hb hown (hts _ q1332) dX2_count_26 ?_
      exact ret (-1) _ 29 ls _ _ 0 0 dX2_count_29 (Nat.le_refl _) (Nat.le_refl _) hP hD hS (by rw [hnS] at h23; rw [show stCount S v = -1 by unfold stCount; rw [if_neg h8, if_pos h23]]; exact ⟨rfl, _, _, rfl, hM⟩)
  · have h8 : v < 0 := Int64.not_le.mp (fun h => c_8 ((lg_cmp_ge v 0).mpr h))
    refine lv_ldc2 (v := (-2)) hx hb hown (hts _ q1331) dX2_count_11 ?_
    exact ret (-2) _ 14 ls _ _ 0 0 dX2_count_14 (Nat.le_refl _) (Nat.le_refl _) hP hD hS (by rw [show stCount S v = -2 from if_pos h8]; exact ⟨rfl, _, _, rfl, hM⟩)
def anI : List Nat → Int32
  | [] => -1
  | x :: l => nI (l.foldl (fun z y => z &&& y) x)
def orI (l : List Nat) : Int32 := nI (l.foldl (fun z y => z ||| y) 0)
theorem m1_and (y : Int32) : (-1) &&& y = y := by
  apply b_ext
  intro i hi
  rw [b_and, b_m1 i hi, Bool.true_and]
theorem anI_s (l : List Nat) (y : Nat) : anI (l ++ [y]) = anI l &&& nI y := by
  cases l with
  | nil => exact (m1_and _).symm
  | cons x l =>
    show nI ((l ++ [y]).foldl _ x) = nI (l.foldl _ x) &&& nI y
    rw [List.foldl_append, nx_and]
    rfl
theorem orI_s (l : List Nat) (y : Nat) : orI (l ++ [y]) = orI l ||| nI y := by
  unfold orI
  rw [List.foldl_append, nx_or]
  rfl
theorem fold_and (l : List Nat) : ∀ z i, (l.foldl (fun z y => z &&& y) z).testBit i = (z.testBit i && l.all (fun x => x.testBit i)) := by
  induction l with
  | nil => intro z i; simp
  | cons x l ih => intro z i; rw [List.foldl_cons, ih, Nat.testBit_and, List.all_cons, Bool.and_assoc]
theorem fold_or (l : List Nat) : ∀ z i, (l.foldl (fun z y => z ||| y) z).testBit i = (z.testBit i || l.any (fun x => x.testBit i)) := by
  induction l with
  | nil => intro z i; simp
  | cons x l ih => intro z i; rw [List.foldl_cons, ih, Nat.testBit_or, List.any_cons, Bool.or_assoc]
theorem fold_andb (l : List Nat) : ∀ z, l.foldl (fun z y => z &&& y) z ≤ z := by
  induction l with
  | nil => intro z; exact Nat.le_refl _
  | cons x l ih => intro z; rw [List.foldl_cons]; exact Nat.le_trans (ih _) Nat.and_le_left
theorem fold_orb {m : Nat} (l : List Nat) (h : ∀ x ∈ l, x < 2 ^ m) : ∀ z, z < 2 ^ m → l.foldl (fun z y => z ||| y) z < 2 ^ m := by
  induction l with
  | nil => intro z hz; exact hz
  | cons x l ih => intro z hz; rw [List.foldl_cons]; exact ih (fun x hx => h x (List.mem_cons_of_mem _ hx)) _ (Nat.or_lt_two_pow hz (h x List.mem_cons_self))
theorem anI_ok {m : Nat} {l : List Nat} (hne : l ≠ []) (h : ∀ x ∈ l, x < 2 ^ m) : ∃ X, anI l = nI X ∧ X < 2 ^ m ∧ ∀ i, X.testBit i = l.all (fun x => x.testBit i) := by
  cases l with
  | nil => exact absurd rfl hne
  | cons x l =>
    refine ⟨_, rfl, Nat.lt_of_le_of_lt (fold_andb l x) (h x List.mem_cons_self), fun i => ?_⟩
    rw [fold_and, List.all_cons]
theorem orI_ok {m : Nat} {l : List Nat} (h : ∀ x ∈ l, x < 2 ^ m) : ∃ X, orI l = nI X ∧ X < 2 ^ m ∧ ∀ i, X.testBit i = l.any (fun x => x.testBit i) := by
  refine ⟨_, rfl, fold_orb l h 0 (Nat.two_pow_pos m), fun i => ?_⟩
  rw [fold_or, Nat.zero_testBit, Bool.false_or]
theorem alB_okL {P T : Nat → Bool} (m : Nat) : alB (fun x => !P x || T x) m = (okL P m).all T := by
  induction m with
  | zero => rfl
  | succ m ih =>
    rw [alB, okL, ih]
    cases h : P m <;> simp [Bool.and_comm]
theorem alB_nil {P : Nat → Bool} (m : Nat) : alB (fun x => !P x) m = (okL P m).isEmpty := by
  induction m with
  | zero => rfl
  | succ m ih =>
    rw [alB, okL, ih]
    cases h : P m <;> simp
theorem okF_L {S : St} {g : Nat} (m : Nat) : (okL (okS S) m).filter (fun x => okCh (sN S) (sCh S) 0 x && tb (sN S) x g) = okL (okF S g) m := by
  rw [okL_filter]
  congr 1
  funext x
  exact (Bool.and_assoc _ _ _).symm
theorem fc_1 {S : St} {x i : Int32} (h : isF x (nI (sN S)) = false) : stForces S x i = -1 := by unfold stForces; rw [if_pos (by simp [h])]
theorem fc_2 {S : St} {g : Nat} {i : Int32} (hg : g < 2 ^ 31) (h : isF (nI g) (nI (sN S)) = true) (h1 : okL (okF S g) (2 ^ sN S) = [] ∨ i < 0) : stForces S (nI g) i = 0 := by
  unfold stForces
  rw [if_neg (by simp [h]), iN_nI hg, if_pos]
  rw [alB_nil]
  rcases h1 with h1 | h1 <;> simp [h1]
theorem fc_3 {S : St} {g : Nat} {i : Int32} (hg : g < 2 ^ 31) (h : isF (nI g) (nI (sN S)) = true) (h1 : okL (okF S g) (2 ^ sN S) ≠ []) (h2 : ¬ i < 0) : stForces S (nI g) i = fcG (fcA S g) (fcN S g) g (sN S) 1 i := by
  unfold stForces
  rw [if_neg (by simp [h]), iN_nI hg, if_neg]
  rw [alB_nil]
  simp [h1, h2]
set_option maxHeartbeats 4000000 in
set_option maxRecDepth 100000 in
theorem metX2_forces (l : Launch) (G : Gt) (a : Nat → Nat) (iv : Nat → Int32) (f : Nat → Nat → Int32) (S : St) (hW : WS S) (hM : MR S iv f) (x i : Int32) (sz : Nat) : CWi l G yX2_forces cX2_forces 9 .int 4 0 0 90 [.ref (a 0), .int (x), .int (i)] (wM G a iv f) sz (fun r w1 => r = stForces S x i ∧ MW G a S w1) := by
  refine mkWi (by decide) (Nat.le_of_ble_eq_true rfl) ?_
  intro p e s m args below meth c Q A hx hb hts hown hin hml hG hsz hP hD hA hA0 hS ret ls hl
  obtain ⟨n, hnS⟩ : ∃ n, n = sN S := ⟨_, rfl⟩
  have hn : iv 7 = nI n := by rw [hnS]; exact hM.1
  have hn4 : n ≤ 14 := by rw [hnS]; exact hW.1
  have hp2 := p2_14 hn4
  refine lv_aload_n hx hb dX2_forces_0 rfl (lv_at hl 0 rfl) ?_
  refine lv_iconst (v := 0) hx hb dX2_forces_1 (by decide) ?_
  refine va_put (D := gD G) (ci := 1) (v := .int (0)) (ty := .int) (C := RX2) (T := TX2) (N := 27) hx hb hts in_X2 tyX2 tyX2_ok nmX2 hown hG.K hP hD hS 0 rfl rfl 0 (by decide) (hts _ q1153) (fun _ h9 => h9) rfl (by decide +kernel) rfl rfl (Nat.le_of_ble_eq_true rfl) dX2_forces_2 (fun H locs hP hD hS => ?_)
  have hP : wP G (wM G a (va_up iv 0 (0)) f) H := hP
  have hD : va_D A (wM G a (va_up iv 0 (0)) f) := hD
  refine lv_aload_n hx hb dX2_forces_5 rfl (lv_at hl 0 rfl) ?_
  refine lv_iload_n hx hb dX2_forces_6 rfl (lv_at hl 1 rfl) ?_
  refine vp_callSi (W.runV (As := [.int (x)]) (rest := []) ⟨hx, hb, hml, hown, hts⟩ (metX2_isFeature l G a (va_up iv 0 (0)) f (x)) (cwV 1 hts (lw_V q1244 q1246 qs15 q36 q1247) rfl rfl rfl (by decide +kernel) ⟨Nat.le_of_ble_eq_true rfl, Nat.le_of_ble_eq_true rfl⟩) (pre_RV (q0 := 0) hG hP hS hA0 rfl rfl) rfl rfl hl.1 rfl (lv_room (Nat.le_of_ble_eq_true rfl)) dX2_forces_7 ⟨Nat.le_refl _, Nat.le_refl _⟩) (fun r_7 e_7 => ?_)
  subst e_7
  refine top_i (y := b2i (isF (x) (nI n))) (congrArg (fun z => b2i (isF (x) z)) hn) ?_
  refine lv_if_ne (tgt := 15) hx hb dX2_forces_10 (by decide) (fun c_10 => ?_) (fun c_10 => ?_)
  · have h10 : isF x (nI n) = true := b2i_n0.mp c_10; obtain ⟨g, rfl, hg1, hg2, hg4⟩ := isF_gb hW (by rw [hnS] at h10; exact h10); rw [← hnS] at hg2
    refine lv_aload_n hx hb dX2_forces_15 rfl (lv_at hl 0 rfl) ?_
    refine cl_v0 (va_runV (As := []) (rest := []) ⟨hx, hb, hml, hown, hts⟩ (metX2_know l G a (va_up iv 0 (0)) f S hW hM _) (cwV 0 hts (lw_V q1288 q1290 qs21 q36 q1291) rfl rfl rfl (by decide +kernel) ⟨Nat.le_of_ble_eq_true rfl, Nat.le_of_ble_eq_true rfl⟩) (pre_WV0 (q0 := 0) hG hP hD hS hA0 rfl rfl) rfl rfl hl.1 rfl (lv_room (Nat.le_of_ble_eq_true rfl)) dX2_forces_16 ⟨Nat.le_refl _, Nat.le_refl _⟩) hP hD hS hA (fun w1 H locs hp hP hD hS => ?_)
    obtain ⟨iv, f, rfl, hM, hkn⟩ := hp
    clear hn
    have hn : iv 7 = nI n := by rw [hnS]; exact hM.1
    obtain ⟨L, hL⟩ : ∃ L, L = okL (okS S) (2 ^ n) := ⟨_, rfl⟩
    have hLl : L.length ≤ 2 ^ n := by rw [hL]; exact okL_len _ _
    obtain ⟨hkc, hks⟩ : iv 18 = nI L.length ∧ ∀ k, k < L.length → f 17 k = nI (L.getD k 0) := by rw [hL, hnS]; exact hM.cnd hkn
    obtain ⟨M, hMe⟩ : ∃ M, M = L.filter (fun x => okCh n (sCh S) 0 x && tb n x g) := ⟨_, rfl⟩
    have hMF : M = okL (okF S g) (2 ^ n) := by rw [hMe, hL, hnS]; exact okF_L _
    have hMb : ∀ x ∈ M, x < 2 ^ n := fun x hx => by rw [hMF] at hx; exact (okL_mem hx).1
    obtain ⟨Y, hY, hYb, hYt⟩ := orI_ok hMb
    have J100 : ∀ (v6 : Int32), ∀ (H : Heap) (locs : List Loc), wP G (wM G a iv f) H → va_D A (wM G a iv f) → va_S A s.heap H locs → ∀ ls : Array Slot, lv_has ls 9 [(6, .int (v6)), (5, .int (b2i (!M.isEmpty))), (4, .int (orI M)), (3, .int (anI M)), (0, .ref (a 0)), (1, .int (nI g)), (2, .int (i))] → W p l e (rm_ 4 0 0 90) s m args below meth c H locs 0 0 Q (F0 m 100 ls []) := by
      intro v6  H locs hP hD hS ls hl
      have L106 : ∀ (d7 : Nat) (k : Nat) (v7 v6 : Int32), k ≤ n + 1 → n + 2 ≤ k + d7 → 1 ≤ k → v7 = nI k → (M ≠ [] → ¬ i < 0 → fcG (fcA S g) (fcN S g) g (n + 1 - k) k v6 = fcG (fcA S g) (fcN S g) g n 1 i) → ∀ (H : Heap) (locs : List Loc), wP G (wM G a iv f) H → va_D A (wM G a iv f) → va_S A s.heap H locs → ∀ ls : Array Slot, lv_has ls 9 [(7, .int (v7)), (6, .int (v6)), (5, .int (b2i (!M.isEmpty))), (4, .int (orI M)), (3, .int (anI M)), (0, .ref (a 0)), (1, .int (nI g)), (2, .int (i))] → W p l e (rm_ 4 0 0 90) s m args below meth c H locs 0 0 Q (F0 m 106 ls []) := by
        intro d7
        induction d7 with
        | zero => intros; omega
        | succ d7 ih_106 =>
          intro k v7 v6 hk2 hk3 hk1 e7 hfc H locs hP hD hS ls hl
          subst e7
          refine lv_iload hx hb dX2_forces_106 (lv_at hl 0 rfl) ?_
          refine lv_aload_n hx hb dX2_forces_108 rfl (lv_at hl 5 rfl) ?_
          refine va_get (D := gD G) (ci := 1) (v := .int (iv 7)) (C := RX2) (T := TX2) (N := 27) hx hb hts in_X2 hown hG.K hP 0 rfl rfl 7 (by decide) (hts _ q1160) (fun _ h9 => h9) rfl dX2_forces_109 ?_
          refine top_i (y := nI n) (hn) ?_
          refine lv_icmp_gt (tgt := 183) hx hb dX2_forces_112 (by decide) (fun c_112 => ?_) (fun c_112 => ?_)
          · have h112 : n < k := nI_gt (a := k) (b := n) c_112; have hk4 : k = n + 1 := (by omega)
            refine lv_iconst (v := 0) hx hb dX2_forces_183 (by decide) ?_
            exact ret (0) _ 184 ls _ _ 0 0 dX2_forces_184 rfl (Nat.le_refl _) (Nat.le_refl _) hP hD hS (by rw [hk4] at hfc; by_cases h8 : M = [] ∨ i < 0; exact mwq (fc_2 (by omega) (by rw [← hnS]; exact h10) (by rw [← hnS, ← hMF]; exact h8)).symm rfl hM; exact mwq (by rw [fc_3 (by omega) (by rw [← hnS]; exact h10) (by rw [← hnS, ← hMF]; exact fun h => h8 (Or.inl h)) (fun h => h8 (Or.inr h)), ← hnS, ← hfc (fun h => h8 (Or.inl h)) (fun h => h8 (Or.inr h)), Nat.sub_self]; rfl) rfl hM)
          · have h112 : k ≤ n := nI_ngt (a := k) (b := n) c_112
            refine lv_iload hx hb dX2_forces_115 (lv_at hl 2 rfl) ?_
            refine lv_if_eq (tgt := 183) hx hb dX2_forces_117 (by decide) (fun c_117 => ?_) (fun c_117 => ?_)
            · have h117 : M = [] := (by simpa [b2i] using c_117)
              refine lv_iconst (v := 0) hx hb dX2_forces_183 (by decide) ?_
              exact ret (0) _ 184 ls _ _ 0 0 dX2_forces_184 rfl (Nat.le_refl _) (Nat.le_refl _) hP hD hS (by exact mwq (fc_2 (by omega) (by rw [← hnS]; exact h10) (by rw [← hnS, ← hMF]; exact Or.inl h117)).symm rfl hM)
            · have h117 : M ≠ [] := (by simpa [b2i] using c_117)
              refine lv_iload_n hx hb dX2_forces_120 rfl (lv_at hl 7 rfl) ?_
              refine lv_if_lt (tgt := 183) hx hb dX2_forces_121 (by decide) (fun c_121 => ?_) (fun c_121 => ?_)
              · skip
                refine lv_iconst (v := 0) hx hb dX2_forces_183 (by decide) ?_
                exact ret (0) _ 184 ls _ _ 0 0 dX2_forces_184 rfl (Nat.le_refl _) (Nat.le_refl _) hP hD hS (by exact mwq (fc_2 (by omega) (by rw [← hnS]; exact h10) (by rw [← hnS, ← hMF]; exact Or.inr c_121)).symm rfl hM)
              · skip
                obtain ⟨X, hX, hXb, hXt⟩ := anI_ok h117 hMb
                have hfk := hfc h117 c_121
                have hAk : fcA S g k = tb n X k := by unfold fcA tb; rw [alB_okL, hXt, ← hnS, ← hMF]
                have hNk : fcN S g k = !tb n Y k := by unfold fcN tb; rw [alB_okL, hYt, ← hnS, ← hMF, List.not_any_eq_all_not]
                have hst : ∀ z, n + 1 - k = z + 1 → fcG (fcA S g) (fcN S g) g (n + 1 - k) k v6 = if !decide (k = g) && (tb n X k || !tb n Y k) then (if v6 = 0 then (if tb n X k then nI k else -(nI k)) else fcG (fcA S g) (fcN S g) g z (k + 1) (v6 - 1)) else fcG (fcA S g) (fcN S g) g z (k + 1) v6 := fun z hz => by rw [hz, fcG, hAk, hNk]
                have hst := hst (n - k) (by omega)
                rw [hfk] at hst
                refine lv_aload_n hx hb dX2_forces_124 rfl (lv_at hl 5 rfl) ?_
                refine lv_iload_n hx hb dX2_forces_125 rfl (lv_at hl 4 rfl) ?_
                refine top_i (y := nI X) (hX) ?_
                refine lv_iload hx hb dX2_forces_126 (lv_at hl 0 rfl) ?_
                refine vp_callSi (W.runV (As := [.int (nI X), .int (nI k)]) (rest := []) ⟨hx, hb, hml, hown, hts⟩ (metX2_isIn l G a iv f n X k hn hn4 (by omega) h112) (cwV 2 hts (lw_V q1296 q1298 qs23 q36 q1299) rfl rfl rfl (by decide +kernel) ⟨Nat.le_of_ble_eq_true rfl, Nat.le_of_ble_eq_true rfl⟩) (pre_RV (q0 := 0) hG hP hS hA0 rfl rfl) rfl rfl hl.1 rfl (lv_room (Nat.le_of_ble_eq_true rfl)) dX2_forces_128 ⟨Nat.le_refl _, Nat.le_refl _⟩) (fun r_128 e_128 => ?_)
                subst e_128
                refine lv_istore (lv' := [(8, .int (b2i (tb n X k))), (7, .int (nI k)), (6, .int (v6)), (5, .int (b2i (!M.isEmpty))), (4, .int (orI M)), (3, .int (anI M)), (0, .ref (a 0)), (1, .int (nI g)), (2, .int (i))]) hx hb dX2_forces_131 hl (by decide) rfl (fun ls hl => ?_)
                refine lv_iload hx hb dX2_forces_133 (lv_at hl 1 rfl) ?_
                refine lv_iload_n hx hb dX2_forces_135 rfl (lv_at hl 7 rfl) ?_
                refine lv_icmp_eq (tgt := 177) hx hb dX2_forces_136 (by decide) (fun c_136 => ?_) (fun c_136 => ?_)
                · have h136 : k = g := nI_e (a := k) (b := g) c_136
                  refine lv_iinc (v := nI (k + 1)) (lv' := [(7, .int (nI (k + 1))), (8, .int (b2i (tb n X k))), (6, .int (v6)), (5, .int (b2i (!M.isEmpty))), (4, .int (orI M)), (3, .int (anI M)), (0, .ref (a 0)), (1, .int (nI g)), (2, .int (i))]) hx hb dX2_forces_177 hl (k := 1) rfl (nI_1 k) (by decide) rfl (fun ls hl => ?_)
                  refine lv_goto (tgt := 106) hx hb dX2_forces_180 (by decide) ?_
                  exact ih_106 (k + 1) _ _ (by omega) (by omega) (by omega) rfl (fun _ _ => by rw [hst, if_neg (by simp [h136]), show n + 1 - (k + 1) = n - k by omega]) _ _ hP hD hS ls (lv_sub hl [0, 2, 3, 4, 5, 6, 7, 8] rfl)
                · have h136 : k ≠ g := nI_ne (a := k) (b := g) c_136
                  refine lv_iload hx hb dX2_forces_139 (lv_at hl 0 rfl) ?_
                  refine lv_if_ne (tgt := 155) hx hb dX2_forces_141 (by decide) (fun c_141 => ?_) (fun c_141 => ?_)
                  · have h141 : tb n X k = true := b2i_n0.mp c_141
                    refine lv_iload hx hb dX2_forces_155 (lv_at hl 2 rfl) ?_
                    refine lv_if_ne (tgt := 174) hx hb dX2_forces_157 (by decide) (fun c_157 => ?_) (fun c_157 => ?_)
                    · skip
                      refine lv_iinc (v := v6 - 1) (lv' := [(6, .int (v6 - 1)), (8, .int (b2i (tb n X k))), (7, .int (nI k)), (5, .int (b2i (!M.isEmpty))), (4, .int (orI M)), (3, .int (anI M)), (0, .ref (a 0)), (1, .int (nI g)), (2, .int (i))]) hx hb dX2_forces_174 hl (k := 2) rfl (by rw [Int32.sub_eq_add_neg]; rfl) (by decide) rfl (fun ls hl => ?_)
                      refine lv_iinc (v := nI (k + 1)) (lv' := [(7, .int (nI (k + 1))), (6, .int (v6 - 1)), (8, .int (b2i (tb n X k))), (5, .int (b2i (!M.isEmpty))), (4, .int (orI M)), (3, .int (anI M)), (0, .ref (a 0)), (1, .int (nI g)), (2, .int (i))]) hx hb dX2_forces_177 hl (k := 2) rfl (nI_1 k) (by decide) rfl (fun ls hl => ?_)
                      refine lv_goto (tgt := 106) hx hb dX2_forces_180 (by decide) ?_
                      exact ih_106 (k + 1) _ _ (by omega) (by omega) (by omega) rfl (fun _ _ => by rw [hst, if_pos (by simp [h136, h141]), if_neg c_157, show n + 1 - (k + 1) = n - k by omega]) _ _ hP hD hS ls (lv_sub hl [0, 1, 3, 4, 5, 6, 7, 8] rfl)
                    · have h157 : v6 = 0 := (by simpa using c_157)
                      refine lv_iload hx hb dX2_forces_160 (lv_at hl 0 rfl) ?_
                      refine lv_if_eq (tgt := 170) hx hb dX2_forces_162 (by decide) (fun c_162 => ?_) (fun c_162 => ?_)
                      · have h162 : tb n X k = false := b2i_0.mp c_162
                        refine lv_iload hx hb dX2_forces_170 (lv_at hl 1 rfl) ?_
                        refine lv_ineg hx hb dX2_forces_172 ?_
                        exact ret (-(nI k)) _ 173 ls _ _ 0 0 dX2_forces_173 rfl (Nat.le_refl _) (Nat.le_refl _) hP hD hS (by refine mwq ?_ rfl hM; rw [fc_3 (by omega) (by rw [← hnS]; exact h10) (by rw [← hnS, ← hMF]; exact h117) c_121, ← hnS, hst, if_pos (by simp [h136, h141]), if_pos h157, h162]; rfl)
                      · have h162 : tb n X k = true := b2i_n0.mp c_162
                        refine lv_iload hx hb dX2_forces_165 (lv_at hl 1 rfl) ?_
                        refine lv_goto (tgt := 173) hx hb dX2_forces_167 (by decide) ?_
                        exact ret (nI k) _ 173 ls _ _ 0 0 dX2_forces_173 rfl (Nat.le_refl _) (Nat.le_refl _) hP hD hS (by refine mwq ?_ rfl hM; rw [fc_3 (by omega) (by rw [← hnS]; exact h10) (by rw [← hnS, ← hMF]; exact h117) c_121, ← hnS, hst, if_pos (by simp [h136, h141]), if_pos h157, h162]; rfl)
                  · have h141 : tb n X k = false := b2i_0.mp c_141
                    refine lv_aload_n hx hb dX2_forces_144 rfl (lv_at hl 6 rfl) ?_
                    refine lv_iload hx hb dX2_forces_145 (lv_at hl 4 rfl) ?_
                    refine top_i (y := nI Y) (hY) ?_
                    refine lv_iload hx hb dX2_forces_147 (lv_at hl 1 rfl) ?_
                    refine vp_callSi (W.runV (As := [.int (nI Y), .int (nI k)]) (rest := []) ⟨hx, hb, hml, hown, hts⟩ (metX2_isIn l G a iv f n Y k hn hn4 (by omega) h112) (cwV 2 hts (lw_V q1296 q1298 qs23 q36 q1299) rfl rfl rfl (by decide +kernel) ⟨Nat.le_of_ble_eq_true rfl, Nat.le_of_ble_eq_true rfl⟩) (pre_RV (q0 := 0) hG hP hS hA0 rfl rfl) rfl rfl hl.1 rfl (lv_room (Nat.le_of_ble_eq_true rfl)) dX2_forces_149 ⟨Nat.le_refl _, Nat.le_refl _⟩) (fun r_149 e_149 => ?_)
                    subst e_149
                    refine lv_if_ne (tgt := 177) hx hb dX2_forces_152 (by decide) (fun c_152 => ?_) (fun c_152 => ?_)
                    · have h152 : tb n Y k = true := b2i_n0.mp c_152
                      refine lv_iinc (v := nI (k + 1)) (lv' := [(7, .int (nI (k + 1))), (8, .int (b2i (tb n X k))), (6, .int (v6)), (5, .int (b2i (!M.isEmpty))), (4, .int (orI M)), (3, .int (anI M)), (0, .ref (a 0)), (1, .int (nI g)), (2, .int (i))]) hx hb dX2_forces_177 hl (k := 1) rfl (nI_1 k) (by decide) rfl (fun ls hl => ?_)
                      refine lv_goto (tgt := 106) hx hb dX2_forces_180 (by decide) ?_
                      exact ih_106 (k + 1) _ _ (by omega) (by omega) (by omega) rfl (fun _ _ => by rw [hst, if_neg (by simp [h136, h141, h152]), show n + 1 - (k + 1) = n - k by omega]) _ _ hP hD hS ls (lv_sub hl [0, 2, 3, 4, 5, 6, 7, 8] rfl)
                    · have h152 : tb n Y k = false := b2i_0.mp c_152
                      refine lv_iload hx hb dX2_forces_155 (lv_at hl 2 rfl) ?_
                      refine lv_if_ne (tgt := 174) hx hb dX2_forces_157 (by decide) (fun c_157 => ?_) (fun c_157 => ?_)
                      · skip
                        refine lv_iinc (v := v6 - 1) (lv' := [(6, .int (v6 - 1)), (8, .int (b2i (tb n X k))), (7, .int (nI k)), (5, .int (b2i (!M.isEmpty))), (4, .int (orI M)), (3, .int (anI M)), (0, .ref (a 0)), (1, .int (nI g)), (2, .int (i))]) hx hb dX2_forces_174 hl (k := 2) rfl (by rw [Int32.sub_eq_add_neg]; rfl) (by decide) rfl (fun ls hl => ?_)
                        refine lv_iinc (v := nI (k + 1)) (lv' := [(7, .int (nI (k + 1))), (6, .int (v6 - 1)), (8, .int (b2i (tb n X k))), (5, .int (b2i (!M.isEmpty))), (4, .int (orI M)), (3, .int (anI M)), (0, .ref (a 0)), (1, .int (nI g)), (2, .int (i))]) hx hb dX2_forces_177 hl (k := 2) rfl (nI_1 k) (by decide) rfl (fun ls hl => ?_)
                        refine lv_goto (tgt := 106) hx hb dX2_forces_180 (by decide) ?_
                        exact ih_106 (k + 1) _ _ (by omega) (by omega) (by omega) rfl (fun _ _ => by rw [hst, if_pos (by simp [h136, h141, h152]), if_neg c_157, show n + 1 - (k + 1) = n - k by omega]) _ _ hP hD hS ls (lv_sub hl [0, 1, 3, 4, 5, 6, 7, 8] rfl)
                      · have h157 : v6 = 0 := (by simpa using c_157)
                        refine lv_iload hx hb dX2_forces_160 (lv_at hl 0 rfl) ?_
                        refine lv_if_eq (tgt := 170) hx hb dX2_forces_162 (by decide) (fun c_162 => ?_) (fun c_162 => ?_)
                        · have h162 : tb n X k = false := b2i_0.mp c_162
                          refine lv_iload hx hb dX2_forces_170 (lv_at hl 1 rfl) ?_
                          refine lv_ineg hx hb dX2_forces_172 ?_
                          exact ret (-(nI k)) _ 173 ls _ _ 0 0 dX2_forces_173 rfl (Nat.le_refl _) (Nat.le_refl _) hP hD hS (by refine mwq ?_ rfl hM; rw [fc_3 (by omega) (by rw [← hnS]; exact h10) (by rw [← hnS, ← hMF]; exact h117) c_121, ← hnS, hst, if_pos (by simp [h136, h141, h152]), if_pos h157, h162]; rfl)
                        · have h162 : tb n X k = true := b2i_n0.mp c_162
                          refine lv_iload hx hb dX2_forces_165 (lv_at hl 1 rfl) ?_
                          refine lv_goto (tgt := 173) hx hb dX2_forces_167 (by decide) ?_
                          exact ret (nI k) _ 173 ls _ _ 0 0 dX2_forces_173 rfl (Nat.le_refl _) (Nat.le_refl _) hP hD hS (by refine mwq ?_ rfl hM; rw [fc_3 (by omega) (by rw [← hnS]; exact h10) (by rw [← hnS, ← hMF]; exact h117) c_121, ← hnS, hst, if_pos (by simp [h136, h141, h152]), if_pos h157, h162]; rfl)
      refine lv_iload_n hx hb dX2_forces_100 rfl (lv_at hl 6 rfl) ?_
      refine lv_istore (lv' := [(6, .int (i)), (5, .int (b2i (!M.isEmpty))), (4, .int (orI M)), (3, .int (anI M)), (0, .ref (a 0)), (1, .int (nI g)), (2, .int (i))]) hx hb dX2_forces_101 hl (by decide) rfl (fun ls hl => ?_)
      refine lv_iconst (v := 1) hx hb dX2_forces_103 (by decide) ?_
      refine lv_istore (lv' := [(7, .int (1)), (6, .int (i)), (5, .int (b2i (!M.isEmpty))), (4, .int (orI M)), (3, .int (anI M)), (0, .ref (a 0)), (1, .int (nI g)), (2, .int (i))]) hx hb dX2_forces_104 hl (by decide) rfl (fun ls hl => ?_)
      exact L106 (n + 2) 1 _ _ (by omega) (by omega) (by omega) rfl (fun _ _ => rfl) _ _ hP hD hS ls hl
    have L30 : ∀ (d : Nat) (j : Nat) (v6 v5 v4 v3 : Int32), j ≤ L.length → L.length + 1 ≤ j + d → v6 = nI j → v5 = b2i (!((L.take (j)).filter (fun x => okCh n (sCh S) 0 x && tb n x g)).isEmpty) → v4 = orI ((L.take (j)).filter (fun x => okCh n (sCh S) 0 x && tb n x g)) → v3 = anI ((L.take (j)).filter (fun x => okCh n (sCh S) 0 x && tb n x g)) → ∀ (H : Heap) (locs : List Loc), wP G (wM G a iv f) H → va_D A (wM G a iv f) → va_S A s.heap H locs → ∀ ls : Array Slot, lv_has ls 9 [(6, .int (v6)), (5, .int (v5)), (4, .int (v4)), (3, .int (v3)), (0, .ref (a 0)), (1, .int (nI g)), (2, .int (i))] → W p l e (rm_ 4 0 0 90) s m args below meth c H locs 0 0 Q (F0 m 30 ls []) := by
      intro d
      induction d with
      | zero => intros; omega
      | succ d ih_30 =>
        intro j v6 v5 v4 v3 hj2 hd e6 e5 e4 e3 H locs hP hD hS ls hl
        subst e6 e5 e4 e3
        refine lv_iload hx hb dX2_forces_30 (lv_at hl 0 rfl) ?_
        refine lv_aload_n hx hb dX2_forces_32 rfl (lv_at hl 4 rfl) ?_
        refine va_get (D := gD G) (ci := 1) (v := .int (iv 18)) (C := RX2) (T := TX2) (N := 27) hx hb hts in_X2 hown hG.K hP 0 rfl rfl 18 (by decide) (hts _ q1171) (fun _ h9 => h9) rfl dX2_forces_33 ?_
        refine top_i (y := nI L.length) (hkc) ?_
        refine lv_icmp_ge (tgt := 100) hx hb dX2_forces_36 (by decide) (fun c_36 => ?_) (fun c_36 => ?_)
        · have h36 : L.length ≤ j := nI_ge' (a := j) (b := L.length) c_36; have hj4 : j = L.length := (by omega)
          subst hj4
          rw [List.take_length, ← hMe] at hl
          exact J100 _ _ _ hP hD hS ls hl
        · have h36 : j < L.length := nI_nge (a := j) (b := L.length) c_36; have hsj := hks j h36; have hxl := (okL_mem (P := okS S) (m := 2 ^ n) (x := L.getD j 0) (by rw [← hL]; exact getD_mem0 h36)).1; have htf := take_filter (R := (fun x => okCh n (sCh S) 0 x && tb n x g)) h36
          have J94 : ∀ (v5 v4 v3 : Int32), v5 = b2i (!((L.take (j + 1)).filter (fun x => okCh n (sCh S) 0 x && tb n x g)).isEmpty) → v4 = orI ((L.take (j + 1)).filter (fun x => okCh n (sCh S) 0 x && tb n x g)) → v3 = anI ((L.take (j + 1)).filter (fun x => okCh n (sCh S) 0 x && tb n x g)) → ∀ (H : Heap) (locs : List Loc), wP G (wM G a iv f) H → va_D A (wM G a iv f) → va_S A s.heap H locs → ∀ ls : Array Slot, lv_has ls 9 [(6, .int (nI j)), (5, .int (v5)), (4, .int (v4)), (3, .int (v3)), (0, .ref (a 0)), (1, .int (nI g)), (2, .int (i))] → W p l e (rm_ 4 0 0 90) s m args below meth c H locs 0 0 Q (F0 m 94 ls []) := by
            intro v5 v4 v3 e5 e4 e3 H locs hP hD hS ls hl
            subst e5 e4 e3
            refine lv_iinc (v := nI (j + 1)) (lv' := [(6, .int (nI (j + 1))), (5, .int (b2i (!((L.take (j + 1)).filter (fun x => okCh n (sCh S) 0 x && tb n x g)).isEmpty))), (4, .int (orI ((L.take (j + 1)).filter (fun x => okCh n (sCh S) 0 x && tb n x g)))), (3, .int (anI ((L.take (j + 1)).filter (fun x => okCh n (sCh S) 0 x && tb n x g)))), (0, .ref (a 0)), (1, .int (nI g)), (2, .int (i))]) hx hb dX2_forces_94 hl (k := 0) rfl (nI_1 j) (by decide) rfl (fun ls hl => ?_)
            refine lv_goto (tgt := 30) hx hb dX2_forces_97 (by decide) ?_
            exact ih_30 (j + 1) _ _ _ _ (by omega) (by omega) rfl rfl rfl rfl _ _ hP hD hS ls hl
          refine lv_aload_n hx hb dX2_forces_39 rfl (lv_at hl 4 rfl) ?_
          refine lv_aload_n hx hb dX2_forces_40 rfl (lv_at hl 4 rfl) ?_
          refine va_get (D := gD G) (ci := 1) (v := .ref (a 17)) (C := RX2) (T := TX2) (N := 27) hx hb hts in_X2 hown hG.K hP 0 rfl rfl 17 (by decide) (hts _ q1170) (fun _ h9 => h9) rfl dX2_forces_41 ?_
          refine lv_iload hx hb dX2_forces_44 (lv_at hl 0 rfl) ?_
          refine ia_ld (j := j) hx hb hG.K hP 13 0 rfl rfl (by omega) (by decide) dX2_forces_46 ?_
          refine top_i (y := nI (L.getD j 0)) (hsj) ?_
          refine lv_iload_n hx hb dX2_forces_47 rfl (lv_at hl 5 rfl) ?_
          refine vp_callSi (W.runV (As := [.int (nI (L.getD j 0)), .int (nI g)]) (rest := []) ⟨hx, hb, hml, hown, hts⟩ (metX2_isIn l G a iv f n (L.getD j 0) g hn hn4 (by omega) hg2) (cwV 2 hts (lw_V q1296 q1298 qs23 q36 q1299) rfl rfl rfl (by decide +kernel) ⟨Nat.le_of_ble_eq_true rfl, Nat.le_of_ble_eq_true rfl⟩) (pre_RV (q0 := 0) hG hP hS hA0 rfl rfl) rfl rfl hl.1 rfl (lv_room (Nat.le_of_ble_eq_true rfl)) dX2_forces_48 ⟨Nat.le_refl _, Nat.le_refl _⟩) (fun r_48 e_48 => ?_)
          subst e_48
          refine lv_if_eq (tgt := 94) hx hb dX2_forces_51 (by decide) (fun c_51 => ?_) (fun c_51 => ?_)
          · have h51 : tb n (L.getD j 0) g = false := b2i_0.mp c_51
            exact J94 _ _ _ (by rw [htf, if_neg (by show ¬ (okCh n (sCh S) 0 (L.getD j 0) && tb n (L.getD j 0) g) = true; rw [h51, Bool.and_false]; exact Bool.false_ne_true), List.append_nil]) (by rw [htf, if_neg (by show ¬ (okCh n (sCh S) 0 (L.getD j 0) && tb n (L.getD j 0) g) = true; rw [h51, Bool.and_false]; exact Bool.false_ne_true), List.append_nil]) (by rw [htf, if_neg (by show ¬ (okCh n (sCh S) 0 (L.getD j 0) && tb n (L.getD j 0) g) = true; rw [h51, Bool.and_false]; exact Bool.false_ne_true), List.append_nil]) _ _ hP hD hS ls hl
          · have h51 : tb n (L.getD j 0) g = true := b2i_n0.mp c_51
            refine lv_aload_n hx hb dX2_forces_54 rfl (lv_at hl 4 rfl) ?_
            refine lv_aload_n hx hb dX2_forces_55 rfl (lv_at hl 4 rfl) ?_
            refine va_get (D := gD G) (ci := 1) (v := .ref (a 17)) (C := RX2) (T := TX2) (N := 27) hx hb hts in_X2 hown hG.K hP 0 rfl rfl 17 (by decide) (hts _ q1170) (fun _ h9 => h9) rfl dX2_forces_56 ?_
            refine lv_iload hx hb dX2_forces_59 (lv_at hl 0 rfl) ?_
            refine ia_ld (j := j) hx hb hG.K hP 13 0 rfl rfl (by omega) (by decide) dX2_forces_61 ?_
            refine top_i (y := nI (L.getD j 0)) (hsj) ?_
            refine lv_iconst (v := 0) hx hb dX2_forces_62 (by decide) ?_
            refine top_i (y := nI 0) (nI_0.symm) ?_
            refine vp_callSi (W.runV (As := [.int (nI (L.getD j 0)), .int (nI 0)]) (rest := []) ⟨hx, hb, hml, hown, hts⟩ (metX2_keepsChoices l G a iv f n (L.getD j 0) 0 (sCh S) hn hn4 (by omega) (by decide) hM.2.2.2.2.2.2.2.1 hW.chl hM.2.2.2.2.2.2.2.2.1 (by rw [hnS]; exact MR.HCH hW)) (cwV 2 hts (lw_V q1312 q1314 qs27 q36 q1315) rfl rfl rfl (by decide +kernel) ⟨Nat.le_of_ble_eq_true rfl, Nat.le_of_ble_eq_true rfl⟩) (pre_RV (q0 := 0) hG hP hS hA0 rfl rfl) rfl rfl hl.1 rfl (lv_room (Nat.le_of_ble_eq_true rfl)) dX2_forces_63 ⟨Nat.le_refl _, Nat.le_refl _⟩) (fun r_63 e_63 => ?_)
            subst e_63
            refine lv_if_eq (tgt := 94) hx hb dX2_forces_66 (by decide) (fun c_66 => ?_) (fun c_66 => ?_)
            · have h66 : okCh n (sCh S) 0 (L.getD j 0) = false := b2i_0.mp c_66
              exact J94 _ _ _ (by rw [htf, if_neg (by show ¬ (okCh n (sCh S) 0 (L.getD j 0) && tb n (L.getD j 0) g) = true; rw [h66, Bool.false_and]; exact Bool.false_ne_true), List.append_nil]) (by rw [htf, if_neg (by show ¬ (okCh n (sCh S) 0 (L.getD j 0) && tb n (L.getD j 0) g) = true; rw [h66, Bool.false_and]; exact Bool.false_ne_true), List.append_nil]) (by rw [htf, if_neg (by show ¬ (okCh n (sCh S) 0 (L.getD j 0) && tb n (L.getD j 0) g) = true; rw [h66, Bool.false_and]; exact Bool.false_ne_true), List.append_nil]) _ _ hP hD hS ls hl
            · have h66 : okCh n (sCh S) 0 (L.getD j 0) = true := b2i_n0.mp c_66
              refine lv_iload_n hx hb dX2_forces_69 rfl (lv_at hl 3 rfl) ?_
              refine lv_aload_n hx hb dX2_forces_70 rfl (lv_at hl 4 rfl) ?_
              refine va_get (D := gD G) (ci := 1) (v := .ref (a 17)) (C := RX2) (T := TX2) (N := 27) hx hb hts in_X2 hown hG.K hP 0 rfl rfl 17 (by decide) (hts _ q1170) (fun _ h9 => h9) rfl dX2_forces_71 ?_
              refine lv_iload hx hb dX2_forces_74 (lv_at hl 0 rfl) ?_
              refine ia_ld (j := j) hx hb hG.K hP 13 0 rfl rfl (by omega) (by decide) dX2_forces_76 ?_
              refine top_i (y := nI (L.getD j 0)) (hsj) ?_
              refine lv_iand hx hb dX2_forces_77 ?_
              refine lv_istore_n (lv' := [(3, .int ((anI ((L.take (j)).filter (fun x => okCh n (sCh S) 0 x && tb n x g))) &&& (nI (L.getD j 0)))), (6, .int (nI j)), (5, .int (b2i (!((L.take (j)).filter (fun x => okCh n (sCh S) 0 x && tb n x g)).isEmpty))), (4, .int (orI ((L.take (j)).filter (fun x => okCh n (sCh S) 0 x && tb n x g)))), (0, .ref (a 0)), (1, .int (nI g)), (2, .int (i))]) hx hb dX2_forces_78 rfl hl (by decide) rfl (fun ls hl => ?_)
              refine lv_iload hx hb dX2_forces_79 (lv_at hl 3 rfl) ?_
              refine lv_aload_n hx hb dX2_forces_81 rfl (lv_at hl 4 rfl) ?_
              refine va_get (D := gD G) (ci := 1) (v := .ref (a 17)) (C := RX2) (T := TX2) (N := 27) hx hb hts in_X2 hown hG.K hP 0 rfl rfl 17 (by decide) (hts _ q1170) (fun _ h9 => h9) rfl dX2_forces_82 ?_
              refine lv_iload hx hb dX2_forces_85 (lv_at hl 1 rfl) ?_
              refine ia_ld (j := j) hx hb hG.K hP 13 0 rfl rfl (by omega) (by decide) dX2_forces_87 ?_
              refine top_i (y := nI (L.getD j 0)) (hsj) ?_
              refine lv_ior hx hb dX2_forces_88 ?_
              refine lv_istore (lv' := [(4, .int ((orI ((L.take (j)).filter (fun x => okCh n (sCh S) 0 x && tb n x g))) ||| (nI (L.getD j 0)))), (3, .int ((anI ((L.take (j)).filter (fun x => okCh n (sCh S) 0 x && tb n x g))) &&& (nI (L.getD j 0)))), (6, .int (nI j)), (5, .int (b2i (!((L.take (j)).filter (fun x => okCh n (sCh S) 0 x && tb n x g)).isEmpty))), (0, .ref (a 0)), (1, .int (nI g)), (2, .int (i))]) hx hb dX2_forces_89 hl (by decide) rfl (fun ls hl => ?_)
              refine lv_iconst (v := 1) hx hb dX2_forces_91 (by decide) ?_
              refine lv_istore (lv' := [(5, .int (1)), (4, .int ((orI ((L.take (j)).filter (fun x => okCh n (sCh S) 0 x && tb n x g))) ||| (nI (L.getD j 0)))), (3, .int ((anI ((L.take (j)).filter (fun x => okCh n (sCh S) 0 x && tb n x g))) &&& (nI (L.getD j 0)))), (6, .int (nI j)), (0, .ref (a 0)), (1, .int (nI g)), (2, .int (i))]) hx hb dX2_forces_92 hl (by decide) rfl (fun ls hl => ?_)
              exact J94 _ _ _ (by rw [htf, if_pos (by show (okCh n (sCh S) 0 (L.getD j 0) && tb n (L.getD j 0) g) = true; rw [h51, h66]; rfl)]; simp [b2i]) (by rw [htf, if_pos (by show (okCh n (sCh S) 0 (L.getD j 0) && tb n (L.getD j 0) g) = true; rw [h51, h66]; rfl)]; exact (orI_s _ _).symm) (by rw [htf, if_pos (by show (okCh n (sCh S) 0 (L.getD j 0) && tb n (L.getD j 0) g) = true; rw [h51, h66]; rfl)]; exact (anI_s _ _).symm) _ _ hP hD hS ls (lv_sub hl [3, 0, 1, 2, 4, 5, 6] rfl)
    refine lv_iconst (v := (-1)) hx hb dX2_forces_19 (by decide) ?_
    refine lv_istore_n (lv' := [(3, .int (-1)), (0, .ref (a 0)), (1, .int (nI g)), (2, .int (i))]) hx hb dX2_forces_20 rfl hl (by decide) rfl (fun ls hl => ?_)
    refine lv_iconst (v := 0) hx hb dX2_forces_21 (by decide) ?_
    refine lv_istore (lv' := [(4, .int (0)), (3, .int (-1)), (0, .ref (a 0)), (1, .int (nI g)), (2, .int (i))]) hx hb dX2_forces_22 hl (by decide) rfl (fun ls hl => ?_)
    refine lv_iconst (v := 0) hx hb dX2_forces_24 (by decide) ?_
    refine lv_istore (lv' := [(5, .int (0)), (4, .int (0)), (3, .int (-1)), (0, .ref (a 0)), (1, .int (nI g)), (2, .int (i))]) hx hb dX2_forces_25 hl (by decide) rfl (fun ls hl => ?_)
    refine lv_iconst (v := 0) hx hb dX2_forces_27 (by decide) ?_
    refine lv_istore (lv' := [(6, .int (0)), (5, .int (0)), (4, .int (0)), (3, .int (-1)), (0, .ref (a 0)), (1, .int (nI g)), (2, .int (i))]) hx hb dX2_forces_28 hl (by decide) rfl (fun ls hl => ?_)
    exact L30 (L.length + 1) 0 _ _ _ _ (by omega) (by omega) rfl rfl rfl rfl _ _ hP hD hS ls hl
  · have h10 : isF x (nI n) = false := b2i_0.mp c_10
    refine lv_iconst (v := (-1)) hx hb dX2_forces_13 (by decide) ?_
    exact ret (-1) _ 14 ls _ _ 0 0 dX2_forces_14 rfl (Nat.le_refl _) (Nat.le_refl _) hP hD hS (by subst hnS; exact mwq (fc_1 h10).symm rfl hM)
