def sEnd (S : St) (fd : List (Nat × Nat)) (vr : Option (Nat × Nat)) (wy : List Lit) : St := (sN S, sPa S, sKi S, sGr S, sNf S, sFo S, sAt S, sLm S, sCh S, fd, vr, wy)
theorem WS_end {S : St} {fd : List (Nat × Nat)} {vr : Option (Nat × Nat)} {wy : List Lit} (h : WS S) (h1 : ∀ q ∈ fd, q.1 ≤ sN S ∧ q.2 < 2 ^ q.1) (h2 : fd.length ≤ 200) (h3 : ∀ q, vr = some q → q.1 ≤ sN S ∧ q.2 < 2 ^ q.1) (h4 : ∀ t ∈ wy, 1 ≤ t.1 ∧ t.1 ≤ sN S) (h5 : wy.length ≤ 14) : WS (sEnd S fd vr wy) := by
  obtain ⟨m1, m2, m3, m4, m5, m6, m7, m8, m9, -⟩ := h
  exact ⟨m1, m2, m3, m4, m5, m6, m7, m8, m9, h1, h2, h3, h4, h5⟩
theorem WS_e0 {S : St} (h : WS S) : WS (sEnd S (sFd S) (sVr S) []) := by
  obtain ⟨m1, m2, m3, m4, m5, m6, m7, m8, m9, m10, m11, m12, -⟩ := h
  exact ⟨m1, m2, m3, m4, m5, m6, m7, m8, m9, m10, m11, m12, fun t ht => absurd ht List.not_mem_nil, Nat.zero_le _⟩
theorem WS_e1 {S : St} (h : WS S) : WS (sEnd S (sFd S) none []) := by
  obtain ⟨m1, m2, m3, m4, m5, m6, m7, m8, m9, m10, m11, -⟩ := h
  exact ⟨m1, m2, m3, m4, m5, m6, m7, m8, m9, m10, m11, fun q hq => (by cases hq), fun t ht => absurd ht List.not_mem_nil, Nat.zero_le _⟩
theorem MR_e0 {S : St} {iv : Nat → Int32} {f : Nat → Nat → Int32} (h : MR S iv f) : MR (sEnd S (sFd S) (sVr S) []) (va_up (va_up iv 0 0) 26 0) f := by
  obtain ⟨m1, m2, m3, m4, m5, m6, m7, m8, m9, m10, m11, m12, m13, m14, -⟩ := h
  exact ⟨m1, m2, m3, m4, m5, m6, m7, m8, m9, m10, m11, m12, m13, m14, nI_0.symm, fun k hk => absurd hk (Nat.not_lt_zero _)⟩
theorem MR_e1 {S : St} {iv : Nat → Int32} {f : Nat → Nat → Int32} (h : MR (sEnd S (sFd S) (sVr S) []) iv f) : MR (sEnd S (sFd S) none []) (va_up iv 22 0) f := by
  obtain ⟨m1, m2, m3, m4, m5, m6, m7, m8, m9, m10, m11, m12, m13, m14, m15, m16⟩ := h
  exact ⟨m1, m2, m3, m4, m5, m6, m7, m8, m9, m10, m11, m12, rfl, fun q hq => (by cases hq), m15, m16⟩
theorem MR_e2 {S : St} {iv : Nat → Int32} {f : Nat → Nat → Int32} {x : Nat} (h : MR (sEnd S (sFd S) (sVr S) []) iv f) : MR (sEnd S (sFd S) (some (sN S, x)) []) (va_up (va_up (va_up iv 22 1) 23 (nI x)) 24 (nI (sN S))) f := by
  obtain ⟨m1, m2, m3, m4, m5, m6, m7, m8, m9, m10, m11, m12, m13, m14, m15, m16⟩ := h
  exact ⟨m1, m2, m3, m4, m5, m6, m7, m8, m9, m10, m11, m12, rfl, fun q hq => by cases hq; exact ⟨rfl, rfl⟩, m15, m16⟩
theorem push_fd {l : List (Nat × Nat)} {n x : Nat} {f h : Nat → Int32} (hf : ∀ k, k < l.length → f (k + 1) = nI (l.getD k (0, 0)).2 ∧ h (k + 1) = nI (l.getD k (0, 0)).1) : ∀ k, k < (l ++ [(n, x)]).length → upd f (l.length + 1) (nI x) (k + 1) = nI ((l ++ [(n, x)]).getD k (0, 0)).2 ∧ upd h (l.length + 1) (nI n) (k + 1) = nI ((l ++ [(n, x)]).getD k (0, 0)).1 := by
  intro k hk
  rw [List.length_append, List.length_singleton] at hk
  rw [List.getD_eq_getElem?_getD, List.getElem?_append]
  by_cases h : k < l.length
  · rw [if_pos h, pk_un (by omega), pk_un (by omega), ← List.getD_eq_getElem?_getD]
    exact hf k h
  · have : k = l.length := by omega
    subst this
    rw [if_neg h, pk_us, pk_us, Nat.sub_self]
    exact ⟨rfl, rfl⟩
theorem MR_e3 {S : St} {iv : Nat → Int32} {f : Nat → Nat → Int32} {x : Nat} (h : MR (sEnd S (sFd S) (sVr S) []) iv f) : MR (sEnd S (sFd S ++ [(sN S, x)]) (some (sN S, x)) []) (va_up (va_up (va_up (va_up iv 22 1) 23 (nI x)) 24 (nI (sN S))) 20 (nI ((sFd S).length + 1))) (va_up (va_up f 19 (upd (f 19) ((sFd S).length + 1) (nI x))) 21 (upd (f 21) ((sFd S).length + 1) (nI (sN S)))) := by
  obtain ⟨m1, m2, m3, m4, m5, m6, m7, m8, m9, m10, m11, m12, m13, m14, m15, m16⟩ := h
  exact ⟨m1, m2, m3, m4, m5, m6, m7, m8, m9, m10, by show _ = nI (sFd S ++ [(sN S, x)]).length; rw [List.length_append]; rfl, push_fd m12, rfl, fun q hq => by cases hq; exact ⟨rfl, rfl⟩, m15, m16⟩
theorem MR_e4 {S : St} {iv : Nat → Int32} {f : Nat → Nat → Int32} {wy : List Lit} {t : Lit} (h : MR (sEnd S (sFd S) none wy) iv f) : MR (sEnd S (sFd S) none (wy ++ [t])) (va_up iv 26 (nI (wy.length + 1))) (va_up f 25 (upd (f 25) wy.length (litI t))) := by
  obtain ⟨m1, m2, m3, m4, m5, m6, m7, m8, m9, m10, m11, m12, m13, m14, m15, m16⟩ := h
  exact ⟨m1, m2, m3, m4, m5, m6, m7, m8, m9, m10, m11, m12, m13, m14, by show _ = nI (wy ++ [t]).length; rw [List.length_append]; rfl, push_lit m16 rfl⟩
theorem fsN_lt {P : Nat → Bool} {m x : Nat} (h : fsN P m = some x) : x < m ∧ P x = true := by
  induction m with
  | zero => cases h
  | succ m ih =>
    rw [fsN] at h
    split at h
    · rename_i hp; cases h; exact ⟨by omega, hp⟩
    · have := ih h; exact ⟨by omega, this.2⟩
theorem gnN_lt (S : St) (k : Nat) : gnN S k < 2 ^ k := by
  induction k with
  | zero => exact Nat.one_pos
  | succ k ih =>
    rw [gnN]
    have h1 : gnN S k < 2 ^ (k + 1) := by rw [Nat.pow_succ]; omega
    split
    · exact Nat.or_lt_two_pow h1 (by rw [Nat.pow_succ]; have := Nat.two_pow_pos k; omega)
    · exact h1
theorem whL_len (ch : List Lit) (gn k : Nat) : (whL ch gn k).length ≤ k := by
  induction k with
  | zero => exact Nat.le_refl _
  | succ k ih => rw [whL]; split; · omega
                 · rw [List.length_append, List.length_singleton]; omega
theorem optI_ge {o : Option Nat} (h : 0 ≤ optI o) : o.isNone = false := by
  cases o with
  | none => exact absurd h (by decide)
  | some x => rfl
theorem optI_lt {S : St} {w : Nat} (hn : sN S ≤ 14) (h : ¬ 0 ≤ optI (fsA S w)) : (fsA S w).isNone = true := by
  cases ho : fsA S w with
  | none => rfl
  | some x =>
    have h1 := (fsN_lt ho).1
    have h2 := p2_14 hn
    rw [ho] at h
    exact absurd (nI_pos' (by omega)) h
theorem p2_le {k n : Nat} (h : k ≤ n) : 2 ^ k ≤ 2 ^ n := Nat.pow_le_pow_right (by decide) h
theorem sv_1 {S : St} {x : Nat} (h : fsA S 0 = some x) (h1 : (sFd S).length < 200) : stSolve S = (1, sEnd S (sFd S ++ [(sN S, x)]) (some (sN S, x)) []) := by unfold stSolve; rw [h]; show (1, _) = _; rw [if_pos h1]; rfl
theorem sv_2 {S : St} {x : Nat} (h : fsA S 0 = some x) (h1 : ¬ (sFd S).length < 200) : stSolve S = (1, sEnd S (sFd S) (some (sN S, x)) []) := by unfold stSolve; rw [h]; show (1, _) = _; rw [if_neg h1]; rfl
theorem sv_3 {S : St} (h : fsA S 0 = none) : stSolve S = (0, sEnd S (sFd S) none (whL (sCh S) (gnN S (sCh S).length) (sCh S).length)) := by unfold stSolve; rw [h]; rfl
set_option maxHeartbeats 4000000 in
set_option maxRecDepth 100000 in
theorem metX2_solve (l : Launch) (G : Gt) (a : Nat → Nat) (iv : Nat → Int32) (f : Nat → Nat → Int32) (S : St) (hW : WS S) (hM : MR S iv f) (sz : Nat) : CWi l G yX2_solve cX2_solve 4 .int 5 0 0 112 [.ref (a 0)] (wM G a iv f) sz (fun r w1 => r = (stSolve S).1 ∧ MW G a (stSolve S).2 w1) := by
  refine mkWi (by decide) (Nat.le_of_ble_eq_true rfl) ?_
  intro p e s m args below meth c Q A hx hb hts hown hin hml hG hsz hP hD hA hA0 hS ret ls hl
  obtain ⟨n, hnS⟩ : ∃ n, n = sN S := ⟨_, rfl⟩
  have hn : iv 7 = nI n := by rw [hnS]; exact hM.1
  have hn4 : n ≤ 14 := by rw [hnS]; exact hW.1
  have hp2 := p2_14 hn4
  have hcl := hW.chl
  obtain ⟨cl, hcle⟩ : ∃ cl, cl = (sCh S).length := ⟨_, rfl⟩
  have hcl4 : cl ≤ 14 := by rw [hcle]; exact hcl
  refine lv_aload_n hx hb dX2_solve_0 rfl (lv_at hl 0 rfl) ?_
  refine lv_iconst (v := 0) hx hb dX2_solve_1 (by decide) ?_
  refine va_put (D := gD G) (ci := 1) (v := .int (0)) (ty := .int) (C := RX2) (T := TX2) (N := 27) hx hb hts in_X2 tyX2 tyX2_ok nmX2 hown hG.K hP hD hS 0 rfl rfl 0 (by decide) (hts _ q1153) (fun _ h9 => h9) rfl (by decide +kernel) rfl rfl (Nat.le_of_ble_eq_true rfl) dX2_solve_2 (fun H locs hP hD hS => ?_)
  have hP : wP G (wM G a (va_up iv 0 (0)) f) H := hP
  have hD : va_D A (wM G a (va_up iv 0 (0)) f) := hD
  refine lv_aload_n hx hb dX2_solve_5 rfl (lv_at hl 0 rfl) ?_
  refine lv_iconst (v := 0) hx hb dX2_solve_6 (by decide) ?_
  refine va_put (D := gD G) (ci := 1) (v := .int (0)) (ty := .int) (C := RX2) (T := TX2) (N := 27) hx hb hts in_X2 tyX2 tyX2_ok nmX2 hown hG.K hP hD hS 0 rfl rfl 26 (by decide) (hts _ q1179) (fun _ h9 => h9) rfl (by decide +kernel) rfl rfl (Nat.le_of_ble_eq_true rfl) dX2_solve_7 (fun H locs hP hD hS => ?_)
  have hP : wP G (wM G a (va_up (va_up iv 0 (0)) 26 (0)) f) H := hP
  have hD : va_D A (wM G a (va_up (va_up iv 0 (0)) 26 (0)) f) := hD
  refine lv_aload_n hx hb dX2_solve_10 rfl (lv_at hl 0 rfl) ?_
  refine lv_iconst (v := 0) hx hb dX2_solve_11 (by decide) ?_
  refine top_i (y := nI 0) (nI_0.symm) ?_
  refine cl_i0 (va_runV (As := [.int (nI 0)]) (rest := []) ⟨hx, hb, hml, hown, hts⟩ (metX2_firstWithout l G a (va_up (va_up iv 0 (0)) 26 (0)) f (sEnd S (sFd S) (sVr S) []) (WS_e0 hW) (MR_e0 hM) 0 (by decide) _) (cwV 1 hts (lw_V q1284 q1286 qs20 q36 q1287) rfl rfl rfl (by decide +kernel) ⟨Nat.le_of_ble_eq_true rfl, Nat.le_of_ble_eq_true rfl⟩) (pre_WV0 (q0 := 0) hG hP hD hS hA0 rfl rfl) rfl rfl hl.1 rfl (lv_room (Nat.le_of_ble_eq_true rfl)) dX2_solve_12 ⟨Nat.le_refl _, Nat.le_refl _⟩) hP hD hS hA (fun r_12 w1 H locs hp hP hD hS => ?_)
  obtain ⟨rfl, iv, f, rfl, hM⟩ := hp
  clear hn
  have hn : iv 7 = nI n := by rw [hnS]; exact hM.1
  have hfd : iv 20 = nI (sFd S).length := hM.2.2.2.2.2.2.2.2.2.2.1
  have hfd4 : (sFd S).length ≤ 200 := hW.2.2.2.2.2.2.2.2.2.2.1
  rcases hfs : fsA S 0 with _ | x
  · skip
    refine top_i (y := -1) (congrArg optI hfs) ?_
    refine lv_istore_n (lv' := [(1, .int (-1)), (0, .ref (a 0))]) hx hb dX2_solve_15 rfl hl (by decide) rfl (fun ls hl => ?_)
    refine lv_aload_n hx hb dX2_solve_16 rfl (lv_at hl 1 rfl) ?_
    refine lv_iload_n hx hb dX2_solve_17 rfl (lv_at hl 0 rfl) ?_
    refine lv_if_lt (tgt := 25) hx hb dX2_solve_18 (by decide) (fun c_18 => ?_) (fun c_18 => absurd (by decide) c_18)
    refine lv_iconst (v := 0) hx hb dX2_solve_25 (by decide) ?_
    refine va_put (D := gD G) (ci := 1) (v := .int (0)) (ty := .boolean) (C := RX2) (T := TX2) (N := 27) hx hb hts in_X2 tyX2 tyX2_ok nmX2 hown hG.K hP hD hS 0 rfl rfl 22 (by decide) (hts _ q1175) (fun _ h9 => h9) rfl (by decide +kernel) rfl rfl (Nat.le_of_ble_eq_true rfl) dX2_solve_26 (fun H locs hP hD hS => ?_)
    have hP : wP G (wM G a (va_up iv 22 (0)) f) H := hP
    have hD : va_D A (wM G a (va_up iv 22 (0)) f) := hD
    refine lv_aload_n hx hb dX2_solve_29 rfl (lv_at hl 1 rfl) ?_
    refine va_get (D := gD G) (ci := 1) (v := .int (0)) (C := RX2) (T := TX2) (N := 27) hx hb hts in_X2 hown hG.K hP 0 rfl rfl 22 (by decide) (hts _ q1175) (fun _ h9 => h9) rfl dX2_solve_30 ?_
    refine lv_if_eq (tgt := 94) hx hb dX2_solve_33 (by decide) (fun c_33 => ?_) (fun c_33 => absurd (rfl) c_33)
    have hgl := gnN_lt S cl
    have hgl2 := p2_le hcl4
    have L136 : ∀ (d : Nat) (k : Nat) (v3 : Int32) (iv : Nat → Int32) (f : Nat → Nat → Int32), k ≤ cl → cl + 1 ≤ k + d → v3 = nI k → MR (sEnd S (sFd S) none (whL (sCh S) (gnN S cl) k)) iv f → ∀ (H : Heap) (locs : List Loc), wP G (wM G a iv f) H → va_D A (wM G a iv f) → va_S A s.heap H locs → ∀ ls : Array Slot, lv_has ls 4 [(3, .int (v3)), (2, .int (nI (gnN S cl))), (0, .ref (a 0)), (1, .int (-1))] → W p l e (rm_ 5 0 0 112) s m args below meth c H locs 0 0 Q (F0 m 136 ls []) := by
      intro d
      induction d with
      | zero => intros; omega
      | succ d ih_136 =>
        intro k v3 iv f hk2 hd e3 hM H locs hP hD hS ls hl
        subst e3
        have hcv : iv 15 = nI cl := by rw [hcle]; exact hM.2.2.2.2.2.2.2.1
        have hwv : iv 26 = nI (whL (sCh S) (gnN S cl) k).length := hM.2.2.2.2.2.2.2.2.2.2.2.2.2.2.1
        have hwl := whL_len (sCh S) (gnN S cl) k
        refine lv_iload_n hx hb dX2_solve_136 rfl (lv_at hl 0 rfl) ?_
        refine lv_aload_n hx hb dX2_solve_137 rfl (lv_at hl 2 rfl) ?_
        refine va_get (D := gD G) (ci := 1) (v := .int (iv 15)) (C := RX2) (T := TX2) (N := 27) hx hb hts in_X2 hown hG.K hP 0 rfl rfl 15 (by decide) (hts _ q1168) (fun _ h9 => h9) rfl dX2_solve_138 ?_
        refine top_i (y := nI cl) (hcv) ?_
        refine lv_icmp_ge (tgt := 183) hx hb dX2_solve_141 (by decide) (fun c_141 => ?_) (fun c_141 => ?_)
        · have h141 : cl ≤ k := nI_ge' (a := k) (b := cl) c_141; have hk4 : k = cl := (by omega); subst hk4
          refine lv_iconst (v := 0) hx hb dX2_solve_183 (by decide) ?_
          exact ret (0) _ 184 ls _ _ 0 0 dX2_solve_184 rfl (Nat.le_refl _) (Nat.le_refl _) hP hD hS (by subst hcle; exact mwr (sv_3 hfs) rfl hM)
        · have h141 : k < cl := nI_nge (a := k) (b := cl) c_141; have hcf : f 14 k = litI ((sCh S).getD k (0, true)) := hM.2.2.2.2.2.2.2.2.1 k (by show k < (sCh S).length; omega)
          refine lv_iload_n hx hb dX2_solve_144 rfl (lv_at hl 1 rfl) ?_
          refine lv_iload_n hx hb dX2_solve_145 rfl (lv_at hl 0 rfl) ?_
          refine lv_ishr hx hb dX2_solve_146 ?_
          refine lv_iconst (v := 1) hx hb dX2_solve_147 (by decide) ?_
          refine lv_iand hx hb dX2_solve_148 ?_
          refine top_i (y := b2i ((gnN S cl).testBit k)) (bit_1 (by omega) (by omega)) ?_
          refine lv_if_ne (tgt := 177) hx hb dX2_solve_149 (by decide) (fun c_149 => ?_) (fun c_149 => ?_)
          · have h149 : (gnN S cl).testBit k = true := b2i_n0.mp c_149
            refine lv_iinc (v := nI (k + 1)) (lv' := [(3, .int (nI (k + 1))), (2, .int (nI (gnN S cl))), (0, .ref (a 0)), (1, .int (-1))]) hx hb dX2_solve_177 hl (k := 0) rfl (nI_1 k) (by decide) rfl (fun ls hl => ?_)
            refine lv_goto (tgt := 136) hx hb dX2_solve_180 (by decide) ?_
            exact ih_136 (k + 1) _ iv f (by omega) (by omega) rfl (by rw [whL, h149]; exact hM) _ _ hP hD hS ls hl
          · have h149 : (gnN S cl).testBit k = false := b2i_0.mp c_149
            refine lv_aload_n hx hb dX2_solve_152 rfl (lv_at hl 2 rfl) ?_
            refine va_get (D := gD G) (ci := 1) (v := .ref (a 25)) (C := RX2) (T := TX2) (N := 27) hx hb hts in_X2 hown hG.K hP 0 rfl rfl 25 (by decide) (hts _ q1178) (fun _ h9 => h9) rfl dX2_solve_153 ?_
            refine lv_aload_n hx hb dX2_solve_156 rfl (lv_at hl 2 rfl) ?_
            refine va_get (D := gD G) (ci := 1) (v := .int (iv 26)) (C := RX2) (T := TX2) (N := 27) hx hb hts in_X2 hown hG.K hP 0 rfl rfl 26 (by decide) (hts _ q1179) (fun _ h9 => h9) rfl dX2_solve_157 ?_
            refine top_i (y := nI (whL (sCh S) (gnN S cl) k).length) (hwv) ?_
            refine lv_aload_n hx hb dX2_solve_160 rfl (lv_at hl 2 rfl) ?_
            refine va_get (D := gD G) (ci := 1) (v := .ref (a 14)) (C := RX2) (T := TX2) (N := 27) hx hb hts in_X2 hown hG.K hP 0 rfl rfl 14 (by decide) (hts _ q1167) (fun _ h9 => h9) rfl dX2_solve_161 ?_
            refine lv_iload_n hx hb dX2_solve_164 rfl (lv_at hl 0 rfl) ?_
            refine ia_ld (j := k) hx hb hG.K hP 12 0 rfl rfl (by omega) (by decide) dX2_solve_165 ?_
            refine top_i (y := litI ((sCh S).getD k (0, true))) (hcf) ?_
            refine ia_st (j := (whL (sCh S) (gnN S cl) k).length) hx hb hG.K hP hD hS 16 0 rfl rfl (by omega) (by decide) dX2_solve_166 (fun H locs hP hD hS => ?_)
            have hP : wP G (wM G a iv (va_up f 25 (upd (f 25) ((whL (sCh S) (gnN S cl) k).length) (litI ((sCh S).getD k (0, true)))))) H := hP
            have hD : va_D A (wM G a iv (va_up f 25 (upd (f 25) ((whL (sCh S) (gnN S cl) k).length) (litI ((sCh S).getD k (0, true)))))) := hD
            refine lv_aload_n hx hb dX2_solve_167 rfl (lv_at hl 2 rfl) ?_
            refine lv_dup hx hb dX2_solve_168 rfl ?_
            refine va_get (D := gD G) (ci := 1) (v := .int (iv 26)) (C := RX2) (T := TX2) (N := 27) hx hb hts in_X2 hown hG.K hP 0 rfl rfl 26 (by decide) (hts _ q1179) (fun _ h9 => h9) rfl dX2_solve_169 ?_
            refine top_i (y := nI (whL (sCh S) (gnN S cl) k).length) (hwv) ?_
            refine lv_iconst (v := 1) hx hb dX2_solve_172 (by decide) ?_
            refine lv_iadd hx hb dX2_solve_173 ?_
            refine top_i (y := nI ((whL (sCh S) (gnN S cl) k).length + 1)) (nI_1 _) ?_
            refine va_put (D := gD G) (ci := 1) (v := .int (nI ((whL (sCh S) (gnN S cl) k).length + 1))) (ty := .int) (C := RX2) (T := TX2) (N := 27) hx hb hts in_X2 tyX2 tyX2_ok nmX2 hown hG.K hP hD hS 0 rfl rfl 26 (by decide) (hts _ q1179) (fun _ h9 => h9) rfl (by decide +kernel) rfl rfl (Nat.le_of_ble_eq_true rfl) dX2_solve_174 (fun H locs hP hD hS => ?_)
            have hP : wP G (wM G a (va_up iv 26 (nI ((whL (sCh S) (gnN S cl) k).length + 1))) (va_up f 25 (upd (f 25) ((whL (sCh S) (gnN S cl) k).length) (litI ((sCh S).getD k (0, true)))))) H := hP
            have hD : va_D A (wM G a (va_up iv 26 (nI ((whL (sCh S) (gnN S cl) k).length + 1))) (va_up f 25 (upd (f 25) ((whL (sCh S) (gnN S cl) k).length) (litI ((sCh S).getD k (0, true)))))) := hD
            refine lv_iinc (v := nI (k + 1)) (lv' := [(3, .int (nI (k + 1))), (2, .int (nI (gnN S cl))), (0, .ref (a 0)), (1, .int (-1))]) hx hb dX2_solve_177 hl (k := 0) rfl (nI_1 k) (by decide) rfl (fun ls hl => ?_)
            refine lv_goto (tgt := 136) hx hb dX2_solve_180 (by decide) ?_
            exact ih_136 (k + 1) _ (va_up iv 26 (nI ((whL (sCh S) (gnN S cl) k).length + 1))) (va_up f 25 (upd (f 25) ((whL (sCh S) (gnN S cl) k).length) (litI ((sCh S).getD k (0, true))))) (by omega) (by omega) rfl (by rw [whL, h149]; exact MR_e4 hM) _ _ hP hD hS ls hl
    have L98 : ∀ (d : Nat) (k : Nat) (v3 v2 : Int32) (iv : Nat → Int32) (f : Nat → Nat → Int32), k ≤ cl → cl + 1 ≤ k + d → v3 = nI k → v2 = nI (gnN S k) → MR (sEnd S (sFd S) none []) iv f → ∀ (H : Heap) (locs : List Loc), wP G (wM G a iv f) H → va_D A (wM G a iv f) → va_S A s.heap H locs → ∀ ls : Array Slot, lv_has ls 4 [(3, .int (v3)), (2, .int (v2)), (0, .ref (a 0)), (1, .int (-1))] → W p l e (rm_ 5 0 0 112) s m args below meth c H locs 0 0 Q (F0 m 98 ls []) := by
      intro d
      induction d with
      | zero => intros; omega
      | succ d ih_98 =>
        intro k v3 v2 iv f hk2 hd e3 e2 hM H locs hP hD hS ls hl
        subst e3 e2
        have hcv : iv 15 = nI cl := by rw [hcle]; exact hM.2.2.2.2.2.2.2.1
        refine lv_iload_n hx hb dX2_solve_98 rfl (lv_at hl 0 rfl) ?_
        refine lv_aload_n hx hb dX2_solve_99 rfl (lv_at hl 2 rfl) ?_
        refine va_get (D := gD G) (ci := 1) (v := .int (iv 15)) (C := RX2) (T := TX2) (N := 27) hx hb hts in_X2 hown hG.K hP 0 rfl rfl 15 (by decide) (hts _ q1168) (fun _ h9 => h9) rfl dX2_solve_100 ?_
        refine top_i (y := nI cl) (hcv) ?_
        refine lv_icmp_ge (tgt := 134) hx hb dX2_solve_103 (by decide) (fun c_103 => ?_) (fun c_103 => ?_)
        · have h103 : cl ≤ k := nI_ge' (a := k) (b := cl) c_103; have hk4 : k = cl := (by omega); subst hk4
          refine lv_iconst (v := 0) hx hb dX2_solve_134 (by decide) ?_
          refine lv_istore_n (lv' := [(3, .int (0)), (2, .int (nI (gnN S k))), (0, .ref (a 0)), (1, .int (-1))]) hx hb dX2_solve_135 rfl hl (by decide) rfl (fun ls hl => ?_)
          exact L136 (k + 1) 0 _ iv f (by omega) (by omega) rfl hM _ _ hP hD hS ls hl
        · have h103 : k < cl := nI_nge (a := k) (b := cl) c_103; have hg1 := gnN_lt S k; have hg2 := p2_le (show k ≤ 14 by omega); have hg3 : gnN S k ||| 2 ^ k < 2 ^ 15 := Nat.or_lt_two_pow (by omega) (Nat.lt_of_le_of_lt hg2 (by decide))
          refine lv_aload_n hx hb dX2_solve_106 rfl (lv_at hl 2 rfl) ?_
          refine lv_iload_n hx hb dX2_solve_107 rfl (lv_at hl 1 rfl) ?_
          refine lv_iconst (v := 1) hx hb dX2_solve_108 (by decide) ?_
          refine lv_iload_n hx hb dX2_solve_109 rfl (lv_at hl 0 rfl) ?_
          refine lv_ishl hx hb dX2_solve_110 ?_
          refine lv_ior hx hb dX2_solve_111 ?_
          refine top_i (y := nI (gnN S k ||| 2 ^ k)) (by rw [show (1 : Int32) = nI 1 from rfl, sh_l (by omega) (by omega), Nat.one_mul, nx_or]) ?_
          refine cl_i0 (va_runV (As := [.int (nI (gnN S k ||| 2 ^ k))]) (rest := []) ⟨hx, hb, hml, hown, hts⟩ (metX2_firstWithout l G a iv f (sEnd S (sFd S) none []) (WS_e1 hW) hM (gnN S k ||| 2 ^ k) (by omega) _) (cwV 1 hts (lw_V q1284 q1286 qs20 q36 q1287) rfl rfl rfl (by decide +kernel) ⟨Nat.le_of_ble_eq_true rfl, Nat.le_of_ble_eq_true rfl⟩) (pre_WV0 (q0 := 0) hG hP hD hS hA0 rfl rfl) rfl rfl hl.1 rfl (lv_room (Nat.le_of_ble_eq_true rfl)) dX2_solve_112 ⟨Nat.le_refl _, Nat.le_refl _⟩) hP hD hS hA (fun r_112 w1 H locs hp hP hD hS => ?_)
          obtain ⟨rfl, iv, f, rfl, hM⟩ := hp
          clear hcv
          have J127 : ∀ (v v2 : Int32), v = nI (gnN S (k + 1)) → ∀ (H : Heap) (locs : List Loc), wP G (wM G a iv f) H → va_D A (wM G a iv f) → va_S A s.heap H locs → ∀ ls : Array Slot, lv_has ls 4 [(3, .int (nI k)), (2, .int (v2)), (0, .ref (a 0)), (1, .int (-1))] → W p l e (rm_ 5 0 0 112) s m args below meth c H locs 0 0 Q (F0 m 127 ls [.int (v)]) := by
            intro v v2 ev H locs hP hD hS ls hl
            subst ev
            refine lv_istore_n (lv' := [(2, .int (nI (gnN S (k + 1)))), (3, .int (nI k)), (0, .ref (a 0)), (1, .int (-1))]) hx hb dX2_solve_127 rfl hl (by decide) rfl (fun ls hl => ?_)
            refine lv_iinc (v := nI (k + 1)) (lv' := [(3, .int (nI (k + 1))), (2, .int (nI (gnN S (k + 1)))), (0, .ref (a 0)), (1, .int (-1))]) hx hb dX2_solve_128 hl (k := 1) rfl (nI_1 k) (by decide) rfl (fun ls hl => ?_)
            refine lv_goto (tgt := 98) hx hb dX2_solve_131 (by decide) ?_
            exact ih_98 (k + 1) _ _ iv f (by omega) (by omega) rfl rfl hM _ _ hP hD hS ls hl
          refine lv_if_ge (tgt := 126) hx hb dX2_solve_115 (by decide) (fun c_115 => ?_) (fun c_115 => ?_)
          · have h115 : (fsA S (gnN S k ||| 2 ^ k)).isNone = false := optI_ge c_115
            refine lv_iload_n hx hb dX2_solve_126 rfl (lv_at hl 1 rfl) ?_
            exact J127 _ _ (by rw [gnN, h115]; rfl) _ _ hP hD hS ls hl
          · have h115 : (fsA S (gnN S k ||| 2 ^ k)).isNone = true := optI_lt hW.1 c_115
            refine lv_iload_n hx hb dX2_solve_118 rfl (lv_at hl 1 rfl) ?_
            refine lv_iconst (v := 1) hx hb dX2_solve_119 (by decide) ?_
            refine lv_iload_n hx hb dX2_solve_120 rfl (lv_at hl 0 rfl) ?_
            refine lv_ishl hx hb dX2_solve_121 ?_
            refine lv_ior hx hb dX2_solve_122 ?_
            refine top_i (y := nI (gnN S k ||| 2 ^ k)) (by rw [show (1 : Int32) = nI 1 from rfl, sh_l (by omega) (by omega), Nat.one_mul, nx_or]) ?_
            refine lv_goto (tgt := 127) hx hb dX2_solve_123 (by decide) ?_
            exact J127 _ _ (by rw [gnN, h115]; rfl) _ _ hP hD hS ls hl
    refine lv_iconst (v := 0) hx hb dX2_solve_94 (by decide) ?_
    refine lv_istore_n (lv' := [(2, .int (0)), (1, .int (-1)), (0, .ref (a 0))]) hx hb dX2_solve_95 rfl hl (by decide) rfl (fun ls hl => ?_)
    refine lv_iconst (v := 0) hx hb dX2_solve_96 (by decide) ?_
    refine lv_istore_n (lv' := [(3, .int (0)), (2, .int (0)), (1, .int (-1)), (0, .ref (a 0))]) hx hb dX2_solve_97 rfl hl (by decide) rfl (fun ls hl => ?_)
    exact L98 (cl + 1) 0 _ _ (va_up iv 22 (0)) f (by omega) (by omega) rfl rfl (MR_e1 hM) _ _ hP hD hS ls (lv_sub hl [0, 1, 3, 2] rfl)
  · skip
    have hxb : x < 2 ^ n := by rw [hnS]; exact (fsN_lt hfs).1
    refine top_i (y := nI x) (congrArg optI hfs) ?_
    refine lv_istore_n (lv' := [(1, .int (nI x)), (0, .ref (a 0))]) hx hb dX2_solve_15 rfl hl (by decide) rfl (fun ls hl => ?_)
    refine lv_aload_n hx hb dX2_solve_16 rfl (lv_at hl 1 rfl) ?_
    refine lv_iload_n hx hb dX2_solve_17 rfl (lv_at hl 0 rfl) ?_
    refine lv_if_lt (tgt := 25) hx hb dX2_solve_18 (by decide) (fun c_18 => absurd c_18 (nI_pos (by omega))) (fun c_18 => ?_)
    refine lv_iconst (v := 1) hx hb dX2_solve_21 (by decide) ?_
    refine lv_goto (tgt := 26) hx hb dX2_solve_22 (by decide) ?_
    refine va_put (D := gD G) (ci := 1) (v := .int (1)) (ty := .boolean) (C := RX2) (T := TX2) (N := 27) hx hb hts in_X2 tyX2 tyX2_ok nmX2 hown hG.K hP hD hS 0 rfl rfl 22 (by decide) (hts _ q1175) (fun _ h9 => h9) rfl (by decide +kernel) rfl rfl (Nat.le_of_ble_eq_true rfl) dX2_solve_26 (fun H locs hP hD hS => ?_)
    have hP : wP G (wM G a (va_up iv 22 (1)) f) H := hP
    have hD : va_D A (wM G a (va_up iv 22 (1)) f) := hD
    refine lv_aload_n hx hb dX2_solve_29 rfl (lv_at hl 1 rfl) ?_
    refine va_get (D := gD G) (ci := 1) (v := .int (1)) (C := RX2) (T := TX2) (N := 27) hx hb hts in_X2 hown hG.K hP 0 rfl rfl 22 (by decide) (hts _ q1175) (fun _ h9 => h9) rfl dX2_solve_30 ?_
    refine lv_if_eq (tgt := 94) hx hb dX2_solve_33 (by decide) (fun c_33 => absurd c_33 (by decide)) (fun c_33 => ?_)
    refine lv_aload_n hx hb dX2_solve_36 rfl (lv_at hl 1 rfl) ?_
    refine lv_iload_n hx hb dX2_solve_37 rfl (lv_at hl 0 rfl) ?_
    refine va_put (D := gD G) (ci := 1) (v := .int (nI x)) (ty := .int) (C := RX2) (T := TX2) (N := 27) hx hb hts in_X2 tyX2 tyX2_ok nmX2 hown hG.K hP hD hS 0 rfl rfl 23 (by decide) (hts _ q1176) (fun _ h9 => h9) rfl (by decide +kernel) rfl rfl (Nat.le_of_ble_eq_true rfl) dX2_solve_38 (fun H locs hP hD hS => ?_)
    have hP : wP G (wM G a (va_up (va_up iv 22 (1)) 23 (nI x)) f) H := hP
    have hD : va_D A (wM G a (va_up (va_up iv 22 (1)) 23 (nI x)) f) := hD
    refine lv_aload_n hx hb dX2_solve_41 rfl (lv_at hl 1 rfl) ?_
    refine lv_aload_n hx hb dX2_solve_42 rfl (lv_at hl 1 rfl) ?_
    refine va_get (D := gD G) (ci := 1) (v := .int (iv 7)) (C := RX2) (T := TX2) (N := 27) hx hb hts in_X2 hown hG.K hP 0 rfl rfl 7 (by decide) (hts _ q1160) (fun _ h9 => h9) rfl dX2_solve_43 ?_
    refine top_i (y := nI n) (hn) ?_
    refine va_put (D := gD G) (ci := 1) (v := .int (nI n)) (ty := .int) (C := RX2) (T := TX2) (N := 27) hx hb hts in_X2 tyX2 tyX2_ok nmX2 hown hG.K hP hD hS 0 rfl rfl 24 (by decide) (hts _ q1177) (fun _ h9 => h9) rfl (by decide +kernel) rfl rfl (Nat.le_of_ble_eq_true rfl) dX2_solve_46 (fun H locs hP hD hS => ?_)
    have hP : wP G (wM G a (va_up (va_up (va_up iv 22 (1)) 23 (nI x)) 24 (nI n)) f) H := hP
    have hD : va_D A (wM G a (va_up (va_up (va_up iv 22 (1)) 23 (nI x)) 24 (nI n)) f) := hD
    refine lv_aload_n hx hb dX2_solve_49 rfl (lv_at hl 1 rfl) ?_
    refine va_get (D := gD G) (ci := 1) (v := .int (iv 20)) (C := RX2) (T := TX2) (N := 27) hx hb hts in_X2 hown hG.K hP 0 rfl rfl 20 (by decide) (hts _ q1173) (fun _ h9 => h9) rfl dX2_solve_50 ?_
    refine top_i (y := nI (sFd S).length) (hfd) ?_
    refine lv_sipush (v := 200) hx hb dX2_solve_53 (by decide) ?_
    refine lv_icmp_ge (tgt := 92) hx hb dX2_solve_56 (by decide) (fun c_56 => ?_) (fun c_56 => ?_)
    · have h56 : 200 ≤ (sFd S).length := nI_ge' (a := (sFd S).length) (b := 200) c_56
      refine lv_iconst (v := 1) hx hb dX2_solve_92 (by decide) ?_
      exact ret (1) _ 93 ls _ _ 0 0 dX2_solve_93 rfl (Nat.le_refl _) (Nat.le_refl _) hP hD hS (by subst hnS; exact mwr (sv_2 hfs (by omega)) rfl (MR_e2 hM))
    · have h56 : (sFd S).length < 200 := nI_nge (a := (sFd S).length) (b := 200) c_56
      refine lv_aload_n hx hb dX2_solve_59 rfl (lv_at hl 1 rfl) ?_
      refine lv_dup hx hb dX2_solve_60 rfl ?_
      refine va_get (D := gD G) (ci := 1) (v := .int (iv 20)) (C := RX2) (T := TX2) (N := 27) hx hb hts in_X2 hown hG.K hP 0 rfl rfl 20 (by decide) (hts _ q1173) (fun _ h9 => h9) rfl dX2_solve_61 ?_
      refine top_i (y := nI (sFd S).length) (hfd) ?_
      refine lv_iconst (v := 1) hx hb dX2_solve_64 (by decide) ?_
      refine lv_iadd hx hb dX2_solve_65 ?_
      refine top_i (y := nI ((sFd S).length + 1)) (nI_1 _) ?_
      refine va_put (D := gD G) (ci := 1) (v := .int (nI ((sFd S).length + 1))) (ty := .int) (C := RX2) (T := TX2) (N := 27) hx hb hts in_X2 tyX2 tyX2_ok nmX2 hown hG.K hP hD hS 0 rfl rfl 20 (by decide) (hts _ q1173) (fun _ h9 => h9) rfl (by decide +kernel) rfl rfl (Nat.le_of_ble_eq_true rfl) dX2_solve_66 (fun H locs hP hD hS => ?_)
      have hP : wP G (wM G a (va_up (va_up (va_up (va_up iv 22 (1)) 23 (nI x)) 24 (nI n)) 20 (nI ((sFd S).length + 1))) f) H := hP
      have hD : va_D A (wM G a (va_up (va_up (va_up (va_up iv 22 (1)) 23 (nI x)) 24 (nI n)) 20 (nI ((sFd S).length + 1))) f) := hD
      refine lv_aload_n hx hb dX2_solve_69 rfl (lv_at hl 1 rfl) ?_
      refine va_get (D := gD G) (ci := 1) (v := .ref (a 19)) (C := RX2) (T := TX2) (N := 27) hx hb hts in_X2 hown hG.K hP 0 rfl rfl 19 (by decide) (hts _ q1172) (fun _ h9 => h9) rfl dX2_solve_70 ?_
      refine lv_aload_n hx hb dX2_solve_73 rfl (lv_at hl 1 rfl) ?_
      refine va_get (D := gD G) (ci := 1) (v := .int (nI ((sFd S).length + 1))) (C := RX2) (T := TX2) (N := 27) hx hb hts in_X2 hown hG.K hP 0 rfl rfl 20 (by decide) (hts _ q1173) (fun _ h9 => h9) rfl dX2_solve_74 ?_
      refine lv_iload_n hx hb dX2_solve_77 rfl (lv_at hl 0 rfl) ?_
      refine ia_st (j := (sFd S).length + 1) hx hb hG.K hP hD hS 14 0 rfl rfl (by omega) (by decide) dX2_solve_78 (fun H locs hP hD hS => ?_)
      have hP : wP G (wM G a (va_up (va_up (va_up (va_up iv 22 (1)) 23 (nI x)) 24 (nI n)) 20 (nI ((sFd S).length + 1))) (va_up f 19 (upd (f 19) ((sFd S).length + 1) (nI x)))) H := hP
      have hD : va_D A (wM G a (va_up (va_up (va_up (va_up iv 22 (1)) 23 (nI x)) 24 (nI n)) 20 (nI ((sFd S).length + 1))) (va_up f 19 (upd (f 19) ((sFd S).length + 1) (nI x)))) := hD
      refine lv_aload_n hx hb dX2_solve_79 rfl (lv_at hl 1 rfl) ?_
      refine va_get (D := gD G) (ci := 1) (v := .ref (a 21)) (C := RX2) (T := TX2) (N := 27) hx hb hts in_X2 hown hG.K hP 0 rfl rfl 21 (by decide) (hts _ q1174) (fun _ h9 => h9) rfl dX2_solve_80 ?_
      refine lv_aload_n hx hb dX2_solve_83 rfl (lv_at hl 1 rfl) ?_
      refine va_get (D := gD G) (ci := 1) (v := .int (nI ((sFd S).length + 1))) (C := RX2) (T := TX2) (N := 27) hx hb hts in_X2 hown hG.K hP 0 rfl rfl 20 (by decide) (hts _ q1173) (fun _ h9 => h9) rfl dX2_solve_84 ?_
      refine lv_aload_n hx hb dX2_solve_87 rfl (lv_at hl 1 rfl) ?_
      refine va_get (D := gD G) (ci := 1) (v := .int (iv 7)) (C := RX2) (T := TX2) (N := 27) hx hb hts in_X2 hown hG.K hP 0 rfl rfl 7 (by decide) (hts _ q1160) (fun _ h9 => h9) rfl dX2_solve_88 ?_
      refine top_i (y := nI n) (hn) ?_
      refine ia_st (j := (sFd S).length + 1) hx hb hG.K hP hD hS 15 0 rfl rfl (by omega) (by decide) dX2_solve_91 (fun H locs hP hD hS => ?_)
      have hP : wP G (wM G a (va_up (va_up (va_up (va_up iv 22 (1)) 23 (nI x)) 24 (nI n)) 20 (nI ((sFd S).length + 1))) (va_up (va_up f 19 (upd (f 19) ((sFd S).length + 1) (nI x))) 21 (upd (f 21) ((sFd S).length + 1) (nI n)))) H := hP
      have hD : va_D A (wM G a (va_up (va_up (va_up (va_up iv 22 (1)) 23 (nI x)) 24 (nI n)) 20 (nI ((sFd S).length + 1))) (va_up (va_up f 19 (upd (f 19) ((sFd S).length + 1) (nI x))) 21 (upd (f 21) ((sFd S).length + 1) (nI n)))) := hD
      refine lv_iconst (v := 1) hx hb dX2_solve_92 (by decide) ?_
      exact ret (1) _ 93 ls _ _ 0 0 dX2_solve_93 rfl (Nat.le_refl _) (Nat.le_refl _) hP hD hS (by subst hnS; exact mwr (sv_1 hfs (by omega)) rfl (MR_e3 hM))
