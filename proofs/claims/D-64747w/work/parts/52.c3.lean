def rwW (G : Gt) (ra : Nat → Nat) (av : Nat → Nat → Int32) : va_W := [(ra 0, .inl (gA G 0, 15, .inl (av 0))), (ra 1, .inl (gA G 0, 15, .inl (av 1))), (ra 2, .inl (gA G 0, 15, .inl (av 2))), (ra 3, .inl (gA G 0, 15, .inl (av 3)))]
theorem rw_mem {G : Gt} {ra : Nat → Nat} {av : Nat → Nat → Int32} {k : Nat} (hk : k < 4) : (ra k, .inl (gA G 0, 15, .inl (av k))) ∈ rwW G ra av := by
  rcases (show k = 0 ∨ k = 1 ∨ k = 2 ∨ k = 3 by omega) with rfl | rfl | rfl | rfl
  · exact List.mem_cons_self
  · exact List.mem_cons_of_mem _ List.mem_cons_self
  · exact List.mem_cons_of_mem _ (List.mem_cons_of_mem _ List.mem_cons_self)
  · exact List.mem_cons_of_mem _ (List.mem_cons_of_mem _ (List.mem_cons_of_mem _ List.mem_cons_self))
theorem rl_mem {ra : Nat → Nat} {rs : List (Nat × Rl)} {k q : Nat} {r : Rl} (h : rs[k]? = some (q, r)) : rlC ra q r ∈ rlW ra rs := by
  exact List.mem_map.mpr ⟨(q, r), List.mem_of_getElem? h, rfl⟩
theorem any_stepF {α : Type} {l : List α} {P : α → Bool} {k : Nat} {x : α} (h : l[k]? = some x) (h0 : (l.take k).any P = false) (h1 : P x = false) : (l.take (k + 1)).any P = false := by
  rw [List.take_add_one, h, List.any_append, h0]
  simp [h1]
theorem any_stepT {α : Type} {l : List α} {P : α → Bool} {k : Nat} {x : α} (h : l[k]? = some x) (h1 : P x = true) : l.any P = true := List.any_eq_true.mpr ⟨x, List.mem_of_getElem? h, h1⟩
theorem ex_get {α β : Type} {l : List (α × β)} {k : Nat} (h : k < l.length) : ∃ q r, l[k]? = some (q, r) := ⟨_, _, List.getElem?_eq_getElem h⟩
theorem getD_1 {β : Type} {l : List (Nat × β)} {k q : Nat} {r : β} (h : l[k]? = some (q, r)) : (l.map (·.1)).getD k 0 = q := by
  rw [List.getD_eq_getElem?_getD, List.getElem?_map, h]; rfl
/-- the rules' answer -/
def brS (av : Nat → Nat → Int32) (rs : List (Nat × Rl)) (i o : Nat) : Bool := rs.any (fun x => brk av x.2 i o)
set_option maxHeartbeats 4000000 in
set_option maxRecDepth 100000 in
theorem metX1_isBroken (l : Launch) (G : Gt) (a : Nat → Nat) (iv : Nat → Int32) (ra : Nat → Nat) (av : Nat → Nat → Int32) (rs : List (Nat × Rl)) (wr : va_W) (hw : AL G (a 9) (rs.map (·.1)) wr) (hrs : ∀ x ∈ rs, rlOk x.2) (hrl : rs.length ≤ 300) (i o : Nat) (hi : i < 2 ^ 14) (ho : o < 2 ^ 14) : CR l G yX1_isBroken cX1_isBroken 4 .boolean 3 64 [.ref (a 15), .int (nI i), .int (nI o)] ((a 15, .inr (0, [.ref (a 0), .ref (a 1), .ref (a 2), .ref (a 3), .ref (a 4), .ref (a 5), .ref (a 6), .int (iv 7), .ref (a 8), .ref (a 9), .int (iv 10), .int (iv 11), .ref (a 12), .int (iv 13), .ref (a 14)])) :: (wr ++ (rlW ra rs ++ (rwW G ra av)))) (fun r => r = b2i (brS av rs i o)) := by
  refine mkRi (by decide) (Nat.le_of_ble_eq_true rfl) ?_
  intro p e s m args below meth c Q hx hb hts hown hml hG hP hS ret ls hl
  obtain ⟨fs, tl, rfl⟩ := hw.cons
  have hP := wP.perm (w' := ((a 15, .inr (0, [.ref (a 0), .ref (a 1), .ref (a 2), .ref (a 3), .ref (a 4), .ref (a 5), .ref (a 6), .int (iv 7), .ref (a 8), .ref (a 9), .int (iv 10), .int (iv 11), .ref (a 12), .int (iv 13), .ref (a 14)])) :: (a 9, .inr (5, fs)) :: (tl ++ (rlW ra rs ++ (rwW G ra av))))) hP (pm_ (fun _ z => by simp only [List.count_append, List.count_cons, List.count_nil]; omega))
  obtain ⟨N, hN⟩ : ∃ N, N = rs.length := ⟨_, rfl⟩
  have hNm : (rs.map (·.1)).length = N := by rw [List.length_map, hN]
  have L2 : ∀ (d : Nat) (k : Nat) (v3 : Int32), k ≤ N → N + 1 ≤ k + d → v3 = nI k → (rs.take k).any (fun x => brk av x.2 i o) = false → ∀ ls : Array Slot, lv_has ls 4 [(3, .int (v3)), (0, .ref (a 15)), (1, .int (nI i)), (2, .int (nI o))] → W p l e (rm_ 3 0 0 64) s m args below meth c s.heap [] 0 0 Q (F0 m 2 ls []) := by
    intro d
    induction d with
    | zero => intros; omega
    | succ d ih_2 =>
      intro k v3 hk2 hd e3 hno ls hl
      subst e3
      refine lv_iload_n hx hb dX1_isBroken_2 rfl (lv_at hl 0 rfl) ?_
      refine lv_aload_n hx hb dX1_isBroken_3 rfl (lv_at hl 1 rfl) ?_
      refine va_get (D := gD G) (ci := 0) (v := .ref (a 9)) (C := RX1) (T := TX1) (N := 15) hx hb hts in_X1 hown hG.K hP 0 rfl rfl 9 (by decide) (hts _ q173) (fun _ h9 => h9) rfl dX1_isBroken_4 ?_
      refine va_csFi (va_runF (As := []) (rest := [.int (nI k)]) (hG.K.1 5 _ rfl).2 ⟨hx, hb, hml, hown, hts⟩ (metJ2_size l G (a 9) (rs.map (·.1)) ((a 9, .inr (5, fs)) :: tl) hw) (va_cwF 0 hts (lw_F (x := ({ cls := "java/util/List", name := "size", desc := "()I" } : Jvm.MethodName)) (y := ({ cls := "java/util/ArrayList", name := "size", desc := "()I" } : Jvm.MethodName)) q982 q985 q777 q32 q778) rfl rfl rfl (hG.face (C := "java/util/ArrayList") (x := ({ cls := "java/util/List", name := "size", desc := "()I" } : Jvm.MethodName)) (y := ({ cls := "java/util/ArrayList", name := "size", desc := "()I" } : Jvm.MethodName)) q984 q983 q987 q986 q275 (by decide)) (by decide +kernel) ⟨Nat.le_of_ble_eq_true rfl, Nat.le_of_ble_eq_true rfl⟩) (pre_RV (q0 := 0) hG (wP.left (wP.perm (w' := ((a 9, .inr (5, fs)) :: tl) ++ ((a 15, .inr (0, [.ref (a 0), .ref (a 1), .ref (a 2), .ref (a 3), .ref (a 4), .ref (a 5), .ref (a 6), .int (iv 7), .ref (a 8), .ref (a 9), .int (iv 10), .int (iv 11), .ref (a 12), .int (iv 13), .ref (a 14)])) :: (rlW ra rs ++ (rwW G ra av)))) hP (pm_ (fun _ z => by simp only [List.count_append, List.count_cons, List.count_nil]; omega)))) hS (fun _ h => h.elim) rfl rfl) rfl rfl hl.1 rfl (lv_room (Nat.le_of_ble_eq_true rfl)) dX1_isBroken_7 ⟨Nat.le_refl _, Nat.le_refl _⟩) (fun r_7 e_7 => ?_)
      subst e_7
      refine top_i (y := nI N) (by rw [hNm]) ?_
      refine lv_icmp_ge (tgt := 46) hx hb dX1_isBroken_12 (by decide) (fun c_12 => ?_) (fun c_12 => ?_)
      · have h12 : N ≤ k := nI_ge' (a := k) (b := N) c_12; have hk4 : k = N := (by omega)
        refine lv_iconst (v := 0) hx hb dX1_isBroken_46 (by decide) ?_
        exact ret (0) 47 ls dX1_isBroken_47 rfl (by rw [hk4, hN, List.take_length] at hno; rw [brS, hno]; rfl)
      · have h12 : k < N := nI_nge (a := k) (b := N) c_12; obtain ⟨q, r, hqr⟩ := ex_get (show k < rs.length by omega); have hget := getD_1 hqr; have hme := rl_mem (ra := ra) hqr; have hok := hrs _ (List.mem_of_getElem? hqr)
        refine lv_aload_n hx hb dX1_isBroken_15 rfl (lv_at hl 1 rfl) ?_
        refine va_get (D := gD G) (ci := 0) (v := .ref (a 9)) (C := RX1) (T := TX1) (N := 15) hx hb hts in_X1 hown hG.K hP 0 rfl rfl 9 (by decide) (hts _ q173) (fun _ h9 => h9) rfl dX1_isBroken_16 ?_
        refine lv_iload_n hx hb dX1_isBroken_19 rfl (lv_at hl 0 rfl) ?_
        refine va_csFq (va_runF (As := [.int (nI k)]) (rest := []) (hG.K.1 5 _ rfl).2 ⟨hx, hb, hml, hown, hts⟩ (metJ2_get l G (a 9) k (rs.map (·.1)) ((a 9, .inr (5, fs)) :: tl) hw (by omega)) (va_cwF 1 hts (lw_F (x := ({ cls := "java/util/List", name := "get", desc := "(I)Ljava/lang/Object;" } : Jvm.MethodName)) (y := ({ cls := "java/util/ArrayList", name := "get", desc := "(I)Ljava/lang/Object;" } : Jvm.MethodName)) q989 q992 q994 q32 q996) rfl rfl rfl (hG.face (C := "java/util/ArrayList") (x := ({ cls := "java/util/List", name := "get", desc := "(I)Ljava/lang/Object;" } : Jvm.MethodName)) (y := ({ cls := "java/util/ArrayList", name := "get", desc := "(I)Ljava/lang/Object;" } : Jvm.MethodName)) q991 q990 q995 q993 q275 (by decide)) (by decide +kernel) ⟨Nat.le_of_ble_eq_true rfl, Nat.le_of_ble_eq_true rfl⟩) (pre_RV (q0 := 0) hG (wP.left (wP.perm (w' := ((a 9, .inr (5, fs)) :: tl) ++ ((a 15, .inr (0, [.ref (a 0), .ref (a 1), .ref (a 2), .ref (a 3), .ref (a 4), .ref (a 5), .ref (a 6), .int (iv 7), .ref (a 8), .ref (a 9), .int (iv 10), .int (iv 11), .ref (a 12), .int (iv 13), .ref (a 14)])) :: (rlW ra rs ++ (rwW G ra av)))) hP (pm_ (fun _ z => by simp only [List.count_append, List.count_cons, List.count_nil]; omega)))) hS (fun _ h => h.elim) rfl rfl) rfl rfl hl.1 rfl (lv_room (Nat.le_of_ble_eq_true rfl)) dX1_isBroken_20 ⟨Nat.le_refl _, Nat.le_refl _⟩) (fun r_20 e_20 => ?_)
        subst e_20
        refine top_r (y := q) hget ?_
        rcases hok with ⟨h0, ht, hu⟩ | ⟨h0, g1, g2, g3, g4, g5⟩ | ⟨h0, hro⟩
        · skip
          have h0 : r.1 = 0 := h0
          rw [show rlC ra q r = (q, .inr (2, [.int (litI r.2.1.1), .int (litI r.2.1.2)])) by unfold rlC; rw [if_pos h0]] at hme
          obtain ⟨kx, hkx⟩ := List.getElem?_of_mem (show (q, .inr (2, [.int (litI r.2.1.1), .int (litI r.2.1.2)])) ∈ ((a 15, .inr (0, [.ref (a 0), .ref (a 1), .ref (a 2), .ref (a 3), .ref (a 4), .ref (a 5), .ref (a 6), .int (iv 7), .ref (a 8), .ref (a 9), .int (iv 10), .int (iv 11), .ref (a 12), .int (iv 13), .ref (a 14)])) :: (a 9, .inr (5, fs)) :: (tl ++ (rlW ra rs ++ (rwW G ra av)))) from List.mem_cons_of_mem _ (List.mem_cons_of_mem _ (List.mem_append_right _ (List.mem_append_left _ hme))))
          have hb9 : brk av r i o = (ag r.2.1.1 i o && ag r.2.1.2 i o) := by unfold brk; rw [if_pos h0]
          refine va_castY hx hb hown (hts _ q1007) (hG.cast q1019) (va_recv hG.K hP (ci := 2) (q0 := kx) rfl hkx) dX1_isBroken_25 ?_
          refine lv_iload_n hx hb dX1_isBroken_28 rfl (lv_at hl 2 rfl) ?_
          refine lv_iload_n hx hb dX1_isBroken_29 rfl (lv_at hl 3 rfl) ?_
          refine va_csFi (va_runF (As := [.int (nI i), .int (nI o)]) (rest := []) (hG.K.1 2 _ rfl).2 ⟨hx, hb, hml, hown, hts⟩ (metX3_isBroken l G q i o r.2.1.1 r.2.1.2 ht hu (by omega) (by omega)) (va_cwF 2 hts (lw_F (x := ({ cls := "FeatureSolve$Rule", name := "isBroken", desc := "(II)Z" } : Jvm.MethodName)) (y := ({ cls := "FeatureSolve$Either", name := "isBroken", desc := "(II)Z" } : Jvm.MethodName)) q1009 q1020 q1022 q42 q1024) rfl rfl rfl (hG.face (C := "FeatureSolve$Either") (x := ({ cls := "FeatureSolve$Rule", name := "isBroken", desc := "(II)Z" } : Jvm.MethodName)) (y := ({ cls := "FeatureSolve$Either", name := "isBroken", desc := "(II)Z" } : Jvm.MethodName)) q1011 q1010 q1023 q1021 q1019 (by decide)) (by decide +kernel) ⟨Nat.le_of_ble_eq_true rfl, Nat.le_of_ble_eq_true rfl⟩) (pre_RVo (va_recv hG.K hP (ci := 2) (q0 := kx) rfl hkx) hG (wP.mem (w' := [(q, .inr (2, [.int (litI r.2.1.1), .int (litI r.2.1.2)]))]) hP (fun z hz => by rw [List.mem_singleton] at hz; rw [hz]; exact List.mem_cons_of_mem _ (List.mem_cons_of_mem _ (List.mem_append_right _ (List.mem_append_left _ hme))))) hS (fun _ h => h.elim)) rfl rfl hl.1 rfl (lv_room (Nat.le_of_ble_eq_true rfl)) dX1_isBroken_30 ⟨Nat.le_refl _, Nat.le_refl _⟩) (fun r_30 e_30 => ?_)
          subst e_30
          refine top_i (y := b2i (brk av r i o)) (by rw [hb9]) ?_
          refine lv_if_eq (tgt := 40) hx hb dX1_isBroken_35 (by decide) (fun c_35 => ?_) (fun c_35 => ?_)
          · have h35 : brk av r i o = false := b2i_0.mp c_35
            refine lv_iinc (v := nI (k + 1)) (lv' := [(3, .int (nI (k + 1))), (0, .ref (a 15)), (1, .int (nI i)), (2, .int (nI o))]) hx hb dX1_isBroken_40 hl (k := 0) rfl (nI_1 k) (by decide) rfl (fun ls hl => ?_)
            refine lv_goto (tgt := 2) hx hb dX1_isBroken_43 (by decide) ?_
            exact ih_2 (k + 1) _ (by omega) (by omega) rfl (any_stepF hqr hno h35) ls hl
          · have h35 : brk av r i o = true := b2i_n0.mp c_35
            refine lv_iconst (v := 1) hx hb dX1_isBroken_38 (by decide) ?_
            exact ret (1) 39 ls dX1_isBroken_39 rfl (by rw [brS, any_stepT hqr h35]; rfl)
        · skip
          have h0 : r.1 = 1 := h0
          rw [show rlC ra q r = (q, .inr (3, [.int (nI (2 ^ (r.2.2.1.1 - 1))), .int (nI r.2.2.1.2.1), .int (nI r.2.2.1.2.2.1), .int (nI r.2.2.1.2.2.2)])) by unfold rlC; rw [if_neg (by omega), if_pos h0]] at hme
          obtain ⟨kx, hkx⟩ := List.getElem?_of_mem (show (q, .inr (3, [.int (nI (2 ^ (r.2.2.1.1 - 1))), .int (nI r.2.2.1.2.1), .int (nI r.2.2.1.2.2.1), .int (nI r.2.2.1.2.2.2)])) ∈ ((a 15, .inr (0, [.ref (a 0), .ref (a 1), .ref (a 2), .ref (a 3), .ref (a 4), .ref (a 5), .ref (a 6), .int (iv 7), .ref (a 8), .ref (a 9), .int (iv 10), .int (iv 11), .ref (a 12), .int (iv 13), .ref (a 14)])) :: (a 9, .inr (5, fs)) :: (tl ++ (rlW ra rs ++ (rwW G ra av)))) from List.mem_cons_of_mem _ (List.mem_cons_of_mem _ (List.mem_append_right _ (List.mem_append_left _ hme))))
          have hb9 : brk av r i o = (i.testBit (r.2.2.1.1 - 1) && (decide (r.2.2.1.2.2.2 < pcN (i &&& r.2.2.1.2.1)) || decide (pcN (r.2.2.1.2.1 &&& (16383 ^^^ o)) < r.2.2.1.2.2.1))) := by unfold brk; rw [if_neg (by omega), if_pos h0]
          refine va_castY hx hb hown (hts _ q1007) (hG.cast q1012) (va_recv hG.K hP (ci := 3) (q0 := kx) rfl hkx) dX1_isBroken_25 ?_
          refine lv_iload_n hx hb dX1_isBroken_28 rfl (lv_at hl 2 rfl) ?_
          refine lv_iload_n hx hb dX1_isBroken_29 rfl (lv_at hl 3 rfl) ?_
          refine va_csFi (va_runF (As := [.int (nI i), .int (nI o)]) (rest := []) (hG.K.1 3 _ rfl).2 ⟨hx, hb, hml, hown, hts⟩ (metX4_isBroken l G q i o r.2.2.1.1 r.2.2.1.2.1 r.2.2.1.2.2.1 r.2.2.1.2.2.2 g1 g2 g3 g4 g5 hi ho) (va_cwF 2 hts (lw_F (x := ({ cls := "FeatureSolve$Rule", name := "isBroken", desc := "(II)Z" } : Jvm.MethodName)) (y := ({ cls := "FeatureSolve$Count", name := "isBroken", desc := "(II)Z" } : Jvm.MethodName)) q1009 q1013 q1015 q50 q1017) rfl rfl rfl (hG.face (C := "FeatureSolve$Count") (x := ({ cls := "FeatureSolve$Rule", name := "isBroken", desc := "(II)Z" } : Jvm.MethodName)) (y := ({ cls := "FeatureSolve$Count", name := "isBroken", desc := "(II)Z" } : Jvm.MethodName)) q1011 q1010 q1016 q1014 q1012 (by decide)) (by decide +kernel) ⟨Nat.le_of_ble_eq_true rfl, Nat.le_of_ble_eq_true rfl⟩) (pre_RVo (va_recv hG.K hP (ci := 3) (q0 := kx) rfl hkx) hG (wP.mem (w' := [(q, .inr (3, [.int (nI (2 ^ (r.2.2.1.1 - 1))), .int (nI r.2.2.1.2.1), .int (nI r.2.2.1.2.2.1), .int (nI r.2.2.1.2.2.2)]))]) hP (fun z hz => by rw [List.mem_singleton] at hz; rw [hz]; exact List.mem_cons_of_mem _ (List.mem_cons_of_mem _ (List.mem_append_right _ (List.mem_append_left _ hme))))) hS (fun _ h => h.elim)) rfl rfl hl.1 rfl (lv_room (Nat.le_of_ble_eq_true rfl)) dX1_isBroken_30 ⟨Nat.le_refl _, Nat.le_refl _⟩) (fun r_30 e_30 => ?_)
          subst e_30
          refine top_i (y := b2i (brk av r i o)) (by rw [hb9]) ?_
          refine lv_if_eq (tgt := 40) hx hb dX1_isBroken_35 (by decide) (fun c_35 => ?_) (fun c_35 => ?_)
          · have h35 : brk av r i o = false := b2i_0.mp c_35
            refine lv_iinc (v := nI (k + 1)) (lv' := [(3, .int (nI (k + 1))), (0, .ref (a 15)), (1, .int (nI i)), (2, .int (nI o))]) hx hb dX1_isBroken_40 hl (k := 0) rfl (nI_1 k) (by decide) rfl (fun ls hl => ?_)
            refine lv_goto (tgt := 2) hx hb dX1_isBroken_43 (by decide) ?_
            exact ih_2 (k + 1) _ (by omega) (by omega) rfl (any_stepF hqr hno h35) ls hl
          · have h35 : brk av r i o = true := b2i_n0.mp c_35
            refine lv_iconst (v := 1) hx hb dX1_isBroken_38 (by decide) ?_
            exact ret (1) 39 ls dX1_isBroken_39 rfl (by rw [brS, any_stepT hqr h35]; rfl)
        · skip
          have h0 : r.1 = 2 := h0
          rw [show rlC ra q r = (q, .inr (4, [.int (r.2.2.2.1), .ref (ra r.2.2.2.2)])) by unfold rlC; rw [if_neg (by omega), if_neg (by omega)]] at hme
          obtain ⟨kx, hkx⟩ := List.getElem?_of_mem (show (q, .inr (4, [.int (r.2.2.2.1), .ref (ra r.2.2.2.2)])) ∈ ((a 15, .inr (0, [.ref (a 0), .ref (a 1), .ref (a 2), .ref (a 3), .ref (a 4), .ref (a 5), .ref (a 6), .int (iv 7), .ref (a 8), .ref (a 9), .int (iv 10), .int (iv 11), .ref (a 12), .int (iv 13), .ref (a 14)])) :: (a 9, .inr (5, fs)) :: (tl ++ (rlW ra rs ++ (rwW G ra av)))) from List.mem_cons_of_mem _ (List.mem_cons_of_mem _ (List.mem_append_right _ (List.mem_append_left _ hme))))
          have hb9 : brk av r i o = decide (r.2.2.2.1 < suI (av r.2.2.2.2) i o 15) := by unfold brk; rw [if_neg (by omega), if_neg (by omega)]
          refine va_castY hx hb hown (hts _ q1007) (hG.cast q1029) (va_recv hG.K hP (ci := 4) (q0 := kx) rfl hkx) dX1_isBroken_25 ?_
          refine lv_iload_n hx hb dX1_isBroken_28 rfl (lv_at hl 2 rfl) ?_
          refine lv_iload_n hx hb dX1_isBroken_29 rfl (lv_at hl 3 rfl) ?_
          refine va_csFi (va_runF (As := [.int (nI i), .int (nI o)]) (rest := []) (hG.K.1 4 _ rfl).2 ⟨hx, hb, hml, hown, hts⟩ (metX5_isBroken l G q (ra r.2.2.2.2) i o r.2.2.2.1 (av r.2.2.2.2) hi ho) (va_cwF 2 hts (lw_F (x := ({ cls := "FeatureSolve$Rule", name := "isBroken", desc := "(II)Z" } : Jvm.MethodName)) (y := ({ cls := "FeatureSolve$Sum", name := "isBroken", desc := "(II)Z" } : Jvm.MethodName)) q1009 q1030 q1032 q54 q1034) rfl rfl rfl (hG.face (C := "FeatureSolve$Sum") (x := ({ cls := "FeatureSolve$Rule", name := "isBroken", desc := "(II)Z" } : Jvm.MethodName)) (y := ({ cls := "FeatureSolve$Sum", name := "isBroken", desc := "(II)Z" } : Jvm.MethodName)) q1011 q1010 q1033 q1031 q1029 (by decide)) (by decide +kernel) ⟨Nat.le_of_ble_eq_true rfl, Nat.le_of_ble_eq_true rfl⟩) (pre_RVo (va_recv hG.K hP (ci := 4) (q0 := kx) rfl hkx) hG (wP.mem (w' := [(q, .inr (4, [.int (r.2.2.2.1), .ref (ra r.2.2.2.2)])), (ra r.2.2.2.2, .inl (gA G 0, 15, .inl (av r.2.2.2.2)))]) hP (fun z hz => by rcases List.mem_cons.mp hz with h | h; exact h ▸ List.mem_cons_of_mem _ (List.mem_cons_of_mem _ (List.mem_append_right _ (List.mem_append_left _ hme))); rw [List.mem_singleton] at h; exact h ▸ List.mem_cons_of_mem _ (List.mem_cons_of_mem _ (List.mem_append_right _ (List.mem_append_right _ (rw_mem hro)))))) hS (fun _ h => h.elim)) rfl rfl hl.1 rfl (lv_room (Nat.le_of_ble_eq_true rfl)) dX1_isBroken_30 ⟨Nat.le_refl _, Nat.le_refl _⟩) (fun r_30 e_30 => ?_)
          subst e_30
          refine top_i (y := b2i (brk av r i o)) (by rw [hb9]) ?_
          refine lv_if_eq (tgt := 40) hx hb dX1_isBroken_35 (by decide) (fun c_35 => ?_) (fun c_35 => ?_)
          · have h35 : brk av r i o = false := b2i_0.mp c_35
            refine lv_iinc (v := nI (k + 1)) (lv' := [(3, .int (nI (k + 1))), (0, .ref (a 15)), (1, .int (nI i)), (2, .int (nI o))]) hx hb dX1_isBroken_40 hl (k := 0) rfl (nI_1 k) (by decide) rfl (fun ls hl => ?_)
            refine lv_goto (tgt := 2) hx hb dX1_isBroken_43 (by decide) ?_
            exact ih_2 (k + 1) _ (by omega) (by omega) rfl (any_stepF hqr hno h35) ls hl
          · have h35 : brk av r i o = true := b2i_n0.mp c_35
            refine lv_iconst (v := 1) hx hb dX1_isBroken_38 (by decide) ?_
            exact ret (1) 39 ls dX1_isBroken_39 rfl (by rw [brS, any_stepT hqr h35]; rfl)
  refine lv_iconst (v := 0) hx hb dX1_isBroken_0 (by decide) ?_
  refine lv_istore_n (lv' := [(3, .int (0)), (0, .ref (a 15)), (1, .int (nI i)), (2, .int (nI o))]) hx hb dX1_isBroken_1 rfl hl (by decide) rfl (fun ls hl => ?_)
  exact L2 (N + 1) 0 _ (by omega) (by omega) rfl rfl ls hl
