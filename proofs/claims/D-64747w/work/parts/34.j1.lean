set_option maxHeartbeats 4000000 in
set_option maxRecDepth 100000 in
theorem metJ0_init (l : Launch) (G : Gt) (x : Nat) (mc : Int32) (sz : Nat) : CWv l G yJ0_init cJ0_init 1 1 0 0 12 [.ref (x)] [(x, .inr (5, [.int (mc), .null, .int (0)]))] sz (fun w1 => w1 = [(x, .inr (5, [.int (mc), .null, .int (0)]))]) := by
  refine mkWv (by decide) (Nat.le_of_ble_eq_true rfl) ?_
  intro p e s m args below meth c Q A hx hb hts hown hin hml hG hsz hP hD hA hA0 hS ret ls hl
  refine lv_aload_n hx hb dJ0_init_0 rfl (lv_at hl 0 rfl) ?_
  refine W.objInit hx hb hown (hts _ q89) (hts _ q71) (hts _ q72) rfl (by rw [hml]; exact hl.1) rfl dJ0_init_1 (Nat.le_of_ble_eq_true rfl) (Nat.le_of_ble_eq_true rfl) ?_
  refine W.eq (g2 := F0 m 4 ls []) rfl ?_
  exact ret _ 4 ls _ _ _ _ dJ0_init_4 (Nat.le_of_ble_eq_true rfl) (Nat.le_of_ble_eq_true rfl) hP hD hS (rfl)
set_option maxHeartbeats 4000000 in
set_option maxRecDepth 100000 in
theorem metJ1_init (l : Launch) (G : Gt) (x : Nat) (mc : Int32) (sz : Nat) : CWv l G yJ1_init cJ1_init 1 2 0 0 32 [.ref (x)] [(x, .inr (5, [.int (mc), .null, .int (0)]))] sz (fun w1 => w1 = [(x, .inr (5, [.int (0), .null, .int (0)]))]) := by
  refine mkWv (by decide) (Nat.le_of_ble_eq_true rfl) ?_
  intro p e s m args below meth c Q A hx hb hts hown hin hml hG hsz hP hD hA hA0 hS ret ls hl
  refine lv_aload_n hx hb dJ1_init_0 rfl (lv_at hl 0 rfl) ?_
  refine cl_v0 (va_runI (As := []) (rest := []) ⟨hx, hb, hml, hown, hts⟩ (metJ0_init l G x mc _) (cwI 0 hts (lw_meth q88) rfl rfl rfl (hts _ q30) (hts _ q86) (hts _ q87) rfl (by decide +kernel) ⟨Nat.le_of_ble_eq_true rfl, Nat.le_of_ble_eq_true rfl⟩) (pre_WS0 (As := [.ref (x)]) hG hP hD hS hA0) rfl rfl hl.1 rfl (lv_room (Nat.le_of_ble_eq_true rfl)) dJ1_init_1 ⟨Nat.le_of_ble_eq_true rfl, Nat.le_of_ble_eq_true rfl⟩) hP hD hS hA (fun w1 H locs hp hP hD hS => ?_)
  subst hp
  have hP : wP G [(x, .inr (5, [.int (mc), .null, .int (0)]))] H := hP
  have hD : va_D A [(x, .inr (5, [.int (mc), .null, .int (0)]))] := hD
  refine lv_aload_n hx hb dJ1_init_4 rfl (lv_at hl 0 rfl) ?_
  refine lv_iconst (v := 0) hx hb dJ1_init_5 (by decide) ?_
  refine va_put (D := gD G) (ci := 5) (v := .int (0)) (ty := .int) (C := RJ2) (T := TJ2) (N := 3) hx hb hts in_J2 tyJ2 tyJ2_ok nmJ2 hown hG.K hP hD hS 0 rfl rfl 0 (by decide) (hts _ q96) (fun _ h9 => h9) rfl (by decide +kernel) rfl rfl (Nat.le_of_ble_eq_true rfl) dJ1_init_6 (fun H locs hP hD hS => ?_)
  have hP : wP G [(x, .inr (5, [.int (0), .null, .int (0)]))] H := hP
  have hD : va_D A [(x, .inr (5, [.int (0), .null, .int (0)]))] := hD
  exact ret _ 9 ls _ _ _ _ dJ1_init_9 (Nat.le_of_ble_eq_true rfl) (Nat.le_of_ble_eq_true rfl) hP hD hS (rfl)
/-- an ArrayList's cells: empty at its making; with an array of its own -/
noncomputable abbrev wLE (G : Gt) (x : Nat) (mc : Int32) : va_W := [(x, .inr (5, [.int mc, .ref (gad G 256), .int 0]))]
abbrev wL (G : Gt) (x e : Nat) (mc : Int32) (n cap : Nat) (f : Nat → Option Nat) : va_W := [(x, .inr (5, [.int mc, .ref e, .int (nI n)])), (e, .inl (gA G 3, cap, .inr (.inr (.inr (.inr f)))))]
def AL (G : Gt) (x : Nat) (vs : List Nat) (w : va_W) : Prop := (∃ mc, vs = [] ∧ w = wLE G x mc) ∨ (∃ mc e cap f, w = wL G x e mc vs.length cap f ∧ vs.length ≤ cap ∧ 1 ≤ cap ∧ cap ≤ 512 ∧ (∀ j, j < vs.length → f j = some (vs.getD j 0)) ∧ ∀ j, vs.length ≤ j → f j = none)
set_option maxHeartbeats 4000000 in
set_option maxRecDepth 100000 in
theorem metJ2_init (l : Launch) (G : Gt) (x : Nat) (sz : Nat) : CWv l G yJ2_init cJ2_init 1 3 0 0 52 [.ref (x)] [(x, .inr (5, [.int (0), .null, .int (0)]))] sz (fun w1 => AL G x [] w1) := by
  refine mkWv (by decide) (Nat.le_of_ble_eq_true rfl) ?_
  intro p e s m args below meth c Q A hx hb hts hown hin hml hG hsz hP hD hA hA0 hS ret ls hl
  refine lv_aload_n hx hb dJ2_init_0 rfl (lv_at hl 0 rfl) ?_
  refine cl_v0 (va_runI (As := []) (rest := []) ⟨hx, hb, hml, hown, hts⟩ (metJ1_init l G x 0 _) (cwI 0 hts (lw_meth q85) rfl rfl rfl (hts _ q31) (hts _ q83) (hts _ q84) rfl (by decide +kernel) ⟨Nat.le_of_ble_eq_true rfl, Nat.le_of_ble_eq_true rfl⟩) (pre_WS0 (As := [.ref (x)]) hG hP hD hS hA0) rfl rfl hl.1 rfl (lv_room (Nat.le_of_ble_eq_true rfl)) dJ2_init_1 ⟨Nat.le_of_ble_eq_true rfl, Nat.le_of_ble_eq_true rfl⟩) hP hD hS hA (fun w1 H locs hp hP hD hS => ?_)
  subst hp
  have hP : wP G [(x, .inr (5, [.int (0), .null, .int (0)]))] H := hP
  have hD : va_D A [(x, .inr (5, [.int (0), .null, .int (0)]))] := hD
  refine lv_aload_n hx hb dJ2_init_4 rfl (lv_at hl 0 rfl) ?_
  refine va_gets hx hb (hG.sfA hA0).1 hS hown (hts _ q90) (fun _ h9 => h9) dJ2_init_5 ?_
  refine va_put (D := gD G) (ci := 5) (v := .ref (gad G 256)) (ty := .array (.object "java/lang/Object")) (C := RJ2) (T := TJ2) (N := 3) hx hb hts in_J2 tyJ2 tyJ2_ok nmJ2 hown hG.K hP hD hS 0 rfl rfl 1 (by decide) (hts _ q92) (fun _ h9 => h9) rfl (by decide +kernel) rfl rfl (Nat.le_of_ble_eq_true rfl) dJ2_init_8 (fun H locs hP hD hS => ?_)
  have hP : wP G [(x, .inr (5, [.int (0), .ref (gad G 256), .int (0)]))] H := hP
  have hD : va_D A [(x, .inr (5, [.int (0), .ref (gad G 256), .int (0)]))] := hD
  exact ret _ 11 ls _ _ _ _ dJ2_init_11 (Nat.le_of_ble_eq_true rfl) (Nat.le_of_ble_eq_true rfl) hP hD hS (Or.inl ⟨0, rfl, rfl⟩)
set_option maxHeartbeats 4000000 in
set_option maxRecDepth 100000 in
theorem metJ2_size0 (l : Launch) (G : Gt) (x ea n : Nat) (mc : Int32) : CR l G yJ2_size cJ2_size 1 .int 0 0 [.ref (x)] [(x, .inr (5, [.int (mc), .ref (ea), .int (nI n)]))] (fun r => r = nI n) := by
  refine mkRi (by decide) (Nat.le_of_ble_eq_true rfl) ?_
  intro p e s m args below meth c Q hx hb hts hown hml hG hP hS ret ls hl
  refine lv_aload_n hx hb dJ2_size_0 rfl (lv_at hl 0 rfl) ?_
  refine va_get (D := gD G) (ci := 5) (v := .int (nI n)) (C := RJ2) (T := TJ2) (N := 3) hx hb hts in_J2 hown hG.K hP 0 rfl rfl 2 (by decide) (hts _ q95) (fun _ h9 => h9) rfl dJ2_size_1 ?_
  exact ret (nI n) 4 ls dJ2_size_4 rfl (rfl)
theorem Met.pre_ {l : Launch} {y : MethodName} {ws : List Cond} {rm : Room} {Pc Pc' : Array Value → State → Prop} {Qc : Array Value → State → Outcome → State → Prop} {mc ms : Nat} {free : Addr → Prop} (h : Met l y ws rm Pc Qc mc ms free) (hp : ∀ a U, Pc' a U → Pc a U) : Met l y ws rm Pc' Qc mc ms free :=
  fun p e h1 h2 h3 s m args below h4 h5 h6 h7 => h p e h1 h2 h3 s m args below h4 h5 (hp _ _ h6) h7
theorem PcR_mono {G : Gt} {av : List Value} {w0 w1 : va_W} (h : ∀ q ∈ w0, q ∈ w1) : ∀ a U, PcR G av w1 a U → PcR G av w0 a U := fun a U hp => ⟨hp.1, hp.2.1, hp.2.2.mem h⟩
theorem metJ2_size (l : Launch) (G : Gt) (x : Nat) (vs : List Nat) (w : va_W) (hw : AL G x vs w) : CR l G yJ2_size cJ2_size 1 .int 0 0 [.ref x] w (fun r => r = nI vs.length) := by
  rcases hw with ⟨mc, rfl, rfl⟩ | ⟨mc, e, cap, f, rfl, h⟩
  · exact metJ2_size0 l G x (gad G 256) 0 mc
  · exact Met.pre_ (metJ2_size0 l G x e vs.length mc) (PcR_mono (fun q hq => by rw [List.mem_singleton] at hq; rw [hq]; exact List.mem_cons_self))
set_option maxHeartbeats 4000000 in
set_option maxRecDepth 100000 in
theorem metJ22_checkIndex (l : Launch) (G : Gt) (j n : Nat) (hj : j < n) (hn : n < 2 ^ 31) : CR l G yJ22_checkIndex cJ22_checkIndex 3 .int 0 0 [.int (nI j), .int (nI n), .null] [] (fun r => r = nI j) := by
  refine mkRi (by decide) (Nat.le_of_ble_eq_true rfl) ?_
  intro p e s m args below meth c Q hx hb hts hown hml hG hP hS ret ls hl
  refine lv_iload_n hx hb dJ22_checkIndex_0 rfl (lv_at hl 0 rfl) ?_
  refine lv_if_lt (tgt := 9) hx hb dJ22_checkIndex_1 (by decide) (fun c_1 => absurd c_1 (nI_pos (by omega))) (fun c_1 => ?_)
  refine lv_iload_n hx hb dJ22_checkIndex_4 rfl (lv_at hl 0 rfl) ?_
  refine lv_iload_n hx hb dJ22_checkIndex_5 rfl (lv_at hl 1 rfl) ?_
  refine lv_icmp_lt (tgt := 16) hx hb dJ22_checkIndex_6 (by decide) (fun c_6 => ?_) (fun c_6 => absurd (nI_lt hj hn) c_6)
  refine lv_iload_n hx hb dJ22_checkIndex_16 rfl (lv_at hl 0 rfl) ?_
  exact ret (nI j) 17 ls dJ22_checkIndex_17 rfl (rfl)
set_option maxHeartbeats 4000000 in
set_option maxRecDepth 100000 in
theorem metJ21_checkIndex (l : Launch) (G : Gt) (j n : Nat) (hj : j < n) (hn : n < 2 ^ 31) : CR l G yJ21_checkIndex cJ21_checkIndex 2 .int 1 22 [.int (nI j), .int (nI n)] [] (fun r => r = nI j) := by
  refine mkRi (by decide) (Nat.le_of_ble_eq_true rfl) ?_
  intro p e s m args below meth c Q hx hb hts hown hml hG hP hS ret ls hl
  refine lv_iload_n hx hb dJ21_checkIndex_0 rfl (lv_at hl 0 rfl) ?_
  refine lv_iload_n hx hb dJ21_checkIndex_1 rfl (lv_at hl 1 rfl) ?_
  refine lv_null hx hb dJ21_checkIndex_2 ?_
  refine vp_callSi (W.runS (As := [.int (nI j), .int (nI n), .null]) (rest := []) ⟨hx, hb, hml, hown, hts⟩ (metJ22_checkIndex l G j n hj hn) (va_cwS 3 hts (lw_S q1000 q1001 q58 q1002) rfl rfl rfl (by decide +kernel) ⟨Nat.le_of_ble_eq_true rfl, Nat.le_of_ble_eq_true rfl⟩) (pre_RS hG hP hS (fun _ h => h.elim)) rfl rfl hl.1 rfl (lv_room (Nat.le_of_ble_eq_true rfl)) dJ21_checkIndex_3 ⟨Nat.le_refl _, Nat.le_refl _⟩) (fun r_3 e_3 => ?_)
  subst e_3
  exact ret (nI j) 6 ls dJ21_checkIndex_6 rfl (rfl)
set_option maxHeartbeats 4000000 in
set_option maxRecDepth 100000 in
theorem metJ2_elementData (l : Launch) (G : Gt) (x ea n cap j : Nat) (mc : Int32) (f : Nat → Option Nat) (hj : j < cap) (hc : cap < 2 ^ 31) : CRq l G yJ2_elementData cJ2_elementData 2 (.object "java/lang/Object") 0 0 [.ref (x), .int (nI j)] [(x, .inr (5, [.int (mc), .ref (ea), .int (nI n)])), (ea, .inl (gA G 3, cap, .inr (.inr (.inr (.inr (f))))))] (fun r => r = f j) := by
  refine mkRq (by decide) (Nat.le_of_ble_eq_true rfl) (by first | exact Or.inl ⟨_, rfl⟩ | exact Or.inr ⟨_, rfl⟩) ?_
  intro p e s m args below meth c Q hx hb hts hown hml hG hP hS ret ls hl
  refine lv_aload_n hx hb dJ2_elementData_0 rfl (lv_at hl 0 rfl) ?_
  refine va_get (D := gD G) (ci := 5) (v := .ref (ea)) (C := RJ2) (T := TJ2) (N := 3) hx hb hts in_J2 hown hG.K hP 0 rfl rfl 1 (by decide) (hts _ q92) (fun _ h9 => h9) rfl dJ2_elementData_1 ?_
  refine lv_iload_n hx hb dJ2_elementData_4 rfl (lv_at hl 1 rfl) ?_
  refine qa_ld (j := j) hx hb hG.K hP 1 3 rfl rfl (by omega) (by omega) dJ2_elementData_5 ?_
  exact ret (f (j)) 6 ls dJ2_elementData_6 (rfl)
set_option maxHeartbeats 4000000 in
set_option maxRecDepth 100000 in
theorem metJ2_get0 (l : Launch) (G : Gt) (x ea n cap j : Nat) (mc : Int32) (f : Nat → Option Nat) (hj : j < n) (hn : n ≤ cap) (hc : cap < 2 ^ 31) : CRq l G yJ2_get cJ2_get 2 (.object "java/lang/Object") 2 43 [.ref (x), .int (nI j)] [(x, .inr (5, [.int (mc), .ref (ea), .int (nI n)])), (ea, .inl (gA G 3, cap, .inr (.inr (.inr (.inr (f))))))] (fun r => r = f j) := by
  refine mkRq (by decide) (Nat.le_of_ble_eq_true rfl) (by first | exact Or.inl ⟨_, rfl⟩ | exact Or.inr ⟨_, rfl⟩) ?_
  intro p e s m args below meth c Q hx hb hts hown hml hG hP hS ret ls hl
  refine lv_iload_n hx hb dJ2_get_0 rfl (lv_at hl 1 rfl) ?_
  refine lv_aload_n hx hb dJ2_get_1 rfl (lv_at hl 0 rfl) ?_
  refine va_get (D := gD G) (ci := 5) (v := .int (nI n)) (C := RJ2) (T := TJ2) (N := 3) hx hb hts in_J2 hown hG.K hP 0 rfl rfl 2 (by decide) (hts _ q95) (fun _ h9 => h9) rfl dJ2_get_2 ?_
  refine vp_callSi (W.runS (As := [.int (nI j), .int (nI n)]) (rest := []) ⟨hx, hb, hml, hown, hts⟩ (metJ21_checkIndex l G j n hj (by omega)) (va_cwS 2 hts (lw_S q997 q998 q57 q999) rfl rfl rfl (by decide +kernel) ⟨Nat.le_of_ble_eq_true rfl, Nat.le_of_ble_eq_true rfl⟩) (pre_RS hG (wP.mem (w' := []) hP (fun _ h => absurd h List.not_mem_nil)) hS (fun _ h => h.elim)) rfl rfl hl.1 rfl (lv_room (Nat.le_of_ble_eq_true rfl)) dJ2_get_5 ⟨Nat.le_refl _, Nat.le_refl _⟩) (fun r_5 e_5 => ?_)
  subst e_5
  refine lv_pop hx hb dJ2_get_8 rfl ?_
  refine lv_aload_n hx hb dJ2_get_9 rfl (lv_at hl 0 rfl) ?_
  refine lv_iload_n hx hb dJ2_get_10 rfl (lv_at hl 1 rfl) ?_
  refine va_csq (W.runV (As := [.int (nI j)]) (rest := []) ⟨hx, hb, hml, hown, hts⟩ (metJ2_elementData l G x ea n cap j mc f (by omega) hc) (cwV 1 hts (lw_V q1003 q1004 q1005 q32 q1006) rfl rfl rfl (by decide +kernel) ⟨Nat.le_of_ble_eq_true rfl, Nat.le_of_ble_eq_true rfl⟩) (pre_RV (q0 := 0) hG hP hS (fun _ h => h.elim) rfl rfl) rfl rfl hl.1 rfl (lv_room (Nat.le_of_ble_eq_true rfl)) dJ2_get_11 ⟨Nat.le_refl _, Nat.le_refl _⟩) (fun r_11 e_11 => ?_)
  subst e_11
  exact ret (f j) 14 ls dJ2_get_14 (rfl)
theorem metJ2_get (l : Launch) (G : Gt) (x j : Nat) (vs : List Nat) (w : va_W) (hw : AL G x vs w) (hj : j < vs.length) : CRq l G yJ2_get cJ2_get 2 (.object "java/lang/Object") 2 43 [.ref x, .int (nI j)] w (fun r => r = some (vs.getD j 0)) := by
  rcases hw with ⟨mc, rfl, rfl⟩ | ⟨mc, e, cap, f, rfl, h1, h2, h3, h4, h5⟩
  · exact absurd hj (by simp)
  · have h := metJ2_get0 l G x e vs.length cap j mc f hj h1 (by omega)
    rw [h4 j hj] at h
    exact h
