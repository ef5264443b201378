/-- y may stand in an array of Object, in any heap that holds ob -/
def AnyOb (G : Gt) (ob : va_W) (y : Nat) : Prop := ∀ (U : State) (H : Heap), GG G U → (∀ q, q < gz G → H[q]? = U.heap[q]?) → wP G ob H → va_Any "java/lang/Object" U H y
theorem mi_ex (G : Gt) : ∃ mi : Nat, (∃ mi, va_Mi "[Ljava/lang/Object;" mi (gs G)) → va_Mi "[Ljava/lang/Object;" mi (gs G) := by
  by_cases h : ∃ mi, va_Mi "[Ljava/lang/Object;" mi (gs G)
  · obtain ⟨mi, h⟩ := h; exact ⟨mi, fun _ => h⟩
  · exact ⟨0, fun h' => absurd h' h⟩
noncomputable def gmi (G : Gt) : Nat := (mi_ex G).choose
set_option maxRecDepth 100000 in
theorem GG.mi {G : Gt} {U : State} (hG : GG G U) : va_Mi "[Ljava/lang/Object;" (gmi G) U :=
  va_Mi.moved hG.warm.alike ((mi_ex G).choose_spec (va_Mi.of (hG.said (w := Cond.isRef (.mirror "[Ljava/lang/Object;")) (by decide +kernel))))
theorem arr_recv {G : Gt} {s : State} {H : Heap} {w : va_W} {k ea : Nat} {x : vp_A} (hG : GG G s) (hP : wP G w H) (he : w[k]? = some (ea, .inl (gA G 3, x))) : ∃ cell : Cell, H[ea]? = some cell ∧ cell.vm.isStatics = false ∧ s.vm.findClass "[Ljava/lang/Object;" = some cell.cls := by
  have h := hP k _ he
  refine ⟨_, h, ?_, ?_⟩
  · obtain ⟨n, x⟩ := x
    rcases x with x | x | x | x | x <;> rfl
  · have hn := va_nmO (nm := "[Ljava/lang/Object;") (hG.K.2 3 _ rfl).2 rfl
    rw [hn]
    obtain ⟨n, x⟩ := x
    rcases x with x | x | x | x | x <;> rfl
theorem mn_ {a b : Nat} (ha : a < 2 ^ 31) (hb : b < 2 ^ 31) : (if nI b < nI a then nI b else nI a) = nI (if b < a then b else a) := by
  by_cases h : b < a
  · rw [if_pos h, if_pos (nI_lt h ha)]
  · rw [if_neg h, if_neg (nI_nlt (by omega) hb)]
theorem mx_ {a b : Nat} (ha : a < 2 ^ 31) (hb : b < 2 ^ 31) : (if nI a < nI b then nI b else nI a) = nI (if a < b then b else a) := by
  by_cases h : a < b
  · rw [if_pos h, if_pos (nI_lt h hb)]
  · rw [if_neg h, if_neg (nI_nlt (by omega) ha)]
theorem min_ex (N n0 : Nat) : ∃ K, (if N < n0 then N else n0) = K ∧ K ≤ N ∧ K ≤ n0 ∧ ∀ j, j < n0 → j < N → j < K := by
  refine ⟨_, rfl, ?_, ?_, ?_⟩
  · split <;> omega
  · split <;> omega
  · intro j h1 h2; split <;> omega
theorem clamp0 : (0 : Int32).toNatClampNeg = 0 := rfl
set_option maxHeartbeats 4000000 in
set_option maxRecDepth 100000 in
theorem metJ11_copyOf_2 (l : Launch) (G : Gt) (ea n0 N : Nat) (f : Nat → Option Nat) (ob : va_W) (hn0 : n0 ≤ 512) (hN : N ≤ 512) (hob : ∀ j, j < n0 → j < N → ∀ y, f j = some y → AnyOb G ob y) (sz : Nat) : CWq l G yJ11_copyOf_2 cJ11_copyOf_2 4 (.array (.object "java/lang/Object")) 1 1 512 23 [.ref (ea), .int (nI N), .ref (gmi G)] ((ea, .inl (gA G 3, n0, .inr (.inr (.inr (.inr (f)))))) :: ob) sz (fun r w1 => ∃ q g, r = some q ∧ w1 = (q, .inl (gA G 3, N, .inr (.inr (.inr (.inr g))))) :: (ea, .inl (gA G 3, n0, .inr (.inr (.inr (.inr f))))) :: ob ∧ (∀ j, j < n0 → j < N → g j = f j) ∧ ∀ j, n0 ≤ j ∨ N ≤ j → g j = none) := by
  refine mkWq (by decide) (Nat.le_of_ble_eq_true rfl) (by first | exact Or.inl ⟨_, rfl⟩ | exact Or.inr ⟨_, rfl⟩) ?_
  intro p e s m args below meth c Q A hx hb hts hown hin hml hG hsz hP hD hA hA0 hS ret ls hl
  obtain ⟨K, hKe, hK1, hK2, hK3⟩ := min_ex N n0
  refine lv_aload_n hx hb dJ11_copyOf_2_0 rfl (lv_at hl 2 rfl) ?_
  refine va_ldcM hx hb hown (hts _ q329) hG.mi dJ11_copyOf_2_1 ?_
  refine lv_acmp_ne (rx := (some (gmi G))) (ry := (some (gmi G))) (tgt := 13) hx hb dJ11_copyOf_2_3 (by decide) (fun c_3 => absurd c_3 (fun h => h rfl)) (fun c_3 => ?_)
  refine lv_iload_n hx hb dJ11_copyOf_2_6 rfl (lv_at hl 1 rfl) ?_
  refine va_newq (D := gD G) (N' := N) hx hb hown (hts _ q331) (hG.AO q330) hG.K hP hD hS hA (nI_pos (by omega)) (nI_clamp (by omega)) (by omega) (Nat.le_of_ble_eq_true rfl) (by show 0 + _ ≤ 512; omega) dJ11_copyOf_2_7 (fun o1 cA H hK hP hD hS => ?_)
  obtain rfl := arrQ (k := 3) rfl hG hK
  clear hK
  have hP := wP.perm hP (List.perm_append_singleton _ _).symm
  have hD := va_D.perm hD (List.perm_append_singleton _ _).symm
  have hP : wP G ((o1, .inl (gA G 3, N, .inr (.inr (.inr (.inr ((fun _ => none))))))) :: (ea, .inl (gA G 3, n0, .inr (.inr (.inr (.inr (f)))))) :: ob) H := hP
  have hD : va_D A ((o1, .inl (gA G 3, N, .inr (.inr (.inr (.inr ((fun _ => none))))))) :: (ea, .inl (gA G 3, n0, .inr (.inr (.inr (.inr (f)))))) :: ob) := hD
  refine W.widen (k := 1) (n := 512) (by omega) (by omega) ?_
  refine lv_goto (tgt := 24) hx hb dJ11_copyOf_2_10 (by decide) ?_
  refine lv_astore_n (lv' := [(3, .ref (o1)), (0, .ref (ea)), (1, .int (nI N)), (2, .ref (gmi G))]) hx hb dJ11_copyOf_2_24 rfl hl (by decide) rfl (fun ls hl => ?_)
  refine lv_aload_n hx hb dJ11_copyOf_2_25 rfl (lv_at hl 1 rfl) ?_
  refine lv_iconst (v := 0) hx hb dJ11_copyOf_2_26 (by decide) ?_
  refine lv_aload_n hx hb dJ11_copyOf_2_27 rfl (lv_at hl 0 rfl) ?_
  refine lv_iconst (v := 0) hx hb dJ11_copyOf_2_28 (by decide) ?_
  refine lv_aload_n hx hb dJ11_copyOf_2_29 rfl (lv_at hl 1 rfl) ?_
  refine va_alen (v := nI (n0)) hx hb hG.K hP 1 3 rfl rfl rfl dJ11_copyOf_2_30 ?_
  refine lv_iload_n hx hb dJ11_copyOf_2_31 rfl (lv_at hl 2 rfl) ?_
  refine va_mmin hx hb (by rw [hml]; exact hl.1.symm) hown (hts _ q332) (hts _ q333) (hts _ q40) (hts _ q334) (Nat.le_of_ble_eq_true rfl) (Nat.le_of_ble_eq_true rfl) (Nat.le_of_ble_eq_true rfl) (Nat.le_of_ble_eq_true rfl) dJ11_copyOf_2_32 ?_
  refine top_i (y := nI K) (by rw [mn_ (by omega) (by omega), hKe]) ?_
  refine va_copyM hx hb (by rw [hml]; exact hl.1.symm) hown (hts _ q335) (hts _ q224) (hts _ q223) (hts _ q37) hG.K hP hD hS 1 0 3 3 rfl rfl rfl rfl (by decide) (by decide) (nI_pos (by omega)) (by rw [clamp0, nI_clamp (show K < 2 ^ 31 by omega)]; omega) (by rw [clamp0, nI_clamp (show K < 2 ^ 31 by omega)]; omega) (by intro i hi y hy; rw [clamp0, Nat.zero_add] at hy; rw [nI_clamp (show K < 2 ^ 31 by omega)] at hi; exact hob i (by omega) (by omega) y hy s H hG (base_same hG hS hA0).1 (hP.mem (fun q hq => List.mem_cons_of_mem _ (List.mem_cons_of_mem _ hq)))) (Nat.le_of_ble_eq_true rfl) (Nat.le_of_ble_eq_true rfl) dJ11_copyOf_2_35 (fun H locs hP hD hS => ?_)
  rw [clamp0, nI_clamp (show K < 2 ^ 31 by omega)] at hP hD
  have hP : wP G ((o1, .inl (gA G 3, N, .inr (.inr (.inr (.inr (va_cpy f ((fun _ => none)) 0 0 K)))))) :: (ea, .inl (gA G 3, n0, .inr (.inr (.inr (.inr (f)))))) :: ob) H := hP
  have hD : va_D A ((o1, .inl (gA G 3, N, .inr (.inr (.inr (.inr (va_cpy f ((fun _ => none)) 0 0 K)))))) :: (ea, .inl (gA G 3, n0, .inr (.inr (.inr (.inr (f)))))) :: ob) := hD
  refine lv_aload_n hx hb dJ11_copyOf_2_38 rfl (lv_at hl 0 rfl) ?_
  exact ret (some (o1)) _ 39 ls _ _ _ _ dJ11_copyOf_2_39 (Nat.le_of_ble_eq_true rfl) (Nat.le_of_ble_eq_true rfl) hP hD hS (⟨o1, _, rfl, rfl, fun j h1 h2 => by rw [pk_cpy_in (Nat.zero_le _) (by have := hK3 j h1 h2; omega)]; simp, fun j hj => by rw [pk_cpy_out (Or.inr (by omega))]⟩)
set_option maxHeartbeats 4000000 in
set_option maxRecDepth 100000 in
theorem metJ11_copyOf_2E (l : Launch) (G : Gt) (N : Nat) (hN : N ≤ 512) (sz : Nat) : CWq l G yJ11_copyOf_2 cJ11_copyOf_2 4 (.array (.object "java/lang/Object")) 1 1 512 23 [.ref (gad G 256), .int (nI N), .ref (gmi G)] [] sz (fun r w1 => ∃ q g, r = some q ∧ w1 = [(q, .inl (gA G 3, N, .inr (.inr (.inr (.inr g)))))]) := by
  refine mkWq (by decide) (Nat.le_of_ble_eq_true rfl) (by first | exact Or.inl ⟨_, rfl⟩ | exact Or.inr ⟨_, rfl⟩) ?_
  intro p e s m args below meth c Q A hx hb hts hown hin hml hG hsz hP hD hA hA0 hS ret ls hl
  refine lv_aload_n hx hb dJ11_copyOf_2_0 rfl (lv_at hl 2 rfl) ?_
  refine va_ldcM hx hb hown (hts _ q329) hG.mi dJ11_copyOf_2_1 ?_
  refine lv_acmp_ne (rx := (some (gmi G))) (ry := (some (gmi G))) (tgt := 13) hx hb dJ11_copyOf_2_3 (by decide) (fun c_3 => absurd c_3 (fun h => h rfl)) (fun c_3 => ?_)
  refine lv_iload_n hx hb dJ11_copyOf_2_6 rfl (lv_at hl 1 rfl) ?_
  refine va_newq (D := gD G) (N' := N) hx hb hown (hts _ q331) (hG.AO q330) hG.K hP hD hS hA (nI_pos (by omega)) (nI_clamp (by omega)) (by omega) (Nat.le_of_ble_eq_true rfl) (by show 0 + _ ≤ 512; omega) dJ11_copyOf_2_7 (fun o1 cA H hK hP hD hS => ?_)
  obtain rfl := arrQ (k := 3) rfl hG hK
  clear hK
  have hP : wP G [(o1, .inl (gA G 3, N, .inr (.inr (.inr (.inr ((fun _ => none)))))))] H := hP
  have hD : va_D A [(o1, .inl (gA G 3, N, .inr (.inr (.inr (.inr ((fun _ => none)))))))] := hD
  refine W.widen (k := 1) (n := 512) (by omega) (by omega) ?_
  refine lv_goto (tgt := 24) hx hb dJ11_copyOf_2_10 (by decide) ?_
  refine lv_astore_n (lv' := [(3, .ref (o1)), (0, .ref (gad G 256)), (1, .int (nI N)), (2, .ref (gmi G))]) hx hb dJ11_copyOf_2_24 rfl hl (by decide) rfl (fun ls hl => ?_)
  refine lv_aload_n hx hb dJ11_copyOf_2_25 rfl (lv_at hl 1 rfl) ?_
  refine lv_iconst (v := 0) hx hb dJ11_copyOf_2_26 (by decide) ?_
  refine lv_aload_n hx hb dJ11_copyOf_2_27 rfl (lv_at hl 0 rfl) ?_
  refine lv_iconst (v := 0) hx hb dJ11_copyOf_2_28 (by decide) ?_
  refine lv_aload_n hx hb dJ11_copyOf_2_29 rfl (lv_at hl 1 rfl) ?_
  refine va_tlen (v := 0) hx hb (hG.sfA hA0).2.1 hS rfl dJ11_copyOf_2_30 ?_
  refine lv_iload_n hx hb dJ11_copyOf_2_31 rfl (lv_at hl 2 rfl) ?_
  refine va_mmin hx hb (by rw [hml]; exact hl.1.symm) hown (hts _ q332) (hts _ q333) (hts _ q40) (hts _ q334) (Nat.le_of_ble_eq_true rfl) (Nat.le_of_ble_eq_true rfl) (Nat.le_of_ble_eq_true rfl) (Nat.le_of_ble_eq_true rfl) dJ11_copyOf_2_32 ?_
  refine top_i (y := 0) (by rw [if_neg (nI_pos (by omega))]) ?_
  refine va_copyg hx hb (by rw [hml]; exact hl.1.symm) hown (hts _ q335) (hts _ q224) (hts _ q223) (hts _ q37) hG.K hP hD hS 0 3 (hG.sfA hA0).2.1 rfl rfl (by decide) (by decide) (by decide) (by decide) (Nat.zero_le _) (Nat.le_of_ble_eq_true rfl) (Nat.le_of_ble_eq_true rfl) dJ11_copyOf_2_35 (fun H locs hP hD hS => ?_)
  have hP : wP G [(o1, .inl (gA G 3, N, .inr (.inr (.inr (.inr (va_cpy (fun _ => none) (fun _ => none) 0 0 0))))))] H := hP
  have hD : va_D A [(o1, .inl (gA G 3, N, .inr (.inr (.inr (.inr (va_cpy (fun _ => none) (fun _ => none) 0 0 0))))))] := hD
  refine lv_aload_n hx hb dJ11_copyOf_2_38 rfl (lv_at hl 0 rfl) ?_
  exact ret (some (o1)) _ 39 ls _ _ _ _ dJ11_copyOf_2_39 (Nat.le_of_ble_eq_true rfl) (Nat.le_of_ble_eq_true rfl) hP hD hS (⟨o1, _, rfl, rfl⟩)
set_option maxHeartbeats 4000000 in
set_option maxRecDepth 100000 in
theorem metJ11_copyOfE (l : Launch) (G : Gt) (N : Nat) (hN : N ≤ 512) (sz : Nat) : CWq l G yJ11_copyOf cJ11_copyOf 2 (.array (.object "java/lang/Object")) 2 1 512 46 [.ref (gad G 256), .int (nI N)] [] sz (fun r w1 => ∃ q g, r = some q ∧ w1 = [(q, .inl (gA G 3, N, .inr (.inr (.inr (.inr g)))))]) := by
  refine mkWq (by decide) (Nat.le_of_ble_eq_true rfl) (by first | exact Or.inl ⟨_, rfl⟩ | exact Or.inr ⟨_, rfl⟩) ?_
  intro p e s m args below meth c Q A hx hb hts hown hin hml hG hsz hP hD hA hA0 hS ret ls hl
  refine lv_aload_n hx hb dJ11_copyOf_0 rfl (lv_at hl 0 rfl) ?_
  refine lv_iload_n hx hb dJ11_copyOf_1 rfl (lv_at hl 1 rfl) ?_
  refine lv_aload_n hx hb dJ11_copyOf_2 rfl (lv_at hl 0 rfl) ?_
  refine va_getC (C := "[Ljava/lang/Object;") hx hb (by rw [hml]; exact hl.1.symm) hown (hts _ q306) (va_Nw.use rfl (hG.decl q1373)) (hts _ q1372) (hts _ q307) (hts _ q325) hG.mi (va_Orecv (hG.sfA hA0).2.2.1 hS) (Nat.le_of_ble_eq_true rfl) (Nat.le_of_ble_eq_true rfl) dJ11_copyOf_3 ?_
  refine cl_q0 (va_runS (As := [.ref (gad G 256), .int (nI N), .ref (gmi G)]) (rest := []) ⟨hx, hb, hml, hown, hts⟩ (metJ11_copyOf_2E l G N hN _) (va_cwS 3 hts (lw_S q326 q327 q44 q328) rfl rfl rfl (by decide +kernel) ⟨Nat.le_of_ble_eq_true rfl, Nat.le_of_ble_eq_true rfl⟩) (pre_WS0 hG hP hD hS hA0) rfl rfl hl.1 rfl (lv_room (Nat.le_of_ble_eq_true rfl)) dJ11_copyOf_6 ⟨Nat.le_of_ble_eq_true rfl, Nat.le_of_ble_eq_true rfl⟩) hP hD hS hA (fun r_6 w1 H locs hp hP hD hS => ?_)
  obtain ⟨q1, g1, rfl, rfl⟩ := hp
  have hP : wP G [(q1, .inl (gA G 3, N, .inr (.inr (.inr (.inr (g1))))))] H := hP
  have hD : va_D A [(q1, .inl (gA G 3, N, .inr (.inr (.inr (.inr (g1))))))] := hD
  exact ret (some (q1)) _ 9 ls _ _ _ _ dJ11_copyOf_9 (Nat.le_of_ble_eq_true rfl) (Nat.le_of_ble_eq_true rfl) hP hD hS (⟨q1, g1, rfl, rfl⟩)
set_option maxHeartbeats 4000000 in
set_option maxRecDepth 100000 in
theorem metJ11_copyOf (l : Launch) (G : Gt) (ea n0 N : Nat) (f : Nat → Option Nat) (ob : va_W) (hn0 : n0 ≤ 512) (hN : N ≤ 512) (hob : ∀ j, j < n0 → j < N → ∀ y, f j = some y → AnyOb G ob y) (sz : Nat) : CWq l G yJ11_copyOf cJ11_copyOf 2 (.array (.object "java/lang/Object")) 2 1 512 46 [.ref (ea), .int (nI N)] ((ea, .inl (gA G 3, n0, .inr (.inr (.inr (.inr (f)))))) :: ob) sz (fun r w1 => ∃ q g, r = some q ∧ w1 = (q, .inl (gA G 3, N, .inr (.inr (.inr (.inr g))))) :: (ea, .inl (gA G 3, n0, .inr (.inr (.inr (.inr f))))) :: ob ∧ (∀ j, j < n0 → j < N → g j = f j) ∧ ∀ j, n0 ≤ j ∨ N ≤ j → g j = none) := by
  refine mkWq (by decide) (Nat.le_of_ble_eq_true rfl) (by first | exact Or.inl ⟨_, rfl⟩ | exact Or.inr ⟨_, rfl⟩) ?_
  intro p e s m args below meth c Q A hx hb hts hown hin hml hG hsz hP hD hA hA0 hS ret ls hl
  refine lv_aload_n hx hb dJ11_copyOf_0 rfl (lv_at hl 0 rfl) ?_
  refine lv_iload_n hx hb dJ11_copyOf_1 rfl (lv_at hl 1 rfl) ?_
  refine lv_aload_n hx hb dJ11_copyOf_2 rfl (lv_at hl 0 rfl) ?_
  refine va_getC (C := "[Ljava/lang/Object;") hx hb (by rw [hml]; exact hl.1.symm) hown (hts _ q306) (va_Nw.use rfl (hG.decl q1373)) (hts _ q1372) (hts _ q307) (hts _ q325) hG.mi (arr_recv hG hP (k := 0) rfl) (Nat.le_of_ble_eq_true rfl) (Nat.le_of_ble_eq_true rfl) dJ11_copyOf_3 ?_
  refine cl_q0 (va_runS (As := [.ref (ea), .int (nI N), .ref (gmi G)]) (rest := []) ⟨hx, hb, hml, hown, hts⟩ (metJ11_copyOf_2 l G ea n0 N f ob hn0 hN hob _) (va_cwS 3 hts (lw_S q326 q327 q44 q328) rfl rfl rfl (by decide +kernel) ⟨Nat.le_of_ble_eq_true rfl, Nat.le_of_ble_eq_true rfl⟩) (pre_WS0 hG hP hD hS hA0) rfl rfl hl.1 rfl (lv_room (Nat.le_of_ble_eq_true rfl)) dJ11_copyOf_6 ⟨Nat.le_of_ble_eq_true rfl, Nat.le_of_ble_eq_true rfl⟩) hP hD hS hA (fun r_6 w1 H locs hp hP hD hS => ?_)
  obtain ⟨q1, g1, rfl, rfl, hg1, hg9⟩ := hp
  have hP : wP G ((q1, .inl (gA G 3, N, .inr (.inr (.inr (.inr (g1)))))) :: (ea, .inl (gA G 3, n0, .inr (.inr (.inr (.inr (f)))))) :: ob) H := hP
  have hD : va_D A ((q1, .inl (gA G 3, N, .inr (.inr (.inr (.inr (g1)))))) :: (ea, .inl (gA G 3, n0, .inr (.inr (.inr (.inr (f)))))) :: ob) := hD
  exact ret (some (q1)) _ 9 ls _ _ _ _ dJ11_copyOf_9 (Nat.le_of_ble_eq_true rfl) (Nat.le_of_ble_eq_true rfl) hP hD hS (⟨q1, g1, rfl, rfl, hg1, hg9⟩)
set_option maxHeartbeats 4000000 in
set_option maxRecDepth 100000 in
theorem metJ10_newLength (l : Launch) (G : Gt) (a b d : Nat) (ha : a ≤ 1024) (hb : b ≤ 1024) (hd : d ≤ 1024) (ha1 : 1 ≤ a) : CR l G yJ10_newLength cJ10_newLength 4 .int 1 16 [.int (nI a), .int (nI b), .int (nI d)] [] (fun r => r = nI (a + (if b < d then d else b))) := by
  refine mkRi (by decide) (Nat.le_of_ble_eq_true rfl) ?_
  intro p e s m args below meth c Q hx hb hts hown hml hG hP hS ret ls hl
  have hM : (if b < d then d else b) ≤ 1024 := by split <;> omega
  refine lv_iload_n hx hb dJ10_newLength_0 rfl (lv_at hl 0 rfl) ?_
  refine lv_iload_n hx hb dJ10_newLength_1 rfl (lv_at hl 1 rfl) ?_
  refine lv_iload_n hx hb dJ10_newLength_2 rfl (lv_at hl 2 rfl) ?_
  refine va_mmax hx hb (by rw [hml]; exact hl.1.symm) hown (hts _ q296) (hts _ q297) (hts _ q40) (hts _ q298) (Nat.le_of_ble_eq_true rfl) (Nat.le_of_ble_eq_true rfl) (Nat.le_of_ble_eq_true rfl) (Nat.le_of_ble_eq_true rfl) dJ10_newLength_3 ?_
  refine top_i (y := nI (if b < d then d else b)) (mx_ (by omega) (by omega)) ?_
  refine lv_iadd hx hb dJ10_newLength_6 ?_
  refine top_i (y := nI (a + (if b < d then d else b))) (nI_add _ _) ?_
  refine lv_istore_n (lv' := [(3, .int (nI (a + (if b < d then d else b)))), (0, .int (nI a)), (1, .int (nI b)), (2, .int (nI d))]) hx hb dJ10_newLength_7 rfl hl (by decide) rfl (fun ls hl => ?_)
  refine lv_iconst (v := 0) hx hb dJ10_newLength_8 (by decide) ?_
  refine lv_iload_n hx hb dJ10_newLength_9 rfl (lv_at hl 0 rfl) ?_
  refine lv_icmp_ge (tgt := 21) hx hb dJ10_newLength_10 (by decide) (fun c_10 => absurd c_10 (nI_ge (a := 0) (show 0 < a + (if b < d then d else b) by omega) (by omega))) (fun c_10 => ?_)
  refine lv_iload_n hx hb dJ10_newLength_13 rfl (lv_at hl 0 rfl) ?_
  refine lv_ldc (v := (2147483639)) hx hb hown (hts _ q299) dJ10_newLength_14 ?_
  refine lv_icmp_gt (tgt := 21) hx hb dJ10_newLength_16 (by decide) (fun c_16 => absurd c_16 (fun h => absurd h (nI_nlt (a := 2147483639) (b := a + (if b < d then d else b)) (by omega) (by decide)))) (fun c_16 => ?_)
  refine lv_iload_n hx hb dJ10_newLength_19 rfl (lv_at hl 0 rfl) ?_
  exact ret (nI (a + (if b < d then d else b))) 20 ls dJ10_newLength_20 rfl (rfl)
theorem cap_ex {cap mn : Nat} (h1 : 1 ≤ cap) (h2 : cap < mn) (h3 : mn ≤ 300) : ∃ C, cap + (if mn - cap < cap / 2 then cap / 2 else mn - cap) = C ∧ mn ≤ C ∧ C ≤ 512 := by
  refine ⟨_, rfl, ?_, ?_⟩ <;> split <;> omega
set_option maxHeartbeats 4000000 in
set_option maxRecDepth 100000 in
theorem metJ2_grow_2 (l : Launch) (G : Gt) (x ea n cap mn : Nat) (mc : Int32) (f : Nat → Option Nat) (ob : va_W) (h1 : 1 ≤ cap) (h2 : cap < mn) (h3 : mn ≤ 300) (hob : ∀ j, j < cap → ∀ y, f j = some y → AnyOb G ob y) (sz : Nat) : CWq l G yJ2_grow_2 cJ2_grow_2 4 (.array (.object "java/lang/Object")) 3 1 512 67 [.ref (x), .int (nI mn)] ((x, .inr (5, [.int (mc), .ref (ea), .int (nI n)])) :: (ea, .inl (gA G 3, cap, .inr (.inr (.inr (.inr (f)))))) :: ob) sz (fun r w1 => ∃ q C g, r = some q ∧ w1 = (x, .inr (5, [.int mc, .ref q, .int (nI n)])) :: (q, .inl (gA G 3, C, .inr (.inr (.inr (.inr g))))) :: ob ∧ mn ≤ C ∧ C ≤ 512 ∧ (∀ j, j < cap → g j = f j) ∧ ∀ j, cap ≤ j → g j = none) := by
  refine mkWq (by decide) (Nat.le_of_ble_eq_true rfl) (by first | exact Or.inl ⟨_, rfl⟩ | exact Or.inr ⟨_, rfl⟩) ?_
  intro p e s m args below meth c Q A hx hb hts hown hin hml hG hsz hP hD hA hA0 hS ret ls hl
  obtain ⟨C, hCe, hC1, hC2⟩ := cap_ex h1 h2 h3
  refine lv_aload_n hx hb dJ2_grow_2_0 rfl (lv_at hl 0 rfl) ?_
  refine va_get (D := gD G) (ci := 5) (v := .ref (ea)) (C := RJ2) (T := TJ2) (N := 3) hx hb hts in_J2 hown hG.K hP 0 rfl rfl 1 (by decide) (hts _ q92) (fun _ h9 => h9) rfl dJ2_grow_2_1 ?_
  refine va_alen (v := nI (cap)) hx hb hG.K hP 1 3 rfl rfl rfl dJ2_grow_2_4 ?_
  refine lv_istore_n (lv' := [(2, .int (nI (cap))), (0, .ref (x)), (1, .int (nI mn))]) hx hb dJ2_grow_2_5 rfl hl (by decide) rfl (fun ls hl => ?_)
  refine lv_iload_n hx hb dJ2_grow_2_6 rfl (lv_at hl 0 rfl) ?_
  refine lv_if_gt (tgt := 20) hx hb dJ2_grow_2_7 (by decide) (fun c_7 => ?_) (fun c_7 => absurd (show (0 : Int32) < nI cap from nI_lt (a := 0) (by omega) (by omega)) c_7)
  refine lv_iload_n hx hb dJ2_grow_2_20 rfl (lv_at hl 0 rfl) ?_
  refine lv_iload_n hx hb dJ2_grow_2_21 rfl (lv_at hl 2 rfl) ?_
  refine lv_iload_n hx hb dJ2_grow_2_22 rfl (lv_at hl 0 rfl) ?_
  refine lv_isub hx hb dJ2_grow_2_23 ?_
  refine top_i (y := nI (mn - cap)) (pk_sub (by omega)) ?_
  refine lv_iload_n hx hb dJ2_grow_2_24 rfl (lv_at hl 0 rfl) ?_
  refine lv_iconst (v := 1) hx hb dJ2_grow_2_25 (by decide) ?_
  refine lv_ishr hx hb dJ2_grow_2_26 ?_
  refine top_i (y := nI (cap / 2)) (by rw [show (1 : Int32) = nI 1 from rfl, sh_r (by omega) (by omega)]) ?_
  refine vp_callSi (W.runS (As := [.int (nI (cap)), .int (nI (mn - cap)), .int (nI (cap / 2))]) (rest := []) ⟨hx, hb, hml, hown, hts⟩ (metJ10_newLength l G cap (mn - cap) (cap / 2) (by omega) (by omega) (by omega) h1) (va_cwS 3 hts (lw_S q293 q294 q43 q295) rfl rfl rfl (by decide +kernel) ⟨Nat.le_of_ble_eq_true rfl, Nat.le_of_ble_eq_true rfl⟩) (pre_RS hG (wP.mem (w' := []) hP (fun _ h => absurd h List.not_mem_nil)) hS hA0) rfl rfl hl.1 rfl (lv_room (Nat.le_of_ble_eq_true rfl)) dJ2_grow_2_27 ⟨Nat.le_of_ble_eq_true rfl, Nat.le_of_ble_eq_true rfl⟩) (fun r_27 e_27 => ?_)
  subst e_27
  refine top_i (y := nI C) (by rw [hCe]) ?_
  refine lv_istore_n (lv' := [(3, .int (nI C)), (2, .int (nI (cap))), (0, .ref (x)), (1, .int (nI mn))]) hx hb dJ2_grow_2_30 rfl hl (by decide) rfl (fun ls hl => ?_)
  refine lv_aload_n hx hb dJ2_grow_2_31 rfl (lv_at hl 2 rfl) ?_
  refine lv_aload_n hx hb dJ2_grow_2_32 rfl (lv_at hl 2 rfl) ?_
  refine va_get (D := gD G) (ci := 5) (v := .ref (ea)) (C := RJ2) (T := TJ2) (N := 3) hx hb hts in_J2 hown hG.K hP 0 rfl rfl 1 (by decide) (hts _ q92) (fun _ h9 => h9) rfl dJ2_grow_2_33 ?_
  refine lv_iload_n hx hb dJ2_grow_2_36 rfl (lv_at hl 0 rfl) ?_
  have hP := wP.perm (w' := ((ea, .inl (gA G 3, cap, .inr (.inr (.inr (.inr (f)))))) :: ob) ++ [(x, .inr (5, [.int (mc), .ref (ea), .int (nI n)]))]) hP (pm_ (fun _ z => by simp only [List.count_append, List.count_cons, List.count_nil]; omega))
  have hD := va_D.perm (w' := ((ea, .inl (gA G 3, cap, .inr (.inr (.inr (.inr (f)))))) :: ob) ++ [(x, .inr (5, [.int (mc), .ref (ea), .int (nI n)]))]) hD (pm_ (fun _ z => by simp only [List.count_append, List.count_cons, List.count_nil]; omega))
  refine cl_q (wr := [(x, .inr (5, [.int (mc), .ref (ea), .int (nI n)]))]) (va_runS (As := [.ref (ea), .int (nI C)]) (rest := [.ref (x)]) ⟨hx, hb, hml, hown, hts⟩ (metJ11_copyOf l G ea cap C f ob (by omega) hC2 (fun j h _ y hy => hob j h y hy) _) (va_cwS 2 hts (lw_S q303 q304 q44 q305) rfl rfl rfl (by decide +kernel) ⟨Nat.le_of_ble_eq_true rfl, Nat.le_of_ble_eq_true rfl⟩) (pre_WS hG hP hD hS hA0) rfl rfl hl.1 rfl (lv_room (Nat.le_of_ble_eq_true rfl)) dJ2_grow_2_37 ⟨Nat.le_of_ble_eq_true rfl, Nat.le_of_ble_eq_true rfl⟩) hP hD hS hA (fun r_37 w1 H locs hp hP hD hS => ?_)
  obtain ⟨q1, g1, rfl, rfl, hg1, hg9⟩ := hp
  have hP := wP.perm (w' := ((x, .inr (5, [.int (mc), .ref (ea), .int (nI n)])) :: (q1, .inl (gA G 3, C, .inr (.inr (.inr (.inr (g1)))))) :: (ea, .inl (gA G 3, cap, .inr (.inr (.inr (.inr (f)))))) :: ob)) hP (pm_ (fun _ z => by simp only [List.count_append, List.count_cons, List.count_nil]; omega))
  have hD := va_D.perm (w' := ((x, .inr (5, [.int (mc), .ref (ea), .int (nI n)])) :: (q1, .inl (gA G 3, C, .inr (.inr (.inr (.inr (g1)))))) :: (ea, .inl (gA G 3, cap, .inr (.inr (.inr (.inr (f)))))) :: ob)) hD (pm_ (fun _ z => by simp only [List.count_append, List.count_cons, List.count_nil]; omega))
  refine lv_dup_x1 hx hb dJ2_grow_2_40 rfl rfl ?_
  refine va_put (D := gD G) (ci := 5) (v := .ref (q1)) (ty := .array (.object "java/lang/Object")) (C := RJ2) (T := TJ2) (N := 3) hx hb hts in_J2 tyJ2 tyJ2_ok nmJ2 hown hG.K hP hD hS 0 rfl rfl 1 (by decide) (hts _ q92) (fun _ h9 => h9) rfl (by decide +kernel) rfl rfl (Nat.le_of_ble_eq_true rfl) dJ2_grow_2_41 (fun H locs hP hD hS => ?_)
  have hP : wP G ((x, .inr (5, [.int (mc), .ref (q1), .int (nI n)])) :: (q1, .inl (gA G 3, C, .inr (.inr (.inr (.inr (g1)))))) :: (ea, .inl (gA G 3, cap, .inr (.inr (.inr (.inr (f)))))) :: ob) H := hP
  have hD : va_D A ((x, .inr (5, [.int (mc), .ref (q1), .int (nI n)])) :: (q1, .inl (gA G 3, C, .inr (.inr (.inr (.inr (g1)))))) :: (ea, .inl (gA G 3, cap, .inr (.inr (.inr (.inr (f)))))) :: ob) := hD
  have hP := (wP.perm (w' := [(ea, .inl (gA G 3, cap, .inr (.inr (.inr (.inr (f))))))] ++ ((x, .inr (5, [.int (mc), .ref (q1), .int (nI n)])) :: (q1, .inl (gA G 3, C, .inr (.inr (.inr (.inr (g1)))))) :: ob)) hP (pm_ (fun _ z => by simp only [List.count_append, List.count_cons, List.count_nil]; omega))).right
  have hD := (va_D.perm (w' := [(ea, .inl (gA G 3, cap, .inr (.inr (.inr (.inr (f))))))] ++ ((x, .inr (5, [.int (mc), .ref (q1), .int (nI n)])) :: (q1, .inl (gA G 3, C, .inr (.inr (.inr (.inr (g1)))))) :: ob)) hD (pm_ (fun _ z => by simp only [List.count_append, List.count_cons, List.count_nil]; omega))).right
  exact ret (some (q1)) _ 44 ls _ _ _ _ dJ2_grow_2_44 (Nat.le_of_ble_eq_true rfl) (Nat.le_of_ble_eq_true rfl) hP hD hS (⟨q1, C, g1, rfl, rfl, hC1, hC2, fun j hj => hg1 j hj (by omega), fun j hj => hg9 j (Or.inl hj)⟩)
set_option maxHeartbeats 4000000 in
set_option maxRecDepth 100000 in
theorem metJ2_grow_2E (l : Launch) (G : Gt) (x mn : Nat) (mc : Int32) (h3 : mn ≤ 300) (sz : Nat) : CWq l G yJ2_grow_2 cJ2_grow_2 4 (.array (.object "java/lang/Object")) 1 1 512 16 [.ref (x), .int (nI mn)] [(x, .inr (5, [.int (mc), .ref (gad G 256), .int (0)]))] sz (fun r w1 => ∃ q C, r = some q ∧ w1 = [(x, .inr (5, [.int mc, .ref q, .int 0])), (q, .inl (gA G 3, C, .inr (.inr (.inr (.inr (fun _ => none))))))] ∧ mn ≤ C ∧ C ≤ 512 ∧ 1 ≤ C) := by
  refine mkWq (by decide) (Nat.le_of_ble_eq_true rfl) (by first | exact Or.inl ⟨_, rfl⟩ | exact Or.inr ⟨_, rfl⟩) ?_
  intro p e s m args below meth c Q A hx hb hts hown hin hml hG hsz hP hD hA hA0 hS ret ls hl
  obtain ⟨C, hCe, hC1, hC2, hC3⟩ : ∃ C, (if 10 < mn then mn else 10) = C ∧ mn ≤ C ∧ C ≤ 512 ∧ 1 ≤ C := by refine ⟨_, rfl, ?_, ?_, ?_⟩ <;> split <;> omega
  refine lv_aload_n hx hb dJ2_grow_2_0 rfl (lv_at hl 0 rfl) ?_
  refine va_get (D := gD G) (ci := 5) (v := .ref (gad G 256)) (C := RJ2) (T := TJ2) (N := 3) hx hb hts in_J2 hown hG.K hP 0 rfl rfl 1 (by decide) (hts _ q92) (fun _ h9 => h9) rfl dJ2_grow_2_1 ?_
  refine va_tlen (v := 0) hx hb (hG.sfA hA0).2.1 hS rfl dJ2_grow_2_4 ?_
  refine lv_istore_n (lv' := [(2, .int (0)), (0, .ref (x)), (1, .int (nI mn))]) hx hb dJ2_grow_2_5 rfl hl (by decide) rfl (fun ls hl => ?_)
  refine lv_iload_n hx hb dJ2_grow_2_6 rfl (lv_at hl 0 rfl) ?_
  refine lv_if_gt (tgt := 20) hx hb dJ2_grow_2_7 (by decide) (fun c_7 => absurd c_7 (by decide)) (fun c_7 => ?_)
  refine lv_aload_n hx hb dJ2_grow_2_10 rfl (lv_at hl 1 rfl) ?_
  refine va_get (D := gD G) (ci := 5) (v := .ref (gad G 256)) (C := RJ2) (T := TJ2) (N := 3) hx hb hts in_J2 hown hG.K hP 0 rfl rfl 1 (by decide) (hts _ q92) (fun _ h9 => h9) rfl dJ2_grow_2_11 ?_
  refine va_gets hx hb (hG.sfA hA0).1 hS hown (hts _ q90) (fun _ h9 => h9) dJ2_grow_2_14 ?_
  refine lv_acmp_eq (rx := (some (gad G 256))) (ry := (some (gad G 256))) (tgt := 45) hx hb dJ2_grow_2_17 (by decide) (fun c_17 => ?_) (fun c_17 => absurd (rfl) c_17)
  refine lv_aload_n hx hb dJ2_grow_2_45 rfl (lv_at hl 1 rfl) ?_
  refine lv_bipush (v := 10) hx hb dJ2_grow_2_46 (by decide) ?_
  refine lv_iload_n hx hb dJ2_grow_2_48 rfl (lv_at hl 2 rfl) ?_
  refine va_mmax hx hb (by rw [hml]; exact hl.1.symm) hown (hts _ q336) (hts _ q297) (hts _ q40) (hts _ q298) (Nat.le_of_ble_eq_true rfl) (Nat.le_of_ble_eq_true rfl) (Nat.le_of_ble_eq_true rfl) (Nat.le_of_ble_eq_true rfl) dJ2_grow_2_49 ?_
  refine top_i (y := nI C) (by rw [show (10 : Int32) = nI 10 from rfl, mx_ (by omega) (by omega), hCe]) ?_
  refine va_newq (D := gD G) (N' := C) hx hb hown (hts _ q337) (hG.AO q330) hG.K hP hD hS hA (nI_pos (by omega)) (nI_clamp (by omega)) (by omega) (Nat.le_of_ble_eq_true rfl) (by show 0 + _ ≤ 512; omega) dJ2_grow_2_52 (fun o1 cA H hK hP hD hS => ?_)
  obtain rfl := arrQ (k := 3) rfl hG hK
  clear hK
  have hP : wP G [(x, .inr (5, [.int (mc), .ref (gad G 256), .int (0)])), (o1, .inl (gA G 3, C, .inr (.inr (.inr (.inr ((fun _ => none)))))))] H := hP
  have hD : va_D A [(x, .inr (5, [.int (mc), .ref (gad G 256), .int (0)])), (o1, .inl (gA G 3, C, .inr (.inr (.inr (.inr ((fun _ => none)))))))] := hD
  refine W.widen (k := 1) (n := 512) (by omega) (by omega) ?_
  refine lv_dup_x1 hx hb dJ2_grow_2_55 rfl rfl ?_
  refine va_put (D := gD G) (ci := 5) (v := .ref (o1)) (ty := .array (.object "java/lang/Object")) (C := RJ2) (T := TJ2) (N := 3) hx hb hts in_J2 tyJ2 tyJ2_ok nmJ2 hown hG.K hP hD hS 0 rfl rfl 1 (by decide) (hts _ q92) (fun _ h9 => h9) rfl (by decide +kernel) rfl rfl (Nat.le_of_ble_eq_true rfl) dJ2_grow_2_56 (fun H locs hP hD hS => ?_)
  have hP : wP G [(x, .inr (5, [.int (mc), .ref (o1), .int (0)])), (o1, .inl (gA G 3, C, .inr (.inr (.inr (.inr ((fun _ => none)))))))] H := hP
  have hD : va_D A [(x, .inr (5, [.int (mc), .ref (o1), .int (0)])), (o1, .inl (gA G 3, C, .inr (.inr (.inr (.inr ((fun _ => none)))))))] := hD
  exact ret (some (o1)) _ 59 ls _ _ _ _ dJ2_grow_2_59 (Nat.le_of_ble_eq_true rfl) (Nat.le_of_ble_eq_true rfl) hP hD hS (⟨o1, C, rfl, rfl, hC1, hC2, hC3⟩)
set_option maxHeartbeats 4000000 in
set_option maxRecDepth 100000 in
theorem metJ2_grow (l : Launch) (G : Gt) (x ea cap : Nat) (mc : Int32) (f : Nat → Option Nat) (ob : va_W) (h1 : 1 ≤ cap) (h3 : cap < 300) (hob : ∀ j, j < cap → ∀ y, f j = some y → AnyOb G ob y) (sz : Nat) : CWq l G yJ2_grow cJ2_grow 1 (.array (.object "java/lang/Object")) 4 1 512 90 [.ref (x)] ((x, .inr (5, [.int (mc), .ref (ea), .int (nI cap)])) :: (ea, .inl (gA G 3, cap, .inr (.inr (.inr (.inr (f)))))) :: ob) sz (fun r w1 => ∃ q C g, r = some q ∧ w1 = (x, .inr (5, [.int mc, .ref q, .int (nI cap)])) :: (q, .inl (gA G 3, C, .inr (.inr (.inr (.inr g))))) :: ob ∧ cap + 1 ≤ C ∧ C ≤ 512 ∧ (∀ j, j < cap → g j = f j) ∧ ∀ j, cap ≤ j → g j = none) := by
  refine mkWq (by decide) (Nat.le_of_ble_eq_true rfl) (by first | exact Or.inl ⟨_, rfl⟩ | exact Or.inr ⟨_, rfl⟩) ?_
  intro p e s m args below meth c Q A hx hb hts hown hin hml hG hsz hP hD hA hA0 hS ret ls hl
  refine lv_aload_n hx hb dJ2_grow_0 rfl (lv_at hl 0 rfl) ?_
  refine lv_aload_n hx hb dJ2_grow_1 rfl (lv_at hl 0 rfl) ?_
  refine va_get (D := gD G) (ci := 5) (v := .int (nI cap)) (C := RJ2) (T := TJ2) (N := 3) hx hb hts in_J2 hown hG.K hP 0 rfl rfl 2 (by decide) (hts _ q95) (fun _ h9 => h9) rfl dJ2_grow_2 ?_
  refine lv_iconst (v := 1) hx hb dJ2_grow_5 (by decide) ?_
  refine lv_iadd hx hb dJ2_grow_6 ?_
  refine top_i (y := nI (cap + 1)) (nI_1 cap) ?_
  refine cl_q0 (va_runV (As := [.int (nI (cap + 1))]) (rest := []) ⟨hx, hb, hml, hown, hts⟩ (metJ2_grow_2 l G x ea cap cap (cap + 1) mc f ob h1 (by omega) (by omega) hob _) (cwV 1 hts (lw_V q289 q291 qs5 q32 q292) rfl rfl rfl (by decide +kernel) ⟨Nat.le_of_ble_eq_true rfl, Nat.le_of_ble_eq_true rfl⟩) (pre_WV0 (q0 := 0) hG hP hD hS hA0 rfl rfl) rfl rfl hl.1 rfl (lv_room (Nat.le_of_ble_eq_true rfl)) dJ2_grow_7 ⟨Nat.le_of_ble_eq_true rfl, Nat.le_of_ble_eq_true rfl⟩) hP hD hS hA (fun r_7 w1 H locs hp hP hD hS => ?_)
  obtain ⟨q1, C, g1, rfl, rfl, hC1, hC2, hg1, hg9⟩ := hp
  have hP : wP G ((x, .inr (5, [.int (mc), .ref (q1), .int (nI cap)])) :: (q1, .inl (gA G 3, C, .inr (.inr (.inr (.inr (g1)))))) :: ob) H := hP
  have hD : va_D A ((x, .inr (5, [.int (mc), .ref (q1), .int (nI cap)])) :: (q1, .inl (gA G 3, C, .inr (.inr (.inr (.inr (g1)))))) :: ob) := hD
  exact ret (some (q1)) _ 10 ls _ _ _ _ dJ2_grow_10 (Nat.le_of_ble_eq_true rfl) (Nat.le_of_ble_eq_true rfl) hP hD hS (⟨q1, C, g1, rfl, rfl, hC1, hC2, hg1, hg9⟩)
set_option maxHeartbeats 4000000 in
set_option maxRecDepth 100000 in
theorem metJ2_growE (l : Launch) (G : Gt) (x : Nat) (mc : Int32) (sz : Nat) : CWq l G yJ2_grow cJ2_grow 1 (.array (.object "java/lang/Object")) 2 1 512 39 [.ref (x)] [(x, .inr (5, [.int (mc), .ref (gad G 256), .int (0)]))] sz (fun r w1 => ∃ q C, r = some q ∧ w1 = [(x, .inr (5, [.int mc, .ref q, .int 0])), (q, .inl (gA G 3, C, .inr (.inr (.inr (.inr (fun _ => none))))))] ∧ 1 ≤ C ∧ C ≤ 512 ∧ 1 ≤ C) := by
  refine mkWq (by decide) (Nat.le_of_ble_eq_true rfl) (by first | exact Or.inl ⟨_, rfl⟩ | exact Or.inr ⟨_, rfl⟩) ?_
  intro p e s m args below meth c Q A hx hb hts hown hin hml hG hsz hP hD hA hA0 hS ret ls hl
  refine lv_aload_n hx hb dJ2_grow_0 rfl (lv_at hl 0 rfl) ?_
  refine lv_aload_n hx hb dJ2_grow_1 rfl (lv_at hl 0 rfl) ?_
  refine va_get (D := gD G) (ci := 5) (v := .int (0)) (C := RJ2) (T := TJ2) (N := 3) hx hb hts in_J2 hown hG.K hP 0 rfl rfl 2 (by decide) (hts _ q95) (fun _ h9 => h9) rfl dJ2_grow_2 ?_
  refine lv_iconst (v := 1) hx hb dJ2_grow_5 (by decide) ?_
  refine lv_iadd hx hb dJ2_grow_6 ?_
  refine top_i (y := nI 1) (rfl) ?_
  refine cl_q0 (va_runV (As := [.int (nI 1)]) (rest := []) ⟨hx, hb, hml, hown, hts⟩ (metJ2_grow_2E l G x 1 mc (by decide) _) (cwV 1 hts (lw_V q289 q291 qs5 q32 q292) rfl rfl rfl (by decide +kernel) ⟨Nat.le_of_ble_eq_true rfl, Nat.le_of_ble_eq_true rfl⟩) (pre_WV0 (q0 := 0) hG hP hD hS hA0 rfl rfl) rfl rfl hl.1 rfl (lv_room (Nat.le_of_ble_eq_true rfl)) dJ2_grow_7 ⟨Nat.le_of_ble_eq_true rfl, Nat.le_of_ble_eq_true rfl⟩) hP hD hS hA (fun r_7 w1 H locs hp hP hD hS => ?_)
  obtain ⟨q1, C, rfl, rfl, hC1, hC2, hC3⟩ := hp
  have hP : wP G [(x, .inr (5, [.int (mc), .ref (q1), .int (0)])), (q1, .inl (gA G 3, C, .inr (.inr (.inr (.inr ((fun _ => none)))))))] H := hP
  have hD : va_D A [(x, .inr (5, [.int (mc), .ref (q1), .int (0)])), (q1, .inl (gA G 3, C, .inr (.inr (.inr (.inr ((fun _ => none)))))))] := hD
  exact ret (some (q1)) _ 10 ls _ _ _ _ dJ2_grow_10 (Nat.le_of_ble_eq_true rfl) (Nat.le_of_ble_eq_true rfl) hP hD hS (⟨q1, C, rfl, rfl, hC1, hC2, hC3⟩)
