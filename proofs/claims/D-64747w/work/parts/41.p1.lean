/-! LinkedHashMap<Integer, Boolean> with keys 1..14. en: an entry (its cell, its key, its value), in the map's order -/
abbrev En : Type := Nat × Nat × Bool
noncomputable abbrev gI (G : Gt) (k : Nat) : Nat := gad G (k + 128)
def hdE (es : List En) (n : Option Nat) : Option Nat := match es with
  | [] => n
  | e :: _ => some e.1
def lsE (p : Option Nat) : List En → Option Nat
  | [] => p
  | e :: es => lsE (some e.1) es
noncomputable abbrev enC (G : Gt) (e : En) (p n : Option Nat) : Nat × va_E := (e.1, .inr (7, [.int (nI e.2.1), .ref (gI G e.2.1), .ref (gbo G e.2.2), .null, va_rf p, va_rf n]))
noncomputable def enW (G : Gt) : Option Nat → List En → Option Nat → va_W
  | _, [], _ => []
  | p, e :: es, n => enC G e p (hdE es n) :: enW G (some e.1) es n
theorem hdE_app (es1 es2 : List En) (n : Option Nat) : hdE (es1 ++ es2) n = hdE es1 (hdE es2 n) := by cases es1 <;> rfl
theorem lsE_app (es1 : List En) : ∀ (p : Option Nat) (es2 : List En), lsE p (es1 ++ es2) = lsE (lsE p es1) es2 := by
  induction es1 with
  | nil => intro p es2; rfl
  | cons e es ih => intro p es2; exact ih _ _
theorem lsE_snoc (p : Option Nat) (es : List En) (e : En) : lsE p (es ++ [e]) = some e.1 := by rw [lsE_app]; rfl
theorem enW_app {G : Gt} (es1 : List En) : ∀ (p : Option Nat) (es2 : List En) (n : Option Nat), enW G p (es1 ++ es2) n = enW G p es1 (hdE es2 n) ++ enW G (lsE p es1) es2 n := by
  induction es1 with
  | nil => intro p es2 n; rfl
  | cons e es ih =>
    intro p es2 n
    show enC G e p (hdE (es ++ es2) n) :: enW G (some e.1) (es ++ es2) n = enC G e p (hdE es (hdE es2 n)) :: (enW G (some e.1) es (hdE es2 n) ++ enW G (lsE (some e.1) es) es2 n)
    rw [ih, hdE_app]
theorem enW_snoc {G : Gt} (p : Option Nat) (es : List En) (e : En) (n : Option Nat) : enW G p (es ++ [e]) n = enW G p es (some e.1) ++ [enC G e (lsE p es) n] := by rw [enW_app]; rfl
/-- the map's own object -/
abbrev moC (h : Nat) (tab ent : Option Nat) (n : Nat) (mo th : Int32) (hd tl : Option Nat) : Nat × va_E := (h, .inr (6, [va_rf tab, va_rf ent, .int (nI n), .int mo, .int th, .float 1061158912, .null, .null, va_rf hd, va_rf tl, .int 0, .int 0]))
/-- where the bucket j points -/
def tbE (es : List En) (j : Nat) : Option Nat := (es.find? (fun e => e.2.1 == j)).map (·.1)
def taW (G : Gt) (t : Option (Nat × Nat × (Nat → Option Nat))) : va_W := match t with
  | none => []
  | some q => [(q.1, .inl (gA G 5, q.2.1, .inr (.inr (.inr (.inr q.2.2)))))]
def esW (h : Nat) (z : Option Nat) : va_W := match z with
  | none => []
  | some q => [(q, .inr (10, [.int 0, .ref h]))]
/-- what a table is: not there yet; of 16 or of 32 buckets -/
def tabOk (es : List En) (t : Option (Nat × Nat × (Nat → Option Nat))) (th : Int32) : Prop := (t = none ∧ es = [] ∧ th = 0) ∨ (∃ q f, t = some (q, 16, f) ∧ th = 12 ∧ es.length ≤ 12 ∧ ∀ j, j < 16 → f j = tbE es j) ∨ (∃ q f, t = some (q, 32, f) ∧ th = 24 ∧ ∀ j, j < 32 → f j = tbE es j)
def enOk (es : List En) : Prop := (∀ e ∈ es, 1 ≤ e.2.1 ∧ e.2.1 ≤ 14) ∧ (es.map (fun e => e.2.1)).Nodup
/-- the map h holds the choices ch, in this order -/
def MP (G : Gt) (h : Nat) (ch : List Lit) (w : va_W) : Prop := ∃ (es : List En) (t : Option (Nat × Nat × (Nat → Option Nat))) (ent : Option Nat) (mo th : Int32), es.map (fun e => (e.2.1, e.2.2)) = ch ∧ enOk es ∧ tabOk es t th ∧ w = moC h (t.map (·.1)) ent es.length mo th (hdE es none) (lsE none es) :: (taW G t ++ (esW h ent ++ enW G none es none))
set_option maxHeartbeats 4000000 in
set_option maxRecDepth 100000 in
theorem metJ3_init (l : Launch) (G : Gt) (x : Nat) (sz : Nat) : CWv l G yJ3_init cJ3_init 1 1 0 0 12 [.ref (x)] [(x, .inr (6, [.null, .null, .int (0), .int (0), .int (0), .float (0), .null, .null, .null, .null, .int (0), .int (0)]))] sz (fun w1 => w1 = [(x, .inr (6, [.null, .null, .int (0), .int (0), .int (0), .float (0), .null, .null, .null, .null, .int (0), .int (0)]))]) := by
  refine mkWv (by decide) (Nat.le_of_ble_eq_true rfl) ?_
  intro p e s m args below meth c Q A hx hb hts hown hin hml hG hsz hP hD hA hA0 hS ret ls hl
  refine lv_aload_n hx hb dJ3_init_0 rfl (lv_at hl 0 rfl) ?_
  refine W.objInit hx hb hown (hts _ q119) (hts _ q71) (hts _ q72) rfl (by rw [hml]; exact hl.1) rfl dJ3_init_1 (Nat.le_of_ble_eq_true rfl) (Nat.le_of_ble_eq_true rfl) ?_
  refine W.eq (g2 := F0 m 4 ls []) rfl ?_
  exact ret _ 4 ls _ _ _ _ dJ3_init_4 (Nat.le_of_ble_eq_true rfl) (Nat.le_of_ble_eq_true rfl) hP hD hS (rfl)
set_option maxHeartbeats 4000000 in
set_option maxRecDepth 100000 in
theorem metJ4_init (l : Launch) (G : Gt) (x : Nat) (sz : Nat) : CWv l G yJ4_init cJ4_init 1 2 0 0 32 [.ref (x)] [(x, .inr (6, [.null, .null, .int (0), .int (0), .int (0), .float (0), .null, .null, .null, .null, .int (0), .int (0)]))] sz (fun w1 => w1 = [(x, .inr (6, [.null, .null, .int (0), .int (0), .int (0), .float (1061158912), .null, .null, .null, .null, .int (0), .int (0)]))]) := by
  refine mkWv (by decide) (Nat.le_of_ble_eq_true rfl) ?_
  intro p e s m args below meth c Q A hx hb hts hown hin hml hG hsz hP hD hA hA0 hS ret ls hl
  refine lv_aload_n hx hb dJ4_init_0 rfl (lv_at hl 0 rfl) ?_
  refine cl_v0 (va_runI (As := []) (rest := []) ⟨hx, hb, hml, hown, hts⟩ (metJ3_init l G x _) (cwI 0 hts (lw_meth q118) rfl rfl rfl (hts _ q33) (hts _ q116) (hts _ q117) rfl (by decide +kernel) ⟨Nat.le_of_ble_eq_true rfl, Nat.le_of_ble_eq_true rfl⟩) (pre_WS0 (As := [.ref (x)]) hG hP hD hS hA0) rfl rfl hl.1 rfl (lv_room (Nat.le_of_ble_eq_true rfl)) dJ4_init_1 ⟨Nat.le_of_ble_eq_true rfl, Nat.le_of_ble_eq_true rfl⟩) hP hD hS hA (fun w1 H locs hp hP hD hS => ?_)
  subst hp
  have hP : wP G [(x, .inr (6, [.null, .null, .int (0), .int (0), .int (0), .float (0), .null, .null, .null, .null, .int (0), .int (0)]))] H := hP
  have hD : va_D A [(x, .inr (6, [.null, .null, .int (0), .int (0), .int (0), .float (0), .null, .null, .null, .null, .int (0), .int (0)]))] := hD
  refine lv_aload_n hx hb dJ4_init_4 rfl (lv_at hl 0 rfl) ?_
  refine lv_ldcf (v := 1061158912) hx hb hown (hts _ q120) dJ4_init_5 ?_
  refine va_putF (D := gD G) (ci := 6) (v := .float (1061158912)) (ty := .float) (C := RJ5) (T := TJ5) (N := 12) hx hb hts in_J5 tyJ5 tyJ5_ok nmJ5 hown hG.K hP hD hS 0 rfl rfl 5 (by decide) (hts _ q138) (fun _ h9 => h9) rfl hin rfl (by decide +kernel) rfl rfl (Nat.le_of_ble_eq_true rfl) dJ4_init_7 (fun H locs hP hD hS => ?_)
  have hP : wP G [(x, .inr (6, [.null, .null, .int (0), .int (0), .int (0), .float (1061158912), .null, .null, .null, .null, .int (0), .int (0)]))] H := hP
  have hD : va_D A [(x, .inr (6, [.null, .null, .int (0), .int (0), .int (0), .float (1061158912), .null, .null, .null, .null, .int (0), .int (0)]))] := hD
  exact ret _ 10 ls _ _ _ _ dJ4_init_10 (Nat.le_of_ble_eq_true rfl) (Nat.le_of_ble_eq_true rfl) hP hD hS (rfl)
set_option maxHeartbeats 4000000 in
set_option maxRecDepth 100000 in
theorem metJ5_init (l : Launch) (G : Gt) (x : Nat) (sz : Nat) : CWv l G yJ5_init cJ5_init 1 3 0 0 52 [.ref (x)] [(x, .inr (6, [.null, .null, .int (0), .int (0), .int (0), .float (0), .null, .null, .null, .null, .int (0), .int (0)]))] sz (fun w1 => MP G x [] w1) := by
  refine mkWv (by decide) (Nat.le_of_ble_eq_true rfl) ?_
  intro p e s m args below meth c Q A hx hb hts hown hin hml hG hsz hP hD hA hA0 hS ret ls hl
  refine lv_aload_n hx hb dJ5_init_0 rfl (lv_at hl 0 rfl) ?_
  refine cl_v0 (va_runI (As := []) (rest := []) ⟨hx, hb, hml, hown, hts⟩ (metJ4_init l G x _) (cwI 0 hts (lw_meth q115) rfl rfl rfl (hts _ q34) (hts _ q113) (hts _ q114) rfl (by decide +kernel) ⟨Nat.le_of_ble_eq_true rfl, Nat.le_of_ble_eq_true rfl⟩) (pre_WS0 (As := [.ref (x)]) hG hP hD hS hA0) rfl rfl hl.1 rfl (lv_room (Nat.le_of_ble_eq_true rfl)) dJ5_init_1 ⟨Nat.le_of_ble_eq_true rfl, Nat.le_of_ble_eq_true rfl⟩) hP hD hS hA (fun w1 H locs hp hP hD hS => ?_)
  subst hp
  have hP : wP G [(x, .inr (6, [.null, .null, .int (0), .int (0), .int (0), .float (1061158912), .null, .null, .null, .null, .int (0), .int (0)]))] H := hP
  have hD : va_D A [(x, .inr (6, [.null, .null, .int (0), .int (0), .int (0), .float (1061158912), .null, .null, .null, .null, .int (0), .int (0)]))] := hD
  refine lv_aload_n hx hb dJ5_init_4 rfl (lv_at hl 0 rfl) ?_
  refine lv_iconst (v := 0) hx hb dJ5_init_5 (by decide) ?_
  refine va_put (D := gD G) (ci := 6) (v := .int (0)) (ty := .int) (C := RJ5) (T := TJ5) (N := 12) hx hb hts in_J5 tyJ5 tyJ5_ok nmJ5 hown hG.K hP hD hS 0 rfl rfl 11 (by decide) (hts _ q126) (fun _ h9 => h9) rfl (by decide +kernel) rfl rfl (Nat.le_of_ble_eq_true rfl) dJ5_init_6 (fun H locs hP hD hS => ?_)
  have hP : wP G [(x, .inr (6, [.null, .null, .int (0), .int (0), .int (0), .float (1061158912), .null, .null, .null, .null, .int (0), .int (0)]))] H := hP
  have hD : va_D A [(x, .inr (6, [.null, .null, .int (0), .int (0), .int (0), .float (1061158912), .null, .null, .null, .null, .int (0), .int (0)]))] := hD
  refine lv_aload_n hx hb dJ5_init_9 rfl (lv_at hl 0 rfl) ?_
  refine lv_iconst (v := 0) hx hb dJ5_init_10 (by decide) ?_
  refine va_putF (D := gD G) (ci := 6) (v := .int (0)) (ty := .boolean) (C := RJ5) (T := TJ5) (N := 12) hx hb hts in_J5 tyJ5 tyJ5_ok nmJ5 hown hG.K hP hD hS 0 rfl rfl 10 (by decide) (hts _ q125) (fun _ h9 => h9) rfl hin rfl (by decide +kernel) rfl rfl (Nat.le_of_ble_eq_true rfl) dJ5_init_11 (fun H locs hP hD hS => ?_)
  have hP : wP G [(x, .inr (6, [.null, .null, .int (0), .int (0), .int (0), .float (1061158912), .null, .null, .null, .null, .int (0), .int (0)]))] H := hP
  have hD : va_D A [(x, .inr (6, [.null, .null, .int (0), .int (0), .int (0), .float (1061158912), .null, .null, .null, .null, .int (0), .int (0)]))] := hD
  exact ret _ 14 ls _ _ _ _ dJ5_init_14 (Nat.le_of_ble_eq_true rfl) (Nat.le_of_ble_eq_true rfl) hP hD hS (⟨[], none, none, 0, 0, rfl, ⟨fun e he => absurd he List.not_mem_nil, List.nodup_nil⟩, Or.inl ⟨rfl, rfl, rfl⟩, rfl⟩)
set_option maxHeartbeats 4000000 in
set_option maxRecDepth 100000 in
theorem metJ4_size0 (l : Launch) (G : Gt) (x n : Nat) (tab ent hd tl : Option Nat) (mo th : Int32) : CR l G yJ4_size cJ4_size 1 .int 0 0 [.ref (x)] [(x, .inr (6, [va_rf (tab), va_rf (ent), .int (nI n), .int (mo), .int (th), .float (1061158912), .null, .null, va_rf (hd), va_rf (tl), .int (0), .int (0)]))] (fun r => r = nI n) := by
  refine mkRi (by decide) (Nat.le_of_ble_eq_true rfl) ?_
  intro p e s m args below meth c Q hx hb hts hown hml hG hP hS ret ls hl
  refine lv_aload_n hx hb dJ4_size_0 rfl (lv_at hl 0 rfl) ?_
  refine va_get (D := gD G) (ci := 6) (v := .int (nI n)) (C := RJ5) (T := TJ5) (N := 12) hx hb hts in_J5 hown hG.K hP 0 rfl rfl 2 (by decide) (hts _ q132) (fun _ h9 => h9) rfl dJ4_size_1 ?_
  exact ret (nI n) 4 ls dJ4_size_4 rfl (rfl)
theorem metJ4_size (l : Launch) (G : Gt) (x : Nat) (ch : List Lit) (w : va_W) (hw : MP G x ch w) : CR l G yJ4_size cJ4_size 1 .int 0 0 [.ref x] w (fun r => r = nI ch.length) := by
  obtain ⟨es, t, ent, mo, th, rfl, -, -, rfl⟩ := hw
  rw [List.length_map]
  exact Met.pre_ (metJ4_size0 l G x es.length (t.map (·.1)) ent (hdE es none) (lsE none es) mo th) (PcR_mono (fun q hq => by rw [List.mem_singleton] at hq; rw [hq]; exact List.mem_cons_self))
theorem vb_nI {k : Nat} : vb_c (k + 128) = nI k := by
  unfold vb_c
  show nI (k + 128) - 128 = nI k
  rw [← nI_add]
  exact Int32.add_sub_cancel _ _
theorem hs_k {k : Nat} (h : k ≤ 14) : nI k ^^^ ((nI k).toUInt32 >>> ((16 : Int32).toUInt32 &&& Int32.toUInt32 31)).toInt32 = nI k := by
  rw [pk_ushrN (by omega) _ 16 (by decide), nx_xor, Nat.div_eq_of_lt (by omega), Nat.xor_zero]
set_option maxHeartbeats 4000000 in
set_option maxRecDepth 100000 in
theorem metJ7_hashCode_2 (l : Launch) (G : Gt) (v : Int32) : CR l G yJ7_hashCode_2 cJ7_hashCode_2 1 .int 0 0 [.int (v)] [] (fun r => r = v) := by
  refine mkRi (by decide) (Nat.le_of_ble_eq_true rfl) ?_
  intro p e s m args below meth c Q hx hb hts hown hml hG hP hS ret ls hl
  refine lv_iload_n hx hb dJ7_hashCode_2_0 rfl (lv_at hl 0 rfl) ?_
  exact ret (v) 1 ls dJ7_hashCode_2_1 rfl (rfl)
set_option maxHeartbeats 4000000 in
set_option maxRecDepth 100000 in
theorem metJ7_hashCode (l : Launch) (G : Gt) (k : Nat) (hk : k < 256) : CR l G yJ7_hashCode cJ7_hashCode 1 .int 1 20 [.ref (gad G k)] [] (fun r => r = vb_c k) := by
  refine mkRi (by decide) (Nat.le_of_ble_eq_true rfl) ?_
  intro p e s m args below meth c Q hx hb hts hown hml hG hP hS ret ls hl
  refine lv_aload_n hx hb dJ7_hashCode_0 rfl (lv_at hl 0 rfl) ?_
  refine va_getX hx hb hG.sfR.2.2.2.2.2.2.1.2 hk hS hown (hts _ q360) (fun _ h9 => h9) dJ7_hashCode_1 ?_
  refine vp_callSi (W.runS (As := [.int (vb_c k)]) (rest := []) ⟨hx, hb, hml, hown, hts⟩ (metJ7_hashCode_2 l G (vb_c k)) (va_cwS 1 hts (lw_S q402 q403 q39 q404) rfl rfl rfl (by decide +kernel) ⟨Nat.le_of_ble_eq_true rfl, Nat.le_of_ble_eq_true rfl⟩) (pre_RS hG hP hS (fun _ h => h.elim)) rfl rfl hl.1 rfl (lv_room (Nat.le_of_ble_eq_true rfl)) dJ7_hashCode_4 ⟨Nat.le_refl _, Nat.le_refl _⟩) (fun r_4 e_4 => ?_)
  subst e_4
  exact ret (vb_c k) 7 ls dJ7_hashCode_7 rfl (rfl)
set_option maxHeartbeats 4000000 in
set_option maxRecDepth 100000 in
theorem metJ4_hash (l : Launch) (G : Gt) (k : Nat) (hk : k ≤ 14) : CR l G yJ4_hash cJ4_hash 2 .int 2 40 [.ref (gI G k)] [] (fun r => r = nI k) := by
  refine mkRi (by decide) (Nat.le_of_ble_eq_true rfl) ?_
  intro p e s m args below meth c Q hx hb hts hown hml hG hP hS ret ls hl
  refine lv_aload_n hx hb dJ4_hash_0 rfl (lv_at hl 0 rfl) ?_
  refine lv_ifnonnull (tgt := 8) hx hb dJ4_hash_1 (by decide) ?_
  refine lv_aload_n hx hb dJ4_hash_8 rfl (lv_at hl 0 rfl) ?_
  refine vp_callSi (va_Run.run (va_runU (As := []) (rest := []) ⟨hx, hb, hml, hown, hts⟩ (metJ7_hashCode l G (k + 128) (by omega)) (va_cwA 0 hts (lw_U (owner := "java/lang/Object") (x := ({ cls := "java/lang/Object", name := "hashCode", desc := "()I" } : Jvm.MethodName)) (y := ({ cls := "java/lang/Integer", name := "hashCode", desc := "()I" } : Jvm.MethodName)) q378 q380 q399 q400 q39 q401) rfl rfl rfl (hG.decl q377) (by decide +kernel) ⟨Nat.le_of_ble_eq_true rfl, Nat.le_of_ble_eq_true rfl⟩) (pre_RVo (va_Orecv (hG.sfR.2.2.2.2.2.2.1.1 (k + 128) (by omega)) hS) hG hP hS (fun _ h => h.elim)) rfl rfl hl.1 rfl (lv_room (Nat.le_of_ble_eq_true rfl)) dJ4_hash_9 ⟨Nat.le_refl _, Nat.le_refl _⟩)) (fun r_9 e_9 => ?_)
  subst e_9
  refine top_i (y := nI k) (vb_nI) ?_
  refine lv_dup hx hb dJ4_hash_12 rfl ?_
  refine lv_istore_n (lv' := [(1, .int (nI k)), (0, .ref (gI G k))]) hx hb dJ4_hash_13 rfl hl (by decide) rfl (fun ls hl => ?_)
  refine lv_iload_n hx hb dJ4_hash_14 rfl (lv_at hl 0 rfl) ?_
  refine lv_bipush (v := 16) hx hb dJ4_hash_15 (by decide) ?_
  refine lv_iushr hx hb dJ4_hash_17 rfl ?_
  refine lv_ixor hx hb dJ4_hash_18 ?_
  refine top_i (y := nI k) (hs_k hk) ?_
  exact ret (nI k) 19 ls dJ4_hash_19 rfl (rfl)
