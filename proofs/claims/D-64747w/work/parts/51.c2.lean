/-! rules: (kind, (literal, literal), (feature, mask, least, most), (limit, row)); kind 0: one of two literals; 1: a count; 2: a sum -/
abbrev Rl : Type := Nat × (Lit × Lit) × (Nat × Nat × Nat × Nat) × (Int32 × Nat)
def rlC (ra : Nat → Nat) (q : Nat) (r : Rl) : Nat × va_E :=
  if r.1 = 0 then (q, .inr (2, [.int (litI r.2.1.1), .int (litI r.2.1.2)])) else if r.1 = 1 then (q, .inr (3, [.int (nI (2 ^ (r.2.2.1.1 - 1))), .int (nI r.2.2.1.2.1), .int (nI r.2.2.1.2.2.1), .int (nI r.2.2.1.2.2.2)])) else (q, .inr (4, [.int r.2.2.2.1, .ref (ra r.2.2.2.2)]))
def rlW (ra : Nat → Nat) (rs : List (Nat × Rl)) : va_W := rs.map (fun x => rlC ra x.1 x.2)
def rlOk (r : Rl) : Prop := (r.1 = 0 ∧ (1 ≤ r.2.1.1.1 ∧ r.2.1.1.1 ≤ 14) ∧ (1 ≤ r.2.1.2.1 ∧ r.2.1.2.1 ≤ 14)) ∨ (r.1 = 1 ∧ 1 ≤ r.2.2.1.1 ∧ r.2.2.1.1 ≤ 14 ∧ r.2.2.1.2.1 < 2 ^ 14 ∧ r.2.2.1.2.2.1 ≤ 14 ∧ r.2.2.1.2.2.2 ≤ 14) ∨ (r.1 = 2 ∧ r.2.2.2.2 < 4)
def ag (t : Lit) (i o : Nat) : Bool := if t.2 then o.testBit (t.1 - 1) else i.testBit (t.1 - 1)
def pcN (m : Nat) : Nat := ctB m.testBit 14
def suB (v : Nat → Int32) (i o k : Nat) : Bool := decide (1 ≤ k) && (i.testBit (k - 1) || (!o.testBit (k - 1) && decide (v k < 0)))
def suI (v : Nat → Int32) (i o : Nat) : Nat → Int32
  | 0 => 0
  | k + 1 => if suB v i o k then suI v i o k + v k else suI v i o k
def brk (av : Nat → Nat → Int32) (r : Rl) (i o : Nat) : Bool :=
  if r.1 = 0 then ag r.2.1.1 i o && ag r.2.1.2 i o else if r.1 = 1 then i.testBit (r.2.2.1.1 - 1) && (decide (r.2.2.1.2.2.2 < pcN (i &&& r.2.2.1.2.1)) || decide (pcN (r.2.2.1.2.1 &&& (16383 ^^^ o)) < r.2.2.1.2.2.1)) else decide (r.2.2.2.1 < suI (av r.2.2.2.2) i o 15)
theorem tb_ones : ∀ k, k < 14 → Nat.testBit 16383 k = true := by decide
theorem nx_not {m o : Nat} (hm : m < 2 ^ 14) (ho : o < 2 ^ 14) : nI m &&& (nI o ^^^ (-1)) = nI (m &&& (16383 ^^^ o)) := by
  apply b_ext
  intro i hi
  rw [b_and, b_xor, b_m1 i hi]
  show ((BitVec.ofNat 32 m).getLsbD i && ((BitVec.ofNat 32 o).getLsbD i ^^ true)) = (BitVec.ofNat 32 (m &&& (16383 ^^^ o))).getLsbD i
  rw [BitVec.getLsbD_ofNat, BitVec.getLsbD_ofNat, BitVec.getLsbD_ofNat, Nat.testBit_and, Nat.testBit_xor]
  simp only [hi, decide_true, Bool.true_and]
  by_cases h : i < 14
  · rw [tb_ones i h]
    cases o.testBit i <;> simp
  · rw [Nat.testBit_lt_two_pow (Nat.lt_of_lt_of_le hm (Nat.pow_le_pow_right (by decide) (by omega)))]
    simp
theorem pcN_le (m : Nat) : pcN m ≤ 14 := ctB_le _ _
theorem and_lt14 {a b : Nat} (h : b < 2 ^ 14) : a &&& b < 16384 := Nat.lt_of_le_of_lt Nat.and_le_right h
theorem and_lt14' {a b : Nat} (h : a < 2 ^ 14) : a &&& b < 16384 := Nat.lt_of_le_of_lt Nat.and_le_left h
set_option maxHeartbeats 4000000 in
set_option maxRecDepth 100000 in
theorem metJ9_init2 (l : Launch) (G : Gt) (x : Nat) (sz : Nat) : CWv l G yJ9_init cJ9_init 1 1 0 0 12 [.ref (x)] [(x, .inr (2, [.int (0), .int (0)]))] sz (fun w1 => w1 = [(x, .inr (2, [.int (0), .int (0)]))]) := by
  refine mkWv (by decide) (Nat.le_of_ble_eq_true rfl) ?_
  intro p e s m args below meth c Q A hx hb hts hown hin hml hG hsz hP hD hA hA0 hS ret ls hl
  refine lv_aload_n hx hb dJ9_init_0 rfl (lv_at hl 0 rfl) ?_
  refine W.objInit hx hb hown (hts _ q263) (hts _ q71) (hts _ q72) rfl (by rw [hml]; exact hl.1) rfl dJ9_init_1 (Nat.le_of_ble_eq_true rfl) (Nat.le_of_ble_eq_true rfl) ?_
  refine W.eq (g2 := F0 m 4 ls []) rfl ?_
  exact ret _ 4 ls _ _ _ _ dJ9_init_4 (Nat.le_of_ble_eq_true rfl) (Nat.le_of_ble_eq_true rfl) hP hD hS (rfl)
set_option maxHeartbeats 4000000 in
set_option maxRecDepth 100000 in
theorem metX3_init (l : Launch) (G : Gt) (x : Nat) (u v : Int32) (sz : Nat) : CWv l G yX3_init cX3_init 3 2 0 0 32 [.ref (x), .int (u), .int (v)] [(x, .inr (2, [.int (0), .int (0)]))] sz (fun w1 => w1 = [(x, .inr (2, [.int (u), .int (v)]))]) := by
  refine mkWv (by decide) (Nat.le_of_ble_eq_true rfl) ?_
  intro p e s m args below meth c Q A hx hb hts hown hin hml hG hsz hP hD hA hA0 hS ret ls hl
  refine lv_aload_n hx hb dX3_init_0 rfl (lv_at hl 0 rfl) ?_
  refine cl_v0 (va_runI (As := []) (rest := []) ⟨hx, hb, hml, hown, hts⟩ (metJ9_init2 l G x _) (cwI 0 hts (lw_meth q262) rfl rfl rfl (hts _ q41) (hts _ q260) (hts _ q261) rfl (by decide +kernel) ⟨Nat.le_of_ble_eq_true rfl, Nat.le_of_ble_eq_true rfl⟩) (pre_WS0 (As := [.ref (x)]) hG hP hD hS hA0) rfl rfl hl.1 rfl (lv_room (Nat.le_of_ble_eq_true rfl)) dX3_init_1 ⟨Nat.le_of_ble_eq_true rfl, Nat.le_of_ble_eq_true rfl⟩) hP hD hS hA (fun w1 H locs hp hP hD hS => ?_)
  subst hp
  have hP : wP G [(x, .inr (2, [.int (0), .int (0)]))] H := hP
  have hD : va_D A [(x, .inr (2, [.int (0), .int (0)]))] := hD
  refine lv_aload_n hx hb dX3_init_4 rfl (lv_at hl 0 rfl) ?_
  refine lv_iload_n hx hb dX3_init_5 rfl (lv_at hl 1 rfl) ?_
  refine va_putF (D := gD G) (ci := 2) (v := .int (u)) (ty := .int) (C := RX3) (T := TX3) (N := 2) hx hb hts in_X3 tyX3 tyX3_ok nmX3 hown hG.K hP hD hS 0 rfl rfl 0 (by decide) (hts _ q264) (fun _ h9 => h9) rfl hin rfl (by decide +kernel) rfl rfl (Nat.le_of_ble_eq_true rfl) dX3_init_6 (fun H locs hP hD hS => ?_)
  have hP : wP G [(x, .inr (2, [.int (u), .int (0)]))] H := hP
  have hD : va_D A [(x, .inr (2, [.int (u), .int (0)]))] := hD
  refine lv_aload_n hx hb dX3_init_9 rfl (lv_at hl 0 rfl) ?_
  refine lv_iload_n hx hb dX3_init_10 rfl (lv_at hl 2 rfl) ?_
  refine va_putF (D := gD G) (ci := 2) (v := .int (v)) (ty := .int) (C := RX3) (T := TX3) (N := 2) hx hb hts in_X3 tyX3 tyX3_ok nmX3 hown hG.K hP hD hS 0 rfl rfl 1 (by decide) (hts _ q265) (fun _ h9 => h9) rfl hin rfl (by decide +kernel) rfl rfl (Nat.le_of_ble_eq_true rfl) dX3_init_11 (fun H locs hP hD hS => ?_)
  have hP : wP G [(x, .inr (2, [.int (u), .int (v)]))] H := hP
  have hD : va_D A [(x, .inr (2, [.int (u), .int (v)]))] := hD
  exact ret _ 14 ls _ _ _ _ dX3_init_14 (Nat.le_of_ble_eq_true rfl) (Nat.le_of_ble_eq_true rfl) hP hD hS (rfl)
set_option maxHeartbeats 4000000 in
set_option maxRecDepth 100000 in
theorem metJ9_init3 (l : Launch) (G : Gt) (x : Nat) (sz : Nat) : CWv l G yJ9_init cJ9_init 1 1 0 0 12 [.ref (x)] [(x, .inr (3, [.int (0), .int (0), .int (0), .int (0)]))] sz (fun w1 => w1 = [(x, .inr (3, [.int (0), .int (0), .int (0), .int (0)]))]) := by
  refine mkWv (by decide) (Nat.le_of_ble_eq_true rfl) ?_
  intro p e s m args below meth c Q A hx hb hts hown hin hml hG hsz hP hD hA hA0 hS ret ls hl
  refine lv_aload_n hx hb dJ9_init_0 rfl (lv_at hl 0 rfl) ?_
  refine W.objInit hx hb hown (hts _ q263) (hts _ q71) (hts _ q72) rfl (by rw [hml]; exact hl.1) rfl dJ9_init_1 (Nat.le_of_ble_eq_true rfl) (Nat.le_of_ble_eq_true rfl) ?_
  refine W.eq (g2 := F0 m 4 ls []) rfl ?_
  exact ret _ 4 ls _ _ _ _ dJ9_init_4 (Nat.le_of_ble_eq_true rfl) (Nat.le_of_ble_eq_true rfl) hP hD hS (rfl)
set_option maxHeartbeats 4000000 in
set_option maxRecDepth 100000 in
theorem metX4_init (l : Launch) (G : Gt) (x : Nat) (u1 u2 u3 u4 : Int32) (sz : Nat) : CWv l G yX4_init cX4_init 5 2 0 0 32 [.ref (x), .int (u1), .int (u2), .int (u3), .int (u4)] [(x, .inr (3, [.int (0), .int (0), .int (0), .int (0)]))] sz (fun w1 => w1 = [(x, .inr (3, [.int (u1), .int (u2), .int (u3), .int (u4)]))]) := by
  refine mkWv (by decide) (Nat.le_of_ble_eq_true rfl) ?_
  intro p e s m args below meth c Q A hx hb hts hown hin hml hG hsz hP hD hA hA0 hS ret ls hl
  refine lv_aload_n hx hb dX4_init_0 rfl (lv_at hl 0 rfl) ?_
  refine cl_v0 (va_runI (As := []) (rest := []) ⟨hx, hb, hml, hown, hts⟩ (metJ9_init3 l G x _) (cwI 0 hts (lw_meth q262) rfl rfl rfl (hts _ q41) (hts _ q734) (hts _ q261) rfl (by decide +kernel) ⟨Nat.le_of_ble_eq_true rfl, Nat.le_of_ble_eq_true rfl⟩) (pre_WS0 (As := [.ref (x)]) hG hP hD hS hA0) rfl rfl hl.1 rfl (lv_room (Nat.le_of_ble_eq_true rfl)) dX4_init_1 ⟨Nat.le_of_ble_eq_true rfl, Nat.le_of_ble_eq_true rfl⟩) hP hD hS hA (fun w1 H locs hp hP hD hS => ?_)
  subst hp
  have hP : wP G [(x, .inr (3, [.int (0), .int (0), .int (0), .int (0)]))] H := hP
  have hD : va_D A [(x, .inr (3, [.int (0), .int (0), .int (0), .int (0)]))] := hD
  refine lv_aload_n hx hb dX4_init_4 rfl (lv_at hl 0 rfl) ?_
  refine lv_iload_n hx hb dX4_init_5 rfl (lv_at hl 1 rfl) ?_
  refine va_putF (D := gD G) (ci := 3) (v := .int (u1)) (ty := .int) (C := RX4) (T := TX4) (N := 4) hx hb hts in_X4 tyX4 tyX4_ok nmX4 hown hG.K hP hD hS 0 rfl rfl 0 (by decide) (hts _ q735) (fun _ h9 => h9) rfl hin rfl (by decide +kernel) rfl rfl (Nat.le_of_ble_eq_true rfl) dX4_init_6 (fun H locs hP hD hS => ?_)
  have hP : wP G [(x, .inr (3, [.int (u1), .int (0), .int (0), .int (0)]))] H := hP
  have hD : va_D A [(x, .inr (3, [.int (u1), .int (0), .int (0), .int (0)]))] := hD
  refine lv_aload_n hx hb dX4_init_9 rfl (lv_at hl 0 rfl) ?_
  refine lv_iload_n hx hb dX4_init_10 rfl (lv_at hl 2 rfl) ?_
  refine va_putF (D := gD G) (ci := 3) (v := .int (u2)) (ty := .int) (C := RX4) (T := TX4) (N := 4) hx hb hts in_X4 tyX4 tyX4_ok nmX4 hown hG.K hP hD hS 0 rfl rfl 1 (by decide) (hts _ q736) (fun _ h9 => h9) rfl hin rfl (by decide +kernel) rfl rfl (Nat.le_of_ble_eq_true rfl) dX4_init_11 (fun H locs hP hD hS => ?_)
  have hP : wP G [(x, .inr (3, [.int (u1), .int (u2), .int (0), .int (0)]))] H := hP
  have hD : va_D A [(x, .inr (3, [.int (u1), .int (u2), .int (0), .int (0)]))] := hD
  refine lv_aload_n hx hb dX4_init_14 rfl (lv_at hl 0 rfl) ?_
  refine lv_iload_n hx hb dX4_init_15 rfl (lv_at hl 3 rfl) ?_
  refine va_putF (D := gD G) (ci := 3) (v := .int (u3)) (ty := .int) (C := RX4) (T := TX4) (N := 4) hx hb hts in_X4 tyX4 tyX4_ok nmX4 hown hG.K hP hD hS 0 rfl rfl 2 (by decide) (hts _ q737) (fun _ h9 => h9) rfl hin rfl (by decide +kernel) rfl rfl (Nat.le_of_ble_eq_true rfl) dX4_init_16 (fun H locs hP hD hS => ?_)
  have hP : wP G [(x, .inr (3, [.int (u1), .int (u2), .int (u3), .int (0)]))] H := hP
  have hD : va_D A [(x, .inr (3, [.int (u1), .int (u2), .int (u3), .int (0)]))] := hD
  refine lv_aload_n hx hb dX4_init_19 rfl (lv_at hl 0 rfl) ?_
  refine lv_iload hx hb dX4_init_20 (lv_at hl 4 rfl) ?_
  refine va_putF (D := gD G) (ci := 3) (v := .int (u4)) (ty := .int) (C := RX4) (T := TX4) (N := 4) hx hb hts in_X4 tyX4 tyX4_ok nmX4 hown hG.K hP hD hS 0 rfl rfl 3 (by decide) (hts _ q738) (fun _ h9 => h9) rfl hin rfl (by decide +kernel) rfl rfl (Nat.le_of_ble_eq_true rfl) dX4_init_22 (fun H locs hP hD hS => ?_)
  have hP : wP G [(x, .inr (3, [.int (u1), .int (u2), .int (u3), .int (u4)]))] H := hP
  have hD : va_D A [(x, .inr (3, [.int (u1), .int (u2), .int (u3), .int (u4)]))] := hD
  exact ret _ 25 ls _ _ _ _ dX4_init_25 (Nat.le_of_ble_eq_true rfl) (Nat.le_of_ble_eq_true rfl) hP hD hS (rfl)
set_option maxHeartbeats 4000000 in
set_option maxRecDepth 100000 in
theorem metJ9_init4 (l : Launch) (G : Gt) (x : Nat) (sz : Nat) : CWv l G yJ9_init cJ9_init 1 1 0 0 12 [.ref (x)] [(x, .inr (4, [.int (0), .null]))] sz (fun w1 => w1 = [(x, .inr (4, [.int (0), .null]))]) := by
  refine mkWv (by decide) (Nat.le_of_ble_eq_true rfl) ?_
  intro p e s m args below meth c Q A hx hb hts hown hin hml hG hsz hP hD hA hA0 hS ret ls hl
  refine lv_aload_n hx hb dJ9_init_0 rfl (lv_at hl 0 rfl) ?_
  refine W.objInit hx hb hown (hts _ q263) (hts _ q71) (hts _ q72) rfl (by rw [hml]; exact hl.1) rfl dJ9_init_1 (Nat.le_of_ble_eq_true rfl) (Nat.le_of_ble_eq_true rfl) ?_
  refine W.eq (g2 := F0 m 4 ls []) rfl ?_
  exact ret _ 4 ls _ _ _ _ dJ9_init_4 (Nat.le_of_ble_eq_true rfl) (Nat.le_of_ble_eq_true rfl) hP hD hS (rfl)
set_option maxHeartbeats 4000000 in
set_option maxRecDepth 100000 in
theorem metX5_init (l : Launch) (G : Gt) (x : Nat) (u : Int32) (y : Nat) (sz : Nat) : CWv l G yX5_init cX5_init 3 2 0 0 32 [.ref (x), .int (u), .ref (y)] [(x, .inr (4, [.int (0), .null]))] sz (fun w1 => w1 = [(x, .inr (4, [.int (u), .ref (y)]))]) := by
  refine mkWv (by decide) (Nat.le_of_ble_eq_true rfl) ?_
  intro p e s m args below meth c Q A hx hb hts hown hin hml hG hsz hP hD hA hA0 hS ret ls hl
  refine lv_aload_n hx hb dX5_init_0 rfl (lv_at hl 0 rfl) ?_
  refine cl_v0 (va_runI (As := []) (rest := []) ⟨hx, hb, hml, hown, hts⟩ (metJ9_init4 l G x _) (cwI 0 hts (lw_meth q262) rfl rfl rfl (hts _ q41) (hts _ q892) (hts _ q261) rfl (by decide +kernel) ⟨Nat.le_of_ble_eq_true rfl, Nat.le_of_ble_eq_true rfl⟩) (pre_WS0 (As := [.ref (x)]) hG hP hD hS hA0) rfl rfl hl.1 rfl (lv_room (Nat.le_of_ble_eq_true rfl)) dX5_init_1 ⟨Nat.le_of_ble_eq_true rfl, Nat.le_of_ble_eq_true rfl⟩) hP hD hS hA (fun w1 H locs hp hP hD hS => ?_)
  subst hp
  have hP : wP G [(x, .inr (4, [.int (0), .null]))] H := hP
  have hD : va_D A [(x, .inr (4, [.int (0), .null]))] := hD
  refine lv_aload_n hx hb dX5_init_4 rfl (lv_at hl 0 rfl) ?_
  refine lv_iload_n hx hb dX5_init_5 rfl (lv_at hl 1 rfl) ?_
  refine va_putF (D := gD G) (ci := 4) (v := .int (u)) (ty := .int) (C := RX5) (T := TX5) (N := 2) hx hb hts in_X5 tyX5 tyX5_ok nmX5 hown hG.K hP hD hS 0 rfl rfl 0 (by decide) (hts _ q893) (fun _ h9 => h9) rfl hin rfl (by decide +kernel) rfl rfl (Nat.le_of_ble_eq_true rfl) dX5_init_6 (fun H locs hP hD hS => ?_)
  have hP : wP G [(x, .inr (4, [.int (u), .null]))] H := hP
  have hD : va_D A [(x, .inr (4, [.int (u), .null]))] := hD
  refine lv_aload_n hx hb dX5_init_9 rfl (lv_at hl 0 rfl) ?_
  refine lv_aload_n hx hb dX5_init_10 rfl (lv_at hl 2 rfl) ?_
  refine va_putF (D := gD G) (ci := 4) (v := .ref (y)) (ty := .array (.int)) (C := RX5) (T := TX5) (N := 2) hx hb hts in_X5 tyX5 tyX5_ok nmX5 hown hG.K hP hD hS 0 rfl rfl 1 (by decide) (hts _ q894) (fun _ h9 => h9) rfl hin rfl (by decide +kernel) rfl rfl (Nat.le_of_ble_eq_true rfl) dX5_init_11 (fun H locs hP hD hS => ?_)
  have hP : wP G [(x, .inr (4, [.int (u), .ref (y)]))] H := hP
  have hD : va_D A [(x, .inr (4, [.int (u), .ref (y)]))] := hD
  exact ret _ 14 ls _ _ _ _ dX5_init_14 (Nat.le_of_ble_eq_true rfl) (Nat.le_of_ble_eq_true rfl) hP hD hS (rfl)
set_option maxHeartbeats 4000000 in
set_option maxRecDepth 100000 in
theorem metX3_isAgainst (l : Launch) (G : Gt) (g i o : Nat) (sg : Bool) (hg1 : 1 ≤ g) (hg2 : g ≤ 14) (hi : i < 2 ^ 31) (ho : o < 2 ^ 31) : CR l G yX3_isAgainst cX3_isAgainst 3 .boolean 1 20 [.int (litI (g, sg)), .int (nI i), .int (nI o)] [] (fun r => r = b2i (ag (g, sg) i o)) := by
  refine mkRi (by decide) (Nat.le_of_ble_eq_true rfl) ?_
  intro p e s m args below meth c Q hx hb hts hown hml hG hP hS ret ls hl
  cases sg with
  | true =>
    have hl : lv_has ls 3 [(0, .int (nI g)), (1, .int (nI i)), (2, .int (nI o))] := hl
    refine lv_iload_n hx hb dX3_isAgainst_0 rfl (lv_at hl 0 rfl) ?_
    refine lv_if_le (tgt := 21) hx hb dX3_isAgainst_1 (by decide) (fun c_1 => absurd c_1 (nI_nle hg1 (by omega))) (fun c_1 => ?_)
    refine lv_iload_n hx hb dX3_isAgainst_4 rfl (lv_at hl 2 rfl) ?_
    refine lv_iload_n hx hb dX3_isAgainst_5 rfl (lv_at hl 0 rfl) ?_
    refine vp_callSi (va_Run.run (va_runSN (As := [.int (nI g)]) (rest := [.int (nI o)]) ⟨hx, hb, hml, hown, hts⟩ (metX1_bit l G g hg1 hg2) ⟨(va_cnB 1 hts (lw_meth q235) rfl rfl rfl (hG.nest q1028) (hts _ q29) (by decide +kernel) ⟨Nat.le_of_ble_eq_true rfl, Nat.le_of_ble_eq_true rfl⟩), hts _ q234, trivial⟩ (pre_RS hG hP hS (fun _ h => h.elim)) rfl rfl hl.1 rfl (lv_room (Nat.le_of_ble_eq_true rfl)) dX3_isAgainst_6 ⟨Nat.le_refl _, Nat.le_refl _⟩)) (fun r_6 e_6 => ?_)
    subst e_6
    refine lv_iand hx hb dX3_isAgainst_9 ?_
    refine lv_if_eq (tgt := 17) hx hb dX3_isAgainst_10 (by decide) (fun c_10 => ?_) (fun c_10 => ?_)
    · have h10 := bm_f ho hg2 c_10
      refine lv_iconst (v := 0) hx hb dX3_isAgainst_17 (by decide) ?_
      refine lv_goto (tgt := 36) hx hb dX3_isAgainst_18 (by decide) ?_
      exact ret (0) 36 ls dX3_isAgainst_36 rfl (by simp [ag, b2i, h10])
    · have h10 := bm_t ho hg2 c_10
      refine lv_iconst (v := 1) hx hb dX3_isAgainst_13 (by decide) ?_
      refine lv_goto (tgt := 36) hx hb dX3_isAgainst_14 (by decide) ?_
      exact ret (1) 36 ls dX3_isAgainst_36 rfl (by simp [ag, b2i, h10])
  | false =>
    have hl : lv_has ls 3 [(0, .int (-(nI g))), (1, .int (nI i)), (2, .int (nI o))] := hl
    refine lv_iload_n hx hb dX3_isAgainst_0 rfl (lv_at hl 0 rfl) ?_
    refine lv_if_le (tgt := 21) hx hb dX3_isAgainst_1 (by decide) (fun c_1 => ?_) (fun c_1 => absurd (nI_neg_le (by omega)) c_1)
    refine lv_iload_n hx hb dX3_isAgainst_21 rfl (lv_at hl 1 rfl) ?_
    refine lv_iload_n hx hb dX3_isAgainst_22 rfl (lv_at hl 0 rfl) ?_
    refine lv_ineg hx hb dX3_isAgainst_23 ?_
    refine top_i (y := nI g) (neg_neg_i _) ?_
    refine vp_callSi (va_Run.run (va_runSN (As := [.int (nI g)]) (rest := [.int (nI i)]) ⟨hx, hb, hml, hown, hts⟩ (metX1_bit l G g hg1 hg2) ⟨(va_cnB 1 hts (lw_meth q235) rfl rfl rfl (hG.nest q1028) (hts _ q29) (by decide +kernel) ⟨Nat.le_of_ble_eq_true rfl, Nat.le_of_ble_eq_true rfl⟩), hts _ q234, trivial⟩ (pre_RS hG hP hS (fun _ h => h.elim)) rfl rfl hl.1 rfl (lv_room (Nat.le_of_ble_eq_true rfl)) dX3_isAgainst_24 ⟨Nat.le_refl _, Nat.le_refl _⟩)) (fun r_24 e_24 => ?_)
    subst e_24
    refine lv_iand hx hb dX3_isAgainst_27 ?_
    refine lv_if_eq (tgt := 35) hx hb dX3_isAgainst_28 (by decide) (fun c_28 => ?_) (fun c_28 => ?_)
    · have h28 := bm_f hi hg2 c_28
      refine lv_iconst (v := 0) hx hb dX3_isAgainst_35 (by decide) ?_
      exact ret (0) 36 ls dX3_isAgainst_36 rfl (by simp [ag, b2i, h28])
    · have h28 := bm_t hi hg2 c_28
      refine lv_iconst (v := 1) hx hb dX3_isAgainst_31 (by decide) ?_
      refine lv_goto (tgt := 36) hx hb dX3_isAgainst_32 (by decide) ?_
      exact ret (1) 36 ls dX3_isAgainst_36 rfl (by simp [ag, b2i, h28])
set_option maxHeartbeats 4000000 in
set_option maxRecDepth 100000 in
theorem metX3_isBroken (l : Launch) (G : Gt) (x i o : Nat) (t u : Lit) (ht : 1 ≤ t.1 ∧ t.1 ≤ 14) (hu : 1 ≤ u.1 ∧ u.1 ≤ 14) (hi : i < 2 ^ 31) (ho : o < 2 ^ 31) : CR l G yX3_isBroken cX3_isBroken 3 .boolean 2 42 [.ref (x), .int (nI i), .int (nI o)] [(x, .inr (2, [.int (litI t), .int (litI u)]))] (fun r => r = b2i (ag t i o && ag u i o)) := by
  refine mkRi (by decide) (Nat.le_of_ble_eq_true rfl) ?_
  intro p e s m args below meth c Q hx hb hts hown hml hG hP hS ret ls hl
  refine lv_aload_n hx hb dX3_isBroken_0 rfl (lv_at hl 0 rfl) ?_
  refine va_get (D := gD G) (ci := 2) (v := .int (litI t)) (C := RX3) (T := TX3) (N := 2) hx hb hts in_X3 hown hG.K hP 0 rfl rfl 0 (by decide) (hts _ q264) (fun _ h9 => h9) rfl dX3_isBroken_1 ?_
  refine lv_iload_n hx hb dX3_isBroken_4 rfl (lv_at hl 1 rfl) ?_
  refine lv_iload_n hx hb dX3_isBroken_5 rfl (lv_at hl 2 rfl) ?_
  refine vp_callSi (W.runS (As := [.int (litI t), .int (nI i), .int (nI o)]) (rest := []) ⟨hx, hb, hml, hown, hts⟩ (metX3_isAgainst l G t.1 i o t.2 ht.1 ht.2 hi ho) (va_cwS 3 hts (lw_S q1025 q1026 q42 q1027) rfl rfl rfl (by decide +kernel) ⟨Nat.le_of_ble_eq_true rfl, Nat.le_of_ble_eq_true rfl⟩) (pre_RS hG (wP.mem (w' := []) hP (fun _ h => absurd h List.not_mem_nil)) hS (fun _ h => h.elim)) rfl rfl hl.1 rfl (lv_room (Nat.le_of_ble_eq_true rfl)) dX3_isBroken_6 ⟨Nat.le_refl _, Nat.le_refl _⟩) (fun r_6 e_6 => ?_)
  subst e_6
  refine lv_if_eq (tgt := 28) hx hb dX3_isBroken_9 (by decide) (fun c_9 => ?_) (fun c_9 => ?_)
  · have h9 : ag t i o = false := b2i_0.mp c_9
    refine lv_iconst (v := 0) hx hb dX3_isBroken_28 (by decide) ?_
    exact ret (0) 29 ls dX3_isBroken_29 rfl (by simp [b2i, h9])
  · have h9 : ag t i o = true := b2i_n0.mp c_9
    refine lv_aload_n hx hb dX3_isBroken_12 rfl (lv_at hl 0 rfl) ?_
    refine va_get (D := gD G) (ci := 2) (v := .int (litI u)) (C := RX3) (T := TX3) (N := 2) hx hb hts in_X3 hown hG.K hP 0 rfl rfl 1 (by decide) (hts _ q265) (fun _ h9 => h9) rfl dX3_isBroken_13 ?_
    refine lv_iload_n hx hb dX3_isBroken_16 rfl (lv_at hl 1 rfl) ?_
    refine lv_iload_n hx hb dX3_isBroken_17 rfl (lv_at hl 2 rfl) ?_
    refine vp_callSi (W.runS (As := [.int (litI u), .int (nI i), .int (nI o)]) (rest := []) ⟨hx, hb, hml, hown, hts⟩ (metX3_isAgainst l G u.1 i o u.2 hu.1 hu.2 hi ho) (va_cwS 3 hts (lw_S q1025 q1026 q42 q1027) rfl rfl rfl (by decide +kernel) ⟨Nat.le_of_ble_eq_true rfl, Nat.le_of_ble_eq_true rfl⟩) (pre_RS hG (wP.mem (w' := []) hP (fun _ h => absurd h List.not_mem_nil)) hS (fun _ h => h.elim)) rfl rfl hl.1 rfl (lv_room (Nat.le_of_ble_eq_true rfl)) dX3_isBroken_18 ⟨Nat.le_refl _, Nat.le_refl _⟩) (fun r_18 e_18 => ?_)
    subst e_18
    refine lv_if_eq (tgt := 28) hx hb dX3_isBroken_21 (by decide) (fun c_21 => ?_) (fun c_21 => ?_)
    · have h21 : ag u i o = false := b2i_0.mp c_21
      refine lv_iconst (v := 0) hx hb dX3_isBroken_28 (by decide) ?_
      exact ret (0) 29 ls dX3_isBroken_29 rfl (by simp [b2i, h9, h21])
    · have h21 : ag u i o = true := b2i_n0.mp c_21
      refine lv_iconst (v := 1) hx hb dX3_isBroken_24 (by decide) ?_
      refine lv_goto (tgt := 29) hx hb dX3_isBroken_25 (by decide) ?_
      exact ret (1) 29 ls dX3_isBroken_29 rfl (by simp [b2i, h9, h21])
set_option maxHeartbeats 4000000 in
set_option maxRecDepth 100000 in
theorem metX4_isBroken (l : Launch) (G : Gt) (x i o g sm le mo : Nat) (hg1 : 1 ≤ g) (hg2 : g ≤ 14) (hsm : sm < 2 ^ 14) (hle : le ≤ 14) (hmo : mo ≤ 14) (hi : i < 2 ^ 14) (ho : o < 2 ^ 14) : CR l G yX4_isBroken cX4_isBroken 4 .boolean 1 20 [.ref (x), .int (nI i), .int (nI o)] [(x, .inr (3, [.int (nI (2 ^ (g - 1))), .int (nI sm), .int (nI le), .int (nI mo)]))] (fun r => r = b2i (i.testBit (g - 1) && (decide (mo < pcN (i &&& sm)) || decide (pcN (sm &&& (16383 ^^^ o)) < le)))) := by
  refine mkRi (by decide) (Nat.le_of_ble_eq_true rfl) ?_
  intro p e s m args below meth c Q hx hb hts hown hml hG hP hS ret ls hl
  have hp1 := pcN_le (i &&& sm)
  have hp2 := pcN_le (sm &&& (16383 ^^^ o))
  refine lv_iload_n hx hb dX4_isBroken_0 rfl (lv_at hl 1 rfl) ?_
  refine lv_aload_n hx hb dX4_isBroken_1 rfl (lv_at hl 0 rfl) ?_
  refine va_get (D := gD G) (ci := 3) (v := .int (nI sm)) (C := RX4) (T := TX4) (N := 4) hx hb hts in_X4 hown hG.K hP 0 rfl rfl 1 (by decide) (hts _ q736) (fun _ h9 => h9) rfl dX4_isBroken_2 ?_
  refine lv_iand hx hb dX4_isBroken_5 ?_
  refine top_i (y := nI (i &&& sm)) (nx_and _ _) ?_
  refine vp_callSi (W.runS (As := [.int (nI (i &&& sm))]) (rest := []) ⟨hx, hb, hml, hown, hts⟩ (metJ7_bitCount l G (i &&& sm) (and_lt14 hsm)) (va_cwS 1 hts (lw_S q1018 q237 q39 q238) rfl rfl rfl (by decide +kernel) ⟨Nat.le_of_ble_eq_true rfl, Nat.le_of_ble_eq_true rfl⟩) (pre_RS hG (wP.mem (w' := []) hP (fun _ h => absurd h List.not_mem_nil)) hS (fun _ h => h.elim)) rfl rfl hl.1 rfl (lv_room (Nat.le_of_ble_eq_true rfl)) dX4_isBroken_6 ⟨Nat.le_refl _, Nat.le_refl _⟩) (fun r_6 e_6 => ?_)
  subst e_6
  refine lv_istore_n (lv' := [(3, .int (nI (pcN (i &&& sm)))), (0, .ref (x)), (1, .int (nI i)), (2, .int (nI o))]) hx hb dX4_isBroken_9 rfl hl (by decide) rfl (fun ls hl => ?_)
  refine lv_iload_n hx hb dX4_isBroken_10 rfl (lv_at hl 2 rfl) ?_
  refine lv_aload_n hx hb dX4_isBroken_11 rfl (lv_at hl 1 rfl) ?_
  refine va_get (D := gD G) (ci := 3) (v := .int (nI (2 ^ (g - 1)))) (C := RX4) (T := TX4) (N := 4) hx hb hts in_X4 hown hG.K hP 0 rfl rfl 0 (by decide) (hts _ q735) (fun _ h9 => h9) rfl dX4_isBroken_12 ?_
  refine lv_iand hx hb dX4_isBroken_15 ?_
  refine lv_if_eq (tgt := 49) hx hb dX4_isBroken_16 (by decide) (fun c_16 => ?_) (fun c_16 => ?_)
  · have h16 := bm_f (by omega) hg2 c_16
    refine lv_iconst (v := 0) hx hb dX4_isBroken_49 (by decide) ?_
    exact ret (0) 50 ls dX4_isBroken_50 rfl (by rw [h16]; rfl)
  · have h16 := bm_t (by omega) hg2 c_16
    refine lv_iload_n hx hb dX4_isBroken_19 rfl (lv_at hl 0 rfl) ?_
    refine lv_aload_n hx hb dX4_isBroken_20 rfl (lv_at hl 1 rfl) ?_
    refine va_get (D := gD G) (ci := 3) (v := .int (nI mo)) (C := RX4) (T := TX4) (N := 4) hx hb hts in_X4 hown hG.K hP 0 rfl rfl 3 (by decide) (hts _ q738) (fun _ h9 => h9) rfl dX4_isBroken_21 ?_
    refine lv_icmp_gt (tgt := 45) hx hb dX4_isBroken_24 (by decide) (fun c_24 => ?_) (fun c_24 => ?_)
    · have h24 : mo < pcN (i &&& sm) := nI_gt (a := pcN (i &&& sm)) (b := mo) c_24
      refine lv_iconst (v := 1) hx hb dX4_isBroken_45 (by decide) ?_
      refine lv_goto (tgt := 50) hx hb dX4_isBroken_46 (by decide) ?_
      exact ret (1) 50 ls dX4_isBroken_50 rfl (by rw [h16]; simp [b2i]; omega)
    · have h24 : pcN (i &&& sm) ≤ mo := nI_ngt (a := pcN (i &&& sm)) (b := mo) c_24
      refine lv_aload_n hx hb dX4_isBroken_27 rfl (lv_at hl 1 rfl) ?_
      refine va_get (D := gD G) (ci := 3) (v := .int (nI sm)) (C := RX4) (T := TX4) (N := 4) hx hb hts in_X4 hown hG.K hP 0 rfl rfl 1 (by decide) (hts _ q736) (fun _ h9 => h9) rfl dX4_isBroken_28 ?_
      refine lv_iload_n hx hb dX4_isBroken_31 rfl (lv_at hl 3 rfl) ?_
      refine lv_iconst (v := (-1)) hx hb dX4_isBroken_32 (by decide) ?_
      refine lv_ixor hx hb dX4_isBroken_33 ?_
      refine lv_iand hx hb dX4_isBroken_34 ?_
      refine top_i (y := nI (sm &&& (16383 ^^^ o))) (nx_not hsm ho) ?_
      refine vp_callSi (W.runS (As := [.int (nI (sm &&& (16383 ^^^ o)))]) (rest := []) ⟨hx, hb, hml, hown, hts⟩ (metJ7_bitCount l G (sm &&& (16383 ^^^ o)) (and_lt14' hsm)) (va_cwS 1 hts (lw_S q1018 q237 q39 q238) rfl rfl rfl (by decide +kernel) ⟨Nat.le_of_ble_eq_true rfl, Nat.le_of_ble_eq_true rfl⟩) (pre_RS hG (wP.mem (w' := []) hP (fun _ h => absurd h List.not_mem_nil)) hS (fun _ h => h.elim)) rfl rfl hl.1 rfl (lv_room (Nat.le_of_ble_eq_true rfl)) dX4_isBroken_35 ⟨Nat.le_refl _, Nat.le_refl _⟩) (fun r_35 e_35 => ?_)
      subst e_35
      refine lv_aload_n hx hb dX4_isBroken_38 rfl (lv_at hl 1 rfl) ?_
      refine va_get (D := gD G) (ci := 3) (v := .int (nI le)) (C := RX4) (T := TX4) (N := 4) hx hb hts in_X4 hown hG.K hP 0 rfl rfl 2 (by decide) (hts _ q737) (fun _ h9 => h9) rfl dX4_isBroken_39 ?_
      refine lv_icmp_ge (tgt := 49) hx hb dX4_isBroken_42 (by decide) (fun c_42 => ?_) (fun c_42 => ?_)
      · have h42 : le ≤ pcN (sm &&& (16383 ^^^ o)) := nI_ge' (a := pcN (sm &&& (16383 ^^^ o))) (b := le) c_42
        refine lv_iconst (v := 0) hx hb dX4_isBroken_49 (by decide) ?_
        exact ret (0) 50 ls dX4_isBroken_50 rfl (by rw [h16]; simp [b2i]; omega)
      · have h42 : pcN (sm &&& (16383 ^^^ o)) < le := nI_nge (a := pcN (sm &&& (16383 ^^^ o))) (b := le) c_42
        refine lv_iconst (v := 1) hx hb dX4_isBroken_45 (by decide) ?_
        refine lv_goto (tgt := 50) hx hb dX4_isBroken_46 (by decide) ?_
        exact ret (1) 50 ls dX4_isBroken_50 rfl (by rw [h16]; simp [b2i]; omega)
set_option maxHeartbeats 4000000 in
set_option maxRecDepth 100000 in
theorem metX5_isBroken (l : Launch) (G : Gt) (x y i o : Nat) (lim : Int32) (v : Nat → Int32) (hi : i < 2 ^ 14) (ho : o < 2 ^ 14) : CR l G yX5_isBroken cX5_isBroken 6 .boolean 1 20 [.ref (x), .int (nI i), .int (nI o)] [(x, .inr (4, [.int (lim), .ref (y)])), (y, .inl (gA G 0, 15, .inl (v)))] (fun r => r = b2i (decide (lim < suI v i o 15))) := by
  refine mkRi (by decide) (Nat.le_of_ble_eq_true rfl) ?_
  intro p e s m args below meth c Q hx hb hts hown hml hG hP hS ret ls hl
  have L5 : ∀ (d : Nat) (k : Nat) (v4 v3 : Int32), k ≤ 15 → 16 ≤ k + d → 1 ≤ k → v4 = nI k → v3 = suI v i o k → ∀ ls : Array Slot, lv_has ls 6 [(4, .int (v4)), (3, .int (v3)), (0, .ref (x)), (1, .int (nI i)), (2, .int (nI o))] → W p l e (rm_ 1 0 0 20) s m args below meth c s.heap [] 0 0 Q (F0 m 5 ls []) := by
    intro d
    induction d with
    | zero => intros; omega
    | succ d ih_5 =>
      intro k v4 v3 hk2 hd hk1 e4 e3 ls hl
      subst e4 e3
      refine lv_iload hx hb dX5_isBroken_5 (lv_at hl 0 rfl) ?_
      refine lv_aload_n hx hb dX5_isBroken_7 rfl (lv_at hl 2 rfl) ?_
      refine va_get (D := gD G) (ci := 4) (v := .ref (y)) (C := RX5) (T := TX5) (N := 2) hx hb hts in_X5 hown hG.K hP 0 rfl rfl 1 (by decide) (hts _ q894) (fun _ h9 => h9) rfl dX5_isBroken_8 ?_
      refine va_alen (v := nI (15)) hx hb hG.K hP 1 0 rfl rfl rfl dX5_isBroken_11 ?_
      refine lv_icmp_ge (tgt := 73) hx hb dX5_isBroken_12 (by decide) (fun c_12 => ?_) (fun c_12 => ?_)
      · have h12 : 15 ≤ k := nI_ge' (a := k) (b := 15) c_12; have hk4 : k = 15 := (by omega)
        refine lv_iload_n hx hb dX5_isBroken_73 rfl (lv_at hl 1 rfl) ?_
        refine lv_aload_n hx hb dX5_isBroken_74 rfl (lv_at hl 2 rfl) ?_
        refine va_get (D := gD G) (ci := 4) (v := .int (lim)) (C := RX5) (T := TX5) (N := 2) hx hb hts in_X5 hown hG.K hP 0 rfl rfl 0 (by decide) (hts _ q893) (fun _ h9 => h9) rfl dX5_isBroken_75 ?_
        refine lv_icmp_le (tgt := 85) hx hb dX5_isBroken_78 (by decide) (fun c_78 => ?_) (fun c_78 => ?_)
        · have h78 : ¬ lim < suI v i o 15 := by subst hk4; exact Int32.not_lt.mpr c_78
          refine lv_iconst (v := 0) hx hb dX5_isBroken_85 (by decide) ?_
          exact ret (0) 86 ls dX5_isBroken_86 rfl (by simp [b2i, h78])
        · have h78 : lim < suI v i o 15 := by subst hk4; exact Int32.not_le.mp c_78
          refine lv_iconst (v := 1) hx hb dX5_isBroken_81 (by decide) ?_
          refine lv_goto (tgt := 86) hx hb dX5_isBroken_82 (by decide) ?_
          exact ret (1) 86 ls dX5_isBroken_86 rfl (by simp [b2i, h78])
      · have h12 : k < 15 := nI_nge (a := k) (b := 15) c_12
        have J67 : ∀ (v5 v3 : Int32), v3 = suI v i o (k + 1) → ∀ ls : Array Slot, lv_has ls 6 [(5, .int (v5)), (4, .int (nI k)), (3, .int (v3)), (0, .ref (x)), (1, .int (nI i)), (2, .int (nI o))] → W p l e (rm_ 1 0 0 20) s m args below meth c s.heap [] 0 0 Q (F0 m 67 ls []) := by
          intro v5 v3 ev ls hl
          subst ev
          refine lv_iinc (v := nI (k + 1)) (lv' := [(4, .int (nI (k + 1))), (5, .int (v5)), (3, .int (suI v i o (k + 1))), (0, .ref (x)), (1, .int (nI i)), (2, .int (nI o))]) hx hb dX5_isBroken_67 hl (k := 1) rfl (nI_1 k) (by decide) rfl (fun ls hl => ?_)
          refine lv_goto (tgt := 5) hx hb dX5_isBroken_70 (by decide) ?_
          exact ih_5 (k + 1) _ _ (by omega) (by omega) (by omega) rfl rfl ls (lv_sub hl [0, 2, 3, 4, 5] rfl)
        have J32 : ∀ (v5 : Int32), v5 = b2i (i.testBit (k - 1)) → ∀ ls : Array Slot, lv_has ls 6 [(5, .int (v5)), (4, .int (nI k)), (3, .int (suI v i o k)), (0, .ref (x)), (1, .int (nI i)), (2, .int (nI o))] → W p l e (rm_ 1 0 0 20) s m args below meth c s.heap [] 0 0 Q (F0 m 32 ls []) := by
          intro v5 ev ls hl
          subst ev
          refine lv_iload hx hb dX5_isBroken_32 (lv_at hl 0 rfl) ?_
          refine lv_if_ne (tgt := 57) hx hb dX5_isBroken_34 (by decide) (fun c_34 => ?_) (fun c_34 => ?_)
          · have h34 : i.testBit (k - 1) = true := b2i_n0.mp c_34; have h22 := h34
            refine lv_iload_n hx hb dX5_isBroken_57 rfl (lv_at hl 2 rfl) ?_
            refine lv_aload_n hx hb dX5_isBroken_58 rfl (lv_at hl 3 rfl) ?_
            refine va_get (D := gD G) (ci := 4) (v := .ref (y)) (C := RX5) (T := TX5) (N := 2) hx hb hts in_X5 hown hG.K hP 0 rfl rfl 1 (by decide) (hts _ q894) (fun _ h9 => h9) rfl dX5_isBroken_59 ?_
            refine lv_iload hx hb dX5_isBroken_62 (lv_at hl 1 rfl) ?_
            refine ia_ld (j := k) hx hb hG.K hP 1 0 rfl rfl (by omega) (by omega) dX5_isBroken_64 ?_
            refine lv_iadd hx hb dX5_isBroken_65 ?_
            refine lv_istore_n (lv' := [(3, .int ((suI v i o k) + (v (k)))), (5, .int (b2i (i.testBit (k - 1)))), (4, .int (nI k)), (0, .ref (x)), (1, .int (nI i)), (2, .int (nI o))]) hx hb dX5_isBroken_66 rfl hl (by decide) rfl (fun ls hl => ?_)
            exact J67 _ _ (by simp [suI, suB, hk1, h22]) ls (lv_sub hl [1, 2, 0, 3, 4, 5] rfl)
          · have h34 : i.testBit (k - 1) = false := b2i_0.mp c_34; have h22 := h34
            refine lv_iload_n hx hb dX5_isBroken_37 rfl (lv_at hl 5 rfl) ?_
            refine lv_iload hx hb dX5_isBroken_38 (lv_at hl 1 rfl) ?_
            refine vp_callSi (va_Run.run (va_runSN (As := [.int (nI k)]) (rest := [.int (nI o)]) ⟨hx, hb, hml, hown, hts⟩ (metX1_bit l G k hk1 (by omega)) ⟨(va_cnB 1 hts (lw_meth q235) rfl rfl rfl (hG.nest q1035) (hts _ q29) (by decide +kernel) ⟨Nat.le_of_ble_eq_true rfl, Nat.le_of_ble_eq_true rfl⟩), hts _ q234, trivial⟩ (pre_RS hG (wP.mem (w' := []) hP (fun _ h => absurd h List.not_mem_nil)) hS (fun _ h => h.elim)) rfl rfl hl.1 rfl (lv_room (Nat.le_of_ble_eq_true rfl)) dX5_isBroken_40 ⟨Nat.le_refl _, Nat.le_refl _⟩)) (fun r_40 e_40 => ?_)
            subst e_40
            refine lv_iand hx hb dX5_isBroken_43 ?_
            refine lv_if_ne (tgt := 67) hx hb dX5_isBroken_44 (by decide) (fun c_44 => ?_) (fun c_44 => ?_)
            · have h44 := bm_t (i := o) (g := k) (by omega) (by omega) c_44
              exact J67 _ _ (by simp [suI, suB, hk1, h22, h44]) ls hl
            · have h44 := bm_f (i := o) (g := k) (by omega) (by omega) (by simpa using c_44)
              refine lv_aload_n hx hb dX5_isBroken_47 rfl (lv_at hl 3 rfl) ?_
              refine va_get (D := gD G) (ci := 4) (v := .ref (y)) (C := RX5) (T := TX5) (N := 2) hx hb hts in_X5 hown hG.K hP 0 rfl rfl 1 (by decide) (hts _ q894) (fun _ h9 => h9) rfl dX5_isBroken_48 ?_
              refine lv_iload hx hb dX5_isBroken_51 (lv_at hl 1 rfl) ?_
              refine ia_ld (j := k) hx hb hG.K hP 1 0 rfl rfl (by omega) (by omega) dX5_isBroken_53 ?_
              refine lv_if_ge (tgt := 67) hx hb dX5_isBroken_54 (by decide) (fun c_54 => ?_) (fun c_54 => ?_)
              · have h54 : ¬ v k < 0 := Int32.not_lt.mpr c_54
                exact J67 _ _ (by simp [suI, suB, hk1, h22, h44, h54]) ls hl
              · have h54 : v k < 0 := Int32.not_le.mp c_54
                refine lv_iload_n hx hb dX5_isBroken_57 rfl (lv_at hl 2 rfl) ?_
                refine lv_aload_n hx hb dX5_isBroken_58 rfl (lv_at hl 3 rfl) ?_
                refine va_get (D := gD G) (ci := 4) (v := .ref (y)) (C := RX5) (T := TX5) (N := 2) hx hb hts in_X5 hown hG.K hP 0 rfl rfl 1 (by decide) (hts _ q894) (fun _ h9 => h9) rfl dX5_isBroken_59 ?_
                refine lv_iload hx hb dX5_isBroken_62 (lv_at hl 1 rfl) ?_
                refine ia_ld (j := k) hx hb hG.K hP 1 0 rfl rfl (by omega) (by omega) dX5_isBroken_64 ?_
                refine lv_iadd hx hb dX5_isBroken_65 ?_
                refine lv_istore_n (lv' := [(3, .int ((suI v i o k) + (v (k)))), (5, .int (b2i (i.testBit (k - 1)))), (4, .int (nI k)), (0, .ref (x)), (1, .int (nI i)), (2, .int (nI o))]) hx hb dX5_isBroken_66 rfl hl (by decide) rfl (fun ls hl => ?_)
                exact J67 _ _ (by simp [suI, suB, hk1, h22, h44, h54]) ls (lv_sub hl [1, 2, 0, 3, 4, 5] rfl)
        refine lv_iload_n hx hb dX5_isBroken_15 rfl (lv_at hl 3 rfl) ?_
        refine lv_iload hx hb dX5_isBroken_16 (lv_at hl 0 rfl) ?_
        refine vp_callSi (va_Run.run (va_runSN (As := [.int (nI k)]) (rest := [.int (nI i)]) ⟨hx, hb, hml, hown, hts⟩ (metX1_bit l G k hk1 (by omega)) ⟨(va_cnB 1 hts (lw_meth q235) rfl rfl rfl (hG.nest q1035) (hts _ q29) (by decide +kernel) ⟨Nat.le_of_ble_eq_true rfl, Nat.le_of_ble_eq_true rfl⟩), hts _ q234, trivial⟩ (pre_RS hG (wP.mem (w' := []) hP (fun _ h => absurd h List.not_mem_nil)) hS (fun _ h => h.elim)) rfl rfl hl.1 rfl (lv_room (Nat.le_of_ble_eq_true rfl)) dX5_isBroken_18 ⟨Nat.le_refl _, Nat.le_refl _⟩)) (fun r_18 e_18 => ?_)
        subst e_18
        refine lv_iand hx hb dX5_isBroken_21 ?_
        refine lv_if_eq (tgt := 29) hx hb dX5_isBroken_22 (by decide) (fun c_22 => ?_) (fun c_22 => ?_)
        · have h22 := bm_f (i := i) (g := k) (by omega) (by omega) c_22
          refine lv_iconst (v := 0) hx hb dX5_isBroken_29 (by decide) ?_
          refine lv_istore (lv' := [(5, .int (0)), (4, .int (nI k)), (3, .int (suI v i o k)), (0, .ref (x)), (1, .int (nI i)), (2, .int (nI o))]) hx hb dX5_isBroken_30 hl (by decide) rfl (fun ls hl => ?_)
          exact J32 _ (by rw [h22]; rfl) ls hl
        · have h22 := bm_t (i := i) (g := k) (by omega) (by omega) c_22
          refine lv_iconst (v := 1) hx hb dX5_isBroken_25 (by decide) ?_
          refine lv_goto (tgt := 30) hx hb dX5_isBroken_26 (by decide) ?_
          refine lv_istore (lv' := [(5, .int (1)), (4, .int (nI k)), (3, .int (suI v i o k)), (0, .ref (x)), (1, .int (nI i)), (2, .int (nI o))]) hx hb dX5_isBroken_30 hl (by decide) rfl (fun ls hl => ?_)
          exact J32 _ (by rw [h22]; rfl) ls hl
  refine lv_iconst (v := 0) hx hb dX5_isBroken_0 (by decide) ?_
  refine lv_istore_n (lv' := [(3, .int (0)), (0, .ref (x)), (1, .int (nI i)), (2, .int (nI o))]) hx hb dX5_isBroken_1 rfl hl (by decide) rfl (fun ls hl => ?_)
  refine lv_iconst (v := 1) hx hb dX5_isBroken_2 (by decide) ?_
  refine lv_istore (lv' := [(4, .int (1)), (3, .int (0)), (0, .ref (x)), (1, .int (nI i)), (2, .int (nI o))]) hx hb dX5_isBroken_3 hl (by decide) rfl (fun ls hl => ?_)
  exact L5 16 1 _ _ (by omega) (by omega) (by omega) rfl rfl ls hl
