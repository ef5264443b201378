set_option maxHeartbeats 8000000 in
set_option maxRecDepth 100000 in
theorem metX1_countFrom (l : Launch) (G : Gt) (a : Nat → Nat) (iv : Nat → Int32) (ra : Nat → Nat) (av : Nat → Nat → Int32) (rs : List (Nat × Rl)) (wr : va_W) (hw : AL G (a 9) (rs.map (·.1)) wr) (hrs : ∀ x ∈ rs, rlOk x.2) (hrl : rs.length ≤ 300) (n : Nat) (hn : iv 11 = nI n) (hn4 : n ≤ 14) (hM : Mono (brS av rs)) : ∀ (d i o : Nat), opc n i o < d → i < 2 ^ n → o < 2 ^ n → CRl l G yX1_countFrom cX1_countFrom 5 (4 + d) (87 + 24 * d) [.ref (a 15), .int (nI i), .int (nI o)] ((a 15, .inr (0, [.ref (a 0), .ref (a 1), .ref (a 2), .ref (a 3), .ref (a 4), .ref (a 5), .ref (a 6), .int (iv 7), .ref (a 8), .ref (a 9), .int (iv 10), .int (iv 11), .ref (a 12), .int (iv 13), .ref (a 14)])) :: (wr ++ (rlW ra rs ++ (rwW G ra av)))) (fun r => r = lN (cnN n (brS av rs) i o)) := by
  intro d
  induction d with
  | zero => intro i o h; exact absurd h (Nat.not_lt_zero _)
  | succ d ih =>
    intro i o hd0 hi ho
    refine mkRl (by decide) (Nat.le_of_ble_eq_true rfl) ?_
    intro p e s m args below meth c Q hx hb hts hown hml hG hP hS ret ls hl
    have hp2 := p2_14 hn4
    have hi14 : i < 2 ^ 14 := by omega
    have ho14 : o < 2 ^ 14 := by omega
    refine lv_iload_n hx hb dX1_countFrom_0 rfl (lv_at hl 1 rfl) ?_
    refine lv_iload_n hx hb dX1_countFrom_1 rfl (lv_at hl 2 rfl) ?_
    refine lv_iand hx hb dX1_countFrom_2 ?_
    refine top_i (y := nI (i &&& o)) (nx_and _ _) ?_
    refine lv_if_ne (tgt := 15) hx hb dX1_countFrom_3 (by decide) (fun c_3 => ?_) (fun c_3 => ?_)
    · have h3 : i &&& o ≠ 0 := nI_ne (b := 0) c_3
      refine lv_lconst (v := 0) hx hb dX1_countFrom_15 (by decide) ?_
      exact ret (0) 16 ls dX1_countFrom_16 (by unfold cnN; rw [ctB_zero (sol_dj h3)]; rfl)
    · have h3 : i &&& o = 0 := nI_e (b := 0) (by rw [nI_0]; simpa using c_3) (Nat.lt_of_le_of_lt Nat.and_le_left (by omega)) (by decide)
      refine lv_aload_n hx hb dX1_countFrom_6 rfl (lv_at hl 0 rfl) ?_
      refine lv_iload_n hx hb dX1_countFrom_7 rfl (lv_at hl 1 rfl) ?_
      refine lv_iload_n hx hb dX1_countFrom_8 rfl (lv_at hl 2 rfl) ?_
      refine vp_callSi (W.runV (As := [.int (nI i), .int (nI o)]) (rest := []) ⟨hx, hb, hml, hown, hts⟩ (metX1_isBroken l G a iv ra av rs wr hw hrs hrl i o hi14 ho14) (cwV 2 hts (lw_V q977 q979 qs11 q29 q980) rfl rfl rfl (by decide +kernel) ⟨by dsimp only [rm_]; omega, by dsimp only [rm_]; omega⟩) (pre_RV (q0 := 0) hG hP hS (fun _ h => h.elim) rfl rfl) rfl rfl hl.1 rfl (lv_room (Nat.le_of_ble_eq_true rfl)) dX1_countFrom_9 ⟨Nat.le_refl _, Nat.le_refl _⟩) (fun r_9 e_9 => ?_)
      subst e_9
      refine lv_if_eq (tgt := 17) hx hb dX1_countFrom_12 (by decide) (fun c_12 => ?_) (fun c_12 => ?_)
      · have h12 : brS av rs i o = false := b2i_0.mp c_12
        refine lv_aload_n hx hb dX1_countFrom_17 rfl (lv_at hl 0 rfl) ?_
        refine vp_callSi (W.runV (As := []) (rest := []) ⟨hx, hb, hml, hown, hts⟩ (metX1_all l G a iv n hn hn4) (cwV 0 hts (lw_V q1036 q1038 qs12 q29 q1039) rfl rfl rfl (by decide +kernel) ⟨by dsimp only [rm_]; omega, by dsimp only [rm_]; omega⟩) (pre_RV (q0 := 0) hG (wP.left (wP.perm (w' := [(a 15, .inr (0, [.ref (a 0), .ref (a 1), .ref (a 2), .ref (a 3), .ref (a 4), .ref (a 5), .ref (a 6), .int (iv 7), .ref (a 8), .ref (a 9), .int (iv 10), .int (iv 11), .ref (a 12), .int (iv 13), .ref (a 14)]))] ++ ((wr ++ (rlW ra rs ++ (rwW G ra av))))) hP (pm_ (fun _ z => by simp only [List.count_append, List.count_cons, List.count_nil]; omega)))) hS (fun _ h => h.elim) rfl rfl) rfl rfl hl.1 rfl (lv_room (Nat.le_of_ble_eq_true rfl)) dX1_countFrom_18 ⟨Nat.le_refl _, Nat.le_refl _⟩) (fun r_18 e_18 => ?_)
        subst e_18
        refine lv_iload_n hx hb dX1_countFrom_21 rfl (lv_at hl 1 rfl) ?_
        refine lv_iconst (v := (-1)) hx hb dX1_countFrom_22 (by decide) ?_
        refine lv_ixor hx hb dX1_countFrom_23 ?_
        refine lv_iand hx hb dX1_countFrom_24 ?_
        refine lv_iload_n hx hb dX1_countFrom_25 rfl (lv_at hl 2 rfl) ?_
        refine lv_iconst (v := (-1)) hx hb dX1_countFrom_26 (by decide) ?_
        refine lv_ixor hx hb dX1_countFrom_27 ?_
        refine lv_iand hx hb dX1_countFrom_28 ?_
        refine top_i (y := nI (opN n i o)) (op_I hn4 hi14 ho14) ?_
        refine lv_istore_n (lv' := [(3, .int (nI (opN n i o))), (0, .ref (a 15)), (1, .int (nI i)), (2, .int (nI o))]) hx hb dX1_countFrom_29 rfl hl (by decide) rfl (fun ls hl => ?_)
        refine lv_iload_n hx hb dX1_countFrom_30 rfl (lv_at hl 0 rfl) ?_
        refine lv_if_ne (tgt := 36) hx hb dX1_countFrom_31 (by decide) (fun c_31 => ?_) (fun c_31 => ?_)
        · have h31 : opN n i o ≠ 0 := nI_ne (b := 0) c_31; have hol := opN_lt (i := i) (o := o) hn4; obtain ⟨hz1, hz2, hz3⟩ := tz_n hn4 h31; have hpi := opc_in hn4 h31; have hpo := opc_out hn4 h31
          refine lv_iload_n hx hb dX1_countFrom_36 rfl (lv_at hl 0 rfl) ?_
          refine lv_iload_n hx hb dX1_countFrom_37 rfl (lv_at hl 0 rfl) ?_
          refine lv_ineg hx hb dX1_countFrom_38 ?_
          refine lv_iand hx hb dX1_countFrom_39 ?_
          refine top_i (y := nI (2 ^ tz (opN n i o))) (lb_and h31 hol) ?_
          refine lv_istore (lv' := [(4, .int (nI (2 ^ tz (opN n i o)))), (3, .int (nI (opN n i o))), (0, .ref (a 15)), (1, .int (nI i)), (2, .int (nI o))]) hx hb dX1_countFrom_40 hl (by decide) rfl (fun ls hl => ?_)
          refine lv_aload_n hx hb dX1_countFrom_42 rfl (lv_at hl 2 rfl) ?_
          refine lv_iload_n hx hb dX1_countFrom_43 rfl (lv_at hl 3 rfl) ?_
          refine lv_iload hx hb dX1_countFrom_44 (lv_at hl 0 rfl) ?_
          refine lv_ior hx hb dX1_countFrom_46 ?_
          refine top_i (y := nI (i ||| 2 ^ tz (opN n i o))) (nx_or _ _) ?_
          refine lv_iload_n hx hb dX1_countFrom_47 rfl (lv_at hl 4 rfl) ?_
          refine vp_callSl (W.runV (As := [.int (nI (i ||| 2 ^ tz (opN n i o))), .int (nI o)]) (rest := []) ⟨hx, hb, hml, hown, hts⟩ (ih (i ||| 2 ^ tz (opN n i o)) o (by omega) (or_b_lt hi hz1) ho) (cwV 2 hts (lw_V q1054 q1056 qs13 q29 q1057) rfl rfl rfl (by decide +kernel) ⟨by dsimp only [rm_]; omega, by dsimp only [rm_]; omega⟩) (pre_RV (q0 := 0) hG hP hS (fun _ h => h.elim) rfl rfl) rfl rfl hl.1 rfl (lv_room (Nat.le_of_ble_eq_true rfl)) dX1_countFrom_48 ⟨Nat.le_refl _, Nat.le_refl _⟩) (fun r_48 e_48 => ?_)
          subst e_48
          refine lv_aload_n hx hb dX1_countFrom_51 rfl (lv_at hl 2 rfl) ?_
          refine lv_iload_n hx hb dX1_countFrom_52 rfl (lv_at hl 3 rfl) ?_
          refine lv_iload_n hx hb dX1_countFrom_53 rfl (lv_at hl 4 rfl) ?_
          refine lv_iload hx hb dX1_countFrom_54 (lv_at hl 0 rfl) ?_
          refine lv_ior hx hb dX1_countFrom_56 ?_
          refine top_i (y := nI (o ||| 2 ^ tz (opN n i o))) (nx_or _ _) ?_
          refine vp_callSl (W.runV (As := [.int (nI i), .int (nI (o ||| 2 ^ tz (opN n i o)))]) (rest := [.long (lN (cnN n (brS av rs) (i ||| 2 ^ tz (opN n i o)) o))]) ⟨hx, hb, hml, hown, hts⟩ (ih i (o ||| 2 ^ tz (opN n i o)) (by omega) hi (or_b_lt ho hz1)) (cwV 2 hts (lw_V q1054 q1056 qs13 q29 q1057) rfl rfl rfl (by decide +kernel) ⟨by dsimp only [rm_]; omega, by dsimp only [rm_]; omega⟩) (pre_RV (q0 := 0) hG hP hS (fun _ h => h.elim) rfl rfl) rfl rfl hl.1 rfl (lv_room (Nat.le_of_ble_eq_true rfl)) dX1_countFrom_57 ⟨Nat.le_refl _, Nat.le_refl _⟩) (fun r_57 e_57 => ?_)
          subst e_57
          refine lv_ladd hx hb dX1_countFrom_60 ?_
          exact ret ((lN (cnN n (brS av rs) (i ||| 2 ^ tz (opN n i o)) o)) + (lN (cnN n (brS av rs) i (o ||| 2 ^ tz (opN n i o))))) 61 ls dX1_countFrom_61 ((lN_add _ _).trans (congrArg lN (cn_split (b := tz (opN n i o))).symm))
        · have h31 : opN n i o = 0 := nI_e (b := 0) (by rw [nI_0]; simpa using c_31) (Nat.lt_trans (opN_lt hn4) (by decide)) (by decide)
          refine lv_lconst (v := 1) hx hb dX1_countFrom_34 (by decide) ?_
          exact ret (1) 35 ls dX1_countFrom_35 (by unfold cnN; rw [ctB_one (sol_one hn4 hi ho h3 h12 h31), if_pos hi]; rfl)
      · have h12 : brS av rs i o = true := b2i_n0.mp c_12
        refine lv_lconst (v := 0) hx hb dX1_countFrom_15 (by decide) ?_
        exact ret (0) 16 ls dX1_countFrom_16 (by unfold cnN; rw [ctB_zero (sol_br hM hn4 ho h12)]; rfl)
/-- what first answers: -1 where there is none; else the first in the reference's order -/
def rvN : Nat → Nat → Nat
  | 0, _ => 0
  | n + 1, x => 2 * rvN n x + (if x.testBit n then 1 else 0)
theorem rv_tb (n x : Nat) : ∀ j, (rvN n x).testBit j = (decide (j < n) && x.testBit (n - 1 - j)) := by
  induction n with
  | zero => intro j; simp [rvN]
  | succ n ih =>
    intro j
    rw [rvN]
    cases j with
    | zero =>
      rw [Nat.testBit_zero, Nat.add_sub_cancel, Nat.sub_zero]
      cases h : x.testBit n <;> simp <;> omega
    | succ j =>
      rw [Nat.testBit_succ]
      have e : (2 * rvN n x + (if x.testBit n then 1 else 0)) / 2 = rvN n x := by split <;> omega
      rw [e, ih j, show n + 1 - 1 - (j + 1) = n - 1 - j by omega]
      simp
theorem rv_lt (n x : Nat) : rvN n x < 2 ^ n := lt_of_tb (fun k hk => by rw [rv_tb] at hk; simp at hk; exact hk.1)
theorem lt_tb {x y i : Nat} (hx : x.testBit i = false) (hy : y.testBit i = true) (hj : ∀ j, i < j → x.testBit j = y.testBit j) : x < y := by
  have e : x / 2 ^ (i + 1) = y / 2 ^ (i + 1) := by
    apply Nat.eq_of_testBit_eq
    intro j
    rw [Nat.testBit_div_two_pow, Nat.testBit_div_two_pow]
    exact hj _ (by omega)
  rw [Nat.pow_succ, ← Nat.div_div_eq_div_mul, ← Nat.div_div_eq_div_mul] at e
  rw [Nat.testBit_eq_decide_div_mod_eq] at hx hy
  have h1 : x / 2 ^ i % 2 ≠ 1 := by simpa using hx
  have h2 : y / 2 ^ i % 2 = 1 := by simpa using hy
  have h3 : x / 2 ^ i < y / 2 ^ i := by omega
  rcases Nat.lt_or_ge x y with h | h
  · exact h
  · exact absurd (Nat.div_le_div_right h) (Nat.not_le.mpr h3)
/-- two sets that agree below b, where the one has b and the other hasn't -/
theorem rv_ord {n b x y : Nat} (hb : b < n) (h1 : ∀ c, c < b → x.testBit c = y.testBit c) (h2 : x.testBit b = true) (h3 : y.testBit b = false) : rvN n y < rvN n x := by
  apply lt_tb (i := n - 1 - b)
  · rw [rv_tb, show n - 1 - (n - 1 - b) = b by omega, h3, Bool.and_false]
  · rw [rv_tb, show n - 1 - (n - 1 - b) = b by omega, h2]; simp; omega
  · intro j hj
    rw [rv_tb, rv_tb]
    by_cases hjn : j < n
    · rw [h1 (n - 1 - j) (by omega)]
    · simp [hjn]
def FS (n : Nat) (B : Nat → Nat → Bool) (i o : Nat) (r : Int32) : Prop := (r = -1 ∧ ∀ x, solB n B i o x = false) ∨ ∃ x, r = nI x ∧ solB n B i o x = true ∧ ∀ y, solB n B i o y = true → rvN n y ≤ rvN n x
theorem FS_none {n : Nat} {B : Nat → Nat → Bool} {i o : Nat} (h : ∀ x, solB n B i o x = false) : FS n B i o (-1) := Or.inl ⟨rfl, h⟩
theorem FS_congr {n : Nat} {B : Nat → Nat → Bool} {i o i' o' : Nat} {r : Int32} (h : ∀ x, solB n B i' o' x = solB n B i o x) (hf : FS n B i' o' r) : FS n B i o r := by
  rcases hf with ⟨h1, h2⟩ | ⟨x, h1, h2, h3⟩
  · exact Or.inl ⟨h1, fun x => by rw [← h]; exact h2 x⟩
  · exact Or.inr ⟨x, h1, by rw [← h]; exact h2, fun y hy => h3 y (by rw [h]; exact hy)⟩
/-- below the first open feature all is decided -/
theorem sol_low {n : Nat} {B : Nat → Nat → Bool} {i o x y b : Nat} (hn : n ≤ 14) (hb : b < n) (hl : ∀ c, c < b → (opN n i o).testBit c = false) (hx : solB n B i o x = true) (hy : solB n B i o y = true) : ∀ c, c < b → x.testBit c = y.testBit c := by
  intro c hc
  obtain ⟨-, x1, x2, -⟩ := sol_iff.mp hx
  obtain ⟨-, y1, y2, -⟩ := sol_iff.mp hy
  have h := hl c hc
  rw [opN_tb hn] at h
  cases hi : i.testBit c with
  | true => rw [x1 c hi, y1 c hi]
  | false =>
    cases ho : o.testBit c with
    | true => rw [x2 c ho, y2 c ho]
    | false => rw [hi, ho] at h; simp at h; omega
theorem FS_in {n : Nat} {B : Nat → Nat → Bool} {i o : Nat} {r : Int32} (hn : n ≤ 14) (h0 : opN n i o ≠ 0) (hr : ¬ r < 0) (hf : FS n B (i ||| 2 ^ tz (opN n i o)) o r) : FS n B i o r := by
  obtain ⟨hz1, hz2, hz3⟩ := tz_n hn h0
  rcases hf with ⟨h1, -⟩ | ⟨x, h1, h2, h3⟩
  · exact absurd (by rw [h1]; decide) hr
  · rw [sol_in, Bool.and_eq_true] at h2
    refine Or.inr ⟨x, h1, h2.1, fun y hy => ?_⟩
    cases hb : y.testBit (tz (opN n i o)) with
    | true => exact h3 y (by rw [sol_in, hy, hb]; rfl)
    | false => exact Nat.le_of_lt (rv_ord hz1 (sol_low hn hz1 (fun c hc => tz_low hc) h2.1 hy) h2.2 hb)
theorem FS_out {n : Nat} {B : Nat → Nat → Bool} {i o : Nat} {r r' : Int32} (hn : n ≤ 14) (hr : r < 0) (hf : FS n B (i ||| 2 ^ tz (opN n i o)) o r) (hf' : FS n B i (o ||| 2 ^ tz (opN n i o)) r') : FS n B i o r' := by
  have hno : ∀ x, solB n B (i ||| 2 ^ tz (opN n i o)) o x = false := by
    rcases hf with ⟨-, h⟩ | ⟨x, h1, h2, -⟩
    · exact h
    · have hx := (sol_iff.mp h2).1
      have := p2_14 hn
      exact absurd (h1 ▸ hr) (nI_pos (by omega))
  refine FS_congr (fun x => ?_) hf'
  have := hno x
  rw [sol_in] at this
  rw [sol_out]
  cases hs : solB n B i o x with
  | false => rfl
  | true => rw [hs, Bool.true_and] at this; rw [this]; rfl
theorem FS_one {n : Nat} {B : Nat → Nat → Bool} {i o : Nat} (hn : n ≤ 14) (hi : i < 2 ^ n) (ho : o < 2 ^ n) (hd : i &&& o = 0) (hB : B i o = false) (hop : opN n i o = 0) : FS n B i o (nI i) :=
  Or.inr ⟨i, rfl, by rw [sol_one hn hi ho hd hB hop]; simp, fun y hy => by rw [sol_one hn hi ho hd hB hop, decide_eq_true_eq] at hy; rw [hy]; exact Nat.le_refl _⟩
