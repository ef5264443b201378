theorem opc_in' {n i o b : Nat} (hn : n ≤ 14) (hb : b < n) (hi : i.testBit b = false) (ho : o.testBit b = false) : opc n (i ||| 2 ^ b) o < opc n i o := by
  refine ctB_lt (j := b) ?_ (by omega) ?_ ?_
  · intro k hk
    rw [opN_tb hn] at hk ⊢
    rw [or2p_tb] at hk
    cases hi : i.testBit k <;> simp [hi] at hk ⊢
    exact ⟨hk.1, hk.2.2⟩
  · rw [opN_tb hn, hi, ho]; simp [hb]
  · rw [opN_tb hn, or2p_tb]; simp
theorem opc_out' {n i o b : Nat} (hn : n ≤ 14) (hb : b < n) (hi : i.testBit b = false) (ho : o.testBit b = false) : opc n i (o ||| 2 ^ b) < opc n i o := by
  refine ctB_lt (j := b) ?_ (by omega) ?_ ?_
  · intro k hk
    rw [opN_tb hn] at hk ⊢
    rw [or2p_tb] at hk
    cases hi : o.testBit k <;> simp [hi] at hk ⊢
    exact ⟨hk.1, hk.2.1⟩
  · rw [opN_tb hn, hi, ho]; simp [hb]
  · rw [opN_tb hn, or2p_tb]; simp
theorem xr_tb {m b k : Nat} (hb : m.testBit b = true) : (m ^^^ 2 ^ b).testBit k = (m.testBit k && !decide (b = k)) := by
  rw [Nat.testBit_xor, Nat.testBit_two_pow]
  by_cases h : b = k
  · subst h; simp [hb]
  · simp [h]
theorem xr_pc {m : Nat} (h0 : m ≠ 0) (h : m < 16384) : pcN (m ^^^ 2 ^ tz m) < pcN m := by
  obtain ⟨h1, h2, -⟩ := lb_ok h0 h
  refine ctB_lt (j := tz m) ?_ h2 h1 ?_
  · intro k hk
    rw [xr_tb h1, Bool.and_eq_true] at hk
    exact hk.1
  · rw [xr_tb h1]; simp
theorem xr_lt {m : Nat} (h0 : m ≠ 0) (h : m < 16384) : m ^^^ 2 ^ tz m < 16384 := by
  obtain ⟨h1, h2, -⟩ := lb_ok h0 h
  exact lt_of_tb (n := 14) (fun k hk => by
    rw [xr_tb h1, Bool.and_eq_true] at hk
    exact tb_lt (n := 14) h hk.1)
/-- the open features in the mask op are open in u, v -/
def opI (n u v op : Nat) : Prop := ∀ k, op.testBit k = true → k < n ∧ u.testBit k = false ∧ v.testBit k = false
theorem opI_0 {n u v : Nat} (hn : n ≤ 14) : opI n u v (opN n u v) := by
  intro k hk
  rw [opN_tb hn] at hk
  simpa using hk
theorem opI_s {n u v op : Nat} (h0 : op ≠ 0) (h : op < 16384) (ho : opI n u v op) : opI n u v (op ^^^ 2 ^ tz op) := by
  intro k hk
  rw [xr_tb (lb_ok h0 h).1, Bool.and_eq_true] at hk
  exact ho k hk.1
theorem opI_i {n u v op : Nat} (h0 : op ≠ 0) (h : op < 16384) (ho : opI n u v op) : opI n (u ||| 2 ^ tz op) v (op ^^^ 2 ^ tz op) := by
  intro k hk
  rw [xr_tb (lb_ok h0 h).1, Bool.and_eq_true] at hk
  obtain ⟨h1, h2, h3⟩ := ho k hk.1
  refine ⟨h1, ?_, h3⟩
  rw [or2p_tb, h2]
  simpa using hk.2
theorem opI_o {n u v op : Nat} (h0 : op ≠ 0) (h : op < 16384) (ho : opI n u v op) : opI n u (v ||| 2 ^ tz op) (op ^^^ 2 ^ tz op) := by
  intro k hk
  rw [xr_tb (lb_ok h0 h).1, Bool.and_eq_true] at hk
  obtain ⟨h1, h2, h3⟩ := ho k hk.1
  refine ⟨h1, h2, ?_⟩
  rw [or2p_tb, h3]
  simpa using hk.2
theorem sol_i {n : Nat} {B : Nat → Nat → Bool} {u v b : Nat} (hM : Mono B) (hn : n ≤ 14) (hv : v ||| 2 ^ b < 2 ^ n) (h : B u (v ||| 2 ^ b) = true) (x : Nat) : solB n B (u ||| 2 ^ b) v x = solB n B u v x := by
  have h1 := sol_br hM hn hv h x
  rw [sol_out] at h1
  rw [sol_in]
  cases hs : solB n B u v x with
  | false => rfl
  | true => rw [hs, Bool.true_and] at h1; cases hb : x.testBit b <;> simp [hb] at h1 ⊢
theorem sol_o {n : Nat} {B : Nat → Nat → Bool} {u v b : Nat} (hM : Mono B) (hn : n ≤ 14) (hv : v < 2 ^ n) (h : B (u ||| 2 ^ b) v = true) (x : Nat) : solB n B u (v ||| 2 ^ b) x = solB n B u v x := by
  have h1 := sol_br hM hn hv h x
  rw [sol_in] at h1
  rw [sol_out]
  cases hs : solB n B u v x with
  | false => rfl
  | true => rw [hs, Bool.true_and] at h1; rw [h1]; rfl
theorem sol_none {n : Nat} {B : Nat → Nat → Bool} {u v b : Nat} (hM : Mono B) (hn : n ≤ 14) (hv : v < 2 ^ n) (hv' : v ||| 2 ^ b < 2 ^ n) (h : B (u ||| 2 ^ b) v = true) (h' : B u (v ||| 2 ^ b) = true) (x : Nat) : solB n B u v x = false := by
  rw [← sol_i hM hn hv' h' x]
  exact sol_br hM hn hv h x
set_option maxHeartbeats 8000000 in
set_option maxRecDepth 100000 in
theorem metX1_first (l : Launch) (G : Gt) (a : Nat → Nat) (iv : Nat → Int32) (ra : Nat → Nat) (av : Nat → Nat → Int32) (rs : List (Nat × Rl)) (wr : va_W) (hw : AL G (a 9) (rs.map (·.1)) wr) (hrs : ∀ x ∈ rs, rlOk x.2) (hrl : rs.length ≤ 300) (n : Nat) (hn : iv 11 = nI n) (hn4 : n ≤ 14) (hM : Mono (brS av rs)) : ∀ (d i o : Nat), opc n i o < d → i < 2 ^ n → o < 2 ^ n → CR l G yX1_first cX1_first 10 .int (4 + d) (87 + 29 * d) [.ref (a 15), .int (nI i), .int (nI o)] ((a 15, .inr (0, [.ref (a 0), .ref (a 1), .ref (a 2), .ref (a 3), .ref (a 4), .ref (a 5), .ref (a 6), .int (iv 7), .ref (a 8), .ref (a 9), .int (iv 10), .int (iv 11), .ref (a 12), .int (iv 13), .ref (a 14)])) :: (wr ++ (rlW ra rs ++ (rwW G ra av)))) (FS n (brS av rs) i o) := by
  intro d
  induction d with
  | zero => intro i o h; exact absurd h (Nat.not_lt_zero _)
  | succ d ih =>
    intro i o hd0 hi ho
    refine mkRi (by decide) (Nat.le_of_ble_eq_true rfl) ?_
    intro p e s m args below meth c Q hx hb hts hown hml hG hP hS ret ls hl
    have hp2 := p2_14 hn4
    have hi14 : i < 2 ^ 14 := by omega
    have ho14 : o < 2 ^ 14 := by omega
    have L8 : ∀ (D : Nat) (u v : Nat) (mo : Bool) (v5 v4 v3 : Int32), u < 2 ^ n → v < 2 ^ n → (∀ x, solB n (brS av rs) u v x = solB n (brS av rs) i o x) → opc n u v ≤ opc n i o → (mo = false → u &&& v = 0 ∧ brS av rs u v = false) → 2 * opc n u v + (if mo then 1 else 0) < D → v5 = b2i mo → v4 = nI v → v3 = nI u → ∀ ls : Array Slot, lv_has ls 10 [(5, .int (v5)), (4, .int (v4)), (3, .int (v3)), (0, .ref (a 15)), (1, .int (nI i)), (2, .int (nI o))] → W p l e (rm_ (4 + (d + 1)) 0 0 (87 + 29 * (d + 1))) s m args below meth c s.heap [] 0 0 Q (F0 m 8 ls []) := by
      intro D
      induction D with
      | zero => intros; omega
      | succ D ih_8 =>
        intro u v mo v5 v4 v3 hu hv hsol hopc hmo hD e5 e4 e3 ls hl
        subst e5 e4 e3
        refine lv_iload hx hb dX1_first_8 (lv_at hl 0 rfl) ?_
        refine lv_if_eq (tgt := 164) hx hb dX1_first_10 (by decide) (fun c_10 => ?_) (fun c_10 => ?_)
        · have h10 : mo = false := b2i_0.mp c_10
          subst h10
          obtain ⟨hx1, hx2⟩ := hmo rfl
          have hu14 : u < 2 ^ 14 := by omega
          have hv14 : v < 2 ^ 14 := by omega
          refine lv_aload_n hx hb dX1_first_164 rfl (lv_at hl 3 rfl) ?_
          refine vp_callSi (W.runV (As := []) (rest := []) ⟨hx, hb, hml, hown, hts⟩ (metX1_all l G a iv n hn hn4) (cwV 0 hts (lw_V q1036 q1038 qs12 q29 q1039) rfl rfl rfl (by decide +kernel) ⟨by dsimp only [rm_]; omega, by dsimp only [rm_]; omega⟩) (pre_RV (q0 := 0) hG (wP.left (wP.perm (w' := [(a 15, .inr (0, [.ref (a 0), .ref (a 1), .ref (a 2), .ref (a 3), .ref (a 4), .ref (a 5), .ref (a 6), .int (iv 7), .ref (a 8), .ref (a 9), .int (iv 10), .int (iv 11), .ref (a 12), .int (iv 13), .ref (a 14)]))] ++ ((wr ++ (rlW ra rs ++ (rwW G ra av))))) hP (pm_ (fun _ z => by simp only [List.count_append, List.count_cons, List.count_nil]; omega)))) hS (fun _ h => h.elim) rfl rfl) rfl rfl hl.1 rfl (lv_room (Nat.le_of_ble_eq_true rfl)) dX1_first_165 ⟨Nat.le_refl _, Nat.le_refl _⟩) (fun r_165 e_165 => ?_)
          subst e_165
          refine lv_iload_n hx hb dX1_first_168 rfl (lv_at hl 2 rfl) ?_
          refine lv_iconst (v := (-1)) hx hb dX1_first_169 (by decide) ?_
          refine lv_ixor hx hb dX1_first_170 ?_
          refine lv_iand hx hb dX1_first_171 ?_
          refine lv_iload hx hb dX1_first_172 (lv_at hl 1 rfl) ?_
          refine lv_iconst (v := (-1)) hx hb dX1_first_174 (by decide) ?_
          refine lv_ixor hx hb dX1_first_175 ?_
          refine lv_iand hx hb dX1_first_176 ?_
          refine top_i (y := nI (opN n u v)) (op_I hn4 hu14 hv14) ?_
          refine lv_istore (lv' := [(6, .int (nI (opN n u v))), (5, .int (b2i false)), (4, .int (nI v)), (3, .int (nI u)), (0, .ref (a 15)), (1, .int (nI i)), (2, .int (nI o))]) hx hb dX1_first_177 hl (by decide) rfl (fun ls hl => ?_)
          refine lv_iload hx hb dX1_first_179 (lv_at hl 0 rfl) ?_
          refine lv_if_ne (tgt := 186) hx hb dX1_first_181 (by decide) (fun c_181 => ?_) (fun c_181 => ?_)
          · have h181 : opN n u v ≠ 0 := nI_ne (b := 0) c_181; have hol := opN_lt (i := u) (o := v) hn4; obtain ⟨hz1, hz2, hz3⟩ := tz_n hn4 h181; have hpi := opc_in hn4 h181; have hpo := opc_out hn4 h181
            refine lv_iload hx hb dX1_first_186 (lv_at hl 0 rfl) ?_
            refine lv_iload hx hb dX1_first_188 (lv_at hl 0 rfl) ?_
            refine lv_ineg hx hb dX1_first_190 ?_
            refine lv_iand hx hb dX1_first_191 ?_
            refine top_i (y := nI (2 ^ tz (opN n u v))) (lb_and h181 hol) ?_
            refine lv_istore (lv' := [(7, .int (nI (2 ^ tz (opN n u v)))), (6, .int (nI (opN n u v))), (5, .int (b2i false)), (4, .int (nI v)), (3, .int (nI u)), (0, .ref (a 15)), (1, .int (nI i)), (2, .int (nI o))]) hx hb dX1_first_192 hl (by decide) rfl (fun ls hl => ?_)
            refine lv_aload_n hx hb dX1_first_194 rfl (lv_at hl 5 rfl) ?_
            refine lv_iload_n hx hb dX1_first_195 rfl (lv_at hl 4 rfl) ?_
            refine lv_iload hx hb dX1_first_196 (lv_at hl 0 rfl) ?_
            refine lv_ior hx hb dX1_first_198 ?_
            refine top_i (y := nI (u ||| 2 ^ tz (opN n u v))) (nx_or _ _) ?_
            refine lv_iload hx hb dX1_first_199 (lv_at hl 3 rfl) ?_
            refine vp_callSi (W.runV (As := [.int (nI (u ||| 2 ^ tz (opN n u v))), .int (nI v)]) (rest := []) ⟨hx, hb, hml, hown, hts⟩ (ih (u ||| 2 ^ tz (opN n u v)) v (by omega) (or_b_lt hu hz1) hv) (cwV 2 hts (lw_V q973 q975 qs10 q29 q976) rfl rfl rfl (by decide +kernel) ⟨by dsimp only [rm_]; omega, by dsimp only [rm_]; omega⟩) (pre_RV (q0 := 0) hG hP hS (fun _ h => h.elim) rfl rfl) rfl rfl hl.1 rfl (lv_room (Nat.le_of_ble_eq_true rfl)) dX1_first_201 ⟨Nat.le_refl _, Nat.le_refl _⟩) (fun r_201 e_201 => ?_)
            refine lv_istore (lv' := [(8, .int (r_201)), (7, .int (nI (2 ^ tz (opN n u v)))), (6, .int (nI (opN n u v))), (5, .int (b2i false)), (4, .int (nI v)), (3, .int (nI u)), (0, .ref (a 15)), (1, .int (nI i)), (2, .int (nI o))]) hx hb dX1_first_204 hl (by decide) rfl (fun ls hl => ?_)
            refine lv_iload hx hb dX1_first_206 (lv_at hl 0 rfl) ?_
            refine lv_if_lt (tgt := 216) hx hb dX1_first_208 (by decide) (fun c_208 => ?_) (fun c_208 => ?_)
            · skip
              refine lv_aload_n hx hb dX1_first_216 rfl (lv_at hl 6 rfl) ?_
              refine lv_iload_n hx hb dX1_first_217 rfl (lv_at hl 5 rfl) ?_
              refine lv_iload hx hb dX1_first_218 (lv_at hl 4 rfl) ?_
              refine lv_iload hx hb dX1_first_220 (lv_at hl 1 rfl) ?_
              refine lv_ior hx hb dX1_first_222 ?_
              refine top_i (y := nI (v ||| 2 ^ tz (opN n u v))) (nx_or _ _) ?_
              refine vp_callSi (W.runV (As := [.int (nI u), .int (nI (v ||| 2 ^ tz (opN n u v)))]) (rest := []) ⟨hx, hb, hml, hown, hts⟩ (ih u (v ||| 2 ^ tz (opN n u v)) (by omega) hu (or_b_lt hv hz1)) (cwV 2 hts (lw_V q973 q975 qs10 q29 q976) rfl rfl rfl (by decide +kernel) ⟨by dsimp only [rm_]; omega, by dsimp only [rm_]; omega⟩) (pre_RV (q0 := 0) hG hP hS (fun _ h => h.elim) rfl rfl) rfl rfl hl.1 rfl (lv_room (Nat.le_of_ble_eq_true rfl)) dX1_first_223 ⟨Nat.le_refl _, Nat.le_refl _⟩) (fun r_223 e_223 => ?_)
              exact ret (r_223) 226 ls dX1_first_226 rfl (FS_congr hsol (FS_out hn4 c_208 e_201 e_223))
            · skip
              refine lv_iload hx hb dX1_first_211 (lv_at hl 0 rfl) ?_
              refine lv_goto (tgt := 226) hx hb dX1_first_213 (by decide) ?_
              exact ret (r_201) 226 ls dX1_first_226 rfl (FS_congr hsol (FS_in hn4 h181 c_208 e_201))
          · have h181 : opN n u v = 0 := nI_e (b := 0) (by rw [nI_0]; simpa using c_181) (Nat.lt_trans (opN_lt hn4) (by decide)) (by decide)
            refine lv_iload_n hx hb dX1_first_184 rfl (lv_at hl 3 rfl) ?_
            exact ret (nI u) 185 ls dX1_first_185 rfl (FS_congr hsol (FS_one hn4 hu hv hx1 hx2 h181))
        · have h10 : mo = true := b2i_n0.mp c_10
          subst h10
          have hu14 : u < 2 ^ 14 := by omega
          have hv14 : v < 2 ^ 14 := by omega
          refine lv_iconst (v := 0) hx hb dX1_first_13 (by decide) ?_
          refine lv_istore (lv' := [(5, .int (0)), (4, .int (nI v)), (3, .int (nI u)), (0, .ref (a 15)), (1, .int (nI i)), (2, .int (nI o))]) hx hb dX1_first_14 hl (by decide) rfl (fun ls hl => ?_)
          refine lv_iload_n hx hb dX1_first_16 rfl (lv_at hl 2 rfl) ?_
          refine lv_iload hx hb dX1_first_17 (lv_at hl 1 rfl) ?_
          refine lv_iand hx hb dX1_first_19 ?_
          refine top_i (y := nI (u &&& v)) (nx_and _ _) ?_
          refine lv_if_ne (tgt := 33) hx hb dX1_first_20 (by decide) (fun c_20 => ?_) (fun c_20 => ?_)
          · have h20 : u &&& v ≠ 0 := nI_ne (b := 0) c_20
            refine lv_iconst (v := (-1)) hx hb dX1_first_33 (by decide) ?_
            exact ret (-1) 34 ls dX1_first_34 rfl (FS_none (fun x => by rw [← hsol]; exact sol_dj h20 x))
          · have h20 : u &&& v = 0 := nI_e (b := 0) (by rw [nI_0]; simpa using c_20) (Nat.lt_of_le_of_lt Nat.and_le_left (by omega)) (by decide)
            refine lv_aload_n hx hb dX1_first_23 rfl (lv_at hl 3 rfl) ?_
            refine lv_iload_n hx hb dX1_first_24 rfl (lv_at hl 2 rfl) ?_
            refine lv_iload hx hb dX1_first_25 (lv_at hl 1 rfl) ?_
            refine vp_callSi (W.runV (As := [.int (nI u), .int (nI v)]) (rest := []) ⟨hx, hb, hml, hown, hts⟩ (metX1_isBroken l G a iv ra av rs wr hw hrs hrl u v hu14 hv14) (cwV 2 hts (lw_V q977 q979 qs11 q29 q980) rfl rfl rfl (by decide +kernel) ⟨by dsimp only [rm_]; omega, by dsimp only [rm_]; omega⟩) (pre_RV (q0 := 0) hG hP hS (fun _ h => h.elim) rfl rfl) rfl rfl hl.1 rfl (lv_room (Nat.le_of_ble_eq_true rfl)) dX1_first_27 ⟨Nat.le_refl _, Nat.le_refl _⟩) (fun r_27 e_27 => ?_)
            subst e_27
            refine lv_if_eq (tgt := 35) hx hb dX1_first_30 (by decide) (fun c_30 => ?_) (fun c_30 => ?_)
            · have h30 : brS av rs u v = false := b2i_0.mp c_30
              have L50 : ∀ (E : Nat) (u2 v2 op : Nat) (m2 : Bool) (w6 w5 w4 w3 : Int32), u2 < 2 ^ n → v2 < 2 ^ n → (∀ x, solB n (brS av rs) u2 v2 x = solB n (brS av rs) i o x) → opI n u2 v2 op → op < 16384 → (m2 = false → u2 = u ∧ v2 = v) → (m2 = true → opc n u2 v2 < opc n u v) → opc n u2 v2 ≤ opc n u v → pcN op < E → w6 = nI op → w5 = b2i m2 → w4 = nI v2 → w3 = nI u2 → ∀ ls : Array Slot, lv_has ls 10 [(6, .int (w6)), (5, .int (w5)), (4, .int (w4)), (3, .int (w3)), (0, .ref (a 15)), (1, .int (nI i)), (2, .int (nI o))] → W p l e (rm_ (4 + (d + 1)) 0 0 (87 + 29 * (d + 1))) s m args below meth c s.heap [] 0 0 Q (F0 m 50 ls []) := by
                intro E
                induction E with
                | zero => intros; omega
                | succ E ih_50 =>
                  intro u2 v2 op m2 w6 w5 w4 w3 ku kv ksol kop kop4 km0 km1 kle kE f6 f5 f4 f3 ls hl
                  subst f6 f5 f4 f3
                  refine lv_iload hx hb dX1_first_50 (lv_at hl 0 rfl) ?_
                  refine lv_if_eq (tgt := 161) hx hb dX1_first_52 (by decide) (fun c_52 => ?_) (fun c_52 => ?_)
                  · have h52 : op = 0 := nI_e (b := 0) (by rw [nI_0]; exact c_52) (by omega) (by decide)
                    refine lv_goto (tgt := 8) hx hb dX1_first_161 (by decide) ?_
                    exact ih_8 u2 v2 m2 _ _ _ ku kv ksol (by omega) (fun h => by obtain ⟨e1, e2⟩ := km0 h; rw [e1, e2]; exact ⟨h20, h30⟩) (by cases m2 <;> simp at hD km1 ⊢ <;> omega) rfl rfl rfl ls (lv_sub hl [1, 2, 3, 4, 5, 6] rfl)
                  · have h52 : op ≠ 0 := nI_ne (b := 0) c_52; obtain ⟨hz0, hz4, -⟩ := lb_ok h52 kop4; obtain ⟨hz1, hz2, hz3⟩ := kop _ hz0; have hul := or_b_lt ku hz1; have hvl := or_b_lt kv hz1; have hxp := xr_pc h52 kop4; have hxl := xr_lt h52 kop4; have hoi := opc_in' hn4 hz1 hz2 hz3; have hoo := opc_out' hn4 hz1 hz2 hz3
                    refine lv_iload hx hb dX1_first_55 (lv_at hl 0 rfl) ?_
                    refine lv_iload hx hb dX1_first_57 (lv_at hl 0 rfl) ?_
                    refine lv_ineg hx hb dX1_first_59 ?_
                    refine lv_iand hx hb dX1_first_60 ?_
                    refine top_i (y := nI (2 ^ tz op)) (lb_and h52 kop4) ?_
                    refine lv_istore (lv' := [(7, .int (nI (2 ^ tz op))), (6, .int (nI op)), (5, .int (b2i m2)), (4, .int (nI v2)), (3, .int (nI u2)), (0, .ref (a 15)), (1, .int (nI i)), (2, .int (nI o))]) hx hb dX1_first_61 hl (by decide) rfl (fun ls hl => ?_)
                    refine lv_aload_n hx hb dX1_first_63 rfl (lv_at hl 5 rfl) ?_
                    refine lv_iload_n hx hb dX1_first_64 rfl (lv_at hl 4 rfl) ?_
                    refine lv_iload hx hb dX1_first_65 (lv_at hl 0 rfl) ?_
                    refine lv_ior hx hb dX1_first_67 ?_
                    refine top_i (y := nI (u2 ||| 2 ^ tz op)) (nx_or _ _) ?_
                    refine lv_iload hx hb dX1_first_68 (lv_at hl 3 rfl) ?_
                    refine vp_callSi (W.runV (As := [.int (nI (u2 ||| 2 ^ tz op)), .int (nI v2)]) (rest := []) ⟨hx, hb, hml, hown, hts⟩ (metX1_isBroken l G a iv ra av rs wr hw hrs hrl (u2 ||| 2 ^ tz op) v2 (by omega) (by omega)) (cwV 2 hts (lw_V q977 q979 qs11 q29 q980) rfl rfl rfl (by decide +kernel) ⟨by dsimp only [rm_]; omega, by dsimp only [rm_]; omega⟩) (pre_RV (q0 := 0) hG hP hS (fun _ h => h.elim) rfl rfl) rfl rfl hl.1 rfl (lv_room (Nat.le_of_ble_eq_true rfl)) dX1_first_70 ⟨Nat.le_refl _, Nat.le_refl _⟩) (fun r_70 e_70 => ?_)
                    subst e_70
                    obtain ⟨nA, hnA⟩ : ∃ z, brS av rs (u2 ||| 2 ^ tz op) v2 = z := ⟨_, rfl⟩
                    refine top_i (y := b2i nA) (congrArg b2i hnA) ?_
                    refine lv_istore (lv' := [(8, .int (b2i nA)), (7, .int (nI (2 ^ tz op))), (6, .int (nI op)), (5, .int (b2i m2)), (4, .int (nI v2)), (3, .int (nI u2)), (0, .ref (a 15)), (1, .int (nI i)), (2, .int (nI o))]) hx hb dX1_first_73 hl (by decide) rfl (fun ls hl => ?_)
                    refine lv_aload_n hx hb dX1_first_75 rfl (lv_at hl 6 rfl) ?_
                    refine lv_iload_n hx hb dX1_first_76 rfl (lv_at hl 5 rfl) ?_
                    refine lv_iload hx hb dX1_first_77 (lv_at hl 4 rfl) ?_
                    refine lv_iload hx hb dX1_first_79 (lv_at hl 1 rfl) ?_
                    refine lv_ior hx hb dX1_first_81 ?_
                    refine top_i (y := nI (v2 ||| 2 ^ tz op)) (nx_or _ _) ?_
                    refine vp_callSi (W.runV (As := [.int (nI u2), .int (nI (v2 ||| 2 ^ tz op))]) (rest := []) ⟨hx, hb, hml, hown, hts⟩ (metX1_isBroken l G a iv ra av rs wr hw hrs hrl u2 (v2 ||| 2 ^ tz op) (by omega) (by omega)) (cwV 2 hts (lw_V q977 q979 qs11 q29 q980) rfl rfl rfl (by decide +kernel) ⟨by dsimp only [rm_]; omega, by dsimp only [rm_]; omega⟩) (pre_RV (q0 := 0) hG hP hS (fun _ h => h.elim) rfl rfl) rfl rfl hl.1 rfl (lv_room (Nat.le_of_ble_eq_true rfl)) dX1_first_82 ⟨Nat.le_refl _, Nat.le_refl _⟩) (fun r_82 e_82 => ?_)
                    subst e_82
                    obtain ⟨nC, hnC⟩ : ∃ z, brS av rs u2 (v2 ||| 2 ^ tz op) = z := ⟨_, rfl⟩
                    refine top_i (y := b2i nC) (congrArg b2i hnC) ?_
                    refine lv_istore (lv' := [(9, .int (b2i nC)), (8, .int (b2i nA)), (7, .int (nI (2 ^ tz op))), (6, .int (nI op)), (5, .int (b2i m2)), (4, .int (nI v2)), (3, .int (nI u2)), (0, .ref (a 15)), (1, .int (nI i)), (2, .int (nI o))]) hx hb dX1_first_85 hl (by decide) rfl (fun ls hl => ?_)
                    cases nA with
                    | false =>
                      cases nC with
                      | false =>
                        refine lv_iload hx hb dX1_first_87 (lv_at hl 1 rfl) ?_
                        refine lv_if_eq (tgt := 99) hx hb dX1_first_89 (by decide) (fun c_89 => ?_) (fun c_89 => absurd (rfl) c_89)
                        refine lv_iload_n hx hb dX1_first_99 rfl (lv_at hl 6 rfl) ?_
                        refine lv_iload hx hb dX1_first_100 (lv_at hl 0 rfl) ?_
                        refine lv_if_eq (tgt := 110) hx hb dX1_first_102 (by decide) (fun c_102 => ?_) (fun c_102 => absurd (rfl) c_102)
                        refine lv_iconst (v := 0) hx hb dX1_first_110 (by decide) ?_
                        refine lv_ior hx hb dX1_first_111 ?_
                        refine top_i (y := nI u2) (Int32.or_zero) ?_
                        refine lv_istore_n (lv' := [(3, .int (nI u2)), (9, .int (b2i false)), (8, .int (b2i false)), (7, .int (nI (2 ^ tz op))), (6, .int (nI op)), (5, .int (b2i m2)), (4, .int (nI v2)), (0, .ref (a 15)), (1, .int (nI i)), (2, .int (nI o))]) hx hb dX1_first_112 rfl hl (by decide) rfl (fun ls hl => ?_)
                        refine lv_iload hx hb dX1_first_113 (lv_at hl 6 rfl) ?_
                        refine lv_iload hx hb dX1_first_115 (lv_at hl 2 rfl) ?_
                        refine lv_if_eq (tgt := 125) hx hb dX1_first_117 (by decide) (fun c_117 => ?_) (fun c_117 => absurd (rfl) c_117)
                        refine lv_iconst (v := 0) hx hb dX1_first_125 (by decide) ?_
                        refine lv_ior hx hb dX1_first_126 ?_
                        refine top_i (y := nI v2) (Int32.or_zero) ?_
                        refine lv_istore (lv' := [(4, .int (nI v2)), (3, .int (nI u2)), (9, .int (b2i false)), (8, .int (b2i false)), (7, .int (nI (2 ^ tz op))), (6, .int (nI op)), (5, .int (b2i m2)), (0, .ref (a 15)), (1, .int (nI i)), (2, .int (nI o))]) hx hb dX1_first_127 hl (by decide) rfl (fun ls hl => ?_)
                        refine lv_iload hx hb dX1_first_129 (lv_at hl 6 rfl) ?_
                        refine lv_iload hx hb dX1_first_131 (lv_at hl 3 rfl) ?_
                        refine lv_if_ne (tgt := 141) hx hb dX1_first_133 (by decide) (fun c_133 => absurd c_133 (fun h => h rfl)) (fun c_133 => ?_)
                        refine lv_iload hx hb dX1_first_136 (lv_at hl 2 rfl) ?_
                        refine lv_if_eq (tgt := 145) hx hb dX1_first_138 (by decide) (fun c_138 => ?_) (fun c_138 => absurd (rfl) c_138)
                        refine lv_iconst (v := 0) hx hb dX1_first_145 (by decide) ?_
                        refine lv_ior hx hb dX1_first_146 ?_
                        refine top_i (y := b2i m2) (Int32.or_zero) ?_
                        refine lv_istore (lv' := [(5, .int (b2i m2)), (4, .int (nI v2)), (3, .int (nI u2)), (9, .int (b2i false)), (8, .int (b2i false)), (7, .int (nI (2 ^ tz op))), (6, .int (nI op)), (0, .ref (a 15)), (1, .int (nI i)), (2, .int (nI o))]) hx hb dX1_first_147 hl (by decide) rfl (fun ls hl => ?_)
                        refine lv_iload hx hb dX1_first_149 (lv_at hl 6 rfl) ?_
                        refine lv_iload hx hb dX1_first_151 (lv_at hl 6 rfl) ?_
                        refine lv_iconst (v := 1) hx hb dX1_first_153 (by decide) ?_
                        refine lv_isub hx hb dX1_first_154 ?_
                        refine lv_iand hx hb dX1_first_155 ?_
                        refine top_i (y := nI (op ^^^ 2 ^ tz op)) (lb_clr h52 kop4) ?_
                        refine lv_istore (lv' := [(6, .int (nI (op ^^^ 2 ^ tz op))), (5, .int (b2i m2)), (4, .int (nI v2)), (3, .int (nI u2)), (9, .int (b2i false)), (8, .int (b2i false)), (7, .int (nI (2 ^ tz op))), (0, .ref (a 15)), (1, .int (nI i)), (2, .int (nI o))]) hx hb dX1_first_156 hl (by decide) rfl (fun ls hl => ?_)
                        refine lv_goto (tgt := 50) hx hb dX1_first_158 (by decide) ?_
                        exact ih_50 u2 v2 (op ^^^ 2 ^ tz op) m2 _ _ _ _ ku kv ksol (opI_s h52 kop4 kop) hxl km0 km1 kle (by omega) rfl rfl rfl rfl ls (lv_sub hl [0, 1, 2, 3, 7, 8, 9] rfl)
                      | true =>
                        refine lv_iload hx hb dX1_first_87 (lv_at hl 1 rfl) ?_
                        refine lv_if_eq (tgt := 99) hx hb dX1_first_89 (by decide) (fun c_89 => ?_) (fun c_89 => absurd (rfl) c_89)
                        refine lv_iload_n hx hb dX1_first_99 rfl (lv_at hl 6 rfl) ?_
                        refine lv_iload hx hb dX1_first_100 (lv_at hl 0 rfl) ?_
                        refine lv_if_eq (tgt := 110) hx hb dX1_first_102 (by decide) (fun c_102 => absurd c_102 (by decide)) (fun c_102 => ?_)
                        refine lv_iload hx hb dX1_first_105 (lv_at hl 2 rfl) ?_
                        refine lv_goto (tgt := 111) hx hb dX1_first_107 (by decide) ?_
                        refine lv_ior hx hb dX1_first_111 ?_
                        refine top_i (y := nI (u2 ||| 2 ^ tz op)) (nx_or _ _) ?_
                        refine lv_istore_n (lv' := [(3, .int (nI (u2 ||| 2 ^ tz op))), (9, .int (b2i true)), (8, .int (b2i false)), (7, .int (nI (2 ^ tz op))), (6, .int (nI op)), (5, .int (b2i m2)), (4, .int (nI v2)), (0, .ref (a 15)), (1, .int (nI i)), (2, .int (nI o))]) hx hb dX1_first_112 rfl hl (by decide) rfl (fun ls hl => ?_)
                        refine lv_iload hx hb dX1_first_113 (lv_at hl 6 rfl) ?_
                        refine lv_iload hx hb dX1_first_115 (lv_at hl 2 rfl) ?_
                        refine lv_if_eq (tgt := 125) hx hb dX1_first_117 (by decide) (fun c_117 => ?_) (fun c_117 => absurd (rfl) c_117)
                        refine lv_iconst (v := 0) hx hb dX1_first_125 (by decide) ?_
                        refine lv_ior hx hb dX1_first_126 ?_
                        refine top_i (y := nI v2) (Int32.or_zero) ?_
                        refine lv_istore (lv' := [(4, .int (nI v2)), (3, .int (nI (u2 ||| 2 ^ tz op))), (9, .int (b2i true)), (8, .int (b2i false)), (7, .int (nI (2 ^ tz op))), (6, .int (nI op)), (5, .int (b2i m2)), (0, .ref (a 15)), (1, .int (nI i)), (2, .int (nI o))]) hx hb dX1_first_127 hl (by decide) rfl (fun ls hl => ?_)
                        refine lv_iload hx hb dX1_first_129 (lv_at hl 6 rfl) ?_
                        refine lv_iload hx hb dX1_first_131 (lv_at hl 3 rfl) ?_
                        refine lv_if_ne (tgt := 141) hx hb dX1_first_133 (by decide) (fun c_133 => absurd c_133 (fun h => h rfl)) (fun c_133 => ?_)
                        refine lv_iload hx hb dX1_first_136 (lv_at hl 2 rfl) ?_
                        refine lv_if_eq (tgt := 145) hx hb dX1_first_138 (by decide) (fun c_138 => absurd c_138 (by decide)) (fun c_138 => ?_)
                        refine lv_iconst (v := 1) hx hb dX1_first_141 (by decide) ?_
                        refine lv_goto (tgt := 146) hx hb dX1_first_142 (by decide) ?_
                        refine lv_ior hx hb dX1_first_146 ?_
                        refine top_i (y := b2i true) (by cases m2 <;> rfl) ?_
                        refine lv_istore (lv' := [(5, .int (b2i true)), (4, .int (nI v2)), (3, .int (nI (u2 ||| 2 ^ tz op))), (9, .int (b2i true)), (8, .int (b2i false)), (7, .int (nI (2 ^ tz op))), (6, .int (nI op)), (0, .ref (a 15)), (1, .int (nI i)), (2, .int (nI o))]) hx hb dX1_first_147 hl (by decide) rfl (fun ls hl => ?_)
                        refine lv_iload hx hb dX1_first_149 (lv_at hl 6 rfl) ?_
                        refine lv_iload hx hb dX1_first_151 (lv_at hl 6 rfl) ?_
                        refine lv_iconst (v := 1) hx hb dX1_first_153 (by decide) ?_
                        refine lv_isub hx hb dX1_first_154 ?_
                        refine lv_iand hx hb dX1_first_155 ?_
                        refine top_i (y := nI (op ^^^ 2 ^ tz op)) (lb_clr h52 kop4) ?_
                        refine lv_istore (lv' := [(6, .int (nI (op ^^^ 2 ^ tz op))), (5, .int (b2i true)), (4, .int (nI v2)), (3, .int (nI (u2 ||| 2 ^ tz op))), (9, .int (b2i true)), (8, .int (b2i false)), (7, .int (nI (2 ^ tz op))), (0, .ref (a 15)), (1, .int (nI i)), (2, .int (nI o))]) hx hb dX1_first_156 hl (by decide) rfl (fun ls hl => ?_)
                        refine lv_goto (tgt := 50) hx hb dX1_first_158 (by decide) ?_
                        exact ih_50 (u2 ||| 2 ^ tz op) v2 (op ^^^ 2 ^ tz op) true _ _ _ _ hul kv (fun x => (sol_i hM hn4 hvl hnC x).trans (ksol x)) (opI_i h52 kop4 kop) hxl (fun h => by cases h) (fun _ => by omega) (by omega) (by omega) rfl rfl rfl rfl ls (lv_sub hl [0, 1, 2, 3, 7, 8, 9] rfl)
                    | true =>
                      cases nC with
                      | false =>
                        refine lv_iload hx hb dX1_first_87 (lv_at hl 1 rfl) ?_
                        refine lv_if_eq (tgt := 99) hx hb dX1_first_89 (by decide) (fun c_89 => absurd c_89 (by decide)) (fun c_89 => ?_)
                        refine lv_iload hx hb dX1_first_92 (lv_at hl 0 rfl) ?_
                        refine lv_if_eq (tgt := 99) hx hb dX1_first_94 (by decide) (fun c_94 => ?_) (fun c_94 => absurd (rfl) c_94)
                        refine lv_iload_n hx hb dX1_first_99 rfl (lv_at hl 6 rfl) ?_
                        refine lv_iload hx hb dX1_first_100 (lv_at hl 0 rfl) ?_
                        refine lv_if_eq (tgt := 110) hx hb dX1_first_102 (by decide) (fun c_102 => ?_) (fun c_102 => absurd (rfl) c_102)
                        refine lv_iconst (v := 0) hx hb dX1_first_110 (by decide) ?_
                        refine lv_ior hx hb dX1_first_111 ?_
                        refine top_i (y := nI u2) (Int32.or_zero) ?_
                        refine lv_istore_n (lv' := [(3, .int (nI u2)), (9, .int (b2i false)), (8, .int (b2i true)), (7, .int (nI (2 ^ tz op))), (6, .int (nI op)), (5, .int (b2i m2)), (4, .int (nI v2)), (0, .ref (a 15)), (1, .int (nI i)), (2, .int (nI o))]) hx hb dX1_first_112 rfl hl (by decide) rfl (fun ls hl => ?_)
                        refine lv_iload hx hb dX1_first_113 (lv_at hl 6 rfl) ?_
                        refine lv_iload hx hb dX1_first_115 (lv_at hl 2 rfl) ?_
                        refine lv_if_eq (tgt := 125) hx hb dX1_first_117 (by decide) (fun c_117 => absurd c_117 (by decide)) (fun c_117 => ?_)
                        refine lv_iload hx hb dX1_first_120 (lv_at hl 3 rfl) ?_
                        refine lv_goto (tgt := 126) hx hb dX1_first_122 (by decide) ?_
                        refine lv_ior hx hb dX1_first_126 ?_
                        refine top_i (y := nI (v2 ||| 2 ^ tz op)) (nx_or _ _) ?_
                        refine lv_istore (lv' := [(4, .int (nI (v2 ||| 2 ^ tz op))), (3, .int (nI u2)), (9, .int (b2i false)), (8, .int (b2i true)), (7, .int (nI (2 ^ tz op))), (6, .int (nI op)), (5, .int (b2i m2)), (0, .ref (a 15)), (1, .int (nI i)), (2, .int (nI o))]) hx hb dX1_first_127 hl (by decide) rfl (fun ls hl => ?_)
                        refine lv_iload hx hb dX1_first_129 (lv_at hl 6 rfl) ?_
                        refine lv_iload hx hb dX1_first_131 (lv_at hl 3 rfl) ?_
                        refine lv_if_ne (tgt := 141) hx hb dX1_first_133 (by decide) (fun c_133 => ?_) (fun c_133 => absurd c_133 (by decide))
                        refine lv_iconst (v := 1) hx hb dX1_first_141 (by decide) ?_
                        refine lv_goto (tgt := 146) hx hb dX1_first_142 (by decide) ?_
                        refine lv_ior hx hb dX1_first_146 ?_
                        refine top_i (y := b2i true) (by cases m2 <;> rfl) ?_
                        refine lv_istore (lv' := [(5, .int (b2i true)), (4, .int (nI (v2 ||| 2 ^ tz op))), (3, .int (nI u2)), (9, .int (b2i false)), (8, .int (b2i true)), (7, .int (nI (2 ^ tz op))), (6, .int (nI op)), (0, .ref (a 15)), (1, .int (nI i)), (2, .int (nI o))]) hx hb dX1_first_147 hl (by decide) rfl (fun ls hl => ?_)
                        refine lv_iload hx hb dX1_first_149 (lv_at hl 6 rfl) ?_
                        refine lv_iload hx hb dX1_first_151 (lv_at hl 6 rfl) ?_
                        refine lv_iconst (v := 1) hx hb dX1_first_153 (by decide) ?_
                        refine lv_isub hx hb dX1_first_154 ?_
                        refine lv_iand hx hb dX1_first_155 ?_
                        refine top_i (y := nI (op ^^^ 2 ^ tz op)) (lb_clr h52 kop4) ?_
                        refine lv_istore (lv' := [(6, .int (nI (op ^^^ 2 ^ tz op))), (5, .int (b2i true)), (4, .int (nI (v2 ||| 2 ^ tz op))), (3, .int (nI u2)), (9, .int (b2i false)), (8, .int (b2i true)), (7, .int (nI (2 ^ tz op))), (0, .ref (a 15)), (1, .int (nI i)), (2, .int (nI o))]) hx hb dX1_first_156 hl (by decide) rfl (fun ls hl => ?_)
                        refine lv_goto (tgt := 50) hx hb dX1_first_158 (by decide) ?_
                        exact ih_50 u2 (v2 ||| 2 ^ tz op) (op ^^^ 2 ^ tz op) true _ _ _ _ ku hvl (fun x => (sol_o hM hn4 kv hnA x).trans (ksol x)) (opI_o h52 kop4 kop) hxl (fun h => by cases h) (fun _ => by omega) (by omega) (by omega) rfl rfl rfl rfl ls (lv_sub hl [0, 1, 2, 3, 7, 8, 9] rfl)
                      | true =>
                        refine lv_iload hx hb dX1_first_87 (lv_at hl 1 rfl) ?_
                        refine lv_if_eq (tgt := 99) hx hb dX1_first_89 (by decide) (fun c_89 => absurd c_89 (by decide)) (fun c_89 => ?_)
                        refine lv_iload hx hb dX1_first_92 (lv_at hl 0 rfl) ?_
                        refine lv_if_eq (tgt := 99) hx hb dX1_first_94 (by decide) (fun c_94 => absurd c_94 (by decide)) (fun c_94 => ?_)
                        refine lv_iconst (v := (-1)) hx hb dX1_first_97 (by decide) ?_
                        exact ret (-1) 98 ls dX1_first_98 rfl (FS_none (fun x => by rw [← ksol]; exact sol_none hM hn4 kv hvl hnA hnC x))
              refine lv_aload_n hx hb dX1_first_35 rfl (lv_at hl 3 rfl) ?_
              refine vp_callSi (W.runV (As := []) (rest := []) ⟨hx, hb, hml, hown, hts⟩ (metX1_all l G a iv n hn hn4) (cwV 0 hts (lw_V q1036 q1038 qs12 q29 q1039) rfl rfl rfl (by decide +kernel) ⟨by dsimp only [rm_]; omega, by dsimp only [rm_]; omega⟩) (pre_RV (q0 := 0) hG (wP.left (wP.perm (w' := [(a 15, .inr (0, [.ref (a 0), .ref (a 1), .ref (a 2), .ref (a 3), .ref (a 4), .ref (a 5), .ref (a 6), .int (iv 7), .ref (a 8), .ref (a 9), .int (iv 10), .int (iv 11), .ref (a 12), .int (iv 13), .ref (a 14)]))] ++ ((wr ++ (rlW ra rs ++ (rwW G ra av))))) hP (pm_ (fun _ z => by simp only [List.count_append, List.count_cons, List.count_nil]; omega)))) hS (fun _ h => h.elim) rfl rfl) rfl rfl hl.1 rfl (lv_room (Nat.le_of_ble_eq_true rfl)) dX1_first_36 ⟨Nat.le_refl _, Nat.le_refl _⟩) (fun r_36 e_36 => ?_)
              subst e_36
              refine lv_iload_n hx hb dX1_first_39 rfl (lv_at hl 2 rfl) ?_
              refine lv_iconst (v := (-1)) hx hb dX1_first_40 (by decide) ?_
              refine lv_ixor hx hb dX1_first_41 ?_
              refine lv_iand hx hb dX1_first_42 ?_
              refine lv_iload hx hb dX1_first_43 (lv_at hl 1 rfl) ?_
              refine lv_iconst (v := (-1)) hx hb dX1_first_45 (by decide) ?_
              refine lv_ixor hx hb dX1_first_46 ?_
              refine lv_iand hx hb dX1_first_47 ?_
              refine top_i (y := nI (opN n u v)) (op_I hn4 hu14 hv14) ?_
              refine lv_istore (lv' := [(6, .int (nI (opN n u v))), (5, .int (0)), (4, .int (nI v)), (3, .int (nI u)), (0, .ref (a 15)), (1, .int (nI i)), (2, .int (nI o))]) hx hb dX1_first_48 hl (by decide) rfl (fun ls hl => ?_)
              exact L50 (pcN (opN n u v) + 1) u v (opN n u v) false _ _ _ _ hu hv hsol (opI_0 hn4) (opN_lt hn4) (fun _ => ⟨rfl, rfl⟩) (fun h => by cases h) (Nat.le_refl _) (by omega) rfl rfl rfl rfl ls hl
            · have h30 : brS av rs u v = true := b2i_n0.mp c_30
              refine lv_iconst (v := (-1)) hx hb dX1_first_33 (by decide) ?_
              exact ret (-1) 34 ls dX1_first_34 rfl (FS_none (fun x => by rw [← hsol]; exact sol_br hM hn4 hv h30 x))
    refine lv_iload_n hx hb dX1_first_0 rfl (lv_at hl 1 rfl) ?_
    refine lv_istore_n (lv' := [(3, .int (nI i)), (0, .ref (a 15)), (1, .int (nI i)), (2, .int (nI o))]) hx hb dX1_first_1 rfl hl (by decide) rfl (fun ls hl => ?_)
    refine lv_iload_n hx hb dX1_first_2 rfl (lv_at hl 3 rfl) ?_
    refine lv_istore (lv' := [(4, .int (nI o)), (3, .int (nI i)), (0, .ref (a 15)), (1, .int (nI i)), (2, .int (nI o))]) hx hb dX1_first_3 hl (by decide) rfl (fun ls hl => ?_)
    refine lv_iconst (v := 1) hx hb dX1_first_5 (by decide) ?_
    refine lv_istore (lv' := [(5, .int (1)), (4, .int (nI o)), (3, .int (nI i)), (0, .ref (a 15)), (1, .int (nI i)), (2, .int (nI o))]) hx hb dX1_first_6 hl (by decide) rfl (fun ls hl => ?_)
    exact L8 (2 * opc n i o + 2) i o true _ _ _ hi ho (fun _ => rfl) (Nat.le_refl _) (fun h => by cases h) (by simp) rfl rfl rfl ls hl
