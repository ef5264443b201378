theorem alB_s {P : Nat → Bool} {j : Nat} (h : alB P j = true) : alB P (j + 1) = P j := by rw [alB, h, Bool.true_and]
set_option maxHeartbeats 4000000 in
set_option maxRecDepth 100000 in
theorem metX2_keepsFormulas (l : Launch) (G : Gt) (a : Nat → Nat) (iv : Nat → Int32) (f : Nat → Nat → Int32) (n x nf : Nat) (fo : Nat → Nat × Lit × Lit) (hn : iv 7 = nI n) (hn4 : n ≤ 14) (hx1 : x < 2 ^ 31) (hnf : iv 11 = nI nf) (hnf4 : nf ≤ 40) (hfo : ∀ k, k < nf → f 8 k = nI (fo k).1 ∧ f 9 k = litI (fo k).2.1 ∧ f 10 k = litI (fo k).2.2 ∧ (fo k).1 ≤ 3 ∧ 1 ≤ (fo k).2.1.1 ∧ (fo k).2.1.1 ≤ n ∧ 1 ≤ (fo k).2.2.1 ∧ (fo k).2.2.1 ≤ n) : CR l G yX2_keepsFormulas cX2_keepsFormulas 6 .boolean 2 44 [.ref (a 0), .int (nI x)] (wM G a iv f) (fun r => r = b2i (okForm n nf fo x)) := by
  refine mkRi (by decide) (Nat.le_of_ble_eq_true rfl) ?_
  intro p e s m args below meth c Q hx hb hts hown hml hG hP hS ret ls hl
  have L4 : ∀ (d : Nat) (j : Nat) (v3 v2 : Int32), j ≤ nf → nf + 1 ≤ j + d → v3 = nI j → v2 = b2i (alB (fun k => foP n x (fo k)) j) → ∀ ls : Array Slot, lv_has ls 6 [(3, .int (v3)), (2, .int (v2)), (0, .ref (a 0)), (1, .int (nI x))] → W p l e (rm_ 2 0 0 44) s m args below meth c s.heap [] 0 0 Q (F0 m 4 ls []) := by
    intro d
    induction d with
    | zero => intros; omega
    | succ d ih_4 =>
      intro j v3 v2 hj2 hd e3 e2 ls hl
      subst e3 e2
      refine lv_iload_n hx hb dX2_keepsFormulas_4 rfl (lv_at hl 0 rfl) ?_
      refine lv_aload_n hx hb dX2_keepsFormulas_5 rfl (lv_at hl 2 rfl) ?_
      refine va_get (D := gD G) (ci := 1) (v := .int (iv 11)) (C := RX2) (T := TX2) (N := 27) hx hb hts in_X2 hown hG.K hP 0 rfl rfl 11 (by decide) (hts _ q1164) (fun _ h9 => h9) rfl dX2_keepsFormulas_6 ?_
      refine top_i (y := nI nf) (hnf) ?_
      refine lv_icmp_ge (tgt := 144) hx hb dX2_keepsFormulas_9 (by decide) (fun c_9 => ?_) (fun c_9 => ?_)
      · have h9 : nf ≤ j := nI_ge' (a := j) (b := nf) c_9; have hj4 : j = nf := (by omega)
        refine lv_iload_n hx hb dX2_keepsFormulas_144 rfl (lv_at hl 1 rfl) ?_
        exact ret (b2i (alB (fun k => foP n x (fo k)) j)) 145 ls dX2_keepsFormulas_145 (b2i_nar _) (by rw [hj4]; rfl)
      · have h9 : j < nf := nI_nge (a := j) (b := nf) c_9; obtain ⟨hp1, hp2, hp3, hp4, hp5, hp6, hp7, hp8⟩ := hfo j h9
        refine lv_iload_n hx hb dX2_keepsFormulas_12 rfl (lv_at hl 1 rfl) ?_
        refine lv_if_eq (tgt := 144) hx hb dX2_keepsFormulas_13 (by decide) (fun c_13 => ?_) (fun c_13 => ?_)
        · have h13 : alB (fun k => foP n x (fo k)) j = false := b2i_0.mp c_13
          refine lv_iload_n hx hb dX2_keepsFormulas_144 rfl (lv_at hl 1 rfl) ?_
          exact ret (b2i (alB (fun k => foP n x (fo k)) j)) 145 ls dX2_keepsFormulas_145 (b2i_nar _) (by rw [h13]; exact congrArg b2i (alB_false h13 hj2).symm)
        · have h13 : alB (fun k => foP n x (fo k)) j = true := b2i_n0.mp c_13
          have J137 : ∀ (v v5 v4 v2 : Int32), v = b2i (alB (fun k => foP n x (fo k)) (j + 1)) → ∀ ls : Array Slot, lv_has ls 6 [(5, .int (v5)), (4, .int (v4)), (3, .int (nI j)), (2, .int (v2)), (0, .ref (a 0)), (1, .int (nI x))] → W p l e (rm_ 2 0 0 44) s m args below meth c s.heap [] 0 0 Q (F0 m 137 ls [.int (v)]) := by
            intro v v5 v4 v2 ev ls hl
            subst ev
            refine lv_istore_n (lv' := [(2, .int (b2i (alB (fun k => foP n x (fo k)) (j + 1)))), (5, .int (v5)), (4, .int (v4)), (3, .int (nI j)), (0, .ref (a 0)), (1, .int (nI x))]) hx hb dX2_keepsFormulas_137 rfl hl (by decide) rfl (fun ls hl => ?_)
            refine lv_iinc (v := nI (j + 1)) (lv' := [(3, .int (nI (j + 1))), (2, .int (b2i (alB (fun k => foP n x (fo k)) (j + 1)))), (5, .int (v5)), (4, .int (v4)), (0, .ref (a 0)), (1, .int (nI x))]) hx hb dX2_keepsFormulas_138 hl (k := 3) rfl (nI_1 j) (by decide) rfl (fun ls hl => ?_)
            refine lv_goto (tgt := 4) hx hb dX2_keepsFormulas_141 (by decide) ?_
            exact ih_4 (j + 1) _ _ (by omega) (by omega) rfl rfl ls (lv_sub hl [0, 1, 4, 5] rfl)
          refine lv_aload_n hx hb dX2_keepsFormulas_16 rfl (lv_at hl 2 rfl) ?_
          refine lv_iload_n hx hb dX2_keepsFormulas_17 rfl (lv_at hl 3 rfl) ?_
          refine lv_aload_n hx hb dX2_keepsFormulas_18 rfl (lv_at hl 2 rfl) ?_
          refine va_get (D := gD G) (ci := 1) (v := .ref (a 9)) (C := RX2) (T := TX2) (N := 27) hx hb hts in_X2 hown hG.K hP 0 rfl rfl 9 (by decide) (hts _ q1162) (fun _ h9 => h9) rfl dX2_keepsFormulas_19 ?_
          refine lv_iload_n hx hb dX2_keepsFormulas_22 rfl (lv_at hl 0 rfl) ?_
          refine ia_ld (j := j) hx hb hG.K hP 8 0 rfl rfl (by omega) (by decide) dX2_keepsFormulas_23 ?_
          refine top_i (y := litI (fo j).2.1) (hp2) ?_
          refine vp_callSi (W.runV (As := [.int (nI x), .int (litI (fo j).2.1)]) (rest := []) ⟨hx, hb, hml, hown, hts⟩ (metX2_holds l G a iv f n x (fo j).2.1.1 (fo j).2.1.2 hn hn4 hx1 hp5 hp6) (cwV 2 hts (lw_V q1304 q1306 qs25 q36 q1307) rfl rfl rfl (by decide +kernel) ⟨Nat.le_of_ble_eq_true rfl, Nat.le_of_ble_eq_true rfl⟩) (pre_RV (q0 := 0) hG hP hS (fun _ h => h.elim) rfl rfl) rfl rfl hl.1 rfl (lv_room (Nat.le_of_ble_eq_true rfl)) dX2_keepsFormulas_24 ⟨Nat.le_refl _, Nat.le_refl _⟩) (fun r_24 e_24 => ?_)
          subst e_24
          refine lv_istore (lv' := [(4, .int (b2i (hld n x (fo j).2.1))), (3, .int (nI j)), (2, .int (b2i (alB (fun k => foP n x (fo k)) j))), (0, .ref (a 0)), (1, .int (nI x))]) hx hb dX2_keepsFormulas_27 hl (by decide) rfl (fun ls hl => ?_)
          refine lv_aload_n hx hb dX2_keepsFormulas_29 rfl (lv_at hl 3 rfl) ?_
          refine lv_iload_n hx hb dX2_keepsFormulas_30 rfl (lv_at hl 4 rfl) ?_
          refine lv_aload_n hx hb dX2_keepsFormulas_31 rfl (lv_at hl 3 rfl) ?_
          refine va_get (D := gD G) (ci := 1) (v := .ref (a 10)) (C := RX2) (T := TX2) (N := 27) hx hb hts in_X2 hown hG.K hP 0 rfl rfl 10 (by decide) (hts _ q1163) (fun _ h9 => h9) rfl dX2_keepsFormulas_32 ?_
          refine lv_iload_n hx hb dX2_keepsFormulas_35 rfl (lv_at hl 1 rfl) ?_
          refine ia_ld (j := j) hx hb hG.K hP 9 0 rfl rfl (by omega) (by decide) dX2_keepsFormulas_36 ?_
          refine top_i (y := litI (fo j).2.2) (hp3) ?_
          refine vp_callSi (W.runV (As := [.int (nI x), .int (litI (fo j).2.2)]) (rest := []) ⟨hx, hb, hml, hown, hts⟩ (metX2_holds l G a iv f n x (fo j).2.2.1 (fo j).2.2.2 hn hn4 hx1 hp7 hp8) (cwV 2 hts (lw_V q1304 q1306 qs25 q36 q1307) rfl rfl rfl (by decide +kernel) ⟨Nat.le_of_ble_eq_true rfl, Nat.le_of_ble_eq_true rfl⟩) (pre_RV (q0 := 0) hG hP hS (fun _ h => h.elim) rfl rfl) rfl rfl hl.1 rfl (lv_room (Nat.le_of_ble_eq_true rfl)) dX2_keepsFormulas_37 ⟨Nat.le_refl _, Nat.le_refl _⟩) (fun r_37 e_37 => ?_)
          subst e_37
          refine lv_istore (lv' := [(5, .int (b2i (hld n x (fo j).2.2))), (4, .int (b2i (hld n x (fo j).2.1))), (3, .int (nI j)), (2, .int (b2i (alB (fun k => foP n x (fo k)) j))), (0, .ref (a 0)), (1, .int (nI x))]) hx hb dX2_keepsFormulas_40 hl (by decide) rfl (fun ls hl => ?_)
          refine lv_aload_n hx hb dX2_keepsFormulas_42 rfl (lv_at hl 4 rfl) ?_
          refine va_get (D := gD G) (ci := 1) (v := .ref (a 8)) (C := RX2) (T := TX2) (N := 27) hx hb hts in_X2 hown hG.K hP 0 rfl rfl 8 (by decide) (hts _ q1161) (fun _ h9 => h9) rfl dX2_keepsFormulas_43 ?_
          refine lv_iload_n hx hb dX2_keepsFormulas_46 rfl (lv_at hl 2 rfl) ?_
          refine ia_ld (j := j) hx hb hG.K hP 7 0 rfl rfl (by omega) (by decide) dX2_keepsFormulas_47 ?_
          refine top_i (y := nI (fo j).1) (hp1) ?_
          refine lv_if_ne (tgt := 69) hx hb dX2_keepsFormulas_48 (by decide) (fun c_48 => ?_) (fun c_48 => ?_)
          · have h48 : (fo j).1 ≠ 0 := nI_ne (a := (fo j).1) (b := 0) c_48
            refine lv_aload_n hx hb dX2_keepsFormulas_69 rfl (lv_at hl 4 rfl) ?_
            refine va_get (D := gD G) (ci := 1) (v := .ref (a 8)) (C := RX2) (T := TX2) (N := 27) hx hb hts in_X2 hown hG.K hP 0 rfl rfl 8 (by decide) (hts _ q1161) (fun _ h9 => h9) rfl dX2_keepsFormulas_70 ?_
            refine lv_iload_n hx hb dX2_keepsFormulas_73 rfl (lv_at hl 2 rfl) ?_
            refine ia_ld (j := j) hx hb hG.K hP 7 0 rfl rfl (by omega) (by decide) dX2_keepsFormulas_74 ?_
            refine top_i (y := nI (fo j).1) (hp1) ?_
            refine lv_iconst (v := 1) hx hb dX2_keepsFormulas_75 (by decide) ?_
            refine lv_icmp_ne (tgt := 97) hx hb dX2_keepsFormulas_76 (by decide) (fun c_76 => ?_) (fun c_76 => ?_)
            · have h76 : (fo j).1 ≠ 1 := nI_ne (a := (fo j).1) (b := 1) c_76
              refine lv_aload_n hx hb dX2_keepsFormulas_97 rfl (lv_at hl 4 rfl) ?_
              refine va_get (D := gD G) (ci := 1) (v := .ref (a 8)) (C := RX2) (T := TX2) (N := 27) hx hb hts in_X2 hown hG.K hP 0 rfl rfl 8 (by decide) (hts _ q1161) (fun _ h9 => h9) rfl dX2_keepsFormulas_98 ?_
              refine lv_iload_n hx hb dX2_keepsFormulas_101 rfl (lv_at hl 2 rfl) ?_
              refine ia_ld (j := j) hx hb hG.K hP 7 0 rfl rfl (by omega) (by decide) dX2_keepsFormulas_102 ?_
              refine top_i (y := nI (fo j).1) (hp1) ?_
              refine lv_iconst (v := 2) hx hb dX2_keepsFormulas_103 (by decide) ?_
              refine lv_icmp_ne (tgt := 125) hx hb dX2_keepsFormulas_104 (by decide) (fun c_104 => ?_) (fun c_104 => ?_)
              · have h104 : (fo j).1 ≠ 2 := nI_ne (a := (fo j).1) (b := 2) c_104
                refine lv_iload hx hb dX2_keepsFormulas_125 (lv_at hl 1 rfl) ?_
                refine lv_iload hx hb dX2_keepsFormulas_127 (lv_at hl 0 rfl) ?_
                refine lv_icmp_ne (tgt := 136) hx hb dX2_keepsFormulas_129 (by decide) (fun c_129 => ?_) (fun c_129 => ?_)
                · have h129 : ¬ hld n x (fo j).2.1 = hld n x (fo j).2.2 := fun h => c_129 (by rw [h])
                  refine lv_iconst (v := 0) hx hb dX2_keepsFormulas_136 (by decide) ?_
                  exact J137 _ _ _ _ (by rw [alB_s h13]; simp [foP, b2i, h48, h76, h104, h129]) ls hl
                · have h129 : hld n x (fo j).2.1 = hld n x (fo j).2.2 := b2i_inj (by simpa using c_129)
                  refine lv_iconst (v := 1) hx hb dX2_keepsFormulas_132 (by decide) ?_
                  refine lv_goto (tgt := 137) hx hb dX2_keepsFormulas_133 (by decide) ?_
                  exact J137 _ _ _ _ (by rw [alB_s h13]; simp [foP, b2i, h48, h76, h104, h129]) ls hl
              · have h104 : (fo j).1 = 2 := nI_e (a := (fo j).1) (b := 2) c_104
                refine lv_iload hx hb dX2_keepsFormulas_107 (lv_at hl 1 rfl) ?_
                refine lv_if_ne (tgt := 117) hx hb dX2_keepsFormulas_109 (by decide) (fun c_109 => ?_) (fun c_109 => ?_)
                · have h109 : hld n x (fo j).2.1 = true := b2i_n0.mp c_109
                  refine lv_iconst (v := 1) hx hb dX2_keepsFormulas_117 (by decide) ?_
                  refine lv_goto (tgt := 137) hx hb dX2_keepsFormulas_118 (by decide) ?_
                  exact J137 _ _ _ _ (by rw [alB_s h13]; simp [foP, b2i, h48, h76, h104, h109]) ls hl
                · have h109 : hld n x (fo j).2.1 = false := b2i_0.mp c_109
                  refine lv_iload hx hb dX2_keepsFormulas_112 (lv_at hl 0 rfl) ?_
                  refine lv_if_eq (tgt := 121) hx hb dX2_keepsFormulas_114 (by decide) (fun c_114 => ?_) (fun c_114 => ?_)
                  · have h114 : hld n x (fo j).2.2 = false := b2i_0.mp c_114
                    refine lv_iconst (v := 0) hx hb dX2_keepsFormulas_121 (by decide) ?_
                    refine lv_goto (tgt := 137) hx hb dX2_keepsFormulas_122 (by decide) ?_
                    exact J137 _ _ _ _ (by rw [alB_s h13]; simp [foP, b2i, h48, h76, h104, h109, h114]) ls hl
                  · have h114 : hld n x (fo j).2.2 = true := b2i_n0.mp c_114
                    refine lv_iconst (v := 1) hx hb dX2_keepsFormulas_117 (by decide) ?_
                    refine lv_goto (tgt := 137) hx hb dX2_keepsFormulas_118 (by decide) ?_
                    exact J137 _ _ _ _ (by rw [alB_s h13]; simp [foP, b2i, h48, h76, h104, h109, h114]) ls hl
            · have h76 : (fo j).1 = 1 := nI_e (a := (fo j).1) (b := 1) c_76
              refine lv_iload hx hb dX2_keepsFormulas_79 (lv_at hl 1 rfl) ?_
              refine lv_if_eq (tgt := 89) hx hb dX2_keepsFormulas_81 (by decide) (fun c_81 => ?_) (fun c_81 => ?_)
              · have h81 : hld n x (fo j).2.1 = false := b2i_0.mp c_81
                refine lv_iconst (v := 1) hx hb dX2_keepsFormulas_89 (by decide) ?_
                refine lv_goto (tgt := 137) hx hb dX2_keepsFormulas_90 (by decide) ?_
                exact J137 _ _ _ _ (by rw [alB_s h13]; simp [foP, b2i, h48, h76, h81]) ls hl
              · have h81 : hld n x (fo j).2.1 = true := b2i_n0.mp c_81
                refine lv_iload hx hb dX2_keepsFormulas_84 (lv_at hl 0 rfl) ?_
                refine lv_if_ne (tgt := 93) hx hb dX2_keepsFormulas_86 (by decide) (fun c_86 => ?_) (fun c_86 => ?_)
                · have h86 : hld n x (fo j).2.2 = true := b2i_n0.mp c_86
                  refine lv_iconst (v := 0) hx hb dX2_keepsFormulas_93 (by decide) ?_
                  refine lv_goto (tgt := 137) hx hb dX2_keepsFormulas_94 (by decide) ?_
                  exact J137 _ _ _ _ (by rw [alB_s h13]; simp [foP, b2i, h48, h76, h81, h86]) ls hl
                · have h86 : hld n x (fo j).2.2 = false := b2i_0.mp c_86
                  refine lv_iconst (v := 1) hx hb dX2_keepsFormulas_89 (by decide) ?_
                  refine lv_goto (tgt := 137) hx hb dX2_keepsFormulas_90 (by decide) ?_
                  exact J137 _ _ _ _ (by rw [alB_s h13]; simp [foP, b2i, h48, h76, h81, h86]) ls hl
          · have h48 : (fo j).1 = 0 := nI_e (a := (fo j).1) (b := 0) c_48
            refine lv_iload hx hb dX2_keepsFormulas_51 (lv_at hl 1 rfl) ?_
            refine lv_if_eq (tgt := 61) hx hb dX2_keepsFormulas_53 (by decide) (fun c_53 => ?_) (fun c_53 => ?_)
            · have h53 : hld n x (fo j).2.1 = false := b2i_0.mp c_53
              refine lv_iconst (v := 1) hx hb dX2_keepsFormulas_61 (by decide) ?_
              refine lv_goto (tgt := 137) hx hb dX2_keepsFormulas_62 (by decide) ?_
              exact J137 _ _ _ _ (by rw [alB_s h13]; simp [foP, b2i, h48, h53]) ls hl
            · have h53 : hld n x (fo j).2.1 = true := b2i_n0.mp c_53
              refine lv_iload hx hb dX2_keepsFormulas_56 (lv_at hl 0 rfl) ?_
              refine lv_if_eq (tgt := 65) hx hb dX2_keepsFormulas_58 (by decide) (fun c_58 => ?_) (fun c_58 => ?_)
              · have h58 : hld n x (fo j).2.2 = false := b2i_0.mp c_58
                refine lv_iconst (v := 0) hx hb dX2_keepsFormulas_65 (by decide) ?_
                refine lv_goto (tgt := 137) hx hb dX2_keepsFormulas_66 (by decide) ?_
                exact J137 _ _ _ _ (by rw [alB_s h13]; simp [foP, b2i, h48, h53, h58]) ls hl
              · have h58 : hld n x (fo j).2.2 = true := b2i_n0.mp c_58
                refine lv_iconst (v := 1) hx hb dX2_keepsFormulas_61 (by decide) ?_
                refine lv_goto (tgt := 137) hx hb dX2_keepsFormulas_62 (by decide) ?_
                exact J137 _ _ _ _ (by rw [alB_s h13]; simp [foP, b2i, h48, h53, h58]) ls hl
  refine lv_iconst (v := 1) hx hb dX2_keepsFormulas_0 (by decide) ?_
  refine lv_istore_n (lv' := [(2, .int (1)), (0, .ref (a 0)), (1, .int (nI x))]) hx hb dX2_keepsFormulas_1 rfl hl (by decide) rfl (fun ls hl => ?_)
  refine lv_iconst (v := 0) hx hb dX2_keepsFormulas_2 (by decide) ?_
  refine lv_istore_n (lv' := [(3, .int (0)), (2, .int (1)), (0, .ref (a 0)), (1, .int (nI x))]) hx hb dX2_keepsFormulas_3 rfl hl (by decide) rfl (fun ls hl => ?_)
  exact L4 (nf + 1) 0 _ _ (by omega) (by omega) rfl rfl ls hl
set_option maxHeartbeats 4000000 in
set_option maxRecDepth 100000 in
theorem metX2_keepsLimits (l : Launch) (G : Gt) (a : Nat → Nat) (iv : Nat → Int32) (f : Nat → Nat → Int32) (n x : Nat) (at_ : Nat → Nat → Int32) (lm : Nat → Option Int32) (hn : iv 7 = nI n) (hn4 : n ≤ 14) (hx1 : x < 2 ^ 31) (hat : ∀ w j, w < 4 → 1 ≤ j → j ≤ 14 → f 6 (4 * j + w) = at_ w j) (hlm : ∀ w, w < 4 → f 12 w = b2i (lm w).isSome ∧ ∀ v, lm w = some v → f 13 w = v) : CR l G yX2_keepsLimits cX2_keepsLimits 6 .boolean 1 22 [.ref (a 0), .int (nI x)] (wM G a iv f) (fun r => r = b2i (okLim n at_ lm x)) := by
  refine mkRi (by decide) (Nat.le_of_ble_eq_true rfl) ?_
  intro p e s m args below meth c Q hx hb hts hown hml hG hP hS ret ls hl
  have L4 : ∀ (d : Nat) (j : Nat) (v3 v2 : Int32), j ≤ 4 → 4 + 1 ≤ j + d → v3 = nI j → v2 = b2i (alB (liP n at_ lm x) j) → ∀ ls : Array Slot, lv_has ls 6 [(3, .int (v3)), (2, .int (v2)), (0, .ref (a 0)), (1, .int (nI x))] → W p l e (rm_ 1 0 0 22) s m args below meth c s.heap [] 0 0 Q (F0 m 4 ls []) := by
    intro d
    induction d with
    | zero => intros; omega
    | succ d ih_4 =>
      intro j v3 v2 hj2 hd e3 e2 ls hl
      subst e3 e2
      refine lv_iload_n hx hb dX2_keepsLimits_4 rfl (lv_at hl 0 rfl) ?_
      refine lv_iconst (v := 4) hx hb dX2_keepsLimits_5 (by decide) ?_
      refine lv_icmp_ge (tgt := 97) hx hb dX2_keepsLimits_6 (by decide) (fun c_6 => ?_) (fun c_6 => ?_)
      · have h6 : 4 ≤ j := nI_ge' (a := j) (b := 4) c_6; have hj4 : j = 4 := (by omega)
        refine lv_iload_n hx hb dX2_keepsLimits_97 rfl (lv_at hl 1 rfl) ?_
        exact ret (b2i (alB (liP n at_ lm x) j)) 98 ls dX2_keepsLimits_98 (b2i_nar _) (by rw [hj4]; rfl)
      · have h6 : j < 4 := nI_nge (a := j) (b := 4) c_6; obtain ⟨hp1, hp2⟩ := hlm j h6
        have J90 : ∀ (v v5 v4 v2 : Int32), v = b2i (alB (liP n at_ lm x) (j + 1)) → ∀ ls : Array Slot, lv_has ls 6 [(5, .int (v5)), (4, .int (v4)), (3, .int (nI j)), (2, .int (v2)), (0, .ref (a 0)), (1, .int (nI x))] → W p l e (rm_ 1 0 0 22) s m args below meth c s.heap [] 0 0 Q (F0 m 90 ls [.int (v)]) := by
          intro v v5 v4 v2 ev ls hl
          subst ev
          refine lv_istore_n (lv' := [(2, .int (b2i (alB (liP n at_ lm x) (j + 1)))), (5, .int (v5)), (4, .int (v4)), (3, .int (nI j)), (0, .ref (a 0)), (1, .int (nI x))]) hx hb dX2_keepsLimits_90 rfl hl (by decide) rfl (fun ls hl => ?_)
          refine lv_iinc (v := nI (j + 1)) (lv' := [(3, .int (nI (j + 1))), (2, .int (b2i (alB (liP n at_ lm x) (j + 1)))), (5, .int (v5)), (4, .int (v4)), (0, .ref (a 0)), (1, .int (nI x))]) hx hb dX2_keepsLimits_91 hl (k := 3) rfl (nI_1 j) (by decide) rfl (fun ls hl => ?_)
          refine lv_goto (tgt := 4) hx hb dX2_keepsLimits_94 (by decide) ?_
          exact ih_4 (j + 1) _ _ (by omega) (by omega) rfl rfl ls (lv_sub hl [0, 1, 4, 5] rfl)
        have L15 : ∀ (d5 : Nat) (k : Nat) (v5 v4 : Int32), k ≤ n + 1 → n + 2 ≤ k + d5 → 1 ≤ k → v5 = nI k → v4 = smI n (at_ j) x k → ∀ ls : Array Slot, lv_has ls 6 [(5, .int (v5)), (4, .int (v4)), (3, .int (nI j)), (2, .int (b2i (alB (liP n at_ lm x) j))), (0, .ref (a 0)), (1, .int (nI x))] → W p l e (rm_ 1 0 0 22) s m args below meth c s.heap [] 0 0 Q (F0 m 15 ls []) := by
          intro d5
          induction d5 with
          | zero => intros; omega
          | succ d5 ih_15 =>
            intro k v5 v4 hk2 hk3 hk1 e5 e4 ls hl
            subst e5 e4
            refine lv_iload hx hb dX2_keepsLimits_15 (lv_at hl 0 rfl) ?_
            refine lv_aload_n hx hb dX2_keepsLimits_17 rfl (lv_at hl 4 rfl) ?_
            refine va_get (D := gD G) (ci := 1) (v := .int (iv 7)) (C := RX2) (T := TX2) (N := 27) hx hb hts in_X2 hown hG.K hP 0 rfl rfl 7 (by decide) (hts _ q1160) (fun _ h9 => h9) rfl dX2_keepsLimits_18 ?_
            refine top_i (y := nI n) (hn) ?_
            refine lv_icmp_gt (tgt := 61) hx hb dX2_keepsLimits_21 (by decide) (fun c_21 => ?_) (fun c_21 => ?_)
            · have h21 : n < k := nI_gt (a := k) (b := n) c_21; have hk4 : k = n + 1 := (by omega); subst hk4
              refine lv_iload_n hx hb dX2_keepsLimits_61 rfl (lv_at hl 3 rfl) ?_
              refine lv_if_eq (tgt := 89) hx hb dX2_keepsLimits_62 (by decide) (fun c_62 => ?_) (fun c_62 => ?_)
              · have h62 : alB (liP n at_ lm x) j = false := b2i_0.mp c_62
                refine lv_iconst (v := 0) hx hb dX2_keepsLimits_89 (by decide) ?_
                exact J90 _ _ _ _ (by simp [alB, h62, b2i]) ls hl
              · have h62 : alB (liP n at_ lm x) j = true := b2i_n0.mp c_62
                refine lv_aload_n hx hb dX2_keepsLimits_65 rfl (lv_at hl 4 rfl) ?_
                refine va_get (D := gD G) (ci := 1) (v := .ref (a 12)) (C := RX2) (T := TX2) (N := 27) hx hb hts in_X2 hown hG.K hP 0 rfl rfl 12 (by decide) (hts _ q1165) (fun _ h9 => h9) rfl dX2_keepsLimits_66 ?_
                refine lv_iload_n hx hb dX2_keepsLimits_69 rfl (lv_at hl 2 rfl) ?_
                refine za_ld (j := j) hx hb hG.K hP 10 1 rfl rfl (by omega) (by decide) dX2_keepsLimits_70 ?_
                refine top_i (y := b2i (lm j).isSome) (hp1) ?_
                refine lv_if_eq (tgt := 85) hx hb dX2_keepsLimits_71 (by decide) (fun c_71 => ?_) (fun c_71 => ?_)
                · have h71 : (lm j).isSome = false := b2i_0.mp c_71
                  refine lv_iconst (v := 1) hx hb dX2_keepsLimits_85 (by decide) ?_
                  refine lv_goto (tgt := 90) hx hb dX2_keepsLimits_86 (by decide) ?_
                  exact J90 _ _ _ _ (by have h72 : lm j = none := (by simpa using h71); simp [alB, h62, liP, h72, b2i]) ls hl
                · have h71 : (lm j).isSome = true := b2i_n0.mp c_71; obtain ⟨v, hv⟩ := Option.isSome_iff_exists.mp h71
                  refine lv_iload hx hb dX2_keepsLimits_74 (lv_at hl 1 rfl) ?_
                  refine lv_aload_n hx hb dX2_keepsLimits_76 rfl (lv_at hl 4 rfl) ?_
                  refine va_get (D := gD G) (ci := 1) (v := .ref (a 13)) (C := RX2) (T := TX2) (N := 27) hx hb hts in_X2 hown hG.K hP 0 rfl rfl 13 (by decide) (hts _ q1166) (fun _ h9 => h9) rfl dX2_keepsLimits_77 ?_
                  refine lv_iload_n hx hb dX2_keepsLimits_80 rfl (lv_at hl 2 rfl) ?_
                  refine ia_ld (j := j) hx hb hG.K hP 11 0 rfl rfl (by omega) (by decide) dX2_keepsLimits_81 ?_
                  refine top_i (y := v) (hp2 v hv) ?_
                  refine lv_icmp_gt (tgt := 89) hx hb dX2_keepsLimits_82 (by decide) (fun c_82 => ?_) (fun c_82 => ?_)
                  · have h82 : ¬ smI n (at_ j) x (n + 1) ≤ v := Int32.not_le.mpr c_82
                    refine lv_iconst (v := 0) hx hb dX2_keepsLimits_89 (by decide) ?_
                    exact J90 _ _ _ _ (by simp [alB, h62, liP, hv, h82, b2i]) ls hl
                  · have h82 : smI n (at_ j) x (n + 1) ≤ v := Int32.not_lt.mp c_82
                    refine lv_iconst (v := 1) hx hb dX2_keepsLimits_85 (by decide) ?_
                    refine lv_goto (tgt := 90) hx hb dX2_keepsLimits_86 (by decide) ?_
                    exact J90 _ _ _ _ (by simp [alB, h62, liP, hv, h82, b2i]) ls hl
            · have h21 : k ≤ n := nI_ngt (a := k) (b := n) c_21; have hq := hat j k h6 hk1 (by omega)
              have J53 : ∀ (v : Int32), v = smI n (at_ j) x (k + 1) → ∀ ls : Array Slot, lv_has ls 6 [(5, .int (nI k)), (4, .int (smI n (at_ j) x k)), (3, .int (nI j)), (2, .int (b2i (alB (liP n at_ lm x) j))), (0, .ref (a 0)), (1, .int (nI x))] → W p l e (rm_ 1 0 0 22) s m args below meth c s.heap [] 0 0 Q (F0 m 53 ls [.int (v)]) := by
                intro v ev ls hl
                subst ev
                refine lv_istore (lv' := [(4, .int (smI n (at_ j) x (k + 1))), (5, .int (nI k)), (3, .int (nI j)), (2, .int (b2i (alB (liP n at_ lm x) j))), (0, .ref (a 0)), (1, .int (nI x))]) hx hb dX2_keepsLimits_53 hl (by decide) rfl (fun ls hl => ?_)
                refine lv_iinc (v := nI (k + 1)) (lv' := [(5, .int (nI (k + 1))), (4, .int (smI n (at_ j) x (k + 1))), (3, .int (nI j)), (2, .int (b2i (alB (liP n at_ lm x) j))), (0, .ref (a 0)), (1, .int (nI x))]) hx hb dX2_keepsLimits_55 hl (k := 1) rfl (nI_1 k) (by decide) rfl (fun ls hl => ?_)
                refine lv_goto (tgt := 15) hx hb dX2_keepsLimits_58 (by decide) ?_
                exact ih_15 (k + 1) _ _ (by omega) (by omega) (by omega) rfl rfl ls hl
              refine lv_aload_n hx hb dX2_keepsLimits_24 rfl (lv_at hl 4 rfl) ?_
              refine lv_iload_n hx hb dX2_keepsLimits_25 rfl (lv_at hl 5 rfl) ?_
              refine lv_iload hx hb dX2_keepsLimits_26 (lv_at hl 0 rfl) ?_
              refine vp_callSi (W.runV (As := [.int (nI x), .int (nI k)]) (rest := []) ⟨hx, hb, hml, hown, hts⟩ (metX2_isIn l G a iv f n x (k) hn hn4 hx1 (by omega)) (cwV 2 hts (lw_V q1296 q1298 qs23 q36 q1299) rfl rfl rfl (by decide +kernel) ⟨Nat.le_of_ble_eq_true rfl, Nat.le_of_ble_eq_true rfl⟩) (pre_RV (q0 := 0) hG hP hS (fun _ h => h.elim) rfl rfl) rfl rfl hl.1 rfl (lv_room (Nat.le_of_ble_eq_true rfl)) dX2_keepsLimits_28 ⟨Nat.le_refl _, Nat.le_refl _⟩) (fun r_28 e_28 => ?_)
              subst e_28
              refine lv_if_eq (tgt := 51) hx hb dX2_keepsLimits_31 (by decide) (fun c_31 => ?_) (fun c_31 => ?_)
              · have h31 : tb n x k = false := b2i_0.mp c_31
                refine lv_iload hx hb dX2_keepsLimits_51 (lv_at hl 1 rfl) ?_
                exact J53 _ (by simp [smI, hk1, h31]) ls hl
              · have h31 : tb n x k = true := b2i_n0.mp c_31
                refine lv_iload hx hb dX2_keepsLimits_34 (lv_at hl 1 rfl) ?_
                refine lv_aload_n hx hb dX2_keepsLimits_36 rfl (lv_at hl 4 rfl) ?_
                refine va_get (D := gD G) (ci := 1) (v := .ref (a 6)) (C := RX2) (T := TX2) (N := 27) hx hb hts in_X2 hown hG.K hP 0 rfl rfl 6 (by decide) (hts _ q1159) (fun _ h9 => h9) rfl dX2_keepsLimits_37 ?_
                refine lv_iconst (v := 4) hx hb dX2_keepsLimits_40 (by decide) ?_
                refine lv_iload hx hb dX2_keepsLimits_41 (lv_at hl 0 rfl) ?_
                refine lv_imul hx hb dX2_keepsLimits_43 ?_
                refine lv_iload_n hx hb dX2_keepsLimits_44 rfl (lv_at hl 2 rfl) ?_
                refine lv_iadd hx hb dX2_keepsLimits_45 ?_
                refine top_i (y := nI (4 * k + j)) (by rw [show (4 : Int32) = nI 4 from rfl, pk_mul, nI_add]) ?_
                refine ia_ld (j := 4 * k + j) hx hb hG.K hP 6 0 rfl rfl (by omega) (by decide) dX2_keepsLimits_46 ?_
                refine top_i (y := at_ j k) (hq) ?_
                refine lv_iadd hx hb dX2_keepsLimits_47 ?_
                refine lv_goto (tgt := 53) hx hb dX2_keepsLimits_48 (by decide) ?_
                exact J53 _ (by simp [smI, hk1, h31]) ls hl
        refine lv_iconst (v := 0) hx hb dX2_keepsLimits_9 (by decide) ?_
        refine lv_istore (lv' := [(4, .int (0)), (3, .int (nI j)), (2, .int (b2i (alB (liP n at_ lm x) j))), (0, .ref (a 0)), (1, .int (nI x))]) hx hb dX2_keepsLimits_10 hl (by decide) rfl (fun ls hl => ?_)
        refine lv_iconst (v := 1) hx hb dX2_keepsLimits_12 (by decide) ?_
        refine lv_istore (lv' := [(5, .int (1)), (4, .int (0)), (3, .int (nI j)), (2, .int (b2i (alB (liP n at_ lm x) j))), (0, .ref (a 0)), (1, .int (nI x))]) hx hb dX2_keepsLimits_13 hl (by decide) rfl (fun ls hl => ?_)
        exact L15 (n + 2) 1 _ _ (by omega) (by omega) (by omega) rfl rfl ls hl
  refine lv_iconst (v := 1) hx hb dX2_keepsLimits_0 (by decide) ?_
  refine lv_istore_n (lv' := [(2, .int (1)), (0, .ref (a 0)), (1, .int (nI x))]) hx hb dX2_keepsLimits_1 rfl hl (by decide) rfl (fun ls hl => ?_)
  refine lv_iconst (v := 0) hx hb dX2_keepsLimits_2 (by decide) ?_
  refine lv_istore_n (lv' := [(3, .int (0)), (2, .int (1)), (0, .ref (a 0)), (1, .int (nI x))]) hx hb dX2_keepsLimits_3 rfl hl (by decide) rfl (fun ls hl => ?_)
  exact L4 5 0 _ _ (by omega) (by omega) rfl rfl ls hl
set_option maxHeartbeats 4000000 in
set_option maxRecDepth 100000 in
theorem metX2_keepsChoices (l : Launch) (G : Gt) (a : Nat → Nat) (iv : Nat → Int32) (f : Nat → Nat → Int32) (n x wo : Nat) (ch : List Lit) (hn : iv 7 = nI n) (hn4 : n ≤ 14) (hx1 : x < 2 ^ 31) (hw1 : wo < 2 ^ 31) (hc : iv 15 = nI ch.length) (hc4 : ch.length ≤ 14) (hcf : ∀ k, k < ch.length → f 14 k = litI (ch.getD k (0, true))) (hch : ∀ k, k < ch.length → 1 ≤ (ch.getD k (0, true)).1 ∧ (ch.getD k (0, true)).1 ≤ n) : CR l G yX2_keepsChoices cX2_keepsChoices 5 .boolean 2 44 [.ref (a 0), .int (nI x), .int (nI wo)] (wM G a iv f) (fun r => r = b2i (okCh n ch wo x)) := by
  refine mkRi (by decide) (Nat.le_of_ble_eq_true rfl) ?_
  intro p e s m args below meth c Q hx hb hts hown hml hG hP hS ret ls hl
  have L5 : ∀ (d : Nat) (j : Nat) (v4 v3 : Int32), j ≤ ch.length → ch.length + 1 ≤ j + d → v4 = nI j → v3 = b2i (alB (chP n ch wo x) j) → ∀ ls : Array Slot, lv_has ls 5 [(4, .int (v4)), (3, .int (v3)), (0, .ref (a 0)), (1, .int (nI x)), (2, .int (nI wo))] → W p l e (rm_ 2 0 0 44) s m args below meth c s.heap [] 0 0 Q (F0 m 5 ls []) := by
    intro d
    induction d with
    | zero => intros; omega
    | succ d ih_5 =>
      intro j v4 v3 hj2 hd e4 e3 ls hl
      subst e4 e3
      refine lv_iload hx hb dX2_keepsChoices_5 (lv_at hl 0 rfl) ?_
      refine lv_aload_n hx hb dX2_keepsChoices_7 rfl (lv_at hl 2 rfl) ?_
      refine va_get (D := gD G) (ci := 1) (v := .int (iv 15)) (C := RX2) (T := TX2) (N := 27) hx hb hts in_X2 hown hG.K hP 0 rfl rfl 15 (by decide) (hts _ q1168) (fun _ h9 => h9) rfl dX2_keepsChoices_8 ?_
      refine top_i (y := nI ch.length) (hc) ?_
      refine lv_icmp_ge (tgt := 55) hx hb dX2_keepsChoices_11 (by decide) (fun c_11 => ?_) (fun c_11 => ?_)
      · have h11 : ch.length ≤ j := nI_ge' (a := j) (b := ch.length) c_11; have hj4 : j = ch.length := (by omega)
        refine lv_iload_n hx hb dX2_keepsChoices_55 rfl (lv_at hl 1 rfl) ?_
        exact ret (b2i (alB (chP n ch wo x) j)) 56 ls dX2_keepsChoices_56 (b2i_nar _) (by rw [hj4]; rfl)
      · have h11 : j < ch.length := nI_nge (a := j) (b := ch.length) c_11; have hpj := hcf j h11; obtain ⟨hp5, hp6⟩ := hch j h11
        refine lv_iload_n hx hb dX2_keepsChoices_14 rfl (lv_at hl 1 rfl) ?_
        refine lv_if_eq (tgt := 55) hx hb dX2_keepsChoices_15 (by decide) (fun c_15 => ?_) (fun c_15 => ?_)
        · have h15 : alB (chP n ch wo x) j = false := b2i_0.mp c_15
          refine lv_iload_n hx hb dX2_keepsChoices_55 rfl (lv_at hl 1 rfl) ?_
          exact ret (b2i (alB (chP n ch wo x) j)) 56 ls dX2_keepsChoices_56 (b2i_nar _) (by rw [h15]; exact congrArg b2i (alB_false h15 hj2).symm)
        · have h15 : alB (chP n ch wo x) j = true := b2i_n0.mp c_15
          have J48 : ∀ (v v3 : Int32), v = b2i (alB (chP n ch wo x) (j + 1)) → ∀ ls : Array Slot, lv_has ls 5 [(4, .int (nI j)), (3, .int (v3)), (0, .ref (a 0)), (1, .int (nI x)), (2, .int (nI wo))] → W p l e (rm_ 2 0 0 44) s m args below meth c s.heap [] 0 0 Q (F0 m 48 ls [.int (v)]) := by
            intro v v3 ev ls hl
            subst ev
            refine lv_istore_n (lv' := [(3, .int (b2i (alB (chP n ch wo x) (j + 1)))), (4, .int (nI j)), (0, .ref (a 0)), (1, .int (nI x)), (2, .int (nI wo))]) hx hb dX2_keepsChoices_48 rfl hl (by decide) rfl (fun ls hl => ?_)
            refine lv_iinc (v := nI (j + 1)) (lv' := [(4, .int (nI (j + 1))), (3, .int (b2i (alB (chP n ch wo x) (j + 1)))), (0, .ref (a 0)), (1, .int (nI x)), (2, .int (nI wo))]) hx hb dX2_keepsChoices_49 hl (k := 1) rfl (nI_1 j) (by decide) rfl (fun ls hl => ?_)
            refine lv_goto (tgt := 5) hx hb dX2_keepsChoices_52 (by decide) ?_
            exact ih_5 (j + 1) _ _ (by omega) (by omega) rfl rfl ls hl
          refine lv_iload_n hx hb dX2_keepsChoices_18 rfl (lv_at hl 4 rfl) ?_
          refine lv_iload hx hb dX2_keepsChoices_19 (lv_at hl 0 rfl) ?_
          refine lv_ishr hx hb dX2_keepsChoices_21 ?_
          refine lv_iconst (v := 1) hx hb dX2_keepsChoices_22 (by decide) ?_
          refine lv_iand hx hb dX2_keepsChoices_23 ?_
          refine top_i (y := b2i (wo.testBit j)) (bit_1 hw1 (by omega)) ?_
          refine lv_iconst (v := 1) hx hb dX2_keepsChoices_24 (by decide) ?_
          refine lv_icmp_eq (tgt := 43) hx hb dX2_keepsChoices_25 (by decide) (fun c_25 => ?_) (fun c_25 => ?_)
          · have h25 : wo.testBit j = true := b2i_1.mp c_25
            refine lv_iconst (v := 1) hx hb dX2_keepsChoices_43 (by decide) ?_
            refine lv_goto (tgt := 48) hx hb dX2_keepsChoices_44 (by decide) ?_
            exact J48 _ _ (by have h8 : (chP n ch wo x) j = (wo.testBit j || hld n x (ch.getD j (0, true))) := rfl; simp only [alB, h15, h8, h25]; rfl) ls hl
          · have h25 : wo.testBit j = false := Bool.not_eq_true _ ▸ (fun h => c_25 (b2i_1.mpr h))
            refine lv_aload_n hx hb dX2_keepsChoices_28 rfl (lv_at hl 2 rfl) ?_
            refine lv_iload_n hx hb dX2_keepsChoices_29 rfl (lv_at hl 3 rfl) ?_
            refine lv_aload_n hx hb dX2_keepsChoices_30 rfl (lv_at hl 2 rfl) ?_
            refine va_get (D := gD G) (ci := 1) (v := .ref (a 14)) (C := RX2) (T := TX2) (N := 27) hx hb hts in_X2 hown hG.K hP 0 rfl rfl 14 (by decide) (hts _ q1167) (fun _ h9 => h9) rfl dX2_keepsChoices_31 ?_
            refine lv_iload hx hb dX2_keepsChoices_34 (lv_at hl 0 rfl) ?_
            refine ia_ld (j := j) hx hb hG.K hP 12 0 rfl rfl (by omega) (by decide) dX2_keepsChoices_36 ?_
            refine top_i (y := litI (ch.getD j (0, true))) (hpj) ?_
            refine vp_callSi (W.runV (As := [.int (nI x), .int (litI (ch.getD j (0, true)))]) (rest := []) ⟨hx, hb, hml, hown, hts⟩ (metX2_holds l G a iv f n x (ch.getD j (0, true)).1 (ch.getD j (0, true)).2 hn hn4 hx1 hp5 hp6) (cwV 2 hts (lw_V q1304 q1306 qs25 q36 q1307) rfl rfl rfl (by decide +kernel) ⟨Nat.le_of_ble_eq_true rfl, Nat.le_of_ble_eq_true rfl⟩) (pre_RV (q0 := 0) hG hP hS (fun _ h => h.elim) rfl rfl) rfl rfl hl.1 rfl (lv_room (Nat.le_of_ble_eq_true rfl)) dX2_keepsChoices_37 ⟨Nat.le_refl _, Nat.le_refl _⟩) (fun r_37 e_37 => ?_)
            subst e_37
            refine lv_if_eq (tgt := 47) hx hb dX2_keepsChoices_40 (by decide) (fun c_40 => ?_) (fun c_40 => ?_)
            · have h40 : hld n x (ch.getD j (0, true)) = false := b2i_0.mp c_40
              refine lv_iconst (v := 0) hx hb dX2_keepsChoices_47 (by decide) ?_
              exact J48 _ _ (by have h8 : (chP n ch wo x) j = (wo.testBit j || hld n x (ch.getD j (0, true))) := rfl; simp only [alB, h15, h8, h25, h40]; rfl) ls hl
            · have h40 : hld n x (ch.getD j (0, true)) = true := b2i_n0.mp c_40
              refine lv_iconst (v := 1) hx hb dX2_keepsChoices_43 (by decide) ?_
              refine lv_goto (tgt := 48) hx hb dX2_keepsChoices_44 (by decide) ?_
              exact J48 _ _ (by have h8 : (chP n ch wo x) j = (wo.testBit j || hld n x (ch.getD j (0, true))) := rfl; simp only [alB, h15, h8, h25, h40]; rfl) ls hl
  refine lv_iconst (v := 1) hx hb dX2_keepsChoices_0 (by decide) ?_
  refine lv_istore_n (lv' := [(3, .int (1)), (0, .ref (a 0)), (1, .int (nI x)), (2, .int (nI wo))]) hx hb dX2_keepsChoices_1 rfl hl (by decide) rfl (fun ls hl => ?_)
  refine lv_iconst (v := 0) hx hb dX2_keepsChoices_2 (by decide) ?_
  refine lv_istore (lv' := [(4, .int (0)), (3, .int (1)), (0, .ref (a 0)), (1, .int (nI x)), (2, .int (nI wo))]) hx hb dX2_keepsChoices_3 hl (by decide) rfl (fun ls hl => ?_)
  exact L5 (ch.length + 1) 0 _ _ (by omega) (by omega) rfl rfl ls hl
def kd : Nat → Int32
  | 0 => -1
  | k + 1 => nI k
theorem kd_dec (k : Nat) : nI k + (-1) = kd k := by
  cases k with
  | zero => decide
  | succ k => exact pk_m1 k
theorem kd_lt {k : Nat} (h : kd k < 0) (hk : k ≤ 16384) : k = 0 := by
  cases k with
  | zero => rfl
  | succ k => exact absurd h (nI_pos (by omega))
theorem kd_ge {k : Nat} (h : ¬ kd k < 0) : ∃ x, k = x + 1 := by
  cases k with
  | zero => exact absurd (by decide) h
  | succ k => exact ⟨k, rfl⟩
theorem p2_14 {n : Nat} (h : n ≤ 14) : 2 ^ n ≤ 16384 := by
  have : 2 ^ n ≤ 2 ^ 14 := Nat.pow_le_pow_right (by decide) h
  omega
theorem okL_len (P : Nat → Bool) (k : Nat) : (okL P k).length ≤ k := by
  induction k with
  | zero => exact Nat.le_refl _
  | succ k ih =>
    rw [okL]
    by_cases h : P k
    · rw [if_pos h, List.length_cons]; omega
    · rw [if_neg h]; omega
theorem okL_1 {P : Nat → Bool} {k : Nat} {l : List Nat} (h : P k = true) : l ++ okL P (k + 1) = (l ++ [k]) ++ okL P k := by rw [okL, if_pos h]; simp
theorem okL_0 {P : Nat → Bool} {k : Nat} (h : P k = false) : okL P (k + 1) = okL P k := by rw [okL, if_neg (by simp [h])]
theorem push_nat {l : List Nat} {x : Nat} {f : Nat → Int32} (hf : ∀ k, k < l.length → f k = nI (l.getD k 0)) : ∀ k, k < (l ++ [x]).length → upd f l.length (nI x) k = nI ((l ++ [x]).getD k 0) := by
  intro k hk
  rw [List.length_append, List.length_singleton] at hk
  rw [List.getD_eq_getElem?_getD, List.getElem?_append]
  by_cases h : k < l.length
  · rw [if_pos h, pk_un (by omega), hf k h, List.getD_eq_getElem?_getD]
  · have : k = l.length := by omega
    subst this
    rw [if_neg h, pk_us, Nat.sub_self]
    rfl
theorem MR.HPA {S : St} {iv : Nat → Int32} {f : Nat → Nat → Int32} (hW : WS S) (h : MR S iv f) : ∀ j, 1 ≤ j → j ≤ sN S → f 1 j = nI (sPa S j) ∧ f 2 j = nI (sKi S j) ∧ sPa S j ≤ sN S ∧ sKi S j ≤ 2 := by
  intro j h1 h2
  obtain ⟨a, b⟩ := h.2.1 j h1 h2
  obtain ⟨c, -, d⟩ := hW.2.1 j h1 h2
  exact ⟨a, b, by omega, d⟩
theorem MR.HGR {S : St} {iv : Nat → Int32} {f : Nat → Nat → Int32} (hW : WS S) (h : MR S iv f) : ∀ j, 1 ≤ j → j ≤ sN S → f 3 j = b2i (sGr S j).isSome ∧ ∀ q, sGr S j = some q → f 4 j = nI q.1 ∧ f 5 j = nI q.2 ∧ q.1 ≤ 14 ∧ q.2 ≤ 14 := by
  intro j h1 h2
  obtain ⟨a, b⟩ := h.2.2.1 j
  refine ⟨a, fun q hq => ?_⟩
  obtain ⟨c, d⟩ := b q hq
  obtain ⟨-, -, e1, e2⟩ := hW.2.2.1 j q hq
  exact ⟨c, d, by omega, e2⟩
theorem MR.HFO {S : St} {iv : Nat → Int32} {f : Nat → Nat → Int32} (hW : WS S) (h : MR S iv f) : ∀ k, k < sNf S → f 8 k = nI (sFo S k).1 ∧ f 9 k = litI (sFo S k).2.1 ∧ f 10 k = litI (sFo S k).2.2 ∧ (sFo S k).1 ≤ 3 ∧ 1 ≤ (sFo S k).2.1.1 ∧ (sFo S k).2.1.1 ≤ sN S ∧ 1 ≤ (sFo S k).2.2.1 ∧ (sFo S k).2.2.1 ≤ sN S := by
  intro k hk
  obtain ⟨a, b, c⟩ := h.2.2.2.2.2.1 k hk
  exact ⟨a, b, c, hW.2.2.2.2.1 k hk⟩
theorem MR.HCH {S : St} (hW : WS S) : ∀ k, k < (sCh S).length → 1 ≤ ((sCh S).getD k (0, true)).1 ∧ ((sCh S).getD k (0, true)).1 ≤ sN S :=
  fun k hk => getD_in (P := fun t => 1 ≤ t.1 ∧ t.1 ≤ sN S) hW.2.2.2.2.2.2.2.1 hk
theorem WS.chl {S : St} (hW : WS S) : (sCh S).length ≤ 14 := Nat.le_trans (ch_len hW.1 hW.2.2.2.2.2.2.2.1 hW.2.2.2.2.2.2.2.2.1) hW.1
theorem MR_kn {S : St} {iv : Nat → Int32} {f : Nat → Nat → Int32} {g : Nat → Int32} {v : Int32} (h : MR S iv f) (hv : v = nI (okL (okS S) (2 ^ sN S)).length) (hg : ∀ k, k < (okL (okS S) (2 ^ sN S)).length → g k = nI ((okL (okS S) (2 ^ sN S)).getD k 0)) : MR S (va_up (va_up iv 16 1) 18 v) (va_up f 17 g) := by
  obtain ⟨m1, m2, m3, m4, m5, m6, m7, m8, m9, m10, m11⟩ := h
  exact ⟨m1, m2, m3, m4, m5, m6, m7, m8, m9, Or.inr ⟨rfl, hv, hg⟩, m11⟩
theorem kd_p2 (n : Nat) : nI (2 ^ n) - 1 = kd (2 ^ n) := by
  obtain ⟨k, hk⟩ : ∃ k, 2 ^ n = k + 1 := ⟨2 ^ n - 1, by have := Nat.two_pow_pos n; omega⟩
  rw [hk]
  exact nI_pred k
set_option maxHeartbeats 4000000 in
set_option maxRecDepth 100000 in
theorem metX2_know (l : Launch) (G : Gt) (a : Nat → Nat) (iv : Nat → Int32) (f : Nat → Nat → Int32) (S : St) (hW : WS S) (hM : MR S iv f) (sz : Nat) : CWv l G yX2_know cX2_know 2 3 0 0 69 [.ref (a 0)] (wM G a iv f) sz (fun w1 => ∃ iv2 f2, w1 = wM G a iv2 f2 ∧ MR S iv2 f2 ∧ iv2 16 = 1) := by
  refine mkWv (by decide) (Nat.le_of_ble_eq_true rfl) ?_
  intro p e s m args below meth c Q A hx hb hts hown hin hml hG hsz hP hD hA hA0 hS ret ls hl
  obtain ⟨n, hnS⟩ : ∃ n, n = sN S := ⟨_, rfl⟩
  have hn : iv 7 = nI n := by rw [hnS]; exact hM.1
  have hn4 : n ≤ 14 := by rw [hnS]; exact hW.1
  have hp2 := p2_14 hn4
  have qHPA := hM.HPA hW
  have qHGR := hM.HGR hW
  have qHFO := hM.HFO hW
  have L27 : ∀ (d : Nat) (k : Nat) (v1 : Int32) (acc : List Nat) (g : Nat → Int32), k ≤ 2 ^ n → k + 1 ≤ d → v1 = kd k → acc ++ okL (okS S) k = okL (okS S) (2 ^ n) → (∀ i, i < acc.length → g i = nI (acc.getD i 0)) → acc.length + k ≤ 2 ^ n → ∀ (H : Heap) (locs : List Loc), wP G (wM G a (va_up (va_up iv 16 (1)) 18 (nI acc.length)) (va_up f 17 (g))) H → va_D A (wM G a (va_up (va_up iv 16 (1)) 18 (nI acc.length)) (va_up f 17 (g))) → va_S A s.heap H locs → ∀ ls : Array Slot, lv_has ls 2 [(1, .int (v1)), (0, .ref (a 0))] → W p l e (rm_ 3 0 0 69) s m args below meth c H locs 0 0 Q (F0 m 27 ls []) := by
    intro d
    induction d with
    | zero => intros; omega
    | succ d ih_27 =>
      intro k v1 acc g hk2 hd e1 hac hg hln H locs hP hD hS ls hl
      subst e1
      refine lv_iload_n hx hb dX2_know_27 rfl (lv_at hl 0 rfl) ?_
      refine lv_if_lt (tgt := 81) hx hb dX2_know_28 (by decide) (fun c_28 => ?_) (fun c_28 => ?_)
      · have h28 := kd_lt c_28 (by omega)
        exact ret _ 81 ls _ _ 0 0 dX2_know_81 (Nat.le_refl _) (Nat.le_refl _) hP hD hS (by subst h28; rw [okL, List.append_nil] at hac; rw [hnS] at hac; subst hac; exact ⟨_, _, rfl, MR_kn hM rfl hg, rfl⟩)
      · obtain ⟨x, rfl⟩ := kd_ge c_28; have hacc := hac; have hal : (acc ++ okL (okS S) (x + 1)).length ≤ 2 ^ n := (by rw [hac]; exact okL_len _ _)
        have hl : lv_has ls 2 [(1, .int (nI x)), (0, .ref (a 0))] := hl
        have J75 : ∀ (ac2 : List Nat) (g2 : Nat → Int32), ac2 ++ okL (okS S) x = okL (okS S) (2 ^ n) → (∀ i, i < ac2.length → g2 i = nI (ac2.getD i 0)) → ac2.length + x ≤ 2 ^ n → ∀ (H : Heap) (locs : List Loc), wP G (wM G a (va_up (va_up iv 16 (1)) 18 (nI ac2.length)) (va_up f 17 (g2))) H → va_D A (wM G a (va_up (va_up iv 16 (1)) 18 (nI ac2.length)) (va_up f 17 (g2))) → va_S A s.heap H locs → ∀ ls : Array Slot, lv_has ls 2 [(1, .int (nI x)), (0, .ref (a 0))] → W p l e (rm_ 3 0 0 69) s m args below meth c H locs 0 0 Q (F0 m 75 ls []) := by
          intro ac2 g2 hac2 hg2 hln2 H locs hP hD hS ls hl
          refine lv_iinc (v := kd x) (lv' := [(1, .int (kd x)), (0, .ref (a 0))]) hx hb dX2_know_75 hl (k := 0) rfl (kd_dec x) (by decide) rfl (fun ls hl => ?_)
          refine lv_goto (tgt := 27) hx hb dX2_know_78 (by decide) ?_
          exact ih_27 x _ ac2 g2 (by omega) (by omega) rfl hac2 hg2 (by omega) _ _ hP hD hS ls hl
        refine lv_aload_n hx hb dX2_know_31 rfl (lv_at hl 1 rfl) ?_
        refine lv_iload_n hx hb dX2_know_32 rfl (lv_at hl 0 rfl) ?_
        refine vp_callSi (W.runV (As := [.int (nI x)]) (rest := []) ⟨hx, hb, hml, hown, hts⟩ (metX2_keepsTree l G a (va_up (va_up iv 16 (1)) 18 (nI acc.length)) (va_up f 17 (g)) n x (sPa S) (sKi S) (sGr S) hn hn4 (by omega) (by rw [hnS]; exact qHPA) (by rw [hnS]; exact qHGR)) (cwV 1 hts (lw_V q1292 q1294 qs22 q36 q1295) rfl rfl rfl (by decide +kernel) ⟨Nat.le_of_ble_eq_true rfl, Nat.le_of_ble_eq_true rfl⟩) (pre_RV (q0 := 0) hG hP hS hA0 rfl rfl) rfl rfl hl.1 rfl (lv_room (Nat.le_of_ble_eq_true rfl)) dX2_know_33 ⟨Nat.le_refl _, Nat.le_refl _⟩) (fun r_33 e_33 => ?_)
        subst e_33
        refine lv_if_eq (tgt := 75) hx hb dX2_know_36 (by decide) (fun c_36 => ?_) (fun c_36 => ?_)
        · have h36 : okTree (sN S) (sPa S) (sKi S) (sGr S) x = false := by rw [← hnS]; exact b2i_0.mp c_36
          exact J75 acc g (by rw [← hac, okL_0 (by simp [okS, h36])]) hg (by omega) _ _ hP hD hS ls hl
        · have h36 : okTree (sN S) (sPa S) (sKi S) (sGr S) x = true := by rw [← hnS]; exact b2i_n0.mp c_36
          refine lv_aload_n hx hb dX2_know_39 rfl (lv_at hl 1 rfl) ?_
          refine lv_iload_n hx hb dX2_know_40 rfl (lv_at hl 0 rfl) ?_
          refine vp_callSi (W.runV (As := [.int (nI x)]) (rest := []) ⟨hx, hb, hml, hown, hts⟩ (metX2_keepsFormulas l G a (va_up (va_up iv 16 (1)) 18 (nI acc.length)) (va_up f 17 (g)) n x (sNf S) (sFo S) hn hn4 (by omega) hM.2.2.2.2.1 hW.2.2.2.1 (by rw [hnS]; exact qHFO)) (cwV 1 hts (lw_V q1300 q1302 qs24 q36 q1303) rfl rfl rfl (by decide +kernel) ⟨Nat.le_of_ble_eq_true rfl, Nat.le_of_ble_eq_true rfl⟩) (pre_RV (q0 := 0) hG hP hS hA0 rfl rfl) rfl rfl hl.1 rfl (lv_room (Nat.le_of_ble_eq_true rfl)) dX2_know_41 ⟨Nat.le_refl _, Nat.le_refl _⟩) (fun r_41 e_41 => ?_)
          subst e_41
          refine lv_if_eq (tgt := 75) hx hb dX2_know_44 (by decide) (fun c_44 => ?_) (fun c_44 => ?_)
          · have h44 : okForm (sN S) (sNf S) (sFo S) x = false := by rw [← hnS]; exact b2i_0.mp c_44
            exact J75 acc g (by rw [← hac, okL_0 (by simp [okS, h44])]) hg (by omega) _ _ hP hD hS ls hl
          · have h44 : okForm (sN S) (sNf S) (sFo S) x = true := by rw [← hnS]; exact b2i_n0.mp c_44
            refine lv_aload_n hx hb dX2_know_47 rfl (lv_at hl 1 rfl) ?_
            refine lv_iload_n hx hb dX2_know_48 rfl (lv_at hl 0 rfl) ?_
            refine vp_callSi (W.runV (As := [.int (nI x)]) (rest := []) ⟨hx, hb, hml, hown, hts⟩ (metX2_keepsLimits l G a (va_up (va_up iv 16 (1)) 18 (nI acc.length)) (va_up f 17 (g)) n x (sAt S) (sLm S) hn hn4 (by omega) hM.2.2.2.1 hM.2.2.2.2.2.2.1) (cwV 1 hts (lw_V q1308 q1310 qs26 q36 q1311) rfl rfl rfl (by decide +kernel) ⟨Nat.le_of_ble_eq_true rfl, Nat.le_of_ble_eq_true rfl⟩) (pre_RV (q0 := 0) hG hP hS hA0 rfl rfl) rfl rfl hl.1 rfl (lv_room (Nat.le_of_ble_eq_true rfl)) dX2_know_49 ⟨Nat.le_refl _, Nat.le_refl _⟩) (fun r_49 e_49 => ?_)
            subst e_49
            refine lv_if_eq (tgt := 75) hx hb dX2_know_52 (by decide) (fun c_52 => ?_) (fun c_52 => ?_)
            · have h52 : okLim (sN S) (sAt S) (sLm S) x = false := by rw [← hnS]; exact b2i_0.mp c_52
              exact J75 acc g (by rw [← hac, okL_0 (by simp [okS, h52])]) hg (by omega) _ _ hP hD hS ls hl
            · have h52 : okLim (sN S) (sAt S) (sLm S) x = true := (by rw [← hnS]; exact b2i_n0.mp c_52); have hal2 : acc.length + 1 ≤ 2 ^ n - x := (by simp at hal; omega)
              refine lv_aload_n hx hb dX2_know_55 rfl (lv_at hl 1 rfl) ?_
              refine va_get (D := gD G) (ci := 1) (v := .ref (a 17)) (C := RX2) (T := TX2) (N := 27) hx hb hts in_X2 hown hG.K hP 0 rfl rfl 17 (by decide) (hts _ q1170) (fun _ h9 => h9) rfl dX2_know_56 ?_
              refine lv_aload_n hx hb dX2_know_59 rfl (lv_at hl 1 rfl) ?_
              refine va_get (D := gD G) (ci := 1) (v := .int (nI acc.length)) (C := RX2) (T := TX2) (N := 27) hx hb hts in_X2 hown hG.K hP 0 rfl rfl 18 (by decide) (hts _ q1171) (fun _ h9 => h9) rfl dX2_know_60 ?_
              refine lv_iload_n hx hb dX2_know_63 rfl (lv_at hl 0 rfl) ?_
              refine ia_st (j := acc.length) hx hb hG.K hP hD hS 13 0 rfl rfl (by omega) (by decide) dX2_know_64 (fun H locs hP hD hS => ?_)
              have hP : wP G (wM G a (va_up (va_up iv 16 (1)) 18 (nI acc.length)) (va_up f 17 (upd (g) (acc.length) (nI x)))) H := hP
              have hD : va_D A (wM G a (va_up (va_up iv 16 (1)) 18 (nI acc.length)) (va_up f 17 (upd (g) (acc.length) (nI x)))) := hD
              refine lv_aload_n hx hb dX2_know_65 rfl (lv_at hl 1 rfl) ?_
              refine lv_dup hx hb dX2_know_66 rfl ?_
              refine va_get (D := gD G) (ci := 1) (v := .int (nI acc.length)) (C := RX2) (T := TX2) (N := 27) hx hb hts in_X2 hown hG.K hP 0 rfl rfl 18 (by decide) (hts _ q1171) (fun _ h9 => h9) rfl dX2_know_67 ?_
              refine lv_iconst (v := 1) hx hb dX2_know_70 (by decide) ?_
              refine lv_iadd hx hb dX2_know_71 ?_
              refine top_i (y := nI (acc ++ [x]).length) (by rw [List.length_append]; exact nI_1 _) ?_
              refine va_put (D := gD G) (ci := 1) (v := .int (nI (acc ++ [x]).length)) (ty := .int) (C := RX2) (T := TX2) (N := 27) hx hb hts in_X2 tyX2 tyX2_ok nmX2 hown hG.K hP hD hS 0 rfl rfl 18 (by decide) (hts _ q1171) (fun _ h9 => h9) rfl (by decide +kernel) rfl rfl (Nat.le_of_ble_eq_true rfl) dX2_know_72 (fun H locs hP hD hS => ?_)
              have hP : wP G (wM G a (va_up (va_up iv 16 (1)) 18 (nI (acc ++ [x]).length)) (va_up f 17 (upd (g) (acc.length) (nI x)))) H := hP
              have hD : va_D A (wM G a (va_up (va_up iv 16 (1)) 18 (nI (acc ++ [x]).length)) (va_up f 17 (upd (g) (acc.length) (nI x)))) := hD
              exact J75 (acc ++ [x]) _ (by rw [← hac, okL_1 (by simp [okS, h36, h44, h52])]) (push_nat hg) (by simp; omega) _ _ hP hD hS ls hl
  refine lv_aload_n hx hb dX2_know_0 rfl (lv_at hl 0 rfl) ?_
  refine va_get (D := gD G) (ci := 1) (v := .int (iv 16)) (C := RX2) (T := TX2) (N := 27) hx hb hts in_X2 hown hG.K hP 0 rfl rfl 16 (by decide) (hts _ q1169) (fun _ h9 => h9) rfl dX2_know_1 ?_
  refine lv_if_eq (tgt := 8) hx hb dX2_know_4 (by decide) (fun c_4 => ?_) (fun c_4 => ?_)
  · skip
    refine lv_aload_n hx hb dX2_know_8 rfl (lv_at hl 0 rfl) ?_
    refine lv_iconst (v := 1) hx hb dX2_know_9 (by decide) ?_
    refine va_put (D := gD G) (ci := 1) (v := .int (1)) (ty := .boolean) (C := RX2) (T := TX2) (N := 27) hx hb hts in_X2 tyX2 tyX2_ok nmX2 hown hG.K hP hD hS 0 rfl rfl 16 (by decide) (hts _ q1169) (fun _ h9 => h9) rfl (by decide +kernel) rfl rfl (Nat.le_of_ble_eq_true rfl) dX2_know_10 (fun H locs hP hD hS => ?_)
    have hP : wP G (wM G a (va_up iv 16 (1)) f) H := hP
    have hD : va_D A (wM G a (va_up iv 16 (1)) f) := hD
    refine lv_aload_n hx hb dX2_know_13 rfl (lv_at hl 0 rfl) ?_
    refine lv_iconst (v := 0) hx hb dX2_know_14 (by decide) ?_
    refine va_put (D := gD G) (ci := 1) (v := .int (0)) (ty := .int) (C := RX2) (T := TX2) (N := 27) hx hb hts in_X2 tyX2 tyX2_ok nmX2 hown hG.K hP hD hS 0 rfl rfl 18 (by decide) (hts _ q1171) (fun _ h9 => h9) rfl (by decide +kernel) rfl rfl (Nat.le_of_ble_eq_true rfl) dX2_know_15 (fun H locs hP hD hS => ?_)
    have hP : wP G (wM G a (va_up (va_up iv 16 (1)) 18 (0)) f) H := hP
    have hD : va_D A (wM G a (va_up (va_up iv 16 (1)) 18 (0)) f) := hD
    refine lv_iconst (v := 1) hx hb dX2_know_18 (by decide) ?_
    refine lv_aload_n hx hb dX2_know_19 rfl (lv_at hl 0 rfl) ?_
    refine va_get (D := gD G) (ci := 1) (v := .int (iv 7)) (C := RX2) (T := TX2) (N := 27) hx hb hts in_X2 hown hG.K hP 0 rfl rfl 7 (by decide) (hts _ q1160) (fun _ h9 => h9) rfl dX2_know_20 ?_
    refine top_i (y := nI n) (hn) ?_
    refine lv_ishl hx hb dX2_know_23 ?_
    refine top_i (y := nI (2 ^ n)) (by rw [show (1 : Int32) = nI 1 from rfl, sh_l (by omega) (by omega), Nat.one_mul]) ?_
    refine lv_iconst (v := 1) hx hb dX2_know_24 (by decide) ?_
    refine lv_isub hx hb dX2_know_25 ?_
    refine top_i (y := kd (2 ^ n)) (kd_p2 n) ?_
    refine lv_istore_n (lv' := [(1, .int (kd (2 ^ n))), (0, .ref (a 0))]) hx hb dX2_know_26 rfl hl (by decide) rfl (fun ls hl => ?_)
    exact L27 (2 ^ n + 1) (2 ^ n) _ [] (f 17) (by omega) (by omega) rfl rfl (fun i hi => absurd hi (by simp)) (by simp) _ _ hP hD hS ls hl
  · have h4 : iv 16 = 1 := (by rcases hM.2.2.2.2.2.2.2.2.2.1 with h | h <;> first | exact absurd h c_4 | exact h.1)
    exact ret _ 7 ls _ _ 0 0 dX2_know_7 (Nat.le_refl _) (Nat.le_refl _) hP hD hS (⟨_, _, rfl, hM, h4⟩)
def optI : Option Nat → Int32
  | none => -1
  | some x => nI x
theorem fsN_find (P R : Nat → Bool) (m : Nat) : fsN (fun x => P x && R x) m = (okL P m).find? R := by
  induction m with
  | zero => rfl
  | succ m ih =>
    rw [fsN, okL]
    cases h : P m <;> cases h' : R m <;> simp [h, h', ih]
theorem okL_mem {P : Nat → Bool} {m x : Nat} (h : x ∈ okL P m) : x < m ∧ P x = true := by
  induction m with
  | zero => simp [okL] at h
  | succ m ih =>
    rw [okL] at h
    split at h
    · rcases List.mem_cons.mp h with e | e
      · rename_i hp; rw [e]; exact ⟨by omega, hp⟩
      · have := ih e; exact ⟨by omega, this.2⟩
    · have := ih h; exact ⟨by omega, this.2⟩
theorem find_take {l : List Nat} {R : Nat → Bool} {k : Nat} (hk : k < l.length) (h0 : (l.take k).find? R = none) (h1 : R (l.getD k 0) = true) : l.find? R = some (l.getD k 0) := by
  have e : l.getD k 0 = l[k] := by rw [List.getD_eq_getElem?_getD, List.getElem?_eq_getElem hk]; rfl
  have e2 : l.find? R = (l.take k ++ l.drop k).find? R := by rw [List.take_append_drop]
  rw [e] at h1 ⊢
  rw [e2, List.find?_append, h0, Option.none_or, List.drop_eq_getElem_cons hk, List.find?_cons_of_pos h1]
theorem find_step {l : List Nat} {R : Nat → Bool} {k : Nat} (hk : k < l.length) (h0 : (l.take k).find? R = none) (h1 : R (l.getD k 0) = false) : (l.take (k + 1)).find? R = none := by
  have e : l.getD k 0 = l[k] := by rw [List.getD_eq_getElem?_getD, List.getElem?_eq_getElem hk]; rfl
  rw [e] at h1
  rw [List.take_succ_eq_append_getElem hk, List.find?_append, h0]
  simp [h1]
theorem getD_mem0 {l : List Nat} {k : Nat} (hk : k < l.length) : l.getD k 0 ∈ l := by
  rw [List.getD_eq_getElem?_getD, List.getElem?_eq_getElem hk]; exact List.getElem_mem hk
set_option maxHeartbeats 4000000 in
set_option maxRecDepth 100000 in
theorem metX2_firstWithout (l : Launch) (G : Gt) (a : Nat → Nat) (iv : Nat → Int32) (f : Nat → Nat → Int32) (S : St) (hW : WS S) (hM : MR S iv f) (wo : Nat) (hw1 : wo < 2 ^ 31) (sz : Nat) : CWi l G yX2_firstWithout cX2_firstWithout 3 .int 4 0 0 90 [.ref (a 0), .int (nI wo)] (wM G a iv f) sz (fun r w1 => r = optI (fsA S wo) ∧ MW G a S w1) := by
  refine mkWi (by decide) (Nat.le_of_ble_eq_true rfl) ?_
  intro p e s m args below meth c Q A hx hb hts hown hin hml hG hsz hP hD hA hA0 hS ret ls hl
  obtain ⟨n, hnS⟩ : ∃ n, n = sN S := ⟨_, rfl⟩
  have hn : iv 7 = nI n := by rw [hnS]; exact hM.1
  have hn4 : n ≤ 14 := by rw [hnS]; exact hW.1
  have hp2 := p2_14 hn4
  refine lv_aload_n hx hb dX2_firstWithout_0 rfl (lv_at hl 0 rfl) ?_
  refine cl_v0 (va_runV (As := []) (rest := []) ⟨hx, hb, hml, hown, hts⟩ (metX2_know l G a iv f S hW hM _) (cwV 0 hts (lw_V q1288 q1290 qs21 q36 q1291) rfl rfl rfl (by decide +kernel) ⟨Nat.le_of_ble_eq_true rfl, Nat.le_of_ble_eq_true rfl⟩) (pre_WV0 (q0 := 0) hG hP hD hS hA0 rfl rfl) rfl rfl hl.1 rfl (lv_room (Nat.le_of_ble_eq_true rfl)) dX2_firstWithout_1 ⟨Nat.le_refl _, Nat.le_refl _⟩) hP hD hS hA (fun w1 H locs hp hP hD hS => ?_)
  obtain ⟨iv, f, rfl, hM, hkn⟩ := hp
  clear hn
  have hn : iv 7 = nI n := by rw [hnS]; exact hM.1
  obtain ⟨L, hL⟩ : ∃ L, L = okL (okS S) (2 ^ n) := ⟨_, rfl⟩
  have hLl : L.length ≤ 2 ^ n := by rw [hL]; exact okL_len _ _
  obtain ⟨-, hkc, hks⟩ : iv 16 = 1 ∧ iv 18 = nI L.length ∧ ∀ k, k < L.length → f 17 k = nI (L.getD k 0) := by rw [hL, hnS]; rcases hM.2.2.2.2.2.2.2.2.2.1 with h | h <;> first | exact h | exact absurd (hkn.symm.trans h) (by decide)
  have hfs : fsA S wo = L.find? (okCh n (sCh S) wo) := by rw [hL, hnS]; exact fsN_find _ _ _
  have L6 : ∀ (d : Nat) (j : Nat) (v2 : Int32), j ≤ L.length → L.length + 1 ≤ j + d → v2 = nI j → (L.take j).find? (okCh n (sCh S) wo) = none → ∀ (H : Heap) (locs : List Loc), wP G (wM G a iv f) H → va_D A (wM G a iv f) → va_S A s.heap H locs → ∀ ls : Array Slot, lv_has ls 3 [(2, .int (v2)), (0, .ref (a 0)), (1, .int (nI wo))] → W p l e (rm_ 4 0 0 90) s m args below meth c H locs 0 0 Q (F0 m 6 ls []) := by
    intro d
    induction d with
    | zero => intros; omega
    | succ d ih_6 =>
      intro j v2 hj2 hd e2 hno H locs hP hD hS ls hl
      subst e2
      refine lv_iload_n hx hb dX2_firstWithout_6 rfl (lv_at hl 0 rfl) ?_
      refine lv_aload_n hx hb dX2_firstWithout_7 rfl (lv_at hl 1 rfl) ?_
      refine va_get (D := gD G) (ci := 1) (v := .int (iv 18)) (C := RX2) (T := TX2) (N := 27) hx hb hts in_X2 hown hG.K hP 0 rfl rfl 18 (by decide) (hts _ q1171) (fun _ h9 => h9) rfl dX2_firstWithout_8 ?_
      refine top_i (y := nI L.length) (hkc) ?_
      refine lv_icmp_ge (tgt := 41) hx hb dX2_firstWithout_11 (by decide) (fun c_11 => ?_) (fun c_11 => ?_)
      · have h11 : L.length ≤ j := nI_ge' (a := j) (b := L.length) c_11; have hj4 : j = L.length := (by omega)
        refine lv_iconst (v := (-1)) hx hb dX2_firstWithout_41 (by decide) ?_
        exact ret (-1) _ 42 ls _ _ 0 0 dX2_firstWithout_42 rfl (Nat.le_refl _) (Nat.le_refl _) hP hD hS (by rw [hj4, List.take_length] at hno; rw [hfs, hno]; exact ⟨rfl, _, _, rfl, hM⟩)
      · have h11 : j < L.length := nI_nge (a := j) (b := L.length) c_11; have hsj := hks j h11; have hxl := (okL_mem (P := okS S) (m := 2 ^ n) (x := L.getD j 0) (by rw [← hL]; exact getD_mem0 h11)).1
        refine lv_aload_n hx hb dX2_firstWithout_14 rfl (lv_at hl 1 rfl) ?_
        refine lv_aload_n hx hb dX2_firstWithout_15 rfl (lv_at hl 1 rfl) ?_
        refine va_get (D := gD G) (ci := 1) (v := .ref (a 17)) (C := RX2) (T := TX2) (N := 27) hx hb hts in_X2 hown hG.K hP 0 rfl rfl 17 (by decide) (hts _ q1170) (fun _ h9 => h9) rfl dX2_firstWithout_16 ?_
        refine lv_iload_n hx hb dX2_firstWithout_19 rfl (lv_at hl 0 rfl) ?_
        refine ia_ld (j := j) hx hb hG.K hP 13 0 rfl rfl (by omega) (by decide) dX2_firstWithout_20 ?_
        refine top_i (y := nI (L.getD j 0)) (hsj) ?_
        refine lv_iload_n hx hb dX2_firstWithout_21 rfl (lv_at hl 2 rfl) ?_
        refine vp_callSi (W.runV (As := [.int (nI (L.getD j 0)), .int (nI wo)]) (rest := []) ⟨hx, hb, hml, hown, hts⟩ (metX2_keepsChoices l G a iv f n (L.getD j 0) wo (sCh S) hn hn4 (by omega) hw1 hM.2.2.2.2.2.2.2.1 hW.chl hM.2.2.2.2.2.2.2.2.1 (by rw [hnS]; exact MR.HCH hW)) (cwV 2 hts (lw_V q1312 q1314 qs27 q36 q1315) rfl rfl rfl (by decide +kernel) ⟨Nat.le_of_ble_eq_true rfl, Nat.le_of_ble_eq_true rfl⟩) (pre_RV (q0 := 0) hG hP hS hA0 rfl rfl) rfl rfl hl.1 rfl (lv_room (Nat.le_of_ble_eq_true rfl)) dX2_firstWithout_22 ⟨Nat.le_refl _, Nat.le_refl _⟩) (fun r_22 e_22 => ?_)
        subst e_22
        refine lv_if_eq (tgt := 35) hx hb dX2_firstWithout_25 (by decide) (fun c_25 => ?_) (fun c_25 => ?_)
        · have h25 : okCh n (sCh S) wo (L.getD j 0) = false := b2i_0.mp c_25
          refine lv_iinc (v := nI (j + 1)) (lv' := [(2, .int (nI (j + 1))), (0, .ref (a 0)), (1, .int (nI wo))]) hx hb dX2_firstWithout_35 hl (k := 0) rfl (nI_1 j) (by decide) rfl (fun ls hl => ?_)
          refine lv_goto (tgt := 6) hx hb dX2_firstWithout_38 (by decide) ?_
          exact ih_6 (j + 1) _ (by omega) (by omega) rfl (find_step h11 hno h25) _ _ hP hD hS ls hl
        · have h25 : okCh n (sCh S) wo (L.getD j 0) = true := b2i_n0.mp c_25
          refine lv_aload_n hx hb dX2_firstWithout_28 rfl (lv_at hl 1 rfl) ?_
          refine va_get (D := gD G) (ci := 1) (v := .ref (a 17)) (C := RX2) (T := TX2) (N := 27) hx hb hts in_X2 hown hG.K hP 0 rfl rfl 17 (by decide) (hts _ q1170) (fun _ h9 => h9) rfl dX2_firstWithout_29 ?_
          refine lv_iload_n hx hb dX2_firstWithout_32 rfl (lv_at hl 0 rfl) ?_
          refine ia_ld (j := j) hx hb hG.K hP 13 0 rfl rfl (by omega) (by decide) dX2_firstWithout_33 ?_
          refine top_i (y := nI (L.getD j 0)) (hsj) ?_
          exact ret (nI (L.getD j 0)) _ 34 ls _ _ 0 0 dX2_firstWithout_34 rfl (Nat.le_refl _) (Nat.le_refl _) hP hD hS (by rw [hfs, find_take h11 hno h25]; exact ⟨rfl, _, _, rfl, hM⟩)
  refine lv_iconst (v := 0) hx hb dX2_firstWithout_4 (by decide) ?_
  refine lv_istore_n (lv' := [(2, .int (0)), (0, .ref (a 0)), (1, .int (nI wo))]) hx hb dX2_firstWithout_5 rfl hl (by decide) rfl (fun ls hl => ?_)
  exact L6 (L.length + 1) 0 _ (by omega) (by omega) rfl rfl _ _ hP hD hS ls hl
