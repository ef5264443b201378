theorem tr1_succ {n : Nat} {pa ki : Nat → Nat} {x j : Nat} : tr1 n pa ki x (j + 1) = (tr1 n pa ki x j && trP n pa ki x j) := by simp [tr1, alB, Bool.and_assoc]
theorem tr2_succ {n : Nat} {pa ki : Nat → Nat} {gr : Nat → Option (Nat × Nat)} {x j : Nat} : tr2 n pa ki gr x (j + 1) = (tr2 n pa ki gr x j && grP n pa ki gr x j) := by simp [tr2, alB, Bool.and_assoc]
theorem tr1_false {n : Nat} {pa ki : Nat → Nat} {x j : Nat} (h : tr1 n pa ki x j = false) (hj : j ≤ n + 1 ∨ (n = 0 ∧ j = 2)) : b2i false = b2i (tr1 n pa ki x (n + 1)) := by
  rcases hj with hj | hj
  · unfold tr1 at h ⊢
    rcases (Bool.and_eq_false_iff.mp h) with h | h
    · simp [h]
    · simp [alB_false h hj]
  · rw [← tr1_exit (Or.inr hj), h]
theorem tr2_false {n : Nat} {pa ki : Nat → Nat} {gr : Nat → Option (Nat × Nat)} {x j : Nat} (h : tr2 n pa ki gr x j = false) (hj : j ≤ n + 1) : b2i (tr2 n pa ki gr x j) = b2i (okTree n pa ki gr x) := by
  rw [h]
  unfold okTree
  unfold tr2 at h ⊢
  rcases (Bool.and_eq_false_iff.mp h) with h | h
  · simp [h]
  · simp [alB_false h hj]
set_option maxHeartbeats 4000000 in
set_option maxRecDepth 100000 in
theorem metX2_keepsTree (l : Launch) (G : Gt) (a : Nat → Nat) (iv : Nat → Int32) (f : Nat → Nat → Int32) (n x : Nat) (pa ki : Nat → Nat) (gr : Nat → Option (Nat × Nat)) (hn : iv 7 = nI n) (hn4 : n ≤ 14) (hx1 : x < 2 ^ 31) (hpa : ∀ j, 1 ≤ j → j ≤ n → f 1 j = nI (pa j) ∧ f 2 j = nI (ki j) ∧ pa j ≤ n ∧ ki j ≤ 2) (hgr : ∀ j, 1 ≤ j → j ≤ n → f 3 j = b2i (gr j).isSome ∧ ∀ q, gr j = some q → f 4 j = nI q.1 ∧ f 5 j = nI q.2 ∧ q.1 ≤ 14 ∧ q.2 ≤ 14) : CR l G yX2_keepsTree cX2_keepsTree 6 .boolean 1 22 [.ref (a 0), .int (nI x)] (wM G a iv f) (fun r => r = b2i (okTree n pa ki gr x)) := by
  refine mkRi (by decide) (Nat.le_of_ble_eq_true rfl) ?_
  intro p e s m args below meth c Q hx hb hts hown hml hG hP hS ret ls hl
  have L100 : ∀ (d3 : Nat) (j : Nat) (v3 v2 : Int32), j ≤ n + 1 → n + 2 ≤ j + d3 → 1 ≤ j → v3 = nI j → v2 = b2i (tr2 n pa ki gr x j) → ∀ ls : Array Slot, lv_has ls 6 [(3, .int (v3)), (2, .int (v2)), (0, .ref (a 0)), (1, .int (nI x))] → W p l e (rm_ 1 0 0 22) s m args below meth c s.heap [] 0 0 Q (F0 m 100 ls []) := by
    intro d3
    induction d3 with
    | zero => intros; omega
    | succ d3 ih_100 =>
      intro j v3 v2 hj2 hd hj1 e3 e2 ls hl
      subst e3 e2
      refine lv_iload_n hx hb dX2_keepsTree_100 rfl (lv_at hl 0 rfl) ?_
      refine lv_aload_n hx hb dX2_keepsTree_101 rfl (lv_at hl 2 rfl) ?_
      refine va_get (D := gD G) (ci := 1) (v := .int (iv 7)) (C := RX2) (T := TX2) (N := 27) hx hb hts in_X2 hown hG.K hP 0 rfl rfl 7 (by decide) (hts _ q1160) (fun _ h9 => h9) rfl dX2_keepsTree_102 ?_
      refine top_i (y := nI n) (hn) ?_
      refine lv_icmp_gt (tgt := 228) hx hb dX2_keepsTree_105 (by decide) (fun c_105 => ?_) (fun c_105 => ?_)
      · have h105 : n < j := nI_gt (a := j) (b := n) c_105; have hj4 : j = n + 1 := (by omega)
        refine lv_iload_n hx hb dX2_keepsTree_228 rfl (lv_at hl 1 rfl) ?_
        exact ret (b2i (tr2 n pa ki gr x j)) 229 ls dX2_keepsTree_229 (b2i_nar _) (by rw [hj4]; rfl)
      · have h105 : j ≤ n := nI_ngt (a := j) (b := n) c_105; obtain ⟨hp3, hp4⟩ := hgr j hj1 h105
        refine lv_iload_n hx hb dX2_keepsTree_108 rfl (lv_at hl 1 rfl) ?_
        refine lv_if_eq (tgt := 228) hx hb dX2_keepsTree_109 (by decide) (fun c_109 => ?_) (fun c_109 => ?_)
        · have h109 : tr2 n pa ki gr x j = false := b2i_0.mp c_109
          refine lv_iload_n hx hb dX2_keepsTree_228 rfl (lv_at hl 1 rfl) ?_
          exact ret (b2i (tr2 n pa ki gr x j)) 229 ls dX2_keepsTree_229 (b2i_nar _) (tr2_false h109 (by omega))
        · have h109 : tr2 n pa ki gr x j = true := b2i_n0.mp c_109
          have J221 : ∀ (v v2 : Int32), v = b2i (tr2 n pa ki gr x (j + 1)) → ∀ ls : Array Slot, lv_has ls 6 [(3, .int (nI j)), (2, .int (v2)), (0, .ref (a 0)), (1, .int (nI x))] → W p l e (rm_ 1 0 0 22) s m args below meth c s.heap [] 0 0 Q (F0 m 221 ls [.int (v)]) := by
            intro v v2 ev ls hl
            subst ev
            refine lv_istore_n (lv' := [(2, .int (b2i (tr2 n pa ki gr x (j + 1)))), (3, .int (nI j)), (0, .ref (a 0)), (1, .int (nI x))]) hx hb dX2_keepsTree_221 rfl hl (by decide) rfl (fun ls hl => ?_)
            refine lv_iinc (v := nI (j + 1)) (lv' := [(3, .int (nI (j + 1))), (2, .int (b2i (tr2 n pa ki gr x (j + 1)))), (0, .ref (a 0)), (1, .int (nI x))]) hx hb dX2_keepsTree_222 hl (k := 1) rfl (nI_1 j) (by decide) rfl (fun ls hl => ?_)
            refine lv_goto (tgt := 100) hx hb dX2_keepsTree_225 (by decide) ?_
            exact ih_100 (j + 1) _ _ (by omega) (by omega) (by omega) rfl rfl ls hl
          have L118 : ∀ (d5 : Nat) (k : Nat) (v5 v4 : Int32), k ≤ n + 1 → n + 2 ≤ k + d5 → 1 ≤ k → v5 = nI k → v4 = nI (ctB (gcP n pa ki x j) k) → ∀ ls : Array Slot, lv_has ls 6 [(5, .int (v5)), (4, .int (v4)), (3, .int (nI j)), (2, .int (b2i (tr2 n pa ki gr x j))), (0, .ref (a 0)), (1, .int (nI x))] → W p l e (rm_ 1 0 0 22) s m args below meth c s.heap [] 0 0 Q (F0 m 118 ls []) := by
            intro d5
            induction d5 with
            | zero => intros; omega
            | succ d5 ih_118 =>
              intro k v5 v4 hk2 hk3 hk1 e5 e4 ls hl
              subst e5 e4
              have hct := ctB_le (gcP n pa ki x j) k
              refine lv_iload hx hb dX2_keepsTree_118 (lv_at hl 0 rfl) ?_
              refine lv_aload_n hx hb dX2_keepsTree_120 rfl (lv_at hl 4 rfl) ?_
              refine va_get (D := gD G) (ci := 1) (v := .int (iv 7)) (C := RX2) (T := TX2) (N := 27) hx hb hts in_X2 hown hG.K hP 0 rfl rfl 7 (by decide) (hts _ q1160) (fun _ h9 => h9) rfl dX2_keepsTree_121 ?_
              refine top_i (y := nI n) (hn) ?_
              refine lv_icmp_gt (tgt := 176) hx hb dX2_keepsTree_124 (by decide) (fun c_124 => ?_) (fun c_124 => ?_)
              · have h124 : n < k := nI_gt (a := k) (b := n) c_124; have hk4 : k = n + 1 := (by omega); subst hk4
                refine lv_aload_n hx hb dX2_keepsTree_176 rfl (lv_at hl 4 rfl) ?_
                refine va_get (D := gD G) (ci := 1) (v := .ref (a 3)) (C := RX2) (T := TX2) (N := 27) hx hb hts in_X2 hown hG.K hP 0 rfl rfl 3 (by decide) (hts _ q1156) (fun _ h9 => h9) rfl dX2_keepsTree_177 ?_
                refine lv_iload_n hx hb dX2_keepsTree_180 rfl (lv_at hl 2 rfl) ?_
                refine za_ld (j := j) hx hb hG.K hP 3 1 rfl rfl (by omega) (by decide) dX2_keepsTree_181 ?_
                refine top_i (y := b2i (gr j).isSome) (hp3) ?_
                refine lv_if_eq (tgt := 216) hx hb dX2_keepsTree_182 (by decide) (fun c_182 => ?_) (fun c_182 => ?_)
                · have h182 : (gr j).isSome = false := b2i_0.mp c_182
                  refine lv_iconst (v := 1) hx hb dX2_keepsTree_216 (by decide) ?_
                  refine lv_goto (tgt := 221) hx hb dX2_keepsTree_217 (by decide) ?_
                  exact J221 _ _ (by have hh : gr j = none := (by simpa using h182); simp [tr2_succ, h109, grP, hh, b2i]) ls (lv_sub hl [2, 3, 4, 5] rfl)
                · have h182 : (gr j).isSome = true := b2i_n0.mp c_182; obtain ⟨q, hq⟩ := Option.isSome_iff_exists.mp h182; obtain ⟨hq1, hq2, hq3, hq4⟩ := hp4 q hq
                  refine lv_aload_n hx hb dX2_keepsTree_185 rfl (lv_at hl 4 rfl) ?_
                  refine lv_iload_n hx hb dX2_keepsTree_186 rfl (lv_at hl 5 rfl) ?_
                  refine lv_iload_n hx hb dX2_keepsTree_187 rfl (lv_at hl 2 rfl) ?_
                  refine vp_callSi (W.runV (As := [.int (nI x), .int (nI j)]) (rest := []) ⟨hx, hb, hml, hown, hts⟩ (metX2_isIn l G a iv f n x (j) hn hn4 hx1 (by omega)) (cwV 2 hts (lw_V q1296 q1298 qs23 q36 q1299) rfl rfl rfl (by decide +kernel) ⟨Nat.le_of_ble_eq_true rfl, Nat.le_of_ble_eq_true rfl⟩) (pre_RV (q0 := 0) hG hP hS (fun _ h => h.elim) rfl rfl) rfl rfl hl.1 rfl (lv_room (Nat.le_of_ble_eq_true rfl)) dX2_keepsTree_188 ⟨Nat.le_refl _, Nat.le_refl _⟩) (fun r_188 e_188 => ?_)
                  subst e_188
                  refine lv_if_eq (tgt := 216) hx hb dX2_keepsTree_191 (by decide) (fun c_191 => ?_) (fun c_191 => ?_)
                  · have h191 : tb n x j = false := b2i_0.mp c_191
                    refine lv_iconst (v := 1) hx hb dX2_keepsTree_216 (by decide) ?_
                    refine lv_goto (tgt := 221) hx hb dX2_keepsTree_217 (by decide) ?_
                    exact J221 _ _ (by have hj0 : ¬ j = 0 := (by omega); simp [tr2_succ, h109, grP, hq, h191, hj0, b2i]) ls (lv_sub hl [2, 3, 4, 5] rfl)
                  · have h191 : tb n x j = true := b2i_n0.mp c_191
                    refine lv_iload hx hb dX2_keepsTree_194 (lv_at hl 1 rfl) ?_
                    refine lv_aload_n hx hb dX2_keepsTree_196 rfl (lv_at hl 4 rfl) ?_
                    refine va_get (D := gD G) (ci := 1) (v := .ref (a 4)) (C := RX2) (T := TX2) (N := 27) hx hb hts in_X2 hown hG.K hP 0 rfl rfl 4 (by decide) (hts _ q1157) (fun _ h9 => h9) rfl dX2_keepsTree_197 ?_
                    refine lv_iload_n hx hb dX2_keepsTree_200 rfl (lv_at hl 2 rfl) ?_
                    refine ia_ld (j := j) hx hb hG.K hP 4 0 rfl rfl (by omega) (by decide) dX2_keepsTree_201 ?_
                    refine top_i (y := nI q.1) (hq1) ?_
                    refine lv_icmp_lt (tgt := 220) hx hb dX2_keepsTree_202 (by decide) (fun c_202 => ?_) (fun c_202 => ?_)
                    · have h202 : ctB (gcP n pa ki x j) (n + 1) < q.1 := nI_gt (a := q.1) (b := ctB (gcP n pa ki x j) (n + 1)) c_202
                      refine lv_iconst (v := 0) hx hb dX2_keepsTree_220 (by decide) ?_
                      exact J221 _ _ (by have hj0 : ¬ j = 0 := (by omega); simp [tr2_succ, h109, grP, hq, h191, hj0, b2i]; try omega) ls (lv_sub hl [2, 3, 4, 5] rfl)
                    · have h202 : q.1 ≤ ctB (gcP n pa ki x j) (n + 1) := nI_ngt (a := q.1) (b := ctB (gcP n pa ki x j) (n + 1)) c_202
                      refine lv_iload hx hb dX2_keepsTree_205 (lv_at hl 1 rfl) ?_
                      refine lv_aload_n hx hb dX2_keepsTree_207 rfl (lv_at hl 4 rfl) ?_
                      refine va_get (D := gD G) (ci := 1) (v := .ref (a 5)) (C := RX2) (T := TX2) (N := 27) hx hb hts in_X2 hown hG.K hP 0 rfl rfl 5 (by decide) (hts _ q1158) (fun _ h9 => h9) rfl dX2_keepsTree_208 ?_
                      refine lv_iload_n hx hb dX2_keepsTree_211 rfl (lv_at hl 2 rfl) ?_
                      refine ia_ld (j := j) hx hb hG.K hP 5 0 rfl rfl (by omega) (by decide) dX2_keepsTree_212 ?_
                      refine top_i (y := nI q.2) (hq2) ?_
                      refine lv_icmp_gt (tgt := 220) hx hb dX2_keepsTree_213 (by decide) (fun c_213 => ?_) (fun c_213 => ?_)
                      · have h213 : q.2 < ctB (gcP n pa ki x j) (n + 1) := nI_gt (a := ctB (gcP n pa ki x j) (n + 1)) (b := q.2) c_213
                        refine lv_iconst (v := 0) hx hb dX2_keepsTree_220 (by decide) ?_
                        exact J221 _ _ (by have hj0 : ¬ j = 0 := (by omega); simp [tr2_succ, h109, grP, hq, h191, hj0, b2i]; try omega) ls (lv_sub hl [2, 3, 4, 5] rfl)
                      · have h213 : ctB (gcP n pa ki x j) (n + 1) ≤ q.2 := nI_ngt (a := ctB (gcP n pa ki x j) (n + 1)) (b := q.2) c_213
                        refine lv_iconst (v := 1) hx hb dX2_keepsTree_216 (by decide) ?_
                        refine lv_goto (tgt := 221) hx hb dX2_keepsTree_217 (by decide) ?_
                        exact J221 _ _ (by have hj0 : ¬ j = 0 := (by omega); simp [tr2_succ, h109, grP, hq, h191, hj0, b2i]; try omega) ls (lv_sub hl [2, 3, 4, 5] rfl)
              · have h124 : k ≤ n := nI_ngt (a := k) (b := n) c_124; obtain ⟨hq1, hq2, hq3, hq4⟩ := hpa k hk1 h124
                have J168 : ∀ (v : Int32), v = nI (ctB (gcP n pa ki x j) (k + 1)) → ∀ ls : Array Slot, lv_has ls 6 [(5, .int (nI k)), (4, .int (nI (ctB (gcP n pa ki x j) k))), (3, .int (nI j)), (2, .int (b2i (tr2 n pa ki gr x j))), (0, .ref (a 0)), (1, .int (nI x))] → W p l e (rm_ 1 0 0 22) s m args below meth c s.heap [] 0 0 Q (F0 m 168 ls [.int (v)]) := by
                  intro v ev ls hl
                  subst ev
                  refine lv_istore (lv' := [(4, .int (nI (ctB (gcP n pa ki x j) (k + 1)))), (5, .int (nI k)), (3, .int (nI j)), (2, .int (b2i (tr2 n pa ki gr x j))), (0, .ref (a 0)), (1, .int (nI x))]) hx hb dX2_keepsTree_168 hl (by decide) rfl (fun ls hl => ?_)
                  refine lv_iinc (v := nI (k + 1)) (lv' := [(5, .int (nI (k + 1))), (4, .int (nI (ctB (gcP n pa ki x j) (k + 1)))), (3, .int (nI j)), (2, .int (b2i (tr2 n pa ki gr x j))), (0, .ref (a 0)), (1, .int (nI x))]) hx hb dX2_keepsTree_170 hl (k := 1) rfl (nI_1 k) (by decide) rfl (fun ls hl => ?_)
                  refine lv_goto (tgt := 118) hx hb dX2_keepsTree_173 (by decide) ?_
                  exact ih_118 (k + 1) _ _ (by omega) (by omega) (by omega) rfl rfl ls hl
                refine lv_aload_n hx hb dX2_keepsTree_127 rfl (lv_at hl 4 rfl) ?_
                refine va_get (D := gD G) (ci := 1) (v := .ref (a 1)) (C := RX2) (T := TX2) (N := 27) hx hb hts in_X2 hown hG.K hP 0 rfl rfl 1 (by decide) (hts _ q1154) (fun _ h9 => h9) rfl dX2_keepsTree_128 ?_
                refine lv_iload hx hb dX2_keepsTree_131 (lv_at hl 0 rfl) ?_
                refine ia_ld (j := k) hx hb hG.K hP 1 0 rfl rfl (by omega) (by decide) dX2_keepsTree_133 ?_
                refine top_i (y := nI (pa k)) (hq1) ?_
                refine lv_iload_n hx hb dX2_keepsTree_134 rfl (lv_at hl 2 rfl) ?_
                refine lv_icmp_ne (tgt := 166) hx hb dX2_keepsTree_135 (by decide) (fun c_135 => ?_) (fun c_135 => ?_)
                · have h135 : pa k ≠ j := nI_ne (a := pa k) (b := j) c_135
                  refine lv_iload hx hb dX2_keepsTree_166 (lv_at hl 1 rfl) ?_
                  exact J168 _ (by simp [ctB, gcP, gbP, nI_1, *]) ls hl
                · have h135 : pa k = j := nI_e (a := pa k) (b := j) c_135
                  refine lv_aload_n hx hb dX2_keepsTree_138 rfl (lv_at hl 4 rfl) ?_
                  refine va_get (D := gD G) (ci := 1) (v := .ref (a 2)) (C := RX2) (T := TX2) (N := 27) hx hb hts in_X2 hown hG.K hP 0 rfl rfl 2 (by decide) (hts _ q1155) (fun _ h9 => h9) rfl dX2_keepsTree_139 ?_
                  refine lv_iload hx hb dX2_keepsTree_142 (lv_at hl 0 rfl) ?_
                  refine ia_ld (j := k) hx hb hG.K hP 2 0 rfl rfl (by omega) (by decide) dX2_keepsTree_144 ?_
                  refine top_i (y := nI (ki k)) (hq2) ?_
                  refine lv_iconst (v := 2) hx hb dX2_keepsTree_145 (by decide) ?_
                  refine lv_icmp_ne (tgt := 166) hx hb dX2_keepsTree_146 (by decide) (fun c_146 => ?_) (fun c_146 => ?_)
                  · have h146 : ki k ≠ 2 := nI_ne (a := ki k) (b := 2) c_146
                    refine lv_iload hx hb dX2_keepsTree_166 (lv_at hl 1 rfl) ?_
                    exact J168 _ (by simp [ctB, gcP, gbP, nI_1, *]) ls hl
                  · have h146 : ki k = 2 := nI_e (a := ki k) (b := 2) c_146
                    refine lv_aload_n hx hb dX2_keepsTree_149 rfl (lv_at hl 4 rfl) ?_
                    refine lv_iload_n hx hb dX2_keepsTree_150 rfl (lv_at hl 5 rfl) ?_
                    refine lv_iload hx hb dX2_keepsTree_151 (lv_at hl 0 rfl) ?_
                    refine vp_callSi (W.runV (As := [.int (nI x), .int (nI k)]) (rest := []) ⟨hx, hb, hml, hown, hts⟩ (metX2_isIn l G a iv f n x (k) hn hn4 hx1 (by omega)) (cwV 2 hts (lw_V q1296 q1298 qs23 q36 q1299) rfl rfl rfl (by decide +kernel) ⟨Nat.le_of_ble_eq_true rfl, Nat.le_of_ble_eq_true rfl⟩) (pre_RV (q0 := 0) hG hP hS (fun _ h => h.elim) rfl rfl) rfl rfl hl.1 rfl (lv_room (Nat.le_of_ble_eq_true rfl)) dX2_keepsTree_153 ⟨Nat.le_refl _, Nat.le_refl _⟩) (fun r_153 e_153 => ?_)
                    subst e_153
                    refine lv_if_eq (tgt := 166) hx hb dX2_keepsTree_156 (by decide) (fun c_156 => ?_) (fun c_156 => ?_)
                    · have h156 : tb n x k = false := b2i_0.mp c_156
                      refine lv_iload hx hb dX2_keepsTree_166 (lv_at hl 1 rfl) ?_
                      exact J168 _ (by simp [ctB, gcP, gbP, nI_1, *]) ls hl
                    · have h156 : tb n x k = true := b2i_n0.mp c_156
                      refine lv_iload hx hb dX2_keepsTree_159 (lv_at hl 1 rfl) ?_
                      refine lv_iconst (v := 1) hx hb dX2_keepsTree_161 (by decide) ?_
                      refine lv_iadd hx hb dX2_keepsTree_162 ?_
                      refine lv_goto (tgt := 168) hx hb dX2_keepsTree_163 (by decide) ?_
                      exact J168 _ (by simp [ctB, gcP, gbP, nI_1, *]) ls hl
          refine lv_iconst (v := 0) hx hb dX2_keepsTree_112 (by decide) ?_
          refine lv_istore (lv' := [(4, .int (0)), (3, .int (nI j)), (2, .int (b2i (tr2 n pa ki gr x j))), (0, .ref (a 0)), (1, .int (nI x))]) hx hb dX2_keepsTree_113 hl (by decide) rfl (fun ls hl => ?_)
          refine lv_iconst (v := 1) hx hb dX2_keepsTree_115 (by decide) ?_
          refine lv_istore (lv' := [(5, .int (1)), (4, .int (0)), (3, .int (nI j)), (2, .int (b2i (tr2 n pa ki gr x j))), (0, .ref (a 0)), (1, .int (nI x))]) hx hb dX2_keepsTree_116 hl (by decide) rfl (fun ls hl => ?_)
          exact L118 (n + 2) 1 _ _ (by omega) (by omega) (by omega) rfl rfl ls hl
  have J98 : ∀ (v2 : Int32), v2 = b2i (tr1 n pa ki x (n + 1)) → ∀ ls : Array Slot, lv_has ls 6 [(2, .int (v2)), (0, .ref (a 0)), (1, .int (nI x))] → W p l e (rm_ 1 0 0 22) s m args below meth c s.heap [] 0 0 Q (F0 m 98 ls []) := by
    intro v2 e2 ls hl
    subst e2
    refine lv_iconst (v := 1) hx hb dX2_keepsTree_98 (by decide) ?_
    refine lv_istore_n (lv' := [(3, .int (1)), (2, .int (b2i (tr1 n pa ki x (n + 1)))), (0, .ref (a 0)), (1, .int (nI x))]) hx hb dX2_keepsTree_99 rfl hl (by decide) rfl (fun ls hl => ?_)
    exact L100 (n + 2) 1 _ _ (by omega) (by omega) (by omega) rfl (by simp [tr2, alB, grP]) ls hl
  have L24 : ∀ (d : Nat) (j : Nat) (v3 v2 : Int32), j ≤ n + 1 ∨ (n = 0 ∧ j = 2) → n + 3 ≤ j + d → 2 ≤ j → v3 = nI j → v2 = b2i (tr1 n pa ki x j) → ∀ ls : Array Slot, lv_has ls 6 [(3, .int (v3)), (2, .int (v2)), (0, .ref (a 0)), (1, .int (nI x))] → W p l e (rm_ 1 0 0 22) s m args below meth c s.heap [] 0 0 Q (F0 m 24 ls []) := by
    intro d
    induction d with
    | zero => intros; omega
    | succ d ih_24 =>
      intro j v3 v2 hj2 hd hj1 e3 e2 ls hl
      subst e3 e2
      refine lv_iload_n hx hb dX2_keepsTree_24 rfl (lv_at hl 0 rfl) ?_
      refine lv_aload_n hx hb dX2_keepsTree_25 rfl (lv_at hl 2 rfl) ?_
      refine va_get (D := gD G) (ci := 1) (v := .int (iv 7)) (C := RX2) (T := TX2) (N := 27) hx hb hts in_X2 hown hG.K hP 0 rfl rfl 7 (by decide) (hts _ q1160) (fun _ h9 => h9) rfl dX2_keepsTree_26 ?_
      refine top_i (y := nI n) (hn) ?_
      refine lv_icmp_gt (tgt := 98) hx hb dX2_keepsTree_29 (by decide) (fun c_29 => ?_) (fun c_29 => ?_)
      · have h29 : n < j := nI_gt (a := j) (b := n) c_29
        exact J98 _ (congrArg b2i (tr1_exit (by omega))) ls (lv_sub hl [1, 2, 3] rfl)
      · have h29 : j ≤ n := nI_ngt (a := j) (b := n) c_29; obtain ⟨hp1, hp2, hp3, hp4⟩ := hpa j (by omega) h29
        refine lv_iload_n hx hb dX2_keepsTree_32 rfl (lv_at hl 1 rfl) ?_
        refine lv_if_eq (tgt := 98) hx hb dX2_keepsTree_33 (by decide) (fun c_33 => ?_) (fun c_33 => ?_)
        · have h33 : tr1 n pa ki x j = false := b2i_0.mp c_33
          exact J98 _ (by rw [h33]; exact tr1_false h33 (by omega)) ls (lv_sub hl [1, 2, 3] rfl)
        · have h33 : tr1 n pa ki x j = true := b2i_n0.mp c_33
          have J91 : ∀ (v v4 v2 : Int32), v = b2i (tr1 n pa ki x (j + 1)) → ∀ ls : Array Slot, lv_has ls 6 [(4, .int (v4)), (3, .int (nI j)), (2, .int (v2)), (0, .ref (a 0)), (1, .int (nI x))] → W p l e (rm_ 1 0 0 22) s m args below meth c s.heap [] 0 0 Q (F0 m 91 ls [.int (v)]) := by
            intro v v4 v2 ev ls hl
            subst ev
            refine lv_istore_n (lv' := [(2, .int (b2i (tr1 n pa ki x (j + 1)))), (4, .int (v4)), (3, .int (nI j)), (0, .ref (a 0)), (1, .int (nI x))]) hx hb dX2_keepsTree_91 rfl hl (by decide) rfl (fun ls hl => ?_)
            refine lv_iinc (v := nI (j + 1)) (lv' := [(3, .int (nI (j + 1))), (2, .int (b2i (tr1 n pa ki x (j + 1)))), (4, .int (v4)), (0, .ref (a 0)), (1, .int (nI x))]) hx hb dX2_keepsTree_92 hl (k := 2) rfl (nI_1 j) (by decide) rfl (fun ls hl => ?_)
            refine lv_goto (tgt := 24) hx hb dX2_keepsTree_95 (by decide) ?_
            exact ih_24 (j + 1) _ _ (by omega) (by omega) (by omega) rfl rfl ls (lv_sub hl [0, 1, 3, 4] rfl)
          refine lv_aload_n hx hb dX2_keepsTree_36 rfl (lv_at hl 2 rfl) ?_
          refine lv_iload_n hx hb dX2_keepsTree_37 rfl (lv_at hl 3 rfl) ?_
          refine lv_aload_n hx hb dX2_keepsTree_38 rfl (lv_at hl 2 rfl) ?_
          refine va_get (D := gD G) (ci := 1) (v := .ref (a 1)) (C := RX2) (T := TX2) (N := 27) hx hb hts in_X2 hown hG.K hP 0 rfl rfl 1 (by decide) (hts _ q1154) (fun _ h9 => h9) rfl dX2_keepsTree_39 ?_
          refine lv_iload_n hx hb dX2_keepsTree_42 rfl (lv_at hl 0 rfl) ?_
          refine ia_ld (j := j) hx hb hG.K hP 1 0 rfl rfl (by omega) (by decide) dX2_keepsTree_43 ?_
          refine top_i (y := nI (pa j)) (hp1) ?_
          refine vp_callSi (W.runV (As := [.int (nI x), .int (nI (pa j))]) (rest := []) ⟨hx, hb, hml, hown, hts⟩ (metX2_isIn l G a iv f n x (pa j) hn hn4 hx1 (by omega)) (cwV 2 hts (lw_V q1296 q1298 qs23 q36 q1299) rfl rfl rfl (by decide +kernel) ⟨Nat.le_of_ble_eq_true rfl, Nat.le_of_ble_eq_true rfl⟩) (pre_RV (q0 := 0) hG hP hS (fun _ h => h.elim) rfl rfl) rfl rfl hl.1 rfl (lv_room (Nat.le_of_ble_eq_true rfl)) dX2_keepsTree_44 ⟨Nat.le_refl _, Nat.le_refl _⟩) (fun r_44 e_44 => ?_)
          subst e_44
          refine lv_istore (lv' := [(4, .int (b2i (tb n x (pa j)))), (3, .int (nI j)), (2, .int (b2i (tr1 n pa ki x j))), (0, .ref (a 0)), (1, .int (nI x))]) hx hb dX2_keepsTree_47 hl (by decide) rfl (fun ls hl => ?_)
          refine lv_iload hx hb dX2_keepsTree_49 (lv_at hl 0 rfl) ?_
          refine lv_if_ne (tgt := 63) hx hb dX2_keepsTree_51 (by decide) (fun c_51 => ?_) (fun c_51 => ?_)
          · have h51 : tb n x (pa j) = true := b2i_n0.mp c_51
            refine lv_aload_n hx hb dX2_keepsTree_63 rfl (lv_at hl 3 rfl) ?_
            refine va_get (D := gD G) (ci := 1) (v := .ref (a 2)) (C := RX2) (T := TX2) (N := 27) hx hb hts in_X2 hown hG.K hP 0 rfl rfl 2 (by decide) (hts _ q1155) (fun _ h9 => h9) rfl dX2_keepsTree_64 ?_
            refine lv_iload_n hx hb dX2_keepsTree_67 rfl (lv_at hl 1 rfl) ?_
            refine ia_ld (j := j) hx hb hG.K hP 2 0 rfl rfl (by omega) (by decide) dX2_keepsTree_68 ?_
            refine top_i (y := nI (ki j)) (hp2) ?_
            refine lv_if_ne (tgt := 86) hx hb dX2_keepsTree_69 (by decide) (fun c_69 => ?_) (fun c_69 => ?_)
            · have h69 : ki j ≠ 0 := nI_ne (a := ki j) (b := 0) c_69
              refine lv_iconst (v := 1) hx hb dX2_keepsTree_86 (by decide) ?_
              refine lv_goto (tgt := 91) hx hb dX2_keepsTree_87 (by decide) ?_
              exact J91 _ _ _ (by have hj0 : ¬ j < 2 := (by omega); first | (simp [tr1_succ, h33, trP, hj0, b2i, *]; done) | (exact absurd (h51.symm.trans h74) (by decide))) ls hl
            · have h69 : ki j = 0 := nI_e (a := ki j) (b := 0) c_69
              refine lv_iload hx hb dX2_keepsTree_72 (lv_at hl 0 rfl) ?_
              refine lv_if_eq (tgt := 86) hx hb dX2_keepsTree_74 (by decide) (fun c_74 => ?_) (fun c_74 => ?_)
              · have h74 : tb n x (pa j) = false := b2i_0.mp c_74
                refine lv_iconst (v := 1) hx hb dX2_keepsTree_86 (by decide) ?_
                refine lv_goto (tgt := 91) hx hb dX2_keepsTree_87 (by decide) ?_
                exact J91 _ _ _ (by have hj0 : ¬ j < 2 := (by omega); first | (simp [tr1_succ, h33, trP, hj0, b2i, *]; done) | (exact absurd (h51.symm.trans h74) (by decide))) ls hl
              · have h74 : tb n x (pa j) = true := b2i_n0.mp c_74
                refine lv_aload_n hx hb dX2_keepsTree_77 rfl (lv_at hl 3 rfl) ?_
                refine lv_iload_n hx hb dX2_keepsTree_78 rfl (lv_at hl 4 rfl) ?_
                refine lv_iload_n hx hb dX2_keepsTree_79 rfl (lv_at hl 1 rfl) ?_
                refine vp_callSi (W.runV (As := [.int (nI x), .int (nI j)]) (rest := []) ⟨hx, hb, hml, hown, hts⟩ (metX2_isIn l G a iv f n x (j) hn hn4 hx1 (by omega)) (cwV 2 hts (lw_V q1296 q1298 qs23 q36 q1299) rfl rfl rfl (by decide +kernel) ⟨Nat.le_of_ble_eq_true rfl, Nat.le_of_ble_eq_true rfl⟩) (pre_RV (q0 := 0) hG hP hS (fun _ h => h.elim) rfl rfl) rfl rfl hl.1 rfl (lv_room (Nat.le_of_ble_eq_true rfl)) dX2_keepsTree_80 ⟨Nat.le_refl _, Nat.le_refl _⟩) (fun r_80 e_80 => ?_)
                subst e_80
                refine lv_if_eq (tgt := 90) hx hb dX2_keepsTree_83 (by decide) (fun c_83 => ?_) (fun c_83 => ?_)
                · have h83 : tb n x j = false := b2i_0.mp c_83
                  refine lv_iconst (v := 0) hx hb dX2_keepsTree_90 (by decide) ?_
                  exact J91 _ _ _ (by have hj0 : ¬ j < 2 := (by omega); first | (simp [tr1_succ, h33, trP, hj0, b2i, *]; done) | (exact absurd (h51.symm.trans h74) (by decide))) ls hl
                · have h83 : tb n x j = true := b2i_n0.mp c_83
                  refine lv_iconst (v := 1) hx hb dX2_keepsTree_86 (by decide) ?_
                  refine lv_goto (tgt := 91) hx hb dX2_keepsTree_87 (by decide) ?_
                  exact J91 _ _ _ (by have hj0 : ¬ j < 2 := (by omega); first | (simp [tr1_succ, h33, trP, hj0, b2i, *]; done) | (exact absurd (h51.symm.trans h74) (by decide))) ls hl
          · have h51 : tb n x (pa j) = false := b2i_0.mp c_51
            refine lv_aload_n hx hb dX2_keepsTree_54 rfl (lv_at hl 3 rfl) ?_
            refine lv_iload_n hx hb dX2_keepsTree_55 rfl (lv_at hl 4 rfl) ?_
            refine lv_iload_n hx hb dX2_keepsTree_56 rfl (lv_at hl 1 rfl) ?_
            refine vp_callSi (W.runV (As := [.int (nI x), .int (nI j)]) (rest := []) ⟨hx, hb, hml, hown, hts⟩ (metX2_isIn l G a iv f n x (j) hn hn4 hx1 (by omega)) (cwV 2 hts (lw_V q1296 q1298 qs23 q36 q1299) rfl rfl rfl (by decide +kernel) ⟨Nat.le_of_ble_eq_true rfl, Nat.le_of_ble_eq_true rfl⟩) (pre_RV (q0 := 0) hG hP hS (fun _ h => h.elim) rfl rfl) rfl rfl hl.1 rfl (lv_room (Nat.le_of_ble_eq_true rfl)) dX2_keepsTree_57 ⟨Nat.le_refl _, Nat.le_refl _⟩) (fun r_57 e_57 => ?_)
            subst e_57
            refine lv_if_ne (tgt := 90) hx hb dX2_keepsTree_60 (by decide) (fun c_60 => ?_) (fun c_60 => ?_)
            · have h60 : tb n x j = true := b2i_n0.mp c_60
              refine lv_iconst (v := 0) hx hb dX2_keepsTree_90 (by decide) ?_
              exact J91 _ _ _ (by have hj0 : ¬ j < 2 := (by omega); first | (simp [tr1_succ, h33, trP, hj0, b2i, *]; done) | (exact absurd (h51.symm.trans h74) (by decide))) ls hl
            · have h60 : tb n x j = false := b2i_0.mp c_60
              refine lv_aload_n hx hb dX2_keepsTree_63 rfl (lv_at hl 3 rfl) ?_
              refine va_get (D := gD G) (ci := 1) (v := .ref (a 2)) (C := RX2) (T := TX2) (N := 27) hx hb hts in_X2 hown hG.K hP 0 rfl rfl 2 (by decide) (hts _ q1155) (fun _ h9 => h9) rfl dX2_keepsTree_64 ?_
              refine lv_iload_n hx hb dX2_keepsTree_67 rfl (lv_at hl 1 rfl) ?_
              refine ia_ld (j := j) hx hb hG.K hP 2 0 rfl rfl (by omega) (by decide) dX2_keepsTree_68 ?_
              refine top_i (y := nI (ki j)) (hp2) ?_
              refine lv_if_ne (tgt := 86) hx hb dX2_keepsTree_69 (by decide) (fun c_69 => ?_) (fun c_69 => ?_)
              · have h69 : ki j ≠ 0 := nI_ne (a := ki j) (b := 0) c_69
                refine lv_iconst (v := 1) hx hb dX2_keepsTree_86 (by decide) ?_
                refine lv_goto (tgt := 91) hx hb dX2_keepsTree_87 (by decide) ?_
                exact J91 _ _ _ (by have hj0 : ¬ j < 2 := (by omega); first | (simp [tr1_succ, h33, trP, hj0, b2i, *]; done) | (exact absurd (h51.symm.trans h74) (by decide))) ls hl
              · have h69 : ki j = 0 := nI_e (a := ki j) (b := 0) c_69
                refine lv_iload hx hb dX2_keepsTree_72 (lv_at hl 0 rfl) ?_
                refine lv_if_eq (tgt := 86) hx hb dX2_keepsTree_74 (by decide) (fun c_74 => ?_) (fun c_74 => ?_)
                · have h74 : tb n x (pa j) = false := b2i_0.mp c_74
                  refine lv_iconst (v := 1) hx hb dX2_keepsTree_86 (by decide) ?_
                  refine lv_goto (tgt := 91) hx hb dX2_keepsTree_87 (by decide) ?_
                  exact J91 _ _ _ (by have hj0 : ¬ j < 2 := (by omega); first | (simp [tr1_succ, h33, trP, hj0, b2i, *]; done) | (exact absurd (h51.symm.trans h74) (by decide))) ls hl
                · have h74 : tb n x (pa j) = true := b2i_n0.mp c_74
                  refine lv_aload_n hx hb dX2_keepsTree_77 rfl (lv_at hl 3 rfl) ?_
                  refine lv_iload_n hx hb dX2_keepsTree_78 rfl (lv_at hl 4 rfl) ?_
                  refine lv_iload_n hx hb dX2_keepsTree_79 rfl (lv_at hl 1 rfl) ?_
                  refine vp_callSi (W.runV (As := [.int (nI x), .int (nI j)]) (rest := []) ⟨hx, hb, hml, hown, hts⟩ (metX2_isIn l G a iv f n x (j) hn hn4 hx1 (by omega)) (cwV 2 hts (lw_V q1296 q1298 qs23 q36 q1299) rfl rfl rfl (by decide +kernel) ⟨Nat.le_of_ble_eq_true rfl, Nat.le_of_ble_eq_true rfl⟩) (pre_RV (q0 := 0) hG hP hS (fun _ h => h.elim) rfl rfl) rfl rfl hl.1 rfl (lv_room (Nat.le_of_ble_eq_true rfl)) dX2_keepsTree_80 ⟨Nat.le_refl _, Nat.le_refl _⟩) (fun r_80 e_80 => ?_)
                  subst e_80
                  refine lv_if_eq (tgt := 90) hx hb dX2_keepsTree_83 (by decide) (fun c_83 => ?_) (fun c_83 => ?_)
                  · have h83 : tb n x j = false := b2i_0.mp c_83
                    refine lv_iconst (v := 0) hx hb dX2_keepsTree_90 (by decide) ?_
                    exact J91 _ _ _ (by have hj0 : ¬ j < 2 := (by omega); first | (simp [tr1_succ, h33, trP, hj0, b2i, *]; done) | (exact absurd (h51.symm.trans h74) (by decide))) ls hl
                  · have h83 : tb n x j = true := b2i_n0.mp c_83
                    refine lv_iconst (v := 1) hx hb dX2_keepsTree_86 (by decide) ?_
                    refine lv_goto (tgt := 91) hx hb dX2_keepsTree_87 (by decide) ?_
                    exact J91 _ _ _ (by have hj0 : ¬ j < 2 := (by omega); first | (simp [tr1_succ, h33, trP, hj0, b2i, *]; done) | (exact absurd (h51.symm.trans h74) (by decide))) ls hl
  have J21 : ∀ (v : Int32), v = b2i (decide (n = 0) || tb n x 1) → ∀ ls : Array Slot, lv_has ls 6 [(0, .ref (a 0)), (1, .int (nI x))] → W p l e (rm_ 1 0 0 22) s m args below meth c s.heap [] 0 0 Q (F0 m 21 ls [.int (v)]) := by
    intro v ev ls hl
    subst ev
    refine lv_istore_n (lv' := [(2, .int (b2i (decide (n = 0) || tb n x 1))), (0, .ref (a 0)), (1, .int (nI x))]) hx hb dX2_keepsTree_21 rfl hl (by decide) rfl (fun ls hl => ?_)
    refine lv_iconst (v := 2) hx hb dX2_keepsTree_22 (by decide) ?_
    refine lv_istore_n (lv' := [(3, .int (2)), (2, .int (b2i (decide (n = 0) || tb n x 1))), (0, .ref (a 0)), (1, .int (nI x))]) hx hb dX2_keepsTree_23 rfl hl (by decide) rfl (fun ls hl => ?_)
    exact L24 (n + 3) 2 _ _ (by omega) (by omega) (by omega) rfl (by simp [tr1, alB, trP]) ls hl
  refine lv_aload_n hx hb dX2_keepsTree_0 rfl (lv_at hl 0 rfl) ?_
  refine va_get (D := gD G) (ci := 1) (v := .int (iv 7)) (C := RX2) (T := TX2) (N := 27) hx hb hts in_X2 hown hG.K hP 0 rfl rfl 7 (by decide) (hts _ q1160) (fun _ h9 => h9) rfl dX2_keepsTree_1 ?_
  refine top_i (y := nI n) (hn) ?_
  refine lv_if_eq (tgt := 16) hx hb dX2_keepsTree_4 (by decide) (fun c_4 => ?_) (fun c_4 => ?_)
  · have h4 : n = 0 := nI_e (a := n) (b := 0) c_4
    refine lv_iconst (v := 1) hx hb dX2_keepsTree_16 (by decide) ?_
    refine lv_goto (tgt := 21) hx hb dX2_keepsTree_17 (by decide) ?_
    exact J21 _ (by simp [b2i, *]) ls hl
  · have h4 : n ≠ 0 := nI_ne (a := n) (b := 0) c_4
    refine lv_aload_n hx hb dX2_keepsTree_7 rfl (lv_at hl 0 rfl) ?_
    refine lv_iload_n hx hb dX2_keepsTree_8 rfl (lv_at hl 1 rfl) ?_
    refine lv_iconst (v := 1) hx hb dX2_keepsTree_9 (by decide) ?_
    refine vp_callSi (W.runV (As := [.int (nI x), .int (1)]) (rest := []) ⟨hx, hb, hml, hown, hts⟩ (metX2_isIn l G a iv f n x (1) hn hn4 hx1 (by omega)) (cwV 2 hts (lw_V q1296 q1298 qs23 q36 q1299) rfl rfl rfl (by decide +kernel) ⟨Nat.le_of_ble_eq_true rfl, Nat.le_of_ble_eq_true rfl⟩) (pre_RV (q0 := 0) hG hP hS (fun _ h => h.elim) rfl rfl) rfl rfl hl.1 rfl (lv_room (Nat.le_of_ble_eq_true rfl)) dX2_keepsTree_10 ⟨Nat.le_refl _, Nat.le_refl _⟩) (fun r_10 e_10 => ?_)
    subst e_10
    refine lv_if_eq (tgt := 20) hx hb dX2_keepsTree_13 (by decide) (fun c_13 => ?_) (fun c_13 => ?_)
    · have h13 : tb n x 1 = false := b2i_0.mp c_13
      refine lv_iconst (v := 0) hx hb dX2_keepsTree_20 (by decide) ?_
      exact J21 _ (by simp [b2i, *]) ls hl
    · have h13 : tb n x 1 = true := b2i_n0.mp c_13
      refine lv_iconst (v := 1) hx hb dX2_keepsTree_16 (by decide) ?_
      refine lv_goto (tgt := 21) hx hb dX2_keepsTree_17 (by decide) ?_
      exact J21 _ (by simp [b2i, *]) ls hl
