/-! the law's cases: one call of the class against one of the reference -/
abbrev lawA (s : State) : Nat → Prop := fun q => s.heap.size ≤ q
def LC (p : Program) (l : Launch) (s : State) (m : MethodId) (c : Code) (b L : Nat) (xs : Nat → Int32) (G : Gt) : Prop :=
  p.tables.exec = Jvm.exec ∧ c.code = cL_law ∧ c.maxLocals = 7 ∧ s.vm.findClass RX0 = some m.cls ∧ (∀ w ∈ lw_all, w.before #[Value.ref b] s = true) ∧ va_X b L xs s s.heap ∧ b < s.heap.size ∧ GG G s ∧ gz G = s.heap.size ∧ L ≤ 192 ∧ l.stackTraces = false
/-- the law's world against a state: the object, the reference, the law's own long -/
def LI (G : Gt) (s : State) (x : Nat) (a : Nat → Nat) (o : Nat) (S : St) (H : Heap) (locs : List Loc) : Prop :=
  ∃ (wF wM1 : va_W) (f : Nat → Int64), WS S ∧ FW G x S wF ∧ MW G a S wM1 ∧ wP G (wF ++ (wM1 ++ [loC G o f])) H ∧ va_D (lawA s) (wF ++ (wM1 ++ [loC G o f])) ∧ va_S (lawA s) s.heap H locs
theorem nI_add (i j : Nat) : nI i + nI j = nI (i + j) := (Int32.ofNat_add i j).symm
theorem in_k {k j L : Nat} {z : Int32} (hz : z = nI j) (h : 4 * k + j < L) (hL : L ≤ 192) : vp_in (nI (4 * k) + z) L := by
  rw [hz, nI_add]
  exact vp_in_nI h (by omega)
theorem in_0 {k L : Nat} (h : 4 * k < L) (hL : L ≤ 192) : vp_in (nI (4 * k)) L := vp_in_nI h (by omega)
theorem lg_self (v : Int64) : lg_cmp v v = 0 := by simp [lg_cmp]
set_option maxHeartbeats 4000000 in
set_option maxRecDepth 100000 in
theorem law_c0 {p : Program} {l : Launch} {e : Env} {s : State} {m : MethodId} {below : List Frame} {meth : Method} {c : Code} {b L : Nat} {xs : Nat → Int32} {G : Gt} {Q : State → Prop} (C : LC p l s m c b L xs G) {k : Nat} (hk : 4 * k + 3 < L) {x o : Nat} {a : Nat → Nat} {S : St} {H : Heap} {locs : List Loc} (hI : LI G s x a o S H locs) {cells slots : Nat} (hc : cells + 300 ≤ 600288) (hs : slots + 46000 ≤ 7293706)
    (K : ∀ (S' : St) (H' : Heap) (locs' : List Loc) (ls' : Array Slot), LI G s x a o S' H' locs' → lv_has ls' 7 [(0, .ref (b)), (1, .ref (x)), (2, .ref (a 0)), (3, .ref (o)), (4, .int (nI (4 * k)))] → W p l e room_1 s m #[Value.ref b] below meth c H' locs' (cells + 300) (slots + 46000) Q (F0 m 588 ls' []))
    {ls : Array Slot} (hl : lv_has ls 7 [(0, .ref (b)), (1, .ref (x)), (2, .ref (a 0)), (3, .ref (o)), (4, .int (nI (4 * k)))]) : W p l e room_1 s m #[Value.ref b] below meth c H locs cells slots Q (F0 m 100 ls []) := by
  obtain ⟨hx, hb, hml, hown, hts, hX, hbl, hG, hgz, hL, hfl⟩ := C
  obtain ⟨wF, _, f, hW, hF, ⟨iv, mf, rfl, hM⟩, hP, hD, hS⟩ := hI
  have hA : ∀ q, s.heap.size ≤ q → lawA s q := fun _ h => h
  have hA0 : ∀ q, lawA s q → gz G ≤ q := fun q h => by rw [hgz]; exact h
  have hbA : ¬ lawA s b := Nat.not_le.mpr hbl
  refine lv_aload_n hx hb dL_law_100 rfl (lv_at hl 1 rfl) ?_
  refine lv_aload_n hx hb dL_law_101 rfl (lv_at hl 0 rfl) ?_
  refine lv_iload hx hb dL_law_102 (lv_at hl 4 rfl) ?_
  refine lv_iconst (v := 1) hx hb dL_law_104 (by decide) ?_
  refine lv_iadd hx hb dL_law_105 ?_
  refine va_sld hx hb hX hbl hbA hS (in_k (j := 1) rfl (by omega) hL) dL_law_106 ?_
  refine lv_aload_n hx hb dL_law_107 rfl (lv_at hl 0 rfl) ?_
  refine lv_iload hx hb dL_law_108 (lv_at hl 4 rfl) ?_
  refine lv_iconst (v := 2) hx hb dL_law_110 (by decide) ?_
  refine lv_iadd hx hb dL_law_111 ?_
  refine va_sld hx hb hX hbl hbA hS (in_k (j := 2) rfl (by omega) hL) dL_law_112 ?_
  refine cl_i (wr := wM G a iv mf ++ [loC G o f]) (va_runV (As := [.int (xs ((nI (4 * k)) + (1)).toNatClampNeg), .int (xs ((nI (4 * k)) + (2)).toNatClampNeg)]) (rest := []) ⟨hx, hb, hml, hown, hts⟩ (FW_feature l G x S wF hF hW (xs ((nI (4 * k)) + (1)).toNatClampNeg) (xs ((nI (4 * k)) + (2)).toNatClampNeg) _) (cwV 2 hts (lw_V q210 q211 q212 q29 q213) rfl rfl rfl (by decide +kernel) ⟨Nat.le_of_ble_eq_true rfl, Nat.le_of_ble_eq_true rfl⟩) ⟨PcW.blind, hF.recv hG hP (fun q h => List.mem_append_left _ h), (pre_WS (As := [.ref (x), .int (xs ((nI (4 * k)) + (1)).toNatClampNeg), .int (xs ((nI (4 * k)) + (2)).toNatClampNeg)]) hG hP hD hS hA0).2⟩ rfl rfl hl.1 rfl (lv_room (Nat.le_of_ble_eq_true rfl)) dL_law_113 ⟨(by show _ ≤ 600288; omega), (by show _ ≤ 7293706; omega)⟩) hP hD hS hA (fun r_113 wF1 H locs hp hP hD hS => ?_)
  obtain ⟨rfl, hF⟩ := hp
  refine lv_aload_n hx hb dL_law_116 rfl (lv_at hl 2 rfl) ?_
  refine lv_aload_n hx hb dL_law_117 rfl (lv_at hl 0 rfl) ?_
  refine lv_iload hx hb dL_law_118 (lv_at hl 4 rfl) ?_
  refine lv_iconst (v := 1) hx hb dL_law_120 (by decide) ?_
  refine lv_iadd hx hb dL_law_121 ?_
  refine va_sld hx hb hX hbl hbA hS (in_k (j := 1) rfl (by omega) hL) dL_law_122 ?_
  refine lv_aload_n hx hb dL_law_123 rfl (lv_at hl 0 rfl) ?_
  refine lv_iload hx hb dL_law_124 (lv_at hl 4 rfl) ?_
  refine lv_iconst (v := 2) hx hb dL_law_126 (by decide) ?_
  refine lv_iadd hx hb dL_law_127 ?_
  refine va_sld hx hb hX hbl hbA hS (in_k (j := 2) rfl (by omega) hL) dL_law_128 ?_
  have hP := wP.perm (w' := wM G a iv mf ++ (wF1 ++ [loC G o f])) hP (List.perm_append_comm_assoc _ _ _)
  have hD := va_D.perm (w' := wM G a iv mf ++ (wF1 ++ [loC G o f])) hD (List.perm_append_comm_assoc _ _ _)
  refine cl_i (wr := wF1 ++ [loC G o f]) (va_runV (As := [.int (xs ((nI (4 * k)) + (1)).toNatClampNeg), .int (xs ((nI (4 * k)) + (2)).toNatClampNeg)]) (rest := [.int ((stFeature S (xs ((nI (4 * k)) + (1)).toNatClampNeg) (xs ((nI (4 * k)) + (2)).toNatClampNeg)).1)]) ⟨hx, hb, hml, hown, hts⟩ (metX2_feature l G a iv mf S hW hM (xs ((nI (4 * k)) + (1)).toNatClampNeg) (xs ((nI (4 * k)) + (2)).toNatClampNeg) _) (cwV 2 hts (lw_V q1240 q1241 q1242 q36 q1243) rfl rfl rfl (by decide +kernel) ⟨Nat.le_of_ble_eq_true rfl, Nat.le_of_ble_eq_true rfl⟩) (pre_WV (q0 := 0) hG hP hD hS hA0 rfl rfl) rfl rfl hl.1 rfl (lv_room (Nat.le_of_ble_eq_true rfl)) dL_law_129 ⟨(by show _ ≤ 600288; omega), (by show _ ≤ 7293706; omega)⟩) hP hD hS hA (fun r_129 wM1 H locs hp hP hD hS => ?_)
  obtain ⟨rfl, hM1⟩ := hp
  have hP := wP.perm (w' := wF1 ++ (wM1 ++ [loC G o f])) hP (List.perm_append_comm_assoc _ _ _)
  have hD := va_D.perm (w' := wF1 ++ (wM1 ++ [loC G o f])) hD (List.perm_append_comm_assoc _ _ _)
  refine lv_icmp_eq (tgt := 588) hx hb dL_law_132 (by decide) (fun _ => ?_) (fun c9 => absurd rfl c9)
  refine W.widen (k := cells + 300) (n := slots + 46000) (by omega) (by omega) ?_
  exact K _ _ _ _ ⟨_, _, _, WS_feature hW _ _, hF, hM1, hP, hD, hS⟩ hl
set_option maxHeartbeats 4000000 in
set_option maxRecDepth 100000 in
theorem law_c1 {p : Program} {l : Launch} {e : Env} {s : State} {m : MethodId} {below : List Frame} {meth : Method} {c : Code} {b L : Nat} {xs : Nat → Int32} {G : Gt} {Q : State → Prop} (C : LC p l s m c b L xs G) {k : Nat} (hk : 4 * k + 3 < L) {x o : Nat} {a : Nat → Nat} {S : St} {H : Heap} {locs : List Loc} (hI : LI G s x a o S H locs) {cells slots : Nat} (hc : cells + 300 ≤ 600288) (hs : slots + 46000 ≤ 7293706)
    (K : ∀ (S' : St) (H' : Heap) (locs' : List Loc) (ls' : Array Slot), LI G s x a o S' H' locs' → lv_has ls' 7 [(0, .ref (b)), (1, .ref (x)), (2, .ref (a 0)), (3, .ref (o)), (4, .int (nI (4 * k)))] → W p l e room_1 s m #[Value.ref b] below meth c H' locs' (cells + 300) (slots + 46000) Q (F0 m 588 ls' []))
    {ls : Array Slot} (hl : lv_has ls 7 [(0, .ref (b)), (1, .ref (x)), (2, .ref (a 0)), (3, .ref (o)), (4, .int (nI (4 * k)))]) : W p l e room_1 s m #[Value.ref b] below meth c H locs cells slots Q (F0 m 137 ls []) := by
  obtain ⟨hx, hb, hml, hown, hts, hX, hbl, hG, hgz, hL, hfl⟩ := C
  obtain ⟨wF, _, f, hW, hF, ⟨iv, mf, rfl, hM⟩, hP, hD, hS⟩ := hI
  have hA : ∀ q, s.heap.size ≤ q → lawA s q := fun _ h => h
  have hA0 : ∀ q, lawA s q → gz G ≤ q := fun q h => by rw [hgz]; exact h
  have hbA : ¬ lawA s b := Nat.not_le.mpr hbl
  refine lv_aload_n hx hb dL_law_137 rfl (lv_at hl 1 rfl) ?_
  refine lv_aload_n hx hb dL_law_138 rfl (lv_at hl 0 rfl) ?_
  refine lv_iload hx hb dL_law_139 (lv_at hl 4 rfl) ?_
  refine lv_iconst (v := 1) hx hb dL_law_141 (by decide) ?_
  refine lv_iadd hx hb dL_law_142 ?_
  refine va_sld hx hb hX hbl hbA hS (in_k (j := 1) rfl (by omega) hL) dL_law_143 ?_
  refine lv_aload_n hx hb dL_law_144 rfl (lv_at hl 0 rfl) ?_
  refine lv_iload hx hb dL_law_145 (lv_at hl 4 rfl) ?_
  refine lv_iconst (v := 2) hx hb dL_law_147 (by decide) ?_
  refine lv_iadd hx hb dL_law_148 ?_
  refine va_sld hx hb hX hbl hbA hS (in_k (j := 2) rfl (by omega) hL) dL_law_149 ?_
  refine lv_aload_n hx hb dL_law_150 rfl (lv_at hl 0 rfl) ?_
  refine lv_iload hx hb dL_law_151 (lv_at hl 4 rfl) ?_
  refine lv_iconst (v := 3) hx hb dL_law_153 (by decide) ?_
  refine lv_iadd hx hb dL_law_154 ?_
  refine va_sld hx hb hX hbl hbA hS (in_k (j := 3) rfl (by omega) hL) dL_law_155 ?_
  refine cl_i (wr := wM G a iv mf ++ [loC G o f]) (va_runV (As := [.int (xs ((nI (4 * k)) + (1)).toNatClampNeg), .int (xs ((nI (4 * k)) + (2)).toNatClampNeg), .int (xs ((nI (4 * k)) + (3)).toNatClampNeg)]) (rest := []) ⟨hx, hb, hml, hown, hts⟩ (FW_group l G x S wF hF hW (xs ((nI (4 * k)) + (1)).toNatClampNeg) (xs ((nI (4 * k)) + (2)).toNatClampNeg) (xs ((nI (4 * k)) + (3)).toNatClampNeg) _) (cwV 3 hts (lw_V q225 q226 q227 q29 q228) rfl rfl rfl (by decide +kernel) ⟨Nat.le_of_ble_eq_true rfl, Nat.le_of_ble_eq_true rfl⟩) ⟨PcW.blind, hF.recv hG hP (fun q h => List.mem_append_left _ h), (pre_WS (As := [.ref (x), .int (xs ((nI (4 * k)) + (1)).toNatClampNeg), .int (xs ((nI (4 * k)) + (2)).toNatClampNeg), .int (xs ((nI (4 * k)) + (3)).toNatClampNeg)]) hG hP hD hS hA0).2⟩ rfl rfl hl.1 rfl (lv_room (Nat.le_of_ble_eq_true rfl)) dL_law_156 ⟨(by show _ ≤ 600288; omega), (by show _ ≤ 7293706; omega)⟩) hP hD hS hA (fun r_156 wF1 H locs hp hP hD hS => ?_)
  obtain ⟨rfl, hF⟩ := hp
  refine lv_aload_n hx hb dL_law_159 rfl (lv_at hl 2 rfl) ?_
  refine lv_aload_n hx hb dL_law_160 rfl (lv_at hl 0 rfl) ?_
  refine lv_iload hx hb dL_law_161 (lv_at hl 4 rfl) ?_
  refine lv_iconst (v := 1) hx hb dL_law_163 (by decide) ?_
  refine lv_iadd hx hb dL_law_164 ?_
  refine va_sld hx hb hX hbl hbA hS (in_k (j := 1) rfl (by omega) hL) dL_law_165 ?_
  refine lv_aload_n hx hb dL_law_166 rfl (lv_at hl 0 rfl) ?_
  refine lv_iload hx hb dL_law_167 (lv_at hl 4 rfl) ?_
  refine lv_iconst (v := 2) hx hb dL_law_169 (by decide) ?_
  refine lv_iadd hx hb dL_law_170 ?_
  refine va_sld hx hb hX hbl hbA hS (in_k (j := 2) rfl (by omega) hL) dL_law_171 ?_
  refine lv_aload_n hx hb dL_law_172 rfl (lv_at hl 0 rfl) ?_
  refine lv_iload hx hb dL_law_173 (lv_at hl 4 rfl) ?_
  refine lv_iconst (v := 3) hx hb dL_law_175 (by decide) ?_
  refine lv_iadd hx hb dL_law_176 ?_
  refine va_sld hx hb hX hbl hbA hS (in_k (j := 3) rfl (by omega) hL) dL_law_177 ?_
  have hP := wP.perm (w' := wM G a iv mf ++ (wF1 ++ [loC G o f])) hP (List.perm_append_comm_assoc _ _ _)
  have hD := va_D.perm (w' := wM G a iv mf ++ (wF1 ++ [loC G o f])) hD (List.perm_append_comm_assoc _ _ _)
  refine cl_i (wr := wF1 ++ [loC G o f]) (va_runV (As := [.int (xs ((nI (4 * k)) + (1)).toNatClampNeg), .int (xs ((nI (4 * k)) + (2)).toNatClampNeg), .int (xs ((nI (4 * k)) + (3)).toNatClampNeg)]) (rest := [.int ((stGroup S (xs ((nI (4 * k)) + (1)).toNatClampNeg) (xs ((nI (4 * k)) + (2)).toNatClampNeg) (xs ((nI (4 * k)) + (3)).toNatClampNeg)).1)]) ⟨hx, hb, hml, hown, hts⟩ (metX2_group l G a iv mf S hW hM (xs ((nI (4 * k)) + (1)).toNatClampNeg) (xs ((nI (4 * k)) + (2)).toNatClampNeg) (xs ((nI (4 * k)) + (3)).toNatClampNeg) _) (cwV 3 hts (lw_V q1248 q1249 q1250 q36 q1251) rfl rfl rfl (by decide +kernel) ⟨Nat.le_of_ble_eq_true rfl, Nat.le_of_ble_eq_true rfl⟩) (pre_WV (q0 := 0) hG hP hD hS hA0 rfl rfl) rfl rfl hl.1 rfl (lv_room (Nat.le_of_ble_eq_true rfl)) dL_law_178 ⟨(by show _ ≤ 600288; omega), (by show _ ≤ 7293706; omega)⟩) hP hD hS hA (fun r_178 wM1 H locs hp hP hD hS => ?_)
  obtain ⟨rfl, hM1⟩ := hp
  have hP := wP.perm (w' := wF1 ++ (wM1 ++ [loC G o f])) hP (List.perm_append_comm_assoc _ _ _)
  have hD := va_D.perm (w' := wF1 ++ (wM1 ++ [loC G o f])) hD (List.perm_append_comm_assoc _ _ _)
  refine lv_icmp_eq (tgt := 588) hx hb dL_law_181 (by decide) (fun _ => ?_) (fun c9 => absurd rfl c9)
  refine W.widen (k := cells + 300) (n := slots + 46000) (by omega) (by omega) ?_
  exact K _ _ _ _ ⟨_, _, _, WS_group hW _ _ _, hF, hM1, hP, hD, hS⟩ hl
set_option maxHeartbeats 4000000 in
set_option maxRecDepth 100000 in
theorem law_c2 {p : Program} {l : Launch} {e : Env} {s : State} {m : MethodId} {below : List Frame} {meth : Method} {c : Code} {b L : Nat} {xs : Nat → Int32} {G : Gt} {Q : State → Prop} (C : LC p l s m c b L xs G) {k : Nat} (hk : 4 * k + 3 < L) {x o : Nat} {a : Nat → Nat} {S : St} {H : Heap} {locs : List Loc} (hI : LI G s x a o S H locs) {cells slots : Nat} (hc : cells + 300 ≤ 600288) (hs : slots + 46000 ≤ 7293706)
    (K : ∀ (S' : St) (H' : Heap) (locs' : List Loc) (ls' : Array Slot), LI G s x a o S' H' locs' → lv_has ls' 7 [(0, .ref (b)), (1, .ref (x)), (2, .ref (a 0)), (3, .ref (o)), (4, .int (nI (4 * k)))] → W p l e room_1 s m #[Value.ref b] below meth c H' locs' (cells + 300) (slots + 46000) Q (F0 m 588 ls' []))
    {ls : Array Slot} (hl : lv_has ls 7 [(0, .ref (b)), (1, .ref (x)), (2, .ref (a 0)), (3, .ref (o)), (4, .int (nI (4 * k)))]) : W p l e room_1 s m #[Value.ref b] below meth c H locs cells slots Q (F0 m 186 ls []) := by
  obtain ⟨hx, hb, hml, hown, hts, hX, hbl, hG, hgz, hL, hfl⟩ := C
  obtain ⟨wF, _, f, hW, hF, ⟨iv, mf, rfl, hM⟩, hP, hD, hS⟩ := hI
  have hA : ∀ q, s.heap.size ≤ q → lawA s q := fun _ h => h
  have hA0 : ∀ q, lawA s q → gz G ≤ q := fun q h => by rw [hgz]; exact h
  have hbA : ¬ lawA s b := Nat.not_le.mpr hbl
  refine lv_aload_n hx hb dL_law_186 rfl (lv_at hl 1 rfl) ?_
  refine lv_aload_n hx hb dL_law_187 rfl (lv_at hl 0 rfl) ?_
  refine lv_iload hx hb dL_law_188 (lv_at hl 4 rfl) ?_
  refine lv_iconst (v := 1) hx hb dL_law_190 (by decide) ?_
  refine lv_iadd hx hb dL_law_191 ?_
  refine va_sld hx hb hX hbl hbA hS (in_k (j := 1) rfl (by omega) hL) dL_law_192 ?_
  refine lv_aload_n hx hb dL_law_193 rfl (lv_at hl 0 rfl) ?_
  refine lv_iload hx hb dL_law_194 (lv_at hl 4 rfl) ?_
  refine lv_iconst (v := 2) hx hb dL_law_196 (by decide) ?_
  refine lv_iadd hx hb dL_law_197 ?_
  refine va_sld hx hb hX hbl hbA hS (in_k (j := 2) rfl (by omega) hL) dL_law_198 ?_
  refine lv_aload_n hx hb dL_law_199 rfl (lv_at hl 0 rfl) ?_
  refine lv_iload hx hb dL_law_200 (lv_at hl 4 rfl) ?_
  refine lv_iconst (v := 3) hx hb dL_law_202 (by decide) ?_
  refine lv_iadd hx hb dL_law_203 ?_
  refine va_sld hx hb hX hbl hbA hS (in_k (j := 3) rfl (by omega) hL) dL_law_204 ?_
  refine cl_i (wr := wM G a iv mf ++ [loC G o f]) (va_runV (As := [.int (xs ((nI (4 * k)) + (1)).toNatClampNeg), .int (xs ((nI (4 * k)) + (2)).toNatClampNeg), .int (xs ((nI (4 * k)) + (3)).toNatClampNeg)]) (rest := []) ⟨hx, hb, hml, hown, hts⟩ (FW_formula l G x S wF hF hW (xs ((nI (4 * k)) + (1)).toNatClampNeg) (xs ((nI (4 * k)) + (2)).toNatClampNeg) (xs ((nI (4 * k)) + (3)).toNatClampNeg) _) (cwV 3 hts (lw_V q242 q243 q244 q29 q245) rfl rfl rfl (by decide +kernel) ⟨Nat.le_of_ble_eq_true rfl, Nat.le_of_ble_eq_true rfl⟩) ⟨PcW.blind, hF.recv hG hP (fun q h => List.mem_append_left _ h), (pre_WS (As := [.ref (x), .int (xs ((nI (4 * k)) + (1)).toNatClampNeg), .int (xs ((nI (4 * k)) + (2)).toNatClampNeg), .int (xs ((nI (4 * k)) + (3)).toNatClampNeg)]) hG hP hD hS hA0).2⟩ rfl rfl hl.1 rfl (lv_room (Nat.le_of_ble_eq_true rfl)) dL_law_205 ⟨(by show _ ≤ 600288; omega), (by show _ ≤ 7293706; omega)⟩) hP hD hS hA (fun r_205 wF1 H locs hp hP hD hS => ?_)
  obtain ⟨rfl, hF⟩ := hp
  refine lv_aload_n hx hb dL_law_208 rfl (lv_at hl 2 rfl) ?_
  refine lv_aload_n hx hb dL_law_209 rfl (lv_at hl 0 rfl) ?_
  refine lv_iload hx hb dL_law_210 (lv_at hl 4 rfl) ?_
  refine lv_iconst (v := 1) hx hb dL_law_212 (by decide) ?_
  refine lv_iadd hx hb dL_law_213 ?_
  refine va_sld hx hb hX hbl hbA hS (in_k (j := 1) rfl (by omega) hL) dL_law_214 ?_
  refine lv_aload_n hx hb dL_law_215 rfl (lv_at hl 0 rfl) ?_
  refine lv_iload hx hb dL_law_216 (lv_at hl 4 rfl) ?_
  refine lv_iconst (v := 2) hx hb dL_law_218 (by decide) ?_
  refine lv_iadd hx hb dL_law_219 ?_
  refine va_sld hx hb hX hbl hbA hS (in_k (j := 2) rfl (by omega) hL) dL_law_220 ?_
  refine lv_aload_n hx hb dL_law_221 rfl (lv_at hl 0 rfl) ?_
  refine lv_iload hx hb dL_law_222 (lv_at hl 4 rfl) ?_
  refine lv_iconst (v := 3) hx hb dL_law_224 (by decide) ?_
  refine lv_iadd hx hb dL_law_225 ?_
  refine va_sld hx hb hX hbl hbA hS (in_k (j := 3) rfl (by omega) hL) dL_law_226 ?_
  have hP := wP.perm (w' := wM G a iv mf ++ (wF1 ++ [loC G o f])) hP (List.perm_append_comm_assoc _ _ _)
  have hD := va_D.perm (w' := wM G a iv mf ++ (wF1 ++ [loC G o f])) hD (List.perm_append_comm_assoc _ _ _)
  refine cl_i (wr := wF1 ++ [loC G o f]) (va_runV (As := [.int (xs ((nI (4 * k)) + (1)).toNatClampNeg), .int (xs ((nI (4 * k)) + (2)).toNatClampNeg), .int (xs ((nI (4 * k)) + (3)).toNatClampNeg)]) (rest := [.int ((stFormula S (xs ((nI (4 * k)) + (1)).toNatClampNeg) (xs ((nI (4 * k)) + (2)).toNatClampNeg) (xs ((nI (4 * k)) + (3)).toNatClampNeg)).1)]) ⟨hx, hb, hml, hown, hts⟩ (metX2_formula l G a iv mf S hW hM (xs ((nI (4 * k)) + (1)).toNatClampNeg) (xs ((nI (4 * k)) + (2)).toNatClampNeg) (xs ((nI (4 * k)) + (3)).toNatClampNeg) _) (cwV 3 hts (lw_V q1256 q1257 q1258 q36 q1259) rfl rfl rfl (by decide +kernel) ⟨Nat.le_of_ble_eq_true rfl, Nat.le_of_ble_eq_true rfl⟩) (pre_WV (q0 := 0) hG hP hD hS hA0 rfl rfl) rfl rfl hl.1 rfl (lv_room (Nat.le_of_ble_eq_true rfl)) dL_law_227 ⟨(by show _ ≤ 600288; omega), (by show _ ≤ 7293706; omega)⟩) hP hD hS hA (fun r_227 wM1 H locs hp hP hD hS => ?_)
  obtain ⟨rfl, hM1⟩ := hp
  have hP := wP.perm (w' := wF1 ++ (wM1 ++ [loC G o f])) hP (List.perm_append_comm_assoc _ _ _)
  have hD := va_D.perm (w' := wF1 ++ (wM1 ++ [loC G o f])) hD (List.perm_append_comm_assoc _ _ _)
  refine lv_icmp_eq (tgt := 588) hx hb dL_law_230 (by decide) (fun _ => ?_) (fun c9 => absurd rfl c9)
  refine W.widen (k := cells + 300) (n := slots + 46000) (by omega) (by omega) ?_
  exact K _ _ _ _ ⟨_, _, _, WS_formula hW _ _ _, hF, hM1, hP, hD, hS⟩ hl
set_option maxHeartbeats 4000000 in
set_option maxRecDepth 100000 in
theorem law_c3 {p : Program} {l : Launch} {e : Env} {s : State} {m : MethodId} {below : List Frame} {meth : Method} {c : Code} {b L : Nat} {xs : Nat → Int32} {G : Gt} {Q : State → Prop} (C : LC p l s m c b L xs G) {k : Nat} (hk : 4 * k + 3 < L) {x o : Nat} {a : Nat → Nat} {S : St} {H : Heap} {locs : List Loc} (hI : LI G s x a o S H locs) {cells slots : Nat} (hc : cells + 300 ≤ 600288) (hs : slots + 46000 ≤ 7293706)
    (K : ∀ (S' : St) (H' : Heap) (locs' : List Loc) (ls' : Array Slot), LI G s x a o S' H' locs' → lv_has ls' 7 [(0, .ref (b)), (1, .ref (x)), (2, .ref (a 0)), (3, .ref (o)), (4, .int (nI (4 * k)))] → W p l e room_1 s m #[Value.ref b] below meth c H' locs' (cells + 300) (slots + 46000) Q (F0 m 588 ls' []))
    {ls : Array Slot} (hl : lv_has ls 7 [(0, .ref (b)), (1, .ref (x)), (2, .ref (a 0)), (3, .ref (o)), (4, .int (nI (4 * k)))]) : W p l e room_1 s m #[Value.ref b] below meth c H locs cells slots Q (F0 m 235 ls []) := by
  obtain ⟨hx, hb, hml, hown, hts, hX, hbl, hG, hgz, hL, hfl⟩ := C
  obtain ⟨wF, _, f, hW, hF, ⟨iv, mf, rfl, hM⟩, hP, hD, hS⟩ := hI
  have hA : ∀ q, s.heap.size ≤ q → lawA s q := fun _ h => h
  have hA0 : ∀ q, lawA s q → gz G ≤ q := fun q h => by rw [hgz]; exact h
  have hbA : ¬ lawA s b := Nat.not_le.mpr hbl
  refine lv_aload_n hx hb dL_law_235 rfl (lv_at hl 1 rfl) ?_
  refine lv_aload_n hx hb dL_law_236 rfl (lv_at hl 0 rfl) ?_
  refine lv_iload hx hb dL_law_237 (lv_at hl 4 rfl) ?_
  refine lv_iconst (v := 1) hx hb dL_law_239 (by decide) ?_
  refine lv_iadd hx hb dL_law_240 ?_
  refine va_sld hx hb hX hbl hbA hS (in_k (j := 1) rfl (by omega) hL) dL_law_241 ?_
  refine lv_aload_n hx hb dL_law_242 rfl (lv_at hl 0 rfl) ?_
  refine lv_iload hx hb dL_law_243 (lv_at hl 4 rfl) ?_
  refine lv_iconst (v := 2) hx hb dL_law_245 (by decide) ?_
  refine lv_iadd hx hb dL_law_246 ?_
  refine va_sld hx hb hX hbl hbA hS (in_k (j := 2) rfl (by omega) hL) dL_law_247 ?_
  refine lv_aload_n hx hb dL_law_248 rfl (lv_at hl 0 rfl) ?_
  refine lv_iload hx hb dL_law_249 (lv_at hl 4 rfl) ?_
  refine lv_iconst (v := 3) hx hb dL_law_251 (by decide) ?_
  refine lv_iadd hx hb dL_law_252 ?_
  refine va_sld hx hb hX hbl hbA hS (in_k (j := 3) rfl (by omega) hL) dL_law_253 ?_
  refine cl_i (wr := wM G a iv mf ++ [loC G o f]) (va_runV (As := [.int (xs ((nI (4 * k)) + (1)).toNatClampNeg), .int (xs ((nI (4 * k)) + (2)).toNatClampNeg), .int (xs ((nI (4 * k)) + (3)).toNatClampNeg)]) (rest := []) ⟨hx, hb, hml, hown, hts⟩ (FW_attribute l G x S wF hF hW (xs ((nI (4 * k)) + (1)).toNatClampNeg) (xs ((nI (4 * k)) + (2)).toNatClampNeg) (xs ((nI (4 * k)) + (3)).toNatClampNeg) _) (cwV 3 hts (lw_V q338 q339 q340 q29 q341) rfl rfl rfl (by decide +kernel) ⟨Nat.le_of_ble_eq_true rfl, Nat.le_of_ble_eq_true rfl⟩) ⟨PcW.blind, hF.recv hG hP (fun q h => List.mem_append_left _ h), (pre_WS (As := [.ref (x), .int (xs ((nI (4 * k)) + (1)).toNatClampNeg), .int (xs ((nI (4 * k)) + (2)).toNatClampNeg), .int (xs ((nI (4 * k)) + (3)).toNatClampNeg)]) hG hP hD hS hA0).2⟩ rfl rfl hl.1 rfl (lv_room (Nat.le_of_ble_eq_true rfl)) dL_law_254 ⟨(by show _ ≤ 600288; omega), (by show _ ≤ 7293706; omega)⟩) hP hD hS hA (fun r_254 wF1 H locs hp hP hD hS => ?_)
  obtain ⟨rfl, hF⟩ := hp
  refine lv_aload_n hx hb dL_law_257 rfl (lv_at hl 2 rfl) ?_
  refine lv_aload_n hx hb dL_law_258 rfl (lv_at hl 0 rfl) ?_
  refine lv_iload hx hb dL_law_259 (lv_at hl 4 rfl) ?_
  refine lv_iconst (v := 1) hx hb dL_law_261 (by decide) ?_
  refine lv_iadd hx hb dL_law_262 ?_
  refine va_sld hx hb hX hbl hbA hS (in_k (j := 1) rfl (by omega) hL) dL_law_263 ?_
  refine lv_aload_n hx hb dL_law_264 rfl (lv_at hl 0 rfl) ?_
  refine lv_iload hx hb dL_law_265 (lv_at hl 4 rfl) ?_
  refine lv_iconst (v := 2) hx hb dL_law_267 (by decide) ?_
  refine lv_iadd hx hb dL_law_268 ?_
  refine va_sld hx hb hX hbl hbA hS (in_k (j := 2) rfl (by omega) hL) dL_law_269 ?_
  refine lv_aload_n hx hb dL_law_270 rfl (lv_at hl 0 rfl) ?_
  refine lv_iload hx hb dL_law_271 (lv_at hl 4 rfl) ?_
  refine lv_iconst (v := 3) hx hb dL_law_273 (by decide) ?_
  refine lv_iadd hx hb dL_law_274 ?_
  refine va_sld hx hb hX hbl hbA hS (in_k (j := 3) rfl (by omega) hL) dL_law_275 ?_
  have hP := wP.perm (w' := wM G a iv mf ++ (wF1 ++ [loC G o f])) hP (List.perm_append_comm_assoc _ _ _)
  have hD := va_D.perm (w' := wM G a iv mf ++ (wF1 ++ [loC G o f])) hD (List.perm_append_comm_assoc _ _ _)
  refine cl_i (wr := wF1 ++ [loC G o f]) (va_runV (As := [.int (xs ((nI (4 * k)) + (1)).toNatClampNeg), .int (xs ((nI (4 * k)) + (2)).toNatClampNeg), .int (xs ((nI (4 * k)) + (3)).toNatClampNeg)]) (rest := [.int ((stAttr S (xs ((nI (4 * k)) + (1)).toNatClampNeg) (xs ((nI (4 * k)) + (2)).toNatClampNeg) (xs ((nI (4 * k)) + (3)).toNatClampNeg)).1)]) ⟨hx, hb, hml, hown, hts⟩ (metX2_attribute l G a iv mf S hW hM (xs ((nI (4 * k)) + (1)).toNatClampNeg) (xs ((nI (4 * k)) + (2)).toNatClampNeg) (xs ((nI (4 * k)) + (3)).toNatClampNeg) _) (cwV 3 hts (lw_V q1264 q1265 q1266 q36 q1267) rfl rfl rfl (by decide +kernel) ⟨Nat.le_of_ble_eq_true rfl, Nat.le_of_ble_eq_true rfl⟩) (pre_WV (q0 := 0) hG hP hD hS hA0 rfl rfl) rfl rfl hl.1 rfl (lv_room (Nat.le_of_ble_eq_true rfl)) dL_law_276 ⟨(by show _ ≤ 600288; omega), (by show _ ≤ 7293706; omega)⟩) hP hD hS hA (fun r_276 wM1 H locs hp hP hD hS => ?_)
  obtain ⟨rfl, hM1⟩ := hp
  have hP := wP.perm (w' := wF1 ++ (wM1 ++ [loC G o f])) hP (List.perm_append_comm_assoc _ _ _)
  have hD := va_D.perm (w' := wF1 ++ (wM1 ++ [loC G o f])) hD (List.perm_append_comm_assoc _ _ _)
  refine lv_icmp_eq (tgt := 588) hx hb dL_law_279 (by decide) (fun _ => ?_) (fun c9 => absurd rfl c9)
  refine W.widen (k := cells + 300) (n := slots + 46000) (by omega) (by omega) ?_
  exact K _ _ _ _ ⟨_, _, _, WS_attr hW _ _ _, hF, hM1, hP, hD, hS⟩ hl
set_option maxHeartbeats 4000000 in
set_option maxRecDepth 100000 in
theorem law_c5 {p : Program} {l : Launch} {e : Env} {s : State} {m : MethodId} {below : List Frame} {meth : Method} {c : Code} {b L : Nat} {xs : Nat → Int32} {G : Gt} {Q : State → Prop} (C : LC p l s m c b L xs G) {k : Nat} (hk : 4 * k + 3 < L) {x o : Nat} {a : Nat → Nat} {S : St} {H : Heap} {locs : List Loc} (hI : LI G s x a o S H locs) {cells slots : Nat} (hc : cells + 300 ≤ 600288) (hs : slots + 46000 ≤ 7293706)
    (K : ∀ (S' : St) (H' : Heap) (locs' : List Loc) (ls' : Array Slot), LI G s x a o S' H' locs' → lv_has ls' 7 [(0, .ref (b)), (1, .ref (x)), (2, .ref (a 0)), (3, .ref (o)), (4, .int (nI (4 * k)))] → W p l e room_1 s m #[Value.ref b] below meth c H' locs' (cells + 300) (slots + 46000) Q (F0 m 588 ls' []))
    {ls : Array Slot} (hl : lv_has ls 7 [(0, .ref (b)), (1, .ref (x)), (2, .ref (a 0)), (3, .ref (o)), (4, .int (nI (4 * k)))]) : W p l e room_1 s m #[Value.ref b] below meth c H locs cells slots Q (F0 m 337 ls []) := by
  obtain ⟨hx, hb, hml, hown, hts, hX, hbl, hG, hgz, hL, hfl⟩ := C
  obtain ⟨wF, _, f, hW, hF, ⟨iv, mf, rfl, hM⟩, hP, hD, hS⟩ := hI
  have hA : ∀ q, s.heap.size ≤ q → lawA s q := fun _ h => h
  have hA0 : ∀ q, lawA s q → gz G ≤ q := fun q h => by rw [hgz]; exact h
  have hbA : ¬ lawA s b := Nat.not_le.mpr hbl
  refine lv_aload_n hx hb dL_law_337 rfl (lv_at hl 1 rfl) ?_
  refine cl_i (wr := wM G a iv mf ++ [loC G o f]) (va_runV (As := []) (rest := []) ⟨hx, hb, hml, hown, hts⟩ (FW_solve l G x S wF hF hW  _) (cwV 0 hts (lw_V q712 q713 q714 q29 q715) rfl rfl rfl (by decide +kernel) ⟨Nat.le_of_ble_eq_true rfl, Nat.le_of_ble_eq_true rfl⟩) ⟨PcW.blind, hF.recv hG hP (fun q h => List.mem_append_left _ h), (pre_WS (As := [.ref (x)]) hG hP hD hS hA0).2⟩ rfl rfl hl.1 rfl (lv_room (Nat.le_of_ble_eq_true rfl)) dL_law_338 ⟨(by show _ ≤ 600288; omega), (by show _ ≤ 7293706; omega)⟩) hP hD hS hA (fun r_338 wF1 H locs hp hP hD hS => ?_)
  obtain ⟨rfl, hF⟩ := hp
  refine lv_aload_n hx hb dL_law_341 rfl (lv_at hl 2 rfl) ?_
  have hP := wP.perm (w' := wM G a iv mf ++ (wF1 ++ [loC G o f])) hP (List.perm_append_comm_assoc _ _ _)
  have hD := va_D.perm (w' := wM G a iv mf ++ (wF1 ++ [loC G o f])) hD (List.perm_append_comm_assoc _ _ _)
  refine cl_i (wr := wF1 ++ [loC G o f]) (va_runV (As := []) (rest := [.int ((stSolve S ).1)]) ⟨hx, hb, hml, hown, hts⟩ (metX2_solve l G a iv mf S hW hM  _) (cwV 0 hts (lw_V q1280 q1281 q1282 q36 q1283) rfl rfl rfl (by decide +kernel) ⟨Nat.le_of_ble_eq_true rfl, Nat.le_of_ble_eq_true rfl⟩) (pre_WV (q0 := 0) hG hP hD hS hA0 rfl rfl) rfl rfl hl.1 rfl (lv_room (Nat.le_of_ble_eq_true rfl)) dL_law_342 ⟨(by show _ ≤ 600288; omega), (by show _ ≤ 7293706; omega)⟩) hP hD hS hA (fun r_342 wM1 H locs hp hP hD hS => ?_)
  obtain ⟨rfl, hM1⟩ := hp
  have hP := wP.perm (w' := wF1 ++ (wM1 ++ [loC G o f])) hP (List.perm_append_comm_assoc _ _ _)
  have hD := va_D.perm (w' := wF1 ++ (wM1 ++ [loC G o f])) hD (List.perm_append_comm_assoc _ _ _)
  refine lv_icmp_eq (tgt := 588) hx hb dL_law_345 (by decide) (fun _ => ?_) (fun c9 => absurd rfl c9)
  refine W.widen (k := cells + 300) (n := slots + 46000) (by omega) (by omega) ?_
  exact K _ _ _ _ ⟨_, _, _, WS_solve hW, hF, hM1, hP, hD, hS⟩ hl
set_option maxHeartbeats 4000000 in
set_option maxRecDepth 100000 in
theorem law_c6 {p : Program} {l : Launch} {e : Env} {s : State} {m : MethodId} {below : List Frame} {meth : Method} {c : Code} {b L : Nat} {xs : Nat → Int32} {G : Gt} {Q : State → Prop} (C : LC p l s m c b L xs G) {k : Nat} (hk : 4 * k + 3 < L) {x o : Nat} {a : Nat → Nat} {S : St} {H : Heap} {locs : List Loc} (hI : LI G s x a o S H locs) {cells slots : Nat} (hc : cells + 300 ≤ 600288) (hs : slots + 46000 ≤ 7293706)
    (K : ∀ (S' : St) (H' : Heap) (locs' : List Loc) (ls' : Array Slot), LI G s x a o S' H' locs' → lv_has ls' 7 [(0, .ref (b)), (1, .ref (x)), (2, .ref (a 0)), (3, .ref (o)), (4, .int (nI (4 * k)))] → W p l e room_1 s m #[Value.ref b] below meth c H' locs' (cells + 300) (slots + 46000) Q (F0 m 588 ls' []))
    {ls : Array Slot} (hl : lv_has ls 7 [(0, .ref (b)), (1, .ref (x)), (2, .ref (a 0)), (3, .ref (o)), (4, .int (nI (4 * k)))]) : W p l e room_1 s m #[Value.ref b] below meth c H locs cells slots Q (F0 m 350 ls []) := by
  obtain ⟨hx, hb, hml, hown, hts, hX, hbl, hG, hgz, hL, hfl⟩ := C
  obtain ⟨wF, _, f, hW, hF, ⟨iv, mf, rfl, hM⟩, hP, hD, hS⟩ := hI
  have hA : ∀ q, s.heap.size ≤ q → lawA s q := fun _ h => h
  have hA0 : ∀ q, lawA s q → gz G ≤ q := fun q h => by rw [hgz]; exact h
  have hbA : ¬ lawA s b := Nat.not_le.mpr hbl
  refine lv_aload_n hx hb dL_law_350 rfl (lv_at hl 1 rfl) ?_
  refine lv_aload_n hx hb dL_law_351 rfl (lv_at hl 0 rfl) ?_
  refine lv_iload hx hb dL_law_352 (lv_at hl 4 rfl) ?_
  refine lv_iconst (v := 1) hx hb dL_law_354 (by decide) ?_
  refine lv_iadd hx hb dL_law_355 ?_
  refine va_sld hx hb hX hbl hbA hS (in_k (j := 1) rfl (by omega) hL) dL_law_356 ?_
  refine vp_callSi (W.runV (As := [.int (xs ((nI (4 * k)) + (1)).toNatClampNeg)]) (rest := []) ⟨hx, hb, hml, hown, hts⟩ (FW_chosen l G x S wF hF hW (xs ((nI (4 * k)) + (1)).toNatClampNeg)) (cwV 1 hts (lw_V q1040 q1041 q1042 q29 q1043) rfl rfl rfl (by decide +kernel) ⟨Nat.le_of_ble_eq_true rfl, Nat.le_of_ble_eq_true rfl⟩) ⟨PcR.blind, hF.recv hG hP (fun q h => List.mem_append_left _ h), (pre_RS (As := [.ref (x), .int (xs ((nI (4 * k)) + (1)).toNatClampNeg)]) hG hP.left hS hA0).2⟩ rfl rfl hl.1 rfl (lv_room (Nat.le_of_ble_eq_true rfl)) dL_law_357 ⟨(by show _ ≤ 600288; omega), (by show _ ≤ 7293706; omega)⟩) (fun r_357 e_357 => ?_)
  subst e_357
  refine lv_aload_n hx hb dL_law_360 rfl (lv_at hl 2 rfl) ?_
  refine lv_aload_n hx hb dL_law_361 rfl (lv_at hl 0 rfl) ?_
  refine lv_iload hx hb dL_law_362 (lv_at hl 4 rfl) ?_
  refine lv_iconst (v := 1) hx hb dL_law_364 (by decide) ?_
  refine lv_iadd hx hb dL_law_365 ?_
  refine va_sld hx hb hX hbl hbA hS (in_k (j := 1) rfl (by omega) hL) dL_law_366 ?_
  have hP := wP.perm (w' := wM G a iv mf ++ (wF ++ [loC G o f])) hP (List.perm_append_comm_assoc _ _ _)
  have hD := va_D.perm (w' := wM G a iv mf ++ (wF ++ [loC G o f])) hD (List.perm_append_comm_assoc _ _ _)
  refine cl_i (wr := wF ++ [loC G o f]) (va_runV (As := [.int (xs ((nI (4 * k)) + (1)).toNatClampNeg)]) (rest := [.int (b2i (stChosen S (xs ((nI (4 * k)) + (1)).toNatClampNeg)))]) ⟨hx, hb, hml, hown, hts⟩ (metX2_chosen l G a iv mf S hW hM (xs ((nI (4 * k)) + (1)).toNatClampNeg) _) (cwV 1 hts (lw_V q1316 q1317 q1318 q36 q1319) rfl rfl rfl (by decide +kernel) ⟨Nat.le_of_ble_eq_true rfl, Nat.le_of_ble_eq_true rfl⟩) (pre_WV (q0 := 0) hG hP hD hS hA0 rfl rfl) rfl rfl hl.1 rfl (lv_room (Nat.le_of_ble_eq_true rfl)) dL_law_367 ⟨(by show _ ≤ 600288; omega), (by show _ ≤ 7293706; omega)⟩) hP hD hS hA (fun r_367 wM1 H locs hp hP hD hS => ?_)
  obtain ⟨rfl, hM1⟩ := hp
  have hP := wP.perm (w' := wF ++ (wM1 ++ [loC G o f])) hP (List.perm_append_comm_assoc _ _ _)
  have hD := va_D.perm (w' := wF ++ (wM1 ++ [loC G o f])) hD (List.perm_append_comm_assoc _ _ _)
  refine lv_icmp_eq (tgt := 588) hx hb dL_law_370 (by decide) (fun _ => ?_) (fun c9 => absurd rfl c9)
  refine W.widen (k := cells + 300) (n := slots + 46000) (by omega) (by omega) ?_
  exact K _ _ _ _ ⟨_, _, _, hW, hF, hM1, hP, hD, hS⟩ hl
set_option maxHeartbeats 4000000 in
set_option maxRecDepth 100000 in
theorem law_c7 {p : Program} {l : Launch} {e : Env} {s : State} {m : MethodId} {below : List Frame} {meth : Method} {c : Code} {b L : Nat} {xs : Nat → Int32} {G : Gt} {Q : State → Prop} (C : LC p l s m c b L xs G) {k : Nat} (hk : 4 * k + 3 < L) {x o : Nat} {a : Nat → Nat} {S : St} {H : Heap} {locs : List Loc} (hI : LI G s x a o S H locs) {cells slots : Nat} (hc : cells + 300 ≤ 600288) (hs : slots + 46000 ≤ 7293706)
    (K : ∀ (S' : St) (H' : Heap) (locs' : List Loc) (ls' : Array Slot), LI G s x a o S' H' locs' → lv_has ls' 7 [(0, .ref (b)), (1, .ref (x)), (2, .ref (a 0)), (3, .ref (o)), (4, .int (nI (4 * k)))] → W p l e room_1 s m #[Value.ref b] below meth c H' locs' (cells + 300) (slots + 46000) Q (F0 m 588 ls' []))
    {ls : Array Slot} (hl : lv_has ls 7 [(0, .ref (b)), (1, .ref (x)), (2, .ref (a 0)), (3, .ref (o)), (4, .int (nI (4 * k)))]) : W p l e room_1 s m #[Value.ref b] below meth c H locs cells slots Q (F0 m 375 ls []) := by
  obtain ⟨hx, hb, hml, hown, hts, hX, hbl, hG, hgz, hL, hfl⟩ := C
  obtain ⟨wF, _, f, hW, hF, ⟨iv, mf, rfl, hM⟩, hP, hD, hS⟩ := hI
  have hA : ∀ q, s.heap.size ≤ q → lawA s q := fun _ h => h
  have hA0 : ∀ q, lawA s q → gz G ≤ q := fun q h => by rw [hgz]; exact h
  have hbA : ¬ lawA s b := Nat.not_le.mpr hbl
  refine lv_aload_n hx hb dL_law_375 rfl (lv_at hl 1 rfl) ?_
  refine lv_aload_n hx hb dL_law_376 rfl (lv_at hl 0 rfl) ?_
  refine lv_iload hx hb dL_law_377 (lv_at hl 4 rfl) ?_
  refine lv_iconst (v := 1) hx hb dL_law_379 (by decide) ?_
  refine lv_iadd hx hb dL_law_380 ?_
  refine va_sld hx hb hX hbl hbA hS (in_k (j := 1) rfl (by omega) hL) dL_law_381 ?_
  refine vp_callSi (W.runV (As := [.int (xs ((nI (4 * k)) + (1)).toNatClampNeg)]) (rest := []) ⟨hx, hb, hml, hown, hts⟩ (FW_why l G x S wF hF hW (xs ((nI (4 * k)) + (1)).toNatClampNeg)) (cwV 1 hts (lw_V q1044 q1045 q1046 q29 q1047) rfl rfl rfl (by decide +kernel) ⟨Nat.le_of_ble_eq_true rfl, Nat.le_of_ble_eq_true rfl⟩) ⟨PcR.blind, hF.recv hG hP (fun q h => List.mem_append_left _ h), (pre_RS (As := [.ref (x), .int (xs ((nI (4 * k)) + (1)).toNatClampNeg)]) hG hP.left hS hA0).2⟩ rfl rfl hl.1 rfl (lv_room (Nat.le_of_ble_eq_true rfl)) dL_law_382 ⟨(by show _ ≤ 600288; omega), (by show _ ≤ 7293706; omega)⟩) (fun r_382 e_382 => ?_)
  subst e_382
  refine lv_aload_n hx hb dL_law_385 rfl (lv_at hl 2 rfl) ?_
  refine lv_aload_n hx hb dL_law_386 rfl (lv_at hl 0 rfl) ?_
  refine lv_iload hx hb dL_law_387 (lv_at hl 4 rfl) ?_
  refine lv_iconst (v := 1) hx hb dL_law_389 (by decide) ?_
  refine lv_iadd hx hb dL_law_390 ?_
  refine va_sld hx hb hX hbl hbA hS (in_k (j := 1) rfl (by omega) hL) dL_law_391 ?_
  have hP := wP.perm (w' := wM G a iv mf ++ (wF ++ [loC G o f])) hP (List.perm_append_comm_assoc _ _ _)
  have hD := va_D.perm (w' := wM G a iv mf ++ (wF ++ [loC G o f])) hD (List.perm_append_comm_assoc _ _ _)
  refine cl_i (wr := wF ++ [loC G o f]) (va_runV (As := [.int (xs ((nI (4 * k)) + (1)).toNatClampNeg)]) (rest := [.int (stWhy S (xs ((nI (4 * k)) + (1)).toNatClampNeg))]) ⟨hx, hb, hml, hown, hts⟩ (metX2_why l G a iv mf S hW hM (xs ((nI (4 * k)) + (1)).toNatClampNeg) _) (cwV 1 hts (lw_V q1323 q1324 q1325 q36 q1326) rfl rfl rfl (by decide +kernel) ⟨Nat.le_of_ble_eq_true rfl, Nat.le_of_ble_eq_true rfl⟩) (pre_WV (q0 := 0) hG hP hD hS hA0 rfl rfl) rfl rfl hl.1 rfl (lv_room (Nat.le_of_ble_eq_true rfl)) dL_law_392 ⟨(by show _ ≤ 600288; omega), (by show _ ≤ 7293706; omega)⟩) hP hD hS hA (fun r_392 wM1 H locs hp hP hD hS => ?_)
  obtain ⟨rfl, hM1⟩ := hp
  have hP := wP.perm (w' := wF ++ (wM1 ++ [loC G o f])) hP (List.perm_append_comm_assoc _ _ _)
  have hD := va_D.perm (w' := wF ++ (wM1 ++ [loC G o f])) hD (List.perm_append_comm_assoc _ _ _)
  refine lv_icmp_eq (tgt := 588) hx hb dL_law_395 (by decide) (fun _ => ?_) (fun c9 => absurd rfl c9)
  refine W.widen (k := cells + 300) (n := slots + 46000) (by omega) (by omega) ?_
  exact K _ _ _ _ ⟨_, _, _, hW, hF, hM1, hP, hD, hS⟩ hl
set_option maxHeartbeats 4000000 in
set_option maxRecDepth 100000 in
theorem law_c8 {p : Program} {l : Launch} {e : Env} {s : State} {m : MethodId} {below : List Frame} {meth : Method} {c : Code} {b L : Nat} {xs : Nat → Int32} {G : Gt} {Q : State → Prop} (C : LC p l s m c b L xs G) {k : Nat} (hk : 4 * k + 3 < L) {x o : Nat} {a : Nat → Nat} {S : St} {H : Heap} {locs : List Loc} (hI : LI G s x a o S H locs) {cells slots : Nat} (hc : cells + 300 ≤ 600288) (hs : slots + 46000 ≤ 7293706)
    (K : ∀ (S' : St) (H' : Heap) (locs' : List Loc) (ls' : Array Slot), LI G s x a o S' H' locs' → lv_has ls' 7 [(0, .ref (b)), (1, .ref (x)), (2, .ref (a 0)), (3, .ref (o)), (4, .int (nI (4 * k)))] → W p l e room_1 s m #[Value.ref b] below meth c H' locs' (cells + 300) (slots + 46000) Q (F0 m 588 ls' []))
    {ls : Array Slot} (hl : lv_has ls 7 [(0, .ref (b)), (1, .ref (x)), (2, .ref (a 0)), (3, .ref (o)), (4, .int (nI (4 * k)))]) : W p l e room_1 s m #[Value.ref b] below meth c H locs cells slots Q (F0 m 400 ls []) := by
  obtain ⟨hx, hb, hml, hown, hts, hX, hbl, hG, hgz, hL, hfl⟩ := C
  obtain ⟨wF, _, f, hW, hF, ⟨iv, mf, rfl, hM⟩, hP, hD, hS⟩ := hI
  have hA : ∀ q, s.heap.size ≤ q → lawA s q := fun _ h => h
  have hA0 : ∀ q, lawA s q → gz G ≤ q := fun q h => by rw [hgz]; exact h
  have hbA : ¬ lawA s b := Nat.not_le.mpr hbl
  refine lv_aload_n hx hb dL_law_400 rfl (lv_at hl 1 rfl) ?_
  refine lv_aload_n hx hb dL_law_401 rfl (lv_at hl 0 rfl) ?_
  refine lv_iload hx hb dL_law_402 (lv_at hl 4 rfl) ?_
  refine lv_iconst (v := 1) hx hb dL_law_404 (by decide) ?_
  refine lv_iadd hx hb dL_law_405 ?_
  refine va_sld hx hb hX hbl hbA hS (in_k (j := 1) rfl (by omega) hL) dL_law_406 ?_
  refine lv_i2l (v := (xs ((nI (4 * k)) + (1)).toNatClampNeg).toInt64) hx hb dL_law_407 rfl ?_
  refine lv_bipush (v := 32) hx hb dL_law_408 (by decide) ?_
  refine lv_lshl hx hb dL_law_410 rfl ?_
  refine lv_aload_n hx hb dL_law_411 rfl (lv_at hl 0 rfl) ?_
  refine lv_iload hx hb dL_law_412 (lv_at hl 4 rfl) ?_
  refine lv_iconst (v := 2) hx hb dL_law_414 (by decide) ?_
  refine lv_iadd hx hb dL_law_415 ?_
  refine va_sld hx hb hX hbl hbA hS (in_k (j := 2) rfl (by omega) hL) dL_law_416 ?_
  refine lv_i2l (v := (xs ((nI (4 * k)) + (2)).toNatClampNeg).toInt64) hx hb dL_law_417 rfl ?_
  refine lv_ldc2 (v := (4294967295)) hx hb hown (hts _ q1345) dL_law_418 ?_
  refine lv_land hx hb dL_law_421 ?_
  refine lv_lor hx hb dL_law_422 ?_
  refine cl_l (wr := wM G a iv mf ++ [loC G o f]) (va_runV (As := [.long ((((xs ((nI (4 * k)) + (1)).toNatClampNeg).toInt64) <<< ((32 : Int32).toInt64 &&& 63)) ||| (((xs ((nI (4 * k)) + (2)).toNatClampNeg).toInt64) &&& (4294967295)))]) (rest := []) ⟨hx, hb, hml, hown, hts⟩ (FW_count l G x S wF hF hW ((((xs ((nI (4 * k)) + (1)).toNatClampNeg).toInt64) <<< ((32 : Int32).toInt64 &&& 63)) ||| (((xs ((nI (4 * k)) + (2)).toNatClampNeg).toInt64) &&& (4294967295))) _) (cwV 1 hts (lw_V q1048 q1049 q1050 q29 q1051) rfl rfl rfl (by decide +kernel) ⟨Nat.le_of_ble_eq_true rfl, Nat.le_of_ble_eq_true rfl⟩) ⟨PcW.blind, hF.recv hG hP (fun q h => List.mem_append_left _ h), (pre_WS (As := [.ref (x), .long ((((xs ((nI (4 * k)) + (1)).toNatClampNeg).toInt64) <<< ((32 : Int32).toInt64 &&& 63)) ||| (((xs ((nI (4 * k)) + (2)).toNatClampNeg).toInt64) &&& (4294967295)))]) hG hP hD hS hA0).2⟩ rfl rfl hl.1 rfl (lv_room (Nat.le_of_ble_eq_true rfl)) dL_law_423 ⟨(by show _ ≤ 600288; omega), (by show _ ≤ 7293706; omega)⟩) hP hD hS hA (fun r_423 wF1 H locs hp hP hD hS => ?_)
  obtain ⟨rfl, hF⟩ := hp
  refine lv_aload_n hx hb dL_law_426 rfl (lv_at hl 2 rfl) ?_
  refine lv_aload_n hx hb dL_law_427 rfl (lv_at hl 0 rfl) ?_
  refine lv_iload hx hb dL_law_428 (lv_at hl 4 rfl) ?_
  refine lv_iconst (v := 1) hx hb dL_law_430 (by decide) ?_
  refine lv_iadd hx hb dL_law_431 ?_
  refine va_sld hx hb hX hbl hbA hS (in_k (j := 1) rfl (by omega) hL) dL_law_432 ?_
  refine lv_i2l (v := (xs ((nI (4 * k)) + (1)).toNatClampNeg).toInt64) hx hb dL_law_433 rfl ?_
  refine lv_bipush (v := 32) hx hb dL_law_434 (by decide) ?_
  refine lv_lshl hx hb dL_law_436 rfl ?_
  refine lv_aload_n hx hb dL_law_437 rfl (lv_at hl 0 rfl) ?_
  refine lv_iload hx hb dL_law_438 (lv_at hl 4 rfl) ?_
  refine lv_iconst (v := 2) hx hb dL_law_440 (by decide) ?_
  refine lv_iadd hx hb dL_law_441 ?_
  refine va_sld hx hb hX hbl hbA hS (in_k (j := 2) rfl (by omega) hL) dL_law_442 ?_
  refine lv_i2l (v := (xs ((nI (4 * k)) + (2)).toNatClampNeg).toInt64) hx hb dL_law_443 rfl ?_
  refine lv_ldc2 (v := (4294967295)) hx hb hown (hts _ q1345) dL_law_444 ?_
  refine lv_land hx hb dL_law_447 ?_
  refine lv_lor hx hb dL_law_448 ?_
  have hP := wP.perm (w' := wM G a iv mf ++ (wF1 ++ [loC G o f])) hP (List.perm_append_comm_assoc _ _ _)
  have hD := va_D.perm (w' := wM G a iv mf ++ (wF1 ++ [loC G o f])) hD (List.perm_append_comm_assoc _ _ _)
  refine cl_l (wr := wF1 ++ [loC G o f]) (va_runV (As := [.long ((((xs ((nI (4 * k)) + (1)).toNatClampNeg).toInt64) <<< ((32 : Int32).toInt64 &&& 63)) ||| (((xs ((nI (4 * k)) + (2)).toNatClampNeg).toInt64) &&& (4294967295)))]) (rest := [.long (stCount S ((((xs ((nI (4 * k)) + (1)).toNatClampNeg).toInt64) <<< ((32 : Int32).toInt64 &&& 63)) ||| (((xs ((nI (4 * k)) + (2)).toNatClampNeg).toInt64) &&& (4294967295))))]) ⟨hx, hb, hml, hown, hts⟩ (metX2_count l G a iv mf S hW hM ((((xs ((nI (4 * k)) + (1)).toNatClampNeg).toInt64) <<< ((32 : Int32).toInt64 &&& 63)) ||| (((xs ((nI (4 * k)) + (2)).toNatClampNeg).toInt64) &&& (4294967295))) _) (cwV 1 hts (lw_V q1327 q1328 q1329 q36 q1330) rfl rfl rfl (by decide +kernel) ⟨Nat.le_of_ble_eq_true rfl, Nat.le_of_ble_eq_true rfl⟩) (pre_WV (q0 := 0) hG hP hD hS hA0 rfl rfl) rfl rfl hl.1 rfl (lv_room (Nat.le_of_ble_eq_true rfl)) dL_law_449 ⟨(by show _ ≤ 600288; omega), (by show _ ≤ 7293706; omega)⟩) hP hD hS hA (fun r_449 wM1 H locs hp hP hD hS => ?_)
  obtain ⟨rfl, hM1⟩ := hp
  have hP := wP.perm (w' := wF1 ++ (wM1 ++ [loC G o f])) hP (List.perm_append_comm_assoc _ _ _)
  have hD := va_D.perm (w' := wF1 ++ (wM1 ++ [loC G o f])) hD (List.perm_append_comm_assoc _ _ _)
  refine W.lcmp hx hb dL_law_452 ?_
  refine lv_if_eq (tgt := 588) hx hb dL_law_453 (by decide) (fun _ => ?_) (fun c9 => absurd (lg_self _) c9)
  refine W.widen (k := cells + 300) (n := slots + 46000) (by omega) (by omega) ?_
  exact K _ _ _ _ ⟨_, _, _, hW, hF, hM1, hP, hD, hS⟩ hl
set_option maxHeartbeats 4000000 in
set_option maxRecDepth 100000 in
theorem law_c9 {p : Program} {l : Launch} {e : Env} {s : State} {m : MethodId} {below : List Frame} {meth : Method} {c : Code} {b L : Nat} {xs : Nat → Int32} {G : Gt} {Q : State → Prop} (C : LC p l s m c b L xs G) {k : Nat} (hk : 4 * k + 3 < L) {x o : Nat} {a : Nat → Nat} {S : St} {H : Heap} {locs : List Loc} (hI : LI G s x a o S H locs) {cells slots : Nat} (hc : cells + 300 ≤ 600288) (hs : slots + 46000 ≤ 7293706)
    (K : ∀ (S' : St) (H' : Heap) (locs' : List Loc) (ls' : Array Slot), LI G s x a o S' H' locs' → lv_has ls' 7 [(0, .ref (b)), (1, .ref (x)), (2, .ref (a 0)), (3, .ref (o)), (4, .int (nI (4 * k)))] → W p l e room_1 s m #[Value.ref b] below meth c H' locs' (cells + 300) (slots + 46000) Q (F0 m 588 ls' []))
    {ls : Array Slot} (hl : lv_has ls 7 [(0, .ref (b)), (1, .ref (x)), (2, .ref (a 0)), (3, .ref (o)), (4, .int (nI (4 * k)))]) : W p l e room_1 s m #[Value.ref b] below meth c H locs cells slots Q (F0 m 458 ls []) := by
  obtain ⟨hx, hb, hml, hown, hts, hX, hbl, hG, hgz, hL, hfl⟩ := C
  obtain ⟨wF, _, f, hW, hF, ⟨iv, mf, rfl, hM⟩, hP, hD, hS⟩ := hI
  have hA : ∀ q, s.heap.size ≤ q → lawA s q := fun _ h => h
  have hA0 : ∀ q, lawA s q → gz G ≤ q := fun q h => by rw [hgz]; exact h
  have hbA : ¬ lawA s b := Nat.not_le.mpr hbl
  refine lv_aload_n hx hb dL_law_458 rfl (lv_at hl 1 rfl) ?_
  refine lv_aload_n hx hb dL_law_459 rfl (lv_at hl 0 rfl) ?_
  refine lv_iload hx hb dL_law_460 (lv_at hl 4 rfl) ?_
  refine lv_iconst (v := 1) hx hb dL_law_462 (by decide) ?_
  refine lv_iadd hx hb dL_law_463 ?_
  refine va_sld hx hb hX hbl hbA hS (in_k (j := 1) rfl (by omega) hL) dL_law_464 ?_
  refine lv_aload_n hx hb dL_law_465 rfl (lv_at hl 0 rfl) ?_
  refine lv_iload hx hb dL_law_466 (lv_at hl 4 rfl) ?_
  refine lv_iconst (v := 2) hx hb dL_law_468 (by decide) ?_
  refine lv_iadd hx hb dL_law_469 ?_
  refine va_sld hx hb hX hbl hbA hS (in_k (j := 2) rfl (by omega) hL) dL_law_470 ?_
  refine cl_i (wr := wM G a iv mf ++ [loC G o f]) (va_runV (As := [.int (xs ((nI (4 * k)) + (1)).toNatClampNeg), .int (xs ((nI (4 * k)) + (2)).toNatClampNeg)]) (rest := []) ⟨hx, hb, hml, hown, hts⟩ (FW_forces l G x S wF hF hW (xs ((nI (4 * k)) + (1)).toNatClampNeg) (xs ((nI (4 * k)) + (2)).toNatClampNeg) _) (cwV 2 hts (lw_V q1058 q1059 q1060 q29 q1061) rfl rfl rfl (by decide +kernel) ⟨Nat.le_of_ble_eq_true rfl, Nat.le_of_ble_eq_true rfl⟩) ⟨PcW.blind, hF.recv hG hP (fun q h => List.mem_append_left _ h), (pre_WS (As := [.ref (x), .int (xs ((nI (4 * k)) + (1)).toNatClampNeg), .int (xs ((nI (4 * k)) + (2)).toNatClampNeg)]) hG hP hD hS hA0).2⟩ rfl rfl hl.1 rfl (lv_room (Nat.le_of_ble_eq_true rfl)) dL_law_471 ⟨(by show _ ≤ 600288; omega), (by show _ ≤ 7293706; omega)⟩) hP hD hS hA (fun r_471 wF1 H locs hp hP hD hS => ?_)
  obtain ⟨rfl, hF⟩ := hp
  refine lv_aload_n hx hb dL_law_474 rfl (lv_at hl 2 rfl) ?_
  refine lv_aload_n hx hb dL_law_475 rfl (lv_at hl 0 rfl) ?_
  refine lv_iload hx hb dL_law_476 (lv_at hl 4 rfl) ?_
  refine lv_iconst (v := 1) hx hb dL_law_478 (by decide) ?_
  refine lv_iadd hx hb dL_law_479 ?_
  refine va_sld hx hb hX hbl hbA hS (in_k (j := 1) rfl (by omega) hL) dL_law_480 ?_
  refine lv_aload_n hx hb dL_law_481 rfl (lv_at hl 0 rfl) ?_
  refine lv_iload hx hb dL_law_482 (lv_at hl 4 rfl) ?_
  refine lv_iconst (v := 2) hx hb dL_law_484 (by decide) ?_
  refine lv_iadd hx hb dL_law_485 ?_
  refine va_sld hx hb hX hbl hbA hS (in_k (j := 2) rfl (by omega) hL) dL_law_486 ?_
  have hP := wP.perm (w' := wM G a iv mf ++ (wF1 ++ [loC G o f])) hP (List.perm_append_comm_assoc _ _ _)
  have hD := va_D.perm (w' := wM G a iv mf ++ (wF1 ++ [loC G o f])) hD (List.perm_append_comm_assoc _ _ _)
  refine cl_i (wr := wF1 ++ [loC G o f]) (va_runV (As := [.int (xs ((nI (4 * k)) + (1)).toNatClampNeg), .int (xs ((nI (4 * k)) + (2)).toNatClampNeg)]) (rest := [.int (stForces S (xs ((nI (4 * k)) + (1)).toNatClampNeg) (xs ((nI (4 * k)) + (2)).toNatClampNeg))]) ⟨hx, hb, hml, hown, hts⟩ (metX2_forces l G a iv mf S hW hM (xs ((nI (4 * k)) + (1)).toNatClampNeg) (xs ((nI (4 * k)) + (2)).toNatClampNeg) _) (cwV 2 hts (lw_V q1333 q1334 q1335 q36 q1336) rfl rfl rfl (by decide +kernel) ⟨Nat.le_of_ble_eq_true rfl, Nat.le_of_ble_eq_true rfl⟩) (pre_WV (q0 := 0) hG hP hD hS hA0 rfl rfl) rfl rfl hl.1 rfl (lv_room (Nat.le_of_ble_eq_true rfl)) dL_law_487 ⟨(by show _ ≤ 600288; omega), (by show _ ≤ 7293706; omega)⟩) hP hD hS hA (fun r_487 wM1 H locs hp hP hD hS => ?_)
  obtain ⟨rfl, hM1⟩ := hp
  have hP := wP.perm (w' := wF1 ++ (wM1 ++ [loC G o f])) hP (List.perm_append_comm_assoc _ _ _)
  have hD := va_D.perm (w' := wF1 ++ (wM1 ++ [loC G o f])) hD (List.perm_append_comm_assoc _ _ _)
  refine lv_icmp_eq (tgt := 588) hx hb dL_law_490 (by decide) (fun _ => ?_) (fun c9 => absurd rfl c9)
  refine W.widen (k := cells + 300) (n := slots + 46000) (by omega) (by omega) ?_
  exact K _ _ _ _ ⟨_, _, _, hW, hF, hM1, hP, hD, hS⟩ hl
set_option maxHeartbeats 4000000 in
set_option maxRecDepth 100000 in
theorem law_c10 {p : Program} {l : Launch} {e : Env} {s : State} {m : MethodId} {below : List Frame} {meth : Method} {c : Code} {b L : Nat} {xs : Nat → Int32} {G : Gt} {Q : State → Prop} (C : LC p l s m c b L xs G) {k : Nat} (hk : 4 * k + 3 < L) {x o : Nat} {a : Nat → Nat} {S : St} {H : Heap} {locs : List Loc} (hI : LI G s x a o S H locs) {cells slots : Nat} (hc : cells + 300 ≤ 600288) (hs : slots + 46000 ≤ 7293706)
    (K : ∀ (S' : St) (H' : Heap) (locs' : List Loc) (ls' : Array Slot), LI G s x a o S' H' locs' → lv_has ls' 7 [(0, .ref (b)), (1, .ref (x)), (2, .ref (a 0)), (3, .ref (o)), (4, .int (nI (4 * k)))] → W p l e room_1 s m #[Value.ref b] below meth c H' locs' (cells + 300) (slots + 46000) Q (F0 m 588 ls' []))
    {ls : Array Slot} (hl : lv_has ls 7 [(0, .ref (b)), (1, .ref (x)), (2, .ref (a 0)), (3, .ref (o)), (4, .int (nI (4 * k)))]) : W p l e room_1 s m #[Value.ref b] below meth c H locs cells slots Q (F0 m 495 ls []) := by
  obtain ⟨hx, hb, hml, hown, hts, hX, hbl, hG, hgz, hL, hfl⟩ := C
  obtain ⟨wF, _, f, hW, hF, ⟨iv, mf, rfl, hM⟩, hP, hD, hS⟩ := hI
  have hA : ∀ q, s.heap.size ≤ q → lawA s q := fun _ h => h
  have hA0 : ∀ q, lawA s q → gz G ≤ q := fun q h => by rw [hgz]; exact h
  have hbA : ¬ lawA s b := Nat.not_le.mpr hbl
  refine lv_aload_n hx hb dL_law_495 rfl (lv_at hl 1 rfl) ?_
  refine lv_aload_n hx hb dL_law_496 rfl (lv_at hl 0 rfl) ?_
  refine lv_iload hx hb dL_law_497 (lv_at hl 4 rfl) ?_
  refine lv_iconst (v := 1) hx hb dL_law_499 (by decide) ?_
  refine lv_iadd hx hb dL_law_500 ?_
  refine va_sld hx hb hX hbl hbA hS (in_k (j := 1) rfl (by omega) hL) dL_law_501 ?_
  refine lv_aload_n hx hb dL_law_502 rfl (lv_at hl 0 rfl) ?_
  refine lv_iload hx hb dL_law_503 (lv_at hl 4 rfl) ?_
  refine lv_iconst (v := 2) hx hb dL_law_505 (by decide) ?_
  refine lv_iadd hx hb dL_law_506 ?_
  refine va_sld hx hb hX hbl hbA hS (in_k (j := 2) rfl (by omega) hL) dL_law_507 ?_
  refine vp_callSi (W.runV (As := [.int (xs ((nI (4 * k)) + (1)).toNatClampNeg), .int (xs ((nI (4 * k)) + (2)).toNatClampNeg)]) (rest := []) ⟨hx, hb, hml, hown, hts⟩ (FW_differ l G x S wF hF hW (xs ((nI (4 * k)) + (1)).toNatClampNeg) (xs ((nI (4 * k)) + (2)).toNatClampNeg)) (cwV 2 hts (lw_V q1062 q1063 q1064 q29 q1065) rfl rfl rfl (by decide +kernel) ⟨Nat.le_of_ble_eq_true rfl, Nat.le_of_ble_eq_true rfl⟩) ⟨PcR.blind, hF.recv hG hP (fun q h => List.mem_append_left _ h), (pre_RS (As := [.ref (x), .int (xs ((nI (4 * k)) + (1)).toNatClampNeg), .int (xs ((nI (4 * k)) + (2)).toNatClampNeg)]) hG hP.left hS hA0).2⟩ rfl rfl hl.1 rfl (lv_room (Nat.le_of_ble_eq_true rfl)) dL_law_508 ⟨(by show _ ≤ 600288; omega), (by show _ ≤ 7293706; omega)⟩) (fun r_508 e_508 => ?_)
  subst e_508
  refine lv_aload_n hx hb dL_law_511 rfl (lv_at hl 2 rfl) ?_
  refine lv_aload_n hx hb dL_law_512 rfl (lv_at hl 0 rfl) ?_
  refine lv_iload hx hb dL_law_513 (lv_at hl 4 rfl) ?_
  refine lv_iconst (v := 1) hx hb dL_law_515 (by decide) ?_
  refine lv_iadd hx hb dL_law_516 ?_
  refine va_sld hx hb hX hbl hbA hS (in_k (j := 1) rfl (by omega) hL) dL_law_517 ?_
  refine lv_aload_n hx hb dL_law_518 rfl (lv_at hl 0 rfl) ?_
  refine lv_iload hx hb dL_law_519 (lv_at hl 4 rfl) ?_
  refine lv_iconst (v := 2) hx hb dL_law_521 (by decide) ?_
  refine lv_iadd hx hb dL_law_522 ?_
  refine va_sld hx hb hX hbl hbA hS (in_k (j := 2) rfl (by omega) hL) dL_law_523 ?_
  have hP := wP.perm (w' := wM G a iv mf ++ (wF ++ [loC G o f])) hP (List.perm_append_comm_assoc _ _ _)
  have hD := va_D.perm (w' := wM G a iv mf ++ (wF ++ [loC G o f])) hD (List.perm_append_comm_assoc _ _ _)
  refine cl_i (wr := wF ++ [loC G o f]) (va_runV (As := [.int (xs ((nI (4 * k)) + (1)).toNatClampNeg), .int (xs ((nI (4 * k)) + (2)).toNatClampNeg)]) (rest := [.int (stDiffer S (xs ((nI (4 * k)) + (1)).toNatClampNeg) (xs ((nI (4 * k)) + (2)).toNatClampNeg))]) ⟨hx, hb, hml, hown, hts⟩ (metX2_differ l G a iv mf S hW hM (xs ((nI (4 * k)) + (1)).toNatClampNeg) (xs ((nI (4 * k)) + (2)).toNatClampNeg) _) (cwV 2 hts (lw_V q1337 q1338 q1339 q36 q1340) rfl rfl rfl (by decide +kernel) ⟨Nat.le_of_ble_eq_true rfl, Nat.le_of_ble_eq_true rfl⟩) (pre_WV (q0 := 0) hG hP hD hS hA0 rfl rfl) rfl rfl hl.1 rfl (lv_room (Nat.le_of_ble_eq_true rfl)) dL_law_524 ⟨(by show _ ≤ 600288; omega), (by show _ ≤ 7293706; omega)⟩) hP hD hS hA (fun r_524 wM1 H locs hp hP hD hS => ?_)
  obtain ⟨rfl, hM1⟩ := hp
  have hP := wP.perm (w' := wF ++ (wM1 ++ [loC G o f])) hP (List.perm_append_comm_assoc _ _ _)
  have hD := va_D.perm (w' := wF ++ (wM1 ++ [loC G o f])) hD (List.perm_append_comm_assoc _ _ _)
  refine lv_icmp_eq (tgt := 588) hx hb dL_law_527 (by decide) (fun _ => ?_) (fun c9 => absurd rfl c9)
  refine W.widen (k := cells + 300) (n := slots + 46000) (by omega) (by omega) ?_
  exact K _ _ _ _ ⟨_, _, _, hW, hF, hM1, hP, hD, hS⟩ hl
set_option maxHeartbeats 4000000 in
set_option maxRecDepth 100000 in
theorem law_c4 {p : Program} {l : Launch} {e : Env} {s : State} {m : MethodId} {below : List Frame} {meth : Method} {c : Code} {b L : Nat} {xs : Nat → Int32} {G : Gt} {Q : State → Prop} (C : LC p l s m c b L xs G) {k : Nat} (hk : 4 * k + 3 < L) {x o : Nat} {a : Nat → Nat} {S : St} {H : Heap} {locs : List Loc} (hI : LI G s x a o S H locs) {cells slots : Nat} (hc : cells + 300 ≤ 600288) (hs : slots + 46000 ≤ 7293706)
    (K : ∀ (S' : St) (H' : Heap) (locs' : List Loc) (ls' : Array Slot), LI G s x a o S' H' locs' → lv_has ls' 7 [(0, .ref (b)), (1, .ref (x)), (2, .ref (a 0)), (3, .ref (o)), (4, .int (nI (4 * k)))] → W p l e room_1 s m #[Value.ref b] below meth c H' locs' (cells + 300) (slots + 46000) Q (F0 m 588 ls' []))
    {ls : Array Slot} (hl : lv_has ls 7 [(0, .ref (b)), (1, .ref (x)), (2, .ref (a 0)), (3, .ref (o)), (4, .int (nI (4 * k)))]) : W p l e room_1 s m #[Value.ref b] below meth c H locs cells slots Q (F0 m 284 ls []) := by
  obtain ⟨hx, hb, hml, hown, hts, hX, hbl, hG, hgz, hL, hfl⟩ := C
  obtain ⟨wF, _, f, hW, hF, ⟨iv, mf, rfl, hM⟩, hP, hD, hS⟩ := hI
  have hA : ∀ q, s.heap.size ≤ q → lawA s q := fun _ h => h
  have hA0 : ∀ q, lawA s q → gz G ≤ q := fun q h => by rw [hgz]; exact h
  have hbA : ¬ lawA s b := Nat.not_le.mpr hbl
  by_cases h2 : xs ((nI (4 * k)) + (2)).toNatClampNeg = 0
  · refine lv_aload_n hx hb dL_law_284 rfl (lv_at hl 1 rfl) ?_
    refine lv_aload_n hx hb dL_law_285 rfl (lv_at hl 0 rfl) ?_
    refine lv_iload hx hb dL_law_286 (lv_at hl 4 rfl) ?_
    refine lv_iconst (v := 1) hx hb dL_law_288 (by decide) ?_
    refine lv_iadd hx hb dL_law_289 ?_
    refine va_sld hx hb hX hbl hbA hS (in_k (j := 1) rfl (by omega) hL) dL_law_290 ?_
    refine lv_aload_n hx hb dL_law_291 rfl (lv_at hl 0 rfl) ?_
    refine lv_iload hx hb dL_law_292 (lv_at hl 4 rfl) ?_
    refine lv_iconst (v := 2) hx hb dL_law_294 (by decide) ?_
    refine lv_iadd hx hb dL_law_295 ?_
    refine va_sld hx hb hX hbl hbA hS (in_k (j := 2) rfl (by omega) hL) dL_law_296 ?_
    refine lv_if_eq (tgt := 304) hx hb dL_law_297 (by decide) (fun c_297 => ?_) (fun c_297 => absurd (h2) c_297)
    refine lv_iconst (v := 0) hx hb dL_law_304 (by decide) ?_
    refine top_i (y := b2i false) (rfl) ?_
    refine cl_i (wr := wM G a iv mf ++ [loC G o f]) (va_runV (As := [.int (xs ((nI (4 * k)) + (1)).toNatClampNeg), .int (b2i false)]) (rest := []) ⟨hx, hb, hml, hown, hts⟩ (FW_choose l G x S wF hF hW (xs ((nI (4 * k)) + (1)).toNatClampNeg) false _) (cwV 2 hts (lw_V q364 q365 q366 q29 q367) rfl rfl rfl (by decide +kernel) ⟨Nat.le_of_ble_eq_true rfl, Nat.le_of_ble_eq_true rfl⟩) ⟨PcW.blind, hF.recv hG hP (fun q h => List.mem_append_left _ h), (pre_WS (As := [.ref (x), .int (xs ((nI (4 * k)) + (1)).toNatClampNeg), .int (b2i false)]) hG hP hD hS hA0).2⟩ rfl rfl hl.1 rfl (lv_room (Nat.le_of_ble_eq_true rfl)) dL_law_305 ⟨(by show _ ≤ 600288; omega), (by show _ ≤ 7293706; omega)⟩) hP hD hS hA (fun r_305 wF1 H locs hp hP hD hS => ?_)
    obtain ⟨rfl, hF⟩ := hp
    refine lv_aload_n hx hb dL_law_308 rfl (lv_at hl 2 rfl) ?_
    refine lv_aload_n hx hb dL_law_309 rfl (lv_at hl 0 rfl) ?_
    refine lv_iload hx hb dL_law_310 (lv_at hl 4 rfl) ?_
    refine lv_iconst (v := 1) hx hb dL_law_312 (by decide) ?_
    refine lv_iadd hx hb dL_law_313 ?_
    refine va_sld hx hb hX hbl hbA hS (in_k (j := 1) rfl (by omega) hL) dL_law_314 ?_
    refine lv_aload_n hx hb dL_law_315 rfl (lv_at hl 0 rfl) ?_
    refine lv_iload hx hb dL_law_316 (lv_at hl 4 rfl) ?_
    refine lv_iconst (v := 2) hx hb dL_law_318 (by decide) ?_
    refine lv_iadd hx hb dL_law_319 ?_
    refine va_sld hx hb hX hbl hbA hS (in_k (j := 2) rfl (by omega) hL) dL_law_320 ?_
    refine lv_if_eq (tgt := 328) hx hb dL_law_321 (by decide) (fun c_321 => ?_) (fun c_321 => absurd (h2) c_321)
    refine lv_iconst (v := 0) hx hb dL_law_328 (by decide) ?_
    refine top_i (y := b2i false) (rfl) ?_
    have hP := wP.perm (w' := wM G a iv mf ++ (wF1 ++ [loC G o f])) hP (List.perm_append_comm_assoc _ _ _)
    have hD := va_D.perm (w' := wM G a iv mf ++ (wF1 ++ [loC G o f])) hD (List.perm_append_comm_assoc _ _ _)
    refine cl_i (wr := wF1 ++ [loC G o f]) (va_runV (As := [.int (xs ((nI (4 * k)) + (1)).toNatClampNeg), .int (b2i false)]) (rest := [.int ((stChoose S (xs ((nI (4 * k)) + (1)).toNatClampNeg) false).1)]) ⟨hx, hb, hml, hown, hts⟩ (metX2_choose l G a iv mf S hW hM (xs ((nI (4 * k)) + (1)).toNatClampNeg) false _) (cwV 2 hts (lw_V q1268 q1269 q1270 q36 q1271) rfl rfl rfl (by decide +kernel) ⟨Nat.le_of_ble_eq_true rfl, Nat.le_of_ble_eq_true rfl⟩) (pre_WV (q0 := 0) hG hP hD hS hA0 rfl rfl) rfl rfl hl.1 rfl (lv_room (Nat.le_of_ble_eq_true rfl)) dL_law_329 ⟨(by show _ ≤ 600288; omega), (by show _ ≤ 7293706; omega)⟩) hP hD hS hA (fun r_329 wM1 H locs hp hP hD hS => ?_)
    obtain ⟨rfl, hM1⟩ := hp
    have hP := wP.perm (w' := wF1 ++ (wM1 ++ [loC G o f])) hP (List.perm_append_comm_assoc _ _ _)
    have hD := va_D.perm (w' := wF1 ++ (wM1 ++ [loC G o f])) hD (List.perm_append_comm_assoc _ _ _)
    refine lv_icmp_eq (tgt := 588) hx hb dL_law_332 (by decide) (fun _ => ?_) (fun c9 => absurd rfl c9)
    refine W.widen (k := cells + 300) (n := slots + 46000) (by omega) (by omega) ?_
    exact K _ _ _ _ ⟨_, _, _, WS_choose hW _ _, hF, hM1, hP, hD, hS⟩ hl
  · refine lv_aload_n hx hb dL_law_284 rfl (lv_at hl 1 rfl) ?_
    refine lv_aload_n hx hb dL_law_285 rfl (lv_at hl 0 rfl) ?_
    refine lv_iload hx hb dL_law_286 (lv_at hl 4 rfl) ?_
    refine lv_iconst (v := 1) hx hb dL_law_288 (by decide) ?_
    refine lv_iadd hx hb dL_law_289 ?_
    refine va_sld hx hb hX hbl hbA hS (in_k (j := 1) rfl (by omega) hL) dL_law_290 ?_
    refine lv_aload_n hx hb dL_law_291 rfl (lv_at hl 0 rfl) ?_
    refine lv_iload hx hb dL_law_292 (lv_at hl 4 rfl) ?_
    refine lv_iconst (v := 2) hx hb dL_law_294 (by decide) ?_
    refine lv_iadd hx hb dL_law_295 ?_
    refine va_sld hx hb hX hbl hbA hS (in_k (j := 2) rfl (by omega) hL) dL_law_296 ?_
    refine lv_if_eq (tgt := 304) hx hb dL_law_297 (by decide) (fun c_297 => absurd c_297 (h2)) (fun c_297 => ?_)
    refine lv_iconst (v := 1) hx hb dL_law_300 (by decide) ?_
    refine lv_goto (tgt := 305) hx hb dL_law_301 (by decide) ?_
    refine top_i (y := b2i true) (rfl) ?_
    refine cl_i (wr := wM G a iv mf ++ [loC G o f]) (va_runV (As := [.int (xs ((nI (4 * k)) + (1)).toNatClampNeg), .int (b2i true)]) (rest := []) ⟨hx, hb, hml, hown, hts⟩ (FW_choose l G x S wF hF hW (xs ((nI (4 * k)) + (1)).toNatClampNeg) true _) (cwV 2 hts (lw_V q364 q365 q366 q29 q367) rfl rfl rfl (by decide +kernel) ⟨Nat.le_of_ble_eq_true rfl, Nat.le_of_ble_eq_true rfl⟩) ⟨PcW.blind, hF.recv hG hP (fun q h => List.mem_append_left _ h), (pre_WS (As := [.ref (x), .int (xs ((nI (4 * k)) + (1)).toNatClampNeg), .int (b2i true)]) hG hP hD hS hA0).2⟩ rfl rfl hl.1 rfl (lv_room (Nat.le_of_ble_eq_true rfl)) dL_law_305 ⟨(by show _ ≤ 600288; omega), (by show _ ≤ 7293706; omega)⟩) hP hD hS hA (fun r_305 wF1 H locs hp hP hD hS => ?_)
    obtain ⟨rfl, hF⟩ := hp
    refine lv_aload_n hx hb dL_law_308 rfl (lv_at hl 2 rfl) ?_
    refine lv_aload_n hx hb dL_law_309 rfl (lv_at hl 0 rfl) ?_
    refine lv_iload hx hb dL_law_310 (lv_at hl 4 rfl) ?_
    refine lv_iconst (v := 1) hx hb dL_law_312 (by decide) ?_
    refine lv_iadd hx hb dL_law_313 ?_
    refine va_sld hx hb hX hbl hbA hS (in_k (j := 1) rfl (by omega) hL) dL_law_314 ?_
    refine lv_aload_n hx hb dL_law_315 rfl (lv_at hl 0 rfl) ?_
    refine lv_iload hx hb dL_law_316 (lv_at hl 4 rfl) ?_
    refine lv_iconst (v := 2) hx hb dL_law_318 (by decide) ?_
    refine lv_iadd hx hb dL_law_319 ?_
    refine va_sld hx hb hX hbl hbA hS (in_k (j := 2) rfl (by omega) hL) dL_law_320 ?_
    refine lv_if_eq (tgt := 328) hx hb dL_law_321 (by decide) (fun c_321 => absurd c_321 (h2)) (fun c_321 => ?_)
    refine lv_iconst (v := 1) hx hb dL_law_324 (by decide) ?_
    refine lv_goto (tgt := 329) hx hb dL_law_325 (by decide) ?_
    refine top_i (y := b2i true) (rfl) ?_
    have hP := wP.perm (w' := wM G a iv mf ++ (wF1 ++ [loC G o f])) hP (List.perm_append_comm_assoc _ _ _)
    have hD := va_D.perm (w' := wM G a iv mf ++ (wF1 ++ [loC G o f])) hD (List.perm_append_comm_assoc _ _ _)
    refine cl_i (wr := wF1 ++ [loC G o f]) (va_runV (As := [.int (xs ((nI (4 * k)) + (1)).toNatClampNeg), .int (b2i true)]) (rest := [.int ((stChoose S (xs ((nI (4 * k)) + (1)).toNatClampNeg) true).1)]) ⟨hx, hb, hml, hown, hts⟩ (metX2_choose l G a iv mf S hW hM (xs ((nI (4 * k)) + (1)).toNatClampNeg) true _) (cwV 2 hts (lw_V q1268 q1269 q1270 q36 q1271) rfl rfl rfl (by decide +kernel) ⟨Nat.le_of_ble_eq_true rfl, Nat.le_of_ble_eq_true rfl⟩) (pre_WV (q0 := 0) hG hP hD hS hA0 rfl rfl) rfl rfl hl.1 rfl (lv_room (Nat.le_of_ble_eq_true rfl)) dL_law_329 ⟨(by show _ ≤ 600288; omega), (by show _ ≤ 7293706; omega)⟩) hP hD hS hA (fun r_329 wM1 H locs hp hP hD hS => ?_)
    obtain ⟨rfl, hM1⟩ := hp
    have hP := wP.perm (w' := wF1 ++ (wM1 ++ [loC G o f])) hP (List.perm_append_comm_assoc _ _ _)
    have hD := va_D.perm (w' := wF1 ++ (wM1 ++ [loC G o f])) hD (List.perm_append_comm_assoc _ _ _)
    refine lv_icmp_eq (tgt := 588) hx hb dL_law_332 (by decide) (fun _ => ?_) (fun c9 => absurd rfl c9)
    refine W.widen (k := cells + 300) (n := slots + 46000) (by omega) (by omega) ?_
    exact K _ _ _ _ ⟨_, _, _, WS_choose hW _ _, hF, hM1, hP, hD, hS⟩ hl
