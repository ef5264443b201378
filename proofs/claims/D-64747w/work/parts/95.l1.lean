set_option maxHeartbeats 4000000 in
set_option maxRecDepth 100000 in
theorem metX1_level (l : Launch) (G : Gt) (a : Nat → Nat) (iv : Nat → Int32) (n k : Nat) (fl : Nat → Int32) (hk : k < n) (hn : n ≤ 14) : CR l G yX1_level cX1_level 2 .int 0 0 [.ref (a 15), .int (nI k)] [(a 15, .inr (0, [.ref (a 0), .ref (a 1), .ref (a 2), .ref (a 3), .ref (a 4), .ref (a 5), .ref (a 6), .int (iv 7), .ref (a 8), .ref (a 9), .int (iv 10), .int (iv 11), .ref (a 12), .int (iv 13), .ref (a 14)])), (a 2, .inl (gA G 0, n, .inl (fl)))] (fun r => r = fl k) := by
  refine mkRi (by decide) (Nat.le_of_ble_eq_true rfl) ?_
  intro p e s m args below meth c Q hx hb hts hown hml hG hP hS ret ls hl
  refine lv_aload_n hx hb dX1_level_0 rfl (lv_at hl 0 rfl) ?_
  refine va_get (D := gD G) (ci := 0) (v := .ref (a 2)) (C := RX1) (T := TX1) (N := 15) hx hb hts in_X1 hown hG.K hP 0 rfl rfl 2 (by decide) (hts _ q166) (fun _ h9 => h9) rfl dX1_level_1 ?_
  refine lv_iload_n hx hb dX1_level_4 rfl (lv_at hl 1 rfl) ?_
  refine ia_ld (j := k) hx hb hG.K hP 1 0 rfl rfl (hk) (by omega) dX1_level_5 ?_
  exact ret (fl (k)) 6 ls dX1_level_6 rfl (rfl)
set_option maxHeartbeats 4000000 in
set_option maxRecDepth 100000 in
theorem idx_in : ∀ w ∈ Bundle.messageArmAtoms Bundle.idxN Bundle.idxUp, w ∈ lw_all ∨ w ∈ [Cond.declares ⟨"java/lang/IndexOutOfBoundsException", "<init>", "(Ljava/lang/String;)V"⟩, Cond.declares ⟨"java/lang/RuntimeException", "<init>", "(Ljava/lang/String;)V"⟩, Cond.declares ⟨"java/lang/Exception", "<init>", "(Ljava/lang/String;)V"⟩, Cond.declares ⟨"java/lang/Throwable", "<init>", "(Ljava/lang/String;)V"⟩, Cond.castable "java/lang/ArrayIndexOutOfBoundsException" "java/lang/ArrayIndexOutOfBoundsException", Cond.laysStatic "java/lang/Throwable" "UNASSIGNED_STACK" "[Ljava/lang/StackTraceElement;", Cond.laysStatic "java/lang/Throwable" "SUPPRESSED_SENTINEL" "Ljava/util/List;", Cond.isRef (.static "java/lang/Throwable" "UNASSIGNED_STACK" "[Ljava/lang/StackTraceElement;"), Cond.isRef (.static "java/lang/Throwable" "SUPPRESSED_SENTINEL" "Ljava/util/List;")] := by decide +kernel
theorem idx_atoms {G : Gt} {U : State} (hG : GG G U) {A : Array Value} (hts : ∀ w ∈ lw_all, w.before A U = true) : ∀ w ∈ Bundle.messageArmAtoms Bundle.idxN Bundle.idxUp, w.before A U = true := by
  intro w hw
  rcases idx_in w hw with h | h
  · exact hts w h
  · simp only [List.mem_cons, List.not_mem_nil, or_false] at h
    rcases h with rfl | rfl | rfl | rfl | rfl | rfl | rfl | rfl | rfl
    · exact va_Nw.use rfl (hG.decl q1120)
    · exact va_Nw.use rfl (hG.decl q1122)
    · exact va_Nw.use rfl (hG.decl q1124)
    · exact va_Nw.use rfl (hG.decl q1126)
    · exact va_Nw.use rfl (hG.cast q1118)
    · exact hG.lsta q1087 A
    · exact hG.lsta q1089 A
    · exact hG.sref q1087 (lw_all_tbl q59) (flat_of_before _ hG.2.2.2.1 _ (by decide +kernel)) A
    · exact hG.sref q1089 (lw_all_tbl q59) (flat_of_before _ hG.2.2.2.1 _ (by decide +kernel)) A
theorem idxOut {p : Program} {l : Launch} {e : Env} {R : Room} {s : State} {m : MethodId} {args : Array Value} {below : List Frame} {meth : Method} {c : Code} {cc : ByteArray} {pc : Nat} {ls : Array Slot} {G : Gt} (hx : p.tables.exec = Jvm.exec) (hb : c.code = cc) (hfl : l.stackTraces = false) (hlk : meth.locks = false) (hls : ls.size = c.maxLocals) (hG : GG G s) (hts : ∀ w ∈ lw_all, w.before args s = true)
    {a : Nat} {j : Int32} {cell : Cell} (hcell : s.heap[a]? = some cell) (harr : s.isArrayOf cell .int) (hn : cell.slots.size < 2 ^ 31) (ho : j < 0 ∨ cell.slots.size ≤ j.toNatClampNeg) (hT : c.exceptionTable.toList = []) (hR : 8 ≤ R.frames ∧ 10248 ≤ R.locals ∧ 3 ≤ R.cells ∧ 222 ≤ R.slots) (hdg : decode cc pc = .ok (.iaload, 1)) :
    W p l e R s m args below meth c s.heap [] 0 0 (MQT below excQ s 3 222) (F0 m pc ls [.int j, .ref a]) := by
  intro T hT' X
  have htr : e.platform.stackTraces = false := by rw [X.admits.platform]; exact hfl
  have hbt := index_text_bytes j (n := cell.slots.size) hn
  obtain ⟨U, h1, h2, h3, h4, ⟨k, hk, h5⟩, cb, cs, ce, -, -, hce, -, -, KE⟩ := X.messageArmCells hx htr (cls := Bundle.idxN) (names := Bundle.idxUp) (by decide +kernel) (by decide +kernel) (by decide) (by decide)
    (idx_atoms hG hts) (fun x hx => by cases hx) (index_text_modelled j cell.slots.size) (by rw [X.admits.platform]; show ¬ _ > 2147483645; omega) (by rw [X.admits.platform]; show ¬ _ * 1 > 536870912; omega)
    (g := F0 m pc ls []) rfl hls rfl rfl (by rw [hT]; intro x hx; cases hx)
    (by show 3 + 4 < _; omega) (Nat.le_trans (Nat.add_le_add_right (lv_room (m := m) (pc := pc) (ls := ls) (rest := []) (st := []) (by decide)) 10240) hR.2.1) (by decide) (by omega) (by omega) hlk
  exact ⟨U, X.ialoadOut hx (a := a) (cell := cell) (ty := .int) (by rw [hT']; exact hcell) harr ho (g := F0 m pc ls [.int j, .ref a]) rfl (rest := []) rfl (by rw [hb]; exact hdg) _ h1, _, h2, h3, ⟨ce, hce, KE.cls, KE.vm⟩, h4, h5.mono (by omega) (by omega)⟩
set_option maxHeartbeats 4000000 in
set_option maxRecDepth 100000 in
theorem metX1_levelT (l : Launch) (hfl : l.stackTraces = false) (G : Gt) (a : Nat → Nat) (iv : Nat → Int32) (n : Nat) (fl : Nat → Int32) (i : Int32) (hn : n ≤ 14) (ho : i < 0 ∨ nI n ≤ i) : MetT l yX1_level (ws_ yX1_level cX1_level 2 (some .int)) (rm_ 8 3 222 10248) (PcR G [.ref (a 15), .int i] [(a 15, .inr (0, [.ref (a 0), .ref (a 1), .ref (a 2), .ref (a 3), .ref (a 4), .ref (a 5), .ref (a 6), .int (iv 7), .ref (a 8), .ref (a 9), .int (iv 10), .int (iv 11), .ref (a 12), .int (iv 13), .ref (a 14)])), (a 2, .inl (gA G 0, n, .inl (fl)))]) excQ 3 222 := by
  refine mkT (by decide) (Nat.le_of_ble_eq_true rfl) ?_
  intro p e s m below meth c hx hb hts hown hlk hml hT hG hP ls hl
  refine lv_aload_n hx hb dX1_level_0 rfl (lv_at hl 0 rfl) ?_
  refine va_get (D := gD G) (ci := 0) (v := .ref (a 2)) (C := RX1) (T := TX1) (N := 15) hx hb hts in_X1 hown hG.K hP 0 rfl rfl 2 (by decide) (hts _ q166) (fun _ h9 => h9) rfl dX1_level_1 ?_
  refine lv_iload_n hx hb dX1_level_4 rfl (lv_at hl 1 rfl) ?_
  have hc := hP 1 _ rfl
  have hsz : (vp_cell (gA G 0) (n, .inl fl)).slots.size = n := arrV_size _ _ _
  exact idxOut hx hb hfl hlk (hl.1.trans hml.symm) hG hts hc ((hG.K.2 0 _ rfl).1 n (fun j => .int (fl j))) (by rw [hsz]; omega) (by rw [hsz]; exact (out_iff (by omega)).mpr ho) hT ⟨Nat.le_refl _, Nat.le_refl _, Nat.le_refl _, Nat.le_refl _⟩ dX1_level_5
