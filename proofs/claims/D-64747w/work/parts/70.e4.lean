/-- no set keeps the rules -/
def noS (n : Nat) (B : Nat → Nat → Bool) (i o : Nat) : Bool := alB (fun x => !solB n B i o x) (2 ^ n)
theorem FS_neg {n : Nat} {B : Nat → Nat → Bool} {i o : Nat} {r : Int32} (hn : n ≤ 14) (h : FS n B i o r) : r < 0 ↔ noS n B i o = true := by
  unfold noS
  rw [alB_iff]
  rcases h with ⟨rfl, h⟩ | ⟨x, rfl, h1, -⟩
  · exact ⟨fun _ x _ => by rw [h x]; rfl, fun _ => by decide⟩
  · have hx : x < 2 ^ n := (sol_iff.mp h1).1
    have h14 := p2_14 hn
    refine ⟨fun h => absurd h (nI_pos (by omega)), fun h => ?_⟩
    have := h x hx
    rw [h1] at this; cases this
theorem FS_t {n : Nat} {B : Nat → Nat → Bool} {i o : Nat} {r : Int32} (hn : n ≤ 14) (h : FS n B i o r) (hr : ¬ 0 ≤ r) : noS n B i o = true := (FS_neg hn h).mp (Int32.not_le.mp hr)
theorem FS_f {n : Nat} {B : Nat → Nat → Bool} {i o : Nat} {r : Int32} (hn : n ≤ 14) (h : FS n B i o r) (hr : 0 ≤ r) : noS n B i o = false := by
  cases hc : noS n B i o with
  | false => rfl
  | true => exact absurd ((FS_neg hn h).mpr hc) (Int32.not_lt.mpr hr)
def fzA (n : Nat) (B : Nat → Nat → Bool) (i o g : Nat) : Bool := noS n B i (o ||| 2 ^ (g - 1))
def fzN (n : Nat) (B : Nat → Nat → Bool) (i o g : Nat) : Bool := noS n B (i ||| 2 ^ (g - 1)) o
theorem fc_eq {A N : Nat → Bool} {f g k : Nat} {x : Int32} (h : g = f) : fcG A N f (k + 1) g x = fcG A N f k (g + 1) x := by
  rw [fcG, if_neg (by simp [h])]
theorem fc_no {A N : Nat → Bool} {f g k : Nat} {x : Int32} (h1 : A g = false) (h2 : N g = false) : fcG A N f (k + 1) g x = fcG A N f k (g + 1) x := by
  rw [fcG, if_neg (by simp [h1, h2])]
theorem fc_dn {A N : Nat → Bool} {f g k : Nat} {x : Int32} (h : g ≠ f) (h1 : (A g || N g) = true) (hx : ¬ x = 0) : fcG A N f (k + 1) g x = fcG A N f k (g + 1) (x - 1) := by
  rw [fcG, if_pos (by simp [h, h1]), if_neg hx]
theorem fc_A {A N : Nat → Bool} {f g k : Nat} {x : Int32} (h : g ≠ f) (h1 : A g = true) (hx : x = 0) : fcG A N f (k + 1) g x = nI g := by
  rw [fcG, if_pos (by simp [h, h1]), if_pos hx, if_pos h1]
theorem fc_N {A N : Nat → Bool} {f g k : Nat} {x : Int32} (h : g ≠ f) (h1 : A g = false) (h2 : N g = true) (hx : x = 0) : fcG A N f (k + 1) g x = -(nI g) := by
  rw [fcG, if_pos (by simp [h, h2]), if_pos hx, if_neg (by simp [h1])]
theorem or_n {acc k n : Nat} (h : acc < 2 ^ n) (hk1 : 1 ≤ k) (hk : k ≤ n) : acc ||| 2 ^ (k - 1) < 2 ^ n := Nat.or_lt_two_pow h (Nat.pow_lt_pow_right (by decide) (by omega))
set_option maxHeartbeats 4000000 in
set_option maxRecDepth 100000 in
theorem metX1_forces (l : Launch) (G : Gt) (a : Nat → Nat) (iv : Nat → Int32) (S : St) (wk : va_W) (hM : MK G a S (iv 10) wk) (hW : WS S) (hn : iv 11 = nI (sN S)) (es : List En) (tab ent tl : Option Nat) (N : Nat) (mo th : Int32) (hok : enOk es) (hch : enL es = sCh S) (x ix : Int32) (sz : Nat) : CWi l G yX1_forces cX1_forces 9 .int 20 114 34014 551 [.ref (a 15), .int (x), .int (ix)] ((a 15, .inr (0, [.ref (a 0), .ref (a 1), .ref (a 2), .ref (a 3), .ref (a 4), .ref (a 5), .ref (a 6), .int (iv 7), .ref (a 8), .ref (a 9), .int (iv 10), .int (iv 11), .ref (a 12), .int (iv 13), .ref (a 14)])) :: (a 8, .inr (6, [va_rf (tab), va_rf (ent), .int (nI N), .int (mo), .int (th), .float (1061158912), .null, .null, va_rf ((hdE es none)), va_rf (tl), .int (0), .int (0)])) :: (esW (a 8) ent ++ (enW G none es none ++ (wk)))) sz (fun r w1 => (isF x (nI (sN S)) = false ∧ r = -1 ∧ w1 = ((a 15, .inr (0, [.ref (a 0), .ref (a 1), .ref (a 2), .ref (a 3), .ref (a 4), .ref (a 5), .ref (a 6), .int (iv 7), .ref (a 8), .ref (a 9), .int (iv 10), .int (iv 11), .ref (a 12), .int (iv 13), .ref (a 14)])) :: (a 8, .inr (6, [va_rf (tab), va_rf (ent), .int (nI N), .int (mo), .int (th), .float (1061158912), .null, .null, va_rf ((hdE es none)), va_rf (tl), .int (0), .int (0)])) :: (esW (a 8) ent ++ (enW G none es none ++ (wk))))) ∨ ∃ f0 ra av rs wl wr z, x = nI f0 ∧ 1 ≤ f0 ∧ f0 ≤ sN S ∧ Rdy G a S ra av rs wl wr ∧ r = (if noS (sN S) (brS av rs) (gvN S true 0 ||| 2 ^ (f0 - 1)) (gvN S false 0) = true then 0 else fcG (fzA (sN S) (brS av rs) (gvN S true 0 ||| 2 ^ (f0 - 1)) (gvN S false 0)) (fzN (sN S) (brS av rs) (gvN S true 0 ||| 2 ^ (f0 - 1)) (gvN S false 0)) f0 (sN S) 1 ix) ∧ w1 = xC a (va_up iv 10 1) :: moC (a 8) tab (some z) N mo th (hdE es none) tl :: (esW (a 8) (some z) ++ (enW G none es none ++ (wl ++ (rlW ra rs ++ (rwW G ra av ++ wr)))))) := by
  refine mkWi (by decide) (Nat.le_of_ble_eq_true rfl) ?_
  intro p e s m args below meth c Q A hx hb hts hown hin hml hG hsz hP hD hA hA0 hS ret ls hl
  have hn4 : sN S ≤ 14 := hW.1
  refine lv_aload_n hx hb dX1_forces_0 rfl (lv_at hl 0 rfl) ?_
  refine lv_iload_n hx hb dX1_forces_1 rfl (lv_at hl 1 rfl) ?_
  refine vp_callSi (W.runV (As := [.int (x)]) (rest := []) ⟨hx, hb, hml, hown, hts⟩ (metX1_is l G a iv (x)) (cwV 1 hts (lw_V q214 q216 qs0 q29 q217) rfl rfl rfl (by decide +kernel) ⟨Nat.le_of_ble_eq_true rfl, Nat.le_of_ble_eq_true rfl⟩) (pre_RV (q0 := 0) hG (wP.left (wP.perm (w' := [(a 15, .inr (0, [.ref (a 0), .ref (a 1), .ref (a 2), .ref (a 3), .ref (a 4), .ref (a 5), .ref (a 6), .int (iv 7), .ref (a 8), .ref (a 9), .int (iv 10), .int (iv 11), .ref (a 12), .int (iv 13), .ref (a 14)]))] ++ ((a 8, .inr (6, [va_rf (tab), va_rf (ent), .int (nI N), .int (mo), .int (th), .float (1061158912), .null, .null, va_rf ((hdE es none)), va_rf (tl), .int (0), .int (0)])) :: (esW (a 8) ent ++ (enW G none es none ++ (wk))))) hP (pm_ (fun _ z => by simp only [List.count_append, List.count_cons, List.count_nil]; omega)))) hS hA0 rfl rfl) rfl rfl hl.1 rfl (lv_room (Nat.le_of_ble_eq_true rfl)) dX1_forces_2 ⟨Nat.le_of_ble_eq_true rfl, Nat.le_of_ble_eq_true rfl⟩) (fun r_2 e_2 => ?_)
  subst e_2
  refine top_i (y := b2i (isF x (nI (sN S)))) (congrArg (fun z => b2i (isF x z)) hn) ?_
  refine lv_if_ne (tgt := 10) hx hb dX1_forces_5 (by decide) (fun c_5 => ?_) (fun c_5 => ?_)
  · have h5 : isF x (nI (sN S)) = true := b2i_n0.mp c_5
    obtain ⟨f0, rfl, hf1, hf2, hf4⟩ := isF_gb hW h5
    refine lv_aload_n hx hb dX1_forces_10 rfl (lv_at hl 0 rfl) ?_
    have hP := wP.perm (w' := ((a 15, .inr (0, [.ref (a 0), .ref (a 1), .ref (a 2), .ref (a 3), .ref (a 4), .ref (a 5), .ref (a 6), .int (iv 7), .ref (a 8), .ref (a 9), .int (iv 10), .int (iv 11), .ref (a 12), .int (iv 13), .ref (a 14)])) :: wk) ++ ((a 8, .inr (6, [va_rf (tab), va_rf (ent), .int (nI N), .int (mo), .int (th), .float (1061158912), .null, .null, va_rf ((hdE es none)), va_rf (tl), .int (0), .int (0)])) :: (esW (a 8) ent ++ (enW G none es none)))) hP (pm_ (fun _ z => by simp only [List.count_append, List.count_cons, List.count_nil]; omega))
    have hD := va_D.perm (w' := ((a 15, .inr (0, [.ref (a 0), .ref (a 1), .ref (a 2), .ref (a 3), .ref (a 4), .ref (a 5), .ref (a 6), .int (iv 7), .ref (a 8), .ref (a 9), .int (iv 10), .int (iv 11), .ref (a 12), .int (iv 13), .ref (a 14)])) :: wk) ++ ((a 8, .inr (6, [va_rf (tab), va_rf (ent), .int (nI N), .int (mo), .int (th), .float (1061158912), .null, .null, va_rf ((hdE es none)), va_rf (tl), .int (0), .int (0)])) :: (esW (a 8) ent ++ (enW G none es none)))) hD (pm_ (fun _ z => by simp only [List.count_append, List.count_cons, List.count_nil]; omega))
    refine cl_v (wr := ((a 8, .inr (6, [va_rf (tab), va_rf (ent), .int (nI N), .int (mo), .int (th), .float (1061158912), .null, .null, va_rf ((hdE es none)), va_rf (tl), .int (0), .int (0)])) :: (esW (a 8) ent ++ (enW G none es none)))) (va_runV (As := []) (rest := []) ⟨hx, hb, hml, hown, hts⟩ (metX1_make l G a iv S wk hM hW hn _) (cwV 0 hts (lw_V q716 q718 qs8 q29 q719) rfl rfl rfl (by decide +kernel) ⟨Nat.le_of_ble_eq_true rfl, Nat.le_of_ble_eq_true rfl⟩) (pre_WV (q0 := 0) hG hP hD hS hA0 rfl rfl) rfl rfl hl.1 rfl (lv_room (Nat.le_of_ble_eq_true rfl)) dX1_forces_11 ⟨Nat.le_of_ble_eq_true rfl, Nat.le_of_ble_eq_true rfl⟩) hP hD hS hA (fun w1 H locs hp hP hD hS => ?_)
    obtain ⟨ra, av, rs, wl, wr, hR, rfl⟩ := hp
    have hMo := hR.mono hW
    have hP : wP G (((a 15, .inr (0, [.ref (a 0), .ref (a 1), .ref (a 2), .ref (a 3), .ref (a 4), .ref (a 5), .ref (a 6), .int (iv 7), .ref (a 8), .ref (a 9), .int (1), .int (iv 11), .ref (a 12), .int (iv 13), .ref (a 14)])) :: (wl ++ (rlW ra rs ++ (rwW G ra av ++ (wr))))) ++ ((a 8, .inr (6, [va_rf (tab), va_rf (ent), .int (nI N), .int (mo), .int (th), .float (1061158912), .null, .null, va_rf ((hdE es none)), va_rf (tl), .int (0), .int (0)])) :: (esW (a 8) ent ++ (enW G none es none)))) H := hP
    have hD : va_D A (((a 15, .inr (0, [.ref (a 0), .ref (a 1), .ref (a 2), .ref (a 3), .ref (a 4), .ref (a 5), .ref (a 6), .int (iv 7), .ref (a 8), .ref (a 9), .int (1), .int (iv 11), .ref (a 12), .int (iv 13), .ref (a 14)])) :: (wl ++ (rlW ra rs ++ (rwW G ra av ++ (wr))))) ++ ((a 8, .inr (6, [va_rf (tab), va_rf (ent), .int (nI N), .int (mo), .int (th), .float (1061158912), .null, .null, va_rf ((hdE es none)), va_rf (tl), .int (0), .int (0)])) :: (esW (a 8) ent ++ (enW G none es none)))) := hD
    have hP := wP.perm (w' := ((a 15, .inr (0, [.ref (a 0), .ref (a 1), .ref (a 2), .ref (a 3), .ref (a 4), .ref (a 5), .ref (a 6), .int (iv 7), .ref (a 8), .ref (a 9), .int (1), .int (iv 11), .ref (a 12), .int (iv 13), .ref (a 14)])) :: (a 8, .inr (6, [va_rf (tab), va_rf (ent), .int (nI N), .int (mo), .int (th), .float (1061158912), .null, .null, va_rf ((hdE es none)), va_rf (tl), .int (0), .int (0)])) :: (esW (a 8) ent ++ (enW G none es none ++ (wl ++ (rlW ra rs ++ (rwW G ra av ++ (wr)))))))) hP (pm_ (fun _ z => by simp only [List.count_append, List.count_cons, List.count_nil]; omega))
    have hD := va_D.perm (w' := ((a 15, .inr (0, [.ref (a 0), .ref (a 1), .ref (a 2), .ref (a 3), .ref (a 4), .ref (a 5), .ref (a 6), .int (iv 7), .ref (a 8), .ref (a 9), .int (1), .int (iv 11), .ref (a 12), .int (iv 13), .ref (a 14)])) :: (a 8, .inr (6, [va_rf (tab), va_rf (ent), .int (nI N), .int (mo), .int (th), .float (1061158912), .null, .null, va_rf ((hdE es none)), va_rf (tl), .int (0), .int (0)])) :: (esW (a 8) ent ++ (enW G none es none ++ (wl ++ (rlW ra rs ++ (rwW G ra av ++ (wr)))))))) hD (pm_ (fun _ z => by simp only [List.count_append, List.count_cons, List.count_nil]; omega))
    refine lv_aload_n hx hb dX1_forces_14 rfl (lv_at hl 0 rfl) ?_
    refine lv_iconst (v := 1) hx hb dX1_forces_15 (by decide) ?_
    refine top_i (y := b2i true) (rfl) ?_
    refine lv_iconst (v := 0) hx hb dX1_forces_16 (by decide) ?_
    refine top_i (y := nI 0) (rfl) ?_
    have hP := wP.perm (w' := ((a 15, .inr (0, [.ref (a 0), .ref (a 1), .ref (a 2), .ref (a 3), .ref (a 4), .ref (a 5), .ref (a 6), .int (iv 7), .ref (a 8), .ref (a 9), .int (1), .int (iv 11), .ref (a 12), .int (iv 13), .ref (a 14)])) :: (a 8, .inr (6, [va_rf (tab), va_rf (ent), .int (nI N), .int (mo), .int (th), .float (1061158912), .null, .null, va_rf ((hdE es none)), va_rf (tl), .int (0), .int (0)])) :: (esW (a 8) ent ++ (enW G none es none))) ++ ((wl ++ (rlW ra rs ++ (rwW G ra av ++ (wr)))))) hP (pm_ (fun _ z => by simp only [List.count_append, List.count_cons, List.count_nil]; omega))
    have hD := va_D.perm (w' := ((a 15, .inr (0, [.ref (a 0), .ref (a 1), .ref (a 2), .ref (a 3), .ref (a 4), .ref (a 5), .ref (a 6), .int (iv 7), .ref (a 8), .ref (a 9), .int (1), .int (iv 11), .ref (a 12), .int (iv 13), .ref (a 14)])) :: (a 8, .inr (6, [va_rf (tab), va_rf (ent), .int (nI N), .int (mo), .int (th), .float (1061158912), .null, .null, va_rf ((hdE es none)), va_rf (tl), .int (0), .int (0)])) :: (esW (a 8) ent ++ (enW G none es none))) ++ ((wl ++ (rlW ra rs ++ (rwW G ra av ++ (wr)))))) hD (pm_ (fun _ z => by simp only [List.count_append, List.count_cons, List.count_nil]; omega))
    refine cl_i (wr := ((wl ++ (rlW ra rs ++ (rwW G ra av ++ (wr)))))) (va_runV (As := [.int (b2i true), .int (nI 0)]) (rest := []) ⟨hx, hb, hml, hown, hts⟩ (metX1_given l G a (va_up iv 10 1) es tab ent tl N mo th hok (sN S) hn hn4 true (0) (by decide) _) (cwV 2 hts (lw_V q900 q902 qs9 q29 q903) rfl rfl rfl (by decide +kernel) ⟨Nat.le_of_ble_eq_true rfl, Nat.le_of_ble_eq_true rfl⟩) (pre_WV (q0 := 0) hG hP hD hS hA0 rfl rfl) rfl rfl hl.1 rfl (lv_room (Nat.le_of_ble_eq_true rfl)) dX1_forces_17 ⟨Nat.le_of_ble_eq_true rfl, Nat.le_of_ble_eq_true rfl⟩) hP hD hS hA (fun r_17 w1 H locs hp hP hD hS => ?_)
    obtain ⟨rfl, zg17, rfl⟩ := hp
    have hP : wP G (((a 15, .inr (0, [.ref (a 0), .ref (a 1), .ref (a 2), .ref (a 3), .ref (a 4), .ref (a 5), .ref (a 6), .int (iv 7), .ref (a 8), .ref (a 9), .int (1), .int (iv 11), .ref (a 12), .int (iv 13), .ref (a 14)])) :: (a 8, .inr (6, [va_rf (tab), .ref (zg17), .int (nI N), .int (mo), .int (th), .float (1061158912), .null, .null, va_rf ((hdE es none)), va_rf (tl), .int (0), .int (0)])) :: (zg17, .inr (10, [.int (0), .ref (a 8)])) :: enW G none es none) ++ ((wl ++ (rlW ra rs ++ (rwW G ra av ++ (wr)))))) H := hP
    have hD : va_D A (((a 15, .inr (0, [.ref (a 0), .ref (a 1), .ref (a 2), .ref (a 3), .ref (a 4), .ref (a 5), .ref (a 6), .int (iv 7), .ref (a 8), .ref (a 9), .int (1), .int (iv 11), .ref (a 12), .int (iv 13), .ref (a 14)])) :: (a 8, .inr (6, [va_rf (tab), .ref (zg17), .int (nI N), .int (mo), .int (th), .float (1061158912), .null, .null, va_rf ((hdE es none)), va_rf (tl), .int (0), .int (0)])) :: (zg17, .inr (10, [.int (0), .ref (a 8)])) :: enW G none es none) ++ ((wl ++ (rlW ra rs ++ (rwW G ra av ++ (wr)))))) := hD
    have hP := wP.perm (w' := ((a 15, .inr (0, [.ref (a 0), .ref (a 1), .ref (a 2), .ref (a 3), .ref (a 4), .ref (a 5), .ref (a 6), .int (iv 7), .ref (a 8), .ref (a 9), .int (1), .int (iv 11), .ref (a 12), .int (iv 13), .ref (a 14)])) :: (a 8, .inr (6, [va_rf (tab), .ref (zg17), .int (nI N), .int (mo), .int (th), .float (1061158912), .null, .null, va_rf ((hdE es none)), va_rf (tl), .int (0), .int (0)])) :: (zg17, .inr (10, [.int (0), .ref (a 8)])) :: (enW G none es none ++ (wl ++ (rlW ra rs ++ (rwW G ra av ++ (wr))))))) hP (pm_ (fun _ z => by simp only [List.count_append, List.count_cons, List.count_nil]; omega))
    have hD := va_D.perm (w' := ((a 15, .inr (0, [.ref (a 0), .ref (a 1), .ref (a 2), .ref (a 3), .ref (a 4), .ref (a 5), .ref (a 6), .int (iv 7), .ref (a 8), .ref (a 9), .int (1), .int (iv 11), .ref (a 12), .int (iv 13), .ref (a 14)])) :: (a 8, .inr (6, [va_rf (tab), .ref (zg17), .int (nI N), .int (mo), .int (th), .float (1061158912), .null, .null, va_rf ((hdE es none)), va_rf (tl), .int (0), .int (0)])) :: (zg17, .inr (10, [.int (0), .ref (a 8)])) :: (enW G none es none ++ (wl ++ (rlW ra rs ++ (rwW G ra av ++ (wr))))))) hD (pm_ (fun _ z => by simp only [List.count_append, List.count_cons, List.count_nil]; omega))
    refine top_i (y := nI (gvN S true 0)) (by unfold gvN; rw [← hch]) ?_
    refine lv_iload_n hx hb dX1_forces_20 rfl (lv_at hl 1 rfl) ?_
    refine vp_callSi (W.runS (As := [.int (nI f0)]) (rest := [.int (nI (gvN S true 0))]) ⟨hx, hb, hml, hown, hts⟩ (metX1_bit l G f0 hf1 hf4) (va_cwS 1 hts (lw_S q233 q234 q29 q235) rfl rfl rfl (by decide +kernel) ⟨Nat.le_of_ble_eq_true rfl, Nat.le_of_ble_eq_true rfl⟩) (pre_RS hG (wP.mem (w' := []) hP (fun _ h => absurd h List.not_mem_nil)) hS hA0) rfl rfl hl.1 rfl (lv_room (Nat.le_of_ble_eq_true rfl)) dX1_forces_21 ⟨Nat.le_of_ble_eq_true rfl, Nat.le_of_ble_eq_true rfl⟩) (fun r_21 e_21 => ?_)
    subst e_21
    refine lv_ior hx hb dX1_forces_24 ?_
    obtain ⟨I, hI⟩ : ∃ I, I = gvN S true 0 ||| 2 ^ (f0 - 1) := ⟨_, rfl⟩
    have hIn : I < 2 ^ sN S := by rw [hI]; exact or_n (gvN_lt hW _ _) hf1 hf2
    refine top_i (y := nI I) (by rw [hI]; exact nx_or _ _) ?_
    refine lv_istore_n (lv' := [(3, .int (nI I)), (0, .ref (a 15)), (1, .int (nI f0)), (2, .int (ix))]) hx hb dX1_forces_25 rfl hl (by decide) rfl (fun ls hl => ?_)
    refine lv_aload_n hx hb dX1_forces_26 rfl (lv_at hl 1 rfl) ?_
    refine lv_iconst (v := 0) hx hb dX1_forces_27 (by decide) ?_
    refine top_i (y := b2i false) (rfl) ?_
    refine lv_iconst (v := 0) hx hb dX1_forces_28 (by decide) ?_
    refine top_i (y := nI 0) (rfl) ?_
    have hP := wP.perm (w' := ((a 15, .inr (0, [.ref (a 0), .ref (a 1), .ref (a 2), .ref (a 3), .ref (a 4), .ref (a 5), .ref (a 6), .int (iv 7), .ref (a 8), .ref (a 9), .int (1), .int (iv 11), .ref (a 12), .int (iv 13), .ref (a 14)])) :: (a 8, .inr (6, [va_rf (tab), .ref (zg17), .int (nI N), .int (mo), .int (th), .float (1061158912), .null, .null, va_rf ((hdE es none)), va_rf (tl), .int (0), .int (0)])) :: (zg17, .inr (10, [.int (0), .ref (a 8)])) :: enW G none es none) ++ ((wl ++ (rlW ra rs ++ (rwW G ra av ++ (wr)))))) hP (pm_ (fun _ z => by simp only [List.count_append, List.count_cons, List.count_nil]; omega))
    have hD := va_D.perm (w' := ((a 15, .inr (0, [.ref (a 0), .ref (a 1), .ref (a 2), .ref (a 3), .ref (a 4), .ref (a 5), .ref (a 6), .int (iv 7), .ref (a 8), .ref (a 9), .int (1), .int (iv 11), .ref (a 12), .int (iv 13), .ref (a 14)])) :: (a 8, .inr (6, [va_rf (tab), .ref (zg17), .int (nI N), .int (mo), .int (th), .float (1061158912), .null, .null, va_rf ((hdE es none)), va_rf (tl), .int (0), .int (0)])) :: (zg17, .inr (10, [.int (0), .ref (a 8)])) :: enW G none es none) ++ ((wl ++ (rlW ra rs ++ (rwW G ra av ++ (wr)))))) hD (pm_ (fun _ z => by simp only [List.count_append, List.count_cons, List.count_nil]; omega))
    refine cl_i (wr := ((wl ++ (rlW ra rs ++ (rwW G ra av ++ (wr)))))) (va_runV (As := [.int (b2i false), .int (nI 0)]) (rest := []) ⟨hx, hb, hml, hown, hts⟩ (metX1_given l G a (va_up iv 10 1) es tab (some zg17) tl N mo th hok (sN S) hn hn4 false (0) (by decide) _) (cwV 2 hts (lw_V q900 q902 qs9 q29 q903) rfl rfl rfl (by decide +kernel) ⟨Nat.le_of_ble_eq_true rfl, Nat.le_of_ble_eq_true rfl⟩) (pre_WV (q0 := 0) hG hP hD hS hA0 rfl rfl) rfl rfl hl.1 rfl (lv_room (Nat.le_of_ble_eq_true rfl)) dX1_forces_29 ⟨Nat.le_of_ble_eq_true rfl, Nat.le_of_ble_eq_true rfl⟩) hP hD hS hA (fun r_29 w1 H locs hp hP hD hS => ?_)
    obtain ⟨rfl, zg29, rfl⟩ := hp
    have hP : wP G (((a 15, .inr (0, [.ref (a 0), .ref (a 1), .ref (a 2), .ref (a 3), .ref (a 4), .ref (a 5), .ref (a 6), .int (iv 7), .ref (a 8), .ref (a 9), .int (1), .int (iv 11), .ref (a 12), .int (iv 13), .ref (a 14)])) :: (a 8, .inr (6, [va_rf (tab), .ref (zg29), .int (nI N), .int (mo), .int (th), .float (1061158912), .null, .null, va_rf ((hdE es none)), va_rf (tl), .int (0), .int (0)])) :: (zg29, .inr (10, [.int (0), .ref (a 8)])) :: enW G none es none) ++ ((wl ++ (rlW ra rs ++ (rwW G ra av ++ (wr)))))) H := hP
    have hD : va_D A (((a 15, .inr (0, [.ref (a 0), .ref (a 1), .ref (a 2), .ref (a 3), .ref (a 4), .ref (a 5), .ref (a 6), .int (iv 7), .ref (a 8), .ref (a 9), .int (1), .int (iv 11), .ref (a 12), .int (iv 13), .ref (a 14)])) :: (a 8, .inr (6, [va_rf (tab), .ref (zg29), .int (nI N), .int (mo), .int (th), .float (1061158912), .null, .null, va_rf ((hdE es none)), va_rf (tl), .int (0), .int (0)])) :: (zg29, .inr (10, [.int (0), .ref (a 8)])) :: enW G none es none) ++ ((wl ++ (rlW ra rs ++ (rwW G ra av ++ (wr)))))) := hD
    have hP := wP.perm (w' := ((a 15, .inr (0, [.ref (a 0), .ref (a 1), .ref (a 2), .ref (a 3), .ref (a 4), .ref (a 5), .ref (a 6), .int (iv 7), .ref (a 8), .ref (a 9), .int (1), .int (iv 11), .ref (a 12), .int (iv 13), .ref (a 14)])) :: (a 8, .inr (6, [va_rf (tab), .ref (zg29), .int (nI N), .int (mo), .int (th), .float (1061158912), .null, .null, va_rf ((hdE es none)), va_rf (tl), .int (0), .int (0)])) :: (zg29, .inr (10, [.int (0), .ref (a 8)])) :: (enW G none es none ++ (wl ++ (rlW ra rs ++ (rwW G ra av ++ (wr))))))) hP (pm_ (fun _ z => by simp only [List.count_append, List.count_cons, List.count_nil]; omega))
    have hD := va_D.perm (w' := ((a 15, .inr (0, [.ref (a 0), .ref (a 1), .ref (a 2), .ref (a 3), .ref (a 4), .ref (a 5), .ref (a 6), .int (iv 7), .ref (a 8), .ref (a 9), .int (1), .int (iv 11), .ref (a 12), .int (iv 13), .ref (a 14)])) :: (a 8, .inr (6, [va_rf (tab), .ref (zg29), .int (nI N), .int (mo), .int (th), .float (1061158912), .null, .null, va_rf ((hdE es none)), va_rf (tl), .int (0), .int (0)])) :: (zg29, .inr (10, [.int (0), .ref (a 8)])) :: (enW G none es none ++ (wl ++ (rlW ra rs ++ (rwW G ra av ++ (wr))))))) hD (pm_ (fun _ z => by simp only [List.count_append, List.count_cons, List.count_nil]; omega))
    refine top_i (y := nI (gvN S false 0)) (by unfold gvN; rw [← hch]) ?_
    refine lv_istore (lv' := [(4, .int (nI (gvN S false 0))), (3, .int (nI I)), (0, .ref (a 15)), (1, .int (nI f0)), (2, .int (ix))]) hx hb dX1_forces_32 hl (by decide) rfl (fun ls hl => ?_)
    obtain ⟨O, hO⟩ : ∃ O, O = gvN S false 0 := ⟨_, rfl⟩
    have hOn : O < 2 ^ sN S := by rw [hO]; exact gvN_lt hW _ _
    rw [← hO] at hl
    refine lv_aload_n hx hb dX1_forces_34 rfl (lv_at hl 2 rfl) ?_
    refine lv_iload_n hx hb dX1_forces_35 rfl (lv_at hl 1 rfl) ?_
    refine lv_iload hx hb dX1_forces_36 (lv_at hl 0 rfl) ?_
    refine vp_callSi (W.runV (As := [.int (nI I), .int (nI O)]) (rest := []) ⟨hx, hb, hml, hown, hts⟩ (metX1_first l G a (va_up iv 10 1) ra av rs wl hR.1 hR.2.1 hR.2.2.1 (sN S) hn hn4 hMo 15 (I) (O) (opc_15 _ _ _) (hIn) (hOn)) (cwV 2 hts (lw_V q973 q975 qs10 q29 q976) rfl rfl rfl (by decide +kernel) ⟨Nat.le_of_ble_eq_true rfl, Nat.le_of_ble_eq_true rfl⟩) (pre_RV (q0 := 0) hG (wP.left (wP.perm (w' := ((a 15, .inr (0, [.ref (a 0), .ref (a 1), .ref (a 2), .ref (a 3), .ref (a 4), .ref (a 5), .ref (a 6), .int (iv 7), .ref (a 8), .ref (a 9), .int (1), .int (iv 11), .ref (a 12), .int (iv 13), .ref (a 14)])) :: (wl ++ (rlW ra rs ++ (rwW G ra av)))) ++ ((a 8, .inr (6, [va_rf (tab), .ref (zg29), .int (nI N), .int (mo), .int (th), .float (1061158912), .null, .null, va_rf ((hdE es none)), va_rf (tl), .int (0), .int (0)])) :: (zg29, .inr (10, [.int (0), .ref (a 8)])) :: (enW G none es none ++ (wr)))) hP (pm_ (fun _ z => by simp only [List.count_append, List.count_cons, List.count_nil]; omega)))) hS hA0 rfl rfl) rfl rfl hl.1 rfl (lv_room (Nat.le_of_ble_eq_true rfl)) dX1_forces_38 ⟨Nat.le_of_ble_eq_true rfl, Nat.le_of_ble_eq_true rfl⟩) (fun r_38 e_38 => ?_)
    refine lv_if_ge (tgt := 46) hx hb dX1_forces_41 (by decide) (fun c_41 => ?_) (fun c_41 => ?_)
    · have h41 := FS_f hn4 e_38 c_41
      have L52 : ∀ (d : Nat) (g : Nat) (lf : Int32), sN S + 2 - g ≤ d → 1 ≤ g → g ≤ sN S + 1 → fcG (fzA (sN S) (brS av rs) I O) (fzN (sN S) (brS av rs) I O) f0 (sN S + 1 - g) g lf = fcG (fzA (sN S) (brS av rs) I O) (fzN (sN S) (brS av rs) I O) f0 (sN S) 1 ix → ∀ (H : Heap) (locs : List Loc), wP G ((a 15, .inr (0, [.ref (a 0), .ref (a 1), .ref (a 2), .ref (a 3), .ref (a 4), .ref (a 5), .ref (a 6), .int (iv 7), .ref (a 8), .ref (a 9), .int (1), .int (iv 11), .ref (a 12), .int (iv 13), .ref (a 14)])) :: (a 8, .inr (6, [va_rf (tab), .ref (zg29), .int (nI N), .int (mo), .int (th), .float (1061158912), .null, .null, va_rf ((hdE es none)), va_rf (tl), .int (0), .int (0)])) :: (zg29, .inr (10, [.int (0), .ref (a 8)])) :: (enW G none es none ++ (wl ++ (rlW ra rs ++ (rwW G ra av ++ (wr)))))) H → va_D A ((a 15, .inr (0, [.ref (a 0), .ref (a 1), .ref (a 2), .ref (a 3), .ref (a 4), .ref (a 5), .ref (a 6), .int (iv 7), .ref (a 8), .ref (a 9), .int (1), .int (iv 11), .ref (a 12), .int (iv 13), .ref (a 14)])) :: (a 8, .inr (6, [va_rf (tab), .ref (zg29), .int (nI N), .int (mo), .int (th), .float (1061158912), .null, .null, va_rf ((hdE es none)), va_rf (tl), .int (0), .int (0)])) :: (zg29, .inr (10, [.int (0), .ref (a 8)])) :: (enW G none es none ++ (wl ++ (rlW ra rs ++ (rwW G ra av ++ (wr)))))) → va_S A s.heap H locs → ∀ ls : Array Slot, lv_has ls 9 [(6, .int (nI g)), (5, .int (lf)), (4, .int (nI O)), (3, .int (nI I)), (0, .ref (a 15)), (1, .int (nI f0)), (2, .int (ix))] → W p l e (rm_ 20 114 34014 551) s m args below meth c H locs 114 34014 Q (F0 m 52 ls []) := by
        intro d
        induction d with
        | zero => intros; omega
        | succ d ih_52 =>
          intro g lf hd hg1 hg2 hfc H locs hP hD hS ls hl
          refine lv_iload hx hb dX1_forces_52 (lv_at hl 0 rfl) ?_
          refine lv_aload_n hx hb dX1_forces_54 rfl (lv_at hl 4 rfl) ?_
          refine va_get (D := gD G) (ci := 0) (v := .int (iv 11)) (C := RX1) (T := TX1) (N := 15) hx hb hts in_X1 hown hG.K hP 0 rfl rfl 11 (by decide) (hts _ q175) (fun _ h9 => h9) rfl dX1_forces_55 ?_
          refine top_i (y := nI (sN S)) (hn) ?_
          refine lv_icmp_gt (tgt := 159) hx hb dX1_forces_58 (by decide) (fun c_58 => ?_) (fun c_58 => ?_)
          · have h58 : sN S < g := nI_gt (a := g) (b := sN S) c_58
            refine lv_iconst (v := 0) hx hb dX1_forces_159 (by decide) ?_
            exact ret (0) _ 160 ls _ _ _ _ dX1_forces_160 rfl (Nat.le_of_ble_eq_true rfl) (Nat.le_of_ble_eq_true rfl) hP hD hS (Or.inr ⟨f0, ra, av, rs, wl, wr, zg29, rfl, hf1, hf2, hR, (by subst hI hO; rw [if_neg (by rw [h41]; decide), ← hfc, show sN S + 1 - g = 0 by omega]; rfl), rfl⟩)
          · have h58 : g ≤ sN S := nI_ngt (a := g) (b := sN S) c_58; have hk9 : sN S + 1 - g = (sN S - g) + 1 := (by omega)
            refine lv_iload hx hb dX1_forces_61 (lv_at hl 0 rfl) ?_
            refine lv_iload_n hx hb dX1_forces_63 rfl (lv_at hl 5 rfl) ?_
            refine lv_icmp_ne (tgt := 70) hx hb dX1_forces_64 (by decide) (fun c_64 => ?_) (fun c_64 => ?_)
            · have h64 : g ≠ f0 := nI_ne (a := g) (b := f0) c_64
              refine lv_aload_n hx hb dX1_forces_70 rfl (lv_at hl 4 rfl) ?_
              refine lv_iload_n hx hb dX1_forces_71 rfl (lv_at hl 3 rfl) ?_
              refine lv_iload hx hb dX1_forces_72 (lv_at hl 2 rfl) ?_
              refine lv_iload hx hb dX1_forces_74 (lv_at hl 0 rfl) ?_
              refine vp_callSi (W.runS (As := [.int (nI g)]) (rest := [.int (nI O), .int (nI I), .ref (a 15)]) ⟨hx, hb, hml, hown, hts⟩ (metX1_bit l G g hg1 (by omega)) (va_cwS 1 hts (lw_S q233 q234 q29 q235) rfl rfl rfl (by decide +kernel) ⟨Nat.le_of_ble_eq_true rfl, Nat.le_of_ble_eq_true rfl⟩) (pre_RS hG (wP.mem (w' := []) hP (fun _ h => absurd h List.not_mem_nil)) hS hA0) rfl rfl hl.1 rfl (lv_room (Nat.le_of_ble_eq_true rfl)) dX1_forces_76 ⟨Nat.le_of_ble_eq_true rfl, Nat.le_of_ble_eq_true rfl⟩) (fun r_76 e_76 => ?_)
              subst e_76
              refine lv_ior hx hb dX1_forces_79 ?_
              refine top_i (y := nI (O ||| 2 ^ (g - 1))) (nx_or _ _) ?_
              refine vp_callSi (W.runV (As := [.int (nI I), .int (nI (O ||| 2 ^ (g - 1)))]) (rest := []) ⟨hx, hb, hml, hown, hts⟩ (metX1_first l G a (va_up iv 10 1) ra av rs wl hR.1 hR.2.1 hR.2.2.1 (sN S) hn hn4 hMo 15 (I) (O ||| 2 ^ (g - 1)) (opc_15 _ _ _) (hIn) (or_n hOn hg1 h58)) (cwV 2 hts (lw_V q973 q975 qs10 q29 q976) rfl rfl rfl (by decide +kernel) ⟨Nat.le_of_ble_eq_true rfl, Nat.le_of_ble_eq_true rfl⟩) (pre_RV (q0 := 0) hG (wP.left (wP.perm (w' := ((a 15, .inr (0, [.ref (a 0), .ref (a 1), .ref (a 2), .ref (a 3), .ref (a 4), .ref (a 5), .ref (a 6), .int (iv 7), .ref (a 8), .ref (a 9), .int (1), .int (iv 11), .ref (a 12), .int (iv 13), .ref (a 14)])) :: (wl ++ (rlW ra rs ++ (rwW G ra av)))) ++ ((a 8, .inr (6, [va_rf (tab), .ref (zg29), .int (nI N), .int (mo), .int (th), .float (1061158912), .null, .null, va_rf ((hdE es none)), va_rf (tl), .int (0), .int (0)])) :: (zg29, .inr (10, [.int (0), .ref (a 8)])) :: (enW G none es none ++ (wr)))) hP (pm_ (fun _ z => by simp only [List.count_append, List.count_cons, List.count_nil]; omega)))) hS hA0 rfl rfl) rfl rfl hl.1 rfl (lv_room (Nat.le_of_ble_eq_true rfl)) dX1_forces_80 ⟨Nat.le_of_ble_eq_true rfl, Nat.le_of_ble_eq_true rfl⟩) (fun r_80 e_80 => ?_)
              refine lv_if_ge (tgt := 90) hx hb dX1_forces_83 (by decide) (fun c_83 => ?_) (fun c_83 => ?_)
              · have h83 := FS_f hn4 e_80 c_83
                refine lv_iconst (v := 0) hx hb dX1_forces_90 (by decide) ?_
                refine lv_istore (lv' := [(7, .int (0)), (6, .int (nI g)), (5, .int (lf)), (4, .int (nI O)), (3, .int (nI I)), (0, .ref (a 15)), (1, .int (nI f0)), (2, .int (ix))]) hx hb dX1_forces_91 hl (by decide) rfl (fun ls hl => ?_)
                refine lv_iload hx hb dX1_forces_93 (lv_at hl 0 rfl) ?_
                refine lv_if_ne (tgt := 118) hx hb dX1_forces_95 (by decide) (fun c_95 => absurd c_95 (fun h => h rfl)) (fun c_95 => ?_)
                refine lv_aload_n hx hb dX1_forces_98 rfl (lv_at hl 5 rfl) ?_
                refine lv_iload_n hx hb dX1_forces_99 rfl (lv_at hl 4 rfl) ?_
                refine lv_iload hx hb dX1_forces_100 (lv_at hl 1 rfl) ?_
                refine vp_callSi (W.runS (As := [.int (nI g)]) (rest := [.int (nI I), .ref (a 15)]) ⟨hx, hb, hml, hown, hts⟩ (metX1_bit l G g hg1 (by omega)) (va_cwS 1 hts (lw_S q233 q234 q29 q235) rfl rfl rfl (by decide +kernel) ⟨Nat.le_of_ble_eq_true rfl, Nat.le_of_ble_eq_true rfl⟩) (pre_RS hG (wP.mem (w' := []) hP (fun _ h => absurd h List.not_mem_nil)) hS hA0) rfl rfl hl.1 rfl (lv_room (Nat.le_of_ble_eq_true rfl)) dX1_forces_102 ⟨Nat.le_of_ble_eq_true rfl, Nat.le_of_ble_eq_true rfl⟩) (fun r_102 e_102 => ?_)
                subst e_102
                refine lv_ior hx hb dX1_forces_105 ?_
                refine top_i (y := nI (I ||| 2 ^ (g - 1))) (nx_or _ _) ?_
                refine lv_iload hx hb dX1_forces_106 (lv_at hl 3 rfl) ?_
                refine vp_callSi (W.runV (As := [.int (nI (I ||| 2 ^ (g - 1))), .int (nI O)]) (rest := []) ⟨hx, hb, hml, hown, hts⟩ (metX1_first l G a (va_up iv 10 1) ra av rs wl hR.1 hR.2.1 hR.2.2.1 (sN S) hn hn4 hMo 15 (I ||| 2 ^ (g - 1)) (O) (opc_15 _ _ _) (or_n hIn hg1 h58) (hOn)) (cwV 2 hts (lw_V q973 q975 qs10 q29 q976) rfl rfl rfl (by decide +kernel) ⟨Nat.le_of_ble_eq_true rfl, Nat.le_of_ble_eq_true rfl⟩) (pre_RV (q0 := 0) hG (wP.left (wP.perm (w' := ((a 15, .inr (0, [.ref (a 0), .ref (a 1), .ref (a 2), .ref (a 3), .ref (a 4), .ref (a 5), .ref (a 6), .int (iv 7), .ref (a 8), .ref (a 9), .int (1), .int (iv 11), .ref (a 12), .int (iv 13), .ref (a 14)])) :: (wl ++ (rlW ra rs ++ (rwW G ra av)))) ++ ((a 8, .inr (6, [va_rf (tab), .ref (zg29), .int (nI N), .int (mo), .int (th), .float (1061158912), .null, .null, va_rf ((hdE es none)), va_rf (tl), .int (0), .int (0)])) :: (zg29, .inr (10, [.int (0), .ref (a 8)])) :: (enW G none es none ++ (wr)))) hP (pm_ (fun _ z => by simp only [List.count_append, List.count_cons, List.count_nil]; omega)))) hS hA0 rfl rfl) rfl rfl hl.1 rfl (lv_room (Nat.le_of_ble_eq_true rfl)) dX1_forces_108 ⟨Nat.le_of_ble_eq_true rfl, Nat.le_of_ble_eq_true rfl⟩) (fun r_108 e_108 => ?_)
                refine lv_if_ge (tgt := 118) hx hb dX1_forces_111 (by decide) (fun c_111 => ?_) (fun c_111 => ?_)
                · have h111 := FS_f hn4 e_108 c_111
                  refine lv_iconst (v := 0) hx hb dX1_forces_118 (by decide) ?_
                  refine lv_istore (lv' := [(8, .int (0)), (7, .int (0)), (6, .int (nI g)), (5, .int (lf)), (4, .int (nI O)), (3, .int (nI I)), (0, .ref (a 15)), (1, .int (nI f0)), (2, .int (ix))]) hx hb dX1_forces_119 hl (by decide) rfl (fun ls hl => ?_)
                  refine lv_iload hx hb dX1_forces_121 (lv_at hl 1 rfl) ?_
                  refine lv_if_ne (tgt := 131) hx hb dX1_forces_123 (by decide) (fun c_123 => absurd c_123 (fun h => h rfl)) (fun c_123 => ?_)
                  refine lv_iload hx hb dX1_forces_126 (lv_at hl 0 rfl) ?_
                  refine lv_if_eq (tgt := 153) hx hb dX1_forces_128 (by decide) (fun c_128 => ?_) (fun c_128 => absurd (rfl) c_128)
                  refine lv_iinc (v := nI (g + 1)) (lv' := [(6, .int (nI (g + 1))), (8, .int (0)), (7, .int (0)), (5, .int (lf)), (4, .int (nI O)), (3, .int (nI I)), (0, .ref (a 15)), (1, .int (nI f0)), (2, .int (ix))]) hx hb dX1_forces_153 hl (k := 2) rfl (nI_1 g) (by decide) rfl (fun ls hl => ?_)
                  refine lv_goto (tgt := 52) hx hb dX1_forces_156 (by decide) ?_
                  exact ih_52 (g + 1) (lf) (by omega) (by omega) (by omega) (by rw [← hfc, hk9, show sN S + 1 - (g + 1) = sN S - g by omega]; exact (fc_no (A := fzA (sN S) (brS av rs) I O) (N := fzN (sN S) (brS av rs) I O) (g := g) h83 h111).symm) _ _ hP hD hS ls (lv_sub hl [0, 3, 4, 5, 6, 7, 8] rfl)
                · have h111 := FS_t hn4 e_108 c_111
                  refine lv_iconst (v := 1) hx hb dX1_forces_114 (by decide) ?_
                  refine lv_goto (tgt := 119) hx hb dX1_forces_115 (by decide) ?_
                  refine lv_istore (lv' := [(8, .int (1)), (7, .int (0)), (6, .int (nI g)), (5, .int (lf)), (4, .int (nI O)), (3, .int (nI I)), (0, .ref (a 15)), (1, .int (nI f0)), (2, .int (ix))]) hx hb dX1_forces_119 hl (by decide) rfl (fun ls hl => ?_)
                  refine lv_iload hx hb dX1_forces_121 (lv_at hl 1 rfl) ?_
                  refine lv_if_ne (tgt := 131) hx hb dX1_forces_123 (by decide) (fun c_123 => absurd c_123 (fun h => h rfl)) (fun c_123 => ?_)
                  refine lv_iload hx hb dX1_forces_126 (lv_at hl 0 rfl) ?_
                  refine lv_if_eq (tgt := 153) hx hb dX1_forces_128 (by decide) (fun c_128 => absurd c_128 (by decide)) (fun c_128 => ?_)
                  refine lv_iload hx hb dX1_forces_131 (lv_at hl 3 rfl) ?_
                  refine lv_iinc (v := lf - 1) (lv' := [(5, .int (lf - 1)), (8, .int (1)), (7, .int (0)), (6, .int (nI g)), (4, .int (nI O)), (3, .int (nI I)), (0, .ref (a 15)), (1, .int (nI f0)), (2, .int (ix))]) hx hb dX1_forces_133 hl (k := 3) rfl (by rw [Int32.sub_eq_add_neg]; rfl) (by decide) rfl (fun ls hl => ?_)
                  refine lv_if_ne (tgt := 153) hx hb dX1_forces_136 (by decide) (fun c_136 => ?_) (fun c_136 => ?_)
                  · skip
                    refine lv_iinc (v := nI (g + 1)) (lv' := [(6, .int (nI (g + 1))), (5, .int (lf - 1)), (8, .int (1)), (7, .int (0)), (4, .int (nI O)), (3, .int (nI I)), (0, .ref (a 15)), (1, .int (nI f0)), (2, .int (ix))]) hx hb dX1_forces_153 hl (k := 3) rfl (nI_1 g) (by decide) rfl (fun ls hl => ?_)
                    refine lv_goto (tgt := 52) hx hb dX1_forces_156 (by decide) ?_
                    exact ih_52 (g + 1) (lf - 1) (by omega) (by omega) (by omega) (by rw [← hfc, hk9, show sN S + 1 - (g + 1) = sN S - g by omega]; exact (fc_dn h64 (by rw [show fzN (sN S) (brS av rs) I O g = true from h111, Bool.or_true]) c_136).symm) _ _ hP hD hS ls (lv_sub hl [0, 1, 4, 5, 6, 7, 8] rfl)
                  · skip
                    refine lv_iload hx hb dX1_forces_139 (lv_at hl 2 rfl) ?_
                    refine lv_if_eq (tgt := 149) hx hb dX1_forces_141 (by decide) (fun c_141 => ?_) (fun c_141 => absurd (rfl) c_141)
                    refine lv_iload hx hb dX1_forces_149 (lv_at hl 3 rfl) ?_
                    refine lv_ineg hx hb dX1_forces_151 ?_
                    exact ret (-(nI g)) _ 152 ls _ _ _ _ dX1_forces_152 rfl (Nat.le_of_ble_eq_true rfl) (Nat.le_of_ble_eq_true rfl) hP hD hS (Or.inr ⟨f0, ra, av, rs, wl, wr, zg29, rfl, hf1, hf2, hR, (by subst hI hO; rw [if_neg (by rw [h41]; decide), ← hfc, hk9]; exact (fc_N h64 h83 h111 c_136).symm), rfl⟩)
              · have h83 := FS_t hn4 e_80 c_83
                refine lv_iconst (v := 1) hx hb dX1_forces_86 (by decide) ?_
                refine lv_goto (tgt := 91) hx hb dX1_forces_87 (by decide) ?_
                refine lv_istore (lv' := [(7, .int (1)), (6, .int (nI g)), (5, .int (lf)), (4, .int (nI O)), (3, .int (nI I)), (0, .ref (a 15)), (1, .int (nI f0)), (2, .int (ix))]) hx hb dX1_forces_91 hl (by decide) rfl (fun ls hl => ?_)
                refine lv_iload hx hb dX1_forces_93 (lv_at hl 0 rfl) ?_
                refine lv_if_ne (tgt := 118) hx hb dX1_forces_95 (by decide) (fun c_95 => ?_) (fun c_95 => absurd c_95 (by decide))
                refine lv_iconst (v := 0) hx hb dX1_forces_118 (by decide) ?_
                refine lv_istore (lv' := [(8, .int (0)), (7, .int (1)), (6, .int (nI g)), (5, .int (lf)), (4, .int (nI O)), (3, .int (nI I)), (0, .ref (a 15)), (1, .int (nI f0)), (2, .int (ix))]) hx hb dX1_forces_119 hl (by decide) rfl (fun ls hl => ?_)
                refine lv_iload hx hb dX1_forces_121 (lv_at hl 1 rfl) ?_
                refine lv_if_ne (tgt := 131) hx hb dX1_forces_123 (by decide) (fun c_123 => ?_) (fun c_123 => absurd c_123 (by decide))
                refine lv_iload hx hb dX1_forces_131 (lv_at hl 3 rfl) ?_
                refine lv_iinc (v := lf - 1) (lv' := [(5, .int (lf - 1)), (8, .int (0)), (7, .int (1)), (6, .int (nI g)), (4, .int (nI O)), (3, .int (nI I)), (0, .ref (a 15)), (1, .int (nI f0)), (2, .int (ix))]) hx hb dX1_forces_133 hl (k := 3) rfl (by rw [Int32.sub_eq_add_neg]; rfl) (by decide) rfl (fun ls hl => ?_)
                refine lv_if_ne (tgt := 153) hx hb dX1_forces_136 (by decide) (fun c_136 => ?_) (fun c_136 => ?_)
                · skip
                  refine lv_iinc (v := nI (g + 1)) (lv' := [(6, .int (nI (g + 1))), (5, .int (lf - 1)), (8, .int (0)), (7, .int (1)), (4, .int (nI O)), (3, .int (nI I)), (0, .ref (a 15)), (1, .int (nI f0)), (2, .int (ix))]) hx hb dX1_forces_153 hl (k := 3) rfl (nI_1 g) (by decide) rfl (fun ls hl => ?_)
                  refine lv_goto (tgt := 52) hx hb dX1_forces_156 (by decide) ?_
                  exact ih_52 (g + 1) (lf - 1) (by omega) (by omega) (by omega) (by rw [← hfc, hk9, show sN S + 1 - (g + 1) = sN S - g by omega]; exact (fc_dn h64 (by rw [show fzA (sN S) (brS av rs) I O g = true from h83]; rfl) c_136).symm) _ _ hP hD hS ls (lv_sub hl [0, 1, 4, 5, 6, 7, 8] rfl)
                · skip
                  refine lv_iload hx hb dX1_forces_139 (lv_at hl 2 rfl) ?_
                  refine lv_if_eq (tgt := 149) hx hb dX1_forces_141 (by decide) (fun c_141 => absurd c_141 (by decide)) (fun c_141 => ?_)
                  refine lv_iload hx hb dX1_forces_144 (lv_at hl 3 rfl) ?_
                  refine lv_goto (tgt := 152) hx hb dX1_forces_146 (by decide) ?_
                  exact ret (nI g) _ 152 ls _ _ _ _ dX1_forces_152 rfl (Nat.le_of_ble_eq_true rfl) (Nat.le_of_ble_eq_true rfl) hP hD hS (Or.inr ⟨f0, ra, av, rs, wl, wr, zg29, rfl, hf1, hf2, hR, (by subst hI hO; rw [if_neg (by rw [h41]; decide), ← hfc, hk9]; exact (fc_A h64 h83 c_136).symm), rfl⟩)
            · have h64 : g = f0 := nI_e (a := g) (b := f0) c_64
              refine lv_goto (tgt := 153) hx hb dX1_forces_67 (by decide) ?_
              refine lv_iinc (v := nI (g + 1)) (lv' := [(6, .int (nI (g + 1))), (5, .int (lf)), (4, .int (nI O)), (3, .int (nI I)), (0, .ref (a 15)), (1, .int (nI f0)), (2, .int (ix))]) hx hb dX1_forces_153 hl (k := 0) rfl (nI_1 g) (by decide) rfl (fun ls hl => ?_)
              refine lv_goto (tgt := 52) hx hb dX1_forces_156 (by decide) ?_
              exact ih_52 (g + 1) (lf) (by omega) (by omega) (by omega) (by rw [← hfc, hk9, show sN S + 1 - (g + 1) = sN S - g by omega]; exact (fc_eq h64).symm) _ _ hP hD hS ls hl
      refine lv_iload_n hx hb dX1_forces_46 rfl (lv_at hl 4 rfl) ?_
      refine lv_istore (lv' := [(5, .int (ix)), (4, .int (nI O)), (3, .int (nI I)), (0, .ref (a 15)), (1, .int (nI f0)), (2, .int (ix))]) hx hb dX1_forces_47 hl (by decide) rfl (fun ls hl => ?_)
      refine lv_iconst (v := 1) hx hb dX1_forces_49 (by decide) ?_
      refine lv_istore (lv' := [(6, .int (1)), (5, .int (ix)), (4, .int (nI O)), (3, .int (nI I)), (0, .ref (a 15)), (1, .int (nI f0)), (2, .int (ix))]) hx hb dX1_forces_50 hl (by decide) rfl (fun ls hl => ?_)
      exact L52 (sN S + 1) 1 ix (by omega) (by omega) (by omega) rfl _ _ hP hD hS ls hl
    · have h41 := FS_t hn4 e_38 c_41
      refine lv_iconst (v := 0) hx hb dX1_forces_44 (by decide) ?_
      exact ret (0) _ 45 ls _ _ _ _ dX1_forces_45 rfl (Nat.le_of_ble_eq_true rfl) (Nat.le_of_ble_eq_true rfl) hP hD hS (Or.inr ⟨f0, ra, av, rs, wl, wr, zg29, rfl, hf1, hf2, hR, (by subst hI hO; rw [if_pos h41]), rfl⟩)
  · have h5 : isF x (nI (sN S)) = false := b2i_0.mp c_5
    refine lv_iconst (v := (-1)) hx hb dX1_forces_8 (by decide) ?_
    exact ret (-1) _ 9 ls _ _ _ _ dX1_forces_9 rfl (Nat.le_of_ble_eq_true rfl) (Nat.le_of_ble_eq_true rfl) hP hD hS (Or.inl ⟨h5, rfl, rfl⟩)
