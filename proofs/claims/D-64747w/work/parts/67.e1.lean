set_option maxHeartbeats 4000000 in
set_option maxRecDepth 100000 in
theorem metX1_make1 (l : Launch) (G : Gt) (a : Nat → Nat) (iv : Nat → Int32) (hmd : iv 10 = 1) (sz : Nat) : CWv l G yX1_make cX1_make 2 7 110 34000 154 [.ref (a 15)] [(a 15, .inr (0, [.ref (a 0), .ref (a 1), .ref (a 2), .ref (a 3), .ref (a 4), .ref (a 5), .ref (a 6), .int (iv 7), .ref (a 8), .ref (a 9), .int (iv 10), .int (iv 11), .ref (a 12), .int (iv 13), .ref (a 14)]))] sz (fun w1 => w1 = [xC a iv]) := by
  refine mkWv (by decide) (Nat.le_of_ble_eq_true rfl) ?_
  intro p e s m args below meth c Q A hx hb hts hown hin hml hG hsz hP hD hA hA0 hS ret ls hl
  refine lv_aload_n hx hb dX1_make_0 rfl (lv_at hl 0 rfl) ?_
  refine va_get (D := gD G) (ci := 0) (v := .int (iv 10)) (C := RX1) (T := TX1) (N := 15) hx hb hts in_X1 hown hG.K hP 0 rfl rfl 10 (by decide) (hts _ q174) (fun _ h9 => h9) rfl dX1_make_1 ?_
  refine top_i (y := 1) (hmd) ?_
  refine lv_if_eq (tgt := 8) hx hb dX1_make_4 (by decide) (fun c_4 => absurd c_4 (by decide)) (fun c_4 => ?_)
  exact ret _ 7 ls _ _ _ _ dX1_make_7 (Nat.le_of_ble_eq_true rfl) (Nat.le_of_ble_eq_true rfl) hP hD hS (rfl)
theorem WS_1 {S : St} (hW : WS S) (h : 1 ≤ sN S) : sPa S 1 = 0 := by
  have := (hW.2.1 1 (by omega) h).1
  omega
theorem WS_p {S : St} {j : Nat} (hW : WS S) (h1 : 1 ≤ j) (h2 : j ≤ sN S) : sPa S j ≤ 14 ∧ sKi S j ≤ 2 := by
  have h3 := hW.2.1 j h1 h2
  have h4 := hW.1
  exact ⟨by omega, h3.2.2⟩
theorem WS_g {S : St} {j : Nat} {z : Nat × Nat} (hW : WS S) (h : sGr S j = some z) : z.1 ≤ 14 ∧ z.2 ≤ 14 := by
  have h3 := hW.2.2.1 j z h
  omega
/-- the rules that the formulas give, and all rules -/
def foRs (S : St) : Nat → List Rl
  | 0 => []
  | k + 1 => foRs S k ++ foR1 (sFo S k).1 (sFo S k).2.1 (sFo S k).2.2
def ruS (S : St) : List Rl := trR (sPa S) (sKi S) (sN S) ++ cnR (sPa S) (sKi S) (sGr S) (sN S) (sN S) ++ foRs S (sNf S) ++ smR (sLm S) 4
abbrev gpC (G : Gt) (q : Nat) (z : Nat × Nat) : Nat × va_E := (q, .inl (gA G 0, 2, .inl (upd (upd (fun _ => 0) 0 (nI z.1)) 1 (nI z.2))))
def avOk (S : St) (av : Nat → Nat → Int32) : Prop := ∀ k j, k < 4 → 1 ≤ j → j ≤ 14 → av k j = sAt S k j
def lmOk (G : Gt) (S : St) (lf : Nat → Option Nat) (lb : Nat → va_W) : Prop := ∀ k, k < 4 → (sLm S k = none ∧ lf k = none) ∨ ∃ v y, sLm S k = some v ∧ lf k = some y ∧ bxW G v y (lb k)
def grOk (G : Gt) (S : St) (gf : Nat → Option Nat) (gw : Nat → va_W) : Prop := ∀ j, 1 ≤ j → j ≤ 14 → (sGr S j = none ∧ gf j = none) ∨ ∃ q z, sGr S j = some z ∧ gf j = some q ∧ gw j = [gpC G q z]
def rfOk (S : St) (rf : List (Nat × Rl)) : Prop := (∀ z ∈ rf, rlOk z.2) ∧ rf.map (·.2) = foRs S (sNf S) ∧ rf.length ≤ 2 * sNf S
/-- the rules are made -/
def ruOk (S : St) (ra : Nat → Nat) (rf : List (Nat × Rl)) (vs9 : List Nat) (own : va_W) : Prop := ∃ r1 r2, vs9 = (r1 ++ (rf ++ r2)).map (·.1) ∧ own = rlW ra r1 ++ rlW ra r2 ∧ (∀ z ∈ r1 ++ (rf ++ r2), rlOk z.2) ∧ (r1 ++ (rf ++ r2)).length ≤ 300 ∧ (r1 ++ (rf ++ r2)).map (·.2) = ruS S
abbrev dkW (G : Gt) (a : Nat → Nat) (fp fk : Nat → Int32) (ra : Nat → Nat) (av : Nat → Nat → Int32) (lf gf : Nat → Option Nat) (gw lb : Nat → va_W) (rf : List (Nat × Rl)) (w6 w9 own : va_W) : va_W := (a 0, .inl (gA G 0, 15, .inl fp)) :: (a 1, .inl (gA G 0, 15, .inl fk)) :: (a 3, .inl (gA G 6, 4, .inr (.inr (.inr (.inr (fun k => some (ra k))))))) :: (a 4, .inl (gA G 4, 4, .inr (.inr (.inr (.inr lf))))) :: (a 5, .inl (gA G 6, 15, .inr (.inr (.inr (.inr gf))))) :: (rwW G ra av ++ (flW lb 4 ++ (flW gw 15 ++ (w6 ++ (rlW ra rf ++ (w9 ++ own))))))
/-- the object's data: parents, kinds, attributes, limits, groups, formulas, rules (mv: made) -/
def MK (G : Gt) (a : Nat → Nat) (S : St) (mv : Int32) (wk : va_W) : Prop := ∃ (fp fk : Nat → Int32) (ra : Nat → Nat) (av : Nat → Nat → Int32) (lf gf : Nat → Option Nat) (gw lb : Nat → va_W) (rf : List (Nat × Rl)) (w6 w9 : va_W) (vs9 : List Nat) (own : va_W),
  (∀ j, 1 ≤ j → j ≤ sN S → fp j = nI (sPa S j) ∧ fk j = nI (sKi S j)) ∧ avOk S av ∧ lmOk G S lf lb ∧ grOk G S gf gw ∧ rfOk S rf ∧ AL G (a 6) (rf.map (·.1)) w6 ∧ AL G (a 9) vs9 w9 ∧ (mv = 0 ∨ (mv = 1 ∧ ruOk S ra rf vs9 own)) ∧ wk = dkW G a fp fk ra av lf gf gw lb rf w6 w9 own
/-- ready for a search: the rules' list wl, their cells, the attributes' rows; wr: the rest -/
def Rdy (G : Gt) (a : Nat → Nat) (S : St) (ra : Nat → Nat) (av : Nat → Nat → Int32) (rs : List (Nat × Rl)) (wl wr : va_W) : Prop := AL G (a 9) (rs.map (·.1)) wl ∧ (∀ z ∈ rs, rlOk z.2) ∧ rs.length ≤ 300 ∧ rs.map (·.2) = ruS S ∧ avOk S av ∧ ∃ wk, MK G a S 1 wk ∧ wk.Perm (wl ++ (rlW ra rs ++ (rwW G ra av ++ wr)))
theorem xC_10 {a : Nat → Nat} {iv : Nat → Int32} {v : Int32} (h : iv 10 = v) : xC a iv = xC a (va_up iv 10 v) := by
  show (a 15, _) = (a 15, _)
  simp [va_up, h]
theorem rlW_pm (ra : Nat → Nat) (r1 rf r2 : List (Nat × Rl)) : rlW ra (r1 ++ (rf ++ r2)) = rlW ra r1 ++ (rlW ra rf ++ rlW ra r2) := by rw [rlW_app, rlW_app]
theorem Rdy_of {G : Gt} {a : Nat → Nat} {S : St} {fp fk : Nat → Int32} {ra : Nat → Nat} {av : Nat → Nat → Int32} {lf gf : Nat → Option Nat} {gw lb : Nat → va_W} {rf r1 r2 : List (Nat × Rl)} {w6 wl : va_W} (h1 : ∀ j, 1 ≤ j → j ≤ sN S → fp j = nI (sPa S j) ∧ fk j = nI (sKi S j)) (h2 : avOk S av) (h3 : lmOk G S lf lb) (h4 : grOk G S gf gw) (h5 : rfOk S rf) (h6 : AL G (a 6) (rf.map (·.1)) w6) (h7 : AL G (a 9) ((r1 ++ (rf ++ r2)).map (·.1)) wl) (h8 : ∀ z ∈ r1 ++ (rf ++ r2), rlOk z.2) (h9 : (r1 ++ (rf ++ r2)).length ≤ 300) (h10 : (r1 ++ (rf ++ r2)).map (·.2) = ruS S) : Rdy G a S ra av (r1 ++ (rf ++ r2)) wl ((a 0, .inl (gA G 0, 15, .inl fp)) :: (a 1, .inl (gA G 0, 15, .inl fk)) :: (a 3, .inl (gA G 6, 4, .inr (.inr (.inr (.inr (fun k => some (ra k))))))) :: (a 4, .inl (gA G 4, 4, .inr (.inr (.inr (.inr lf))))) :: (a 5, .inl (gA G 6, 15, .inr (.inr (.inr (.inr gf))))) :: (flW lb 4 ++ (flW gw 15 ++ w6))) := by
  refine ⟨h7, h8, h9, h10, h2, _, ⟨fp, fk, ra, av, lf, gf, gw, lb, rf, w6, wl, _, rlW ra r1 ++ rlW ra r2, h1, h2, h3, h4, h5, h6, h7, Or.inr ⟨rfl, r1, r2, rfl, rfl, h8, h9, h10⟩, rfl⟩, ?_⟩
  rw [rlW_pm]
  exact pm_ (fun _ z => by simp only [List.count_append, List.count_cons]; omega)
theorem metX1_make (l : Launch) (G : Gt) (a : Nat → Nat) (iv : Nat → Int32) (S : St) (wk : va_W) (hM : MK G a S (iv 10) wk) (hW : WS S) (hn : iv 11 = nI (sN S)) (sz : Nat) : CWv l G yX1_make cX1_make 2 7 110 34000 154 [.ref (a 15)] (xC a iv :: wk) sz (fun w1 => ∃ ra av rs wl wr, Rdy G a S ra av rs wl wr ∧ w1 = xC a (va_up iv 10 1) :: (wl ++ (rlW ra rs ++ (rwW G ra av ++ wr)))) := by
  obtain ⟨fp, fk, ra, av, lf, gf, gw, lb, rf, w6, w9, vs9, own, h1, h2, h3, h4, h5, h6, h7, h8, rfl⟩ := hM
  have hn4 := hW.1
  rcases h8 with h8 | ⟨h8, r1, r2, rfl, rfl, g1, g2, g3⟩
  · have hm := metX1_make0 l G a iv h8 fp fk ra lf gf gw lb rf w6 w9 vs9 h6 h7 h5.1 (by have := h5.2.2; have := hW.2.2.2.1; omega) (sN S) hn hn4 (sPa S) (sKi S) (sGr S) (sLm S) (WS_1 hW) (fun j g1 g2 => ⟨(h1 j g1 g2).1, (h1 j g1 g2).2, (WS_p hW g1 g2).1, (WS_p hW g1 g2).2⟩) (fun j g1 g2 => (hW.2.1 j (by omega) g2).2.1 (by omega)) (fun j g1 g2 => (h4 j g1 (by omega)).elim Or.inl (fun ⟨q, z, e1, e2, e3⟩ => Or.inr ⟨q, z, e1, e2, e3, (WS_g hW e1).1, (WS_g hW e1).2⟩)) h3 sz
    have e0 : xC a iv = (a 15, .inr (0, [.ref (a 0), .ref (a 1), .ref (a 2), .ref (a 3), .ref (a 4), .ref (a 5), .ref (a 6), .int (iv 7), .ref (a 8), .ref (a 9), .int (0), .int (iv 11), .ref (a 12), .int (iv 13), .ref (a 14)])) := by show (a 15, _) = (a 15, _); rw [h8]
    have hm := CWv.perm (w0' := xC a iv :: dkW G a fp fk ra av lf gf gw lb rf w6 w9 own) (hm.frame (rwW G ra av ++ own)) (pm_ (fun _ z => by rw [e0]; simp only [List.count_append, List.count_cons]; omega))
    refine CWv.postd hm (fun w1 hp => ?_)
    obtain ⟨w2, ⟨rs, wl, g1, g2, g3, g4, ⟨r1, r2, rfl⟩, rfl⟩, rfl⟩ := hp
    rw [h5.2.1] at g3
    refine ⟨_, own, ?_, ra, av, _, wl, _, Rdy_of (fp := fp) (fk := fk) (ra := ra) h1 h2 h3 h4 h5 h6 g1 g2 (by omega) g3, rfl⟩
    rw [show xC a (va_up iv 10 1) = (a 15, .inr (0, [.ref (a 0), .ref (a 1), .ref (a 2), .ref (a 3), .ref (a 4), .ref (a 5), .ref (a 6), .int (iv 7), .ref (a 8), .ref (a 9), .int (1), .int (iv 11), .ref (a 12), .int (iv 13), .ref (a 14)])) from rfl]
    exact pm_ (fun _ z => by simp only [List.count_append, List.count_cons]; omega)
  · have hm := (metX1_make1 l G a iv h8 sz).frame (dkW G a fp fk ra av lf gf gw lb rf w6 w9 (rlW ra r1 ++ rlW ra r2))
    refine CWv.postp hm (fun w1 hp => ?_)
    obtain ⟨w2, rfl, rfl⟩ := hp
    refine ⟨_, ?_, ra, av, _, w9, _, Rdy_of (fp := fp) (fk := fk) (ra := ra) h1 h2 h3 h4 h5 h6 h7 g1 g2 g3, rfl⟩
    rw [← xC_10 h8, rlW_pm]
    exact pm_ (fun _ z => by simp only [List.count_append, List.count_cons, List.count_nil]; omega)
