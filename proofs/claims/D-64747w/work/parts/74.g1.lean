/-! the whole object at x against the plain state -/
theorem CR.sub {l : Launch} {G : Gt} {y : MethodName} {b : ByteArray} {L : Nat} {r : FieldType} {fr lo : Nat} {av : List Value} {w0 w1 : va_W} {post : Int32 → Prop} (h : CR l G y b L r fr lo av w0 post) (hs : ∀ q ∈ w0, q ∈ w1) : CR l G y b L r fr lo av w1 post := Met.pre_ h (PcR_mono hs)
theorem CR.post {l : Launch} {G : Gt} {y : MethodName} {b : ByteArray} {L : Nat} {r : FieldType} {fr lo : Nat} {av : List Value} {w0 : va_W} {post post' : Int32 → Prop} (h : CR l G y b L r fr lo av w0 post) (hp : ∀ v, post v → post' v) : CR l G y b L r fr lo av w0 post' := Met.post_ h (fun a U o t hq => by
  obtain ⟨rv, h1, h2, h3⟩ := hq
  exact ⟨rv, h1, hp _ h2, h3⟩)
def vrOk (S : St) (v : Int32) : Prop := (sVr S = none ∧ v = -1) ∨ ∃ q, sVr S = some q ∧ v = nI (rvN q.1 q.2)
def lvOk (S : St) (fl : Nat → Int32) : Prop := ∀ j, j < sN S → fl j = nI (dpN (sPa S) 15 (sPa S (j + 1)))
def fdV (S : St) : List Nat := (sFd S).map (fun q => rvN q.1 q.2)
/-- found and why -/
def flOk (G : Gt) (a : Nat → Nat) (S : St) (b12 b14 : List Bx) (w12 w14 : va_W) : Prop := AL G (a 12) (b12.map (·.1)) w12 ∧ bxOk G b12 ∧ b12.map (·.2.1) = (fdV S).map nI ∧ AL G (a 14) (b14.map (·.1)) w14 ∧ bxOk G b14 ∧ b14.map (·.2.1) = (sWy S).map litI
def FW (G : Gt) (x : Nat) (S : St) (w : va_W) : Prop := ∃ (a : Nat → Nat) (iv fl : Nat → Int32) (wk wm : va_W) (b12 b14 : List Bx) (w12 w14 : va_W), a 15 = x ∧ iv 11 = nI (sN S) ∧ iv 7 = nI (sNf S) ∧ lvOk S fl ∧ MK G a S (iv 10) wk ∧ MP G (a 8) (sCh S) wm ∧ vrOk S (iv 13) ∧ flOk G a S b12 b14 w12 w14 ∧ w = xC a iv :: (a 2, .inl (gA G 0, sN S, .inl fl)) :: (wk ++ (wm ++ (w12 ++ (bxF b12 ++ (w14 ++ bxF b14)))))
theorem getD_map {α β : Type} (f : α → β) (xs : List α) (k : Nat) (d : α) : (xs.map f).getD k (f d) = f (xs.getD k d) := by
  rw [List.getD_eq_getElem?_getD, List.getD_eq_getElem?_getD, List.getElem?_map]
  cases xs[k]? <;> rfl
theorem ctB_sh (P : Nat → Bool) : ∀ n, ctB P (n + 1) = (if P 0 then 1 else 0) + ctB (fun k => P (k + 1)) n := by
  intro n
  induction n with
  | zero => show 0 + (if P 0 then 1 else 0) = (if P 0 then 1 else 0) + 0; rw [Nat.zero_add, Nat.add_zero]
  | succ n ih =>
    show ctB P (n + 1) + (if P (n + 1) then 1 else 0) = _ + (ctB (fun k => P (k + 1)) n + (if P (n + 1) then 1 else 0))
    rw [ih]; omega
theorem FW_chosen (l : Launch) (G : Gt) (x : Nat) (S : St) (w : va_W) (hF : FW G x S w) (hW : WS S) (f : Int32) : CR l G yX1_chosen cX1_chosen 2 .boolean 1 21 [.ref x, .int f] w (fun r => r = b2i (stChosen S f)) := by
  obtain ⟨a, iv, fl, wk, wm, b12, b14, w12, w14, rfl, h1, h2, h3, h4, h5, h6, h7, rfl⟩ := hF
  exact CR.sub (metX1_chosen l G a iv S (sN S) rfl h1 hW h6 f) (fun q hq => by rw [List.mem_singleton] at hq; rw [hq]; exact List.mem_cons_self)
theorem FW_why (l : Launch) (G : Gt) (x : Nat) (S : St) (w : va_W) (hF : FW G x S w) (hW : WS S) (i : Int32) : CR l G yX1_why cX1_why 2 .int 3 64 [.ref x, .int i] w (fun r => r = stWhy S i) := by
  obtain ⟨a, iv, fl, wk, wm, b12, b14, w12, w14, rfl, h1, h2, h3, h4, h5, h6, ⟨-, -, -, g1, g2, g3⟩, rfl⟩ := hF
  have hl : b14.length = (sWy S).length := by have := congrArg List.length g3; rwa [List.length_map, List.length_map] at this
  refine CR.post (CR.sub (metX1_why l G a iv b14 w14 g1 g2 (by rw [hl]; have := hW.2.2.2.2.2.2.2.2.2.2.2.2.2; omega) i) (fun q hq => by simp only [List.mem_cons, List.mem_append] at hq ⊢; rcases hq with h | h | h <;> simp only [h, true_or, or_true])) (fun v hv => ?_)
  rw [hv, hl, g3, show (0 : Int32) = litI (0, true) from rfl, getD_map]
  rfl
theorem FW_differ (l : Launch) (G : Gt) (x : Nat) (S : St) (w : va_W) (hF : FW G x S w) (hW : WS S) (i j : Int32) : CR l G yX1_differ cX1_differ 3 .int 3 64 [.ref x, .int i, .int j] w (fun r => r = stDiffer S i j) := by
  obtain ⟨a, iv, fl, wk, wm, b12, b14, w12, w14, rfl, h1, h2, h3, h4, h5, h6, ⟨g1, g2, g3, -, -, -⟩, rfl⟩ := hF
  have hl : b12.length = (sFd S).length := by have := congrArg List.length g3; rwa [List.length_map, List.length_map, fdV, List.length_map] at this
  have hfd := hW.2.2.2.2.2.2.2.2.2.1
  have hlt : ∀ m ∈ fdV S, m < 2 ^ 14 := by
    intro m hm
    obtain ⟨q, hq, rfl⟩ := List.mem_map.mp hm
    exact Nat.lt_of_lt_of_le (rv_lt _ _) (p2_14 (Nat.le_trans (hfd q hq).1 hW.1))
  refine CR.post (CR.sub (metX1_differ l G a iv b12 (fdV S) w12 g1 g2 g3 hlt (by rw [hl]; have := hW.2.2.2.2.2.2.2.2.2.2.1; omega) i j) (fun q hq => by simp only [List.mem_cons, List.mem_append] at hq ⊢; rcases hq with h | h | h <;> simp only [h, true_or, or_true])) (fun v hv => ?_)
  rw [hv, hl]
  unfold stDiffer
  by_cases hc : i < 1 ∨ nI (sFd S).length < i ∨ j < 1 ∨ nI (sFd S).length < j
  · rw [if_pos hc, if_pos hc]
  · have e1 : ∀ k, (fdV S).getD k 0 = rvN ((sFd S).getD k (0, 0)).1 ((sFd S).getD k (0, 0)).2 := fun k => getD_map (fun q : Nat × Nat => rvN q.1 q.2) (sFd S) k (0, 0)
    rw [if_neg hc, if_neg hc, e1, e1]
    have hp : ∀ k, ((sFd S).getD k (0, 0)).1 ≤ 14 := by
      intro k
      rw [List.getD_eq_getElem?_getD]
      cases hk : (sFd S)[k]? with
      | none => exact Nat.zero_le _
      | some q => exact Nat.le_trans (hfd q (List.mem_of_getElem? hk)).1 hW.1
    generalize hP : (sFd S).getD (iN i - 1) (0, 0) = P
    generalize hQ : (sFd S).getD (iN j - 1) (0, 0) = R
    have p1 : P.1 ≤ 14 := by rw [← hP]; exact hp _
    have p2 : R.1 ≤ 14 := by rw [← hQ]; exact hp _
    congr 1
    show ctB _ 14 = ctB _ (14 + 1)
    rw [ctB_sh (dfP P R)]
    show _ = 0 + _
    rw [Nat.zero_add]
    refine ctB_congr (fun k hk => ?_)
    rw [Nat.testBit_xor]
    unfold dfP
    rw [decide_eq_true (show 1 ≤ k + 1 by omega), Bool.true_and, wsI_tb p1 (by omega) (by omega), wsI_tb p2 (by omega) (by omega), Nat.add_sub_cancel]
    cases (rvN P.1 P.2).testBit k <;> cases (rvN R.1 R.2).testBit k <;> rfl
