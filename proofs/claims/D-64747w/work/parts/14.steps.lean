/-! the calls' steps on the plain state: answer and next state; what holds of a state that is reached (WS); the reference's cells against a state (MR) -/
def iN (x : Int32) : Nat := x.toNatClampNeg
theorem iN_nI {n : Nat} (h : n < 2 ^ 31) : iN (nI n) = n := nI_clamp h
def toLit (x : Int32) : Lit := if x < 0 then (iN (-x), false) else (iN x, true)
theorem toLit_litI {t : Lit} (h1 : 1 ≤ t.1) (h2 : t.1 ≤ 14) : toLit (litI t) = t := by
  obtain ⟨g, sg⟩ := t
  have hg : g < 2 ^ 31 := Nat.lt_of_le_of_lt h2 (by decide)
  cases sg with
  | true =>
    show (if nI g < 0 then (iN (-(nI g)), false) else (iN (nI g), true)) = (g, true)
    rw [if_neg (nI_pos hg), iN_nI hg]
  | false =>
    show (if -(nI g) < 0 then (iN (-(-(nI g))), false) else (iN (-(nI g)), true)) = (g, false)
    rw [if_pos (nI_neg_lt h1 hg), neg_neg_i, iN_nI hg]
def sbad (n : Nat) (p : Int32) : Bool := if n = 0 then decide (¬ p = 0) else !isF p (nI n)
def stFeature (S : St) (p k : Int32) : Int32 × St :=
  if sbad (sN S) p then (-1, S) else if k < 0 ∨ 2 < k then (-2, S) else if sN S = 14 then (-4, S)
  else (nI (sN S + 1), (sN S + 1, va_up (sPa S) (sN S + 1) (iN p), va_up (sKi S) (sN S + 1) (iN k), S.2.2.2))
def stGroup (S : St) (g lo hi : Int32) : Int32 × St :=
  if !isF g (nI (sN S)) then (-1, S) else if lo < 0 ∨ hi < lo ∨ 14 < hi then (-2, S)
  else (nI (ctB (gbP (sPa S) (sKi S) (iN g)) (sN S + 1)), (sN S, sPa S, sKi S, va_up (sGr S) (iN g) (some (iN lo, iN hi)), S.2.2.2.2))
def stAlw (op a b : Int32) : Bool := if op = 0 ∨ op = 3 then decide (a = b) else decide (a = -b)
def stFormula (S : St) (op a b : Int32) : Int32 × St :=
  if !isL a (nI (sN S)) || !isL b (nI (sN S)) then (-1, S) else if op < 0 ∨ 3 < op then (-2, S) else if sNf S = 40 then (-4, S)
  else if stAlw op a b then (0, S)
  else (nI (sNf S + 1), (sN S, sPa S, sKi S, sGr S, sNf S + 1, va_up (sFo S) (sNf S) (iN op, toLit a, toLit b), S.2.2.2.2.2.2))
def stBd (g : Int32) : Int32 := if g = 0 then 10000 else 1000
def stAttr (S : St) (g w v : Int32) : Int32 × St :=
  if !decide (g = 0) && !isF g (nI (sN S)) then (-1, S) else if w < 0 ∨ 3 < w ∨ v < -(stBd g) ∨ stBd g < v then (-2, S)
  else if g = 0 then (1, (sN S, sPa S, sKi S, sGr S, sNf S, sFo S, sAt S, va_up (sLm S) (iN w) (some v), S.2.2.2.2.2.2.2.2))
  else (1, (sN S, sPa S, sKi S, sGr S, sNf S, sFo S, va_up (sAt S) (iN w) (va_up (sAt S (iN w)) (iN g) v), S.2.2.2.2.2.2.2))
def chDel (ch : List Lit) (g : Nat) : List Lit := ch.filter (fun t => decide (t.1 ≠ g))
def chNew (ch : List Lit) (x : Int32) (on : Bool) : List Lit := if 0 < x then chDel ch (toLit x).1 ++ [((toLit x).1, on)] else chDel ch (toLit x).1
def stChoose (S : St) (x : Int32) (on : Bool) : Int32 × St :=
  if !isL x (nI (sN S)) then (-1, S)
  else (nI (chNew (sCh S) x on).length, (sN S, sPa S, sKi S, sGr S, sNf S, sFo S, sAt S, sLm S, chNew (sCh S) x on, S.2.2.2.2.2.2.2.2.2))
/-- the set x keeps all, but choices at places in w -/
def okA (S : St) (w x : Nat) : Bool := okS S x && okCh (sN S) (sCh S) w x
def fsA (S : St) (w : Nat) : Option Nat := fsN (okA S w) (2 ^ sN S)
/-- the choices' places, of those below k, that needn't be kept, one behind another -/
def gnN (S : St) : Nat → Nat
  | 0 => 0
  | k + 1 => if (fsA S (gnN S k ||| 2 ^ k)).isNone then gnN S k ||| 2 ^ k else gnN S k
def whL (ch : List Lit) (gn : Nat) : Nat → List Lit
  | 0 => []
  | k + 1 => if gn.testBit k then whL ch gn k else whL ch gn k ++ [ch.getD k (0, true)]
def stSolve (S : St) : Int32 × St := match fsA S 0 with
  | some x => (1, (sN S, sPa S, sKi S, sGr S, sNf S, sFo S, sAt S, sLm S, sCh S, (if (sFd S).length < 200 then sFd S ++ [(sN S, x)] else sFd S), some (sN S, x), []))
  | none => (0, (sN S, sPa S, sKi S, sGr S, sNf S, sFo S, sAt S, sLm S, sCh S, sFd S, none, whL (sCh S) (gnN S (sCh S).length) (sCh S).length))
def wsI (q : Nat × Nat) (f : Int32) : Bool := isF f (nI q.1) && tb q.1 q.2 (iN f)
def stChosen (S : St) (f : Int32) : Bool := match sVr S with
  | none => false
  | some q => wsI q f
def stWhy (S : St) (i : Int32) : Int32 := if 0 ≤ i ∧ i < nI (sWy S).length then litI ((sWy S).getD (iN i) (0, true)) else 0
def stCount (S : St) (v : Int64) : Int64 := if v < 0 then -2 else if v < lN (2 ^ sN S) then -1 else lN (ctB (okA S 0) (2 ^ sN S))
/-- the sets that keep all and have f -/
def okF (S : St) (f x : Nat) : Bool := okA S 0 x && tb (sN S) x f
def fcA (S : St) (f g : Nat) : Bool := alB (fun x => !okF S f x || tb (sN S) x g) (2 ^ sN S)
def fcN (S : St) (f g : Nat) : Bool := alB (fun x => !okF S f x || !tb (sN S) x g) (2 ^ sN S)
def fcG (A N : Nat → Bool) (f : Nat) : Nat → Nat → Int32 → Int32
  | 0, _, _ => 0
  | k + 1, g, l => if !decide (g = f) && (A g || N g) then (if l = 0 then (if A g then nI g else -(nI g)) else fcG A N f k (g + 1) (l - 1)) else fcG A N f k (g + 1) l
def stForces (S : St) (f i : Int32) : Int32 :=
  if !isF f (nI (sN S)) then -1 else if alB (fun x => !okF S (iN f) x) (2 ^ sN S) || decide (i < 0) then 0
  else fcG (fcA S (iN f)) (fcN S (iN f)) (iN f) (sN S) 1 i
def dfP (p q : Nat × Nat) (k : Nat) : Bool := decide (1 ≤ k) && !(wsI p (nI k) == wsI q (nI k))
def stDiffer (S : St) (a b : Int32) : Int32 :=
  if a < 1 ∨ nI (sFd S).length < a ∨ b < 1 ∨ nI (sFd S).length < b then -1
  else nI (ctB (dfP ((sFd S).getD (iN a - 1) (0, 0)) ((sFd S).getD (iN b - 1) (0, 0))) 15)
/-- how many steps up from j to 0 -/
def dpN (pa : Nat → Nat) : Nat → Nat → Nat
  | 0, _ => 0
  | k + 1, j => if j = 0 then 0 else dpN pa k (pa j) + 1
def stLevel (S : St) (i : Int32) : Option Nat := if i < 0 ∨ nI (sN S) ≤ i then none else some (dpN (sPa S) 15 (sPa S (iN i + 1)))
/-- a state that is reached -/
def WS (S : St) : Prop := sN S ≤ 14 ∧ (∀ j, 1 ≤ j → j ≤ sN S → sPa S j < j ∧ (1 < j → 1 ≤ sPa S j) ∧ sKi S j ≤ 2) ∧ (∀ j q, sGr S j = some q → 1 ≤ j ∧ j ≤ sN S ∧ q.1 ≤ q.2 ∧ q.2 ≤ 14)
  ∧ sNf S ≤ 40 ∧ (∀ k, k < sNf S → (sFo S k).1 ≤ 3 ∧ 1 ≤ (sFo S k).2.1.1 ∧ (sFo S k).2.1.1 ≤ sN S ∧ 1 ≤ (sFo S k).2.2.1 ∧ (sFo S k).2.2.1 ≤ sN S)
  ∧ (∀ w j, (sAt S w j).toInt ≤ 1000 ∧ -1000 ≤ (sAt S w j).toInt ∧ (j < 1 ∨ sN S < j → sAt S w j = 0)) ∧ (∀ w v, sLm S w = some v → w < 4 ∧ v.toInt ≤ 10000 ∧ -10000 ≤ v.toInt)
  ∧ (∀ t ∈ sCh S, 1 ≤ t.1 ∧ t.1 ≤ sN S) ∧ ((sCh S).map (·.1)).Nodup
  ∧ (∀ q ∈ sFd S, q.1 ≤ sN S ∧ q.2 < 2 ^ q.1) ∧ (sFd S).length ≤ 200 ∧ (∀ q, sVr S = some q → q.1 ≤ sN S ∧ q.2 < 2 ^ q.1)
  ∧ (∀ t ∈ sWy S, 1 ≤ t.1 ∧ t.1 ≤ sN S) ∧ (sWy S).length ≤ 14
/-- the reference's numbers iv and arrays f against the state -/
def MR (S : St) (iv : Nat → Int32) (f : Nat → Nat → Int32) : Prop := iv 7 = nI (sN S) ∧ (∀ j, 1 ≤ j → j ≤ sN S → f 1 j = nI (sPa S j) ∧ f 2 j = nI (sKi S j))
  ∧ (∀ j, f 3 j = b2i (sGr S j).isSome ∧ ∀ q, sGr S j = some q → f 4 j = nI q.1 ∧ f 5 j = nI q.2)
  ∧ (∀ w j, w < 4 → 1 ≤ j → j ≤ 14 → f 6 (4 * j + w) = sAt S w j)
  ∧ iv 11 = nI (sNf S) ∧ (∀ k, k < sNf S → f 8 k = nI (sFo S k).1 ∧ f 9 k = litI (sFo S k).2.1 ∧ f 10 k = litI (sFo S k).2.2)
  ∧ (∀ w, w < 4 → f 12 w = b2i (sLm S w).isSome ∧ ∀ v, sLm S w = some v → f 13 w = v)
  ∧ iv 15 = nI (sCh S).length ∧ (∀ k, k < (sCh S).length → f 14 k = litI ((sCh S).getD k (0, true)))
  ∧ (iv 16 = 0 ∨ (iv 16 = 1 ∧ iv 18 = nI (okL (okS S) (2 ^ sN S)).length ∧ ∀ k, k < (okL (okS S) (2 ^ sN S)).length → f 17 k = nI ((okL (okS S) (2 ^ sN S)).getD k 0)))
  ∧ iv 20 = nI (sFd S).length ∧ (∀ k, k < (sFd S).length → f 19 (k + 1) = nI ((sFd S).getD k (0, 0)).2 ∧ f 21 (k + 1) = nI ((sFd S).getD k (0, 0)).1)
  ∧ iv 22 = b2i (sVr S).isSome ∧ (∀ q, sVr S = some q → iv 23 = nI q.2 ∧ iv 24 = nI q.1)
  ∧ iv 26 = nI (sWy S).length ∧ (∀ k, k < (sWy S).length → f 25 k = litI ((sWy S).getD k (0, true)))
/-- the reference's object and arrays -/
abbrev wM (G : Gt) (a : Nat → Nat) (iv : Nat → Int32) (f : Nat → Nat → Int32) : va_W := [(a 0, .inr (1, [.int (iv 0), .ref (a 1), .ref (a 2), .ref (a 3), .ref (a 4), .ref (a 5), .ref (a 6), .int (iv 7), .ref (a 8), .ref (a 9), .ref (a 10), .int (iv 11), .ref (a 12), .ref (a 13), .ref (a 14), .int (iv 15), .int (iv 16), .ref (a 17), .int (iv 18), .ref (a 19), .int (iv 20), .ref (a 21), .int (iv 22), .int (iv 23), .int (iv 24), .ref (a 25), .int (iv 26)])), (a 1, .inl (gA G 0, 15, .inl (f 1))), (a 2, .inl (gA G 0, 15, .inl (f 2))), (a 3, .inl (gA G 1, 15, .inl (f 3))), (a 4, .inl (gA G 0, 15, .inl (f 4))), (a 5, .inl (gA G 0, 15, .inl (f 5))), (a 6, .inl (gA G 0, 60, .inl (f 6))), (a 8, .inl (gA G 0, 40, .inl (f 8))), (a 9, .inl (gA G 0, 40, .inl (f 9))), (a 10, .inl (gA G 0, 40, .inl (f 10))), (a 12, .inl (gA G 1, 4, .inl (f 12))), (a 13, .inl (gA G 0, 4, .inl (f 13))), (a 14, .inl (gA G 0, 14, .inl (f 14))), (a 17, .inl (gA G 0, 16384, .inl (f 17))), (a 19, .inl (gA G 0, 201, .inl (f 19))), (a 21, .inl (gA G 0, 201, .inl (f 21))), (a 25, .inl (gA G 0, 14, .inl (f 25)))]
/-- its world: the answer's second half of every contract of the reference -/
def MW (G : Gt) (a : Nat → Nat) (S : St) (w : va_W) : Prop := ∃ iv f, w = wM G a iv f ∧ MR S iv f
theorem mwr {G : Gt} {a : Nat → Nat} {st : Int32 × St} {v : Int32} {S : St} {w : va_W} {iv : Nat → Int32} {f : Nat → Nat → Int32} (e : st = (v, S)) (hw : w = wM G a iv f) (h : MR S iv f) : v = st.1 ∧ MW G a st.2 w := by
  subst e; exact ⟨rfl, iv, f, hw, h⟩
