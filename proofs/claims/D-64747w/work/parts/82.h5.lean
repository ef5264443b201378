theorem msk0 (S : St) : mskOk S 0 0 := fun k _ => by rw [Nat.zero_testBit, Nat.zero_testBit]
theorem no_fs {S : St} (hW : WS S) {av : Nat → Nat → Int32} (hv : avOk S av) {rs : List (Nat × Rl)} (hr : rs.map (·.2) = ruS S) {wv w : Nat} (hm : mskOk S wv w) : noS (sN S) (brS av rs) (gvN S true wv) (gvN S false wv) = (fsA S w).isNone := by
  apply Bool.eq_iff_iff.mpr
  unfold noS
  rw [alB_iff, Option.isNone_iff_eq_none]
  unfold fsA
  rw [fsN_none]
  constructor
  · intro h X hX
    have h1 := h (rvN (sN S) X) (rv_lt _ _)
    rw [sol_ok hW hv hr hm, decide_eq_true (rv_lt _ _), Bool.true_and, rv_rv hX, Bool.not_eq_true'] at h1
    exact h1
  · intro h x hx
    rw [sol_ok hW hv hr hm, h _ (rv_lt _ _), Bool.and_false]
    rfl
theorem fs_some {S : St} (hW : WS S) {av : Nat → Nat → Int32} (hv : avOk S av) {rs : List (Nat × Rl)} (hr : rs.map (·.2) = ruS S) {wv w : Nat} (hm : mskOk S wv w) {x : Nat} (h1 : solB (sN S) (brS av rs) (gvN S true wv) (gvN S false wv) x = true) (h2 : ∀ y, solB (sN S) (brS av rs) (gvN S true wv) (gvN S false wv) y = true → rvN (sN S) y ≤ rvN (sN S) x) : fsA S w = some (rvN (sN S) x) := by
  have hx := (sol_iff.mp h1).1
  rw [sol_ok hW hv hr hm, decide_eq_true hx, Bool.true_and] at h1
  refine fsN_some h1 _ (rv_lt _ _) (fun Y hY hp => ?_)
  have := h2 (rvN (sN S) Y) (by rw [sol_ok hW hv hr hm, decide_eq_true (rv_lt _ _), Bool.true_and, rv_rv hY]; exact hp)
  rw [rv_rv hY] at this
  exact this
theorem cn_ok {S : St} (hW : WS S) {av : Nat → Nat → Int32} (hv : avOk S av) {rs : List (Nat × Rl)} (hr : rs.map (·.2) = ruS S) : cnN (sN S) (brS av rs) (gvN S true 0) (gvN S false 0) = ctB (okA S 0) (2 ^ sN S) := by
  unfold cnN
  rw [← ctB_rv]
  refine ctB_congr (fun x hx => ?_)
  rw [sol_ok hW hv hr (msk0 S), decide_eq_true (rv_lt _ _), Bool.true_and, rv_rv hx]
/-- one more in or out -/
theorem sol_and_in {n : Nat} {B : Nat → Nat → Bool} {i o b x : Nat} : solB n B (i ||| 2 ^ b) o x = (solB n B i o x && x.testBit b) := sol_in
theorem sol_and_out {n : Nat} {B : Nat → Nat → Bool} {i o b x : Nat} : solB n B i (o ||| 2 ^ b) x = (solB n B i o x && !x.testBit b) := sol_out
theorem al_rv {n : Nat} {P R : Nat → Bool} (h : ∀ x, x < 2 ^ n → P x = R (rvN n x)) : alB P (2 ^ n) = alB R (2 ^ n) := by
  apply Bool.eq_iff_iff.mpr
  rw [alB_iff, alB_iff]
  constructor
  · intro h1 X hX
    have := h1 (rvN n X) (rv_lt _ _)
    rw [h _ (rv_lt _ _), rv_rv hX] at this
    exact this
  · intro h1 x hx
    rw [h x hx]
    exact h1 _ (rv_lt _ _)
theorem fz_0 {S : St} (hW : WS S) {av : Nat → Nat → Int32} (hv : avOk S av) {rs : List (Nat × Rl)} (hr : rs.map (·.2) = ruS S) {f : Nat} (hf1 : 1 ≤ f) (hf2 : f ≤ sN S) : noS (sN S) (brS av rs) (gvN S true 0 ||| 2 ^ (f - 1)) (gvN S false 0) = alB (fun x => !okF S f x) (2 ^ sN S) := by
  unfold noS
  refine al_rv (fun x hx => ?_)
  unfold okF
  rw [sol_and_in, sol_ok hW hv hr (msk0 S), decide_eq_true hx, Bool.true_and, tb_rv hf1 hf2]
theorem fz_A {S : St} (hW : WS S) {av : Nat → Nat → Int32} (hv : avOk S av) {rs : List (Nat × Rl)} (hr : rs.map (·.2) = ruS S) {f g : Nat} (hf1 : 1 ≤ f) (hf2 : f ≤ sN S) (hg1 : 1 ≤ g) (hg2 : g ≤ sN S) : fzA (sN S) (brS av rs) (gvN S true 0 ||| 2 ^ (f - 1)) (gvN S false 0) g = fcA S f g := by
  unfold fzA noS fcA
  refine al_rv (fun x hx => ?_)
  unfold okF
  rw [sol_and_out, sol_and_in, sol_ok hW hv hr (msk0 S), decide_eq_true hx, Bool.true_and, tb_rv hf1 hf2, tb_rv hg1 hg2]
  cases okA S 0 (rvN (sN S) x) <;> cases x.testBit (f - 1) <;> cases x.testBit (g - 1) <;> rfl
theorem fz_N {S : St} (hW : WS S) {av : Nat → Nat → Int32} (hv : avOk S av) {rs : List (Nat × Rl)} (hr : rs.map (·.2) = ruS S) {f g : Nat} (hf1 : 1 ≤ f) (hf2 : f ≤ sN S) (hg1 : 1 ≤ g) (hg2 : g ≤ sN S) : fzN (sN S) (brS av rs) (gvN S true 0 ||| 2 ^ (f - 1)) (gvN S false 0) g = fcN S f g := by
  unfold fzN noS fcN
  refine al_rv (fun x hx => ?_)
  unfold okF
  rw [sol_and_in, sol_and_in, sol_ok hW hv hr (msk0 S), decide_eq_true hx, Bool.true_and, tb_rv hf1 hf2, tb_rv hg1 hg2]
  cases okA S 0 (rvN (sN S) x) <;> cases x.testBit (f - 1) <;> cases x.testBit (g - 1) <;> rfl
