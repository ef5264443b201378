theorem CWv.postd {l : Launch} {G : Gt} {y : MethodName} {b : ByteArray} {L : Nat} {fr ce sl lo : Nat} {av : List Value} {w0 : va_W} {sz : Nat} {post post' : va_W → Prop} (h : CWv l G y b L fr ce sl lo av w0 sz post) (hp : ∀ w, post w → ∃ w' ex, (w' ++ ex).Perm w ∧ post' w') : CWv l G y b L fr ce sl lo av w0 sz post' :=
  Met.post_ h (fun a U o t hq => by
    obtain ⟨⟨u, h1, h2, h3⟩, h4⟩ := hq
    obtain ⟨w', ex, g1, g2⟩ := hp u h2
    exact ⟨⟨w', h1, g2, (h3.1.perm g1).left, (h3.2.perm g1).left⟩, h4⟩)
theorem CWi.postd {l : Launch} {G : Gt} {y : MethodName} {b : ByteArray} {L : Nat} {r : FieldType} {fr ce sl lo : Nat} {av : List Value} {w0 : va_W} {sz : Nat} {post post' : Int32 → va_W → Prop} (h : CWi l G y b L r fr ce sl lo av w0 sz post) (hp : ∀ rv w, post rv w → ∃ w' ex, (w' ++ ex).Perm w ∧ post' rv w') : CWi l G y b L r fr ce sl lo av w0 sz post' :=
  Met.post_ h (fun a U o t hq => by
    obtain ⟨⟨rv, u, h1, h2, h3⟩, h4⟩ := hq
    obtain ⟨w', ex, g1, g2⟩ := hp rv u h2
    exact ⟨⟨rv, w', h1, g2, (h3.1.perm g1).left, (h3.2.perm g1).left⟩, h4⟩)
theorem CWq.postd {l : Launch} {G : Gt} {y : MethodName} {b : ByteArray} {L : Nat} {r : FieldType} {fr ce sl lo : Nat} {av : List Value} {w0 : va_W} {sz : Nat} {post post' : Option Nat → va_W → Prop} (h : CWq l G y b L r fr ce sl lo av w0 sz post) (hp : ∀ rv w, post rv w → ∃ w' ex, (w' ++ ex).Perm w ∧ post' rv w') : CWq l G y b L r fr ce sl lo av w0 sz post' :=
  Met.post_ h (fun a U o t hq => by
    obtain ⟨⟨rv, u, h1, h2, h3⟩, h4⟩ := hq
    obtain ⟨w', ex, g1, g2⟩ := hp rv u h2
    exact ⟨⟨rv, w', h1, g2, (h3.1.perm g1).left, (h3.2.perm g1).left⟩, h4⟩)
theorem CWl.postd {l : Launch} {G : Gt} {y : MethodName} {b : ByteArray} {L : Nat} {fr ce sl lo : Nat} {av : List Value} {w0 : va_W} {sz : Nat} {post post' : Int64 → va_W → Prop} (h : CWl l G y b L fr ce sl lo av w0 sz post) (hp : ∀ rv w, post rv w → ∃ w' ex, (w' ++ ex).Perm w ∧ post' rv w') : CWl l G y b L fr ce sl lo av w0 sz post' :=
  Met.post_ h (fun a U o t hq => by
    obtain ⟨⟨rv, u, h1, h2, h3⟩, h4⟩ := hq
    obtain ⟨w', ex, g1, g2⟩ := hp rv u h2
    exact ⟨⟨rv, w', h1, g2, (h3.1.perm g1).left, (h3.2.perm g1).left⟩, h4⟩)
theorem tbE_none {es : List En} {k : Nat} (h : tbE es k = none) : ∀ e ∈ es, e.2.1 ≠ k := by
  intro e he hk
  unfold tbE at h
  rw [Option.map_eq_none_iff, List.find?_eq_none] at h
  exact h e he (by simp [hk])
theorem tbE_nil {es : List En} {k : Nat} (h : ∀ e ∈ es, e.2.1 ≠ k) : tbE es k = none := by
  unfold tbE
  rw [Option.map_eq_none_iff, List.find?_eq_none]
  intro e he
  simp [h e he]
theorem tbE_some {es : List En} {k q : Nat} (h : tbE es k = some q) : ∃ es1 bo es2, es = es1 ++ (q, k, bo) :: es2 := by
  unfold tbE at h
  rw [Option.map_eq_some_iff] at h
  obtain ⟨x, h1, h2⟩ := h
  obtain ⟨hx, es1, es2, he, -⟩ := List.find?_eq_some_iff_append.mp h1
  obtain ⟨q', k', bo⟩ := x
  have hk : k' = k := by simpa using hx
  have hq : q' = q := h2
  subst hk hq
  exact ⟨es1, bo, es2, he⟩
theorem tbE_app (es1 es2 : List En) (j : Nat) : tbE (es1 ++ es2) j = (tbE es1 j).or (tbE es2 j) := by
  unfold tbE
  rw [List.find?_append]
  cases es1.find? (fun e => e.2.1 == j) <;> rfl
theorem tbE_cons (x : En) (es : List En) (j : Nat) : tbE (x :: es) j = if x.2.1 = j then some x.1 else tbE es j := by
  unfold tbE
  rw [List.find?_cons]
  by_cases h : x.2.1 = j
  · simp [h]
  · rw [if_neg h]
    have : (x.2.1 == j) = false := by simp [h]
    rw [this]
theorem tbE_del {es1 es2 : List En} {x : En} {j : Nat} (h : j ≠ x.2.1) : tbE (es1 ++ x :: es2) j = tbE (es1 ++ es2) j := by
  rw [tbE_app, tbE_app, tbE_cons, if_neg (Ne.symm h)]
theorem enOk_del {es1 es2 : List En} {x : En} (h : enOk (es1 ++ x :: es2)) : enOk (es1 ++ es2) ∧ ∀ e ∈ es1 ++ es2, e.2.1 ≠ x.2.1 := by
  obtain ⟨h1, h2⟩ := h
  rw [List.map_append, List.map_cons] at h2
  have h3 := List.perm_middle.nodup_iff.mp h2
  rw [List.nodup_cons, ← List.map_append] at h3
  refine ⟨⟨fun e he => h1 e ?_, h3.2⟩, fun e he hk => h3.1 (by rw [← hk]; exact List.mem_map_of_mem he)⟩
  rcases List.mem_append.mp he with h | h
  · exact List.mem_append_left _ h
  · exact List.mem_append_right _ (List.mem_cons_of_mem _ h)
theorem chDel_es {es : List En} {k : Nat} (h : ∀ e ∈ es, e.2.1 ≠ k) : chDel (es.map (fun e => (e.2.1, e.2.2))) k = es.map (fun e => (e.2.1, e.2.2)) := by
  rw [chDel, List.filter_eq_self]
  intro t ht
  obtain ⟨e, he, rfl⟩ := List.mem_map.mp ht
  rw [decide_eq_true_eq]
  exact h e he
theorem chDel_mid {es1 es2 : List En} {x : En} (h : ∀ e ∈ es1 ++ es2, e.2.1 ≠ x.2.1) : chDel ((es1 ++ x :: es2).map (fun e => (e.2.1, e.2.2))) x.2.1 = (es1 ++ es2).map (fun e => (e.2.1, e.2.2)) := by
  have h' := chDel_es h
  rw [List.map_append, chDel, List.filter_append] at h' ⊢
  rw [List.map_cons, List.filter_cons, if_neg (by simp), h', List.map_append]
theorem pmR {α : Type} (a b c : α) (Z A B : List α) : (a :: b :: (Z ++ (A ++ (c :: B)))).Perm ((a :: b :: c :: (A ++ B)) ++ Z) := pm_ (fun _ z => by simp only [List.count_append, List.count_cons, List.count_nil]; omega)
theorem pmR2 {α : Type} (a b c : α) (Z E : List α) : ((a :: b :: (Z ++ E)) ++ [c]).Perm ((a :: b :: c :: E) ++ Z) := pm_ (fun _ z => by simp only [List.count_append, List.count_cons, List.count_nil]; omega)
theorem rm_tab (l : Launch) (G : Gt) (h k t cap : Nat) (f : Nat → Option Nat) (es : List En) (ent : Option Nat) (mo th : Int32) (sz : Nat) (hok : enOk es) (hk : k ≤ 14) (hc : 16 ≤ cap) (hc2 : cap ≤ 32) (hck : cap - 1 &&& k = k) (hf : ∀ j, j < cap → f j = tbE es j) :
    CWq l G yJ4_remove cJ4_remove 3 (.object "java/lang/Object") 9 0 0 400 [.ref h, .ref (gI G k)] (moC h (some t) ent es.length mo th (hdE es none) (lsE none es) :: (taW G (some (t, cap, f)) ++ (esW h ent ++ enW G none es none))) sz
      (fun _ w1 => ∃ es' f' mo', es'.map (fun e => (e.2.1, e.2.2)) = chDel (es.map (fun e => (e.2.1, e.2.2))) k ∧ enOk es' ∧ es'.length ≤ es.length ∧ (∀ j, j < cap → f' j = tbE es' j) ∧ w1 = moC h (some t) ent es'.length mo' th (hdE es' none) (lsE none es') :: (taW G (some (t, cap, f')) ++ (esW h ent ++ enW G none es' none))) := by
  cases hb : tbE es k with
  | none =>
    refine CWq.post ((metJ4_rmB l G h es.length k ent (hdE es none) (lsE none es) mo th cap t f hc hc2 hk hck ((hf k (by omega)).trans hb) sz).frame (esW h ent ++ enW G none es none)) ?_
    rintro r w ⟨w2, rfl, rfl⟩
    exact ⟨es, f, mo, (chDel_es (tbE_none hb)).symm, hok, Nat.le_refl _, hf, rfl⟩
  | some q =>
    obtain ⟨es1, bo, es2, rfl⟩ := tbE_some hb
    obtain ⟨hok', hne⟩ := enOk_del hok
    refine CWq.postd (CWq.perm ((metJ4_rmC l G h (es1 ++ (q, k, bo) :: es2).length k q bo es1 es2 ent mo th cap t f hc hc2 hk hck ((hf k (by omega)).trans hb) (by rw [List.length_append, List.length_cons]; omega) sz).frame (esW h ent)) ?_) ?_
    · rw [enW_app]
      exact pmR _ _ _ _ _ _
    · rintro r w ⟨w2, rfl, rfl⟩
      refine ⟨_, _, pmR2 _ _ _ _ _, es1 ++ es2, va_up f k none, mo + 1, (chDel_mid (x := (q, k, bo)) hne).symm, hok', ?_, ?_, ?_⟩
      · rw [List.length_append, List.length_append, List.length_cons]; omega
      · intro j hj
        by_cases hjk : j = k
        · rw [hjk, va_up_self, tbE_nil hne]
        · rw [va_up_ne _ _ hjk, hf j hj, tbE_del hjk]
      · rw [show (es1 ++ (q, k, bo) :: es2).length - 1 = (es1 ++ es2).length by rw [List.length_append, List.length_append, List.length_cons]; omega]
        rfl
/-- LinkedHashMap.remove -/
theorem metJ4_remove (l : Launch) (G : Gt) (h k : Nat) (ch : List Lit) (w : va_W) (hw : MP G h ch w) (hk : k ≤ 14) (sz : Nat) : CWq l G yJ4_remove cJ4_remove 3 (.object "java/lang/Object") 9 0 0 400 [.ref h, .ref (gI G k)] w sz (fun _ w1 => MP G h (chDel ch k) w1) := by
  obtain ⟨es, t, ent, mo, th, rfl, hok, htab, rfl⟩ := hw
  rcases htab with ⟨rfl, rfl, rfl⟩ | ⟨q, f, rfl, rfl, hl, hf⟩ | ⟨q, f, rfl, rfl, hf⟩
  · refine CWq.post ((metJ4_rmA l G h 0 k ent none none mo 0 hk sz).frame _) ?_
    rintro r w ⟨w2, rfl, rfl⟩
    exact ⟨[], none, ent, mo, 0, rfl, hok, Or.inl ⟨rfl, rfl, rfl⟩, rfl⟩
  · refine CWq.post (rm_tab l G h k q 16 f es ent mo 12 sz hok hk (by decide) (by decide) (and_16 k (by omega)) hf) ?_
    rintro r w ⟨es', f', mo', h1, h2, h3, h4, rfl⟩
    exact ⟨es', some (q, 16, f'), ent, mo', 12, h1, h2, Or.inr (Or.inl ⟨q, f', rfl, rfl, by omega, h4⟩), rfl⟩
  · refine CWq.post (rm_tab l G h k q 32 f es ent mo 24 sz hok hk (by decide) (by decide) (and_32 k (by omega)) hf) ?_
    rintro r w ⟨es', f', mo', h1, h2, h3, h4, rfl⟩
    exact ⟨es', some (q, 32, f'), ent, mo', 24, h1, h2, Or.inr (Or.inr ⟨q, f', rfl, rfl, h4⟩), rfl⟩
