theorem FW_forces (l : Launch) (G : Gt) (x : Nat) (S : St) (w : va_W) (hF : FW G x S w) (hW : WS S) (i j : Int32) (sz : Nat) : CWi l G yX1_forces cX1_forces 9 .int 20 114 34014 551 [.ref x, .int i, .int j] w sz (fun r w1 => r = stForces S i j ∧ FW G x S w1) := by
  obtain ⟨a, iv, fl, wk, wm, b12, b14, w12, w14, rfl, h1, h2, h3, h4, h5, h6, h7, rfl⟩ := hF
  obtain ⟨es, t, ent, mo, th, hch, hok, htab, rfl⟩ := h5
  have hm := CWi.perm (w0' := xC a iv :: (a 2, .inl (gA G 0, sN S, .inl fl)) :: (wk ++ ((moC (a 8) (t.map (·.1)) ent es.length mo th (hdE es none) (lsE none es) :: (taW G t ++ (esW (a 8) ent ++ enW G none es none))) ++ (w12 ++ (bxF b12 ++ (w14 ++ bxF b14)))))) ((metX1_forces l G a iv S wk h4 hW h1 es (t.map (·.1)) ent (lsE none es) es.length mo th hok hch i j sz).frame ((a 2, .inl (gA G 0, sN S, .inl fl)) :: (taW G t ++ (w12 ++ (bxF b12 ++ (w14 ++ bxF b14)))))) (pm_ (fun _ z => by simp only [xC, moC, List.cons_append, List.nil_append, List.count_append, List.count_cons, List.count_nil]; omega))
  refine CWi.postp hm (fun r w1 hp => ?_)
  obtain ⟨w2, hp, rfl⟩ := hp
  rcases hp with ⟨k1, rfl, rfl⟩ | ⟨f0, ra, av, rs, wl, wr, z, rfl, k1, k2, hR, rfl, rfl⟩
  · exact ⟨xC a iv :: (a 2, .inl (gA G 0, sN S, .inl fl)) :: (wk ++ ((moC (a 8) (t.map (·.1)) ent es.length mo th (hdE es none) (lsE none es) :: (taW G t ++ (esW (a 8) ent ++ enW G none es none))) ++ (w12 ++ (bxF b12 ++ (w14 ++ bxF b14))))), (pm_ (fun _ z => by simp only [xC, moC, List.cons_append, List.nil_append, List.count_append, List.count_cons, List.count_nil]; omega)), (by unfold stForces; rw [k1, if_pos (show (!false) = true from rfl)]), ⟨a, iv, fl, wk, moC (a 8) (t.map (·.1)) ent es.length mo th (hdE es none) (lsE none es) :: (taW G t ++ (esW (a 8) ent ++ enW G none es none)), b12, b14, w12, w14, rfl, h1, h2, h3, h4, ⟨es, t, ent, mo, th, hch, hok, htab, rfl⟩, h6, h7, rfl⟩⟩
  · obtain ⟨wk2, hk2, hpm⟩ := hR.2.2.2.2.2
    refine ⟨xC a (va_up iv 10 1) :: (a 2, .inl (gA G 0, sN S, .inl fl)) :: (wk2 ++ ((moC (a 8) (t.map (·.1)) (some z) es.length mo th (hdE es none) (lsE none es) :: (taW G t ++ (esW (a 8) (some z) ++ enW G none es none))) ++ (w12 ++ (bxF b12 ++ (w14 ++ bxF b14))))), ?_, st_forces hW hR.2.2.2.2.1 hR.2.2.2.1 k1 k2 j, ⟨a, va_up iv 10 1, fl, wk2, moC (a 8) (t.map (·.1)) (some z) es.length mo th (hdE es none) (lsE none es) :: (taW G t ++ (esW (a 8) (some z) ++ enW G none es none)), b12, b14, w12, w14, rfl, h1, h2, h3, hk2, ⟨es, t, (some z), mo, th, hch, hok, htab, rfl⟩, h6, h7, rfl⟩⟩
    refine pm_ (fun _ z => ?_)
    have hc := hpm.count_eq z
    simp only [List.count_append] at hc
    simp only [xC, moC, List.cons_append, List.nil_append, List.count_append, List.count_cons, List.count_nil]
    omega
