theorem FW_solve (l : Launch) (G : Gt) (y : Nat) (S : St) (w : va_W) (hF : FW G y S w) (hW : WS S) (sz : Nat) : CWi l G yX1_solve cX1_solve 4 .int 20 300 46000 551 [.ref y] w sz (fun r w1 => r = (stSolve S).1 ∧ FW G y (stSolve S).2 w1) := by
  obtain ⟨a, iv, fl, wk, wm, b12, b14, w12, w14, rfl, h1, h2, h3, h4, h5, h6, h7, rfl⟩ := hF
  obtain ⟨es, t, ent, mo, th, hch, hok, htab, rfl⟩ := h5
  obtain ⟨u1, u2, u3, u4, u5, u6⟩ := h7
  have hl12 : b12.length = (sFd S).length := by have := congrArg List.length u3; rwa [List.length_map, List.length_map, fdV, List.length_map] at this
  have hel : es.length ≤ 14 := by have := congrArg List.length hch; rw [List.length_map] at this; have := ch_len hW.1 hW.2.2.2.2.2.2.2.1 hW.2.2.2.2.2.2.2.2.1; have := hW.1; omega
  have hm := CWi.perm (w0' := xC a iv :: (a 2, .inl (gA G 0, sN S, .inl fl)) :: (wk ++ ((moC (a 8) (t.map (·.1)) ent es.length mo th (hdE es none) (lsE none es) :: (taW G t ++ (esW (a 8) ent ++ enW G none es none))) ++ (w12 ++ (bxF b12 ++ (w14 ++ bxF b14)))))) ((metX1_solve l G a iv S wk h4 hW h1 es (t.map (·.1)) ent (lsE none es) es.length mo th hok hch hel b12 w12 w14 (b14.map (·.1)) u1 u2 (by rw [hl12]; exact hW.2.2.2.2.2.2.2.2.2.2.1) u4 sz).frame ((a 2, .inl (gA G 0, sN S, .inl fl)) :: (taW G t ++ bxF b14))) (pm_ (fun _ z => by simp only [xC, moC, List.cons_append, List.nil_append, List.count_append, List.count_cons, List.count_nil]; omega))
  refine CWi.postd hm (fun r w1 hp => ?_)
  obtain ⟨w2, hp, rfl⟩ := hp
  rcases hp with ⟨ra, av, rs, wl, wr, z, x, w12b, w14b, b12b, hR, k1, k2, rfl, k3, k4, k5, rfl⟩ | ⟨ra, av, rs, wl, wr, z, w12b, w14b, bs, hR, k1, rfl, k4, k5, k6, k7, rfl⟩
  · obtain ⟨wk2, hk2, hpm⟩ := hR.2.2.2.2.2
    have hfs := fs_some hW hR.2.2.2.2.1 hR.2.2.2.1 (msk0 S) k1 k2
    have hx := (sol_iff.mp k1).1
    have e : stSolve S = (1, (sN S, sPa S, sKi S, sGr S, sNf S, sFo S, sAt S, sLm S, sCh S, (if (sFd S).length < 200 then sFd S ++ [(sN S, rvN (sN S) x)] else sFd S), some (sN S, rvN (sN S) x), [])) := by unfold stSolve; rw [hfs]
    refine ⟨xC a (va_up (va_up iv 10 1) 13 (nI x)) :: (a 2, .inl (gA G 0, sN S, .inl fl)) :: (wk2 ++ ((moC (a 8) (t.map (·.1)) (some z) es.length mo th (hdE es none) (lsE none es) :: (taW G t ++ (esW (a 8) (some z) ++ enW G none es none))) ++ (w12b ++ (bxF b12b ++ (w14b ++ bxF []))))), bxF b14, ?_, pr_eq (P := fun S' => FW G (a 15) S' _) e ⟨a, va_up (va_up iv 10 1) 13 (nI x), fl, wk2, moC (a 8) (t.map (·.1)) (some z) es.length mo th (hdE es none) (lsE none es) :: (taW G t ++ (esW (a 8) (some z) ++ enW G none es none)), b12b, [], w12b, w14b, rfl, h1, h2, h3, hk2.to rfl rfl rfl rfl rfl rfl rfl rfl, ⟨es, t, (some z), mo, th, hch, hok, htab, rfl⟩, Or.inr ⟨_, rfl, by show nI x = nI (rvN (sN S) (rvN (sN S) x)); rw [rv_rv hx]⟩, ⟨k4, ?_, ?_, k5, fun _ h => absurd h List.not_mem_nil, rfl⟩, rfl⟩⟩
    · refine pm_ (fun _ z => ?_)
      have hc := hpm.count_eq z
      simp only [List.count_append] at hc
      rw [show bxF ([] : List Bx) = [] from rfl]
      simp only [xC, moC, List.cons_append, List.nil_append, List.count_append, List.count_cons, List.count_nil]
      omega
    · rcases k3 with ⟨-, yb, wb, rfl, hb⟩ | ⟨-, rfl⟩
      · exact bxOk_snoc u2 hb
      · exact u2
    · show b12b.map (·.2.1) = (((if (sFd S).length < 200 then sFd S ++ [(sN S, rvN (sN S) x)] else sFd S)).map (fun q => rvN q.1 q.2)).map nI
      rcases k3 with ⟨k6, yb, wb, rfl, hb⟩ | ⟨k6, rfl⟩
      · rw [if_pos (by omega), List.map_append, List.map_append, List.map_append, u3]
        show _ ++ [nI x] = _ ++ [nI (rvN (sN S) (rvN (sN S) x))]
        rw [rv_rv hx]; rfl
      · rw [if_neg (by omega)]; exact u3
  · obtain ⟨wk2, hk2, hpm⟩ := hR.2.2.2.2.2
    have hno := no_fs hW hR.2.2.2.2.1 hR.2.2.2.1 (msk0 S)
    rw [k1] at hno
    have hfs : fsA S 0 = none := Option.isNone_iff_eq_none.mp hno.symm
    have e : stSolve S = (0, (sN S, sPa S, sKi S, sGr S, sNf S, sFo S, sAt S, sLm S, sCh S, sFd S, none, whL (sCh S) (gnN S (sCh S).length) (sCh S).length)) := by unfold stSolve; rw [hfs]
    have hg := gn_msk hW hR.2.2.2.2.1 hR.2.2.2.1 (sCh S).length (Nat.le_refl _)
    have hwh := wh_ok hg (sCh S).length (Nat.le_refl _)
    rw [List.take_length] at hg hwh
    refine ⟨xC a (va_up (va_up iv 10 1) 13 (-1)) :: (a 2, .inl (gA G 0, sN S, .inl fl)) :: (wk2 ++ ((moC (a 8) (t.map (·.1)) (some z) es.length mo th (hdE es none) (lsE none es) :: (taW G t ++ (esW (a 8) (some z) ++ enW G none es none))) ++ (w12b ++ (bxF b12 ++ (w14b ++ bxF bs))))), bxF b14, ?_, pr_eq (P := fun S' => FW G (a 15) S' _) e ⟨a, va_up (va_up iv 10 1) 13 (-1), fl, wk2, moC (a 8) (t.map (·.1)) (some z) es.length mo th (hdE es none) (lsE none es) :: (taW G t ++ (esW (a 8) (some z) ++ enW G none es none)), b12, bs, w12b, w14b, rfl, h1, h2, h3, hk2.to rfl rfl rfl rfl rfl rfl rfl rfl, ⟨es, t, (some z), mo, th, hch, hok, htab, rfl⟩, Or.inl ⟨rfl, rfl⟩, ⟨k4, u2, u3, k5, k6, by rw [k7]; exact (show enL es = sCh S from hch) ▸ hwh.symm⟩, rfl⟩⟩
    refine pm_ (fun _ z => ?_)
    have hc := hpm.count_eq z
    simp only [List.count_append] at hc
    simp only [xC, moC, List.cons_append, List.nil_append, List.count_append, List.count_cons, List.count_nil]
    omega
