/-! CLASS 29: a policy changed in one rule, in one scope -/
set_option maxRecDepth 100000
section W29
variable {s s' : Nat → Int32} {n rr ww r : Nat}
theorem rdep_c2 (h : ∀ r, s' (28 + 20 * r) = s (28 + 20 * r)) : ∀ r, rdep s' r = rdep s r := by
  intro r
  induction r using Nat.strongRecOn with
  | _ r ih =>
    have e := h r
    have e2 := parN_c e
    conv => lhs; rw [rdep]
    conv => rhs; rw [rdep]
    by_cases hc : 0 ≤ s (28 + 20 * r) ∧ parN s r < r
    · rw [dif_pos (by rw [e, e2]; exact hc), dif_pos hc, e2, ih _ hc.2]
    · rw [dif_neg (by rw [e, e2]; exact hc), dif_neg hc]
/-- a rule's ints, at other ints that are alike there -/
theorem WFru_c2 (h : ∀ c, c < 20 → s' (23 + 20 * r + c) = s (23 + 20 * r + c)) (hd : rdep s' r = rdep s r) (w : WFru s n r) : WFru s' n r := by
  obtain ⟨a1, a2, a3, a4, a5, a6, a7, a8, a9⟩ := w
  have hl : aN s (23 + 20 * r + 7) < 5 := a6.2
  refine ⟨(isN_c (h 1 (by omega))).mpr a1, (isN_c (h 2 (by omega))).mpr a2, (isN_c (h 3 (by omega))).mpr a3, (isN_c (h 4 (by omega))).mpr a4, (isN_c (h 6 (by omega))).mpr a5, (isN_c (h 7 (by omega))).mpr a6, by rw [hd]; exact a7, ?_, fun j hj => ?_⟩
  · rcases a8 with q | q
    · exact Or.inl ⟨by rw [h 5 (by omega)]; exact q.1, (isN_c (h 0 (by omega))).mpr q.2⟩
    · exact Or.inr ⟨(isN_c (h 5 (by omega))).mpr q.1, by rw [h 0 (by omega)]; exact q.2⟩
  · rw [aN_c (h 7 (by omega))] at hj
    obtain ⟨b1, b2, b3⟩ := a9 j hj
    exact ⟨(isN_c (h (8 + 3 * j) (by omega))).mpr b1, (isN_c (h (8 + 3 * j + 1) (by omega))).mpr b2, (isN_c (h (8 + 3 * j + 2) (by omega))).mpr b3⟩
theorem WFS.chR (w : WFS s n rr ww) (hr : r < rr) (hs : ∀ j, j < 391 → (j < 23 + 20 * r ∨ 43 + 20 * r ≤ j) → s' j = s j) (h5 : s' (23 + 20 * r + 5) = s (23 + 20 * r + 5)) (hn : WFru s' n r) : WFS s' n rr ww ∧ ∀ r', r' < 16 → rdep s' r' = rdep s r' := by
  have n10 := w.n10
  have r16 := w.r16
  have w12 := w.w12
  have hd : ∀ r', r' < 16 → rdep s' r' = rdep s r' := by
    have hp : ∀ r', r' < 16 → s' (28 + 20 * r') = s (28 + 20 * r') := fun r' hr' => by
      by_cases e : r' = r
      · subst e
        rw [show 28 + 20 * r' = 23 + 20 * r' + 5 from by omega]
        exact h5
      · exact hs _ (by omega) (by omega)
    intro r'
    induction r' using Nat.strongRecOn with
    | _ r' ih =>
      intro hr'
      have e := hp r' hr'
      have e2 := parN_c e
      conv => lhs; rw [rdep]
      conv => rhs; rw [rdep]
      by_cases hc : 0 ≤ s (28 + 20 * r') ∧ parN s r' < r'
      · rw [dif_pos (by rw [e, e2]; exact hc), dif_pos hc, e2, ih _ hc.2 (by omega)]
      · rw [dif_neg (by rw [e, e2]; exact hc), dif_neg hc]
  refine ⟨⟨w.n0, n10, r16, w12, by rw [hs 0 (by omega) (by omega)]; exact w.s0, by rw [hs 1 (by omega) (by omega)]; exact w.s1, by rw [hs 2 (by omega) (by omega)]; exact w.s2, ⟨by rw [hs 3 (by omega) (by omega)]; exact w.o.1, fun k h0 hk => ?_⟩, ⟨by rw [hs 4 (by omega) (by omega)]; exact w.e.1, fun i hi => by rw [hs (4 + 2 * i) (by omega) (by omega)]; exact w.e.2 i hi⟩, fun r' hr' => ?_, fun k hk => ?_⟩, hd⟩
  · have e := hs (3 + 2 * k) (by omega) (by omega)
    rw [e, ou_c e]
    exact w.o.2 k h0 hk
  · by_cases e : r' = r
    · subst e
      exact hn
    · exact WFru_c2 (fun c hc => hs _ (by omega) (by omega)) (hd r' (by omega)) (w.ru hr')
  · obtain ⟨b1, b2, b3, b4⟩ := w.wk hk
    exact ⟨(isN_c (hs _ (by omega) (by omega))).mpr b1, (isN_c (hs _ (by omega) (by omega))).mpr b2, (isN_c (hs _ (by omega) (by omega))).mpr b3, (isN_c (hs _ (by omega) (by omega))).mpr b4⟩
theorem xRu_c2 {g : xG} {a o tl arr : Nat} {ts : List Nat} (h : ∀ c, c < 20 → s' (23 + 20 * r + c) = s (23 + 20 * r + c)) (hd : rdep s' r = rdep s r) (hl : aN s (23 + 20 * r + 7) < 5) (q : xRu g s r a o tl arr ts) : xRu g s' r a o tl arr ts := by
  obtain ⟨t1, t2, t3, t4, t5, t6, t7, t8, t9, t10, t11, t12, t13⟩ := q
  have hlen : ts.length < 5 := by rw [t10.1]; exact hl
  refine ⟨t1, t2, by rw [h 1 (by omega)]; exact t3, by rw [h 2 (by omega)]; exact t4, by rw [h 3 (by omega)]; exact t5, by rw [h 4 (by omega)]; exact t6, by rw [h 6 (by omega)]; exact t7, t8, t9, ⟨by rw [aN_c (h 7 (by omega))]; exact t10.1, fun j hj => ?_⟩, by rw [h 5 (by omega)]; exact t11, by rw [hd]; exact t12, by rw [h 0 (by omega)]; exact t13⟩
  obtain ⟨b1, b2, b3, b4, b5⟩ := t10.2 j hj
  rw [aN_c (h (8 + 3 * j + 1) (by omega)), h (8 + 3 * j) (by omega), h (8 + 3 * j + 2) (by omega)]
  exact ⟨b1, b2, b3, b4, b5⟩
end W29
section P29
variable {g g' : xG} {p N : Nat} {Z : xAd} {s s' : Nat → Int32} {n rr ww r : Nat}
/-- other cells than the rule's object and its list's are the same -/
theorem xPol.chR (h : xPol g p Z s n rr ww) (hr : r < rr) {O : Nat → Prop} (F : xFr O N g g') (hO2 : ¬ O 2) (hk : ∀ c, c < xsz g → xown g c ≠ 1000 * p + 10 + r → xown g c ≠ 5 → c ≠ (aR Z).getD r 0 → xc g' c = xc g c)
    (hs : ∀ j, j < 391 → (j < 23 + 20 * r ∨ 43 + 20 * r ≤ j) → s' j = s j) (h5 : s' (23 + 20 * r + 5) = s (23 + 20 * r + 5)) (hn : WFru s' n r) (Z' : xAd) (hZ : aC Z' = aC Z ∧ aR Z' = aR Z ∧ aW Z' = aW Z ∧ (∀ i, i < 6 → aL Z' i = aL Z i) ∧ ∀ r', r' ≠ r → aT Z' r' = aT Z r' ∧ aTl Z' r' = aTl Z r' ∧ aTa Z' r' = aTa Z r') (hnew : xRp g' p Z' s' r) : xPol g' p Z' s' n rr ww := by
  obtain ⟨zc, zr, zw, zl, zt⟩ := hZ
  have r16 := h.wf.r16
  obtain ⟨hW, hd⟩ := h.wf.chR hr hs h5 hn
  have n10 := h.wf.n10
  have w12 := h.wf.w12
  have p0 := h.p0
  have hb := h.ru hr
  have tb : xtag g ((aR Z).getD r 0) = 6 ∨ xtag g ((aR Z).getD r 0) = 7 := hb.1
  -- a cell by its tag, its owner
  have key : ∀ c, xtag g c ≠ 0 → xtag g c ≠ 6 → xtag g c ≠ 7 → xown g c ≠ 1000 * p + 10 + r → xown g c ≠ 5 → xc g' c = xc g c := fun c h0 h6 h7 ho h5 => hk c (xlt h0) ho h5 (fun e => by rw [e] at h6 h7; rcases tb with q | q <;> contradiction)
  have cp : xc g' p = xc g p := key p (by rw [h.tag]; decide) (by rw [h.tag]; decide) (by rw [h.tag]; decide) (by rw [h.own]; omega) (by rw [h.own]; omega)
  have lst : ∀ {o a arr : Nat} {ls : List Nat}, xAL g o a arr ls → o ≠ 1000 * p + 10 + r → 5 < o → xAL g' o a arr ls := by
    intro o a arr ls q ho h0
    obtain ⟨t1, t2, t3, t4, t5, t6, t7, t8, t9⟩ := q
    have ca : xc g' a = xc g a := key a (by rw [t1]; decide) (by rw [t1]; decide) (by rw [t1]; decide) (by rw [t2]; exact ho) (by rw [t2]; omega)
    have hla : arr < xsz g := xlt (by rw [t5]; decide)
    refine ⟨(xtag_of ca).trans t1, (xown_of ca).trans t2, (xr_of ca 1).trans t3, (xi_of ca 2).trans t4, (F.tag hla).trans t5, by rw [F.own hla, F.len hla]; exact t6, by rw [F.len hla]; exact t7, by rw [F.len hla]; exact t8, fun i hi => ?_⟩
    rcases t6 with q | q
    · have cb : xc g' arr = xc g arr := key arr (by rw [t5]; decide) (by rw [t5]; decide) (by rw [t5]; decide) (by rw [q]; exact ho) (by rw [q]; omega)
      rw [xr_of cb]; exact t9 i hi
    · omega
  have hz : ∀ {a : Nat}, xtag g a = 108 → a < xsz g := fun h => xlt (by rw [h]; decide)
  refine ⟨p0, hW, ⟨by rw [zc]; exact h.lc, by rw [zr]; exact h.lr, by rw [zw]; exact h.lw⟩, (xown_of cp).trans h.own, ?_, ?_, ⟨fun i hi => ?_, fun i hi => ?_⟩, fun r' hr' => ?_, fun w hw => ?_⟩
  · rw [zl 0 (by omega), zl 1 (by omega), zl 2 (by omega), zl 3 (by omega), zl 4 (by omega), zl 5 (by omega), zc, zr, zw]
    exact ⟨(xtag_of cp).trans h.tag, (xr_of cp 0).trans h.f0, (xr_of cp 1).trans h.f1, (xr_of cp 2).trans h.f2, lst h.l0 (by omega) (by omega), lst h.l1 (by omega) (by omega), lst h.l2 (by omega) (by omega)⟩
  · rw [zl 1 (by omega), zl 3 (by omega), zl 5 (by omega), F.len (hz h.l0.2.2.2.2.1), F.len (hz h.l1.2.2.2.2.1), F.len (hz h.l2.2.2.2.2.1)]
    exact ⟨h.c0, h.c1, h.c2⟩
  · rw [zc]
    obtain ⟨a1, a2, a3, a4⟩ := h.sc i hi
    have a1' : xtag g ((aC Z).getD i 0) = 3 := a1
    have cc : xc g' ((aC Z).getD i 0) = xc g ((aC Z).getD i 0) := key _ (by rw [a1']; decide) (by rw [a1']; decide) (by rw [a1']; decide) (by rw [h.so hi]; omega) (by rw [h.so hi]; omega)
    refine ⟨(xtag_of cc).trans a1, (xi_of cc 1).trans a2, ?_, ?_⟩
    · show xr g' ((aC Z).getD i 0) 0 = _
      rw [xr_of cc, ou_c (hs (3 + 2 * i) (by omega) (by omega))]
      exact a3
    · show xr g' ((aC Z).getD i 0) 2 = _
      rw [xr_of cc, effO_fr F, hs (4 + 2 * i) (by omega) (by omega)]
      exact a4
  · rw [zc]
    have a1' : xtag g ((aC Z).getD i 0) = 3 := (h.sc i hi).1
    rw [F.own (xlt (by rw [a1']; decide))]
    exact h.so hi
  · by_cases e : r' = r
    · subst e
      exact hnew
    · obtain ⟨t1, t2, t3, t4⟩ := h.rp hr'
      obtain ⟨zt1, zt2, zt3⟩ := zt r' e
      have ne : (aR Z).getD r' 0 ≠ (aR Z).getD r 0 := fun q => by
        have e1 := t1.2.1
        rw [q, hb.2.1] at e1
        exact e ((nI_eq (a := r) (b := r') (by omega) (by omega)).mp e1).symm
      have hl : (aR Z).getD r' 0 < xsz g := xlt (by have := t1.1; omega)
      have cb : xc g' ((aR Z).getD r' 0) = xc g ((aR Z).getD r' 0) := hk _ hl (by rw [t2]; omega) (by rw [t2]; omega) ne
      have hta : xtag g (aTa Z r') = 108 := t1.2.2.2.2.2.2.2.2.1.2.2.2.2.1
      unfold xRp
      rw [zr, zt1, zt2, zt3]
      refine ⟨?_, (xown_of cb).trans t2, by rw [F.len (hz hta)]; exact t3, fun j hj => ?_⟩
      · have u := xRu_c2 (fun c hc => hs (23 + 20 * r' + c) (by omega) (by omega)) (hd r' (by omega)) (h.wf.ru hr').2.2.2.2.2.1.2 t1
        obtain ⟨u1, u2, u3, u4, u5, u6, u7, u8, u9, u10, u11, u12, u13⟩ := u
        have eT := xtag_of cb
        have e1 : rOf g' ((aR Z).getD r' 0) = rOf g ((aR Z).getD r' 0) := by unfold rOf; rw [eT, xi_of cb]
        have e2 : rDep g' ((aR Z).getD r' 0) = rDep g ((aR Z).getD r' 0) := by unfold rDep; rw [eT, xi_of cb]
        have e3 : rEff g' ((aR Z).getD r' 0) = rEff g ((aR Z).getD r' 0) := by unfold rEff; rw [eT, xr_of cb]
        refine ⟨by rw [eT]; exact u1, (xi_of cb 0).trans u2, (xi_of cb 1).trans u3, (xi_of cb 2).trans u4, (xi_of cb 3).trans u5, (xi_of cb 4).trans u6, (xi_of cb 5).trans u7, (xr_of cb 6).trans u8, lst u9 (by omega) (by omega), ?_, e1.trans u11, e2.trans u12, by rw [e3, effO_fr F]; exact u13⟩
        exact u10.fr t4 F hO2
      · have ht := t1.2.2.2.2.2.2.2.2.2.1.2 j hj
        rw [F.own (xlt (by omega))]
        exact t4 j hj
  · rw [zw]
    have e := fun c (hc : c < 4) => hs (343 + 4 * w + c) (by omega) (by omega)
    have q := (h.wk hw).fr F hO2
    obtain ⟨a1, a2, a3, a4, a5, a6⟩ := q
    exact ⟨a1, a2, by rw [hs (343 + 4 * w) (by omega) (by omega)]; exact a3, by rw [e 1 (by omega)]; exact a4, by rw [e 2 (by omega)]; exact a5, by rw [e 3 (by omega)]; exact a6⟩
/-- one int of the rule's object: its last day, its factor -/
theorem xPol.setRI (h : xPol g p Z s n rr ww) (hr : r < rr) {jf c v : Nat} (hj : (jf = 4 ∧ c = 4 ∧ v < 1000) ∨ (jf = 5 ∧ c = 6 ∧ v < 1001)) (hs : ∀ j, j < 391 → s' j = if j = 23 + 20 * r + c then nI v else s j) : xPol (xsetI g ((aR Z).getD r 0) jf (nI v)) p Z s' n rr ww := by
  have r16 := h.wf.r16
  obtain ⟨t1, t2, t3, t4⟩ := h.rp hr
  have p0 := h.p0
  have F : xFr (oP p) 0 g (xsetI g ((aR Z).getD r 0) jf (nI v)) := xFr.rf.si (Or.inr (by rw [t2]; exact ⟨by omega, by omega⟩))
  have hs1 : ∀ c', c' < 20 → c' ≠ c → s' (23 + 20 * r + c') = s (23 + 20 * r + c') := fun c' h1 h2 => by rw [hs _ (by omega), if_neg (by omega)]
  have hsc : s' (23 + 20 * r + c) = nI v := by rw [hs _ (by omega), if_pos rfl]
  have hc : c = 4 ∨ c = 6 := by omega
  have hp : ∀ r', r' < 16 → s' (28 + 20 * r') = s (28 + 20 * r') := fun r' hr' => by rw [hs _ (by omega), if_neg (by omega)]
  have hd : ∀ r', r' < 16 → rdep s' r' = rdep s r' := by
    intro r'
    induction r' using Nat.strongRecOn with
    | _ r' ih =>
      intro hr'
      have e := hp r' hr'
      have e2 := parN_c e
      conv => lhs; rw [rdep]
      conv => rhs; rw [rdep]
      by_cases hq : 0 ≤ s (28 + 20 * r') ∧ parN s r' < r'
      · rw [dif_pos (by rw [e, e2]; exact hq), dif_pos hq, e2, ih _ hq.2 (by omega)]
      · rw [dif_neg (by rw [e, e2]; exact hq), dif_neg hq]
  have hvN : isN s' (23 + 20 * r + c) (v + 1) := by
    refine ⟨?_, ?_⟩
    · unfold aN; rw [hsc, nI_c (by omega)]
    · unfold aN; rw [hsc, nI_c (by omega)]; omega
  have hn : WFru s' n r := by
    obtain ⟨a1, a2, a3, a4, a5, a6, a7, a8, a9⟩ := h.wf.ru hr
    have hl : aN s (23 + 20 * r + 7) < 5 := a6.2
    refine ⟨(isN_c (hs1 1 (by omega) (by omega))).mpr a1, (isN_c (hs1 2 (by omega) (by omega))).mpr a2, (isN_c (hs1 3 (by omega) (by omega))).mpr a3, ?_, ?_, (isN_c (hs1 7 (by omega) (by omega))).mpr a6, by rw [hd r (by omega)]; exact a7, ?_, fun j hj' => ?_⟩
    · rcases hc with e | e
      · rw [e] at hvN; exact ⟨hvN.1, by have := hvN.2; omega⟩
      · exact (isN_c (hs1 4 (by omega) (by omega))).mpr a4
    · rcases hc with e | e
      · exact (isN_c (hs1 6 (by omega) (by omega))).mpr a5
      · rw [e] at hvN; exact ⟨hvN.1, by have := hvN.2; omega⟩
    · rcases a8 with q | q
      · exact Or.inl ⟨by rw [hs1 5 (by omega) (by omega)]; exact q.1, (isN_c (hs1 0 (by omega) (by omega))).mpr q.2⟩
      · exact Or.inr ⟨(isN_c (hs1 5 (by omega) (by omega))).mpr q.1, by rw [hs1 0 (by omega) (by omega)]; exact q.2⟩
    · rw [aN_c (hs1 7 (by omega) (by omega))] at hj'
      obtain ⟨b1, b2, b3⟩ := a9 j hj'
      exact ⟨(isN_c (hs1 (8 + 3 * j) (by omega) (by omega))).mpr b1, (isN_c (hs1 (8 + 3 * j + 1) (by omega) (by omega))).mpr b2, (isN_c (hs1 (8 + 3 * j + 2) (by omega) (by omega))).mpr b3⟩
  have tb : xtag g ((aR Z).getD r 0) ≠ 0 := by have := t1.1; omega
  refine h.chR hr F (fun q => by unfold oP at q; omega) (fun c' _ _ _ hne => xc_setI hne) (fun j hj1 hj2 => by rw [hs j hj1, if_neg (by omega)]) (hs1 5 (by omega) (by omega)) hn Z ⟨rfl, rfl, rfl, fun _ _ => rfl, fun _ _ => ⟨rfl, rfl, rfl⟩⟩ ?_
  obtain ⟨u1, u2, u3, u4, u5, u6, u7, u8, u9, u10, u11, u12, u13⟩ := t1
  have hnl : aN s (23 + 20 * r + 7) < 5 := (h.wf.ru hr).2.2.2.2.2.1.2
  have hta : aTa Z r < xsz g := xlt (by rw [u9.2.2.2.2.1]; decide)
  have rd : ∀ j, j ≠ jf → xi (xsetI g ((aR Z).getD r 0) jf (nI v)) ((aR Z).getD r 0) j = xi g ((aR Z).getD r 0) j := fun j hj => xi_setIK hj
  have rdv : xi (xsetI g ((aR Z).getD r 0) jf (nI v)) ((aR Z).getD r 0) jf = nI v := xi_setIS tb
  have F2 : xFr (oEq (1000 * p)) 0 g (xsetI g ((aR Z).getD r 0) jf (nI v)) := xFr.rf.si (Or.inr t2)
  have e1 : rOf (xsetI g ((aR Z).getD r 0) jf (nI v)) ((aR Z).getD r 0) = rOf g ((aR Z).getD r 0) := by unfold rOf; rw [xtag_setI, rd 7 (by omega)]
  have e2 : rDep (xsetI g ((aR Z).getD r 0) jf (nI v)) ((aR Z).getD r 0) = rDep g ((aR Z).getD r 0) := by unfold rDep; rw [xtag_setI, rd 8 (by omega)]
  have e3 : rEff (xsetI g ((aR Z).getD r 0) jf (nI v)) ((aR Z).getD r 0) = rEff g ((aR Z).getD r 0) := by unfold rEff; rw [xtag_setI, xr_setI]
  refine ⟨⟨by rw [xtag_setI]; exact u1, by rw [rd 0 (by omega)]; exact u2, by rw [rd 1 (by omega), hs1 1 (by omega) (by omega)]; exact u3, by rw [rd 2 (by omega), hs1 2 (by omega) (by omega)]; exact u4, by rw [rd 3 (by omega), hs1 3 (by omega) (by omega)]; exact u5, ?_, ?_, by rw [xr_setI]; exact u8, u9.fr F2 (by unfold oEq; omega), ?_, by rw [e1, hs1 5 (by omega) (by omega)]; exact u11, by rw [e2, hd r (by omega)]; exact u12, by rw [e3, hs1 0 (by omega) (by omega)]; exact u13⟩, by rw [xown_setI]; exact t2, by rw [xlen_setI]; exact t3, fun j hj => by rw [xown_setI]; exact t4 j hj⟩
  · rcases hj with ⟨q1, q2, -⟩ | ⟨q1, q2, -⟩
    · have e9 := rdv
      have e8 := hsc
      rw [q1] at e9 ⊢
      rw [q2] at e8
      exact e9.trans e8.symm
    · rw [rd 4 (by omega), hs1 4 (by omega) (by omega)]; exact u6
  · rcases hj with ⟨q1, q2, -⟩ | ⟨q1, q2, -⟩
    · rw [rd 5 (by omega), hs1 6 (by omega) (by omega)]; exact u7
    · have e9 := rdv
      have e8 := hsc
      rw [q1] at e9 ⊢
      rw [q2] at e8
      exact e9.trans e8.symm
  · have q := u10.fr t4 F2 (by unfold oEq; omega)
    refine ⟨by rw [aN_c (hs1 7 (by omega) (by omega))]; exact q.1, fun j hj' => ?_⟩
    have hjl : j < 4 := by have := q.1; omega
    obtain ⟨b1, b2, b3, b4, b5⟩ := q.2 j hj'
    rw [aN_c (hs1 (8 + 3 * j + 1) (by omega) (by omega)), hs1 (8 + 3 * j) (by omega) (by omega), hs1 (8 + 3 * j + 2) (by omega) (by omega)]
    exact ⟨b1, b2, b3, b4, b5⟩
end P29
