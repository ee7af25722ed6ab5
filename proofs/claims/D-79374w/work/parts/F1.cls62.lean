/-! CLASS 62: a rule with tests, added -/
set_option maxRecDepth 100000
section C62
variable {g g' : xG} {p N : Nat} {Z Z' : xAd} {s s' : Nat → Int32} {n rr ww r c : Nat}
/-- a policy with one more rule, that has tests -/
theorem xPol.addRT (h : xPol g p Z s n rr ww) (F : xFr (oEq (1000 * p + 2)) N g g') (al : xAL g' (1000 * p + 2) (aL Z 2) (aL Z 3) (aR Z ++ [c])) (hr : rr < 16) {tl ta : Nat} {ts : List Nat} (hc : xRu g' s' rr c (1000 * p + 10 + rr) tl ta ts ∧ xown g' c = 1000 * p ∧ 4 ≤ xlen g' ta) (hts : ∀ j, j < ts.length → xown g' (ts.getD j 0) = 2)
    (h1 : s' 1 = nI (rr + 1)) (hs : ∀ j, j < 391 → j ≠ 1 → (j < 23 + 20 * rr ∨ 43 + 20 * rr ≤ j) → s' j = s j) (hn : WFru s' n rr) : xPol g' p (fun i => if i = 10 + 2 * rr then tl else if i = 11 + 2 * rr then ta else aL Z i, aC Z, aR Z ++ [c], aW Z, fun r => if r = rr then ts else aT Z r) s' n (rr + 1) ww := by
  obtain ⟨hW, hd⟩ := h.wf.addR hr h1 hs hn
  have p0 := h.p0
  have n10 := h.wf.n10
  have w12 := h.wf.w12
  have np : ¬ oEq (1000 * p + 2) (xown g p) := by rw [h.own]; unfold oEq; omega
  have hsc := h.sc.fr (o := 1000 * p) (fun i hi => h.so hi) F (by unfold oEq; omega)
  have lr := h.lr
  have hg : ∀ i, i < rr → (aR Z ++ [c]).getD i 0 = (aR Z).getD i 0 := fun i hi => getD_app1 (by omega)
  have hgn : (aR Z ++ [c]).getD rr 0 = c := by rw [← lr]; exact getD_app2
  have zL : ∀ i, i < 6 → aL ((fun i => if i = 10 + 2 * rr then tl else if i = 11 + 2 * rr then ta else aL Z i, aC Z, aR Z ++ [c], aW Z, fun r => if r = rr then ts else aT Z r) : xAd) i = aL Z i := fun i hi => by
    show (if i = 10 + 2 * rr then tl else if i = 11 + 2 * rr then ta else aL Z i) = aL Z i
    rw [if_neg (by omega), if_neg (by omega)]
  refine ⟨p0, hW, ⟨h.lc, ?_, h.lw⟩, (F.own h.lt).trans h.own, ?_, ?_, ⟨fun i hi => ?_, fun i hi => ?_⟩, fun r hr' => ?_, fun w hw => ?_⟩
  · show (aR Z ++ [c]).length = rr + 1
    rw [List.length_append, lr]; rfl
  · rw [zL 0 (by omega), zL 1 (by omega), zL 2 (by omega), zL 3 (by omega), zL 4 (by omega), zL 5 (by omega)]
    exact ⟨(F.tag h.lt).trans h.tag, (F.r' h.lt np).trans h.f0, (F.r' h.lt np).trans h.f1, (F.r' h.lt np).trans h.f2, h.l0.fr F (by unfold oEq; omega), al, h.l2.fr F (by unfold oEq; omega)⟩
  · rw [zL 1 (by omega), zL 3 (by omega), zL 5 (by omega)]
    exact h.lens F
  · obtain ⟨a1, a2, a3, a4⟩ := hsc i hi
    exact ⟨a1, a2, by rw [ou_c (hs (3 + 2 * i) (by omega) (by omega) (by omega))]; exact a3, by rw [hs (4 + 2 * i) (by omega) (by omega) (by omega)]; exact a4⟩
  · show xown g' ((aC Z).getD i 0) = 1000 * p
    rw [F.own (xlt (by rw [h.so' hi]; decide))]
    exact h.so hi
  · by_cases e : r = rr
    · subst e
      have e1 : aTl ((fun i => if i = 10 + 2 * r then tl else if i = 11 + 2 * r then ta else aL Z i, aC Z, aR Z ++ [c], aW Z, fun r' => if r' = r then ts else aT Z r') : xAd) r = tl := if_pos rfl
      have e2 : aTa ((fun i => if i = 10 + 2 * r then tl else if i = 11 + 2 * r then ta else aL Z i, aC Z, aR Z ++ [c], aW Z, fun r' => if r' = r then ts else aT Z r') : xAd) r = ta := by
        show (if 11 + 2 * r = 10 + 2 * r then tl else if 11 + 2 * r = 11 + 2 * r then ta else aL Z (11 + 2 * r)) = ta
        rw [if_neg (by omega), if_pos rfl]
      have e3 : aT ((fun i => if i = 10 + 2 * r then tl else if i = 11 + 2 * r then ta else aL Z i, aC Z, aR Z ++ [c], aW Z, fun r' => if r' = r then ts else aT Z r') : xAd) r = ts := if_pos rfl
      unfold xRp
      rw [e1, e2, e3]
      rw [show (aR ((fun i => if i = 10 + 2 * r then tl else if i = 11 + 2 * r then ta else aL Z i, aC Z, aR Z ++ [c], aW Z, fun r' => if r' = r then ts else aT Z r') : xAd)).getD r 0 = c from hgn]
      exact ⟨hc.1, hc.2.1, hc.2.2, hts⟩
    · have hr2 : r < rr := by omega
      refine ((h.rp hr2).fr1 F (by unfold oEq; omega) (by unfold oEq; omega) (by unfold oEq; omega)).to (hg r hr2) ?_ ?_ ?_ (fun c hc => hs _ (by omega) (by omega) (by omega)) (hd r hr2) (h.wf.ru hr2).2.2.2.2.2.1.2
      · show (if 10 + 2 * r = 10 + 2 * rr then tl else if 10 + 2 * r = 11 + 2 * rr then ta else aL Z (10 + 2 * r)) = aL Z (10 + 2 * r)
        rw [if_neg (by omega), if_neg (by omega)]
      · show (if 11 + 2 * r = 10 + 2 * rr then tl else if 11 + 2 * r = 11 + 2 * rr then ta else aL Z (11 + 2 * r)) = aL Z (11 + 2 * r)
        rw [if_neg (by omega), if_neg (by omega)]
      · exact if_neg e
  · exact ((h.wk hw).fr F (by unfold oEq; omega)).to (fun c hc => hs _ (by omega) (by omega) (by omega))
/-- .. where only a list of tests of a rule that's to come is written -/
theorem xPol.frN {O : Nat → Prop} (h : xPol g p Z s n rr ww) (F : xFr O N g g') (h0 : ¬ O (1000 * p)) (h1 : ¬ O (1000 * p + 1)) (h2 : ¬ O (1000 * p + 2)) (h3 : ¬ O (1000 * p + 3)) (hr : ∀ r, r < rr → ¬ O (1000 * p + 10 + r)) (hO : ¬ O 2) : xPol g' p Z s n rr ww := by
  have hz : ∀ {a : Nat}, xtag g a = 108 → a < xsz g := fun h => xlt (by rw [h]; decide)
  refine ⟨h.p0, h.wf, h.2.2.1, (F.own h.lt).trans h.own, h.pl.fr F (by rw [h.own]; exact h0) h1 h2 h3, ⟨?_, ?_, ?_⟩, ⟨h.sc.fr (o := 1000 * p) (fun i hi => h.so hi) F h0, fun i hi => ?_⟩, fun r hr9 => (h.rp hr9).fr1 F h0 (hr r hr9) hO, fun w hw => (h.wk hw).fr F hO⟩
  · rw [F.len (hz h.l0.2.2.2.2.1)]; exact h.c0
  · rw [F.len (hz h.l1.2.2.2.2.1)]; exact h.c1
  · rw [F.len (hz h.l2.2.2.2.2.1)]; exact h.c2
  · rw [F.own (xlt (by have := (h.sc i hi).1; rw [show (fun i => (aC Z).getD i 0) i = (aC Z).getD i 0 from rfl] at this; rw [this]; decide))]
    exact h.so hi
/-- a rule without tests has got some -/
theorem xRu.addT {O : Nat → Prop} {o tl ta arr' : Nat} {us : List Nat} {u : Nat → Int32} (t1 : xRu g s r c o tl ta []) (r16 : r < 16) (F : xFr O N g g') (hO : ¬ O (xown g c)) (al : xAL g' o tl arr' us) (hm : us.length ≤ 4) (hu : ∀ k, k < us.length → xTe g' (us.getD k 0) u (3 * k)) : xRu g' (tsUp s r 0 u us.length) r c o tl arr' us := by
  have hd : rdep (tsUp s r 0 u us.length) r = rdep s r := rdep_c3 (m := 16) (fun q hq => by
    by_cases e : q = r
    · subst e
      rw [show 28 + 20 * q = 23 + 20 * q + 5 from by omega]
      exact tsUp_l (by omega)
    · exact tsUp_o (by omega) (by omega)) r r16
  have hb : c < xsz g := xlt (by have := t1.1; omega)
  have cb : xc g' c = xc g c := F.c hb hO
  obtain ⟨u1, u2, u3, u4, u5, u6, u7, u8, u9, u10, u11, u12, u13⟩ := t1
  have eT := xtag_of cb
  have f1 : rOf g' c = rOf g c := by unfold rOf; rw [eT, xi_of cb]
  have f2 : rDep g' c = rDep g c := by unfold rDep; rw [eT, xi_of cb]
  have f3 : rEff g' c = rEff g c := by unfold rEff; rw [eT, xr_of cb]
  have e7 : aN (tsUp s r 0 u us.length) (23 + 20 * r + 7) = us.length := by unfold aN; rw [tsUp_7, Nat.zero_add]; exact nI_c (by omega)
  have eE : ∀ v, effO g' v = effO g v := fun v => by unfold effO; rw [F.e]
  refine ⟨by rw [eT]; exact u1, (xi_of cb 0).trans u2, (xi_of cb 1).trans (u3.trans (tsUp_l (by omega)).symm), (xi_of cb 2).trans (u4.trans (tsUp_l (by omega)).symm), (xi_of cb 3).trans (u5.trans (tsUp_l (by omega)).symm), (xi_of cb 4).trans (u6.trans (tsUp_l (by omega)).symm), (xi_of cb 5).trans (u7.trans (tsUp_l (by omega)).symm), (xr_of cb 6).trans u8, al, ⟨e7.symm, fun j hj => ?_⟩, f1.trans (u11.trans (tsUp_l (by omega)).symm), by rw [f2, hd]; exact u12, by rw [f3, u13, eE]; exact congrArg _ (tsUp_l (by omega)).symm⟩
  obtain ⟨c1, c2, c3, c4, c5, c6, c7, c8, c9⟩ := hu j hj
  have f : ∀ c, c < 3 → tsUp s r 0 u us.length (23 + 20 * r + (8 + 3 * j + c)) = u (3 * j + c) := fun c hc => by
    rw [show 8 + 3 * j + c = 8 + (3 * 0 + (3 * j + c)) from by omega]
    exact tsUp_u (by omega)
  refine ⟨c1, c2, ?_, ?_, ?_⟩
  · exact c7.trans (congrArg Int32.toNatClampNeg (f 1 (by omega)).symm)
  · exact c8.trans (f 0 (by omega)).symm
  · exact c9.trans (f 2 (by omega)).symm
theorem WFru.addT {us : List Nat} {u : Nat → Int32} (w : WFru s n r) (r16 : r < 16) (h7 : aN s (23 + 20 * r + 7) = 0) (hm : us.length ≤ 4) (hu : ∀ k, k < us.length → isN u (3 * k) 6 ∧ isN u (3 * k + 1) 4 ∧ isN u (3 * k + 2) 10) : WFru (tsUp s r 0 u us.length) n r := by
  have hd : rdep (tsUp s r 0 u us.length) r = rdep s r := rdep_c3 (m := 16) (fun q hq => by
    by_cases e : q = r
    · subst e
      rw [show 28 + 20 * q = 23 + 20 * q + 5 from by omega]
      exact tsUp_l (by omega)
    · exact tsUp_o (by omega) (by omega)) r r16
  exact WFru_ts (us := us) (by omega) r16 w h7 hu hd
end C62
