/-! CLASS 38: tests, as ints say -/
set_option maxRecDepth 100000
/-- the digits that the tests leave to a feature: t of the rule r, m that u says -/
def FAc (s : Nat → Int32) (r t : Nat) (u : Nat → Int32) (m : Nat) (f v : Int32) : Bool := allK (fun j => tOK s (23 + 20 * r + 8 + 3 * j) f v) t && allK (fun k => tOK u (3 * k) f v) m
/-- the ints with m more tests, that u says -/
def tsUp (s : Nat → Int32) (r t : Nat) (u : Nat → Int32) (m : Nat) : Nat → Int32 := fun j => if j = 23 + 20 * r + 7 then nI (t + m) else if 23 + 20 * r + 8 + 3 * t ≤ j ∧ j < 23 + 20 * r + 8 + 3 * (t + m) then u (j - (23 + 20 * r + 8 + 3 * t)) else s j
section T38
variable {s u : Nat → Int32} {n rr ww r t m N : Nat} {g g' : xG}
theorem anyK_add {P : Nat → Bool} {a : Nat} : ∀ {b : Nat}, anyK P (a + b) = (anyK P a || anyK (fun i => P (a + i)) b) := by
  intro b
  induction b with
  | zero => show anyK P a = (anyK P a || false); rw [Bool.or_false]
  | succ b ih =>
    show (anyK P (a + b) || P (a + b)) = (anyK P a || (anyK (fun i => P (a + i)) b || P (a + b)))
    rw [ih, Bool.or_assoc]
theorem anyK_not {P : Nat → Bool} : ∀ {k : Nat}, (!anyK P k) = allK (fun i => !P i) k := by
  intro k
  induction k with
  | zero => rfl
  | succ k ih =>
    show (!(anyK P k || P k)) = (allK (fun i => !P i) k && !P k)
    rw [Bool.not_or, ih]
theorem allK_c {P Q : Nat → Bool} : ∀ {k : Nat}, (∀ i, i < k → P i = Q i) → allK P k = allK Q k := by
  intro k
  induction k with
  | zero => intro _; rfl
  | succ k ih =>
    intro h
    show (allK P k && P k) = (allK Q k && Q k)
    rw [ih (fun i hi => h i (by omega)), h k (by omega)]
theorem tOK_bar {a : Nat → Int32} {b j : Nat} {f v : Int32} (h1 : xtag g b - 10 = aN a (j + 1)) (h2 : xi g b 0 = a j) (h3 : xi g b 1 = a (j + 2)) : (!tbar g b f v) = tOK a j f v := by
  unfold tbar tOK tfit
  rw [h1, h2, h3, Bool.not_and, Bool.not_not]
theorem impK_s {ts us : List Nat} (hT : xTst g s r ts) (hu : ∀ k, k < us.length → xTe g (us.getD k 0) u (3 * k)) : impK g (ts ++ us) = lostF (FAc s r ts.length u us.length) := by
  unfold impK lostF
  refine lostK_c (fun f _ _ => ?_)
  unfold posB
  refine anyK_c (fun v _ => ?_)
  unfold rbar FAc
  rw [anyK_not, show (ts ++ us).length = ts.length + us.length from List.length_append]
  have e : ∀ {P : Nat → Bool} {a b : Nat}, allK P (a + b) = (allK P a && allK (fun i => P (a + i)) b) := by
    intro P a b
    induction b with
    | zero => show allK P a = (allK P a && true); rw [Bool.and_true]
    | succ b ih =>
      show (allK P (a + b) && P (a + b)) = (allK P a && (allK (fun i => P (a + i)) b && P (a + b)))
      rw [ih, Bool.and_assoc]
  rw [e]
  congr 1
  · refine allK_c (fun j hj => ?_)
    obtain ⟨-, -, b3, b4, b5⟩ := hT.2 j hj
    rw [getD_app3 hj]
    exact tOK_bar (by rw [b3]; congr 1; omega) (by rw [b4]; congr 1; omega) (by rw [b5]; congr 1; omega)
  · refine allK_c (fun k hk => ?_)
    obtain ⟨-, -, -, -, -, -, b3, b4, b5⟩ := hu k hk
    rw [getD_app4]
    exact tOK_bar b3 b4 b5
theorem lostF_m {FA : Int32 → Int32 → Bool} : lostF FA = -1 ∨ ∃ q, q < 100 ∧ lostF FA = nI q := lostK_m (by omega)
/-- what bars, as the reference says it -/
theorem adW_s {ts us : List Nat} (hT : xTst g s r ts) (hu : ∀ k, k < us.length → xTe g (us.getD k 0) u (3 * k)) : (adW g (ts ++ us)).1 = (hindT (FAc s r ts.length u us.length) (ts.length + us.length)).1 ∧ ((adW g (ts ++ us)).1 ≠ 0 → (adW g (ts ++ us)).2 = (hindT (FAc s r ts.length u us.length) (ts.length + us.length)).2) := by
  unfold adW hindT
  rw [impK_s hT hu, show (ts ++ us).length = ts.length + us.length from List.length_append]
  by_cases h : 4 < ts.length + us.length
  · rw [if_pos h, if_pos h]; exact ⟨rfl, fun _ => rfl⟩
  · rw [if_neg h, if_neg h]
    rcases lostF_m (FA := FAc s r ts.length u us.length) with e | ⟨q, hq, e⟩
    · rw [e, if_pos rfl, if_pos neg1lt]; exact ⟨rfl, fun z => absurd rfl z⟩
    · rw [e, if_neg (fun z => by
        have := nI_pos (n := q) (by omega)
        rw [z] at this
        exact this neg1lt), if_neg (nI_pos (by omega))]; exact ⟨rfl, fun _ => rfl⟩
theorem tsUp_o {j : Nat} (ht : t + m ≤ 4) (hj : j < 23 + 20 * r ∨ 43 + 20 * r ≤ j) : tsUp s r t u m j = s j := by
  unfold tsUp
  rw [if_neg (by omega), if_neg (by omega)]
theorem tsUp_l {c : Nat} (hc : c < 7) : tsUp s r t u m (23 + 20 * r + c) = s (23 + 20 * r + c) := by
  unfold tsUp
  rw [if_neg (by omega), if_neg (by omega)]
theorem tsUp_7 : tsUp s r t u m (23 + 20 * r + 7) = nI (t + m) := if_pos rfl
theorem tsUp_t {i : Nat} (hi : i < 3 * t) : tsUp s r t u m (23 + 20 * r + (8 + i)) = s (23 + 20 * r + (8 + i)) := by
  unfold tsUp
  rw [if_neg (by omega), if_neg (by omega)]
theorem tsUp_u {i : Nat} (hi : i < 3 * m) : tsUp s r t u m (23 + 20 * r + (8 + (3 * t + i))) = u i := by
  unfold tsUp
  rw [if_neg (by omega), if_pos ⟨by omega, by omega⟩]
  congr 1
  omega
theorem WFru_ts {us : List Nat} (ht : t + m ≤ 4) (hr : r < 16) (w : WFru s n r) (h7 : aN s (23 + 20 * r + 7) = t) (hu : ∀ k, k < m → isN u (3 * k) 6 ∧ isN u (3 * k + 1) 4 ∧ isN u (3 * k + 2) 10) (hd : rdep (tsUp s r t u m) r = rdep s r) : WFru (tsUp s r t u m) n r := by
  obtain ⟨a1, a2, a3, a4, a5, a6, a7, a8, a9⟩ := w
  have e7 : aN (tsUp s r t u m) (23 + 20 * r + 7) = t + m := by unfold aN; rw [tsUp_7]; exact nI_c (by omega)
  refine ⟨(isN_c (tsUp_l (by omega))).mpr a1, (isN_c (tsUp_l (by omega))).mpr a2, (isN_c (tsUp_l (by omega))).mpr a3, (isN_c (tsUp_l (by omega))).mpr a4, (isN_c (tsUp_l (by omega))).mpr a5, isN_nI tsUp_7 (by omega) (by omega), by rw [hd]; exact a7, ?_, fun j hj => ?_⟩
  · rcases a8 with q | q
    · exact Or.inl ⟨by rw [tsUp_l (by omega)]; exact q.1, (isN_c (tsUp_l (by omega))).mpr q.2⟩
    · exact Or.inr ⟨(isN_c (tsUp_l (by omega))).mpr q.1, by rw [tsUp_l (by omega)]; exact q.2⟩
  · rw [e7] at hj
    by_cases h : j < t
    · obtain ⟨b1, b2, b3⟩ := a9 j (by omega)
      exact ⟨(isN_c (tsUp_t (i := 3 * j) (by omega))).mpr b1, (isN_c (tsUp_t (i := 3 * j + 1) (by omega))).mpr b2, (isN_c (tsUp_t (i := 3 * j + 2) (by omega))).mpr b3⟩
    · obtain ⟨b1, b2, b3⟩ := hu (j - t) (by omega)
      have f : ∀ c, c < 3 → tsUp s r t u m (23 + 20 * r + (8 + (3 * j + c))) = u (3 * (j - t) + c) := fun c hc => by
        rw [show 8 + (3 * j + c) = 8 + (3 * t + (3 * (j - t) + c)) from by omega]
        exact tsUp_u (by omega)
      have k : ∀ c b, c < 3 → isN u (3 * (j - t) + c) b → isN (tsUp s r t u m) (23 + 20 * r + (8 + (3 * j + c))) b := fun c b hc q => by
        unfold isN aN at q ⊢
        rw [f c hc]
        exact q
      exact ⟨k 0 6 (by omega) b1, k 1 4 (by omega) b2, k 2 10 (by omega) b3⟩
/-- a policy with more tests in one rule -/
theorem xPol.addT {p arr' : Nat} {Z : xAd} {us : List Nat} (h : xPol g p Z s n rr ww) (hr : r < rr) {O : Nat → Prop} (F : xFr O N g g') (hO : ∀ o, O o → o = 1000 * p + 10 + r ∨ o = 5) (al : xAL g' (1000 * p + 10 + r) (aTl Z r) arr' (aT Z r ++ us)) (hl : 4 ≤ xlen g' arr') (hm : (aT Z r).length + us.length ≤ 4) (hu : ∀ k, k < us.length → xTe g' (us.getD k 0) u (3 * k)) :
    xPol g' p (fun i => if i = 11 + 2 * r then arr' else aL Z i, aC Z, aR Z, aW Z, fun q => if q = r then aT Z r ++ us else aT Z q) (tsUp s r (aT Z r).length u us.length) n rr ww := by
  have r16 := h.wf.r16
  have p0 := h.p0
  obtain ⟨t1, t2, t3, t4⟩ := h.rp hr
  have h7 := t1.2.2.2.2.2.2.2.2.2.1.1
  have hd : rdep (tsUp s r (aT Z r).length u us.length) r = rdep s r := rdep_c3 (m := 16) (fun q hq => by
    by_cases e : q = r
    · subst e
      rw [show 28 + 20 * q = 23 + 20 * q + 5 from by omega]
      exact tsUp_l (by omega)
    · exact tsUp_o hm (by omega)) r (by omega)
  have hn := WFru_ts (us := us) hm (by omega) (h.wf.ru hr) h7.symm (fun k hk => ⟨(hu k hk).2.2.2.1, (hu k hk).2.2.2.2.1, (hu k hk).2.2.2.2.2.1⟩) hd
  have zL : ∀ i, i ≠ 11 + 2 * r → aL ((fun i => if i = 11 + 2 * r then arr' else aL Z i, aC Z, aR Z, aW Z, fun q => if q = r then aT Z r ++ us else aT Z q) : xAd) i = aL Z i := fun i hi => if_neg hi
  refine h.chR hr F (fun q => by rcases hO _ q with z | z <;> omega) (fun c hc h1 h5 h2 => F.c hc (fun q => by rcases hO _ q with z | z; exact h1 z; exact h5 z)) (fun j _ hj => tsUp_o hm hj) (tsUp_l (by omega)) hn _ ⟨rfl, rfl, rfl, fun i hi => zL i (by omega), fun r' hr' => ⟨if_neg hr', zL _ (by omega), zL _ (by omega)⟩⟩ ?_
  have e1 : aTl ((fun i => if i = 11 + 2 * r then arr' else aL Z i, aC Z, aR Z, aW Z, fun q => if q = r then aT Z r ++ us else aT Z q) : xAd) r = aTl Z r := zL _ (by omega)
  have e2 : aTa ((fun i => if i = 11 + 2 * r then arr' else aL Z i, aC Z, aR Z, aW Z, fun q => if q = r then aT Z r ++ us else aT Z q) : xAd) r = arr' := if_pos rfl
  have e3 : aT ((fun i => if i = 11 + 2 * r then arr' else aL Z i, aC Z, aR Z, aW Z, fun q => if q = r then aT Z r ++ us else aT Z q) : xAd) r = aT Z r ++ us := if_pos rfl
  have e4 : aR ((fun i => if i = 11 + 2 * r then arr' else aL Z i, aC Z, aR Z, aW Z, fun q => if q = r then aT Z r ++ us else aT Z q) : xAd) = aR Z := rfl
  unfold xRp
  rw [e1, e2, e3, e4]
  have hb : (aR Z).getD r 0 < xsz g := xlt (by have := t1.1; omega)
  have n5 : ∀ o, o ≠ 1000 * p + 10 + r → o ≠ 5 → ¬ O o := fun o h1 h2 q => by rcases hO _ q with z | z; exact h1 z; exact h2 z
  have cb : xc g' ((aR Z).getD r 0) = xc g ((aR Z).getD r 0) := F.c hb (by rw [t2]; exact n5 _ (by omega) (by omega))
  obtain ⟨u1, u2, u3, u4, u5, u6, u7, u8, u9, u10, u11, u12, u13⟩ := t1
  have eT := xtag_of cb
  have f1 : rOf g' ((aR Z).getD r 0) = rOf g ((aR Z).getD r 0) := by unfold rOf; rw [eT, xi_of cb]
  have f2 : rDep g' ((aR Z).getD r 0) = rDep g ((aR Z).getD r 0) := by unfold rDep; rw [eT, xi_of cb]
  have f3 : rEff g' ((aR Z).getD r 0) = rEff g ((aR Z).getD r 0) := by unfold rEff; rw [eT, xr_of cb]
  have e7 : aN (tsUp s r (aT Z r).length u us.length) (23 + 20 * r + 7) = (aT Z r).length + us.length := by unfold aN; rw [tsUp_7]; exact nI_c (by omega)
  have u10' := u10.fr t4 F (n5 2 (by omega) (by omega))
  have la : (aT Z r ++ us).length = (aT Z r).length + us.length := List.length_append
  refine ⟨⟨by rw [eT]; exact u1, (xi_of cb 0).trans u2, (xi_of cb 1).trans (u3.trans (tsUp_l (by omega)).symm), (xi_of cb 2).trans (u4.trans (tsUp_l (by omega)).symm), (xi_of cb 3).trans (u5.trans (tsUp_l (by omega)).symm), (xi_of cb 4).trans (u6.trans (tsUp_l (by omega)).symm), (xi_of cb 5).trans (u7.trans (tsUp_l (by omega)).symm), (xr_of cb 6).trans u8, al, ⟨la.trans e7.symm, fun j hj => ?_⟩, f1.trans (u11.trans (tsUp_l (by omega)).symm), f2.trans (u12.trans (congrArg nI hd.symm)), f3.trans (u13.trans ((congrArg (effO g) (tsUp_l (c := 0) (by omega)).symm).trans (effO_fr F _).symm))⟩, (xown_of cb).trans t2, hl, fun j hj => ?_⟩
  · rw [la] at hj
    by_cases e : j < (aT Z r).length
    · obtain ⟨b1, b2, b3, b4, b5⟩ := u10'.2 j e
      rw [getD_app3 e]
      exact ⟨b1, b2, b3.trans (aN_c (tsUp_t (i := 3 * j + 1) (by omega))).symm, b4.trans (tsUp_t (i := 3 * j) (by omega)).symm, b5.trans (tsUp_t (i := 3 * j + 2) (by omega)).symm⟩
    · obtain ⟨c1, c2, c3, c4, c5, c6, c7, c8, c9⟩ := hu (j - (aT Z r).length) (by omega)
      have f : ∀ c, c < 3 → tsUp s r (aT Z r).length u us.length (23 + 20 * r + (8 + 3 * j + c)) = u (3 * (j - (aT Z r).length) + c) := fun c hc => by
        rw [show 8 + 3 * j + c = 8 + (3 * (aT Z r).length + (3 * (j - (aT Z r).length) + c)) from by omega]
        exact tsUp_u (by omega)
      have ej : (aT Z r ++ us).getD j 0 = us.getD (j - (aT Z r).length) 0 := by
        rw [show j = (aT Z r).length + (j - (aT Z r).length) from by omega, getD_app4]
        congr 1
        omega
      rw [ej]
      refine ⟨c1, c2, ?_, ?_, ?_⟩
      · exact c7.trans (congrArg Int32.toNatClampNeg (f 1 (by omega)).symm)
      · exact c8.trans (f 0 (by omega)).symm
      · exact c9.trans (f 2 (by omega)).symm
  · rw [la] at hj
    by_cases e : j < (aT Z r).length
    · rw [getD_app3 e, F.own (xlt (by have := (u10.2 j e).1; omega))]
      exact t4 j e
    · have ej : (aT Z r ++ us).getD j 0 = us.getD (j - (aT Z r).length) 0 := by
        rw [show j = (aT Z r).length + (j - (aT Z r).length) from by omega, getD_app4]
        congr 1
        omega
      rw [ej]
      exact (hu (j - (aT Z r).length) (by omega)).2.2.1
/-- .. with an array of another size, and no more tests -/
theorem xPol.reT {p arr' : Nat} {Z : xAd} (h : xPol g p Z s n rr ww) (hr : r < rr) {O : Nat → Prop} (F : xFr O N g g') (hO : ∀ o, O o → o = 1000 * p + 10 + r ∨ o = 5) (al : xAL g' (1000 * p + 10 + r) (aTl Z r) arr' (aT Z r)) (hl : 4 ≤ xlen g' arr') : ∃ Z', xPol g' p Z' s n rr ww := by
  have h7 := (h.ru hr).2.2.2.2.2.2.2.2.2.1.1
  have h75 := (h.wf.ru hr).2.2.2.2.2.1
  have q := h.addT (us := []) (u := s) hr F hO (by rw [List.append_nil]; exact al) hl (by have := h75.2; simp only [List.length_nil]; omega) (fun k hk => absurd hk (Nat.not_lt_zero k))
  refine ⟨_, q.cong (fun j _ => ?_)⟩
  unfold tsUp
  by_cases e : j = 23 + 20 * r + 7
  · rw [if_pos e, e, h75.1, ← h7]; rfl
  · rw [if_neg e, if_neg (by simp only [List.length_nil]; omega)]
end T38
