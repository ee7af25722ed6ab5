/-! CLASS 34: a new rule -/
set_option maxRecDepth 100000
/-- a new rule's ints -/
def ruB (e par sc rk f l : Int32) (c : Nat) : Int32 := if c = 0 then e else if c = 1 then sc else if c = 2 then rk else if c = 3 then f else if c = 4 then l else if c = 5 then par else if c = 6 then nI 100 else nI 0
/-- the ints with one more rule -/
def ruUp (s : Nat → Int32) (rr : Nat) (e par sc rk f l : Int32) : Nat → Int32 := fun j => if j = 1 then nI (rr + 1) else if 23 + 20 * rr ≤ j ∧ j < 43 + 20 * rr then ruB e par sc rk f l (j - (23 + 20 * rr)) else s j
section R34
variable {s : Nat → Int32} {n rr ww r N : Nat} {e par sc rk f l : Int32} {g g0 : xG} {o1 o2 : Nat} {O : Nat → Prop}
theorem ruUp_at {c : Nat} (hc : c < 20) : ruUp s rr e par sc rk f l (23 + 20 * rr + c) = ruB e par sc rk f l c := by
  unfold ruUp
  rw [if_neg (by omega), if_pos ⟨by omega, by omega⟩, show 23 + 20 * rr + c - (23 + 20 * rr) = c from by omega]
theorem ruUp_o {j : Nat} (h1 : j ≠ 1) (hj : j < 23 + 20 * rr ∨ 43 + 20 * rr ≤ j) : ruUp s rr e par sc rk f l j = s j := by
  unfold ruUp
  rw [if_neg h1, if_neg (by omega)]
theorem ruUp_1 : ruUp s rr e par sc rk f l 1 = nI (rr + 1) := if_pos rfl
theorem WFru_new {k a b c : Nat} (hsc : k < n) (hrk : a < 10) (hf : b < 1000) (hl : c < 1000) (hn : n ≤ 10) (hd : rdep (ruUp s rr e par (nI k) (nI a) (nI b) (nI c)) rr ≤ 4) (hp : (par = -1 ∧ ∃ q, q < 3 ∧ e = nI q) ∨ (∃ q, q < rr ∧ par = nI q ∧ rr < 16) ∧ e = -1) : WFru (ruUp s rr e par (nI k) (nI a) (nI b) (nI c)) n rr := by
  have h := fun c' (hc : c' < 20) => ruUp_at (s := s) (rr := rr) (e := e) (par := par) (sc := nI k) (rk := nI a) (f := nI b) (l := nI c) hc
  have h7 := h 7 (by omega)
  refine ⟨isN_nI (h 1 (by omega)) hsc (by omega), isN_nI (h 2 (by omega)) hrk (by omega), isN_nI (h 3 (by omega)) hf (by omega), isN_nI (h 4 (by omega)) hl (by omega), isN_nI (v := 100) (h 6 (by omega)) (by omega) (by omega), isN_nI (v := 0) h7 (by omega) (by omega), hd, ?_, fun j hj => ?_⟩
  · rcases hp with ⟨hp, q, hq, he⟩ | ⟨⟨q, hq, hp, h16⟩, he⟩
    · exact Or.inl ⟨(h 5 (by omega)).trans hp, isN_nI (v := q) ((h 0 (by omega)).trans he) (by omega) (by omega)⟩
    · exact Or.inr ⟨isN_nI (v := q) ((h 5 (by omega)).trans hp) hq (by omega), (h 0 (by omega)).trans he⟩
  · have : aN (ruUp s rr e par (nI k) (nI a) (nI b) (nI c)) (23 + 20 * rr + 7) = 0 := by
      unfold aN; rw [h7]; exact nI_c (k := 0) (by decide)
    omega
theorem rdep_new0 : rdep (ruUp s rr e (-1) sc rk f l) rr = 0 := by
  rw [rdep, dif_neg]
  intro q
  have e5 : ruUp s rr e (-1) sc rk f l (28 + 20 * rr) = -1 := by rw [show 28 + 20 * rr = 23 + 20 * rr + 5 from by omega, ruUp_at (by omega)]; rfl
  rw [e5] at q
  exact absurd q.1 (by decide)
theorem rdep_newP {q : Nat} (hq : q < rr) (hr : rr < 16) : rdep (ruUp s rr e (nI q) sc rk f l) rr = rdep s q + 1 := by
  have e5 : ruUp s rr e (nI q) sc rk f l (28 + 20 * rr) = nI q := by rw [show 28 + 20 * rr = 23 + 20 * rr + 5 from by omega, ruUp_at (by omega)]; rfl
  have ep : parN (ruUp s rr e (nI q) sc rk f l) rr = q := by unfold parN; rw [e5]; exact nI_c (by omega)
  rw [rdep, dif_pos ⟨by rw [e5]; exact Int32.not_lt.mp (nI_pos (by omega)), by rw [ep]; exact hq⟩, ep, rdep_c3 (m := rr) (s := s) (fun r hr => ruUp_o (by omega) (by omega)) q hq]
/-- a new main rule -/
def xMai (g : xG) (o1 o2 : Nat) (e : Option Nat) (k sc rk f l : Int32) : xG := xsetR (xRI (xNew g (xBlank 7 o1 8) 8) (xsz g) o2 k sc rk f l) (xsz g) 7 e
theorem xMai.fr {e : Option Nat} {k : Int32} (h : xFr O N g0 g) : xFr O (N + 18) g0 (xMai g o1 o2 e k sc rk f l) := by
  have F1 : xFr O (N + (8 + 1)) g0 (xNew g (xBlank 7 o1 8) 8) := h.nw
  have F2 := xRI.fr (a := xsz g) (o2 := o2) (k := k) (sc := sc) (rk := rk) (f := f) (l := l) F1 (Nat.lt_succ_self _) (Or.inl h.2.1)
  exact F2.sr (Or.inl h.2.1)
theorem xMai_ru {s' : Nat → Int32} (hs : ∀ c, c < 20 → s' (23 + 20 * r + c) = ruB e (-1) sc rk f l c) (hd : rdep s' r = 0) : xRu (xMai g o1 o2 (effO g e) (nI r) sc rk f l) s' r (xsz g) o2 (xsz g + 1) (xsz g + 2) [] ∧ xown (xMai g o1 o2 (effO g e) (nI r) sc rk f l) (xsz g) = o1 ∧ 4 ≤ xlen (xMai g o1 o2 (effO g e) (nI r) sc rk f l) (xsz g + 2) ∧ xtag (xMai g o1 o2 (effO g e) (nI r) sc rk f l) (xsz g) = 7 := by
  have x1 : xtag (xNew g (xBlank 7 o1 8) 8) (xsz g) = 7 := by rw [xtag_newS rfl]; rfl
  have x2 : xown (xNew g (xBlank 7 o1 8) 8) (xsz g) = o1 := by rw [xown_newS rfl]; rfl
  obtain ⟨z1, z2, z3, z4, z5, z6, z7, z8, z9⟩ := xRI_a (g := (xNew g (xBlank 7 o1 8) 8)) (a := xsz g) (o2 := o2) (k := nI r) (sc := sc) (rk := rk) (f := f) (l := l) (by rw [x1]; decide)
  obtain ⟨al, al4⟩ := xRI_al (g := (xNew g (xBlank 7 o1 8) 8)) (a := xsz g) (o2 := o2) (k := nI r) (sc := sc) (rk := rk) (f := f) (l := l) (Nat.lt_succ_self _)
  have y1 : xtag (xMai g o1 o2 (effO g e) (nI r) sc rk f l) (xsz g) = 7 := by unfold xMai; rw [xtag_setR, z1]; exact x1
  have hF : xFr oNo (0 + 18) g (xMai g o1 o2 (effO g e) (nI r) sc rk f l) := xMai.fr xFr.rf
  have kc : ∀ c, c ≠ xsz g → xc (xMai g o1 o2 (effO g e) (nI r) sc rk f l) c = xc (xRI (xNew g (xBlank 7 o1 8) 8) (xsz g) o2 (nI r) sc rk f l) c := fun c hc => xc_setR hc
  have al' : xAL (xMai g o1 o2 (effO g e) (nI r) sc rk f l) o2 (xsz g + 1) (xsz g + 2) [] := by
    have k1 := kc (xsz g + 1) (by omega)
    have k2 := kc (xsz g + 2) (by omega)
    obtain ⟨t1, t2, t3, t4, t5, t6, t7, t8, t9⟩ := al
    exact ⟨(xtag_of k1).trans t1, (xown_of k1).trans t2, (xr_of k1 _).trans t3, (xi_of k1 _).trans t4, (xtag_of k2).trans t5, by have e1 := xown_of k2; have e2 := xlen_of k2; rw [e1, e2]; exact t6, by have e2 := xlen_of k2; rw [e2]; exact t7, by have e2 := xlen_of k2; rw [e2]; exact t8, fun i hi => absurd hi (Nat.not_lt_zero i)⟩
  have tn : xtag (xRI (xNew g (xBlank 7 o1 8) 8) (xsz g) o2 (nI r) sc rk f l) (xsz g) ≠ 0 := by rw [z1, x1]; decide
  refine ⟨⟨Or.inr y1, ?_, ?_, ?_, ?_, ?_, ?_, ?_, al', ⟨?_, fun j hj => absurd hj (Nat.not_lt_zero j)⟩, ?_, ?_, ?_⟩, ?_, ?_, y1⟩
  · unfold xMai; rw [xi_setR]; exact z3
  · rw [hs 1 (by omega)]; unfold xMai; rw [xi_setR]; exact z4
  · rw [hs 2 (by omega)]; unfold xMai; rw [xi_setR]; exact z5
  · rw [hs 3 (by omega)]; unfold xMai; rw [xi_setR]; exact z6
  · rw [hs 4 (by omega)]; unfold xMai; rw [xi_setR]; exact z7
  · rw [hs 6 (by omega)]; unfold xMai; rw [xi_setR]; exact z8
  · unfold xMai; rw [xr_setRK (by decide)]; exact z9
  · unfold aN; rw [hs 7 (by omega)]; exact (nI_c (k := 0) (by decide)).symm
  · unfold rOf; rw [if_neg (by rw [y1]; decide), hs 5 (by omega)]; rfl
  · unfold rDep; rw [if_neg (by rw [y1]; decide), hd]
  · unfold rEff; rw [if_neg (by rw [y1]; decide), show 23 + 20 * r + 0 = 23 + 20 * r + 0 from rfl, hs 0 (by omega), effO_fr hF]
    unfold xMai; rw [xr_setRS tn]; rfl
  · unfold xMai; rw [xown_setR, z2]; exact x2
  · unfold xMai; rw [xlen_setR]; exact Nat.le_of_eq al4.symm
/-- a new exemption -/
def xExm (g : xG) (o1 o2 : Nat) (b : Nat) (k sc rk f l : Int32) : xG := xsetI (xsetI (xRI (xNew g (xBlank 6 o1 9) 9) (xsz g) o2 k sc rk f l) (xsz g) 7 (xi (xNew g (xBlank 6 o1 9) 9) b 0)) (xsz g) 8 (rDep (xNew g (xBlank 6 o1 9) 9) b + nI 1)
theorem xExm.fr {b : Nat} {k : Int32} (h : xFr O N g0 g) : xFr O (N + 19) g0 (xExm g o1 o2 b k sc rk f l) := by
  have F1 : xFr O (N + (9 + 1)) g0 (xNew g (xBlank 6 o1 9) 9) := h.nw
  have F2 := xRI.fr (a := xsz g) (o2 := o2) (k := k) (sc := sc) (rk := rk) (f := f) (l := l) F1 (Nat.lt_succ_self _) (Or.inl h.2.1)
  exact (F2.si (Or.inl h.2.1)).si (Or.inl h.2.1)
theorem xExm_ru {s' : Nat → Int32} {b q : Nat} (hb : b < xsz g) (hb0 : xi g b 0 = nI q) (hbd : rDep g b = nI (rdep s q)) (hd4 : rdep s q ≤ 16) (hs : ∀ c, c < 20 → s' (23 + 20 * r + c) = ruB (-1) (nI q) sc rk f l c) (hd : rdep s' r = rdep s q + 1) : xRu (xExm g o1 o2 b (nI r) sc rk f l) s' r (xsz g) o2 (xsz g + 1) (xsz g + 2) [] ∧ xown (xExm g o1 o2 b (nI r) sc rk f l) (xsz g) = o1 ∧ 4 ≤ xlen (xExm g o1 o2 b (nI r) sc rk f l) (xsz g + 2) ∧ xtag (xExm g o1 o2 b (nI r) sc rk f l) (xsz g) = 6 := by
  have x1 : xtag (xNew g (xBlank 6 o1 9) 9) (xsz g) = 6 := by rw [xtag_newS rfl]; rfl
  have x2 : xown (xNew g (xBlank 6 o1 9) 9) (xsz g) = o1 := by rw [xown_newS rfl]; rfl
  obtain ⟨z1, z2, z3, z4, z5, z6, z7, z8, z9⟩ := xRI_a (g := (xNew g (xBlank 6 o1 9) 9)) (a := xsz g) (o2 := o2) (k := nI r) (sc := sc) (rk := rk) (f := f) (l := l) (by rw [x1]; decide)
  obtain ⟨al, al4⟩ := xRI_al (g := (xNew g (xBlank 6 o1 9) 9)) (a := xsz g) (o2 := o2) (k := nI r) (sc := sc) (rk := rk) (f := f) (l := l) (Nat.lt_succ_self _)
  have kb : xc (xNew g (xBlank 6 o1 9) 9) b = xc g b := xc_newN (Nat.ne_of_lt hb)
  have b0 : xi (xNew g (xBlank 6 o1 9) 9) b 0 = nI q := (xi_of kb 0).trans hb0
  have bd : rDep (xNew g (xBlank 6 o1 9) 9) b = nI (rdep s q) := by unfold rDep at hbd ⊢; rw [xtag_of kb, xi_of kb]; exact hbd
  have y1 : xtag (xExm g o1 o2 b (nI r) sc rk f l) (xsz g) = 6 := by unfold xExm; rw [xtag_setI, xtag_setI, z1]; exact x1
  have hF : xFr oNo (0 + 19) g (xExm g o1 o2 b (nI r) sc rk f l) := xExm.fr xFr.rf
  have kc : ∀ c, c ≠ xsz g → xc (xExm g o1 o2 b (nI r) sc rk f l) c = xc (xRI (xNew g (xBlank 6 o1 9) 9) (xsz g) o2 (nI r) sc rk f l) c := fun c hc => (xc_setI hc).trans (xc_setI hc)
  have al' : xAL (xExm g o1 o2 b (nI r) sc rk f l) o2 (xsz g + 1) (xsz g + 2) [] := by
    have k1 := kc (xsz g + 1) (by omega)
    have k2 := kc (xsz g + 2) (by omega)
    obtain ⟨t1, t2, t3, t4, t5, t6, t7, t8, t9⟩ := al
    exact ⟨(xtag_of k1).trans t1, (xown_of k1).trans t2, (xr_of k1 _).trans t3, (xi_of k1 _).trans t4, (xtag_of k2).trans t5, by have e1 := xown_of k2; have e2 := xlen_of k2; rw [e1, e2]; exact t6, by have e2 := xlen_of k2; rw [e2]; exact t7, by have e2 := xlen_of k2; rw [e2]; exact t8, fun i hi => absurd hi (Nat.not_lt_zero i)⟩
  have tn : xtag (xRI (xNew g (xBlank 6 o1 9) 9) (xsz g) o2 (nI r) sc rk f l) (xsz g) ≠ 0 := by rw [z1, x1]; decide
  refine ⟨⟨Or.inl y1, ?_, ?_, ?_, ?_, ?_, ?_, ?_, al', ⟨?_, fun j hj => absurd hj (Nat.not_lt_zero j)⟩, ?_, ?_, ?_⟩, ?_, ?_, y1⟩
  · unfold xExm; rw [xi_setIK (by decide), xi_setIK (by decide)]; exact z3
  · rw [hs 1 (by omega)]; unfold xExm; rw [xi_setIK (by decide), xi_setIK (by decide)]; exact z4
  · rw [hs 2 (by omega)]; unfold xExm; rw [xi_setIK (by decide), xi_setIK (by decide)]; exact z5
  · rw [hs 3 (by omega)]; unfold xExm; rw [xi_setIK (by decide), xi_setIK (by decide)]; exact z6
  · rw [hs 4 (by omega)]; unfold xExm; rw [xi_setIK (by decide), xi_setIK (by decide)]; exact z7
  · rw [hs 6 (by omega)]; unfold xExm; rw [xi_setIK (by decide), xi_setIK (by decide)]; exact z8
  · unfold xExm; rw [xr_setI, xr_setI]; exact z9
  · unfold aN; rw [hs 7 (by omega)]; exact (nI_c (k := 0) (by decide)).symm
  · unfold rOf; rw [if_pos y1, hs 5 (by omega)]
    unfold xExm; rw [xi_setIK (by decide), xi_setIS tn]; exact b0
  · unfold rDep; rw [if_pos y1, hd]
    unfold xExm; rw [xi_setIS (by rw [xtag_setI]; exact tn), bd]; exact nI_add _ 1
  · unfold rEff; rw [if_pos y1, hs 0 (by omega)]; exact effO_none.symm
  · unfold xExm; rw [xown_setI, xown_setI, z2]; exact x2
  · unfold xExm; rw [xlen_setI, xlen_setI]; exact Nat.le_of_eq al4.symm
end R34
