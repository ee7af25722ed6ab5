/-! CLASS 64: a draft's bars and rule; plain laws of them -/
set_option maxRecDepth 100000
theorem SP_X1_bars_D {d : Nat} {g : xG} {x p lk fa ka la n rr ww : Nat} {Z : xAd} {S : xMS} (hM : xMn g x p lk fa ka la Z S n rr ww) {D tl arr s k f l : Nat} {o : Option Nat} {eff : Option Nat} {ts : List Nat} (hD : xDr g D eff (ofV o) (nI s) (nI k) (nI f) (nI l) tl arr ts) (hs : s < 1000) (hf : f < 1000) (hl : l < 1000) (ho : ∀ v, o = some v → v < 1000) : XM M_X1_bars (d + 80) [.ref x, .ref D] g (xVal (.ref (xsz g)) (fun g' => xWy g' (xsz g) (wBb (S 1) n rr o s f l) ∧ xFr (oEq 5) 60 g g')) := by
  cases o with
  | none => exact SP_X1_bars_A hM hD hs hf hl
  | some v =>
    by_cases hv : v < rr
    · exact SP_X1_bars_B hM hD hs hf hl hv
    · exact SP_X1_bars_C hM hD hs hf hl hv (ho v rfl)
/-- the rule that's made of a draft -/
def xMade (g : xG) (o1 o2 : Nat) (Z : xAd) (rr : Nat) (eff o : Option Nat) (sc k f l : Int32) : xG := match o with
  | none => xMai g o1 o2 eff (nI rr) sc k f l
  | some v => xExm g o1 o2 ((aR Z).getD v 0) (nI rr) sc k f l
theorem SP_X1_made_D {d : Nat} {g : xG} {x p lk fa ka la n rr ww : Nat} {Z : xAd} {S : xMS} (hM : xMn g x p lk fa ka la Z S n rr ww) {D tl arr o1 o2 : Nat} {eff o : Option Nat} {sc k f l : Int32} {ts : List Nat} (ho1 : o1 ≠ 0) (ho2 : o2 ≠ 0) (hD : xDr g D eff (ofV o) sc k f l tl arr ts) (hv : ∀ v, o = some v → v < rr) : XM M_X1_made (d + 80) [.ref x, .ref D] g (xOne (some (.ref (xsz g))) (xMade g o1 o2 Z rr eff o sc k f l)) := by
  cases o with
  | none => exact SP_X1_made_M hM ho1 ho2 hD
  | some v => exact SP_X1_made_E hM ho1 ho2 hD (hv v rfl)
theorem xMade.fr {g0 g : xG} {o1 o2 rr N : Nat} {O : Nat → Prop} {Z : xAd} {eff o : Option Nat} {sc k f l : Int32} (h : xFr O N g0 g) : xFr O (N + 19) g0 (xMade g o1 o2 Z rr eff o sc k f l) := by
  cases o with
  | none => exact (xMai.fr h).sub (fun _ h => h) (by omega)
  | some v => exact xExm.fr h
/-- what bars the draft -/
theorem wBb_P {s : Nat → Int32} {n rr v sc f l : Nat} (hv : ¬ v < rr) : wBb s n rr (some v) sc f l = (1, nI v) := by
  unfold wBb wBa wThen wAsk
  simp [hv, ofV]
theorem wBb_S {s : Nat → Int32} {n rr sc f l : Nat} {o : Option Nat} (ho : ∀ v, o = some v → v < rr) (hs : inR (nI sc) (nI 0) (nI n - nI 1) = false) : wBb s n rr o sc f l = (1, nI sc) := by
  unfold wBb wBa wThen wAsk
  cases o with
  | none => simp [hs]
  | some v => simp [hs, ho v rfl]
theorem wBa_hind {n rr sc f l : Nat} {o : Option Nat} (hs : inR (nI sc) (nI 0) (nI n - nI 1) = true) : wBa n rr false o sc f l = hind0 rr (nI f) (nI l) := by
  unfold wBa wThen wAsk
  simp [hs]
theorem wBb_H {s : Nat → Int32} {n rr sc f l : Nat} {o : Option Nat} (ho : ∀ v, o = some v → v < rr) (hs : inR (nI sc) (nI 0) (nI n - nI 1) = true) : wBb s n rr o sc f l = hindD s rr o sc f l := by
  cases o with
  | none => exact wBa_hind hs
  | some v =>
    unfold wBb hindD
    dsimp only
    rw [if_pos (ho v rfl), wBa_hind hs, hindQ_w]
    unfold wThen
    by_cases h : (hind0 rr (nI f) (nI l)).1 = 0
    · simp [h]
    · simp [h]
theorem hindD_rr2 {s : Nat → Int32} {rr sc f l : Nat} {o : Option Nat} (hr : rr ≤ 16) (h : (hindD s rr o sc f l).1 = 0) : rr < 16 := hindD_rr hr h
/-- the ints of tests -/
def uT (T : List xT3) : Nat → Int32 := fun i => if i % 3 = 0 then nI (T.getD (i / 3) (0, 0, 0)).1 else if i % 3 = 1 then nI (T.getD (i / 3) (0, 0, 0)).2.1 else nI (T.getD (i / 3) (0, 0, 0)).2.2
theorem uT_0 {T : List xT3} {k : Nat} : uT T (3 * k) = nI (T.getD k (0, 0, 0)).1 := by
  unfold uT
  rw [if_pos (by omega), show 3 * k / 3 = k from by omega]
theorem uT_1 {T : List xT3} {k : Nat} : uT T (3 * k + 1) = nI (T.getD k (0, 0, 0)).2.1 := by
  unfold uT
  rw [if_neg (by omega), if_pos (by omega), show (3 * k + 1) / 3 = k from by omega]
theorem uT_2 {T : List xT3} {k : Nat} : uT T (3 * k + 2) = nI (T.getD k (0, 0, 0)).2.2 := by
  unfold uT
  rw [if_neg (by omega), if_neg (by omega), show (3 * k + 2) / 3 = k from by omega]
theorem xTq.te {g : xG} {ts : List Nat} {T : List xT3} (h : xTq g ts T) (hT : tsOk T) {k : Nat} (hk : k < ts.length) : xTe g (ts.getD k 0) (uT T) (3 * k) := by
  rw [h.1] at hk
  obtain ⟨b1, b2, b3, b4, b5⟩ := h.2 k hk
  obtain ⟨c1, c2, c3⟩ := hT k hk
  exact ⟨by omega, by omega, b3, isN_nI uT_0 c1 (by omega), isN_nI uT_1 c2 (by omega), isN_nI uT_2 c3 (by omega), by
    unfold aN
    rw [uT_1, nI_c (by omega), b1]
    omega, b4.trans uT_0.symm, b5.trans uT_2.symm⟩
theorem FAc_0 {s : Nat → Int32} {r m : Nat} {u : Nat → Int32} : FAc s r 0 u m = fun f v => allK (fun k => tOK u (3 * k) f v) m := by
  funext f v
  unfold FAc
  rw [show allK (fun j => tOK s (23 + 20 * r + 8 + 3 * j) f v) 0 = true from rfl, Bool.true_and]
/-- the new rule -/
theorem xMade_ru {g : xG} {x p lk fa ka la n rr ww : Nat} {Z : xAd} {S : xMS} (hM : xMn g x p lk fa ka la Z S n rr ww) {e o : Option Nat} {s k f l : Nat} (heo : (∃ i, e = some i ∧ i < 3 ∧ o = none) ∨ (e = none ∧ ∃ v, o = some v ∧ v < 1000)) (hs : s < n) (hk : k < 10) (hf : f < 1000) (hl : l < 1000) (hr : rr < 16) (hh : (hindD (S 1) rr o s f l).1 = 0) (hv : ∀ v, o = some v → v < rr) {gM : xG} (hg : gM = xMade g (1000 * p) (1000 * p + 10 + rr) Z rr (adE g e) o (nI s) (nI k) (nI f) (nI l)) :
    (xRu gM (ruUp (S 1) rr (effV e) (ofV o) (nI s) (nI k) (nI f) (nI l)) rr (xsz g) (1000 * p + 10 + rr) (xsz g + 1) (xsz g + 2) [] ∧ xown gM (xsz g) = 1000 * p ∧ 4 ≤ xlen gM (xsz g + 2) ∧ (xtag gM (xsz g) = 6 ∨ xtag gM (xsz g) = 7)) ∧ WFru (ruUp (S 1) rr (effV e) (ofV o) (nI s) (nI k) (nI f) (nI l)) n rr := by
  have n10 := hM.P.wf.n10
  subst hg
  rcases heo with ⟨i, rfl, hi, rfl⟩ | ⟨rfl, v, rfl, hv1⟩
  · have hdN := rdep_new0 (s := S 1) (rr := rr) (e := effV (some i)) (sc := nI s) (rk := nI k) (f := nI f) (l := nI l)
    have hsN : ∀ c', c' < 20 → ruUp (S 1) rr (effV (some i)) (-1) (nI s) (nI k) (nI f) (nI l) (23 + 20 * rr + c') = ruB (nI i) (-1) (nI s) (nI k) (nI f) (nI l) c' := fun c' hc' => ruUp_at hc'
    have he : adE g (some i) = effO g (nI i) := by
      have h9 := effK (g := g) hi
      unfold adE
      cases h8 : effO g (nI i) with
      | none => rw [h8] at h9; cases h9
      | some z => rw [h8] at h9; injection h9 with h9; rw [h9]
    have h1 := xMai_ru (g := g) (o1 := 1000 * p) (o2 := 1000 * p + 10 + rr) hsN hdN
    refine ⟨?_, WFru_new hs hk hf hl n10 (Nat.le_trans (Nat.le_of_eq hdN) (by omega)) (Or.inl ⟨rfl, i, hi, rfl⟩)⟩
    unfold xMade
    dsimp only
    rw [he]
    exact ⟨h1.1, h1.2.1, h1.2.2.1, Or.inr h1.2.2.2⟩
  · have hq := hv v rfl
    have ruq := hM.P.ru hq
    have hlq : (aR Z).getD v 0 < xsz g := xlt (by have := ruq.1; omega)
    have hd3 : rdep (S 1) v < 4 := hindQ_4 hh (hM.P.wf.ru hq).2.2.2.2.2.2.1
    have hdN := rdep_newP (s := S 1) (rr := rr) (e := -1) (sc := nI s) (rk := nI k) (f := nI f) (l := nI l) hq hr
    have hsN : ∀ c', c' < 20 → ruUp (S 1) rr (-1) (nI v) (nI s) (nI k) (nI f) (nI l) (23 + 20 * rr + c') = ruB (-1) (nI v) (nI s) (nI k) (nI f) (nI l) c' := fun c' hc' => ruUp_at hc'
    have h1 := xExm_ru (g := g) (o1 := 1000 * p) (o2 := 1000 * p + 10 + rr) hlq ruq.2.1 ruq.2.2.2.2.2.2.2.2.2.2.2.1 (by omega) hsN hdN
    refine ⟨?_, WFru_new hs hk hf hl n10 (Nat.le_trans (Nat.le_of_eq hdN) (by omega)) (Or.inr ⟨⟨v, hq, rfl, hr⟩, rfl⟩)⟩
    exact ⟨h1.1, h1.2.1, h1.2.2.1, Or.inl h1.2.2.2⟩
