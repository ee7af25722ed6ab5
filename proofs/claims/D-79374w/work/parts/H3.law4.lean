/-! LAW 4: an op of both sides; the law's own state -/
set_option maxRecDepth 100000
/-- owners that the class may write -/
def oC : Nat → Prop := fun o => o ≠ 0 ∧ o ≠ 3 ∧ o ≠ 4
/-- behind the class's op -/
def jE (g : xG) (x : Nat) (S' : xMS) (g' : xG) : Prop := xST g' x S' ∧ xFr oC 45000 g g'
/-- behind the reference's -/
def jR (m : Nat) (g1 : xG) (b : Value) (c : Nat) (S' : xMS) (rs : Option Value ⊕ Nat) (h : xG) : Prop := rs = .inl (some b) ∧ ∃ g2 T, h = xWith g2 m T ∧ xAg2 S' T ∧ T 0 6 = nI c ∧ xMod g2 m ∧ xM3 g2 m ∧ xFr o313 1000 g1 g2
def jM (Mr : xM) (as : List Value) (S : xMS) (b : Value) (c : Nat) (S' : xMS) : Prop := ∀ d g1 m, xMod g1 m → xM3 g1 m → xKs g1 → XM Mr (d + 90) (.ref m :: as) (xWith g1 m S) (jR m g1 b c S')
/-- an op: both answer a, or the class throws t and the reference tells c -/
def jOp {α : Type} (wr : α → Value) (Mc Mr : xM) (L : List (Nat × Nat)) (as : List Value) (g : xG) (x : Nat) (S : xMS) : Prop :=
  (∃ a S', (∀ d, XM Mc (d + 90) (.ref x :: as) g (xVal (wr a) (jE g x S'))) ∧ jM Mr as S (wr a) 0 S') ∨
  ∃ t c b S', (t, c) ∈ L ∧ (∀ d, XM Mc (d + 90) (.ref x :: as) g (xErr t (jE g x S'))) ∧ jM Mr as S (wr b) c S'
/-- THE LAW'S STATE: h, the script's length and ints -/
def xJ (x m out outD sc len : Nat) (scr : Nat → Int32) (h : xG) (S : xMS) : Prop := (xST h x S ∧ xKs h) ∧ (xMod h m ∧ xM3 h m ∧ xEqv (xWith h m S) h) ∧ (xtag h out = 106 ∧ xown h out = 4 ∧ xlen h out = 1) ∧ (xtag h outD = 107 ∧ xown h outD = 4 ∧ xlen h outD = 1) ∧ xtag h sc = 101 ∧ xown h sc = 0 ∧ xlen h sc = len ∧ ∀ j, j < len → xi h sc j = scr j
theorem xEqv.rf {g : xG} : xEqv g g := ⟨rfl, rfl, rfl, fun _ => rfl⟩
theorem xFr.eqvL {g0 g g' : xG} {O : Nat → Prop} {N : Nat} (e : xEqv g0 g) (F : xFr O N g g') : xFr O N g0 g' := by
  obtain ⟨e1, e2, e3, e4⟩ := e
  obtain ⟨f1, f2, f3, f4, f5⟩ := F
  have et : ∀ b, xtag g0 b = xtag g b := fun b => congrArg (fun z : xCell => z.1) (e4 b)
  have eo : ∀ b, xown g0 b = xown g b := fun b => congrArg (fun z : xCell => z.2.1) (e4 b)
  have el : ∀ b, xlen g0 b = xlen g b := fun b => congrArg (fun z : xCell => z.2.2.1) (e4 b)
  refine ⟨f1.trans e1.symm, by omega, by omega, by omega, fun c hc => ?_⟩
  obtain ⟨a1, a2, a3, a4⟩ := f5 c (by omega)
  exact ⟨a1.trans (et c).symm, a2.trans (eo c).symm, a3.trans (el c).symm, fun h => (a4 (by rw [← eo]; exact h)).trans (e4 c).symm⟩
section J
variable {x m out outD sc len : Nat} {scr : Nat → Int32} {h : xG} {S : xMS}
/-- under what writes neither the constants, the reference's nor the script -/
theorem xJ.mid (hJ : xJ x m out outD sc len scr h S) {g' : xG} {O : Nat → Prop} {N : Nat} {S' : xMS} (hS : xST g' x S') (F : xFr O N h g') (o0 : ¬ O 0) (o3 : ¬ O 3) : xKs g' ∧ (xMod g' m ∧ xM3 g' m ∧ xEqv (xWith g' m S) g') ∧ (xtag g' out = 106 ∧ xown g' out = 4 ∧ xlen g' out = 1) ∧ (xtag g' outD = 107 ∧ xown g' outD = 4 ∧ xlen g' outD = 1) ∧ xtag g' sc = 101 ∧ xown g' sc = 0 ∧ xlen g' sc = len ∧ ∀ j, j < len → xi g' sc j = scr j := by
  obtain ⟨⟨-, hK⟩, ⟨hM, h3, he⟩, ⟨a1, a2, a3⟩, ⟨b1, b2, b3⟩, c1, c2, c3, c4⟩ := hJ
  have ho : out < xsz h := xlt (by rw [a1]; decide)
  have hd : outD < xsz h := xlt (by rw [b1]; decide)
  have hs : sc < xsz h := xlt (by rw [c1]; decide)
  obtain ⟨e1, e2, e3⟩ := with_fr hM h3 (F.eqvL he) o3
  exact ⟨hK.fr F o0, ⟨e2, e3, e1⟩, ⟨(F.tag ho).trans a1, (F.own ho).trans a2, (F.len ho).trans a3⟩, ⟨(F.tag hd).trans b1, (F.own hd).trans b2, (F.len hd).trans b3⟩, (F.tag hs).trans c1, (F.own hs).trans c2, (F.len hs).trans c3, fun j hj => (F.i' hs (by rw [c2]; exact o0)).trans (c4 j hj)⟩
/-- behind the reference's op -/
theorem xJ.done {w g2 : xG} {S' T : xMS} (hS : xST w x S') (hK : xKs w) (ha : xtag w out = 106 ∧ xown w out = 4 ∧ xlen w out = 1) (hb : xtag w outD = 107 ∧ xown w outD = 4 ∧ xlen w outD = 1) (hc : xtag w sc = 101 ∧ xown w sc = 0 ∧ xlen w sc = len ∧ ∀ j, j < len → xi w sc j = scr j) (hA : xAg2 S' T) (hM : xMod g2 m) (h3 : xM3 g2 m) (F : xFr o313 1000 w g2) : xJ x m out outD sc len scr (xWith g2 m T) T ∧ xFr o313 1000 w (xWith g2 m T) := by
  have F2 : xFr o313 1000 w (xWith g2 m T) := (F.tr ((with_F (S := T) h3).q3)).sub (fun _ h => h) (by omega)
  obtain ⟨a1, a2, a3⟩ := ha
  obtain ⟨b1, b2, b3⟩ := hb
  obtain ⟨c1, c2, c3, c4⟩ := hc
  have ho : out < xsz w := xlt (by rw [a1]; decide)
  have hd : outD < xsz w := xlt (by rw [b1]; decide)
  have hs : sc < xsz w := xlt (by rw [c1]; decide)
  have n0 : ¬ o313 0 := by unfold o313; omega
  obtain ⟨e1, e2, e3⟩ := with_fr hM h3 (xFr.rf (O := oNo) (n := 0) (g := xWith g2 m T)) (fun h => h)
  obtain ⟨p, lk, fa, ka, la, Z, n, rr, ww, dq, da, hh, ps, sv, hp⟩ := hS.p
  refine ⟨⟨⟨(hp.fr F2 (fun o h => by unfold o313 at h; omega)).st.cong hA, hK.fr F2 n0⟩, ⟨e2, e3, e1⟩, ⟨(F2.tag ho).trans a1, (F2.own ho).trans a2, (F2.len ho).trans a3⟩, ⟨(F2.tag hd).trans b1, (F2.own hd).trans b2, (F2.len hd).trans b3⟩, (F2.tag hs).trans c1, (F2.own hs).trans c2, (F2.len hs).trans c3, fun j hj => (F2.i' hs (by rw [c2]; exact n0)).trans (c4 j hj)⟩, F2⟩
end J
