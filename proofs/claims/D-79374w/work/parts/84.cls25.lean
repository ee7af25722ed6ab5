/-! CLASS 25: the whole state of a notation, and its policies -/
set_option maxRecDepth 100000
section G25
variable {s s' : Nat → Int32} {n rr ww : Nat}
theorem aN_c {j : Nat} (h : s' j = s j) : aN s' j = aN s j := by unfold aN; rw [h]
theorem isN_c {j b : Nat} (h : s' j = s j) : isN s' j b ↔ isN s j b := by unfold isN; rw [h, aN_c h]
theorem ou_c {k : Nat} (h : s' (3 + 2 * k) = s (3 + 2 * k)) : ou s' k = ou s k := by unfold ou; rw [h]
theorem parN_c {r : Nat} (h : s' (28 + 20 * r) = s (28 + 20 * r)) : parN s' r = parN s r := by unfold parN; rw [h]
theorem rdep_c (h : ∀ j, j < 391 → s' j = s j) : ∀ r, r < 16 → rdep s' r = rdep s r := by
  intro r
  induction r using Nat.strongRecOn with
  | _ r ih =>
    intro hr
    have e := h (28 + 20 * r) (by omega)
    have e2 := parN_c e
    conv => lhs; rw [rdep]
    conv => rhs; rw [rdep]
    by_cases hc : 0 ≤ s (28 + 20 * r) ∧ parN s r < r
    · rw [dif_pos (by rw [e, e2]; exact hc), dif_pos hc, e2, ih _ hc.2 (by omega)]
    · rw [dif_neg (by rw [e, e2]; exact hc), dif_neg hc]
theorem WFru_c (h : ∀ j, j < 391 → s' j = s j) {r : Nat} (hr : r < 16) (w : WFru s n r) : WFru s' n r := by
  obtain ⟨a1, a2, a3, a4, a5, a6, a7, a8, a9⟩ := w
  have e := fun c (hc : c < 20) => h (23 + 20 * r + c) (by omega)
  have hl : aN s (23 + 20 * r + 7) < 5 := a6.2
  refine ⟨(isN_c (e 1 (by omega))).mpr a1, (isN_c (e 2 (by omega))).mpr a2, (isN_c (e 3 (by omega))).mpr a3, (isN_c (e 4 (by omega))).mpr a4, (isN_c (e 6 (by omega))).mpr a5, (isN_c (e 7 (by omega))).mpr a6, by rw [rdep_c h r hr]; exact a7, ?_, fun j hj => ?_⟩
  · rcases a8 with q | q
    · exact Or.inl ⟨by rw [e 5 (by omega)]; exact q.1, (isN_c (e 0 (by omega))).mpr q.2⟩
    · exact Or.inr ⟨(isN_c (e 5 (by omega))).mpr q.1, by rw [e 0 (by omega)]; exact q.2⟩
  · rw [aN_c (e 7 (by omega))] at hj
    obtain ⟨b1, b2, b3⟩ := a9 j hj
    exact ⟨(isN_c (h _ (by omega))).mpr b1, (isN_c (h _ (by omega))).mpr b2, (isN_c (h _ (by omega))).mpr b3⟩
theorem WFS_c (h : ∀ j, j < 391 → s' j = s j) (w : WFS s n rr ww) : WFS s' n rr ww := by
  have n10 := w.n10
  have r16 := w.r16
  have w12 := w.w12
  refine ⟨w.n0, n10, r16, w12, by rw [h 0 (by omega)]; exact w.s0, by rw [h 1 (by omega)]; exact w.s1, by rw [h 2 (by omega)]; exact w.s2, ⟨by rw [h 3 (by omega)]; exact w.o.1, fun k h0 hk => ?_⟩, ⟨by rw [h 4 (by omega)]; exact w.e.1, fun i hi => by rw [h (4 + 2 * i) (by omega)]; exact w.e.2 i hi⟩, fun r hr => WFru_c h (by omega) (w.ru hr), fun k hk => ?_⟩
  · have e := h (3 + 2 * k) (by omega)
    rw [e, ou_c e]
    exact w.o.2 k h0 hk
  · obtain ⟨b1, b2, b3, b4⟩ := w.wk hk
    exact ⟨(isN_c (h _ (by omega))).mpr b1, (isN_c (h _ (by omega))).mpr b2, (isN_c (h _ (by omega))).mpr b3, (isN_c (h _ (by omega))).mpr b4⟩
theorem xRu_c {g : xG} {r a o tl arr : Nat} {ts : List Nat} (h : ∀ j, j < 391 → s' j = s j) (hr : r < 16) (hl : aN s (23 + 20 * r + 7) < 5) (q : xRu g s r a o tl arr ts) : xRu g s' r a o tl arr ts := by
  obtain ⟨t1, t2, t3, t4, t5, t6, t7, t8, t9, t10, t11, t12, t13⟩ := q
  have e := fun c (hc : c < 20) => h (23 + 20 * r + c) (by omega)
  have hlen : ts.length < 5 := by rw [t10.1]; exact hl
  refine ⟨t1, t2, by rw [e 1 (by omega)]; exact t3, by rw [e 2 (by omega)]; exact t4, by rw [e 3 (by omega)]; exact t5, by rw [e 4 (by omega)]; exact t6, by rw [e 6 (by omega)]; exact t7, t8, t9, ⟨by rw [aN_c (e 7 (by omega))]; exact t10.1, fun j hj => ?_⟩, by rw [e 5 (by omega)]; exact t11, by rw [rdep_c h r hr]; exact t12, by rw [e 0 (by omega)]; exact t13⟩
  obtain ⟨b1, b2, b3, b4, b5⟩ := t10.2 j hj
  rw [aN_c (h (23 + 20 * r + (8 + 3 * j + 1)) (by omega)), h (23 + 20 * r + (8 + 3 * j)) (by omega), h (23 + 20 * r + (8 + 3 * j + 2)) (by omega)]
  exact ⟨b1, b2, b3, b4, b5⟩
theorem xPol.cong {g : xG} {p : Nat} {Z : xAd} (q : xPol g p Z s n rr ww) (h : ∀ j, j < 391 → s' j = s j) : xPol g p Z s' n rr ww := by
  have n10 := q.wf.n10
  have r16 := q.wf.r16
  have w12 := q.wf.w12
  refine ⟨q.p0, WFS_c h q.wf, q.2.2.1, q.own, q.pl, ⟨q.c0, q.c1, q.c2⟩, ⟨fun i hi => ?_, fun i hi => q.so hi⟩, fun r hr => ?_, fun w hw => ?_⟩
  · obtain ⟨a1, a2, a3, a4⟩ := q.sc i hi
    refine ⟨a1, a2, ?_, by rw [h (4 + 2 * i) (by omega)]; exact a4⟩
    rw [ou_c (h (3 + 2 * i) (by omega))]
    exact a3
  · have t := q.rp hr
    exact ⟨xRu_c h (by omega) (q.wf.ru hr).2.2.2.2.2.1.2 t.1, t.2⟩
  · obtain ⟨a1, a2, a3, a4, a5, a6⟩ := q.wk hw
    have e := fun c (hc : c < 4) => h (343 + 4 * w + c) (by omega)
    exact ⟨a1, a2, by rw [h (343 + 4 * w) (by omega)]; exact a3, by rw [e 1 (by omega)]; exact a4, by rw [e 2 (by omega)]; exact a5, by rw [e 3 (by omega)]; exact a6⟩
end G25
/-- there is a picture of the policy p -/
def xPo (g : xG) (p : Nat) (s : Nat → Int32) : Prop := ∃ Z n rr ww, xPol g p Z s n rr ww
theorem xPo.fr {O : Nat → Prop} {N : Nat} {g g' : xG} {p : Nat} {s : Nat → Int32} (h : xPo g p s) (F : xFr O N g g') (hp : ∀ o, oP p o → ¬ O o) (h2 : ¬ O 2) : xPo g' p s := by
  obtain ⟨Z, n, rr, ww, q⟩ := h
  exact ⟨Z, n, rr, ww, q.fr F hp h2⟩
theorem xPo.cong {g : xG} {p : Nat} {s s' : Nat → Int32} (h : xPo g p s) (e : ∀ j, j < 391 → s' j = s j) : xPo g p s' := by
  obtain ⟨Z, n, rr, ww, q⟩ := h
  exact ⟨Z, n, rr, ww, q.cong e⟩
theorem xPo.lt {g : xG} {p : Nat} {s : Nat → Int32} (h : xPo g p s) : p < xsz g := by
  obtain ⟨Z, n, rr, ww, q⟩ := h
  exact q.lt
theorem xPo.tag {g : xG} {p : Nat} {s : Nat → Int32} (h : xPo g p s) : xtag g p = 2 := by
  obtain ⟨Z, n, rr, ww, q⟩ := h
  exact q.tag
theorem xPo.p0 {g : xG} {p : Nat} {s : Nat → Int32} (h : xPo g p s) : 0 < p := by
  obtain ⟨Z, n, rr, ww, q⟩ := h
  exact q.p0
/-- the past -/
def xPst (g : xG) (x dq da h : Nat) (S : xMS) (ps : List Nat) : Prop := xr g x 2 = some dq ∧ xAD g 7 dq da h ps ∧ S 0 5 = nI ps.length ∧ ps.length ≤ 8 ∧ ∀ k, k < ps.length → xPo g (ps.getD k 0) (fun i => S 4 (391 * k + i))
/-- the snapshot -/
def xSvd (g : xG) (x : Nat) (S : xMS) (sv : Option Nat) : Prop := xr g x 1 = sv ∧ S 0 3 = bI sv.isSome ∧ ∀ q, sv = some q → xPo g q (S 3)
/-- the policy that counts; the look; the constants -/
def xMn (g : xG) (x p lk fa ka la : Nat) (Z : xAd) (S : xMS) (n rr ww : Nat) : Prop := (xtag g x = 1 ∧ xown g x = 1 ∧ xr g x 0 = some p) ∧ xPol g p Z (S 1) n rr ww ∧ xr g x 3 = some lk ∧ xLb g x lk fa ka la ∧ xCn g ∧ xEmp g
/-- a builder of the chars cs, in an array arr, by the coder co -/
def xSB (g : xG) (o a arr co : Nat) (cs : List Nat) : Prop := xtag g a = 19 ∧ xown g a = o ∧ xr g a 0 = some arr ∧ xi g a 1 = nI co ∧ co < 2 ∧ xi g a 3 = nI cs.length ∧ xtag g arr = 103 ∧ xown g arr = o ∧ xlen g arr < 100000 ∧ cs.length * 2 ^ co ≤ xlen g arr ∧ (∀ c, c ∈ cs → c < 65536) ∧
  (co = 0 → ∀ i, i < cs.length → cs.getD i 0 < 256 ∧ xi g arr i = (nI (cs.getD i 0)).toInt8.toInt32) ∧ (co = 1 → ∀ i, i < cs.length → xi g arr (2 * i) = (nI (cs.getD i 0)).toInt8.toInt32 ∧ xi g arr (2 * i + 1) = (nI (cs.getD i 0 / 256)).toInt8.toInt32)
/-- the test b, as three ints say -/
def xTe (g : xG) (b : Nat) (s : Nat → Int32) (j : Nat) : Prop := 10 ≤ xtag g b ∧ xtag g b ≤ 13 ∧ xown g b = 2 ∧ isN s j 6 ∧ isN s (j + 1) 4 ∧ isN s (j + 2) 10 ∧ xtag g b - 10 = aN s (j + 1) ∧ xi g b 0 = s j ∧ xi g b 1 = s (j + 2)
/-- the sheet -/
def xSh (g : xG) (x : Nat) (S : xMS) : Prop := ∃ sh sg, xr g x 6 = some sh ∧ xown g sh = 8 ∧ S 0 17 = nI sg ∧ sg ≤ 4 ∧ xtag g sh = (if sg = 4 then 109 else 110 + sg) ∧ xlen g sh = 6 ∧ ∀ k, k < 6 → (S 9 (3 * k) = -1 ∧ xr g sh k = none) ∨ ∃ b, xr g sh k = some b ∧ xTe g b (S 9) (3 * k) ∧ (sg = 4 ∨ S 9 (3 * k + 1) = nI sg)
/-- a float that's no number below 0, nor another kind of NaN -/
def fOK (v : Int32) : Prop := v.toUInt32.toNat ≤ 0x7f800000 ∨ v.toUInt32 = 0x7fc00000
/-- the rows of floats -/
def xRw (g : xG) (x : Nat) (S : xMS) : Prop := ∃ rw, xr g x 7 = some rw ∧ xtag g rw = 114 ∧ xown g rw = 8 ∧ xlen g rw = 3 ∧ ∀ r, r < 3 → (S 11 r = -1 ∧ xr g rw r = none) ∨ ∃ a m, xr g rw r = some a ∧ S 11 r = nI m ∧ m ≤ 12 ∧ xtag g a = 105 ∧ xown g a = 10 ∧ xlen g a = m ∧ ∀ j, j < m → xi g a j = S 10 (12 * r + j) ∧ fOK (S 10 (12 * r + j))
/-- a builder tells what the reference's array of chars does -/
def xTx (g : xG) (o : Nat) (f : Option Nat) (t : Nat → Int32) (ln : Int32) (mx : Nat) : Prop := ∃ a arr co cs, f = some a ∧ xSB g o a arr co cs ∧ ln = nI cs.length ∧ cs.length ≤ mx ∧ ∀ i, i < cs.length → t i = nI (cs.getD i 0)
/-- all that isn't policies -/
def xOt (g : xG) (x : Nat) (S : xMS) : Prop := (xi g x 4 = S 0 7 ∧ xi g x 5 = S 0 8) ∧ xSh g x S ∧ xRw g x S ∧ xTx g 11 (xr g x 8) (S 12) (S 0 22) 60 ∧ xi g x 9 = S 0 25 ∧ xTx g 12 (xr g x 10) (S 13) (S 0 33) 200
/-- THE STATE -/
def xNS (g : xG) (x : Nat) (S : xMS) : Prop := ∃ p lk fa ka la Z n rr ww dq da h ps sv, xMn g x p lk fa ka la Z S n rr ww ∧ xPst g x dq da h S ps ∧ xSvd g x S sv ∧ (p :: (sv.toList ++ ps)).Nodup ∧ xOt g x S
