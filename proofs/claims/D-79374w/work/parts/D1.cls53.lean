/-! CLASS 53: the reader: chars, digits, numbers -/
set_option maxRecDepth 100000
def hIs (n : Nat) (ch : Nat → Nat) (p c : Nat) : Bool := decide (p < n ∧ ch p = c)
def hIn (n : Nat) (ch : Nat → Nat) (p a b : Nat) : Bool := decide (p < n ∧ a ≤ ch p ∧ ch p ≤ b)
def hrV (n : Nat) (ch : Nat → Nat) (p : Nat) : Int32 := if p < n then nI (ch p) else -1
/-- the digits behind a digit -/
def rNs (n : Nat) (ch : Nat → Nat) : Nat → Nat → Nat → Nat × Nat
  | 0, v, p => (v, p)
  | k + 1, v, p => if hIn n ch p 48 57 = true then rNs n ch k (10 * v + (ch p - 48)) (p + 1) else (v, p)
theorem rNs_le {n : Nat} {ch : Nat → Nat} : ∀ (k v p : Nat), p ≤ n → p ≤ (rNs n ch k v p).2 ∧ (rNs n ch k v p).2 ≤ n := by
  intro k
  induction k with
  | zero => intro v p h; exact ⟨Nat.le_refl _, h⟩
  | succ k ih =>
    intro v p h
    unfold rNs
    split
    · rename_i h1
      have h2 := (of_decide_eq_true h1).1
      have := ih (10 * v + (ch p - 48)) (p + 1) (by omega)
      exact ⟨by omega, this.2⟩
    · exact ⟨Nat.le_refl _, h⟩
section R53
variable {g : xG} {R D tb p n : Nat} {ch : Nat → Nat}
theorem hrV_t (h : p < n) : hrV n ch p = nI (ch p) := if_pos h
theorem hrV_f (h : ¬ p < n) : hrV n ch p = -1 := if_neg h
theorem m1_ne {c : Nat} (h : c < 2 ^ 31) : (-1 : Int32) ≠ nI c := by
  intro e
  have h1 := congrArg Int32.toInt e
  rw [nI_toInt h] at h1
  have h2 : (-1 : Int32).toInt = -1 := rfl
  rw [h2] at h1
  omega
theorem hrV_eq {c : Nat} (hc : c < 65536) (hn : ∀ j, j < n → ch j < 65536) : (hrV n ch p = nI c) ↔ hIs n ch p c = true := by
  unfold hIs
  rw [decide_eq_true_iff]
  by_cases h : p < n
  · have h3 := hn p h
    rw [hrV_t h, nI_eq (a := ch p) (b := c) (by omega) (by omega)]
    exact ⟨fun e => ⟨h, e⟩, fun e => e.2⟩
  · rw [hrV_f h]
    exact ⟨fun e => absurd e (m1_ne (by omega)), fun e => absurd e.1 h⟩
theorem hrV_in {a b : Nat} (ha : a < 65536) (hb : b < 65536) (hn : ∀ j, j < n → ch j < 65536) : inR (hrV n ch p) (nI a) (nI b) = hIn n ch p a b := by
  unfold hIn inR
  by_cases h : p < n
  · have h3 := hn p h
    rw [hrV_t h]
    by_cases h1 : a ≤ ch p
    · by_cases h2 : ch p ≤ b
      · rw [decide_eq_true (show p < n ∧ a ≤ ch p ∧ ch p ≤ b from ⟨h, h1, h2⟩), decide_eq_false (mt (nI_ltI (a := ch p) (b := a) (by omega) (by omega)).mp (by omega)), decide_eq_false (mt (nI_ltI (a := b) (b := ch p) (by omega) (by omega)).mp (by omega))]
        rfl
      · rw [decide_eq_false (show ¬ (p < n ∧ a ≤ ch p ∧ ch p ≤ b) from fun e => h2 e.2.2), decide_eq_true ((nI_ltI (a := b) (b := ch p) (by omega) (by omega)).mpr (by omega))]
        simp
    · rw [decide_eq_false (show ¬ (p < n ∧ a ≤ ch p ∧ ch p ≤ b) from fun e => h1 e.2.1), decide_eq_true ((nI_ltI (a := ch p) (b := a) (by omega) (by omega)).mpr (by omega))]
      simp
  · rw [hrV_f h, decide_eq_false (show ¬ (p < n ∧ a ≤ ch p ∧ ch p ≤ b) from fun e => h e.1)]
    have h1 : (-1 : Int32) < nI a := by
      rw [Int32.lt_iff_toInt_lt, nI_toInt (by omega)]
      have h2 : (-1 : Int32).toInt = -1 := rfl
      rw [h2]; omega
    rw [decide_eq_true h1]
    simp
/-- the reader R: it stands at p -/
def xRd (g : xG) (R D tb p n : Nat) (ch : Nat → Nat) : Prop := xtag g R = 15 ∧ xown g R = 14 ∧ xr g R 0 = some tb ∧ xr g R 1 = some D ∧ xi g R 2 = nI p ∧ xBd g 11 tb n ch ∧ n ≤ 60 ∧ p ≤ n
theorem xRd.chs (h : xRd g R D tb p n ch) : ∀ j, j < n → ch j < 65536 := fun j hj => h.2.2.2.2.2.1.chr hj
theorem xRd.lt (h : xRd g R D tb p n ch) : R < xsz g := xlt (by rw [h.1]; decide)
theorem xRd.own (h : xRd g R D tb p n ch) : xown g R ≠ 0 := by rw [h.2.1]; decide
theorem xRd.to (h : xRd g R D tb p n ch) {q : Nat} (hq : q ≤ n) : xRd (xsetI g R 2 (nI q)) R D tb q n ch := by
  obtain ⟨a1, a2, a3, a4, a5, a6, a7, a8⟩ := h
  exact ⟨by rw [xtag_setI]; exact a1, by rw [xown_setI]; exact a2, by rw [xr_setI]; exact a3, by rw [xr_setI]; exact a4, xi_setIS (by rw [a1]; decide), a6.fr ((xFr.rf (O := oEq 14) (n := 0)).si (Or.inr a2)) (by unfold oEq; omega), a7, hq⟩
theorem xRd.fr {g' : xG} {O : Nat → Prop} {N : Nat} (h : xRd g R D tb p n ch) (F : xFr O N g g') (h1 : ¬ O 14) (h2 : ¬ O 11) : xRd g' R D tb p n ch := by
  have hl := h.lt
  obtain ⟨a1, a2, a3, a4, a5, a6, a7, a8⟩ := h
  have no : ¬ O (xown g R) := by rw [a2]; exact h1
  exact ⟨(F.tag hl).trans a1, (F.own hl).trans a2, (F.r' hl no).trans a3, (F.r' hl no).trans a4, (F.i' hl no).trans a5, a6.fr F h2, a7, a8⟩
theorem xsetI_id {b j : Nat} {v : Int32} (hb : b < xsz g) (hv : xi g b j = v) : xsetI g b j v = g := by
  subst hv
  unfold xsetI xPut
  have e : (fun z => if z = b then xcI (xc g b) (xup (xc g b).2.2.2.1 j (xi g b j)) else g.2.2.2 z) = g.2.2.2 := by
    funext z
    by_cases h : z = b
    · subst h
      rw [if_pos rfl]
      have e1 : xc g z = g.2.2.2 z := by unfold xc; rw [if_pos hb]
      have e2 : xup (xc g z).2.2.2.1 j (xi g z j) = (xc g z).2.2.2.1 := by
        funext k
        unfold xup
        by_cases hk : k = j
        · subst hk; rw [if_pos rfl]; rfl
        · rw [if_neg hk]
      rw [e2]
      show xc g z = _
      rw [e1]
    · rw [if_neg h]
  rw [e]
end R53

theorem SP_X18_hereT {d : Nat} {g : xG} {R D tb p n : Nat} {ch : Nat → Nat} (hR : xRd g R D tb p n ch) (hp : p < n) : XM M_X18_here (d + 5) [.ref R] g (xOne (some (.int (nI (ch p)))) g) := by
  have hR0 := hR
  obtain ⟨r1, r2, r3, r4, r5, hB, r7, r8⟩ := hR
  have hch := hR0.chs
  have rl := hR0.lt
  refine xm_of (by decide +kernel) (Nat.le_of_ble_eq_true rfl) ?_
  show XW _ _ 0 [(0, _)] [] _ _
  refine xw_aload_n (pc := 0) dX18_here_0 0 rfl ?_
  refine xw_getNat (k := p) (pc := 1) fd_X18_22 dX18_here_1 (by first | assumption | (simp [-List.getD_eq_getElem?_getD, xE_setI, xsz_setI, xsl_setI, xtag_setI, xown_setI, xlen_setI, xE_setR, xsz_setR, xsl_setR, xtag_setR, xown_setR, xlen_setR, xE_setW, xsz_setW, xsl_setW, xtag_setW, xown_setW, xlen_setW, xi_setR, xi_setW, xr_setI, xr_setW, xww_setI, xww_setR, xi_setI, xr_setR, xww_setW, xE_new, xsz_new, xsl_new, r1, r3, r4, r5, xsub]; done) | (simp [-List.getD_eq_getElem?_getD, xE_setI, xsz_setI, xsl_setI, xtag_setI, xown_setI, xlen_setI, xE_setR, xsz_setR, xsl_setR, xtag_setR, xown_setR, xlen_setR, xE_setW, xsz_setW, xsl_setW, xtag_setW, xown_setW, xlen_setW, xi_setR, xi_setW, xr_setI, xr_setW, xww_setI, xww_setR, xi_setI, xr_setR, xww_setW, xE_new, xsz_new, xsl_new, r1, r3, r4, r5] <;> rfl)) (by simp [-List.getD_eq_getElem?_getD, xE_setI, xsz_setI, xsl_setI, xtag_setI, xown_setI, xlen_setI, xE_setR, xsz_setR, xsl_setR, xtag_setR, xown_setR, xlen_setR, xE_setW, xsz_setW, xsl_setW, xtag_setW, xown_setW, xlen_setW, xi_setR, xi_setW, xr_setI, xr_setW, xww_setI, xww_setR, xi_setI, xr_setR, xww_setW, xE_new, xsz_new, xsl_new, r1, r3, r4, r5]) ?_
  refine xw_aload_n (pc := 4) dX18_here_4 0 rfl ?_
  refine xw_getS (b := tb) (pc := 5) fd_X18_18 dX18_here_5 (by first | assumption | (simp [-List.getD_eq_getElem?_getD, xE_setI, xsz_setI, xsl_setI, xtag_setI, xown_setI, xlen_setI, xE_setR, xsz_setR, xsl_setR, xtag_setR, xown_setR, xlen_setR, xE_setW, xsz_setW, xsl_setW, xtag_setW, xown_setW, xlen_setW, xi_setR, xi_setW, xr_setI, xr_setW, xww_setI, xww_setR, xi_setI, xr_setR, xww_setW, xE_new, xsz_new, xsl_new, r1, r3, r4, r5, xsub]; done) | (simp [-List.getD_eq_getElem?_getD, xE_setI, xsz_setI, xsl_setI, xtag_setI, xown_setI, xlen_setI, xE_setR, xsz_setR, xsl_setR, xtag_setR, xown_setR, xlen_setR, xE_setW, xsz_setW, xsl_setW, xtag_setW, xown_setW, xlen_setW, xi_setR, xi_setW, xr_setI, xr_setW, xww_setI, xww_setR, xi_setI, xr_setR, xww_setW, xE_new, xsz_new, xsl_new, r1, r3, r4, r5] <;> rfl)) (by simp [-List.getD_eq_getElem?_getD, xE_setI, xsz_setI, xsl_setI, xtag_setI, xown_setI, xlen_setI, xE_setR, xsz_setR, xsl_setR, xtag_setR, xown_setR, xlen_setR, xE_setW, xsz_setW, xsl_setW, xtag_setW, xown_setW, xlen_setW, xi_setR, xi_setW, xr_setI, xr_setW, xww_setI, xww_setR, xi_setI, xr_setR, xww_setW, xE_new, xsz_new, xsl_new, r1, r3, r4, r5]) ?_
  refine xw_call5V (pc := 8) (xr_F (x := ⟨"java/lang/CharSequence", "length", "()I"⟩) (as := []) ok_J8_length rfl (by decide) q1913 (by rw [hB.tag]; exact List.mem_of_getElem? (i := 0) rfl) q421 (by rw [hB.tag]; exact q1921) ⟨by decide, by decide, by decide +kernel⟩ hB.tag dX18_here_8 rfl rfl (Nat.le_of_ble_eq_true rfl)) (SP_J8_len hB) ?_
  refine xw_icmp_ge (pc := 13) 32 dX18_here_13 rfl (fun hb13 => ?_) (fun hb13 => ?_)
  · exfalso
    replace hb13 : n ≤ p := (nI_leI (a := n) (b := p) (by omega) (by omega)).mp hb13
    omega
  replace hb13 : ¬ (n ≤ p) := mt (nI_leI (a := n) (b := p) (by omega) (by omega)).mpr hb13
  refine xw_aload_n (pc := 16) dX18_here_16 0 rfl ?_
  refine xw_getS (b := tb) (pc := 17) fd_X18_18 dX18_here_17 (by first | assumption | (simp [-List.getD_eq_getElem?_getD, xE_setI, xsz_setI, xsl_setI, xtag_setI, xown_setI, xlen_setI, xE_setR, xsz_setR, xsl_setR, xtag_setR, xown_setR, xlen_setR, xE_setW, xsz_setW, xsl_setW, xtag_setW, xown_setW, xlen_setW, xi_setR, xi_setW, xr_setI, xr_setW, xww_setI, xww_setR, xi_setI, xr_setR, xww_setW, xE_new, xsz_new, xsl_new, r1, r3, r4, r5, xsub]; done) | (simp [-List.getD_eq_getElem?_getD, xE_setI, xsz_setI, xsl_setI, xtag_setI, xown_setI, xlen_setI, xE_setR, xsz_setR, xsl_setR, xtag_setR, xown_setR, xlen_setR, xE_setW, xsz_setW, xsl_setW, xtag_setW, xown_setW, xlen_setW, xi_setR, xi_setW, xr_setI, xr_setW, xww_setI, xww_setR, xi_setI, xr_setR, xww_setW, xE_new, xsz_new, xsl_new, r1, r3, r4, r5] <;> rfl)) (by simp [-List.getD_eq_getElem?_getD, xE_setI, xsz_setI, xsl_setI, xtag_setI, xown_setI, xlen_setI, xE_setR, xsz_setR, xsl_setR, xtag_setR, xown_setR, xlen_setR, xE_setW, xsz_setW, xsl_setW, xtag_setW, xown_setW, xlen_setW, xi_setR, xi_setW, xr_setI, xr_setW, xww_setI, xww_setR, xi_setI, xr_setR, xww_setW, xE_new, xsz_new, xsl_new, r1, r3, r4, r5]) ?_
  refine xw_aload_n (pc := 20) dX18_here_20 0 rfl ?_
  refine xw_getNat (k := p) (pc := 21) fd_X18_22 dX18_here_21 (by first | assumption | (simp [-List.getD_eq_getElem?_getD, xE_setI, xsz_setI, xsl_setI, xtag_setI, xown_setI, xlen_setI, xE_setR, xsz_setR, xsl_setR, xtag_setR, xown_setR, xlen_setR, xE_setW, xsz_setW, xsl_setW, xtag_setW, xown_setW, xlen_setW, xi_setR, xi_setW, xr_setI, xr_setW, xww_setI, xww_setR, xi_setI, xr_setR, xww_setW, xE_new, xsz_new, xsl_new, r1, r3, r4, r5, xsub]; done) | (simp [-List.getD_eq_getElem?_getD, xE_setI, xsz_setI, xsl_setI, xtag_setI, xown_setI, xlen_setI, xE_setR, xsz_setR, xsl_setR, xtag_setR, xown_setR, xlen_setR, xE_setW, xsz_setW, xsl_setW, xtag_setW, xown_setW, xlen_setW, xi_setR, xi_setW, xr_setI, xr_setW, xww_setI, xww_setR, xi_setI, xr_setR, xww_setW, xE_new, xsz_new, xsl_new, r1, r3, r4, r5] <;> rfl)) (by simp [-List.getD_eq_getElem?_getD, xE_setI, xsz_setI, xsl_setI, xtag_setI, xown_setI, xlen_setI, xE_setR, xsz_setR, xsl_setR, xtag_setR, xown_setR, xlen_setR, xE_setW, xsz_setW, xsl_setW, xtag_setW, xown_setW, xlen_setW, xi_setR, xi_setW, xr_setI, xr_setW, xww_setI, xww_setR, xi_setI, xr_setR, xww_setW, xE_new, xsz_new, xsl_new, r1, r3, r4, r5]) ?_
  refine xw_call5V (pc := 24) (xr_F (x := ⟨"java/lang/CharSequence", "charAt", "(I)C"⟩) (as := [_]) ok_J8_charAt rfl (by decide) q1925 (by rw [hB.tag]; exact List.mem_of_getElem? (i := 1) rfl) q1946 (by rw [hB.tag]; exact q1944) ⟨by decide, by decide, by decide +kernel⟩ hB.tag dX18_here_24 rfl rfl (Nat.le_of_ble_eq_true rfl)) (SP_J8_charAt hB hp) ?_
  refine xw_goto (pc := 29) 33 dX18_here_29 rfl ?_
  refine xw_iret (pc := 33) .int dX18_here_33 rfl ?_ 
  exact ⟨rfl, rfl⟩

theorem SP_X18_hereF {d : Nat} {g : xG} {R D tb p n : Nat} {ch : Nat → Nat} (hR : xRd g R D tb p n ch) (hp : ¬ p < n) : XM M_X18_here (d + 5) [.ref R] g (xOne (some (.int (-1))) g) := by
  have hR0 := hR
  obtain ⟨r1, r2, r3, r4, r5, hB, r7, r8⟩ := hR
  have hch := hR0.chs
  have rl := hR0.lt
  refine xm_of (by decide +kernel) (Nat.le_of_ble_eq_true rfl) ?_
  show XW _ _ 0 [(0, _)] [] _ _
  refine xw_aload_n (pc := 0) dX18_here_0 0 rfl ?_
  refine xw_getNat (k := p) (pc := 1) fd_X18_22 dX18_here_1 (by first | assumption | (simp [-List.getD_eq_getElem?_getD, xE_setI, xsz_setI, xsl_setI, xtag_setI, xown_setI, xlen_setI, xE_setR, xsz_setR, xsl_setR, xtag_setR, xown_setR, xlen_setR, xE_setW, xsz_setW, xsl_setW, xtag_setW, xown_setW, xlen_setW, xi_setR, xi_setW, xr_setI, xr_setW, xww_setI, xww_setR, xi_setI, xr_setR, xww_setW, xE_new, xsz_new, xsl_new, r1, r3, r4, r5, xsub]; done) | (simp [-List.getD_eq_getElem?_getD, xE_setI, xsz_setI, xsl_setI, xtag_setI, xown_setI, xlen_setI, xE_setR, xsz_setR, xsl_setR, xtag_setR, xown_setR, xlen_setR, xE_setW, xsz_setW, xsl_setW, xtag_setW, xown_setW, xlen_setW, xi_setR, xi_setW, xr_setI, xr_setW, xww_setI, xww_setR, xi_setI, xr_setR, xww_setW, xE_new, xsz_new, xsl_new, r1, r3, r4, r5] <;> rfl)) (by simp [-List.getD_eq_getElem?_getD, xE_setI, xsz_setI, xsl_setI, xtag_setI, xown_setI, xlen_setI, xE_setR, xsz_setR, xsl_setR, xtag_setR, xown_setR, xlen_setR, xE_setW, xsz_setW, xsl_setW, xtag_setW, xown_setW, xlen_setW, xi_setR, xi_setW, xr_setI, xr_setW, xww_setI, xww_setR, xi_setI, xr_setR, xww_setW, xE_new, xsz_new, xsl_new, r1, r3, r4, r5]) ?_
  refine xw_aload_n (pc := 4) dX18_here_4 0 rfl ?_
  refine xw_getS (b := tb) (pc := 5) fd_X18_18 dX18_here_5 (by first | assumption | (simp [-List.getD_eq_getElem?_getD, xE_setI, xsz_setI, xsl_setI, xtag_setI, xown_setI, xlen_setI, xE_setR, xsz_setR, xsl_setR, xtag_setR, xown_setR, xlen_setR, xE_setW, xsz_setW, xsl_setW, xtag_setW, xown_setW, xlen_setW, xi_setR, xi_setW, xr_setI, xr_setW, xww_setI, xww_setR, xi_setI, xr_setR, xww_setW, xE_new, xsz_new, xsl_new, r1, r3, r4, r5, xsub]; done) | (simp [-List.getD_eq_getElem?_getD, xE_setI, xsz_setI, xsl_setI, xtag_setI, xown_setI, xlen_setI, xE_setR, xsz_setR, xsl_setR, xtag_setR, xown_setR, xlen_setR, xE_setW, xsz_setW, xsl_setW, xtag_setW, xown_setW, xlen_setW, xi_setR, xi_setW, xr_setI, xr_setW, xww_setI, xww_setR, xi_setI, xr_setR, xww_setW, xE_new, xsz_new, xsl_new, r1, r3, r4, r5] <;> rfl)) (by simp [-List.getD_eq_getElem?_getD, xE_setI, xsz_setI, xsl_setI, xtag_setI, xown_setI, xlen_setI, xE_setR, xsz_setR, xsl_setR, xtag_setR, xown_setR, xlen_setR, xE_setW, xsz_setW, xsl_setW, xtag_setW, xown_setW, xlen_setW, xi_setR, xi_setW, xr_setI, xr_setW, xww_setI, xww_setR, xi_setI, xr_setR, xww_setW, xE_new, xsz_new, xsl_new, r1, r3, r4, r5]) ?_
  refine xw_call5V (pc := 8) (xr_F (x := ⟨"java/lang/CharSequence", "length", "()I"⟩) (as := []) ok_J8_length rfl (by decide) q1913 (by rw [hB.tag]; exact List.mem_of_getElem? (i := 0) rfl) q421 (by rw [hB.tag]; exact q1921) ⟨by decide, by decide, by decide +kernel⟩ hB.tag dX18_here_8 rfl rfl (Nat.le_of_ble_eq_true rfl)) (SP_J8_len hB) ?_
  refine xw_icmp_ge (pc := 13) 32 dX18_here_13 rfl (fun hb13 => ?_) (fun hb13 => ?_)
  rotate_left
  · exfalso
    replace hb13 : ¬ (n ≤ p) := mt (nI_leI (a := n) (b := p) (by omega) (by omega)).mpr hb13
    omega
  replace hb13 : n ≤ p := (nI_leI (a := n) (b := p) (by omega) (by omega)).mp hb13
  refine xw_iconst (v := -1) (pc := 32) dX18_here_32 (by decide +kernel) ?_
  refine xw_iret (pc := 33) .int dX18_here_33 rfl ?_ 
  exact ⟨rfl, rfl⟩

theorem SP_X18_here {d : Nat} {g : xG} {R D tb p n : Nat} {ch : Nat → Nat} (hR : xRd g R D tb p n ch) : XM M_X18_here (d + 5) [.ref R] g (xOne (some (.int (hrV n ch p))) g) := by
  by_cases hp : p < n
  · rw [hrV_t hp]; exact SP_X18_hereT hR hp
  · rw [hrV_f hp]; exact SP_X18_hereF hR hp
theorem SP_X18_isHere {d : Nat} {g : xG} {c : Nat} {R D tb p n : Nat} {ch : Nat → Nat} (hR : xRd g R D tb p n ch) (hc : c < 65536) : XM M_X18_isHere (d + 6) [.ref R, .int (nI c)] g (xOne (some (.int (bI (hIs n ch p c)))) g) := by
  have hR0 := hR
  obtain ⟨r1, r2, r3, r4, r5, hB, r7, r8⟩ := hR
  have hch := hR0.chs
  have rl := hR0.lt
  refine xm_of (by decide +kernel) (Nat.le_of_ble_eq_true rfl) ?_
  show XW _ _ 0 [(0, _), (1, _)] [] _ _
  refine xw_aload_n (pc := 0) dX18_isHere_0 0 rfl ?_
  refine xw_callV (pc := 1) (xr_V (as := []) ok_X18_here rfl (by decide) q1908 q1910 qs34 (by rw [r1]; rfl) (by rw [r1]; rfl) dX18_isHere_1 rfl rfl (Nat.le_of_ble_eq_true rfl)) (SP_X18_here hR0) ?_
  refine xw_iload_n (pc := 4) dX18_isHere_4 1 rfl ?_
  refine xw_icmp_ne (pc := 5) 12 dX18_isHere_5 rfl (fun hb5 => ?_) (fun hb5 => ?_)
  · refine xw_iconst (v := nI 0) (pc := 12) dX18_isHere_12 rfl ?_
    refine xw_iret (pc := 13) .boolean dX18_isHere_13 rfl ?_ 
    first
    | exact ⟨by rw [(hrV_eq hc hch).mp hb5]; rfl, rfl⟩
    | exact ⟨by rw [(hrV_eq hc hch).mp (Decidable.of_not_not hb5)]; rfl, rfl⟩
    | exact ⟨by rw [Bool.eq_false_iff.mpr (fun e => hb5 ((hrV_eq hc hch).mpr e))]; rfl, rfl⟩
  · refine xw_iconst (v := nI 1) (pc := 8) dX18_isHere_8 rfl ?_
    refine xw_goto (pc := 9) 13 dX18_isHere_9 rfl ?_
    refine xw_iret (pc := 13) .boolean dX18_isHere_13 rfl ?_ 
    first
    | exact ⟨by rw [(hrV_eq hc hch).mp hb5]; rfl, rfl⟩
    | exact ⟨by rw [(hrV_eq hc hch).mp (Decidable.of_not_not hb5)]; rfl, rfl⟩
    | exact ⟨by rw [Bool.eq_false_iff.mpr (fun e => hb5 ((hrV_eq hc hch).mpr e))]; rfl, rfl⟩

theorem SP_X18_isDigit {d : Nat} {g : xG} {R D tb p n : Nat} {ch : Nat → Nat} (hR : xRd g R D tb p n ch) : XM M_X18_isDigit (d + 6) [.ref R] g (xOne (some (.int (bI (hIn n ch p 48 57)))) g) := by
  have hR0 := hR
  obtain ⟨r1, r2, r3, r4, r5, hB, r7, r8⟩ := hR
  have hch := hR0.chs
  have rl := hR0.lt
  refine xm_of (by decide +kernel) (Nat.le_of_ble_eq_true rfl) ?_
  show XW _ _ 0 [(0, _)] [] _ _
  refine xw_aload_n (pc := 0) dX18_isDigit_0 0 rfl ?_
  refine xw_callV (pc := 1) (xr_V (as := []) ok_X18_here rfl (by decide) q1908 q1910 qs34 (by rw [r1]; rfl) (by rw [r1]; rfl) dX18_isDigit_1 rfl rfl (Nat.le_of_ble_eq_true rfl)) (SP_X18_here hR0) ?_
  refine xw_bipush (v := nI 48) (pc := 4) dX18_isDigit_4 (by decide +kernel) ?_
  refine xw_bipush (v := nI 57) (pc := 6) dX18_isDigit_6 (by decide +kernel) ?_
  refine xw_callV (pc := 8) (xr_SN (as := [_, _, _]) ok_X1_isIn rfl (by decide) q1967 q784 dX18_isDigit_8 rfl rfl (Nat.le_of_ble_eq_true rfl)) (SP_X1_isIn) ?_
  refine xw_iret (pc := 11) .boolean dX18_isDigit_11 rfl ?_ (by first | rfl | (cases ‹Bool› <;> rfl) | exact xnB _)
  rw [hrV_in (by decide) (by decide) hch]
  exact ⟨rfl, rfl⟩

theorem SP_X18_needs_T {d : Nat} {g : xG} {R : Nat} : XM M_X18_needs d [.ref R, .int (bI true)] g (xOne none g) := by
  refine xm_of (by decide +kernel) (Nat.le_of_ble_eq_true rfl) ?_
  show XW _ _ 0 [(0, _), (1, _)] [] _ _
  refine xw_iload_n (pc := 0) dX18_needs_0 1 rfl ?_
  refine xw_if_ne (pc := 1) 16 dX18_needs_1 rfl (fun _ => ?_) (fun hb => absurd hb (by decide))
  refine xw_vret (pc := 16) dX18_needs_16 rfl ?_
  exact ⟨rfl, rfl⟩

theorem SP_X18_needs_F {d : Nat} {g : xG} {R D tb p n : Nat} {ch : Nat → Nat} (hR : xRd g R D tb p n ch) : XM M_X18_needs (d + 4) [.ref R, .int (bI false)] g (xThr (xsz g) (xWr g p)) := by
  have hR0 := hR
  obtain ⟨r1, r2, r3, r4, r5, hB, r7, r8⟩ := hR
  have hch := hR0.chs
  have rl := hR0.lt
  have u1 : xtag (xNew g (xBlank 17 9 7) 7) R = 15 := (xtag_new rl).trans r1
  have u2 : xi (xNew g (xBlank 17 9 7) 7) R 2 = nI p := (xi_new rl).trans r5
  have u3 : xtag (xNew g (xBlank 17 9 7) 7) (xsz g) = 17 := xtag_newS rfl
  have u4 : xown (xNew g (xBlank 17 9 7) 7) (xsz g) ≠ 0 := by rw [xown_newS rfl]; show (9 : Nat) ≠ 0; decide
  refine xm_of (by decide +kernel) (Nat.le_of_ble_eq_true rfl) ?_
  show XW _ _ 0 [(0, _), (1, _)] [] _ _
  refine xw_iload_n (pc := 0) dX18_needs_0 1 rfl ?_
  refine xw_if_ne (pc := 1) 16 dX18_needs_1 rfl (fun hb => absurd hb (by decide)) (fun _ => ?_)
  refine xw_new (t := 17) (pc := 4) 9 dX18_needs_4 rfl (by decide) (by first | decide | assumption | omega) q1972 q1973 q140 ?_
  refine xw_at (a := (xsz g)) (by rfl) ?_
  refine xw_dup (pc := 7) dX18_needs_7 rfl ?_
  refine xw_aload_n (pc := 8) dX18_needs_8 0 rfl ?_
  refine xw_getNat (k := p) (pc := 9) fd_X18_22 dX18_needs_9 (by first | assumption | (simp (disch := (first | omega | (simp only [xE_setI, xsz_setI, xsl_setI, xtag_setI, xown_setI, xlen_setI, xE_setR, xsz_setR, xsl_setR, xtag_setR, xown_setR, xlen_setR, xE_setW, xsz_setW, xsl_setW, xtag_setW, xown_setW, xlen_setW, xi_setR, xi_setW, xr_setI, xr_setW, xww_setI, xww_setR, xi_setI, xr_setR, xww_setW, xE_new, xsz_new, xsl_new]; omega))) [-List.getD_eq_getElem?_getD, xE_setI, xsz_setI, xsl_setI, xtag_setI, xown_setI, xlen_setI, xE_setR, xsz_setR, xsl_setR, xtag_setR, xown_setR, xlen_setR, xE_setW, xsz_setW, xsl_setW, xtag_setW, xown_setW, xlen_setW, xi_setR, xi_setW, xr_setI, xr_setW, xww_setI, xww_setR, xi_setI, xr_setR, xww_setW, xE_new, xsz_new, xsl_new, xtag_new, xown_new, xlen_new, xi_new, xr_new, xww_new, xtag_newS, xown_newS, xlen_newS, xi_newS, xr_newS, xww_newS, u1, u2, xsub]; done) | (simp (disch := (first | omega | (simp only [xE_setI, xsz_setI, xsl_setI, xtag_setI, xown_setI, xlen_setI, xE_setR, xsz_setR, xsl_setR, xtag_setR, xown_setR, xlen_setR, xE_setW, xsz_setW, xsl_setW, xtag_setW, xown_setW, xlen_setW, xi_setR, xi_setW, xr_setI, xr_setW, xww_setI, xww_setR, xi_setI, xr_setR, xww_setW, xE_new, xsz_new, xsl_new]; omega))) [-List.getD_eq_getElem?_getD, xE_setI, xsz_setI, xsl_setI, xtag_setI, xown_setI, xlen_setI, xE_setR, xsz_setR, xsl_setR, xtag_setR, xown_setR, xlen_setR, xE_setW, xsz_setW, xsl_setW, xtag_setW, xown_setW, xlen_setW, xi_setR, xi_setW, xr_setI, xr_setW, xww_setI, xww_setR, xi_setI, xr_setR, xww_setW, xE_new, xsz_new, xsl_new, xtag_new, xown_new, xlen_new, xi_new, xr_new, xww_new, xtag_newS, xown_newS, xlen_newS, xi_newS, xr_newS, xww_newS, u1, u2] <;> rfl)) (by simp (disch := (first | omega | (simp only [xE_setI, xsz_setI, xsl_setI, xtag_setI, xown_setI, xlen_setI, xE_setR, xsz_setR, xsl_setR, xtag_setR, xown_setR, xlen_setR, xE_setW, xsz_setW, xsl_setW, xtag_setW, xown_setW, xlen_setW, xi_setR, xi_setW, xr_setI, xr_setW, xww_setI, xww_setR, xi_setI, xr_setR, xww_setW, xE_new, xsz_new, xsl_new]; omega))) [-List.getD_eq_getElem?_getD, xE_setI, xsz_setI, xsl_setI, xtag_setI, xown_setI, xlen_setI, xE_setR, xsz_setR, xsl_setR, xtag_setR, xown_setR, xlen_setR, xE_setW, xsz_setW, xsl_setW, xtag_setW, xown_setW, xlen_setW, xi_setR, xi_setW, xr_setI, xr_setW, xww_setI, xww_setR, xi_setI, xr_setR, xww_setW, xE_new, xsz_new, xsl_new, xtag_new, xown_new, xlen_new, xi_new, xr_new, xww_new, xtag_newS, xown_newS, xlen_newS, xi_newS, xr_newS, xww_newS, u1, u2]) ?_
  refine xw_callU (pc := 12) (xr_I (as := [_]) ok_X20_init rfl (by decide) q1981 q1982 rfl rfl dX18_needs_12 rfl rfl (Nat.le_of_ble_eq_true rfl)) (SP_X20_init u3 u4) ?_
  refine xw_athrow (pc := 15) dX18_needs_15 ?_
  exact xx_out0 rfl (by show 0 < xtag (xWr g p) (xsz g); rw [xWr_tag]; decide) (by show xtag (xWr g p) (xsz g) < 28; rw [xWr_tag]; decide) (by show xown (xWr g p) (xsz g) ≠ 0; rw [xWr_own]; decide) ⟨rfl, rfl⟩

theorem SP_X18_digitF {d : Nat} {g : xG} {R D tb p n : Nat} {ch : Nat → Nat} (hR : xRd g R D tb p n ch) (h : hIn n ch p 48 57 = false) : XM M_X18_digit (d + 7) [.ref R] g (xThr (xsz g) (xWr g p)) := by
  have hR0 := hR
  obtain ⟨r1, r2, r3, r4, r5, hB, r7, r8⟩ := hR
  have hch := hR0.chs
  have rl := hR0.lt
  refine xm_of (by decide +kernel) (Nat.le_of_ble_eq_true rfl) ?_
  show XW _ _ 0 [(0, _)] [] _ _
  refine xw_aload_n (pc := 0) dX18_digit_0 0 rfl ?_
  refine xw_aload_n (pc := 1) dX18_digit_1 0 rfl ?_
  refine xw_callV (pc := 2) (xr_V (as := []) ok_X18_isDigit rfl (by decide) q1963 q1965 qs37 (by rw [r1]; rfl) (by rw [r1]; rfl) dX18_digit_2 rfl rfl (Nat.le_of_ble_eq_true rfl)) ((show XM M_X18_isDigit (d + 6) [.ref R] g (xOne (some (.int (bI false))) g) from h ▸ SP_X18_isDigit hR0)) ?_
  refine xw_callX (pc := 5) (xr_V (as := [_]) ok_X18_needs rfl (by decide) q1968 q1970 qs38 (by rw [r1]; rfl) (by rw [r1]; rfl) dX18_digit_5 rfl rfl (Nat.le_of_ble_eq_true rfl)) (SP_X18_needs_F hR0) ?_
  exact xx_out0 rfl (by rw [xWr_tag]; decide) (by rw [xWr_tag]; decide) (by rw [xWr_own]; decide) ⟨rfl, rfl⟩

theorem SP_X18_digit {d : Nat} {g : xG} {R D tb p n : Nat} {ch : Nat → Nat} (hR : xRd g R D tb p n ch) (h : hIn n ch p 48 57 = true) : XM M_X18_digit (d + 7) [.ref R] g (xOne (some (.int (nI (ch p - 48)))) (xsetI g R 2 (nI (p + 1)))) := by
  have hR0 := hR
  obtain ⟨r1, r2, r3, r4, r5, hB, r7, r8⟩ := hR
  have hch := hR0.chs
  have rl := hR0.lt
  have hq := of_decide_eq_true h
  have rR := hR0.to (q := p + 1) (by omega)
  have rB := rR.2.2.2.2.2.1
  have rn := hR0.own
  have v3 := rR.2.2.1
  have v5 := rR.2.2.2.2.1
  refine xm_of (by decide +kernel) (Nat.le_of_ble_eq_true rfl) ?_
  show XW _ _ 0 [(0, _)] [] _ _
  refine xw_aload_n (pc := 0) dX18_digit_0 0 rfl ?_
  refine xw_aload_n (pc := 1) dX18_digit_1 0 rfl ?_
  refine xw_callV (pc := 2) (xr_V (as := []) ok_X18_isDigit rfl (by decide) q1963 q1965 qs37 (by rw [r1]; rfl) (by rw [r1]; rfl) dX18_digit_2 rfl rfl (Nat.le_of_ble_eq_true rfl)) ((show XM M_X18_isDigit (d + 6) [.ref R] g (xOne (some (.int (bI true))) g) from h ▸ SP_X18_isDigit hR0)) ?_
  refine xw_callU (pc := 5) (xr_V (as := [_]) ok_X18_needs rfl (by decide) q1968 q1970 qs38 (by rw [r1]; rfl) (by rw [r1]; rfl) dX18_digit_5 rfl rfl (Nat.le_of_ble_eq_true rfl)) (SP_X18_needs_T) ?_
  refine xw_aload_n (pc := 8) dX18_digit_8 0 rfl ?_
  refine xw_dup (pc := 9) dX18_digit_9 rfl ?_
  refine xw_getNat (k := p) (pc := 10) fd_X18_22 dX18_digit_10 (by first | assumption | (simp [-List.getD_eq_getElem?_getD, xE_setI, xsz_setI, xsl_setI, xtag_setI, xown_setI, xlen_setI, xE_setR, xsz_setR, xsl_setR, xtag_setR, xown_setR, xlen_setR, xE_setW, xsz_setW, xsl_setW, xtag_setW, xown_setW, xlen_setW, xi_setR, xi_setW, xr_setI, xr_setW, xww_setI, xww_setR, xi_setI, xr_setR, xww_setW, xE_new, xsz_new, xsl_new, r1, r3, r4, r5, rn, v3, v5, xsub]; done) | (simp [-List.getD_eq_getElem?_getD, xE_setI, xsz_setI, xsl_setI, xtag_setI, xown_setI, xlen_setI, xE_setR, xsz_setR, xsl_setR, xtag_setR, xown_setR, xlen_setR, xE_setW, xsz_setW, xsl_setW, xtag_setW, xown_setW, xlen_setW, xi_setR, xi_setW, xr_setI, xr_setW, xww_setI, xww_setR, xi_setI, xr_setR, xww_setW, xE_new, xsz_new, xsl_new, r1, r3, r4, r5, rn, v3, v5] <;> rfl)) (by simp [-List.getD_eq_getElem?_getD, xE_setI, xsz_setI, xsl_setI, xtag_setI, xown_setI, xlen_setI, xE_setR, xsz_setR, xsl_setR, xtag_setR, xown_setR, xlen_setR, xE_setW, xsz_setW, xsl_setW, xtag_setW, xown_setW, xlen_setW, xi_setR, xi_setW, xr_setI, xr_setW, xww_setI, xww_setR, xi_setI, xr_setR, xww_setW, xE_new, xsz_new, xsl_new, r1, r3, r4, r5, rn, v3, v5]) ?_
  refine xw_iconst (v := nI 1) (pc := 13) dX18_digit_13 rfl ?_
  refine xn_iadd (pc := 14) dX18_digit_14 ?_
  refine xw_putI (pc := 15) fd_X18_22 (xfin_of (by decide) (by decide +kernel)) dX18_digit_15 (by first | assumption | (simp [-List.getD_eq_getElem?_getD, xE_setI, xsz_setI, xsl_setI, xtag_setI, xown_setI, xlen_setI, xE_setR, xsz_setR, xsl_setR, xtag_setR, xown_setR, xlen_setR, xE_setW, xsz_setW, xsl_setW, xtag_setW, xown_setW, xlen_setW, xi_setR, xi_setW, xr_setI, xr_setW, xww_setI, xww_setR, xi_setI, xr_setR, xww_setW, xE_new, xsz_new, xsl_new, r1, r3, r4, r5, rn, v3, v5, xsub]; done) | (simp [-List.getD_eq_getElem?_getD, xE_setI, xsz_setI, xsl_setI, xtag_setI, xown_setI, xlen_setI, xE_setR, xsz_setR, xsl_setR, xtag_setR, xown_setR, xlen_setR, xE_setW, xsz_setW, xsl_setW, xtag_setW, xown_setW, xlen_setW, xi_setR, xi_setW, xr_setI, xr_setW, xww_setI, xww_setR, xi_setI, xr_setR, xww_setW, xE_new, xsz_new, xsl_new, r1, r3, r4, r5, rn, v3, v5] <;> rfl)) (by first | assumption | (simp [-List.getD_eq_getElem?_getD, xE_setI, xsz_setI, xsl_setI, xtag_setI, xown_setI, xlen_setI, xE_setR, xsz_setR, xsl_setR, xtag_setR, xown_setR, xlen_setR, xE_setW, xsz_setW, xsl_setW, xtag_setW, xown_setW, xlen_setW, xi_setR, xi_setW, xr_setI, xr_setW, xww_setI, xww_setR, xi_setI, xr_setR, xww_setW, xE_new, xsz_new, xsl_new, r1, r3, r4, r5, rn, v3, v5]; done) | (simp [-List.getD_eq_getElem?_getD, xE_setI, xsz_setI, xsl_setI, xtag_setI, xown_setI, xlen_setI, xE_setR, xsz_setR, xsl_setR, xtag_setR, xown_setR, xlen_setR, xE_setW, xsz_setW, xsl_setW, xtag_setW, xown_setW, xlen_setW, xi_setR, xi_setW, xr_setI, xr_setW, xww_setI, xww_setR, xi_setI, xr_setR, xww_setW, xE_new, xsz_new, xsl_new, r1, r3, r4, r5, rn, v3, v5]; assumption)) ?_
  refine xw_aload_n (pc := 18) dX18_digit_18 0 rfl ?_
  refine xw_getS (b := tb) (pc := 19) fd_X18_18 dX18_digit_19 (by first | assumption | (simp [-List.getD_eq_getElem?_getD, xE_setI, xsz_setI, xsl_setI, xtag_setI, xown_setI, xlen_setI, xE_setR, xsz_setR, xsl_setR, xtag_setR, xown_setR, xlen_setR, xE_setW, xsz_setW, xsl_setW, xtag_setW, xown_setW, xlen_setW, xi_setR, xi_setW, xr_setI, xr_setW, xww_setI, xww_setR, xi_setI, xr_setR, xww_setW, xE_new, xsz_new, xsl_new, r1, r3, r4, r5, rn, v3, v5, xsub]; done) | (simp [-List.getD_eq_getElem?_getD, xE_setI, xsz_setI, xsl_setI, xtag_setI, xown_setI, xlen_setI, xE_setR, xsz_setR, xsl_setR, xtag_setR, xown_setR, xlen_setR, xE_setW, xsz_setW, xsl_setW, xtag_setW, xown_setW, xlen_setW, xi_setR, xi_setW, xr_setI, xr_setW, xww_setI, xww_setR, xi_setI, xr_setR, xww_setW, xE_new, xsz_new, xsl_new, r1, r3, r4, r5, rn, v3, v5] <;> rfl)) (by simp [-List.getD_eq_getElem?_getD, xE_setI, xsz_setI, xsl_setI, xtag_setI, xown_setI, xlen_setI, xE_setR, xsz_setR, xsl_setR, xtag_setR, xown_setR, xlen_setR, xE_setW, xsz_setW, xsl_setW, xtag_setW, xown_setW, xlen_setW, xi_setR, xi_setW, xr_setI, xr_setW, xww_setI, xww_setR, xi_setI, xr_setR, xww_setW, xE_new, xsz_new, xsl_new, r1, r3, r4, r5, rn, v3, v5]) ?_
  refine xw_aload_n (pc := 22) dX18_digit_22 0 rfl ?_
  refine xw_getNat (k := (p + 1)) (pc := 23) fd_X18_22 dX18_digit_23 (by first | assumption | (simp [-List.getD_eq_getElem?_getD, xE_setI, xsz_setI, xsl_setI, xtag_setI, xown_setI, xlen_setI, xE_setR, xsz_setR, xsl_setR, xtag_setR, xown_setR, xlen_setR, xE_setW, xsz_setW, xsl_setW, xtag_setW, xown_setW, xlen_setW, xi_setR, xi_setW, xr_setI, xr_setW, xww_setI, xww_setR, xi_setI, xr_setR, xww_setW, xE_new, xsz_new, xsl_new, r1, r3, r4, r5, rn, v3, v5, xsub]; done) | (simp [-List.getD_eq_getElem?_getD, xE_setI, xsz_setI, xsl_setI, xtag_setI, xown_setI, xlen_setI, xE_setR, xsz_setR, xsl_setR, xtag_setR, xown_setR, xlen_setR, xE_setW, xsz_setW, xsl_setW, xtag_setW, xown_setW, xlen_setW, xi_setR, xi_setW, xr_setI, xr_setW, xww_setI, xww_setR, xi_setI, xr_setR, xww_setW, xE_new, xsz_new, xsl_new, r1, r3, r4, r5, rn, v3, v5] <;> rfl)) (by simp [-List.getD_eq_getElem?_getD, xE_setI, xsz_setI, xsl_setI, xtag_setI, xown_setI, xlen_setI, xE_setR, xsz_setR, xsl_setR, xtag_setR, xown_setR, xlen_setR, xE_setW, xsz_setW, xsl_setW, xtag_setW, xown_setW, xlen_setW, xi_setR, xi_setW, xr_setI, xr_setW, xww_setI, xww_setR, xi_setI, xr_setR, xww_setW, xE_new, xsz_new, xsl_new, r1, r3, r4, r5, rn, v3, v5]) ?_
  refine xw_iconst (v := nI 1) (pc := 26) dX18_digit_26 rfl ?_
  refine xn_isub (pc := 27) dX18_digit_27 (by omega) ?_
  skip
  refine xw_call5V (pc := 28) (xr_F (x := ⟨"java/lang/CharSequence", "charAt", "(I)C"⟩) (as := [_]) ok_J8_charAt rfl (by decide) q1925 (by rw [rB.tag]; exact List.mem_of_getElem? (i := 1) rfl) q1946 (by rw [rB.tag]; exact q1944) ⟨by decide, by decide, by decide +kernel⟩ rB.tag dX18_digit_28 rfl rfl (Nat.le_of_ble_eq_true rfl)) (SP_J8_charAt rB (k := p) hq.1) ?_
  refine xw_bipush (v := nI 48) (pc := 33) dX18_digit_33 (by decide +kernel) ?_
  refine xn_isub (pc := 35) dX18_digit_35 (by omega) ?_
  refine xw_iret (pc := 36) .int dX18_digit_36 rfl ?_ 
  exact ⟨rfl, rfl⟩

theorem SP_X18_takesF {d : Nat} {g : xG} {c : Nat} {R D tb p n : Nat} {ch : Nat → Nat} (hR : xRd g R D tb p n ch) (hc : c < 65536) (h : hIs n ch p c = false) : XM M_X18_takes (d + 7) [.ref R, .int (nI c)] g (xThr (xsz g) (xWr g p)) := by
  have hR0 := hR
  obtain ⟨r1, r2, r3, r4, r5, hB, r7, r8⟩ := hR
  have hch := hR0.chs
  have rl := hR0.lt
  refine xm_of (by decide +kernel) (Nat.le_of_ble_eq_true rfl) ?_
  show XW _ _ 0 [(0, _), (1, _)] [] _ _
  refine xw_aload_n (pc := 0) dX18_takes_0 0 rfl ?_
  refine xw_aload_n (pc := 1) dX18_takes_1 0 rfl ?_
  refine xw_iload_n (pc := 2) dX18_takes_2 1 rfl ?_
  refine xw_callV (pc := 3) (xr_V (as := [_]) ok_X18_isHere rfl (by decide) q1904 q1906 qs33 (by rw [r1]; rfl) (by rw [r1]; rfl) dX18_takes_3 rfl rfl (Nat.le_of_ble_eq_true rfl)) ((show XM M_X18_isHere (d + 6) [.ref R, .int (nI c)] g (xOne (some (.int (bI false))) g) from h ▸ SP_X18_isHere hR0 hc)) ?_
  refine xw_callX (pc := 6) (xr_V (as := [_]) ok_X18_needs rfl (by decide) q1968 q1970 qs38 (by rw [r1]; rfl) (by rw [r1]; rfl) dX18_takes_6 rfl rfl (Nat.le_of_ble_eq_true rfl)) (SP_X18_needs_F hR0) ?_
  exact xx_out0 rfl (by rw [xWr_tag]; decide) (by rw [xWr_tag]; decide) (by rw [xWr_own]; decide) ⟨rfl, rfl⟩

theorem SP_X18_takes {d : Nat} {g : xG} {c : Nat} {R D tb p n : Nat} {ch : Nat → Nat} (hR : xRd g R D tb p n ch) (hc : c < 65536) (h : hIs n ch p c = true) : XM M_X18_takes (d + 7) [.ref R, .int (nI c)] g (xOne none (xsetI g R 2 (nI (p + 1)))) := by
  have hR0 := hR
  obtain ⟨r1, r2, r3, r4, r5, hB, r7, r8⟩ := hR
  have hch := hR0.chs
  have rl := hR0.lt
  have rn := hR0.own
  refine xm_of (by decide +kernel) (Nat.le_of_ble_eq_true rfl) ?_
  show XW _ _ 0 [(0, _), (1, _)] [] _ _
  refine xw_aload_n (pc := 0) dX18_takes_0 0 rfl ?_
  refine xw_aload_n (pc := 1) dX18_takes_1 0 rfl ?_
  refine xw_iload_n (pc := 2) dX18_takes_2 1 rfl ?_
  refine xw_callV (pc := 3) (xr_V (as := [_]) ok_X18_isHere rfl (by decide) q1904 q1906 qs33 (by rw [r1]; rfl) (by rw [r1]; rfl) dX18_takes_3 rfl rfl (Nat.le_of_ble_eq_true rfl)) ((show XM M_X18_isHere (d + 6) [.ref R, .int (nI c)] g (xOne (some (.int (bI true))) g) from h ▸ SP_X18_isHere hR0 hc)) ?_
  refine xw_callU (pc := 6) (xr_V (as := [_]) ok_X18_needs rfl (by decide) q1968 q1970 qs38 (by rw [r1]; rfl) (by rw [r1]; rfl) dX18_takes_6 rfl rfl (Nat.le_of_ble_eq_true rfl)) (SP_X18_needs_T) ?_
  refine xw_aload_n (pc := 9) dX18_takes_9 0 rfl ?_
  refine xw_dup (pc := 10) dX18_takes_10 rfl ?_
  refine xw_getNat (k := p) (pc := 11) fd_X18_22 dX18_takes_11 (by first | assumption | (simp [-List.getD_eq_getElem?_getD, xE_setI, xsz_setI, xsl_setI, xtag_setI, xown_setI, xlen_setI, xE_setR, xsz_setR, xsl_setR, xtag_setR, xown_setR, xlen_setR, xE_setW, xsz_setW, xsl_setW, xtag_setW, xown_setW, xlen_setW, xi_setR, xi_setW, xr_setI, xr_setW, xww_setI, xww_setR, xi_setI, xr_setR, xww_setW, xE_new, xsz_new, xsl_new, r1, r3, r4, r5, rn, xsub]; done) | (simp [-List.getD_eq_getElem?_getD, xE_setI, xsz_setI, xsl_setI, xtag_setI, xown_setI, xlen_setI, xE_setR, xsz_setR, xsl_setR, xtag_setR, xown_setR, xlen_setR, xE_setW, xsz_setW, xsl_setW, xtag_setW, xown_setW, xlen_setW, xi_setR, xi_setW, xr_setI, xr_setW, xww_setI, xww_setR, xi_setI, xr_setR, xww_setW, xE_new, xsz_new, xsl_new, r1, r3, r4, r5, rn] <;> rfl)) (by simp [-List.getD_eq_getElem?_getD, xE_setI, xsz_setI, xsl_setI, xtag_setI, xown_setI, xlen_setI, xE_setR, xsz_setR, xsl_setR, xtag_setR, xown_setR, xlen_setR, xE_setW, xsz_setW, xsl_setW, xtag_setW, xown_setW, xlen_setW, xi_setR, xi_setW, xr_setI, xr_setW, xww_setI, xww_setR, xi_setI, xr_setR, xww_setW, xE_new, xsz_new, xsl_new, r1, r3, r4, r5, rn]) ?_
  refine xw_iconst (v := nI 1) (pc := 14) dX18_takes_14 rfl ?_
  refine xn_iadd (pc := 15) dX18_takes_15 ?_
  refine xw_putI (pc := 16) fd_X18_22 (xfin_of (by decide) (by decide +kernel)) dX18_takes_16 (by first | assumption | (simp [-List.getD_eq_getElem?_getD, xE_setI, xsz_setI, xsl_setI, xtag_setI, xown_setI, xlen_setI, xE_setR, xsz_setR, xsl_setR, xtag_setR, xown_setR, xlen_setR, xE_setW, xsz_setW, xsl_setW, xtag_setW, xown_setW, xlen_setW, xi_setR, xi_setW, xr_setI, xr_setW, xww_setI, xww_setR, xi_setI, xr_setR, xww_setW, xE_new, xsz_new, xsl_new, r1, r3, r4, r5, rn, xsub]; done) | (simp [-List.getD_eq_getElem?_getD, xE_setI, xsz_setI, xsl_setI, xtag_setI, xown_setI, xlen_setI, xE_setR, xsz_setR, xsl_setR, xtag_setR, xown_setR, xlen_setR, xE_setW, xsz_setW, xsl_setW, xtag_setW, xown_setW, xlen_setW, xi_setR, xi_setW, xr_setI, xr_setW, xww_setI, xww_setR, xi_setI, xr_setR, xww_setW, xE_new, xsz_new, xsl_new, r1, r3, r4, r5, rn] <;> rfl)) (by first | assumption | (simp [-List.getD_eq_getElem?_getD, xE_setI, xsz_setI, xsl_setI, xtag_setI, xown_setI, xlen_setI, xE_setR, xsz_setR, xsl_setR, xtag_setR, xown_setR, xlen_setR, xE_setW, xsz_setW, xsl_setW, xtag_setW, xown_setW, xlen_setW, xi_setR, xi_setW, xr_setI, xr_setW, xww_setI, xww_setR, xi_setI, xr_setR, xww_setW, xE_new, xsz_new, xsl_new, r1, r3, r4, r5, rn]; done) | (simp [-List.getD_eq_getElem?_getD, xE_setI, xsz_setI, xsl_setI, xtag_setI, xown_setI, xlen_setI, xE_setR, xsz_setR, xsl_setR, xtag_setR, xown_setR, xlen_setR, xE_setW, xsz_setW, xsl_setW, xtag_setW, xown_setW, xlen_setW, xi_setR, xi_setW, xr_setI, xr_setW, xww_setI, xww_setR, xi_setI, xr_setR, xww_setW, xE_new, xsz_new, xsl_new, r1, r3, r4, r5, rn]; assumption)) ?_
  refine xw_vret (pc := 19) dX18_takes_19 rfl ?_
  exact ⟨rfl, rfl⟩

theorem lp_X18_number {d : Nat} {R D tb n : Nat} {ch : Nat → Nat} : ∀ (k i v p : Nat) (g : xG), i + k = 3 → xRd g R D tb p n ch → XW M_X18_number (d + 8) 7 [(2, .int (nI i)), (1, .int (nI v)), (0, .ref R)] [] g (xOne (some (.int (nI (rNs n ch k v p).1))) (xsetI g R 2 (nI (rNs n ch k v p).2))) := by
  intro k
  induction k with
  | zero =>
    intro i v p g hik hR
    have hR0 := hR
    obtain ⟨r1, r2, r3, r4, r5, hB, r7, r8⟩ := hR
    refine xw_iload_n (pc := 7) dX18_number_7 0 rfl ?_
    refine xw_iconst (v := nI 3) (pc := 8) dX18_number_8 rfl ?_
    refine xw_icmp_ge (pc := 9) 35 dX18_number_9 rfl (fun hb9 => ?_) (fun hb9 => ?_)
    rotate_left
    · exfalso
      replace hb9 : ¬ (3 ≤ i) := mt (nI_leI (a := 3) (b := i) (by omega) (by omega)).mpr hb9
      omega
    replace hb9 : 3 ≤ i := (nI_leI (a := 3) (b := i) (by omega) (by omega)).mp hb9
    refine xw_iload_n (pc := 35) dX18_number_35 1 rfl ?_
    refine xw_iret (pc := 36) .int dX18_number_36 rfl ?_ 
    exact ⟨rfl, (xsetI_id hR0.lt r5).symm⟩
  | succ k ih =>
    intro i v p g hik hR
    have hR0 := hR
    obtain ⟨r1, r2, r3, r4, r5, hB, r7, r8⟩ := hR
    have rl := hR0.lt
    unfold rNs
    by_cases h : hIn n ch p 48 57 = true
    · rw [if_pos h]
      refine xw_iload_n (pc := 7) dX18_number_7 0 rfl ?_
      refine xw_iconst (v := nI 3) (pc := 8) dX18_number_8 rfl ?_
      refine xw_icmp_ge (pc := 9) 35 dX18_number_9 rfl (fun hb9 => ?_) (fun hb9 => ?_)
      · exfalso
        replace hb9 : 3 ≤ i := (nI_leI (a := 3) (b := i) (by omega) (by omega)).mp hb9
        omega
      replace hb9 : ¬ (3 ≤ i) := mt (nI_leI (a := 3) (b := i) (by omega) (by omega)).mpr hb9
      refine xw_aload_n (pc := 12) dX18_number_12 2 rfl ?_
      refine xw_callV (pc := 13) (xr_V (as := []) ok_X18_isDigit rfl (by decide) q1963 q1965 qs37 (by rw [r1]; rfl) (by rw [r1]; rfl) dX18_number_13 rfl rfl (Nat.le_of_ble_eq_true rfl)) ((show XM M_X18_isDigit (d + 7) [.ref R] g (xOne (some (.int (bI true))) g) from h ▸ SP_X18_isDigit (d := d + 1) hR0)) ?_
      refine xw_if_eq (pc := 16) 35 dX18_number_16 rfl (fun hb => absurd hb (by decide)) (fun _ => ?_)
      refine xw_bipush (v := nI 10) (pc := 19) dX18_number_19 (by decide +kernel) ?_
      refine xw_iload_n (pc := 21) dX18_number_21 1 rfl ?_
      refine xn_imul (pc := 22) dX18_number_22 ?_
      refine xw_aload_n (pc := 23) dX18_number_23 2 rfl ?_
      refine xw_callV (pc := 24) (xr_V (as := []) ok_X18_digit rfl (by decide) q1959 q1961 qs36 (by rw [r1]; rfl) (by rw [r1]; rfl) dX18_number_24 rfl rfl (Nat.le_of_ble_eq_true rfl)) (SP_X18_digit hR0 h) ?_
      refine xn_iadd (pc := 27) dX18_number_27 ?_
      refine xw_istore_n (l' := [(1, _), (2, _), (0, _)]) (pc := 28) dX18_number_28 rfl (by decide) rfl ?_
      refine xw_iinc (v := nI (i + 1)) (l' := [(2, _), (1, _), (0, _)]) (pc := 29) dX18_number_29 1 rfl (nI_add _ 1) (by decide) rfl ?_
      refine xw_goto (pc := 32) 7 dX18_number_32 rfl ?_
      have h9 := ih (i + 1) (10 * v + (ch p - 48)) (p + 1) _ (by omega) (hR0.to (q := p + 1) (by have := (of_decide_eq_true h).1; omega))
      rw [xsetI_ov rl] at h9
      exact h9
    · rw [if_neg h]
      replace h := Bool.eq_false_iff.mpr h
      refine xw_iload_n (pc := 7) dX18_number_7 0 rfl ?_
      refine xw_iconst (v := nI 3) (pc := 8) dX18_number_8 rfl ?_
      refine xw_icmp_ge (pc := 9) 35 dX18_number_9 rfl (fun hb9 => ?_) (fun hb9 => ?_)
      · exfalso
        replace hb9 : 3 ≤ i := (nI_leI (a := 3) (b := i) (by omega) (by omega)).mp hb9
        omega
      replace hb9 : ¬ (3 ≤ i) := mt (nI_leI (a := 3) (b := i) (by omega) (by omega)).mpr hb9
      refine xw_aload_n (pc := 12) dX18_number_12 2 rfl ?_
      refine xw_callV (pc := 13) (xr_V (as := []) ok_X18_isDigit rfl (by decide) q1963 q1965 qs37 (by rw [r1]; rfl) (by rw [r1]; rfl) dX18_number_13 rfl rfl (Nat.le_of_ble_eq_true rfl)) ((show XM M_X18_isDigit (d + 7) [.ref R] g (xOne (some (.int (bI false))) g) from h ▸ SP_X18_isDigit (d := d + 1) hR0)) ?_
      refine xw_if_eq (pc := 16) 35 dX18_number_16 rfl (fun _ => ?_) (fun hb => absurd hb (by decide))
      refine xw_iload_n (pc := 35) dX18_number_35 1 rfl ?_
      refine xw_iret (pc := 36) .int dX18_number_36 rfl ?_ 
      exact ⟨rfl, (xsetI_id hR0.lt r5).symm⟩
theorem SP_X18_numberF {d : Nat} {g : xG} {R D tb p n : Nat} {ch : Nat → Nat} (hR : xRd g R D tb p n ch) (h : hIn n ch p 48 57 = false) : XM M_X18_number (d + 8) [.ref R] g (xThr (xsz g) (xWr g p)) := by
  have hR0 := hR
  obtain ⟨r1, r2, r3, r4, r5, hB, r7, r8⟩ := hR
  have hch := hR0.chs
  have rl := hR0.lt
  refine xm_of (by decide +kernel) (Nat.le_of_ble_eq_true rfl) ?_
  show XW _ _ 0 [(0, _)] [] _ _
  refine xw_aload_n (pc := 0) dX18_number_0 0 rfl ?_
  refine xw_callX (pc := 1) (xr_V (as := []) ok_X18_digit rfl (by decide) q1959 q1961 qs36 (by rw [r1]; rfl) (by rw [r1]; rfl) dX18_number_1 rfl rfl (Nat.le_of_ble_eq_true rfl)) (SP_X18_digitF hR0 h) ?_
  exact xx_out0 rfl (by rw [xWr_tag]; decide) (by rw [xWr_tag]; decide) (by rw [xWr_own]; decide) ⟨rfl, rfl⟩

theorem SP_X18_number {d : Nat} {g : xG} {R D tb p n : Nat} {ch : Nat → Nat} (hR : xRd g R D tb p n ch) (h : hIn n ch p 48 57 = true) : XM M_X18_number (d + 8) [.ref R] g (xOne (some (.int (nI (rNs n ch 2 (ch p - 48) (p + 1)).1))) (xsetI g R 2 (nI (rNs n ch 2 (ch p - 48) (p + 1)).2))) := by
  have hR0 := hR
  obtain ⟨r1, r2, r3, r4, r5, hB, r7, r8⟩ := hR
  have hch := hR0.chs
  have rl := hR0.lt
  refine xm_of (by decide +kernel) (Nat.le_of_ble_eq_true rfl) ?_
  show XW _ _ 0 [(0, _)] [] _ _
  refine xw_aload_n (pc := 0) dX18_number_0 0 rfl ?_
  refine xw_callV (pc := 1) (xr_V (as := []) ok_X18_digit rfl (by decide) q1959 q1961 qs36 (by rw [r1]; rfl) (by rw [r1]; rfl) dX18_number_1 rfl rfl (Nat.le_of_ble_eq_true rfl)) (SP_X18_digit hR0 h) ?_
  refine xw_istore_n (l' := [(1, _), (0, _)]) (pc := 4) dX18_number_4 rfl (by decide) rfl ?_
  refine xw_iconst (v := nI 1) (pc := 5) dX18_number_5 rfl ?_
  refine xw_istore_n (l' := [(2, _), (1, _), (0, _)]) (pc := 6) dX18_number_6 rfl (by decide) rfl ?_
  have h9 := lp_X18_number (d := d) 2 1 (ch p - 48) (p + 1) _ rfl (hR0.to (q := p + 1) (by have := (of_decide_eq_true h).1; omega))
  rw [xsetI_ov rl] at h9
  exact h9

