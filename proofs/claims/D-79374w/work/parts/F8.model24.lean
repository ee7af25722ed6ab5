/-! MODEL 24: the reference made -/
set_option maxRecDepth 100000
/-- the reference half made: k arrays less one, the fields' ints F -/
def xIn (g : xG) (m k : Nat) (F : Nat → Int32) : Prop := xsz g = m + k ∧ xtag g m = 5 ∧ xown g m = 3 ∧ (∀ j, xi g m j = F j) ∧ ∀ p q, 0 < p → p < k → xmA p = some q → xr g m q.1 = some (m + p) ∧ xtag g (m + p) = 101 + q.2.1 ∧ xown g (m + p) = 3 ∧ xlen g (m + p) = q.2.2 ∧ ∀ j, xi g (m + p) j = 0
def xmF : Nat → Nat := fun p => match xmA p with
  | some q => q.1
  | none => 100
theorem xmF_inj : ∀ p : Fin 14, ∀ k : Fin 14, p ≠ k → 0 < p.val → 0 < k.val → xmF p.val ≠ xmF k.val := by decide +kernel
theorem xIn.step {g : xG} {m k t n f : Nat} {F : Nat → Int32} (h : xIn g m k F) (h0 : 0 < k) (hk : k < 14) (hq : xmA k = some (f, t, n)) : xIn (xsetR (xNew g (xBlank (101 + t) 3 n) n) m f (some (m + k))) m (k + 1) F := by
  obtain ⟨h1, h2, h3, h4, h5⟩ := h
  have hm : m < xsz g := xlt (by rw [h2]; decide)
  have e1 : xtag (xNew g (xBlank (101 + t) 3 n) n) m = 5 := (xtag_new hm).trans h2
  refine ⟨?_, xtag_setR.trans e1, xown_setR.trans ((xown_new hm).trans h3), fun j => xi_setR.trans ((xi_new hm).trans (h4 j)), fun p q hp hpk hpq => ?_⟩
  · rw [xsz_setR, xsz_new, h1]; rfl
  by_cases e : p = k
  · subst e
    rw [hq] at hpq
    cases hpq
    have nm : m + p ≠ m := by omega
    have cc : xc (xsetR (xNew g (xBlank (101 + t) 3 n) n) m f (some (m + p))) (m + p) = xBlank (101 + t) 3 n := (xc_setR nm).trans (by rw [← h1]; exact xc_new)
    exact ⟨xr_setRS (by rw [e1]; decide), congrArg (fun z : xCell => z.1) cc, congrArg (fun z : xCell => z.2.1) cc, congrArg (fun z : xCell => z.2.2.1) cc, fun j => congrArg (fun z : xCell => z.2.2.2.1 j) cc⟩
  · obtain ⟨b1, b2, b3, b4, b5⟩ := h5 p q hp (by omega) hpq
    have nm : m + p ≠ m := by omega
    have ne : q.1 ≠ f := by
      have h9 := xmF_inj ⟨p, by omega⟩ ⟨k, hk⟩ (fun h => e (congrArg Fin.val h)) hp h0
      unfold xmF at h9
      rw [hpq, hq] at h9
      exact h9
    have cc : xc (xsetR (xNew g (xBlank (101 + t) 3 n) n) m f (some (m + k))) (m + p) = xc g (m + p) := (xc_setR nm).trans (xc_newN (by omega))
    exact ⟨(xr_setRK ne).trans ((xr_new hm).trans b1), (congrArg (fun z : xCell => z.1) cc).trans b2, (congrArg (fun z : xCell => z.2.1) cc).trans b3, (congrArg (fun z : xCell => z.2.2.1) cc).trans b4, fun j => (xi_of cc j).trans (b5 j)⟩
theorem xIn.put {g : xG} {m k j : Nat} {F : Nat → Int32} {v : Int32} (h : xIn g m k F) : xIn (xsetI g m j v) m k (fun i => if i = j then v else F i) := by
  obtain ⟨h1, h2, h3, h4, h5⟩ := h
  refine ⟨xsz_setI.trans h1, xtag_setI.trans h2, xown_setI.trans h3, fun i => ?_, fun p q hp hpk hpq => ?_⟩
  · by_cases e : i = j
    · subst e
      exact (xi_setIS (by rw [h2]; decide)).trans (if_pos rfl).symm
    · exact (xi_setIK e).trans ((h4 i).trans (if_neg e).symm)
  · obtain ⟨b1, b2, b3, b4, b5⟩ := h5 p q hp hpk hpq
    have nm : m + p ≠ m := by omega
    exact ⟨xr_setI.trans b1, xtag_setI.trans b2, xown_setI.trans b3, xlen_setI.trans b4, fun i => (xi_of (xc_setI nm) i).trans (b5 i)⟩
/-- the reference's ints at its start: a places of the sheet, b rows set -/
def iS (F : Nat → Int32) (a b : Nat) : xMS := fun p i => if p = 0 then F i else if p = 1 then (if i = 0 then nI 1 else if i = 3 then -1 else 0) else if p = 9 then (if i % 3 = 0 ∧ i < 3 * a then -1 else 0) else if p = 11 then (if i < b then -1 else 0) else 0
def iZ (F : Nat → Int32) : xMS := fun p i => if p = 0 then F i else 0
theorem iS_0 {F : Nat → Int32} : mset (mset (iZ F) 1 0 (nI 1)) 1 3 (-1) = iS F 0 0 := by
  funext p i
  unfold mset iZ iS
  by_cases h0 : p = 0
  · subst h0; simp
  by_cases h1 : p = 1
  · subst h1
    by_cases i3 : i = 3
    · subst i3; simp
    by_cases i0 : i = 0
    · subst i0; simp
    · simp [i0, i3]
  · simp [h0, h1]
theorem iS_a {F : Nat → Int32} {a b : Nat} : mset (iS F a b) 9 (3 * a) (-1) = iS F (a + 1) b := by
  funext p i
  unfold mset iS
  by_cases h9 : p = 9
  · subst h9
    by_cases hi : i = 3 * a
    · subst hi
      rw [if_pos ⟨rfl, rfl⟩, if_neg (by decide), if_neg (by decide), if_pos rfl, if_pos ⟨by omega, by omega⟩]
    · rw [if_neg (fun h => hi h.2), if_neg (by decide), if_neg (by decide), if_pos rfl, if_neg (show ¬ (9 : Nat) = 0 from by decide), if_neg (show ¬ (9 : Nat) = 1 from by decide), if_pos rfl]
      by_cases h : i % 3 = 0 ∧ i < 3 * a
      · rw [if_pos h, if_pos ⟨h.1, by omega⟩]
      · rw [if_neg h, if_neg (fun h2 => h ⟨h2.1, by omega⟩)]
  · rw [if_neg (fun h => h9 h.1)]
    simp [h9]
theorem iS_b {F : Nat → Int32} {a b : Nat} : mset (iS F a b) 11 b (-1) = iS F a (b + 1) := by
  funext p i
  unfold mset iS
  by_cases h9 : p = 11
  · subst h9
    by_cases hi : i = b
    · subst hi
      simp
    · have h : (i < b + 1) = (i < b) := propext ⟨fun h => by omega, fun h => by omega⟩
      simp [hi, h]
  · simp [h9]
/-- the fields' ints at the start -/
def iF : Nat → Int32 := fun i => if i = 25 then -1 else if i = 17 then nI 4 else if i = 14 then -1 else 0
theorem xIn.mod {g : xG} {m : Nat} {F : Nat → Int32} (h : xIn g m 14 F) : xMod g m ∧ xM3 g m ∧ xEqv (xWith g m (iZ F)) g := by
  obtain ⟨h1, h2, h3, h4, h5⟩ := h
  have hA : ∀ p, 0 < p → p < 14 → ∃ q, xmA p = some q := fun p h0 hp => by
    have h : p = 1 ∨ p = 2 ∨ p = 3 ∨ p = 4 ∨ p = 5 ∨ p = 6 ∨ p = 7 ∨ p = 8 ∨ p = 9 ∨ p = 10 ∨ p = 11 ∨ p = 12 ∨ p = 13 := by omega
    rcases h with rfl | rfl | rfl | rfl | rfl | rfl | rfl | rfl | rfl | rfl | rfl | rfl | rfl <;> exact ⟨_, rfl⟩
  refine ⟨⟨h2, by rw [h3]; decide, fun p q hq => ?_⟩, fun p hp => ⟨by omega, ?_⟩, rfl, rfl, rfl, fun b => ?_⟩
  · have hp : p < 14 := by
      apply Decidable.byContradiction
      intro hp
      obtain ⟨z, rfl⟩ : ∃ z, p = z + 14 := ⟨p - 14, by omega⟩
      cases hq
    have h0 : 0 < p := by
      apply Decidable.byContradiction
      intro h0
      have : p = 0 := by omega
      subst this
      cases hq
    obtain ⟨b1, b2, b3, b4, b5⟩ := h5 p q h0 hp hq
    exact ⟨b1, b2, by rw [b3]; decide, b4⟩
  · by_cases h0 : p = 0
    · subst h0; exact h3
    · obtain ⟨q, hq⟩ := hA p (by omega) hp
      exact (h5 p q (by omega) hp hq).2.2.1
  · by_cases hb : m ≤ b ∧ b < m + 14
    · have e := xc_with (g := g) (S := iZ F) (m := m) (p := b - m) (by omega) (by omega)
      rw [show m + (b - m) = b from by omega] at e
      rw [e]
      have hf : iZ F (b - m) = fun j => xi g b j := by
        funext j
        by_cases h0 : b - m = 0
        · have : b = m := by omega
          subst this
          rw [h0]
          exact (h4 j).symm
        · obtain ⟨q, hq⟩ := hA (b - m) (by omega) (by omega)
          have h9 := (h5 (b - m) q (by omega) (by omega) hq).2.2.2.2 j
          rw [show m + (b - m) = b from by omega] at h9
          rw [h9]
          exact if_neg h0
      rw [hf]
      rfl
    · exact xc_withN hb

theorem lp9_X6_init {d : Nat} {g : xG} {m : Nat} (hM : xMod g m) {F : Nat → Int32} {Q : Option Value ⊕ Nat → xG → Prop} (hq : XW M_X6_init d 165 [(1, .int (nI 6)), (0, .ref m)] [] (xWith g m (iS F 6 0)) Q) : ∀ (j k : Nat), 6 - k < j → k ≤ 6 → XW M_X6_init d 144 [(1, .int (nI k)), (0, .ref m)] [] (xWith g m (iS F k 0)) Q := by
  intro j
  induction j with
  | zero => intro k h; omega
  | succ j ih =>
  intro k hj hk
  refine xw_iload_n (pc := 144) dX6_init_144 0 rfl ?_
  refine xw_bipush (v := nI 6) (pc := 145) dX6_init_145 (by decide +kernel) ?_
  refine xw_icmp_ge (pc := 147) 165 dX6_init_147 rfl (fun hb147 => ?_) (fun hb147 => ?_)
  · replace hb147 : 6 ≤ k := (nI_leI (a := 6) (b := k) (by omega) (by omega)).mp hb147
    have ek : k = 6 := by omega
    subst ek
    exact hq
  · replace hb147 : ¬ (6 ≤ k) := mt (nI_leI (a := 6) (b := k) (by omega) (by omega)).mpr hb147
    refine xw_aload_n (pc := 150) dX6_init_150 1 rfl ?_
    refine xm_get (p := 9) (pc := 151) hM fd_X6_42 dX6_init_151 rfl ?_
    refine xw_iconst (v := nI 3) (pc := 154) dX6_init_154 rfl ?_
    refine xw_iload_n (pc := 155) dX6_init_155 0 rfl ?_
    refine xn_imul (pc := 156) dX6_init_156 ?_
    refine xw_iconst (v := -1) (pc := 157) dX6_init_157 (by decide +kernel) ?_
    refine xm_iast (pc := 158) hM dX6_init_158 rfl (by omega) ?_
    refine xw_iinc (v := nI (k + 1)) (l' := [(1, _), (0, _)]) (pc := 159) dX6_init_159 0 rfl (nI_add _ 1) (by decide) rfl ?_
    refine xw_goto (pc := 162) 144 dX6_init_162 rfl ?_
    rw [iS_a]
    exact ih (k + 1) (by omega) (by omega)
theorem lp11_X6_init {d : Nat} {g : xG} {m : Nat} (hM : xMod g m) {F : Nat → Int32} {Q : Option Value ⊕ Nat → xG → Prop} (hq : XW M_X6_init d 185 [(1, .int (nI 3)), (0, .ref m)] [] (xWith g m (iS F 6 3)) Q) : ∀ (j k : Nat), 3 - k < j → k ≤ 3 → XW M_X6_init d 167 [(1, .int (nI k)), (0, .ref m)] [] (xWith g m (iS F 6 k)) Q := by
  intro j
  induction j with
  | zero => intro k h; omega
  | succ j ih =>
  intro k hj hk
  refine xw_iload_n (pc := 167) dX6_init_167 0 rfl ?_
  refine xw_iconst (v := nI 3) (pc := 168) dX6_init_168 rfl ?_
  refine xw_icmp_ge (pc := 169) 185 dX6_init_169 rfl (fun hb169 => ?_) (fun hb169 => ?_)
  · replace hb169 : 3 ≤ k := (nI_leI (a := 3) (b := k) (by omega) (by omega)).mp hb169
    have ek : k = 3 := by omega
    subst ek
    exact hq
  · replace hb169 : ¬ (3 ≤ k) := mt (nI_leI (a := 3) (b := k) (by omega) (by omega)).mpr hb169
    refine xw_aload_n (pc := 172) dX6_init_172 1 rfl ?_
    refine xm_get (p := 11) (pc := 173) hM fd_X6_49 dX6_init_173 rfl ?_
    refine xw_iload_n (pc := 176) dX6_init_176 0 rfl ?_
    refine xw_iconst (v := -1) (pc := 177) dX6_init_177 (by decide +kernel) ?_
    refine xm_iast (pc := 178) hM dX6_init_178 rfl (by omega) ?_
    refine xw_iinc (v := nI (k + 1)) (l' := [(1, _), (0, _)]) (pc := 179) dX6_init_179 0 rfl (nI_add _ 1) (by decide) rfl ?_
    refine xw_goto (pc := 182) 167 dX6_init_182 rfl ?_
    rw [iS_b]
    exact ih (k + 1) (by omega) (by omega)
theorem SP_X6_init {d : Nat} {g : xG} {m : Nat} (tg : xtag g m = 5) (og3 : xown g m = 3) (hz : xsz g = m + 1) (hi : ∀ j, xi g m j = 0) : XM M_X6_init (d + 1) [.ref m] g (xVoid (fun g' => ∃ g1, g' = xWith g1 m (iS iF 6 3) ∧ xMod g1 m ∧ xM3 g1 m ∧ xFr (oEq 3) 4859 g g1)) := by
  have i0 : xIn g m 1 (fun _ => 0) := ⟨hz, tg, og3, hi, fun p q h0 h1 => by omega⟩
  have f0 : xFr (oEq 3) 0 g g := xFr.rf
  have og : xown g m ≠ 0 := by rw [og3]; decide
  refine xm_of (by decide +kernel) (Nat.le_of_ble_eq_true rfl) ?_
  show XW _ _ 0 [(0, _)] [] _ _
  refine xw_aload_n (pc := 0) dX6_init_0 0 rfl ?_
  refine xw_objInit (pc := 1) dX6_init_1 q2246 (Nat.le_of_ble_eq_true rfl) ?_
  refine xw_aload_n (pc := 4) dX6_init_4 0 rfl ?_
  refine xw_sipush (v := nI 391) (pc := 5) dX6_init_5 (by decide +kernel) ?_
  refine xw_newa_int (n := 391) (pc := 8) 3 dX6_init_8 q655 (by first | decide | assumption | omega) rfl (by omega) ?_
  refine xw_at (a := (m + 1)) (by exact i0.1) ?_
  have hml : m < xsz g := xlt (by rw [i0.2.1]; decide)
  have tn1 : xtag (xNew g (xBlank 101 3 391) 391) m = 5 := (xtag_new hml).trans i0.2.1
  have on1 : xown (xNew g (xBlank 101 3 391) 391) m ≠ 0 := by rw [xown_new hml, i0.2.2.1]; decide
  refine xw_putR (o := (some (m + 1))) (pc := 10) fd_X6_9 (xfin_of (by decide) (by decide +kernel)) dX6_init_10 (by first | assumption | (simp [-List.getD_eq_getElem?_getD, xE_setI, xsz_setI, xsl_setI, xtag_setI, xown_setI, xlen_setI, xE_setR, xsz_setR, xsl_setR, xtag_setR, xown_setR, xlen_setR, xE_setW, xsz_setW, xsl_setW, xtag_setW, xown_setW, xlen_setW, xi_setR, xi_setW, xr_setI, xr_setW, xww_setI, xww_setR, xi_setI, xr_setR, xww_setW, xE_new, xsz_new, xsl_new, tg, og, tn1, on1, xsub]; done) | (simp [-List.getD_eq_getElem?_getD, xE_setI, xsz_setI, xsl_setI, xtag_setI, xown_setI, xlen_setI, xE_setR, xsz_setR, xsl_setR, xtag_setR, xown_setR, xlen_setR, xE_setW, xsz_setW, xsl_setW, xtag_setW, xown_setW, xlen_setW, xi_setR, xi_setW, xr_setI, xr_setW, xww_setI, xww_setR, xi_setI, xr_setR, xww_setW, xE_new, xsz_new, xsl_new, tg, og, tn1, on1] <;> rfl)) (by first | assumption | (simp [-List.getD_eq_getElem?_getD, xE_setI, xsz_setI, xsl_setI, xtag_setI, xown_setI, xlen_setI, xE_setR, xsz_setR, xsl_setR, xtag_setR, xown_setR, xlen_setR, xE_setW, xsz_setW, xsl_setW, xtag_setW, xown_setW, xlen_setW, xi_setR, xi_setW, xr_setI, xr_setW, xww_setI, xww_setR, xi_setI, xr_setR, xww_setW, xE_new, xsz_new, xsl_new, tg, og, tn1, on1]; done) | (simp [-List.getD_eq_getElem?_getD, xE_setI, xsz_setI, xsl_setI, xtag_setI, xown_setI, xlen_setI, xE_setR, xsz_setR, xsl_setR, xtag_setR, xown_setR, xlen_setR, xE_setW, xsz_setW, xsl_setW, xtag_setW, xown_setW, xlen_setW, xi_setR, xi_setW, xr_setI, xr_setW, xww_setI, xww_setR, xi_setI, xr_setR, xww_setW, xE_new, xsz_new, xsl_new, tg, og, tn1, on1]; assumption)) rfl ?_
  have i1 : xIn (xsetR (xNew g (xBlank 101 3 391) 391) m 0 (some (m + 1))) m 2 _ := i0.step (t := 0) (by decide) (by decide) (show xmA 1 = some (0, 0, 391) from rfl)
  have f1 : xFr (oEq 3) _ g (xsetR (xNew g (xBlank 101 3 391) 391) m 0 (some (m + 1))) := (f0.nw).sr (Or.inr (i0.2.2.1 ▸ (xown_new (xlt (by rw [i0.2.1]; decide)))))
  generalize (xsetR (xNew g (xBlank 101 3 391) 391) m 0 (some (m + 1))) = h1 at i1 f1 ⊢
  have th1 : xtag h1 m = 5 := i1.2.1
  have oh1 : xown h1 m ≠ 0 := by rw [i1.2.2.1]; decide
  refine xw_aload_n (pc := 13) dX6_init_13 0 rfl ?_
  refine xw_sipush (v := nI 391) (pc := 14) dX6_init_14 (by decide +kernel) ?_
  refine xw_newa_int (n := 391) (pc := 17) 3 dX6_init_17 q655 (by first | decide | assumption | omega) rfl (by omega) ?_
  refine xw_at (a := (m + 2)) (by exact i1.1) ?_
  have hml : m < xsz h1 := xlt (by rw [i1.2.1]; decide)
  have tn2 : xtag (xNew h1 (xBlank 101 3 391) 391) m = 5 := (xtag_new hml).trans i1.2.1
  have on2 : xown (xNew h1 (xBlank 101 3 391) 391) m ≠ 0 := by rw [xown_new hml, i1.2.2.1]; decide
  refine xw_putR (o := (some (m + 2))) (pc := 19) fd_X6_13 (xfin_of (by decide) (by decide +kernel)) dX6_init_19 (by first | assumption | (simp [-List.getD_eq_getElem?_getD, xE_setI, xsz_setI, xsl_setI, xtag_setI, xown_setI, xlen_setI, xE_setR, xsz_setR, xsl_setR, xtag_setR, xown_setR, xlen_setR, xE_setW, xsz_setW, xsl_setW, xtag_setW, xown_setW, xlen_setW, xi_setR, xi_setW, xr_setI, xr_setW, xww_setI, xww_setR, xi_setI, xr_setR, xww_setW, xE_new, xsz_new, xsl_new, tg, og, tn1, on1, th1, oh1, tn2, on2, xsub]; done) | (simp [-List.getD_eq_getElem?_getD, xE_setI, xsz_setI, xsl_setI, xtag_setI, xown_setI, xlen_setI, xE_setR, xsz_setR, xsl_setR, xtag_setR, xown_setR, xlen_setR, xE_setW, xsz_setW, xsl_setW, xtag_setW, xown_setW, xlen_setW, xi_setR, xi_setW, xr_setI, xr_setW, xww_setI, xww_setR, xi_setI, xr_setR, xww_setW, xE_new, xsz_new, xsl_new, tg, og, tn1, on1, th1, oh1, tn2, on2] <;> rfl)) (by first | assumption | (simp [-List.getD_eq_getElem?_getD, xE_setI, xsz_setI, xsl_setI, xtag_setI, xown_setI, xlen_setI, xE_setR, xsz_setR, xsl_setR, xtag_setR, xown_setR, xlen_setR, xE_setW, xsz_setW, xsl_setW, xtag_setW, xown_setW, xlen_setW, xi_setR, xi_setW, xr_setI, xr_setW, xww_setI, xww_setR, xi_setI, xr_setR, xww_setW, xE_new, xsz_new, xsl_new, tg, og, tn1, on1, th1, oh1, tn2, on2]; done) | (simp [-List.getD_eq_getElem?_getD, xE_setI, xsz_setI, xsl_setI, xtag_setI, xown_setI, xlen_setI, xE_setR, xsz_setR, xsl_setR, xtag_setR, xown_setR, xlen_setR, xE_setW, xsz_setW, xsl_setW, xtag_setW, xown_setW, xlen_setW, xi_setR, xi_setW, xr_setI, xr_setW, xww_setI, xww_setR, xi_setI, xr_setR, xww_setW, xE_new, xsz_new, xsl_new, tg, og, tn1, on1, th1, oh1, tn2, on2]; assumption)) rfl ?_
  have i2 : xIn (xsetR (xNew h1 (xBlank 101 3 391) 391) m 1 (some (m + 2))) m 3 _ := i1.step (t := 0) (by decide) (by decide) (show xmA 2 = some (1, 0, 391) from rfl)
  have f2 : xFr (oEq 3) _ g (xsetR (xNew h1 (xBlank 101 3 391) 391) m 1 (some (m + 2))) := (f1.nw).sr (Or.inr (i1.2.2.1 ▸ (xown_new (xlt (by rw [i1.2.1]; decide)))))
  generalize (xsetR (xNew h1 (xBlank 101 3 391) 391) m 1 (some (m + 2))) = h2 at i2 f2 ⊢
  have th2 : xtag h2 m = 5 := i2.2.1
  have oh2 : xown h2 m ≠ 0 := by rw [i2.2.2.1]; decide
  refine xw_aload_n (pc := 22) dX6_init_22 0 rfl ?_
  refine xw_sipush (v := nI 391) (pc := 23) dX6_init_23 (by decide +kernel) ?_
  refine xw_newa_int (n := 391) (pc := 26) 3 dX6_init_26 q655 (by first | decide | assumption | omega) rfl (by omega) ?_
  refine xw_at (a := (m + 3)) (by exact i2.1) ?_
  have hml : m < xsz h2 := xlt (by rw [i2.2.1]; decide)
  have tn3 : xtag (xNew h2 (xBlank 101 3 391) 391) m = 5 := (xtag_new hml).trans i2.2.1
  have on3 : xown (xNew h2 (xBlank 101 3 391) 391) m ≠ 0 := by rw [xown_new hml, i2.2.2.1]; decide
  refine xw_putR (o := (some (m + 3))) (pc := 28) fd_X6_16 (xfin_of (by decide) (by decide +kernel)) dX6_init_28 (by first | assumption | (simp [-List.getD_eq_getElem?_getD, xE_setI, xsz_setI, xsl_setI, xtag_setI, xown_setI, xlen_setI, xE_setR, xsz_setR, xsl_setR, xtag_setR, xown_setR, xlen_setR, xE_setW, xsz_setW, xsl_setW, xtag_setW, xown_setW, xlen_setW, xi_setR, xi_setW, xr_setI, xr_setW, xww_setI, xww_setR, xi_setI, xr_setR, xww_setW, xE_new, xsz_new, xsl_new, tg, og, tn1, on1, th1, oh1, tn2, on2, th2, oh2, tn3, on3, xsub]; done) | (simp [-List.getD_eq_getElem?_getD, xE_setI, xsz_setI, xsl_setI, xtag_setI, xown_setI, xlen_setI, xE_setR, xsz_setR, xsl_setR, xtag_setR, xown_setR, xlen_setR, xE_setW, xsz_setW, xsl_setW, xtag_setW, xown_setW, xlen_setW, xi_setR, xi_setW, xr_setI, xr_setW, xww_setI, xww_setR, xi_setI, xr_setR, xww_setW, xE_new, xsz_new, xsl_new, tg, og, tn1, on1, th1, oh1, tn2, on2, th2, oh2, tn3, on3] <;> rfl)) (by first | assumption | (simp [-List.getD_eq_getElem?_getD, xE_setI, xsz_setI, xsl_setI, xtag_setI, xown_setI, xlen_setI, xE_setR, xsz_setR, xsl_setR, xtag_setR, xown_setR, xlen_setR, xE_setW, xsz_setW, xsl_setW, xtag_setW, xown_setW, xlen_setW, xi_setR, xi_setW, xr_setI, xr_setW, xww_setI, xww_setR, xi_setI, xr_setR, xww_setW, xE_new, xsz_new, xsl_new, tg, og, tn1, on1, th1, oh1, tn2, on2, th2, oh2, tn3, on3]; done) | (simp [-List.getD_eq_getElem?_getD, xE_setI, xsz_setI, xsl_setI, xtag_setI, xown_setI, xlen_setI, xE_setR, xsz_setR, xsl_setR, xtag_setR, xown_setR, xlen_setR, xE_setW, xsz_setW, xsl_setW, xtag_setW, xown_setW, xlen_setW, xi_setR, xi_setW, xr_setI, xr_setW, xww_setI, xww_setR, xi_setI, xr_setR, xww_setW, xE_new, xsz_new, xsl_new, tg, og, tn1, on1, th1, oh1, tn2, on2, th2, oh2, tn3, on3]; assumption)) rfl ?_
  have i3 : xIn (xsetR (xNew h2 (xBlank 101 3 391) 391) m 2 (some (m + 3))) m 4 _ := i2.step (t := 0) (by decide) (by decide) (show xmA 3 = some (2, 0, 391) from rfl)
  have f3 : xFr (oEq 3) _ g (xsetR (xNew h2 (xBlank 101 3 391) 391) m 2 (some (m + 3))) := (f2.nw).sr (Or.inr (i2.2.2.1 ▸ (xown_new (xlt (by rw [i2.2.1]; decide)))))
  generalize (xsetR (xNew h2 (xBlank 101 3 391) 391) m 2 (some (m + 3))) = h3 at i3 f3 ⊢
  have th3 : xtag h3 m = 5 := i3.2.1
  have oh3 : xown h3 m ≠ 0 := by rw [i3.2.2.1]; decide
  refine xw_aload_n (pc := 31) dX6_init_31 0 rfl ?_
  refine xw_sipush (v := nI 3128) (pc := 32) dX6_init_32 (by decide +kernel) ?_
  refine xw_newa_int (n := 3128) (pc := 35) 3 dX6_init_35 q655 (by first | decide | assumption | omega) rfl (by omega) ?_
  refine xw_at (a := (m + 4)) (by exact i3.1) ?_
  have hml : m < xsz h3 := xlt (by rw [i3.2.1]; decide)
  have tn4 : xtag (xNew h3 (xBlank 101 3 3128) 3128) m = 5 := (xtag_new hml).trans i3.2.1
  have on4 : xown (xNew h3 (xBlank 101 3 3128) 3128) m ≠ 0 := by rw [xown_new hml, i3.2.2.1]; decide
  refine xw_putR (o := (some (m + 4))) (pc := 37) fd_X6_19 (xfin_of (by decide) (by decide +kernel)) dX6_init_37 (by first | assumption | (simp [-List.getD_eq_getElem?_getD, xE_setI, xsz_setI, xsl_setI, xtag_setI, xown_setI, xlen_setI, xE_setR, xsz_setR, xsl_setR, xtag_setR, xown_setR, xlen_setR, xE_setW, xsz_setW, xsl_setW, xtag_setW, xown_setW, xlen_setW, xi_setR, xi_setW, xr_setI, xr_setW, xww_setI, xww_setR, xi_setI, xr_setR, xww_setW, xE_new, xsz_new, xsl_new, tg, og, tn1, on1, th1, oh1, tn2, on2, th2, oh2, tn3, on3, th3, oh3, tn4, on4, xsub]; done) | (simp [-List.getD_eq_getElem?_getD, xE_setI, xsz_setI, xsl_setI, xtag_setI, xown_setI, xlen_setI, xE_setR, xsz_setR, xsl_setR, xtag_setR, xown_setR, xlen_setR, xE_setW, xsz_setW, xsl_setW, xtag_setW, xown_setW, xlen_setW, xi_setR, xi_setW, xr_setI, xr_setW, xww_setI, xww_setR, xi_setI, xr_setR, xww_setW, xE_new, xsz_new, xsl_new, tg, og, tn1, on1, th1, oh1, tn2, on2, th2, oh2, tn3, on3, th3, oh3, tn4, on4] <;> rfl)) (by first | assumption | (simp [-List.getD_eq_getElem?_getD, xE_setI, xsz_setI, xsl_setI, xtag_setI, xown_setI, xlen_setI, xE_setR, xsz_setR, xsl_setR, xtag_setR, xown_setR, xlen_setR, xE_setW, xsz_setW, xsl_setW, xtag_setW, xown_setW, xlen_setW, xi_setR, xi_setW, xr_setI, xr_setW, xww_setI, xww_setR, xi_setI, xr_setR, xww_setW, xE_new, xsz_new, xsl_new, tg, og, tn1, on1, th1, oh1, tn2, on2, th2, oh2, tn3, on3, th3, oh3, tn4, on4]; done) | (simp [-List.getD_eq_getElem?_getD, xE_setI, xsz_setI, xsl_setI, xtag_setI, xown_setI, xlen_setI, xE_setR, xsz_setR, xsl_setR, xtag_setR, xown_setR, xlen_setR, xE_setW, xsz_setW, xsl_setW, xtag_setW, xown_setW, xlen_setW, xi_setR, xi_setW, xr_setI, xr_setW, xww_setI, xww_setR, xi_setI, xr_setR, xww_setW, xE_new, xsz_new, xsl_new, tg, og, tn1, on1, th1, oh1, tn2, on2, th2, oh2, tn3, on3, th3, oh3, tn4, on4]; assumption)) rfl ?_
  have i4 : xIn (xsetR (xNew h3 (xBlank 101 3 3128) 3128) m 4 (some (m + 4))) m 5 _ := i3.step (t := 0) (by decide) (by decide) (show xmA 4 = some (4, 0, 3128) from rfl)
  have f4 : xFr (oEq 3) _ g (xsetR (xNew h3 (xBlank 101 3 3128) 3128) m 4 (some (m + 4))) := (f3.nw).sr (Or.inr (i3.2.2.1 ▸ (xown_new (xlt (by rw [i3.2.1]; decide)))))
  generalize (xsetR (xNew h3 (xBlank 101 3 3128) 3128) m 4 (some (m + 4))) = h4 at i4 f4 ⊢
  have th4 : xtag h4 m = 5 := i4.2.1
  have oh4 : xown h4 m ≠ 0 := by rw [i4.2.2.1]; decide
  refine xw_aload_n (pc := 40) dX6_init_40 0 rfl ?_
  refine xw_sipush (v := nI 180) (pc := 41) dX6_init_41 (by decide +kernel) ?_
  refine xw_newa_int (n := 180) (pc := 44) 3 dX6_init_44 q655 (by first | decide | assumption | omega) rfl (by omega) ?_
  refine xw_at (a := (m + 5)) (by exact i4.1) ?_
  have hml : m < xsz h4 := xlt (by rw [i4.2.1]; decide)
  have tn5 : xtag (xNew h4 (xBlank 101 3 180) 180) m = 5 := (xtag_new hml).trans i4.2.1
  have on5 : xown (xNew h4 (xBlank 101 3 180) 180) m ≠ 0 := by rw [xown_new hml, i4.2.2.1]; decide
  refine xw_putR (o := (some (m + 5))) (pc := 46) fd_X6_22 (xfin_of (by decide) (by decide +kernel)) dX6_init_46 (by first | assumption | (simp [-List.getD_eq_getElem?_getD, xE_setI, xsz_setI, xsl_setI, xtag_setI, xown_setI, xlen_setI, xE_setR, xsz_setR, xsl_setR, xtag_setR, xown_setR, xlen_setR, xE_setW, xsz_setW, xsl_setW, xtag_setW, xown_setW, xlen_setW, xi_setR, xi_setW, xr_setI, xr_setW, xww_setI, xww_setR, xi_setI, xr_setR, xww_setW, xE_new, xsz_new, xsl_new, tg, og, tn1, on1, th1, oh1, tn2, on2, th2, oh2, tn3, on3, th3, oh3, tn4, on4, th4, oh4, tn5, on5, xsub]; done) | (simp [-List.getD_eq_getElem?_getD, xE_setI, xsz_setI, xsl_setI, xtag_setI, xown_setI, xlen_setI, xE_setR, xsz_setR, xsl_setR, xtag_setR, xown_setR, xlen_setR, xE_setW, xsz_setW, xsl_setW, xtag_setW, xown_setW, xlen_setW, xi_setR, xi_setW, xr_setI, xr_setW, xww_setI, xww_setR, xi_setI, xr_setR, xww_setW, xE_new, xsz_new, xsl_new, tg, og, tn1, on1, th1, oh1, tn2, on2, th2, oh2, tn3, on3, th3, oh3, tn4, on4, th4, oh4, tn5, on5] <;> rfl)) (by first | assumption | (simp [-List.getD_eq_getElem?_getD, xE_setI, xsz_setI, xsl_setI, xtag_setI, xown_setI, xlen_setI, xE_setR, xsz_setR, xsl_setR, xtag_setR, xown_setR, xlen_setR, xE_setW, xsz_setW, xsl_setW, xtag_setW, xown_setW, xlen_setW, xi_setR, xi_setW, xr_setI, xr_setW, xww_setI, xww_setR, xi_setI, xr_setR, xww_setW, xE_new, xsz_new, xsl_new, tg, og, tn1, on1, th1, oh1, tn2, on2, th2, oh2, tn3, on3, th3, oh3, tn4, on4, th4, oh4, tn5, on5]; done) | (simp [-List.getD_eq_getElem?_getD, xE_setI, xsz_setI, xsl_setI, xtag_setI, xown_setI, xlen_setI, xE_setR, xsz_setR, xsl_setR, xtag_setR, xown_setR, xlen_setR, xE_setW, xsz_setW, xsl_setW, xtag_setW, xown_setW, xlen_setW, xi_setR, xi_setW, xr_setI, xr_setW, xww_setI, xww_setR, xi_setI, xr_setR, xww_setW, xE_new, xsz_new, xsl_new, tg, og, tn1, on1, th1, oh1, tn2, on2, th2, oh2, tn3, on3, th3, oh3, tn4, on4, th4, oh4, tn5, on5]; assumption)) rfl ?_
  have i5 : xIn (xsetR (xNew h4 (xBlank 101 3 180) 180) m 10 (some (m + 5))) m 6 _ := i4.step (t := 0) (by decide) (by decide) (show xmA 5 = some (10, 0, 180) from rfl)
  have f5 : xFr (oEq 3) _ g (xsetR (xNew h4 (xBlank 101 3 180) 180) m 10 (some (m + 5))) := (f4.nw).sr (Or.inr (i4.2.2.1 ▸ (xown_new (xlt (by rw [i4.2.1]; decide)))))
  generalize (xsetR (xNew h4 (xBlank 101 3 180) 180) m 10 (some (m + 5))) = h5 at i5 f5 ⊢
  have th5 : xtag h5 m = 5 := i5.2.1
  have oh5 : xown h5 m ≠ 0 := by rw [i5.2.2.1]; decide
  refine xw_aload_n (pc := 49) dX6_init_49 0 rfl ?_
  refine xw_bipush (v := nI 16) (pc := 50) dX6_init_50 (by decide +kernel) ?_
  refine xw_newa_boolean (n := 16) (pc := 52) 3 dX6_init_52 q2350 (by first | decide | assumption | omega) rfl (by omega) ?_
  refine xw_at (a := (m + 6)) (by exact i5.1) ?_
  have hml : m < xsz h5 := xlt (by rw [i5.2.1]; decide)
  have tn6 : xtag (xNew h5 (xBlank 102 3 16) 16) m = 5 := (xtag_new hml).trans i5.2.1
  have on6 : xown (xNew h5 (xBlank 102 3 16) 16) m ≠ 0 := by rw [xown_new hml, i5.2.2.1]; decide
  refine xw_putR (o := (some (m + 6))) (pc := 54) fd_X6_25 (xfin_of (by decide) (by decide +kernel)) dX6_init_54 (by first | assumption | (simp [-List.getD_eq_getElem?_getD, xE_setI, xsz_setI, xsl_setI, xtag_setI, xown_setI, xlen_setI, xE_setR, xsz_setR, xsl_setR, xtag_setR, xown_setR, xlen_setR, xE_setW, xsz_setW, xsl_setW, xtag_setW, xown_setW, xlen_setW, xi_setR, xi_setW, xr_setI, xr_setW, xww_setI, xww_setR, xi_setI, xr_setR, xww_setW, xE_new, xsz_new, xsl_new, tg, og, tn1, on1, th1, oh1, tn2, on2, th2, oh2, tn3, on3, th3, oh3, tn4, on4, th4, oh4, tn5, on5, th5, oh5, tn6, on6, xsub]; done) | (simp [-List.getD_eq_getElem?_getD, xE_setI, xsz_setI, xsl_setI, xtag_setI, xown_setI, xlen_setI, xE_setR, xsz_setR, xsl_setR, xtag_setR, xown_setR, xlen_setR, xE_setW, xsz_setW, xsl_setW, xtag_setW, xown_setW, xlen_setW, xi_setR, xi_setW, xr_setI, xr_setW, xww_setI, xww_setR, xi_setI, xr_setR, xww_setW, xE_new, xsz_new, xsl_new, tg, og, tn1, on1, th1, oh1, tn2, on2, th2, oh2, tn3, on3, th3, oh3, tn4, on4, th4, oh4, tn5, on5, th5, oh5, tn6, on6] <;> rfl)) (by first | assumption | (simp [-List.getD_eq_getElem?_getD, xE_setI, xsz_setI, xsl_setI, xtag_setI, xown_setI, xlen_setI, xE_setR, xsz_setR, xsl_setR, xtag_setR, xown_setR, xlen_setR, xE_setW, xsz_setW, xsl_setW, xtag_setW, xown_setW, xlen_setW, xi_setR, xi_setW, xr_setI, xr_setW, xww_setI, xww_setR, xi_setI, xr_setR, xww_setW, xE_new, xsz_new, xsl_new, tg, og, tn1, on1, th1, oh1, tn2, on2, th2, oh2, tn3, on3, th3, oh3, tn4, on4, th4, oh4, tn5, on5, th5, oh5, tn6, on6]; done) | (simp [-List.getD_eq_getElem?_getD, xE_setI, xsz_setI, xsl_setI, xtag_setI, xown_setI, xlen_setI, xE_setR, xsz_setR, xsl_setR, xtag_setR, xown_setR, xlen_setR, xE_setW, xsz_setW, xsl_setW, xtag_setW, xown_setW, xlen_setW, xi_setR, xi_setW, xr_setI, xr_setW, xww_setI, xww_setR, xi_setI, xr_setR, xww_setW, xE_new, xsz_new, xsl_new, tg, og, tn1, on1, th1, oh1, tn2, on2, th2, oh2, tn3, on3, th3, oh3, tn4, on4, th4, oh4, tn5, on5, th5, oh5, tn6, on6]; assumption)) rfl ?_
  have i6 : xIn (xsetR (xNew h5 (xBlank 102 3 16) 16) m 12 (some (m + 6))) m 7 _ := i5.step (t := 1) (by decide) (by decide) (show xmA 6 = some (12, 1, 16) from rfl)
  have f6 : xFr (oEq 3) _ g (xsetR (xNew h5 (xBlank 102 3 16) 16) m 12 (some (m + 6))) := (f5.nw).sr (Or.inr (i5.2.2.1 ▸ (xown_new (xlt (by rw [i5.2.1]; decide)))))
  generalize (xsetR (xNew h5 (xBlank 102 3 16) 16) m 12 (some (m + 6))) = h6 at i6 f6 ⊢
  have th6 : xtag h6 m = 5 := i6.2.1
  have oh6 : xown h6 m ≠ 0 := by rw [i6.2.2.1]; decide
  refine xw_aload_n (pc := 57) dX6_init_57 0 rfl ?_
  refine xw_bipush (v := nI 16) (pc := 58) dX6_init_58 (by decide +kernel) ?_
  refine xw_newa_boolean (n := 16) (pc := 60) 3 dX6_init_60 q2350 (by first | decide | assumption | omega) rfl (by omega) ?_
  refine xw_at (a := (m + 7)) (by exact i6.1) ?_
  have hml : m < xsz h6 := xlt (by rw [i6.2.1]; decide)
  have tn7 : xtag (xNew h6 (xBlank 102 3 16) 16) m = 5 := (xtag_new hml).trans i6.2.1
  have on7 : xown (xNew h6 (xBlank 102 3 16) 16) m ≠ 0 := by rw [xown_new hml, i6.2.2.1]; decide
  refine xw_putR (o := (some (m + 7))) (pc := 62) fd_X6_29 (xfin_of (by decide) (by decide +kernel)) dX6_init_62 (by first | assumption | (simp [-List.getD_eq_getElem?_getD, xE_setI, xsz_setI, xsl_setI, xtag_setI, xown_setI, xlen_setI, xE_setR, xsz_setR, xsl_setR, xtag_setR, xown_setR, xlen_setR, xE_setW, xsz_setW, xsl_setW, xtag_setW, xown_setW, xlen_setW, xi_setR, xi_setW, xr_setI, xr_setW, xww_setI, xww_setR, xi_setI, xr_setR, xww_setW, xE_new, xsz_new, xsl_new, tg, og, tn1, on1, th1, oh1, tn2, on2, th2, oh2, tn3, on3, th3, oh3, tn4, on4, th4, oh4, tn5, on5, th5, oh5, tn6, on6, th6, oh6, tn7, on7, xsub]; done) | (simp [-List.getD_eq_getElem?_getD, xE_setI, xsz_setI, xsl_setI, xtag_setI, xown_setI, xlen_setI, xE_setR, xsz_setR, xsl_setR, xtag_setR, xown_setR, xlen_setR, xE_setW, xsz_setW, xsl_setW, xtag_setW, xown_setW, xlen_setW, xi_setR, xi_setW, xr_setI, xr_setW, xww_setI, xww_setR, xi_setI, xr_setR, xww_setW, xE_new, xsz_new, xsl_new, tg, og, tn1, on1, th1, oh1, tn2, on2, th2, oh2, tn3, on3, th3, oh3, tn4, on4, th4, oh4, tn5, on5, th5, oh5, tn6, on6, th6, oh6, tn7, on7] <;> rfl)) (by first | assumption | (simp [-List.getD_eq_getElem?_getD, xE_setI, xsz_setI, xsl_setI, xtag_setI, xown_setI, xlen_setI, xE_setR, xsz_setR, xsl_setR, xtag_setR, xown_setR, xlen_setR, xE_setW, xsz_setW, xsl_setW, xtag_setW, xown_setW, xlen_setW, xi_setR, xi_setW, xr_setI, xr_setW, xww_setI, xww_setR, xi_setI, xr_setR, xww_setW, xE_new, xsz_new, xsl_new, tg, og, tn1, on1, th1, oh1, tn2, on2, th2, oh2, tn3, on3, th3, oh3, tn4, on4, th4, oh4, tn5, on5, th5, oh5, tn6, on6, th6, oh6, tn7, on7]; done) | (simp [-List.getD_eq_getElem?_getD, xE_setI, xsz_setI, xsl_setI, xtag_setI, xown_setI, xlen_setI, xE_setR, xsz_setR, xsl_setR, xtag_setR, xown_setR, xlen_setR, xE_setW, xsz_setW, xsl_setW, xtag_setW, xown_setW, xlen_setW, xi_setR, xi_setW, xr_setI, xr_setW, xww_setI, xww_setR, xi_setI, xr_setR, xww_setW, xE_new, xsz_new, xsl_new, tg, og, tn1, on1, th1, oh1, tn2, on2, th2, oh2, tn3, on3, th3, oh3, tn4, on4, th4, oh4, tn5, on5, th5, oh5, tn6, on6, th6, oh6, tn7, on7]; assumption)) rfl ?_
  have i7 : xIn (xsetR (xNew h6 (xBlank 102 3 16) 16) m 13 (some (m + 7))) m 8 _ := i6.step (t := 1) (by decide) (by decide) (show xmA 7 = some (13, 1, 16) from rfl)
  have f7 : xFr (oEq 3) _ g (xsetR (xNew h6 (xBlank 102 3 16) 16) m 13 (some (m + 7))) := (f6.nw).sr (Or.inr (i6.2.2.1 ▸ (xown_new (xlt (by rw [i6.2.1]; decide)))))
  generalize (xsetR (xNew h6 (xBlank 102 3 16) 16) m 13 (some (m + 7))) = h7 at i7 f7 ⊢
  have th7 : xtag h7 m = 5 := i7.2.1
  have oh7 : xown h7 m ≠ 0 := by rw [i7.2.2.1]; decide
  refine xw_aload_n (pc := 65) dX6_init_65 0 rfl ?_
  refine xw_iconst (v := -1) (pc := 66) dX6_init_66 (by decide +kernel) ?_
  refine xw_putI (pc := 67) fd_X6_32 (xfin_of (by decide) (by decide +kernel)) dX6_init_67 (by first | assumption | (simp [-List.getD_eq_getElem?_getD, xE_setI, xsz_setI, xsl_setI, xtag_setI, xown_setI, xlen_setI, xE_setR, xsz_setR, xsl_setR, xtag_setR, xown_setR, xlen_setR, xE_setW, xsz_setW, xsl_setW, xtag_setW, xown_setW, xlen_setW, xi_setR, xi_setW, xr_setI, xr_setW, xww_setI, xww_setR, xi_setI, xr_setR, xww_setW, xE_new, xsz_new, xsl_new, tg, og, tn1, on1, th1, oh1, tn2, on2, th2, oh2, tn3, on3, th3, oh3, tn4, on4, th4, oh4, tn5, on5, th5, oh5, tn6, on6, th6, oh6, tn7, on7, th7, oh7, xsub]; done) | (simp [-List.getD_eq_getElem?_getD, xE_setI, xsz_setI, xsl_setI, xtag_setI, xown_setI, xlen_setI, xE_setR, xsz_setR, xsl_setR, xtag_setR, xown_setR, xlen_setR, xE_setW, xsz_setW, xsl_setW, xtag_setW, xown_setW, xlen_setW, xi_setR, xi_setW, xr_setI, xr_setW, xww_setI, xww_setR, xi_setI, xr_setR, xww_setW, xE_new, xsz_new, xsl_new, tg, og, tn1, on1, th1, oh1, tn2, on2, th2, oh2, tn3, on3, th3, oh3, tn4, on4, th4, oh4, tn5, on5, th5, oh5, tn6, on6, th6, oh6, tn7, on7, th7, oh7] <;> rfl)) (by first | assumption | (simp [-List.getD_eq_getElem?_getD, xE_setI, xsz_setI, xsl_setI, xtag_setI, xown_setI, xlen_setI, xE_setR, xsz_setR, xsl_setR, xtag_setR, xown_setR, xlen_setR, xE_setW, xsz_setW, xsl_setW, xtag_setW, xown_setW, xlen_setW, xi_setR, xi_setW, xr_setI, xr_setW, xww_setI, xww_setR, xi_setI, xr_setR, xww_setW, xE_new, xsz_new, xsl_new, tg, og, tn1, on1, th1, oh1, tn2, on2, th2, oh2, tn3, on3, th3, oh3, tn4, on4, th4, oh4, tn5, on5, th5, oh5, tn6, on6, th6, oh6, tn7, on7, th7, oh7]; done) | (simp [-List.getD_eq_getElem?_getD, xE_setI, xsz_setI, xsl_setI, xtag_setI, xown_setI, xlen_setI, xE_setR, xsz_setR, xsl_setR, xtag_setR, xown_setR, xlen_setR, xE_setW, xsz_setW, xsl_setW, xtag_setW, xown_setW, xlen_setW, xi_setR, xi_setW, xr_setI, xr_setW, xww_setI, xww_setR, xi_setI, xr_setR, xww_setW, xE_new, xsz_new, xsl_new, tg, og, tn1, on1, th1, oh1, tn2, on2, th2, oh2, tn3, on3, th3, oh3, tn4, on4, th4, oh4, tn5, on5, th5, oh5, tn6, on6, th6, oh6, tn7, on7, th7, oh7]; assumption)) ?_
  have i8 : xIn (xsetI h7 m 14 (-1)) m 8 _ := i7.put (j := 14) (v := (-1))
  have f8 : xFr (oEq 3) _ g (xsetI h7 m 14 (-1)) := f7.si (Or.inr i7.2.2.1)
  generalize (xsetI h7 m 14 (-1)) = h8 at i8 f8 ⊢
  have th8 : xtag h8 m = 5 := i8.2.1
  have oh8 : xown h8 m ≠ 0 := by rw [i8.2.2.1]; decide
  refine xw_aload_n (pc := 70) dX6_init_70 0 rfl ?_
  refine xw_bipush (v := nI 16) (pc := 71) dX6_init_71 (by decide +kernel) ?_
  refine xw_newa_int (n := 16) (pc := 73) 3 dX6_init_73 q655 (by first | decide | assumption | omega) rfl (by omega) ?_
  refine xw_at (a := (m + 8)) (by exact i8.1) ?_
  have hml : m < xsz h8 := xlt (by rw [i8.2.1]; decide)
  have tn8 : xtag (xNew h8 (xBlank 101 3 16) 16) m = 5 := (xtag_new hml).trans i8.2.1
  have on8 : xown (xNew h8 (xBlank 101 3 16) 16) m ≠ 0 := by rw [xown_new hml, i8.2.2.1]; decide
  refine xw_putR (o := (some (m + 8))) (pc := 75) fd_X6_36 (xfin_of (by decide) (by decide +kernel)) dX6_init_75 (by first | assumption | (simp [-List.getD_eq_getElem?_getD, xE_setI, xsz_setI, xsl_setI, xtag_setI, xown_setI, xlen_setI, xE_setR, xsz_setR, xsl_setR, xtag_setR, xown_setR, xlen_setR, xE_setW, xsz_setW, xsl_setW, xtag_setW, xown_setW, xlen_setW, xi_setR, xi_setW, xr_setI, xr_setW, xww_setI, xww_setR, xi_setI, xr_setR, xww_setW, xE_new, xsz_new, xsl_new, tg, og, tn1, on1, th1, oh1, tn2, on2, th2, oh2, tn3, on3, th3, oh3, tn4, on4, th4, oh4, tn5, on5, th5, oh5, tn6, on6, th6, oh6, tn7, on7, th7, oh7, th8, oh8, tn8, on8, xsub]; done) | (simp [-List.getD_eq_getElem?_getD, xE_setI, xsz_setI, xsl_setI, xtag_setI, xown_setI, xlen_setI, xE_setR, xsz_setR, xsl_setR, xtag_setR, xown_setR, xlen_setR, xE_setW, xsz_setW, xsl_setW, xtag_setW, xown_setW, xlen_setW, xi_setR, xi_setW, xr_setI, xr_setW, xww_setI, xww_setR, xi_setI, xr_setR, xww_setW, xE_new, xsz_new, xsl_new, tg, og, tn1, on1, th1, oh1, tn2, on2, th2, oh2, tn3, on3, th3, oh3, tn4, on4, th4, oh4, tn5, on5, th5, oh5, tn6, on6, th6, oh6, tn7, on7, th7, oh7, th8, oh8, tn8, on8] <;> rfl)) (by first | assumption | (simp [-List.getD_eq_getElem?_getD, xE_setI, xsz_setI, xsl_setI, xtag_setI, xown_setI, xlen_setI, xE_setR, xsz_setR, xsl_setR, xtag_setR, xown_setR, xlen_setR, xE_setW, xsz_setW, xsl_setW, xtag_setW, xown_setW, xlen_setW, xi_setR, xi_setW, xr_setI, xr_setW, xww_setI, xww_setR, xi_setI, xr_setR, xww_setW, xE_new, xsz_new, xsl_new, tg, og, tn1, on1, th1, oh1, tn2, on2, th2, oh2, tn3, on3, th3, oh3, tn4, on4, th4, oh4, tn5, on5, th5, oh5, tn6, on6, th6, oh6, tn7, on7, th7, oh7, th8, oh8, tn8, on8]; done) | (simp [-List.getD_eq_getElem?_getD, xE_setI, xsz_setI, xsl_setI, xtag_setI, xown_setI, xlen_setI, xE_setR, xsz_setR, xsl_setR, xtag_setR, xown_setR, xlen_setR, xE_setW, xsz_setW, xsl_setW, xtag_setW, xown_setW, xlen_setW, xi_setR, xi_setW, xr_setI, xr_setW, xww_setI, xww_setR, xi_setI, xr_setR, xww_setW, xE_new, xsz_new, xsl_new, tg, og, tn1, on1, th1, oh1, tn2, on2, th2, oh2, tn3, on3, th3, oh3, tn4, on4, th4, oh4, tn5, on5, th5, oh5, tn6, on6, th6, oh6, tn7, on7, th7, oh7, th8, oh8, tn8, on8]; assumption)) rfl ?_
  have i9 : xIn (xsetR (xNew h8 (xBlank 101 3 16) 16) m 15 (some (m + 8))) m 9 _ := i8.step (t := 0) (by decide) (by decide) (show xmA 8 = some (15, 0, 16) from rfl)
  have f9 : xFr (oEq 3) _ g (xsetR (xNew h8 (xBlank 101 3 16) 16) m 15 (some (m + 8))) := (f8.nw).sr (Or.inr (i8.2.2.1 ▸ (xown_new (xlt (by rw [i8.2.1]; decide)))))
  generalize (xsetR (xNew h8 (xBlank 101 3 16) 16) m 15 (some (m + 8))) = h9 at i9 f9 ⊢
  have th9 : xtag h9 m = 5 := i9.2.1
  have oh9 : xown h9 m ≠ 0 := by rw [i9.2.2.1]; decide
  refine xw_aload_n (pc := 78) dX6_init_78 0 rfl ?_
  refine xw_iconst (v := nI 4) (pc := 79) dX6_init_79 rfl ?_
  refine xw_putI (pc := 80) fd_X6_39 (xfin_of (by decide) (by decide +kernel)) dX6_init_80 (by first | assumption | (simp [-List.getD_eq_getElem?_getD, xE_setI, xsz_setI, xsl_setI, xtag_setI, xown_setI, xlen_setI, xE_setR, xsz_setR, xsl_setR, xtag_setR, xown_setR, xlen_setR, xE_setW, xsz_setW, xsl_setW, xtag_setW, xown_setW, xlen_setW, xi_setR, xi_setW, xr_setI, xr_setW, xww_setI, xww_setR, xi_setI, xr_setR, xww_setW, xE_new, xsz_new, xsl_new, tg, og, tn1, on1, th1, oh1, tn2, on2, th2, oh2, tn3, on3, th3, oh3, tn4, on4, th4, oh4, tn5, on5, th5, oh5, tn6, on6, th6, oh6, tn7, on7, th7, oh7, th8, oh8, tn8, on8, th9, oh9, xsub]; done) | (simp [-List.getD_eq_getElem?_getD, xE_setI, xsz_setI, xsl_setI, xtag_setI, xown_setI, xlen_setI, xE_setR, xsz_setR, xsl_setR, xtag_setR, xown_setR, xlen_setR, xE_setW, xsz_setW, xsl_setW, xtag_setW, xown_setW, xlen_setW, xi_setR, xi_setW, xr_setI, xr_setW, xww_setI, xww_setR, xi_setI, xr_setR, xww_setW, xE_new, xsz_new, xsl_new, tg, og, tn1, on1, th1, oh1, tn2, on2, th2, oh2, tn3, on3, th3, oh3, tn4, on4, th4, oh4, tn5, on5, th5, oh5, tn6, on6, th6, oh6, tn7, on7, th7, oh7, th8, oh8, tn8, on8, th9, oh9] <;> rfl)) (by first | assumption | (simp [-List.getD_eq_getElem?_getD, xE_setI, xsz_setI, xsl_setI, xtag_setI, xown_setI, xlen_setI, xE_setR, xsz_setR, xsl_setR, xtag_setR, xown_setR, xlen_setR, xE_setW, xsz_setW, xsl_setW, xtag_setW, xown_setW, xlen_setW, xi_setR, xi_setW, xr_setI, xr_setW, xww_setI, xww_setR, xi_setI, xr_setR, xww_setW, xE_new, xsz_new, xsl_new, tg, og, tn1, on1, th1, oh1, tn2, on2, th2, oh2, tn3, on3, th3, oh3, tn4, on4, th4, oh4, tn5, on5, th5, oh5, tn6, on6, th6, oh6, tn7, on7, th7, oh7, th8, oh8, tn8, on8, th9, oh9]; done) | (simp [-List.getD_eq_getElem?_getD, xE_setI, xsz_setI, xsl_setI, xtag_setI, xown_setI, xlen_setI, xE_setR, xsz_setR, xsl_setR, xtag_setR, xown_setR, xlen_setR, xE_setW, xsz_setW, xsl_setW, xtag_setW, xown_setW, xlen_setW, xi_setR, xi_setW, xr_setI, xr_setW, xww_setI, xww_setR, xi_setI, xr_setR, xww_setW, xE_new, xsz_new, xsl_new, tg, og, tn1, on1, th1, oh1, tn2, on2, th2, oh2, tn3, on3, th3, oh3, tn4, on4, th4, oh4, tn5, on5, th5, oh5, tn6, on6, th6, oh6, tn7, on7, th7, oh7, th8, oh8, tn8, on8, th9, oh9]; assumption)) ?_
  have i10 : xIn (xsetI h9 m 17 (nI 4)) m 9 _ := i9.put (j := 17) (v := (nI 4))
  have f10 : xFr (oEq 3) _ g (xsetI h9 m 17 (nI 4)) := f9.si (Or.inr i9.2.2.1)
  generalize (xsetI h9 m 17 (nI 4)) = h10 at i10 f10 ⊢
  have th10 : xtag h10 m = 5 := i10.2.1
  have oh10 : xown h10 m ≠ 0 := by rw [i10.2.2.1]; decide
  refine xw_aload_n (pc := 83) dX6_init_83 0 rfl ?_
  refine xw_bipush (v := nI 18) (pc := 84) dX6_init_84 (by decide +kernel) ?_
  refine xw_newa_int (n := 18) (pc := 86) 3 dX6_init_86 q655 (by first | decide | assumption | omega) rfl (by omega) ?_
  refine xw_at (a := (m + 9)) (by exact i10.1) ?_
  have hml : m < xsz h10 := xlt (by rw [i10.2.1]; decide)
  have tn9 : xtag (xNew h10 (xBlank 101 3 18) 18) m = 5 := (xtag_new hml).trans i10.2.1
  have on9 : xown (xNew h10 (xBlank 101 3 18) 18) m ≠ 0 := by rw [xown_new hml, i10.2.2.1]; decide
  refine xw_putR (o := (some (m + 9))) (pc := 88) fd_X6_42 (xfin_of (by decide) (by decide +kernel)) dX6_init_88 (by first | assumption | (simp [-List.getD_eq_getElem?_getD, xE_setI, xsz_setI, xsl_setI, xtag_setI, xown_setI, xlen_setI, xE_setR, xsz_setR, xsl_setR, xtag_setR, xown_setR, xlen_setR, xE_setW, xsz_setW, xsl_setW, xtag_setW, xown_setW, xlen_setW, xi_setR, xi_setW, xr_setI, xr_setW, xww_setI, xww_setR, xi_setI, xr_setR, xww_setW, xE_new, xsz_new, xsl_new, tg, og, tn1, on1, th1, oh1, tn2, on2, th2, oh2, tn3, on3, th3, oh3, tn4, on4, th4, oh4, tn5, on5, th5, oh5, tn6, on6, th6, oh6, tn7, on7, th7, oh7, th8, oh8, tn8, on8, th9, oh9, th10, oh10, tn9, on9, xsub]; done) | (simp [-List.getD_eq_getElem?_getD, xE_setI, xsz_setI, xsl_setI, xtag_setI, xown_setI, xlen_setI, xE_setR, xsz_setR, xsl_setR, xtag_setR, xown_setR, xlen_setR, xE_setW, xsz_setW, xsl_setW, xtag_setW, xown_setW, xlen_setW, xi_setR, xi_setW, xr_setI, xr_setW, xww_setI, xww_setR, xi_setI, xr_setR, xww_setW, xE_new, xsz_new, xsl_new, tg, og, tn1, on1, th1, oh1, tn2, on2, th2, oh2, tn3, on3, th3, oh3, tn4, on4, th4, oh4, tn5, on5, th5, oh5, tn6, on6, th6, oh6, tn7, on7, th7, oh7, th8, oh8, tn8, on8, th9, oh9, th10, oh10, tn9, on9] <;> rfl)) (by first | assumption | (simp [-List.getD_eq_getElem?_getD, xE_setI, xsz_setI, xsl_setI, xtag_setI, xown_setI, xlen_setI, xE_setR, xsz_setR, xsl_setR, xtag_setR, xown_setR, xlen_setR, xE_setW, xsz_setW, xsl_setW, xtag_setW, xown_setW, xlen_setW, xi_setR, xi_setW, xr_setI, xr_setW, xww_setI, xww_setR, xi_setI, xr_setR, xww_setW, xE_new, xsz_new, xsl_new, tg, og, tn1, on1, th1, oh1, tn2, on2, th2, oh2, tn3, on3, th3, oh3, tn4, on4, th4, oh4, tn5, on5, th5, oh5, tn6, on6, th6, oh6, tn7, on7, th7, oh7, th8, oh8, tn8, on8, th9, oh9, th10, oh10, tn9, on9]; done) | (simp [-List.getD_eq_getElem?_getD, xE_setI, xsz_setI, xsl_setI, xtag_setI, xown_setI, xlen_setI, xE_setR, xsz_setR, xsl_setR, xtag_setR, xown_setR, xlen_setR, xE_setW, xsz_setW, xsl_setW, xtag_setW, xown_setW, xlen_setW, xi_setR, xi_setW, xr_setI, xr_setW, xww_setI, xww_setR, xi_setI, xr_setR, xww_setW, xE_new, xsz_new, xsl_new, tg, og, tn1, on1, th1, oh1, tn2, on2, th2, oh2, tn3, on3, th3, oh3, tn4, on4, th4, oh4, tn5, on5, th5, oh5, tn6, on6, th6, oh6, tn7, on7, th7, oh7, th8, oh8, tn8, on8, th9, oh9, th10, oh10, tn9, on9]; assumption)) rfl ?_
  have i11 : xIn (xsetR (xNew h10 (xBlank 101 3 18) 18) m 18 (some (m + 9))) m 10 _ := i10.step (t := 0) (by decide) (by decide) (show xmA 9 = some (18, 0, 18) from rfl)
  have f11 : xFr (oEq 3) _ g (xsetR (xNew h10 (xBlank 101 3 18) 18) m 18 (some (m + 9))) := (f10.nw).sr (Or.inr (i10.2.2.1 ▸ (xown_new (xlt (by rw [i10.2.1]; decide)))))
  generalize (xsetR (xNew h10 (xBlank 101 3 18) 18) m 18 (some (m + 9))) = h11 at i11 f11 ⊢
  have th11 : xtag h11 m = 5 := i11.2.1
  have oh11 : xown h11 m ≠ 0 := by rw [i11.2.2.1]; decide
  refine xw_aload_n (pc := 91) dX6_init_91 0 rfl ?_
  refine xw_bipush (v := nI 36) (pc := 92) dX6_init_92 (by decide +kernel) ?_
  refine xw_newa_float (n := 36) (pc := 94) 3 dX6_init_94 q1756 (by first | decide | assumption | omega) rfl (by omega) ?_
  refine xw_at (a := (m + 10)) (by exact i11.1) ?_
  have hml : m < xsz h11 := xlt (by rw [i11.2.1]; decide)
  have tn10 : xtag (xNew h11 (xBlank 105 3 36) 36) m = 5 := (xtag_new hml).trans i11.2.1
  have on10 : xown (xNew h11 (xBlank 105 3 36) 36) m ≠ 0 := by rw [xown_new hml, i11.2.2.1]; decide
  refine xw_putR (o := (some (m + 10))) (pc := 96) fd_X6_45 (xfin_of (by decide) (by decide +kernel)) dX6_init_96 (by first | assumption | (simp [-List.getD_eq_getElem?_getD, xE_setI, xsz_setI, xsl_setI, xtag_setI, xown_setI, xlen_setI, xE_setR, xsz_setR, xsl_setR, xtag_setR, xown_setR, xlen_setR, xE_setW, xsz_setW, xsl_setW, xtag_setW, xown_setW, xlen_setW, xi_setR, xi_setW, xr_setI, xr_setW, xww_setI, xww_setR, xi_setI, xr_setR, xww_setW, xE_new, xsz_new, xsl_new, tg, og, tn1, on1, th1, oh1, tn2, on2, th2, oh2, tn3, on3, th3, oh3, tn4, on4, th4, oh4, tn5, on5, th5, oh5, tn6, on6, th6, oh6, tn7, on7, th7, oh7, th8, oh8, tn8, on8, th9, oh9, th10, oh10, tn9, on9, th11, oh11, tn10, on10, xsub]; done) | (simp [-List.getD_eq_getElem?_getD, xE_setI, xsz_setI, xsl_setI, xtag_setI, xown_setI, xlen_setI, xE_setR, xsz_setR, xsl_setR, xtag_setR, xown_setR, xlen_setR, xE_setW, xsz_setW, xsl_setW, xtag_setW, xown_setW, xlen_setW, xi_setR, xi_setW, xr_setI, xr_setW, xww_setI, xww_setR, xi_setI, xr_setR, xww_setW, xE_new, xsz_new, xsl_new, tg, og, tn1, on1, th1, oh1, tn2, on2, th2, oh2, tn3, on3, th3, oh3, tn4, on4, th4, oh4, tn5, on5, th5, oh5, tn6, on6, th6, oh6, tn7, on7, th7, oh7, th8, oh8, tn8, on8, th9, oh9, th10, oh10, tn9, on9, th11, oh11, tn10, on10] <;> rfl)) (by first | assumption | (simp [-List.getD_eq_getElem?_getD, xE_setI, xsz_setI, xsl_setI, xtag_setI, xown_setI, xlen_setI, xE_setR, xsz_setR, xsl_setR, xtag_setR, xown_setR, xlen_setR, xE_setW, xsz_setW, xsl_setW, xtag_setW, xown_setW, xlen_setW, xi_setR, xi_setW, xr_setI, xr_setW, xww_setI, xww_setR, xi_setI, xr_setR, xww_setW, xE_new, xsz_new, xsl_new, tg, og, tn1, on1, th1, oh1, tn2, on2, th2, oh2, tn3, on3, th3, oh3, tn4, on4, th4, oh4, tn5, on5, th5, oh5, tn6, on6, th6, oh6, tn7, on7, th7, oh7, th8, oh8, tn8, on8, th9, oh9, th10, oh10, tn9, on9, th11, oh11, tn10, on10]; done) | (simp [-List.getD_eq_getElem?_getD, xE_setI, xsz_setI, xsl_setI, xtag_setI, xown_setI, xlen_setI, xE_setR, xsz_setR, xsl_setR, xtag_setR, xown_setR, xlen_setR, xE_setW, xsz_setW, xsl_setW, xtag_setW, xown_setW, xlen_setW, xi_setR, xi_setW, xr_setI, xr_setW, xww_setI, xww_setR, xi_setI, xr_setR, xww_setW, xE_new, xsz_new, xsl_new, tg, og, tn1, on1, th1, oh1, tn2, on2, th2, oh2, tn3, on3, th3, oh3, tn4, on4, th4, oh4, tn5, on5, th5, oh5, tn6, on6, th6, oh6, tn7, on7, th7, oh7, th8, oh8, tn8, on8, th9, oh9, th10, oh10, tn9, on9, th11, oh11, tn10, on10]; assumption)) rfl ?_
  have i12 : xIn (xsetR (xNew h11 (xBlank 105 3 36) 36) m 19 (some (m + 10))) m 11 _ := i11.step (t := 4) (by decide) (by decide) (show xmA 10 = some (19, 4, 36) from rfl)
  have f12 : xFr (oEq 3) _ g (xsetR (xNew h11 (xBlank 105 3 36) 36) m 19 (some (m + 10))) := (f11.nw).sr (Or.inr (i11.2.2.1 ▸ (xown_new (xlt (by rw [i11.2.1]; decide)))))
  generalize (xsetR (xNew h11 (xBlank 105 3 36) 36) m 19 (some (m + 10))) = h12 at i12 f12 ⊢
  have th12 : xtag h12 m = 5 := i12.2.1
  have oh12 : xown h12 m ≠ 0 := by rw [i12.2.2.1]; decide
  refine xw_aload_n (pc := 99) dX6_init_99 0 rfl ?_
  refine xw_iconst (v := nI 3) (pc := 100) dX6_init_100 rfl ?_
  refine xw_newa_int (n := 3) (pc := 101) 3 dX6_init_101 q655 (by first | decide | assumption | omega) rfl (by omega) ?_
  refine xw_at (a := (m + 11)) (by exact i12.1) ?_
  have hml : m < xsz h12 := xlt (by rw [i12.2.1]; decide)
  have tn11 : xtag (xNew h12 (xBlank 101 3 3) 3) m = 5 := (xtag_new hml).trans i12.2.1
  have on11 : xown (xNew h12 (xBlank 101 3 3) 3) m ≠ 0 := by rw [xown_new hml, i12.2.2.1]; decide
  refine xw_putR (o := (some (m + 11))) (pc := 103) fd_X6_49 (xfin_of (by decide) (by decide +kernel)) dX6_init_103 (by first | assumption | (simp [-List.getD_eq_getElem?_getD, xE_setI, xsz_setI, xsl_setI, xtag_setI, xown_setI, xlen_setI, xE_setR, xsz_setR, xsl_setR, xtag_setR, xown_setR, xlen_setR, xE_setW, xsz_setW, xsl_setW, xtag_setW, xown_setW, xlen_setW, xi_setR, xi_setW, xr_setI, xr_setW, xww_setI, xww_setR, xi_setI, xr_setR, xww_setW, xE_new, xsz_new, xsl_new, tg, og, tn1, on1, th1, oh1, tn2, on2, th2, oh2, tn3, on3, th3, oh3, tn4, on4, th4, oh4, tn5, on5, th5, oh5, tn6, on6, th6, oh6, tn7, on7, th7, oh7, th8, oh8, tn8, on8, th9, oh9, th10, oh10, tn9, on9, th11, oh11, tn10, on10, th12, oh12, tn11, on11, xsub]; done) | (simp [-List.getD_eq_getElem?_getD, xE_setI, xsz_setI, xsl_setI, xtag_setI, xown_setI, xlen_setI, xE_setR, xsz_setR, xsl_setR, xtag_setR, xown_setR, xlen_setR, xE_setW, xsz_setW, xsl_setW, xtag_setW, xown_setW, xlen_setW, xi_setR, xi_setW, xr_setI, xr_setW, xww_setI, xww_setR, xi_setI, xr_setR, xww_setW, xE_new, xsz_new, xsl_new, tg, og, tn1, on1, th1, oh1, tn2, on2, th2, oh2, tn3, on3, th3, oh3, tn4, on4, th4, oh4, tn5, on5, th5, oh5, tn6, on6, th6, oh6, tn7, on7, th7, oh7, th8, oh8, tn8, on8, th9, oh9, th10, oh10, tn9, on9, th11, oh11, tn10, on10, th12, oh12, tn11, on11] <;> rfl)) (by first | assumption | (simp [-List.getD_eq_getElem?_getD, xE_setI, xsz_setI, xsl_setI, xtag_setI, xown_setI, xlen_setI, xE_setR, xsz_setR, xsl_setR, xtag_setR, xown_setR, xlen_setR, xE_setW, xsz_setW, xsl_setW, xtag_setW, xown_setW, xlen_setW, xi_setR, xi_setW, xr_setI, xr_setW, xww_setI, xww_setR, xi_setI, xr_setR, xww_setW, xE_new, xsz_new, xsl_new, tg, og, tn1, on1, th1, oh1, tn2, on2, th2, oh2, tn3, on3, th3, oh3, tn4, on4, th4, oh4, tn5, on5, th5, oh5, tn6, on6, th6, oh6, tn7, on7, th7, oh7, th8, oh8, tn8, on8, th9, oh9, th10, oh10, tn9, on9, th11, oh11, tn10, on10, th12, oh12, tn11, on11]; done) | (simp [-List.getD_eq_getElem?_getD, xE_setI, xsz_setI, xsl_setI, xtag_setI, xown_setI, xlen_setI, xE_setR, xsz_setR, xsl_setR, xtag_setR, xown_setR, xlen_setR, xE_setW, xsz_setW, xsl_setW, xtag_setW, xown_setW, xlen_setW, xi_setR, xi_setW, xr_setI, xr_setW, xww_setI, xww_setR, xi_setI, xr_setR, xww_setW, xE_new, xsz_new, xsl_new, tg, og, tn1, on1, th1, oh1, tn2, on2, th2, oh2, tn3, on3, th3, oh3, tn4, on4, th4, oh4, tn5, on5, th5, oh5, tn6, on6, th6, oh6, tn7, on7, th7, oh7, th8, oh8, tn8, on8, th9, oh9, th10, oh10, tn9, on9, th11, oh11, tn10, on10, th12, oh12, tn11, on11]; assumption)) rfl ?_
  have i13 : xIn (xsetR (xNew h12 (xBlank 101 3 3) 3) m 20 (some (m + 11))) m 12 _ := i12.step (t := 0) (by decide) (by decide) (show xmA 11 = some (20, 0, 3) from rfl)
  have f13 : xFr (oEq 3) _ g (xsetR (xNew h12 (xBlank 101 3 3) 3) m 20 (some (m + 11))) := (f12.nw).sr (Or.inr (i12.2.2.1 ▸ (xown_new (xlt (by rw [i12.2.1]; decide)))))
  generalize (xsetR (xNew h12 (xBlank 101 3 3) 3) m 20 (some (m + 11))) = h13 at i13 f13 ⊢
  have th13 : xtag h13 m = 5 := i13.2.1
  have oh13 : xown h13 m ≠ 0 := by rw [i13.2.2.1]; decide
  refine xw_aload_n (pc := 106) dX6_init_106 0 rfl ?_
  refine xw_bipush (v := nI 60) (pc := 107) dX6_init_107 (by decide +kernel) ?_
  refine xw_newa_char (n := 60) (pc := 109) 3 dX6_init_109 q2351 (by first | decide | assumption | omega) rfl (by omega) ?_
  refine xw_at (a := (m + 12)) (by exact i13.1) ?_
  have hml : m < xsz h13 := xlt (by rw [i13.2.1]; decide)
  have tn12 : xtag (xNew h13 (xBlank 104 3 60) 60) m = 5 := (xtag_new hml).trans i13.2.1
  have on12 : xown (xNew h13 (xBlank 104 3 60) 60) m ≠ 0 := by rw [xown_new hml, i13.2.2.1]; decide
  refine xw_putR (o := (some (m + 12))) (pc := 111) fd_X6_52 (xfin_of (by decide) (by decide +kernel)) dX6_init_111 (by first | assumption | (simp [-List.getD_eq_getElem?_getD, xE_setI, xsz_setI, xsl_setI, xtag_setI, xown_setI, xlen_setI, xE_setR, xsz_setR, xsl_setR, xtag_setR, xown_setR, xlen_setR, xE_setW, xsz_setW, xsl_setW, xtag_setW, xown_setW, xlen_setW, xi_setR, xi_setW, xr_setI, xr_setW, xww_setI, xww_setR, xi_setI, xr_setR, xww_setW, xE_new, xsz_new, xsl_new, tg, og, tn1, on1, th1, oh1, tn2, on2, th2, oh2, tn3, on3, th3, oh3, tn4, on4, th4, oh4, tn5, on5, th5, oh5, tn6, on6, th6, oh6, tn7, on7, th7, oh7, th8, oh8, tn8, on8, th9, oh9, th10, oh10, tn9, on9, th11, oh11, tn10, on10, th12, oh12, tn11, on11, th13, oh13, tn12, on12, xsub]; done) | (simp [-List.getD_eq_getElem?_getD, xE_setI, xsz_setI, xsl_setI, xtag_setI, xown_setI, xlen_setI, xE_setR, xsz_setR, xsl_setR, xtag_setR, xown_setR, xlen_setR, xE_setW, xsz_setW, xsl_setW, xtag_setW, xown_setW, xlen_setW, xi_setR, xi_setW, xr_setI, xr_setW, xww_setI, xww_setR, xi_setI, xr_setR, xww_setW, xE_new, xsz_new, xsl_new, tg, og, tn1, on1, th1, oh1, tn2, on2, th2, oh2, tn3, on3, th3, oh3, tn4, on4, th4, oh4, tn5, on5, th5, oh5, tn6, on6, th6, oh6, tn7, on7, th7, oh7, th8, oh8, tn8, on8, th9, oh9, th10, oh10, tn9, on9, th11, oh11, tn10, on10, th12, oh12, tn11, on11, th13, oh13, tn12, on12] <;> rfl)) (by first | assumption | (simp [-List.getD_eq_getElem?_getD, xE_setI, xsz_setI, xsl_setI, xtag_setI, xown_setI, xlen_setI, xE_setR, xsz_setR, xsl_setR, xtag_setR, xown_setR, xlen_setR, xE_setW, xsz_setW, xsl_setW, xtag_setW, xown_setW, xlen_setW, xi_setR, xi_setW, xr_setI, xr_setW, xww_setI, xww_setR, xi_setI, xr_setR, xww_setW, xE_new, xsz_new, xsl_new, tg, og, tn1, on1, th1, oh1, tn2, on2, th2, oh2, tn3, on3, th3, oh3, tn4, on4, th4, oh4, tn5, on5, th5, oh5, tn6, on6, th6, oh6, tn7, on7, th7, oh7, th8, oh8, tn8, on8, th9, oh9, th10, oh10, tn9, on9, th11, oh11, tn10, on10, th12, oh12, tn11, on11, th13, oh13, tn12, on12]; done) | (simp [-List.getD_eq_getElem?_getD, xE_setI, xsz_setI, xsl_setI, xtag_setI, xown_setI, xlen_setI, xE_setR, xsz_setR, xsl_setR, xtag_setR, xown_setR, xlen_setR, xE_setW, xsz_setW, xsl_setW, xtag_setW, xown_setW, xlen_setW, xi_setR, xi_setW, xr_setI, xr_setW, xww_setI, xww_setR, xi_setI, xr_setR, xww_setW, xE_new, xsz_new, xsl_new, tg, og, tn1, on1, th1, oh1, tn2, on2, th2, oh2, tn3, on3, th3, oh3, tn4, on4, th4, oh4, tn5, on5, th5, oh5, tn6, on6, th6, oh6, tn7, on7, th7, oh7, th8, oh8, tn8, on8, th9, oh9, th10, oh10, tn9, on9, th11, oh11, tn10, on10, th12, oh12, tn11, on11, th13, oh13, tn12, on12]; assumption)) rfl ?_
  have i14 : xIn (xsetR (xNew h13 (xBlank 104 3 60) 60) m 21 (some (m + 12))) m 13 _ := i13.step (t := 3) (by decide) (by decide) (show xmA 12 = some (21, 3, 60) from rfl)
  have f14 : xFr (oEq 3) _ g (xsetR (xNew h13 (xBlank 104 3 60) 60) m 21 (some (m + 12))) := (f13.nw).sr (Or.inr (i13.2.2.1 ▸ (xown_new (xlt (by rw [i13.2.1]; decide)))))
  generalize (xsetR (xNew h13 (xBlank 104 3 60) 60) m 21 (some (m + 12))) = h14 at i14 f14 ⊢
  have th14 : xtag h14 m = 5 := i14.2.1
  have oh14 : xown h14 m ≠ 0 := by rw [i14.2.2.1]; decide
  refine xw_aload_n (pc := 114) dX6_init_114 0 rfl ?_
  refine xw_iconst (v := -1) (pc := 115) dX6_init_115 (by decide +kernel) ?_
  refine xw_putI (pc := 116) fd_X6_56 (xfin_of (by decide) (by decide +kernel)) dX6_init_116 (by first | assumption | (simp [-List.getD_eq_getElem?_getD, xE_setI, xsz_setI, xsl_setI, xtag_setI, xown_setI, xlen_setI, xE_setR, xsz_setR, xsl_setR, xtag_setR, xown_setR, xlen_setR, xE_setW, xsz_setW, xsl_setW, xtag_setW, xown_setW, xlen_setW, xi_setR, xi_setW, xr_setI, xr_setW, xww_setI, xww_setR, xi_setI, xr_setR, xww_setW, xE_new, xsz_new, xsl_new, tg, og, tn1, on1, th1, oh1, tn2, on2, th2, oh2, tn3, on3, th3, oh3, tn4, on4, th4, oh4, tn5, on5, th5, oh5, tn6, on6, th6, oh6, tn7, on7, th7, oh7, th8, oh8, tn8, on8, th9, oh9, th10, oh10, tn9, on9, th11, oh11, tn10, on10, th12, oh12, tn11, on11, th13, oh13, tn12, on12, th14, oh14, xsub]; done) | (simp [-List.getD_eq_getElem?_getD, xE_setI, xsz_setI, xsl_setI, xtag_setI, xown_setI, xlen_setI, xE_setR, xsz_setR, xsl_setR, xtag_setR, xown_setR, xlen_setR, xE_setW, xsz_setW, xsl_setW, xtag_setW, xown_setW, xlen_setW, xi_setR, xi_setW, xr_setI, xr_setW, xww_setI, xww_setR, xi_setI, xr_setR, xww_setW, xE_new, xsz_new, xsl_new, tg, og, tn1, on1, th1, oh1, tn2, on2, th2, oh2, tn3, on3, th3, oh3, tn4, on4, th4, oh4, tn5, on5, th5, oh5, tn6, on6, th6, oh6, tn7, on7, th7, oh7, th8, oh8, tn8, on8, th9, oh9, th10, oh10, tn9, on9, th11, oh11, tn10, on10, th12, oh12, tn11, on11, th13, oh13, tn12, on12, th14, oh14] <;> rfl)) (by first | assumption | (simp [-List.getD_eq_getElem?_getD, xE_setI, xsz_setI, xsl_setI, xtag_setI, xown_setI, xlen_setI, xE_setR, xsz_setR, xsl_setR, xtag_setR, xown_setR, xlen_setR, xE_setW, xsz_setW, xsl_setW, xtag_setW, xown_setW, xlen_setW, xi_setR, xi_setW, xr_setI, xr_setW, xww_setI, xww_setR, xi_setI, xr_setR, xww_setW, xE_new, xsz_new, xsl_new, tg, og, tn1, on1, th1, oh1, tn2, on2, th2, oh2, tn3, on3, th3, oh3, tn4, on4, th4, oh4, tn5, on5, th5, oh5, tn6, on6, th6, oh6, tn7, on7, th7, oh7, th8, oh8, tn8, on8, th9, oh9, th10, oh10, tn9, on9, th11, oh11, tn10, on10, th12, oh12, tn11, on11, th13, oh13, tn12, on12, th14, oh14]; done) | (simp [-List.getD_eq_getElem?_getD, xE_setI, xsz_setI, xsl_setI, xtag_setI, xown_setI, xlen_setI, xE_setR, xsz_setR, xsl_setR, xtag_setR, xown_setR, xlen_setR, xE_setW, xsz_setW, xsl_setW, xtag_setW, xown_setW, xlen_setW, xi_setR, xi_setW, xr_setI, xr_setW, xww_setI, xww_setR, xi_setI, xr_setR, xww_setW, xE_new, xsz_new, xsl_new, tg, og, tn1, on1, th1, oh1, tn2, on2, th2, oh2, tn3, on3, th3, oh3, tn4, on4, th4, oh4, tn5, on5, th5, oh5, tn6, on6, th6, oh6, tn7, on7, th7, oh7, th8, oh8, tn8, on8, th9, oh9, th10, oh10, tn9, on9, th11, oh11, tn10, on10, th12, oh12, tn11, on11, th13, oh13, tn12, on12, th14, oh14]; assumption)) ?_
  have i15 : xIn (xsetI h14 m 25 (-1)) m 13 _ := i14.put (j := 25) (v := (-1))
  have f15 : xFr (oEq 3) _ g (xsetI h14 m 25 (-1)) := f14.si (Or.inr i14.2.2.1)
  generalize (xsetI h14 m 25 (-1)) = h15 at i15 f15 ⊢
  have th15 : xtag h15 m = 5 := i15.2.1
  have oh15 : xown h15 m ≠ 0 := by rw [i15.2.2.1]; decide
  refine xw_aload_n (pc := 119) dX6_init_119 0 rfl ?_
  refine xw_sipush (v := nI 200) (pc := 120) dX6_init_120 (by decide +kernel) ?_
  refine xw_newa_char (n := 200) (pc := 123) 3 dX6_init_123 q2351 (by first | decide | assumption | omega) rfl (by omega) ?_
  refine xw_at (a := (m + 13)) (by exact i15.1) ?_
  have hml : m < xsz h15 := xlt (by rw [i15.2.1]; decide)
  have tn13 : xtag (xNew h15 (xBlank 104 3 200) 200) m = 5 := (xtag_new hml).trans i15.2.1
  have on13 : xown (xNew h15 (xBlank 104 3 200) 200) m ≠ 0 := by rw [xown_new hml, i15.2.2.1]; decide
  refine xw_putR (o := (some (m + 13))) (pc := 125) fd_X6_59 (xfin_of (by decide) (by decide +kernel)) dX6_init_125 (by first | assumption | (simp [-List.getD_eq_getElem?_getD, xE_setI, xsz_setI, xsl_setI, xtag_setI, xown_setI, xlen_setI, xE_setR, xsz_setR, xsl_setR, xtag_setR, xown_setR, xlen_setR, xE_setW, xsz_setW, xsl_setW, xtag_setW, xown_setW, xlen_setW, xi_setR, xi_setW, xr_setI, xr_setW, xww_setI, xww_setR, xi_setI, xr_setR, xww_setW, xE_new, xsz_new, xsl_new, tg, og, tn1, on1, th1, oh1, tn2, on2, th2, oh2, tn3, on3, th3, oh3, tn4, on4, th4, oh4, tn5, on5, th5, oh5, tn6, on6, th6, oh6, tn7, on7, th7, oh7, th8, oh8, tn8, on8, th9, oh9, th10, oh10, tn9, on9, th11, oh11, tn10, on10, th12, oh12, tn11, on11, th13, oh13, tn12, on12, th14, oh14, th15, oh15, tn13, on13, xsub]; done) | (simp [-List.getD_eq_getElem?_getD, xE_setI, xsz_setI, xsl_setI, xtag_setI, xown_setI, xlen_setI, xE_setR, xsz_setR, xsl_setR, xtag_setR, xown_setR, xlen_setR, xE_setW, xsz_setW, xsl_setW, xtag_setW, xown_setW, xlen_setW, xi_setR, xi_setW, xr_setI, xr_setW, xww_setI, xww_setR, xi_setI, xr_setR, xww_setW, xE_new, xsz_new, xsl_new, tg, og, tn1, on1, th1, oh1, tn2, on2, th2, oh2, tn3, on3, th3, oh3, tn4, on4, th4, oh4, tn5, on5, th5, oh5, tn6, on6, th6, oh6, tn7, on7, th7, oh7, th8, oh8, tn8, on8, th9, oh9, th10, oh10, tn9, on9, th11, oh11, tn10, on10, th12, oh12, tn11, on11, th13, oh13, tn12, on12, th14, oh14, th15, oh15, tn13, on13] <;> rfl)) (by first | assumption | (simp [-List.getD_eq_getElem?_getD, xE_setI, xsz_setI, xsl_setI, xtag_setI, xown_setI, xlen_setI, xE_setR, xsz_setR, xsl_setR, xtag_setR, xown_setR, xlen_setR, xE_setW, xsz_setW, xsl_setW, xtag_setW, xown_setW, xlen_setW, xi_setR, xi_setW, xr_setI, xr_setW, xww_setI, xww_setR, xi_setI, xr_setR, xww_setW, xE_new, xsz_new, xsl_new, tg, og, tn1, on1, th1, oh1, tn2, on2, th2, oh2, tn3, on3, th3, oh3, tn4, on4, th4, oh4, tn5, on5, th5, oh5, tn6, on6, th6, oh6, tn7, on7, th7, oh7, th8, oh8, tn8, on8, th9, oh9, th10, oh10, tn9, on9, th11, oh11, tn10, on10, th12, oh12, tn11, on11, th13, oh13, tn12, on12, th14, oh14, th15, oh15, tn13, on13]; done) | (simp [-List.getD_eq_getElem?_getD, xE_setI, xsz_setI, xsl_setI, xtag_setI, xown_setI, xlen_setI, xE_setR, xsz_setR, xsl_setR, xtag_setR, xown_setR, xlen_setR, xE_setW, xsz_setW, xsl_setW, xtag_setW, xown_setW, xlen_setW, xi_setR, xi_setW, xr_setI, xr_setW, xww_setI, xww_setR, xi_setI, xr_setR, xww_setW, xE_new, xsz_new, xsl_new, tg, og, tn1, on1, th1, oh1, tn2, on2, th2, oh2, tn3, on3, th3, oh3, tn4, on4, th4, oh4, tn5, on5, th5, oh5, tn6, on6, th6, oh6, tn7, on7, th7, oh7, th8, oh8, tn8, on8, th9, oh9, th10, oh10, tn9, on9, th11, oh11, tn10, on10, th12, oh12, tn11, on11, th13, oh13, tn12, on12, th14, oh14, th15, oh15, tn13, on13]; assumption)) rfl ?_
  have i16 : xIn (xsetR (xNew h15 (xBlank 104 3 200) 200) m 32 (some (m + 13))) m 14 _ := i15.step (t := 3) (by decide) (by decide) (show xmA 13 = some (32, 3, 200) from rfl)
  have f16 : xFr (oEq 3) _ g (xsetR (xNew h15 (xBlank 104 3 200) 200) m 32 (some (m + 13))) := (f15.nw).sr (Or.inr (i15.2.2.1 ▸ (xown_new (xlt (by rw [i15.2.1]; decide)))))
  generalize (xsetR (xNew h15 (xBlank 104 3 200) 200) m 32 (some (m + 13))) = h16 at i16 f16 ⊢
  have th16 : xtag h16 m = 5 := i16.2.1
  have oh16 : xown h16 m ≠ 0 := by rw [i16.2.2.1]; decide
  obtain ⟨hM, h3, he⟩ := i16.mod
  refine XW.eqv he.symm ?_
  refine xw_aload_n (pc := 128) dX6_init_128 0 rfl ?_
  refine xm_get (p := 1) (pc := 129) hM fd_X6_9 dX6_init_129 rfl ?_
  refine xw_iconst (v := nI 0) (pc := 132) dX6_init_132 rfl ?_
  refine xw_iconst (v := nI 1) (pc := 133) dX6_init_133 rfl ?_
  refine xm_iast (pc := 134) hM dX6_init_134 rfl (by omega) ?_
  refine xw_aload_n (pc := 135) dX6_init_135 0 rfl ?_
  refine xm_get (p := 1) (pc := 136) hM fd_X6_9 dX6_init_136 rfl ?_
  refine xw_iconst (v := nI 3) (pc := 139) dX6_init_139 rfl ?_
  refine xw_iconst (v := -1) (pc := 140) dX6_init_140 (by decide +kernel) ?_
  refine xm_iast (pc := 141) hM dX6_init_141 rfl (by omega) ?_
  refine xw_iconst (v := nI 0) (pc := 142) dX6_init_142 rfl ?_
  refine xw_istore_n (l' := [(1, _), (0, _)]) (pc := 143) dX6_init_143 rfl (by decide) rfl ?_
  rw [iS_0]
  refine lp9_X6_init hM ?_ 7 0 (by omega) (by omega)
  refine xw_iconst (v := nI 0) (pc := 165) dX6_init_165 rfl ?_
  refine xw_istore_n (l' := [(1, _), (0, _)]) (pc := 166) dX6_init_166 rfl (by decide) rfl ?_
  refine lp11_X6_init hM ?_ 4 0 (by omega) (by omega)
  refine xw_vret (pc := 185) dX6_init_185 rfl ?_
  have eF : (fun i => if i = 25 then -1 else (fun i => if i = 17 then nI 4 else (fun i => if i = 14 then -1 else (fun _ => (0 : Int32)) i) i) i) = iF := rfl
  exact ⟨rfl, h16, rfl, hM, h3, f16.sub (fun _ h => h) (by decide)⟩
