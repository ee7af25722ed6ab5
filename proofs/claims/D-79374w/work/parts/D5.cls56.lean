/-! CLASS 56: the reader made; its head -/
set_option maxRecDepth 100000
def hdC (e : Nat) : Nat := if e = 0 then 112 else if e = 1 then 102 else 108
theorem xw_headE {M : xM} {d pc e : Nat} {l : List (Nat × Value)} {rest : List Value} {g : xG} {Q : Option Value ⊕ Nat → xG → Prop} {idx : Nat} (hE : xCn g) (he : e < 3) (hd : decode M.2.1 pc = .ok (.invokevirtual idx, 3)) (hl : Cond.methodLink M.1.cls idx ⟨"PolicyNotation$Effect", "head", "()C"⟩ ∈ lw_all) (hr : (rest.map fun v => v.category).sum ≤ 8) (k : XW M (d + 1) (pc + 3) l (.int (nI (hdC e)) :: rest) g Q) : XW M (d + 1) pc l (.ref ((xE g).2.2.1 e) :: rest) g Q := by
  have h9 : e = 0 ∨ e = 1 ∨ e = 2 := by omega
  rcases h9 with rfl | rfl | rfl
  · exact xw_head0 (hE 0 (by decide)).1 hl hd hr k
  · exact xw_head1 (hE 1 (by decide)).1 hl hd hr k
  · exact xw_head2 (hE 2 (by decide)).1 hl hd hr k
theorem effK {g : xG} {e : Nat} (he : e < 3) : xref (effO g (nI e)) = .ref ((xE g).2.2.1 e) := by
  have h9 : e = 0 ∨ e = 1 ∨ e = 2 := by omega
  rcases h9 with rfl | rfl | rfl
  · unfold effO; rw [if_pos rfl]; rfl
  · unfold effO; rw [if_neg (by decide), if_pos rfl]; rfl
  · unfold effO; rw [if_neg (by decide), if_neg (by decide), if_pos rfl]; rfl
theorem SP_X1_effectOfK {d : Nat} {g : xG} {e : Nat} (he : e < 3) : XM M_X1_effectOf d [.int (nI e)] g (xOne (some (.ref ((xE g).2.2.1 e))) g) := by
  have h := SP_X1_effectOf (d := d) (g := g) (v := nI e)
  rw [effK he] at h
  exact h
/-- the head: the effect, or whose exemption -/
def rHd (n : Nat) (ch : Nat → Nat) (p : Nat) : Except Nat ((Option Nat × Option Nat) × Nat) := if hIs n ch p 120 = true then (if hIn n ch (p + 1) 48 57 = true then (if hIs n ch (rNs n ch 2 (ch (p + 1) - 48) (p + 1 + 1)).2 58 = true then .ok ((none, some (rNs n ch 2 (ch (p + 1) - 48) (p + 1 + 1)).1), (rNs n ch 2 (ch (p + 1) - 48) (p + 1 + 1)).2 + 1) else .error (rNs n ch 2 (ch (p + 1) - 48) (p + 1 + 1)).2) else .error (p + 1))
  else if hIs n ch p 112 = true then .ok ((some 0, none), p + 1) else if hIs n ch p 102 = true then .ok ((some 1, none), p + 1) else if hIs n ch p 108 = true then .ok ((some 2, none), p + 1) else .error p
def adE (g : xG) (e : Option Nat) : Option Nat := match e with
  | none => none
  | some i => some ((xE g).2.2.1 i)
def ofV (o : Option Nat) : Int32 := match o with
  | none => -1
  | some v => nI v
def xRH (g : xG) (R D tb n : Nat) (ch : Nat → Nat) (sc rk f l : Int32) (tl arr N : Nat) (X : Except Nat ((Option Nat × Option Nat) × Nat)) (rs : Option Value ⊕ Nat) (g' : xG) : Prop := match X with
  | .ok ((e, o), q) => rs = .inl none ∧ xDr g' D (adE g e) (ofV o) sc rk f l tl arr [] ∧ xRd g' R D tb q n ch ∧ xFr o145 N g g'
  | .error e => xWro g o145 N e rs g'
theorem xRd.set {g : xG} {R D tb p n a j : Nat} {v : Int32} {ch : Nat → Nat} (h : xRd g R D tb p n ch) (ha : xtag g a = 16) (ho : xown g a = 14) : xRd (xsetI g a j v) R D tb p n ch := by
  have na : R ≠ a := by intro e; have h9 := h.1; rw [e, ha] at h9; exact absurd h9 (by decide)
  obtain ⟨a1, a2, a3, a4, a5, a6, a7, a8⟩ := h
  exact ⟨by rw [xtag_setI]; exact a1, by rw [xown_setI]; exact a2, by rw [xr_setI]; exact a3, by rw [xr_setI]; exact a4, (xi_of (xc_setI na) _).trans a5, a6.fr ((xFr.rf (O := oEq 14) (n := 0)).si (Or.inr ho)) (by unfold oEq; omega), a7, a8⟩
theorem xRd.setR {g : xG} {R D tb p n a j : Nat} {v : Option Nat} {ch : Nat → Nat} (h : xRd g R D tb p n ch) (ha : xtag g a = 16) (ho : xown g a = 14) : xRd (xsetR g a j v) R D tb p n ch := by
  have na : R ≠ a := by intro e; have h9 := h.1; rw [e, ha] at h9; exact absurd h9 (by decide)
  have ec : xc (xsetR g a j v) R = xc g R := xc_setR na
  obtain ⟨a1, a2, a3, a4, a5, a6, a7, a8⟩ := h
  exact ⟨by rw [xtag_setR]; exact a1, by rw [xown_setR]; exact a2, (congrArg (fun z : xCell => z.2.2.2.2.1 0) ec).trans a3, (congrArg (fun z : xCell => z.2.2.2.2.1 1) ec).trans a4, by rw [xi_setR]; exact a5, a6.fr ((xFr.rf (O := oEq 14) (n := 0)).sr (Or.inr ho)) (by unfold oEq; omega), a7, a8⟩
section D56
variable {g : xG} {D : Nat} {eff : Option Nat} {of sc rk f l : Int32} {tl arr : Nat} {ts : List Nat}
theorem xDr.seti {j : Nat} {v : Int32} (h : xDr g D eff of sc rk f l tl arr ts) : xDr (xsetI g D j v) D eff (if j = 1 then v else of) (if j = 2 then v else sc) (if j = 3 then v else rk) (if j = 4 then v else f) (if j = 5 then v else l) tl arr ts := by
  obtain ⟨a1, a2, a3, a4, a5, a6, a7, a8, a9, a10⟩ := h
  have t0 : xtag g D ≠ 0 := by rw [a1]; decide
  have key : ∀ i, xi (xsetI g D j v) D i = if j = i then v else xi g D i := fun i => by
    by_cases e : j = i
    · subst e; rw [if_pos rfl]; exact xi_setIS t0
    · rw [if_neg e]; exact xi_setIK (Ne.symm e)
  exact ⟨by rw [xtag_setI]; exact a1, by rw [xown_setI]; exact a2, by rw [xr_setI]; exact a3, (key 1).trans (by rw [a4]), (key 2).trans (by rw [a5]), (key 3).trans (by rw [a6]), (key 4).trans (by rw [a7]), (key 5).trans (by rw [a8]), by rw [xr_setI]; exact a9, a10.fr ((xFr.rf (O := oEq 14) (n := 0)).si (Or.inr a2)) (by unfold oEq; omega)⟩
theorem xDr.setE {v : Option Nat} (h : xDr g D eff of sc rk f l tl arr ts) : xDr (xsetR g D 0 v) D v of sc rk f l tl arr ts := by
  obtain ⟨a1, a2, a3, a4, a5, a6, a7, a8, a9, a10⟩ := h
  have t0 : xtag g D ≠ 0 := by rw [a1]; decide
  exact ⟨by rw [xtag_setR]; exact a1, by rw [xown_setR]; exact a2, xr_setRS t0, by rw [xi_setR]; exact a4, by rw [xi_setR]; exact a5, by rw [xi_setR]; exact a6, by rw [xi_setR]; exact a7, by rw [xi_setR]; exact a8, (xr_setRK (by decide)).trans a9, a10.fr ((xFr.rf (O := oEq 14) (n := 0)).sr (Or.inr a2)) (by unfold oEq; omega)⟩
end D56

theorem SP_X18_head_0 {d : Nat} {g : xG} {R D tb p n : Nat} {ch : Nat → Nat} (hR : xRd g R D tb p n ch) (hcn : xCn g) {sc rk f l : Int32} {tl arr : Nat} (hD : xDr g D none (-1) sc rk f l tl arr []) (hx : hIs n ch p 120 = false) (h0 : hIs n ch p 112 = true) (h1 : hIs n ch p 102 = false) (h2 : hIs n ch p 108 = false) : XM M_X18_head (d + 9) [.ref R] g (xRH g R D tb n ch sc rk f l tl arr 40 (rHd n ch p)) := by
  have hR0 := hR
  have hD0 := hD
  obtain ⟨r1, r2, r3, r4, r5, hB, r7, r8⟩ := hR
  obtain ⟨d1, d2, d3, d4, d5, d6, d7, d8, d9, d10⟩ := hD
  have rl := hR0.lt
  have rn := hR0.own
  have dn : xown g D ≠ 0 := by rw [d2]; decide
  unfold rHd
  rw [if_neg (Bool.eq_false_iff.mp hx), if_pos h0]
  have hRe : xRd (xsetR g D 0 (some ((xE g).2.2.1 0))) R D tb p n ch := hR0.setR d1 d2
  have hDe := hD0.setE (v := some ((xE g).2.2.1 0))
  have hpn := (of_decide_eq_true h0).1
  have rnE : xown (xsetR g D 0 (some ((xE g).2.2.1 0))) R ≠ 0 := by rw [xown_setR]; exact rn
  refine xm_of (by decide +kernel) (Nat.le_of_ble_eq_true rfl) ?_
  show XW _ _ 0 [(0, _)] [] _ _
  refine xw_aload_n (pc := 0) dX18_head_0 0 rfl ?_
  refine xw_bipush (v := nI 120) (pc := 1) dX18_head_1 (by decide +kernel) ?_
  refine xw_callV (pc := 3) (xr_V (as := [_]) ok_X18_isHere rfl (by decide) q1904 q1906 qs33 (by first | (rw [r1]; rfl) | (rw [xtag_setR, r1]; rfl) | (rw [y1]; rfl) | (rw [z1]; rfl)) (by first | (rw [r1]; rfl) | (rw [xtag_setR, r1]; rfl) | (rw [y1]; rfl) | (rw [z1]; rfl)) dX18_head_3 rfl rfl (Nat.le_of_ble_eq_true rfl)) ((show XM M_X18_isHere (d + 8) [.ref R, .int (nI 120)] g (xOne (some (.int (bI false))) g) from hx ▸ SP_X18_isHere (d := d + 2) hR0 (by decide))) ?_
  refine xw_if_eq (pc := 6) 37 dX18_head_6 rfl (fun _ => ?_) (fun hb => absurd hb (by decide))
  refine xw_iconst (v := nI 0) (pc := 37) dX18_head_37 rfl ?_
  refine xw_istore_n (l' := [(1, _), (0, _)]) (pc := 38) dX18_head_38 rfl (by decide) rfl ?_
  refine xw_iload_n (pc := 39) dX18_head_39 0 rfl ?_
  refine xw_iconst (v := nI 3) (pc := 40) dX18_head_40 rfl ?_
  refine xw_icmp_ge (pc := 41) 75 dX18_head_41 rfl (fun hb => absurd hb (by decide)) (fun _ => ?_)
  refine xw_aload_n (pc := 44) dX18_head_44 1 rfl ?_
  refine xw_iload_n (pc := 45) dX18_head_45 0 rfl ?_
  refine xw_callV (pc := 46) (xr_SN (as := [_]) ok_X1_effectOf rfl (by decide) q2000 q1208 dX18_head_46 rfl rfl (Nat.le_of_ble_eq_true rfl)) (SP_X1_effectOfK (by decide)) ?_
  refine xw_headE (pc := 49) (by first | exact hcn | exact hcn.fr ((xFr.rf (O := oEq 14) (n := 0)).sr (Or.inr d2)) (by unfold oEq; omega)) (by decide) dX18_head_49 q2001 (Nat.le_of_ble_eq_true rfl) ?_
  refine xw_callV (pc := 52) (xr_V (as := [_]) ok_X18_isHere rfl (by decide) q1904 q1906 qs33 (by first | (rw [r1]; rfl) | (rw [xtag_setR, r1]; rfl) | (rw [y1]; rfl) | (rw [z1]; rfl)) (by first | (rw [r1]; rfl) | (rw [xtag_setR, r1]; rfl) | (rw [y1]; rfl) | (rw [z1]; rfl)) dX18_head_52 rfl rfl (Nat.le_of_ble_eq_true rfl)) ( (show XM M_X18_isHere (d + 8) [.ref R, .int (nI (hdC 0))] g (xOne (some (.int (bI true))) g) from (show hIs n ch p (hdC 0) = true from h0) ▸ SP_X18_isHere (d := d + 2) hR0 (by decide))) ?_
  refine xw_if_eq (pc := 55) 69 dX18_head_55 rfl (fun hb => absurd hb (by decide)) (fun _ => ?_)
  refine xw_aload_n (pc := 58) dX18_head_58 1 rfl ?_
  refine xw_getS (b := D) (pc := 59) fd_X18_12 dX18_head_59 (by first | assumption | (simp [-List.getD_eq_getElem?_getD, xE_setI, xsz_setI, xsl_setI, xtag_setI, xown_setI, xlen_setI, xE_setR, xsz_setR, xsl_setR, xtag_setR, xown_setR, xlen_setR, xE_setW, xsz_setW, xsl_setW, xtag_setW, xown_setW, xlen_setW, xi_setR, xi_setW, xr_setI, xr_setW, xww_setI, xww_setR, xi_setI, xr_setR, xww_setW, xE_new, xsz_new, xsl_new, r1, r4, r5, rn, d1, d3, dn, rnE, xsub]; done) | (simp [-List.getD_eq_getElem?_getD, xE_setI, xsz_setI, xsl_setI, xtag_setI, xown_setI, xlen_setI, xE_setR, xsz_setR, xsl_setR, xtag_setR, xown_setR, xlen_setR, xE_setW, xsz_setW, xsl_setW, xtag_setW, xown_setW, xlen_setW, xi_setR, xi_setW, xr_setI, xr_setW, xww_setI, xww_setR, xi_setI, xr_setR, xww_setW, xE_new, xsz_new, xsl_new, r1, r4, r5, rn, d1, d3, dn, rnE] <;> rfl)) (by simp [-List.getD_eq_getElem?_getD, xE_setI, xsz_setI, xsl_setI, xtag_setI, xown_setI, xlen_setI, xE_setR, xsz_setR, xsl_setR, xtag_setR, xown_setR, xlen_setR, xE_setW, xsz_setW, xsl_setW, xtag_setW, xown_setW, xlen_setW, xi_setR, xi_setW, xr_setI, xr_setW, xww_setI, xww_setR, xi_setI, xr_setR, xww_setW, xE_new, xsz_new, xsl_new, r1, r4, r5, rn, d1, d3, dn, rnE]) ?_
  refine xw_iload_n (pc := 62) dX18_head_62 0 rfl ?_
  refine xw_callV (pc := 63) (xr_SN (as := [_]) ok_X1_effectOf rfl (by decide) q2000 q1208 dX18_head_63 rfl rfl (Nat.le_of_ble_eq_true rfl)) (SP_X1_effectOfK (by decide)) ?_
  refine xw_putR (o := (some ((xE g).2.2.1 0))) (pc := 66) fd_X18_82 (xfin_of (by decide) (by decide +kernel)) dX18_head_66 (by first | assumption | (simp [-List.getD_eq_getElem?_getD, xE_setI, xsz_setI, xsl_setI, xtag_setI, xown_setI, xlen_setI, xE_setR, xsz_setR, xsl_setR, xtag_setR, xown_setR, xlen_setR, xE_setW, xsz_setW, xsl_setW, xtag_setW, xown_setW, xlen_setW, xi_setR, xi_setW, xr_setI, xr_setW, xww_setI, xww_setR, xi_setI, xr_setR, xww_setW, xE_new, xsz_new, xsl_new, r1, r4, r5, rn, d1, d3, dn, rnE, xsub]; done) | (simp [-List.getD_eq_getElem?_getD, xE_setI, xsz_setI, xsl_setI, xtag_setI, xown_setI, xlen_setI, xE_setR, xsz_setR, xsl_setR, xtag_setR, xown_setR, xlen_setR, xE_setW, xsz_setW, xsl_setW, xtag_setW, xown_setW, xlen_setW, xi_setR, xi_setW, xr_setI, xr_setW, xww_setI, xww_setR, xi_setI, xr_setR, xww_setW, xE_new, xsz_new, xsl_new, r1, r4, r5, rn, d1, d3, dn, rnE] <;> rfl)) (by first | assumption | (simp [-List.getD_eq_getElem?_getD, xE_setI, xsz_setI, xsl_setI, xtag_setI, xown_setI, xlen_setI, xE_setR, xsz_setR, xsl_setR, xtag_setR, xown_setR, xlen_setR, xE_setW, xsz_setW, xsl_setW, xtag_setW, xown_setW, xlen_setW, xi_setR, xi_setW, xr_setI, xr_setW, xww_setI, xww_setR, xi_setI, xr_setR, xww_setW, xE_new, xsz_new, xsl_new, r1, r4, r5, rn, d1, d3, dn, rnE]; done) | (simp [-List.getD_eq_getElem?_getD, xE_setI, xsz_setI, xsl_setI, xtag_setI, xown_setI, xlen_setI, xE_setR, xsz_setR, xsl_setR, xtag_setR, xown_setR, xlen_setR, xE_setW, xsz_setW, xsl_setW, xtag_setW, xown_setW, xlen_setW, xi_setR, xi_setW, xr_setI, xr_setW, xww_setI, xww_setR, xi_setI, xr_setR, xww_setW, xE_new, xsz_new, xsl_new, r1, r4, r5, rn, d1, d3, dn, rnE]; assumption)) rfl ?_
  refine xw_iinc (v := nI (1)) (l' := [(1, _), (0, _)]) (pc := 69) dX18_head_69 0 rfl (nI_add _ 1) (by decide) rfl ?_
  refine xw_goto (pc := 72) 39 dX18_head_72 rfl ?_
  refine xw_iload_n (pc := 39) dX18_head_39 0 rfl ?_
  refine xw_iconst (v := nI 3) (pc := 40) dX18_head_40 rfl ?_
  refine xw_icmp_ge (pc := 41) 75 dX18_head_41 rfl (fun hb => absurd hb (by decide)) (fun _ => ?_)
  refine xw_aload_n (pc := 44) dX18_head_44 1 rfl ?_
  refine xw_iload_n (pc := 45) dX18_head_45 0 rfl ?_
  refine xw_callV (pc := 46) (xr_SN (as := [_]) ok_X1_effectOf rfl (by decide) q2000 q1208 dX18_head_46 rfl rfl (Nat.le_of_ble_eq_true rfl)) (SP_X1_effectOfK (by decide)) ?_
  refine xw_headE (pc := 49) (by first | exact hcn | exact hcn.fr ((xFr.rf (O := oEq 14) (n := 0)).sr (Or.inr d2)) (by unfold oEq; omega)) (by decide) dX18_head_49 q2001 (Nat.le_of_ble_eq_true rfl) ?_
  refine xw_callV (pc := 52) (xr_V (as := [_]) ok_X18_isHere rfl (by decide) q1904 q1906 qs33 (by first | (rw [r1]; rfl) | (rw [xtag_setR, r1]; rfl) | (rw [y1]; rfl) | (rw [z1]; rfl)) (by first | (rw [r1]; rfl) | (rw [xtag_setR, r1]; rfl) | (rw [y1]; rfl) | (rw [z1]; rfl)) dX18_head_52 rfl rfl (Nat.le_of_ble_eq_true rfl)) ( (show XM M_X18_isHere (d + 8) [.ref R, .int (nI (hdC 1))] (xsetR g D 0 (some ((xE g).2.2.1 0))) (xOne (some (.int (bI false))) (xsetR g D 0 (some ((xE g).2.2.1 0)))) from (show hIs n ch p (hdC 1) = false from h1) ▸ SP_X18_isHere (d := d + 2) hRe (by decide))) ?_
  refine xw_if_eq (pc := 55) 69 dX18_head_55 rfl (fun _ => ?_) (fun hb => absurd hb (by decide))
  refine xw_iinc (v := nI (2)) (l' := [(1, _), (0, _)]) (pc := 69) dX18_head_69 0 rfl (nI_add _ 1) (by decide) rfl ?_
  refine xw_goto (pc := 72) 39 dX18_head_72 rfl ?_
  refine xw_iload_n (pc := 39) dX18_head_39 0 rfl ?_
  refine xw_iconst (v := nI 3) (pc := 40) dX18_head_40 rfl ?_
  refine xw_icmp_ge (pc := 41) 75 dX18_head_41 rfl (fun hb => absurd hb (by decide)) (fun _ => ?_)
  refine xw_aload_n (pc := 44) dX18_head_44 1 rfl ?_
  refine xw_iload_n (pc := 45) dX18_head_45 0 rfl ?_
  refine xw_callV (pc := 46) (xr_SN (as := [_]) ok_X1_effectOf rfl (by decide) q2000 q1208 dX18_head_46 rfl rfl (Nat.le_of_ble_eq_true rfl)) (SP_X1_effectOfK (by decide)) ?_
  refine xw_headE (pc := 49) (by first | exact hcn | exact hcn.fr ((xFr.rf (O := oEq 14) (n := 0)).sr (Or.inr d2)) (by unfold oEq; omega)) (by decide) dX18_head_49 q2001 (Nat.le_of_ble_eq_true rfl) ?_
  refine xw_callV (pc := 52) (xr_V (as := [_]) ok_X18_isHere rfl (by decide) q1904 q1906 qs33 (by first | (rw [r1]; rfl) | (rw [xtag_setR, r1]; rfl) | (rw [y1]; rfl) | (rw [z1]; rfl)) (by first | (rw [r1]; rfl) | (rw [xtag_setR, r1]; rfl) | (rw [y1]; rfl) | (rw [z1]; rfl)) dX18_head_52 rfl rfl (Nat.le_of_ble_eq_true rfl)) ( (show XM M_X18_isHere (d + 8) [.ref R, .int (nI (hdC 2))] (xsetR g D 0 (some ((xE g).2.2.1 0))) (xOne (some (.int (bI false))) (xsetR g D 0 (some ((xE g).2.2.1 0)))) from (show hIs n ch p (hdC 2) = false from h2) ▸ SP_X18_isHere (d := d + 2) hRe (by decide))) ?_
  refine xw_if_eq (pc := 55) 69 dX18_head_55 rfl (fun _ => ?_) (fun hb => absurd hb (by decide))
  refine xw_iinc (v := nI (3)) (l' := [(1, _), (0, _)]) (pc := 69) dX18_head_69 0 rfl (nI_add _ 1) (by decide) rfl ?_
  refine xw_goto (pc := 72) 39 dX18_head_72 rfl ?_
  refine xw_iload_n (pc := 39) dX18_head_39 0 rfl ?_
  refine xw_iconst (v := nI 3) (pc := 40) dX18_head_40 rfl ?_
  refine xw_icmp_ge (pc := 41) 75 dX18_head_41 rfl (fun _ => ?_) (fun hb => absurd hb (by decide))
  refine xw_aload_n (pc := 75) dX18_head_75 1 rfl ?_
  refine xw_aload_n (pc := 76) dX18_head_76 1 rfl ?_
  refine xw_getS (b := D) (pc := 77) fd_X18_12 dX18_head_77 (by first | assumption | (simp [-List.getD_eq_getElem?_getD, xE_setI, xsz_setI, xsl_setI, xtag_setI, xown_setI, xlen_setI, xE_setR, xsz_setR, xsl_setR, xtag_setR, xown_setR, xlen_setR, xE_setW, xsz_setW, xsl_setW, xtag_setW, xown_setW, xlen_setW, xi_setR, xi_setW, xr_setI, xr_setW, xww_setI, xww_setR, xi_setI, xr_setR, xww_setW, xE_new, xsz_new, xsl_new, r1, r4, r5, rn, d1, d3, dn, rnE, xsub]; done) | (simp [-List.getD_eq_getElem?_getD, xE_setI, xsz_setI, xsl_setI, xtag_setI, xown_setI, xlen_setI, xE_setR, xsz_setR, xsl_setR, xtag_setR, xown_setR, xlen_setR, xE_setW, xsz_setW, xsl_setW, xtag_setW, xown_setW, xlen_setW, xi_setR, xi_setW, xr_setI, xr_setW, xww_setI, xww_setR, xi_setI, xr_setR, xww_setW, xE_new, xsz_new, xsl_new, r1, r4, r5, rn, d1, d3, dn, rnE] <;> rfl)) (by simp [-List.getD_eq_getElem?_getD, xE_setI, xsz_setI, xsl_setI, xtag_setI, xown_setI, xlen_setI, xE_setR, xsz_setR, xsl_setR, xtag_setR, xown_setR, xlen_setR, xE_setW, xsz_setW, xsl_setW, xtag_setW, xown_setW, xlen_setW, xi_setR, xi_setW, xr_setI, xr_setW, xww_setI, xww_setR, xi_setI, xr_setR, xww_setW, xE_new, xsz_new, xsl_new, r1, r4, r5, rn, d1, d3, dn, rnE]) ?_
  refine xw_getS (b := ((xE g).2.2.1 0)) (pc := 80) fd_X18_82 dX18_head_80 (by first | assumption | (simp [-List.getD_eq_getElem?_getD, xE_setI, xsz_setI, xsl_setI, xtag_setI, xown_setI, xlen_setI, xE_setR, xsz_setR, xsl_setR, xtag_setR, xown_setR, xlen_setR, xE_setW, xsz_setW, xsl_setW, xtag_setW, xown_setW, xlen_setW, xi_setR, xi_setW, xr_setI, xr_setW, xww_setI, xww_setR, xi_setI, xr_setR, xww_setW, xE_new, xsz_new, xsl_new, r1, r4, r5, rn, d1, d3, dn, rnE, xsub]; done) | (simp [-List.getD_eq_getElem?_getD, xE_setI, xsz_setI, xsl_setI, xtag_setI, xown_setI, xlen_setI, xE_setR, xsz_setR, xsl_setR, xtag_setR, xown_setR, xlen_setR, xE_setW, xsz_setW, xsl_setW, xtag_setW, xown_setW, xlen_setW, xi_setR, xi_setW, xr_setI, xr_setW, xww_setI, xww_setR, xi_setI, xr_setR, xww_setW, xE_new, xsz_new, xsl_new, r1, r4, r5, rn, d1, d3, dn, rnE] <;> rfl)) (by simp [-List.getD_eq_getElem?_getD, xE_setI, xsz_setI, xsl_setI, xtag_setI, xown_setI, xlen_setI, xE_setR, xsz_setR, xsl_setR, xtag_setR, xown_setR, xlen_setR, xE_setW, xsz_setW, xsl_setW, xtag_setW, xown_setW, xlen_setW, xi_setR, xi_setW, xr_setI, xr_setW, xww_setI, xww_setR, xi_setI, xr_setR, xww_setW, xE_new, xsz_new, xsl_new, r1, r4, r5, rn, d1, d3, dn, rnE]) ?_
  refine xw_ifnull (pc := 83) dX18_head_83 ?_
  refine xw_iconst (v := nI 1) (pc := 86) dX18_head_86 rfl ?_
  refine xw_goto (pc := 87) 91 dX18_head_87 rfl ?_
  refine xw_callU (pc := 91) (xr_V (as := [_]) ok_X18_needs rfl (by decide) q1968 q1970 qs38 (by first | (rw [r1]; rfl) | (rw [xtag_setR, r1]; rfl) | (rw [y1]; rfl) | (rw [z1]; rfl)) (by first | (rw [r1]; rfl) | (rw [xtag_setR, r1]; rfl) | (rw [y1]; rfl) | (rw [z1]; rfl)) dX18_head_91 rfl rfl (Nat.le_of_ble_eq_true rfl)) (SP_X18_needs_T) ?_
  refine xw_aload_n (pc := 94) dX18_head_94 1 rfl ?_
  refine xw_dup (pc := 95) dX18_head_95 rfl ?_
  refine xw_getNat (k := p) (pc := 96) fd_X18_22 dX18_head_96 (by first | assumption | (simp [-List.getD_eq_getElem?_getD, xE_setI, xsz_setI, xsl_setI, xtag_setI, xown_setI, xlen_setI, xE_setR, xsz_setR, xsl_setR, xtag_setR, xown_setR, xlen_setR, xE_setW, xsz_setW, xsl_setW, xtag_setW, xown_setW, xlen_setW, xi_setR, xi_setW, xr_setI, xr_setW, xww_setI, xww_setR, xi_setI, xr_setR, xww_setW, xE_new, xsz_new, xsl_new, r1, r4, r5, rn, d1, d3, dn, rnE, xsub]; done) | (simp [-List.getD_eq_getElem?_getD, xE_setI, xsz_setI, xsl_setI, xtag_setI, xown_setI, xlen_setI, xE_setR, xsz_setR, xsl_setR, xtag_setR, xown_setR, xlen_setR, xE_setW, xsz_setW, xsl_setW, xtag_setW, xown_setW, xlen_setW, xi_setR, xi_setW, xr_setI, xr_setW, xww_setI, xww_setR, xi_setI, xr_setR, xww_setW, xE_new, xsz_new, xsl_new, r1, r4, r5, rn, d1, d3, dn, rnE] <;> rfl)) (by simp [-List.getD_eq_getElem?_getD, xE_setI, xsz_setI, xsl_setI, xtag_setI, xown_setI, xlen_setI, xE_setR, xsz_setR, xsl_setR, xtag_setR, xown_setR, xlen_setR, xE_setW, xsz_setW, xsl_setW, xtag_setW, xown_setW, xlen_setW, xi_setR, xi_setW, xr_setI, xr_setW, xww_setI, xww_setR, xi_setI, xr_setR, xww_setW, xE_new, xsz_new, xsl_new, r1, r4, r5, rn, d1, d3, dn, rnE]) ?_
  refine xw_iconst (v := nI 1) (pc := 99) dX18_head_99 rfl ?_
  refine xn_iadd (pc := 100) dX18_head_100 ?_
  refine xw_putI (pc := 101) fd_X18_22 (xfin_of (by decide) (by decide +kernel)) dX18_head_101 (by first | assumption | (simp [-List.getD_eq_getElem?_getD, xE_setI, xsz_setI, xsl_setI, xtag_setI, xown_setI, xlen_setI, xE_setR, xsz_setR, xsl_setR, xtag_setR, xown_setR, xlen_setR, xE_setW, xsz_setW, xsl_setW, xtag_setW, xown_setW, xlen_setW, xi_setR, xi_setW, xr_setI, xr_setW, xww_setI, xww_setR, xi_setI, xr_setR, xww_setW, xE_new, xsz_new, xsl_new, r1, r4, r5, rn, d1, d3, dn, rnE, xsub]; done) | (simp [-List.getD_eq_getElem?_getD, xE_setI, xsz_setI, xsl_setI, xtag_setI, xown_setI, xlen_setI, xE_setR, xsz_setR, xsl_setR, xtag_setR, xown_setR, xlen_setR, xE_setW, xsz_setW, xsl_setW, xtag_setW, xown_setW, xlen_setW, xi_setR, xi_setW, xr_setI, xr_setW, xww_setI, xww_setR, xi_setI, xr_setR, xww_setW, xE_new, xsz_new, xsl_new, r1, r4, r5, rn, d1, d3, dn, rnE] <;> rfl)) (by first | assumption | (simp [-List.getD_eq_getElem?_getD, xE_setI, xsz_setI, xsl_setI, xtag_setI, xown_setI, xlen_setI, xE_setR, xsz_setR, xsl_setR, xtag_setR, xown_setR, xlen_setR, xE_setW, xsz_setW, xsl_setW, xtag_setW, xown_setW, xlen_setW, xi_setR, xi_setW, xr_setI, xr_setW, xww_setI, xww_setR, xi_setI, xr_setR, xww_setW, xE_new, xsz_new, xsl_new, r1, r4, r5, rn, d1, d3, dn, rnE]; done) | (simp [-List.getD_eq_getElem?_getD, xE_setI, xsz_setI, xsl_setI, xtag_setI, xown_setI, xlen_setI, xE_setR, xsz_setR, xsl_setR, xtag_setR, xown_setR, xlen_setR, xE_setW, xsz_setW, xsl_setW, xtag_setW, xown_setW, xlen_setW, xi_setR, xi_setW, xr_setI, xr_setW, xww_setI, xww_setR, xi_setI, xr_setR, xww_setW, xE_new, xsz_new, xsl_new, r1, r4, r5, rn, d1, d3, dn, rnE]; assumption)) ?_
  refine xw_vret (pc := 104) dX18_head_104 rfl ?_
  refine ⟨rfl, hDe.at_ (by rw [xtag_setR]; exact r1) (by rw [xown_setR]; exact r2), hRe.to (by omega), ?_⟩
  exact (((xFr.rf (O := oEq 14) (n := 0)).sr (Or.inr d2)).si (Or.inr (by rw [xown_setR]; exact r2))).b14.sub (fun _ h => h) (by omega)

theorem SP_X18_head_1 {d : Nat} {g : xG} {R D tb p n : Nat} {ch : Nat → Nat} (hR : xRd g R D tb p n ch) (hcn : xCn g) {sc rk f l : Int32} {tl arr : Nat} (hD : xDr g D none (-1) sc rk f l tl arr []) (hx : hIs n ch p 120 = false) (h0 : hIs n ch p 112 = false) (h1 : hIs n ch p 102 = true) (h2 : hIs n ch p 108 = false) : XM M_X18_head (d + 9) [.ref R] g (xRH g R D tb n ch sc rk f l tl arr 40 (rHd n ch p)) := by
  have hR0 := hR
  have hD0 := hD
  obtain ⟨r1, r2, r3, r4, r5, hB, r7, r8⟩ := hR
  obtain ⟨d1, d2, d3, d4, d5, d6, d7, d8, d9, d10⟩ := hD
  have rl := hR0.lt
  have rn := hR0.own
  have dn : xown g D ≠ 0 := by rw [d2]; decide
  unfold rHd
  rw [if_neg (Bool.eq_false_iff.mp hx), if_neg (Bool.eq_false_iff.mp h0), if_pos h1]
  have hRe : xRd (xsetR g D 0 (some ((xE g).2.2.1 1))) R D tb p n ch := hR0.setR d1 d2
  have hDe := hD0.setE (v := some ((xE g).2.2.1 1))
  have hpn := (of_decide_eq_true h1).1
  have rnE : xown (xsetR g D 0 (some ((xE g).2.2.1 1))) R ≠ 0 := by rw [xown_setR]; exact rn
  refine xm_of (by decide +kernel) (Nat.le_of_ble_eq_true rfl) ?_
  show XW _ _ 0 [(0, _)] [] _ _
  refine xw_aload_n (pc := 0) dX18_head_0 0 rfl ?_
  refine xw_bipush (v := nI 120) (pc := 1) dX18_head_1 (by decide +kernel) ?_
  refine xw_callV (pc := 3) (xr_V (as := [_]) ok_X18_isHere rfl (by decide) q1904 q1906 qs33 (by first | (rw [r1]; rfl) | (rw [xtag_setR, r1]; rfl) | (rw [y1]; rfl) | (rw [z1]; rfl)) (by first | (rw [r1]; rfl) | (rw [xtag_setR, r1]; rfl) | (rw [y1]; rfl) | (rw [z1]; rfl)) dX18_head_3 rfl rfl (Nat.le_of_ble_eq_true rfl)) ((show XM M_X18_isHere (d + 8) [.ref R, .int (nI 120)] g (xOne (some (.int (bI false))) g) from hx ▸ SP_X18_isHere (d := d + 2) hR0 (by decide))) ?_
  refine xw_if_eq (pc := 6) 37 dX18_head_6 rfl (fun _ => ?_) (fun hb => absurd hb (by decide))
  refine xw_iconst (v := nI 0) (pc := 37) dX18_head_37 rfl ?_
  refine xw_istore_n (l' := [(1, _), (0, _)]) (pc := 38) dX18_head_38 rfl (by decide) rfl ?_
  refine xw_iload_n (pc := 39) dX18_head_39 0 rfl ?_
  refine xw_iconst (v := nI 3) (pc := 40) dX18_head_40 rfl ?_
  refine xw_icmp_ge (pc := 41) 75 dX18_head_41 rfl (fun hb => absurd hb (by decide)) (fun _ => ?_)
  refine xw_aload_n (pc := 44) dX18_head_44 1 rfl ?_
  refine xw_iload_n (pc := 45) dX18_head_45 0 rfl ?_
  refine xw_callV (pc := 46) (xr_SN (as := [_]) ok_X1_effectOf rfl (by decide) q2000 q1208 dX18_head_46 rfl rfl (Nat.le_of_ble_eq_true rfl)) (SP_X1_effectOfK (by decide)) ?_
  refine xw_headE (pc := 49) (by first | exact hcn | exact hcn.fr ((xFr.rf (O := oEq 14) (n := 0)).sr (Or.inr d2)) (by unfold oEq; omega)) (by decide) dX18_head_49 q2001 (Nat.le_of_ble_eq_true rfl) ?_
  refine xw_callV (pc := 52) (xr_V (as := [_]) ok_X18_isHere rfl (by decide) q1904 q1906 qs33 (by first | (rw [r1]; rfl) | (rw [xtag_setR, r1]; rfl) | (rw [y1]; rfl) | (rw [z1]; rfl)) (by first | (rw [r1]; rfl) | (rw [xtag_setR, r1]; rfl) | (rw [y1]; rfl) | (rw [z1]; rfl)) dX18_head_52 rfl rfl (Nat.le_of_ble_eq_true rfl)) ( (show XM M_X18_isHere (d + 8) [.ref R, .int (nI (hdC 0))] g (xOne (some (.int (bI false))) g) from (show hIs n ch p (hdC 0) = false from h0) ▸ SP_X18_isHere (d := d + 2) hR0 (by decide))) ?_
  refine xw_if_eq (pc := 55) 69 dX18_head_55 rfl (fun _ => ?_) (fun hb => absurd hb (by decide))
  refine xw_iinc (v := nI (1)) (l' := [(1, _), (0, _)]) (pc := 69) dX18_head_69 0 rfl (nI_add _ 1) (by decide) rfl ?_
  refine xw_goto (pc := 72) 39 dX18_head_72 rfl ?_
  refine xw_iload_n (pc := 39) dX18_head_39 0 rfl ?_
  refine xw_iconst (v := nI 3) (pc := 40) dX18_head_40 rfl ?_
  refine xw_icmp_ge (pc := 41) 75 dX18_head_41 rfl (fun hb => absurd hb (by decide)) (fun _ => ?_)
  refine xw_aload_n (pc := 44) dX18_head_44 1 rfl ?_
  refine xw_iload_n (pc := 45) dX18_head_45 0 rfl ?_
  refine xw_callV (pc := 46) (xr_SN (as := [_]) ok_X1_effectOf rfl (by decide) q2000 q1208 dX18_head_46 rfl rfl (Nat.le_of_ble_eq_true rfl)) (SP_X1_effectOfK (by decide)) ?_
  refine xw_headE (pc := 49) (by first | exact hcn | exact hcn.fr ((xFr.rf (O := oEq 14) (n := 0)).sr (Or.inr d2)) (by unfold oEq; omega)) (by decide) dX18_head_49 q2001 (Nat.le_of_ble_eq_true rfl) ?_
  refine xw_callV (pc := 52) (xr_V (as := [_]) ok_X18_isHere rfl (by decide) q1904 q1906 qs33 (by first | (rw [r1]; rfl) | (rw [xtag_setR, r1]; rfl) | (rw [y1]; rfl) | (rw [z1]; rfl)) (by first | (rw [r1]; rfl) | (rw [xtag_setR, r1]; rfl) | (rw [y1]; rfl) | (rw [z1]; rfl)) dX18_head_52 rfl rfl (Nat.le_of_ble_eq_true rfl)) ( (show XM M_X18_isHere (d + 8) [.ref R, .int (nI (hdC 1))] g (xOne (some (.int (bI true))) g) from (show hIs n ch p (hdC 1) = true from h1) ▸ SP_X18_isHere (d := d + 2) hR0 (by decide))) ?_
  refine xw_if_eq (pc := 55) 69 dX18_head_55 rfl (fun hb => absurd hb (by decide)) (fun _ => ?_)
  refine xw_aload_n (pc := 58) dX18_head_58 1 rfl ?_
  refine xw_getS (b := D) (pc := 59) fd_X18_12 dX18_head_59 (by first | assumption | (simp [-List.getD_eq_getElem?_getD, xE_setI, xsz_setI, xsl_setI, xtag_setI, xown_setI, xlen_setI, xE_setR, xsz_setR, xsl_setR, xtag_setR, xown_setR, xlen_setR, xE_setW, xsz_setW, xsl_setW, xtag_setW, xown_setW, xlen_setW, xi_setR, xi_setW, xr_setI, xr_setW, xww_setI, xww_setR, xi_setI, xr_setR, xww_setW, xE_new, xsz_new, xsl_new, r1, r4, r5, rn, d1, d3, dn, rnE, xsub]; done) | (simp [-List.getD_eq_getElem?_getD, xE_setI, xsz_setI, xsl_setI, xtag_setI, xown_setI, xlen_setI, xE_setR, xsz_setR, xsl_setR, xtag_setR, xown_setR, xlen_setR, xE_setW, xsz_setW, xsl_setW, xtag_setW, xown_setW, xlen_setW, xi_setR, xi_setW, xr_setI, xr_setW, xww_setI, xww_setR, xi_setI, xr_setR, xww_setW, xE_new, xsz_new, xsl_new, r1, r4, r5, rn, d1, d3, dn, rnE] <;> rfl)) (by simp [-List.getD_eq_getElem?_getD, xE_setI, xsz_setI, xsl_setI, xtag_setI, xown_setI, xlen_setI, xE_setR, xsz_setR, xsl_setR, xtag_setR, xown_setR, xlen_setR, xE_setW, xsz_setW, xsl_setW, xtag_setW, xown_setW, xlen_setW, xi_setR, xi_setW, xr_setI, xr_setW, xww_setI, xww_setR, xi_setI, xr_setR, xww_setW, xE_new, xsz_new, xsl_new, r1, r4, r5, rn, d1, d3, dn, rnE]) ?_
  refine xw_iload_n (pc := 62) dX18_head_62 0 rfl ?_
  refine xw_callV (pc := 63) (xr_SN (as := [_]) ok_X1_effectOf rfl (by decide) q2000 q1208 dX18_head_63 rfl rfl (Nat.le_of_ble_eq_true rfl)) (SP_X1_effectOfK (by decide)) ?_
  refine xw_putR (o := (some ((xE g).2.2.1 1))) (pc := 66) fd_X18_82 (xfin_of (by decide) (by decide +kernel)) dX18_head_66 (by first | assumption | (simp [-List.getD_eq_getElem?_getD, xE_setI, xsz_setI, xsl_setI, xtag_setI, xown_setI, xlen_setI, xE_setR, xsz_setR, xsl_setR, xtag_setR, xown_setR, xlen_setR, xE_setW, xsz_setW, xsl_setW, xtag_setW, xown_setW, xlen_setW, xi_setR, xi_setW, xr_setI, xr_setW, xww_setI, xww_setR, xi_setI, xr_setR, xww_setW, xE_new, xsz_new, xsl_new, r1, r4, r5, rn, d1, d3, dn, rnE, xsub]; done) | (simp [-List.getD_eq_getElem?_getD, xE_setI, xsz_setI, xsl_setI, xtag_setI, xown_setI, xlen_setI, xE_setR, xsz_setR, xsl_setR, xtag_setR, xown_setR, xlen_setR, xE_setW, xsz_setW, xsl_setW, xtag_setW, xown_setW, xlen_setW, xi_setR, xi_setW, xr_setI, xr_setW, xww_setI, xww_setR, xi_setI, xr_setR, xww_setW, xE_new, xsz_new, xsl_new, r1, r4, r5, rn, d1, d3, dn, rnE] <;> rfl)) (by first | assumption | (simp [-List.getD_eq_getElem?_getD, xE_setI, xsz_setI, xsl_setI, xtag_setI, xown_setI, xlen_setI, xE_setR, xsz_setR, xsl_setR, xtag_setR, xown_setR, xlen_setR, xE_setW, xsz_setW, xsl_setW, xtag_setW, xown_setW, xlen_setW, xi_setR, xi_setW, xr_setI, xr_setW, xww_setI, xww_setR, xi_setI, xr_setR, xww_setW, xE_new, xsz_new, xsl_new, r1, r4, r5, rn, d1, d3, dn, rnE]; done) | (simp [-List.getD_eq_getElem?_getD, xE_setI, xsz_setI, xsl_setI, xtag_setI, xown_setI, xlen_setI, xE_setR, xsz_setR, xsl_setR, xtag_setR, xown_setR, xlen_setR, xE_setW, xsz_setW, xsl_setW, xtag_setW, xown_setW, xlen_setW, xi_setR, xi_setW, xr_setI, xr_setW, xww_setI, xww_setR, xi_setI, xr_setR, xww_setW, xE_new, xsz_new, xsl_new, r1, r4, r5, rn, d1, d3, dn, rnE]; assumption)) rfl ?_
  refine xw_iinc (v := nI (2)) (l' := [(1, _), (0, _)]) (pc := 69) dX18_head_69 0 rfl (nI_add _ 1) (by decide) rfl ?_
  refine xw_goto (pc := 72) 39 dX18_head_72 rfl ?_
  refine xw_iload_n (pc := 39) dX18_head_39 0 rfl ?_
  refine xw_iconst (v := nI 3) (pc := 40) dX18_head_40 rfl ?_
  refine xw_icmp_ge (pc := 41) 75 dX18_head_41 rfl (fun hb => absurd hb (by decide)) (fun _ => ?_)
  refine xw_aload_n (pc := 44) dX18_head_44 1 rfl ?_
  refine xw_iload_n (pc := 45) dX18_head_45 0 rfl ?_
  refine xw_callV (pc := 46) (xr_SN (as := [_]) ok_X1_effectOf rfl (by decide) q2000 q1208 dX18_head_46 rfl rfl (Nat.le_of_ble_eq_true rfl)) (SP_X1_effectOfK (by decide)) ?_
  refine xw_headE (pc := 49) (by first | exact hcn | exact hcn.fr ((xFr.rf (O := oEq 14) (n := 0)).sr (Or.inr d2)) (by unfold oEq; omega)) (by decide) dX18_head_49 q2001 (Nat.le_of_ble_eq_true rfl) ?_
  refine xw_callV (pc := 52) (xr_V (as := [_]) ok_X18_isHere rfl (by decide) q1904 q1906 qs33 (by first | (rw [r1]; rfl) | (rw [xtag_setR, r1]; rfl) | (rw [y1]; rfl) | (rw [z1]; rfl)) (by first | (rw [r1]; rfl) | (rw [xtag_setR, r1]; rfl) | (rw [y1]; rfl) | (rw [z1]; rfl)) dX18_head_52 rfl rfl (Nat.le_of_ble_eq_true rfl)) ( (show XM M_X18_isHere (d + 8) [.ref R, .int (nI (hdC 2))] (xsetR g D 0 (some ((xE g).2.2.1 1))) (xOne (some (.int (bI false))) (xsetR g D 0 (some ((xE g).2.2.1 1)))) from (show hIs n ch p (hdC 2) = false from h2) ▸ SP_X18_isHere (d := d + 2) hRe (by decide))) ?_
  refine xw_if_eq (pc := 55) 69 dX18_head_55 rfl (fun _ => ?_) (fun hb => absurd hb (by decide))
  refine xw_iinc (v := nI (3)) (l' := [(1, _), (0, _)]) (pc := 69) dX18_head_69 0 rfl (nI_add _ 1) (by decide) rfl ?_
  refine xw_goto (pc := 72) 39 dX18_head_72 rfl ?_
  refine xw_iload_n (pc := 39) dX18_head_39 0 rfl ?_
  refine xw_iconst (v := nI 3) (pc := 40) dX18_head_40 rfl ?_
  refine xw_icmp_ge (pc := 41) 75 dX18_head_41 rfl (fun _ => ?_) (fun hb => absurd hb (by decide))
  refine xw_aload_n (pc := 75) dX18_head_75 1 rfl ?_
  refine xw_aload_n (pc := 76) dX18_head_76 1 rfl ?_
  refine xw_getS (b := D) (pc := 77) fd_X18_12 dX18_head_77 (by first | assumption | (simp [-List.getD_eq_getElem?_getD, xE_setI, xsz_setI, xsl_setI, xtag_setI, xown_setI, xlen_setI, xE_setR, xsz_setR, xsl_setR, xtag_setR, xown_setR, xlen_setR, xE_setW, xsz_setW, xsl_setW, xtag_setW, xown_setW, xlen_setW, xi_setR, xi_setW, xr_setI, xr_setW, xww_setI, xww_setR, xi_setI, xr_setR, xww_setW, xE_new, xsz_new, xsl_new, r1, r4, r5, rn, d1, d3, dn, rnE, xsub]; done) | (simp [-List.getD_eq_getElem?_getD, xE_setI, xsz_setI, xsl_setI, xtag_setI, xown_setI, xlen_setI, xE_setR, xsz_setR, xsl_setR, xtag_setR, xown_setR, xlen_setR, xE_setW, xsz_setW, xsl_setW, xtag_setW, xown_setW, xlen_setW, xi_setR, xi_setW, xr_setI, xr_setW, xww_setI, xww_setR, xi_setI, xr_setR, xww_setW, xE_new, xsz_new, xsl_new, r1, r4, r5, rn, d1, d3, dn, rnE] <;> rfl)) (by simp [-List.getD_eq_getElem?_getD, xE_setI, xsz_setI, xsl_setI, xtag_setI, xown_setI, xlen_setI, xE_setR, xsz_setR, xsl_setR, xtag_setR, xown_setR, xlen_setR, xE_setW, xsz_setW, xsl_setW, xtag_setW, xown_setW, xlen_setW, xi_setR, xi_setW, xr_setI, xr_setW, xww_setI, xww_setR, xi_setI, xr_setR, xww_setW, xE_new, xsz_new, xsl_new, r1, r4, r5, rn, d1, d3, dn, rnE]) ?_
  refine xw_getS (b := ((xE g).2.2.1 1)) (pc := 80) fd_X18_82 dX18_head_80 (by first | assumption | (simp [-List.getD_eq_getElem?_getD, xE_setI, xsz_setI, xsl_setI, xtag_setI, xown_setI, xlen_setI, xE_setR, xsz_setR, xsl_setR, xtag_setR, xown_setR, xlen_setR, xE_setW, xsz_setW, xsl_setW, xtag_setW, xown_setW, xlen_setW, xi_setR, xi_setW, xr_setI, xr_setW, xww_setI, xww_setR, xi_setI, xr_setR, xww_setW, xE_new, xsz_new, xsl_new, r1, r4, r5, rn, d1, d3, dn, rnE, xsub]; done) | (simp [-List.getD_eq_getElem?_getD, xE_setI, xsz_setI, xsl_setI, xtag_setI, xown_setI, xlen_setI, xE_setR, xsz_setR, xsl_setR, xtag_setR, xown_setR, xlen_setR, xE_setW, xsz_setW, xsl_setW, xtag_setW, xown_setW, xlen_setW, xi_setR, xi_setW, xr_setI, xr_setW, xww_setI, xww_setR, xi_setI, xr_setR, xww_setW, xE_new, xsz_new, xsl_new, r1, r4, r5, rn, d1, d3, dn, rnE] <;> rfl)) (by simp [-List.getD_eq_getElem?_getD, xE_setI, xsz_setI, xsl_setI, xtag_setI, xown_setI, xlen_setI, xE_setR, xsz_setR, xsl_setR, xtag_setR, xown_setR, xlen_setR, xE_setW, xsz_setW, xsl_setW, xtag_setW, xown_setW, xlen_setW, xi_setR, xi_setW, xr_setI, xr_setW, xww_setI, xww_setR, xi_setI, xr_setR, xww_setW, xE_new, xsz_new, xsl_new, r1, r4, r5, rn, d1, d3, dn, rnE]) ?_
  refine xw_ifnull (pc := 83) dX18_head_83 ?_
  refine xw_iconst (v := nI 1) (pc := 86) dX18_head_86 rfl ?_
  refine xw_goto (pc := 87) 91 dX18_head_87 rfl ?_
  refine xw_callU (pc := 91) (xr_V (as := [_]) ok_X18_needs rfl (by decide) q1968 q1970 qs38 (by first | (rw [r1]; rfl) | (rw [xtag_setR, r1]; rfl) | (rw [y1]; rfl) | (rw [z1]; rfl)) (by first | (rw [r1]; rfl) | (rw [xtag_setR, r1]; rfl) | (rw [y1]; rfl) | (rw [z1]; rfl)) dX18_head_91 rfl rfl (Nat.le_of_ble_eq_true rfl)) (SP_X18_needs_T) ?_
  refine xw_aload_n (pc := 94) dX18_head_94 1 rfl ?_
  refine xw_dup (pc := 95) dX18_head_95 rfl ?_
  refine xw_getNat (k := p) (pc := 96) fd_X18_22 dX18_head_96 (by first | assumption | (simp [-List.getD_eq_getElem?_getD, xE_setI, xsz_setI, xsl_setI, xtag_setI, xown_setI, xlen_setI, xE_setR, xsz_setR, xsl_setR, xtag_setR, xown_setR, xlen_setR, xE_setW, xsz_setW, xsl_setW, xtag_setW, xown_setW, xlen_setW, xi_setR, xi_setW, xr_setI, xr_setW, xww_setI, xww_setR, xi_setI, xr_setR, xww_setW, xE_new, xsz_new, xsl_new, r1, r4, r5, rn, d1, d3, dn, rnE, xsub]; done) | (simp [-List.getD_eq_getElem?_getD, xE_setI, xsz_setI, xsl_setI, xtag_setI, xown_setI, xlen_setI, xE_setR, xsz_setR, xsl_setR, xtag_setR, xown_setR, xlen_setR, xE_setW, xsz_setW, xsl_setW, xtag_setW, xown_setW, xlen_setW, xi_setR, xi_setW, xr_setI, xr_setW, xww_setI, xww_setR, xi_setI, xr_setR, xww_setW, xE_new, xsz_new, xsl_new, r1, r4, r5, rn, d1, d3, dn, rnE] <;> rfl)) (by simp [-List.getD_eq_getElem?_getD, xE_setI, xsz_setI, xsl_setI, xtag_setI, xown_setI, xlen_setI, xE_setR, xsz_setR, xsl_setR, xtag_setR, xown_setR, xlen_setR, xE_setW, xsz_setW, xsl_setW, xtag_setW, xown_setW, xlen_setW, xi_setR, xi_setW, xr_setI, xr_setW, xww_setI, xww_setR, xi_setI, xr_setR, xww_setW, xE_new, xsz_new, xsl_new, r1, r4, r5, rn, d1, d3, dn, rnE]) ?_
  refine xw_iconst (v := nI 1) (pc := 99) dX18_head_99 rfl ?_
  refine xn_iadd (pc := 100) dX18_head_100 ?_
  refine xw_putI (pc := 101) fd_X18_22 (xfin_of (by decide) (by decide +kernel)) dX18_head_101 (by first | assumption | (simp [-List.getD_eq_getElem?_getD, xE_setI, xsz_setI, xsl_setI, xtag_setI, xown_setI, xlen_setI, xE_setR, xsz_setR, xsl_setR, xtag_setR, xown_setR, xlen_setR, xE_setW, xsz_setW, xsl_setW, xtag_setW, xown_setW, xlen_setW, xi_setR, xi_setW, xr_setI, xr_setW, xww_setI, xww_setR, xi_setI, xr_setR, xww_setW, xE_new, xsz_new, xsl_new, r1, r4, r5, rn, d1, d3, dn, rnE, xsub]; done) | (simp [-List.getD_eq_getElem?_getD, xE_setI, xsz_setI, xsl_setI, xtag_setI, xown_setI, xlen_setI, xE_setR, xsz_setR, xsl_setR, xtag_setR, xown_setR, xlen_setR, xE_setW, xsz_setW, xsl_setW, xtag_setW, xown_setW, xlen_setW, xi_setR, xi_setW, xr_setI, xr_setW, xww_setI, xww_setR, xi_setI, xr_setR, xww_setW, xE_new, xsz_new, xsl_new, r1, r4, r5, rn, d1, d3, dn, rnE] <;> rfl)) (by first | assumption | (simp [-List.getD_eq_getElem?_getD, xE_setI, xsz_setI, xsl_setI, xtag_setI, xown_setI, xlen_setI, xE_setR, xsz_setR, xsl_setR, xtag_setR, xown_setR, xlen_setR, xE_setW, xsz_setW, xsl_setW, xtag_setW, xown_setW, xlen_setW, xi_setR, xi_setW, xr_setI, xr_setW, xww_setI, xww_setR, xi_setI, xr_setR, xww_setW, xE_new, xsz_new, xsl_new, r1, r4, r5, rn, d1, d3, dn, rnE]; done) | (simp [-List.getD_eq_getElem?_getD, xE_setI, xsz_setI, xsl_setI, xtag_setI, xown_setI, xlen_setI, xE_setR, xsz_setR, xsl_setR, xtag_setR, xown_setR, xlen_setR, xE_setW, xsz_setW, xsl_setW, xtag_setW, xown_setW, xlen_setW, xi_setR, xi_setW, xr_setI, xr_setW, xww_setI, xww_setR, xi_setI, xr_setR, xww_setW, xE_new, xsz_new, xsl_new, r1, r4, r5, rn, d1, d3, dn, rnE]; assumption)) ?_
  refine xw_vret (pc := 104) dX18_head_104 rfl ?_
  refine ⟨rfl, hDe.at_ (by rw [xtag_setR]; exact r1) (by rw [xown_setR]; exact r2), hRe.to (by omega), ?_⟩
  exact (((xFr.rf (O := oEq 14) (n := 0)).sr (Or.inr d2)).si (Or.inr (by rw [xown_setR]; exact r2))).b14.sub (fun _ h => h) (by omega)

theorem SP_X18_head_2 {d : Nat} {g : xG} {R D tb p n : Nat} {ch : Nat → Nat} (hR : xRd g R D tb p n ch) (hcn : xCn g) {sc rk f l : Int32} {tl arr : Nat} (hD : xDr g D none (-1) sc rk f l tl arr []) (hx : hIs n ch p 120 = false) (h0 : hIs n ch p 112 = false) (h1 : hIs n ch p 102 = false) (h2 : hIs n ch p 108 = true) : XM M_X18_head (d + 9) [.ref R] g (xRH g R D tb n ch sc rk f l tl arr 40 (rHd n ch p)) := by
  have hR0 := hR
  have hD0 := hD
  obtain ⟨r1, r2, r3, r4, r5, hB, r7, r8⟩ := hR
  obtain ⟨d1, d2, d3, d4, d5, d6, d7, d8, d9, d10⟩ := hD
  have rl := hR0.lt
  have rn := hR0.own
  have dn : xown g D ≠ 0 := by rw [d2]; decide
  unfold rHd
  rw [if_neg (Bool.eq_false_iff.mp hx), if_neg (Bool.eq_false_iff.mp h0), if_neg (Bool.eq_false_iff.mp h1), if_pos h2]
  have hRe : xRd (xsetR g D 0 (some ((xE g).2.2.1 2))) R D tb p n ch := hR0.setR d1 d2
  have hDe := hD0.setE (v := some ((xE g).2.2.1 2))
  have hpn := (of_decide_eq_true h2).1
  have rnE : xown (xsetR g D 0 (some ((xE g).2.2.1 2))) R ≠ 0 := by rw [xown_setR]; exact rn
  refine xm_of (by decide +kernel) (Nat.le_of_ble_eq_true rfl) ?_
  show XW _ _ 0 [(0, _)] [] _ _
  refine xw_aload_n (pc := 0) dX18_head_0 0 rfl ?_
  refine xw_bipush (v := nI 120) (pc := 1) dX18_head_1 (by decide +kernel) ?_
  refine xw_callV (pc := 3) (xr_V (as := [_]) ok_X18_isHere rfl (by decide) q1904 q1906 qs33 (by first | (rw [r1]; rfl) | (rw [xtag_setR, r1]; rfl) | (rw [y1]; rfl) | (rw [z1]; rfl)) (by first | (rw [r1]; rfl) | (rw [xtag_setR, r1]; rfl) | (rw [y1]; rfl) | (rw [z1]; rfl)) dX18_head_3 rfl rfl (Nat.le_of_ble_eq_true rfl)) ((show XM M_X18_isHere (d + 8) [.ref R, .int (nI 120)] g (xOne (some (.int (bI false))) g) from hx ▸ SP_X18_isHere (d := d + 2) hR0 (by decide))) ?_
  refine xw_if_eq (pc := 6) 37 dX18_head_6 rfl (fun _ => ?_) (fun hb => absurd hb (by decide))
  refine xw_iconst (v := nI 0) (pc := 37) dX18_head_37 rfl ?_
  refine xw_istore_n (l' := [(1, _), (0, _)]) (pc := 38) dX18_head_38 rfl (by decide) rfl ?_
  refine xw_iload_n (pc := 39) dX18_head_39 0 rfl ?_
  refine xw_iconst (v := nI 3) (pc := 40) dX18_head_40 rfl ?_
  refine xw_icmp_ge (pc := 41) 75 dX18_head_41 rfl (fun hb => absurd hb (by decide)) (fun _ => ?_)
  refine xw_aload_n (pc := 44) dX18_head_44 1 rfl ?_
  refine xw_iload_n (pc := 45) dX18_head_45 0 rfl ?_
  refine xw_callV (pc := 46) (xr_SN (as := [_]) ok_X1_effectOf rfl (by decide) q2000 q1208 dX18_head_46 rfl rfl (Nat.le_of_ble_eq_true rfl)) (SP_X1_effectOfK (by decide)) ?_
  refine xw_headE (pc := 49) (by first | exact hcn | exact hcn.fr ((xFr.rf (O := oEq 14) (n := 0)).sr (Or.inr d2)) (by unfold oEq; omega)) (by decide) dX18_head_49 q2001 (Nat.le_of_ble_eq_true rfl) ?_
  refine xw_callV (pc := 52) (xr_V (as := [_]) ok_X18_isHere rfl (by decide) q1904 q1906 qs33 (by first | (rw [r1]; rfl) | (rw [xtag_setR, r1]; rfl) | (rw [y1]; rfl) | (rw [z1]; rfl)) (by first | (rw [r1]; rfl) | (rw [xtag_setR, r1]; rfl) | (rw [y1]; rfl) | (rw [z1]; rfl)) dX18_head_52 rfl rfl (Nat.le_of_ble_eq_true rfl)) ( (show XM M_X18_isHere (d + 8) [.ref R, .int (nI (hdC 0))] g (xOne (some (.int (bI false))) g) from (show hIs n ch p (hdC 0) = false from h0) ▸ SP_X18_isHere (d := d + 2) hR0 (by decide))) ?_
  refine xw_if_eq (pc := 55) 69 dX18_head_55 rfl (fun _ => ?_) (fun hb => absurd hb (by decide))
  refine xw_iinc (v := nI (1)) (l' := [(1, _), (0, _)]) (pc := 69) dX18_head_69 0 rfl (nI_add _ 1) (by decide) rfl ?_
  refine xw_goto (pc := 72) 39 dX18_head_72 rfl ?_
  refine xw_iload_n (pc := 39) dX18_head_39 0 rfl ?_
  refine xw_iconst (v := nI 3) (pc := 40) dX18_head_40 rfl ?_
  refine xw_icmp_ge (pc := 41) 75 dX18_head_41 rfl (fun hb => absurd hb (by decide)) (fun _ => ?_)
  refine xw_aload_n (pc := 44) dX18_head_44 1 rfl ?_
  refine xw_iload_n (pc := 45) dX18_head_45 0 rfl ?_
  refine xw_callV (pc := 46) (xr_SN (as := [_]) ok_X1_effectOf rfl (by decide) q2000 q1208 dX18_head_46 rfl rfl (Nat.le_of_ble_eq_true rfl)) (SP_X1_effectOfK (by decide)) ?_
  refine xw_headE (pc := 49) (by first | exact hcn | exact hcn.fr ((xFr.rf (O := oEq 14) (n := 0)).sr (Or.inr d2)) (by unfold oEq; omega)) (by decide) dX18_head_49 q2001 (Nat.le_of_ble_eq_true rfl) ?_
  refine xw_callV (pc := 52) (xr_V (as := [_]) ok_X18_isHere rfl (by decide) q1904 q1906 qs33 (by first | (rw [r1]; rfl) | (rw [xtag_setR, r1]; rfl) | (rw [y1]; rfl) | (rw [z1]; rfl)) (by first | (rw [r1]; rfl) | (rw [xtag_setR, r1]; rfl) | (rw [y1]; rfl) | (rw [z1]; rfl)) dX18_head_52 rfl rfl (Nat.le_of_ble_eq_true rfl)) ( (show XM M_X18_isHere (d + 8) [.ref R, .int (nI (hdC 1))] g (xOne (some (.int (bI false))) g) from (show hIs n ch p (hdC 1) = false from h1) ▸ SP_X18_isHere (d := d + 2) hR0 (by decide))) ?_
  refine xw_if_eq (pc := 55) 69 dX18_head_55 rfl (fun _ => ?_) (fun hb => absurd hb (by decide))
  refine xw_iinc (v := nI (2)) (l' := [(1, _), (0, _)]) (pc := 69) dX18_head_69 0 rfl (nI_add _ 1) (by decide) rfl ?_
  refine xw_goto (pc := 72) 39 dX18_head_72 rfl ?_
  refine xw_iload_n (pc := 39) dX18_head_39 0 rfl ?_
  refine xw_iconst (v := nI 3) (pc := 40) dX18_head_40 rfl ?_
  refine xw_icmp_ge (pc := 41) 75 dX18_head_41 rfl (fun hb => absurd hb (by decide)) (fun _ => ?_)
  refine xw_aload_n (pc := 44) dX18_head_44 1 rfl ?_
  refine xw_iload_n (pc := 45) dX18_head_45 0 rfl ?_
  refine xw_callV (pc := 46) (xr_SN (as := [_]) ok_X1_effectOf rfl (by decide) q2000 q1208 dX18_head_46 rfl rfl (Nat.le_of_ble_eq_true rfl)) (SP_X1_effectOfK (by decide)) ?_
  refine xw_headE (pc := 49) (by first | exact hcn | exact hcn.fr ((xFr.rf (O := oEq 14) (n := 0)).sr (Or.inr d2)) (by unfold oEq; omega)) (by decide) dX18_head_49 q2001 (Nat.le_of_ble_eq_true rfl) ?_
  refine xw_callV (pc := 52) (xr_V (as := [_]) ok_X18_isHere rfl (by decide) q1904 q1906 qs33 (by first | (rw [r1]; rfl) | (rw [xtag_setR, r1]; rfl) | (rw [y1]; rfl) | (rw [z1]; rfl)) (by first | (rw [r1]; rfl) | (rw [xtag_setR, r1]; rfl) | (rw [y1]; rfl) | (rw [z1]; rfl)) dX18_head_52 rfl rfl (Nat.le_of_ble_eq_true rfl)) ( (show XM M_X18_isHere (d + 8) [.ref R, .int (nI (hdC 2))] g (xOne (some (.int (bI true))) g) from (show hIs n ch p (hdC 2) = true from h2) ▸ SP_X18_isHere (d := d + 2) hR0 (by decide))) ?_
  refine xw_if_eq (pc := 55) 69 dX18_head_55 rfl (fun hb => absurd hb (by decide)) (fun _ => ?_)
  refine xw_aload_n (pc := 58) dX18_head_58 1 rfl ?_
  refine xw_getS (b := D) (pc := 59) fd_X18_12 dX18_head_59 (by first | assumption | (simp [-List.getD_eq_getElem?_getD, xE_setI, xsz_setI, xsl_setI, xtag_setI, xown_setI, xlen_setI, xE_setR, xsz_setR, xsl_setR, xtag_setR, xown_setR, xlen_setR, xE_setW, xsz_setW, xsl_setW, xtag_setW, xown_setW, xlen_setW, xi_setR, xi_setW, xr_setI, xr_setW, xww_setI, xww_setR, xi_setI, xr_setR, xww_setW, xE_new, xsz_new, xsl_new, r1, r4, r5, rn, d1, d3, dn, rnE, xsub]; done) | (simp [-List.getD_eq_getElem?_getD, xE_setI, xsz_setI, xsl_setI, xtag_setI, xown_setI, xlen_setI, xE_setR, xsz_setR, xsl_setR, xtag_setR, xown_setR, xlen_setR, xE_setW, xsz_setW, xsl_setW, xtag_setW, xown_setW, xlen_setW, xi_setR, xi_setW, xr_setI, xr_setW, xww_setI, xww_setR, xi_setI, xr_setR, xww_setW, xE_new, xsz_new, xsl_new, r1, r4, r5, rn, d1, d3, dn, rnE] <;> rfl)) (by simp [-List.getD_eq_getElem?_getD, xE_setI, xsz_setI, xsl_setI, xtag_setI, xown_setI, xlen_setI, xE_setR, xsz_setR, xsl_setR, xtag_setR, xown_setR, xlen_setR, xE_setW, xsz_setW, xsl_setW, xtag_setW, xown_setW, xlen_setW, xi_setR, xi_setW, xr_setI, xr_setW, xww_setI, xww_setR, xi_setI, xr_setR, xww_setW, xE_new, xsz_new, xsl_new, r1, r4, r5, rn, d1, d3, dn, rnE]) ?_
  refine xw_iload_n (pc := 62) dX18_head_62 0 rfl ?_
  refine xw_callV (pc := 63) (xr_SN (as := [_]) ok_X1_effectOf rfl (by decide) q2000 q1208 dX18_head_63 rfl rfl (Nat.le_of_ble_eq_true rfl)) (SP_X1_effectOfK (by decide)) ?_
  refine xw_putR (o := (some ((xE g).2.2.1 2))) (pc := 66) fd_X18_82 (xfin_of (by decide) (by decide +kernel)) dX18_head_66 (by first | assumption | (simp [-List.getD_eq_getElem?_getD, xE_setI, xsz_setI, xsl_setI, xtag_setI, xown_setI, xlen_setI, xE_setR, xsz_setR, xsl_setR, xtag_setR, xown_setR, xlen_setR, xE_setW, xsz_setW, xsl_setW, xtag_setW, xown_setW, xlen_setW, xi_setR, xi_setW, xr_setI, xr_setW, xww_setI, xww_setR, xi_setI, xr_setR, xww_setW, xE_new, xsz_new, xsl_new, r1, r4, r5, rn, d1, d3, dn, rnE, xsub]; done) | (simp [-List.getD_eq_getElem?_getD, xE_setI, xsz_setI, xsl_setI, xtag_setI, xown_setI, xlen_setI, xE_setR, xsz_setR, xsl_setR, xtag_setR, xown_setR, xlen_setR, xE_setW, xsz_setW, xsl_setW, xtag_setW, xown_setW, xlen_setW, xi_setR, xi_setW, xr_setI, xr_setW, xww_setI, xww_setR, xi_setI, xr_setR, xww_setW, xE_new, xsz_new, xsl_new, r1, r4, r5, rn, d1, d3, dn, rnE] <;> rfl)) (by first | assumption | (simp [-List.getD_eq_getElem?_getD, xE_setI, xsz_setI, xsl_setI, xtag_setI, xown_setI, xlen_setI, xE_setR, xsz_setR, xsl_setR, xtag_setR, xown_setR, xlen_setR, xE_setW, xsz_setW, xsl_setW, xtag_setW, xown_setW, xlen_setW, xi_setR, xi_setW, xr_setI, xr_setW, xww_setI, xww_setR, xi_setI, xr_setR, xww_setW, xE_new, xsz_new, xsl_new, r1, r4, r5, rn, d1, d3, dn, rnE]; done) | (simp [-List.getD_eq_getElem?_getD, xE_setI, xsz_setI, xsl_setI, xtag_setI, xown_setI, xlen_setI, xE_setR, xsz_setR, xsl_setR, xtag_setR, xown_setR, xlen_setR, xE_setW, xsz_setW, xsl_setW, xtag_setW, xown_setW, xlen_setW, xi_setR, xi_setW, xr_setI, xr_setW, xww_setI, xww_setR, xi_setI, xr_setR, xww_setW, xE_new, xsz_new, xsl_new, r1, r4, r5, rn, d1, d3, dn, rnE]; assumption)) rfl ?_
  refine xw_iinc (v := nI (3)) (l' := [(1, _), (0, _)]) (pc := 69) dX18_head_69 0 rfl (nI_add _ 1) (by decide) rfl ?_
  refine xw_goto (pc := 72) 39 dX18_head_72 rfl ?_
  refine xw_iload_n (pc := 39) dX18_head_39 0 rfl ?_
  refine xw_iconst (v := nI 3) (pc := 40) dX18_head_40 rfl ?_
  refine xw_icmp_ge (pc := 41) 75 dX18_head_41 rfl (fun _ => ?_) (fun hb => absurd hb (by decide))
  refine xw_aload_n (pc := 75) dX18_head_75 1 rfl ?_
  refine xw_aload_n (pc := 76) dX18_head_76 1 rfl ?_
  refine xw_getS (b := D) (pc := 77) fd_X18_12 dX18_head_77 (by first | assumption | (simp [-List.getD_eq_getElem?_getD, xE_setI, xsz_setI, xsl_setI, xtag_setI, xown_setI, xlen_setI, xE_setR, xsz_setR, xsl_setR, xtag_setR, xown_setR, xlen_setR, xE_setW, xsz_setW, xsl_setW, xtag_setW, xown_setW, xlen_setW, xi_setR, xi_setW, xr_setI, xr_setW, xww_setI, xww_setR, xi_setI, xr_setR, xww_setW, xE_new, xsz_new, xsl_new, r1, r4, r5, rn, d1, d3, dn, rnE, xsub]; done) | (simp [-List.getD_eq_getElem?_getD, xE_setI, xsz_setI, xsl_setI, xtag_setI, xown_setI, xlen_setI, xE_setR, xsz_setR, xsl_setR, xtag_setR, xown_setR, xlen_setR, xE_setW, xsz_setW, xsl_setW, xtag_setW, xown_setW, xlen_setW, xi_setR, xi_setW, xr_setI, xr_setW, xww_setI, xww_setR, xi_setI, xr_setR, xww_setW, xE_new, xsz_new, xsl_new, r1, r4, r5, rn, d1, d3, dn, rnE] <;> rfl)) (by simp [-List.getD_eq_getElem?_getD, xE_setI, xsz_setI, xsl_setI, xtag_setI, xown_setI, xlen_setI, xE_setR, xsz_setR, xsl_setR, xtag_setR, xown_setR, xlen_setR, xE_setW, xsz_setW, xsl_setW, xtag_setW, xown_setW, xlen_setW, xi_setR, xi_setW, xr_setI, xr_setW, xww_setI, xww_setR, xi_setI, xr_setR, xww_setW, xE_new, xsz_new, xsl_new, r1, r4, r5, rn, d1, d3, dn, rnE]) ?_
  refine xw_getS (b := ((xE g).2.2.1 2)) (pc := 80) fd_X18_82 dX18_head_80 (by first | assumption | (simp [-List.getD_eq_getElem?_getD, xE_setI, xsz_setI, xsl_setI, xtag_setI, xown_setI, xlen_setI, xE_setR, xsz_setR, xsl_setR, xtag_setR, xown_setR, xlen_setR, xE_setW, xsz_setW, xsl_setW, xtag_setW, xown_setW, xlen_setW, xi_setR, xi_setW, xr_setI, xr_setW, xww_setI, xww_setR, xi_setI, xr_setR, xww_setW, xE_new, xsz_new, xsl_new, r1, r4, r5, rn, d1, d3, dn, rnE, xsub]; done) | (simp [-List.getD_eq_getElem?_getD, xE_setI, xsz_setI, xsl_setI, xtag_setI, xown_setI, xlen_setI, xE_setR, xsz_setR, xsl_setR, xtag_setR, xown_setR, xlen_setR, xE_setW, xsz_setW, xsl_setW, xtag_setW, xown_setW, xlen_setW, xi_setR, xi_setW, xr_setI, xr_setW, xww_setI, xww_setR, xi_setI, xr_setR, xww_setW, xE_new, xsz_new, xsl_new, r1, r4, r5, rn, d1, d3, dn, rnE] <;> rfl)) (by simp [-List.getD_eq_getElem?_getD, xE_setI, xsz_setI, xsl_setI, xtag_setI, xown_setI, xlen_setI, xE_setR, xsz_setR, xsl_setR, xtag_setR, xown_setR, xlen_setR, xE_setW, xsz_setW, xsl_setW, xtag_setW, xown_setW, xlen_setW, xi_setR, xi_setW, xr_setI, xr_setW, xww_setI, xww_setR, xi_setI, xr_setR, xww_setW, xE_new, xsz_new, xsl_new, r1, r4, r5, rn, d1, d3, dn, rnE]) ?_
  refine xw_ifnull (pc := 83) dX18_head_83 ?_
  refine xw_iconst (v := nI 1) (pc := 86) dX18_head_86 rfl ?_
  refine xw_goto (pc := 87) 91 dX18_head_87 rfl ?_
  refine xw_callU (pc := 91) (xr_V (as := [_]) ok_X18_needs rfl (by decide) q1968 q1970 qs38 (by first | (rw [r1]; rfl) | (rw [xtag_setR, r1]; rfl) | (rw [y1]; rfl) | (rw [z1]; rfl)) (by first | (rw [r1]; rfl) | (rw [xtag_setR, r1]; rfl) | (rw [y1]; rfl) | (rw [z1]; rfl)) dX18_head_91 rfl rfl (Nat.le_of_ble_eq_true rfl)) (SP_X18_needs_T) ?_
  refine xw_aload_n (pc := 94) dX18_head_94 1 rfl ?_
  refine xw_dup (pc := 95) dX18_head_95 rfl ?_
  refine xw_getNat (k := p) (pc := 96) fd_X18_22 dX18_head_96 (by first | assumption | (simp [-List.getD_eq_getElem?_getD, xE_setI, xsz_setI, xsl_setI, xtag_setI, xown_setI, xlen_setI, xE_setR, xsz_setR, xsl_setR, xtag_setR, xown_setR, xlen_setR, xE_setW, xsz_setW, xsl_setW, xtag_setW, xown_setW, xlen_setW, xi_setR, xi_setW, xr_setI, xr_setW, xww_setI, xww_setR, xi_setI, xr_setR, xww_setW, xE_new, xsz_new, xsl_new, r1, r4, r5, rn, d1, d3, dn, rnE, xsub]; done) | (simp [-List.getD_eq_getElem?_getD, xE_setI, xsz_setI, xsl_setI, xtag_setI, xown_setI, xlen_setI, xE_setR, xsz_setR, xsl_setR, xtag_setR, xown_setR, xlen_setR, xE_setW, xsz_setW, xsl_setW, xtag_setW, xown_setW, xlen_setW, xi_setR, xi_setW, xr_setI, xr_setW, xww_setI, xww_setR, xi_setI, xr_setR, xww_setW, xE_new, xsz_new, xsl_new, r1, r4, r5, rn, d1, d3, dn, rnE] <;> rfl)) (by simp [-List.getD_eq_getElem?_getD, xE_setI, xsz_setI, xsl_setI, xtag_setI, xown_setI, xlen_setI, xE_setR, xsz_setR, xsl_setR, xtag_setR, xown_setR, xlen_setR, xE_setW, xsz_setW, xsl_setW, xtag_setW, xown_setW, xlen_setW, xi_setR, xi_setW, xr_setI, xr_setW, xww_setI, xww_setR, xi_setI, xr_setR, xww_setW, xE_new, xsz_new, xsl_new, r1, r4, r5, rn, d1, d3, dn, rnE]) ?_
  refine xw_iconst (v := nI 1) (pc := 99) dX18_head_99 rfl ?_
  refine xn_iadd (pc := 100) dX18_head_100 ?_
  refine xw_putI (pc := 101) fd_X18_22 (xfin_of (by decide) (by decide +kernel)) dX18_head_101 (by first | assumption | (simp [-List.getD_eq_getElem?_getD, xE_setI, xsz_setI, xsl_setI, xtag_setI, xown_setI, xlen_setI, xE_setR, xsz_setR, xsl_setR, xtag_setR, xown_setR, xlen_setR, xE_setW, xsz_setW, xsl_setW, xtag_setW, xown_setW, xlen_setW, xi_setR, xi_setW, xr_setI, xr_setW, xww_setI, xww_setR, xi_setI, xr_setR, xww_setW, xE_new, xsz_new, xsl_new, r1, r4, r5, rn, d1, d3, dn, rnE, xsub]; done) | (simp [-List.getD_eq_getElem?_getD, xE_setI, xsz_setI, xsl_setI, xtag_setI, xown_setI, xlen_setI, xE_setR, xsz_setR, xsl_setR, xtag_setR, xown_setR, xlen_setR, xE_setW, xsz_setW, xsl_setW, xtag_setW, xown_setW, xlen_setW, xi_setR, xi_setW, xr_setI, xr_setW, xww_setI, xww_setR, xi_setI, xr_setR, xww_setW, xE_new, xsz_new, xsl_new, r1, r4, r5, rn, d1, d3, dn, rnE] <;> rfl)) (by first | assumption | (simp [-List.getD_eq_getElem?_getD, xE_setI, xsz_setI, xsl_setI, xtag_setI, xown_setI, xlen_setI, xE_setR, xsz_setR, xsl_setR, xtag_setR, xown_setR, xlen_setR, xE_setW, xsz_setW, xsl_setW, xtag_setW, xown_setW, xlen_setW, xi_setR, xi_setW, xr_setI, xr_setW, xww_setI, xww_setR, xi_setI, xr_setR, xww_setW, xE_new, xsz_new, xsl_new, r1, r4, r5, rn, d1, d3, dn, rnE]; done) | (simp [-List.getD_eq_getElem?_getD, xE_setI, xsz_setI, xsl_setI, xtag_setI, xown_setI, xlen_setI, xE_setR, xsz_setR, xsl_setR, xtag_setR, xown_setR, xlen_setR, xE_setW, xsz_setW, xsl_setW, xtag_setW, xown_setW, xlen_setW, xi_setR, xi_setW, xr_setI, xr_setW, xww_setI, xww_setR, xi_setI, xr_setR, xww_setW, xE_new, xsz_new, xsl_new, r1, r4, r5, rn, d1, d3, dn, rnE]; assumption)) ?_
  refine xw_vret (pc := 104) dX18_head_104 rfl ?_
  refine ⟨rfl, hDe.at_ (by rw [xtag_setR]; exact r1) (by rw [xown_setR]; exact r2), hRe.to (by omega), ?_⟩
  exact (((xFr.rf (O := oEq 14) (n := 0)).sr (Or.inr d2)).si (Or.inr (by rw [xown_setR]; exact r2))).b14.sub (fun _ h => h) (by omega)

theorem SP_X18_head_N {d : Nat} {g : xG} {R D tb p n : Nat} {ch : Nat → Nat} (hR : xRd g R D tb p n ch) (hcn : xCn g) {sc rk f l : Int32} {tl arr : Nat} (hD : xDr g D none (-1) sc rk f l tl arr []) (hx : hIs n ch p 120 = false) (h0 : hIs n ch p 112 = false) (h1 : hIs n ch p 102 = false) (h2 : hIs n ch p 108 = false) : XM M_X18_head (d + 9) [.ref R] g (xRH g R D tb n ch sc rk f l tl arr 40 (rHd n ch p)) := by
  have hR0 := hR
  have hD0 := hD
  obtain ⟨r1, r2, r3, r4, r5, hB, r7, r8⟩ := hR
  obtain ⟨d1, d2, d3, d4, d5, d6, d7, d8, d9, d10⟩ := hD
  have rl := hR0.lt
  have rn := hR0.own
  have dn : xown g D ≠ 0 := by rw [d2]; decide
  unfold rHd
  rw [if_neg (Bool.eq_false_iff.mp hx), if_neg (Bool.eq_false_iff.mp h0), if_neg (Bool.eq_false_iff.mp h1), if_neg (Bool.eq_false_iff.mp h2)]
  refine xm_of (by decide +kernel) (Nat.le_of_ble_eq_true rfl) ?_
  show XW _ _ 0 [(0, _)] [] _ _
  refine xw_aload_n (pc := 0) dX18_head_0 0 rfl ?_
  refine xw_bipush (v := nI 120) (pc := 1) dX18_head_1 (by decide +kernel) ?_
  refine xw_callV (pc := 3) (xr_V (as := [_]) ok_X18_isHere rfl (by decide) q1904 q1906 qs33 (by first | (rw [r1]; rfl) | (rw [xtag_setR, r1]; rfl) | (rw [y1]; rfl) | (rw [z1]; rfl)) (by first | (rw [r1]; rfl) | (rw [xtag_setR, r1]; rfl) | (rw [y1]; rfl) | (rw [z1]; rfl)) dX18_head_3 rfl rfl (Nat.le_of_ble_eq_true rfl)) ((show XM M_X18_isHere (d + 8) [.ref R, .int (nI 120)] g (xOne (some (.int (bI false))) g) from hx ▸ SP_X18_isHere (d := d + 2) hR0 (by decide))) ?_
  refine xw_if_eq (pc := 6) 37 dX18_head_6 rfl (fun _ => ?_) (fun hb => absurd hb (by decide))
  refine xw_iconst (v := nI 0) (pc := 37) dX18_head_37 rfl ?_
  refine xw_istore_n (l' := [(1, _), (0, _)]) (pc := 38) dX18_head_38 rfl (by decide) rfl ?_
  refine xw_iload_n (pc := 39) dX18_head_39 0 rfl ?_
  refine xw_iconst (v := nI 3) (pc := 40) dX18_head_40 rfl ?_
  refine xw_icmp_ge (pc := 41) 75 dX18_head_41 rfl (fun hb => absurd hb (by decide)) (fun _ => ?_)
  refine xw_aload_n (pc := 44) dX18_head_44 1 rfl ?_
  refine xw_iload_n (pc := 45) dX18_head_45 0 rfl ?_
  refine xw_callV (pc := 46) (xr_SN (as := [_]) ok_X1_effectOf rfl (by decide) q2000 q1208 dX18_head_46 rfl rfl (Nat.le_of_ble_eq_true rfl)) (SP_X1_effectOfK (by decide)) ?_
  refine xw_headE (pc := 49) (by first | exact hcn | exact hcn.fr ((xFr.rf (O := oEq 14) (n := 0)).sr (Or.inr d2)) (by unfold oEq; omega)) (by decide) dX18_head_49 q2001 (Nat.le_of_ble_eq_true rfl) ?_
  refine xw_callV (pc := 52) (xr_V (as := [_]) ok_X18_isHere rfl (by decide) q1904 q1906 qs33 (by first | (rw [r1]; rfl) | (rw [xtag_setR, r1]; rfl) | (rw [y1]; rfl) | (rw [z1]; rfl)) (by first | (rw [r1]; rfl) | (rw [xtag_setR, r1]; rfl) | (rw [y1]; rfl) | (rw [z1]; rfl)) dX18_head_52 rfl rfl (Nat.le_of_ble_eq_true rfl)) ( (show XM M_X18_isHere (d + 8) [.ref R, .int (nI (hdC 0))] g (xOne (some (.int (bI false))) g) from (show hIs n ch p (hdC 0) = false from h0) ▸ SP_X18_isHere (d := d + 2) hR0 (by decide))) ?_
  refine xw_if_eq (pc := 55) 69 dX18_head_55 rfl (fun _ => ?_) (fun hb => absurd hb (by decide))
  refine xw_iinc (v := nI (1)) (l' := [(1, _), (0, _)]) (pc := 69) dX18_head_69 0 rfl (nI_add _ 1) (by decide) rfl ?_
  refine xw_goto (pc := 72) 39 dX18_head_72 rfl ?_
  refine xw_iload_n (pc := 39) dX18_head_39 0 rfl ?_
  refine xw_iconst (v := nI 3) (pc := 40) dX18_head_40 rfl ?_
  refine xw_icmp_ge (pc := 41) 75 dX18_head_41 rfl (fun hb => absurd hb (by decide)) (fun _ => ?_)
  refine xw_aload_n (pc := 44) dX18_head_44 1 rfl ?_
  refine xw_iload_n (pc := 45) dX18_head_45 0 rfl ?_
  refine xw_callV (pc := 46) (xr_SN (as := [_]) ok_X1_effectOf rfl (by decide) q2000 q1208 dX18_head_46 rfl rfl (Nat.le_of_ble_eq_true rfl)) (SP_X1_effectOfK (by decide)) ?_
  refine xw_headE (pc := 49) (by first | exact hcn | exact hcn.fr ((xFr.rf (O := oEq 14) (n := 0)).sr (Or.inr d2)) (by unfold oEq; omega)) (by decide) dX18_head_49 q2001 (Nat.le_of_ble_eq_true rfl) ?_
  refine xw_callV (pc := 52) (xr_V (as := [_]) ok_X18_isHere rfl (by decide) q1904 q1906 qs33 (by first | (rw [r1]; rfl) | (rw [xtag_setR, r1]; rfl) | (rw [y1]; rfl) | (rw [z1]; rfl)) (by first | (rw [r1]; rfl) | (rw [xtag_setR, r1]; rfl) | (rw [y1]; rfl) | (rw [z1]; rfl)) dX18_head_52 rfl rfl (Nat.le_of_ble_eq_true rfl)) ( (show XM M_X18_isHere (d + 8) [.ref R, .int (nI (hdC 1))] g (xOne (some (.int (bI false))) g) from (show hIs n ch p (hdC 1) = false from h1) ▸ SP_X18_isHere (d := d + 2) hR0 (by decide))) ?_
  refine xw_if_eq (pc := 55) 69 dX18_head_55 rfl (fun _ => ?_) (fun hb => absurd hb (by decide))
  refine xw_iinc (v := nI (2)) (l' := [(1, _), (0, _)]) (pc := 69) dX18_head_69 0 rfl (nI_add _ 1) (by decide) rfl ?_
  refine xw_goto (pc := 72) 39 dX18_head_72 rfl ?_
  refine xw_iload_n (pc := 39) dX18_head_39 0 rfl ?_
  refine xw_iconst (v := nI 3) (pc := 40) dX18_head_40 rfl ?_
  refine xw_icmp_ge (pc := 41) 75 dX18_head_41 rfl (fun hb => absurd hb (by decide)) (fun _ => ?_)
  refine xw_aload_n (pc := 44) dX18_head_44 1 rfl ?_
  refine xw_iload_n (pc := 45) dX18_head_45 0 rfl ?_
  refine xw_callV (pc := 46) (xr_SN (as := [_]) ok_X1_effectOf rfl (by decide) q2000 q1208 dX18_head_46 rfl rfl (Nat.le_of_ble_eq_true rfl)) (SP_X1_effectOfK (by decide)) ?_
  refine xw_headE (pc := 49) (by first | exact hcn | exact hcn.fr ((xFr.rf (O := oEq 14) (n := 0)).sr (Or.inr d2)) (by unfold oEq; omega)) (by decide) dX18_head_49 q2001 (Nat.le_of_ble_eq_true rfl) ?_
  refine xw_callV (pc := 52) (xr_V (as := [_]) ok_X18_isHere rfl (by decide) q1904 q1906 qs33 (by first | (rw [r1]; rfl) | (rw [xtag_setR, r1]; rfl) | (rw [y1]; rfl) | (rw [z1]; rfl)) (by first | (rw [r1]; rfl) | (rw [xtag_setR, r1]; rfl) | (rw [y1]; rfl) | (rw [z1]; rfl)) dX18_head_52 rfl rfl (Nat.le_of_ble_eq_true rfl)) ( (show XM M_X18_isHere (d + 8) [.ref R, .int (nI (hdC 2))] g (xOne (some (.int (bI false))) g) from (show hIs n ch p (hdC 2) = false from h2) ▸ SP_X18_isHere (d := d + 2) hR0 (by decide))) ?_
  refine xw_if_eq (pc := 55) 69 dX18_head_55 rfl (fun _ => ?_) (fun hb => absurd hb (by decide))
  refine xw_iinc (v := nI (3)) (l' := [(1, _), (0, _)]) (pc := 69) dX18_head_69 0 rfl (nI_add _ 1) (by decide) rfl ?_
  refine xw_goto (pc := 72) 39 dX18_head_72 rfl ?_
  refine xw_iload_n (pc := 39) dX18_head_39 0 rfl ?_
  refine xw_iconst (v := nI 3) (pc := 40) dX18_head_40 rfl ?_
  refine xw_icmp_ge (pc := 41) 75 dX18_head_41 rfl (fun _ => ?_) (fun hb => absurd hb (by decide))
  refine xw_aload_n (pc := 75) dX18_head_75 1 rfl ?_
  refine xw_aload_n (pc := 76) dX18_head_76 1 rfl ?_
  refine xw_getS (b := D) (pc := 77) fd_X18_12 dX18_head_77 (by first | assumption | (simp [-List.getD_eq_getElem?_getD, xE_setI, xsz_setI, xsl_setI, xtag_setI, xown_setI, xlen_setI, xE_setR, xsz_setR, xsl_setR, xtag_setR, xown_setR, xlen_setR, xE_setW, xsz_setW, xsl_setW, xtag_setW, xown_setW, xlen_setW, xi_setR, xi_setW, xr_setI, xr_setW, xww_setI, xww_setR, xi_setI, xr_setR, xww_setW, xE_new, xsz_new, xsl_new, r1, r4, r5, rn, d1, d3, dn, xsub]; done) | (simp [-List.getD_eq_getElem?_getD, xE_setI, xsz_setI, xsl_setI, xtag_setI, xown_setI, xlen_setI, xE_setR, xsz_setR, xsl_setR, xtag_setR, xown_setR, xlen_setR, xE_setW, xsz_setW, xsl_setW, xtag_setW, xown_setW, xlen_setW, xi_setR, xi_setW, xr_setI, xr_setW, xww_setI, xww_setR, xi_setI, xr_setR, xww_setW, xE_new, xsz_new, xsl_new, r1, r4, r5, rn, d1, d3, dn] <;> rfl)) (by simp [-List.getD_eq_getElem?_getD, xE_setI, xsz_setI, xsl_setI, xtag_setI, xown_setI, xlen_setI, xE_setR, xsz_setR, xsl_setR, xtag_setR, xown_setR, xlen_setR, xE_setW, xsz_setW, xsl_setW, xtag_setW, xown_setW, xlen_setW, xi_setR, xi_setW, xr_setI, xr_setW, xww_setI, xww_setR, xi_setI, xr_setR, xww_setW, xE_new, xsz_new, xsl_new, r1, r4, r5, rn, d1, d3, dn]) ?_
  refine xw_getN (pc := 80) fd_X18_82 dX18_head_80 (by first | assumption | (simp [-List.getD_eq_getElem?_getD, xE_setI, xsz_setI, xsl_setI, xtag_setI, xown_setI, xlen_setI, xE_setR, xsz_setR, xsl_setR, xtag_setR, xown_setR, xlen_setR, xE_setW, xsz_setW, xsl_setW, xtag_setW, xown_setW, xlen_setW, xi_setR, xi_setW, xr_setI, xr_setW, xww_setI, xww_setR, xi_setI, xr_setR, xww_setW, xE_new, xsz_new, xsl_new, r1, r4, r5, rn, d1, d3, dn, xsub]; done) | (simp [-List.getD_eq_getElem?_getD, xE_setI, xsz_setI, xsl_setI, xtag_setI, xown_setI, xlen_setI, xE_setR, xsz_setR, xsl_setR, xtag_setR, xown_setR, xlen_setR, xE_setW, xsz_setW, xsl_setW, xtag_setW, xown_setW, xlen_setW, xi_setR, xi_setW, xr_setI, xr_setW, xww_setI, xww_setR, xi_setI, xr_setR, xww_setW, xE_new, xsz_new, xsl_new, r1, r4, r5, rn, d1, d3, dn] <;> rfl)) (by simp [-List.getD_eq_getElem?_getD, xE_setI, xsz_setI, xsl_setI, xtag_setI, xown_setI, xlen_setI, xE_setR, xsz_setR, xsl_setR, xtag_setR, xown_setR, xlen_setR, xE_setW, xsz_setW, xsl_setW, xtag_setW, xown_setW, xlen_setW, xi_setR, xi_setW, xr_setI, xr_setW, xww_setI, xww_setR, xi_setI, xr_setR, xww_setW, xE_new, xsz_new, xsl_new, r1, r4, r5, rn, d1, d3, dn]) ?_
  refine xw_ifnullN (pc := 83) 90 dX18_head_83 rfl ?_
  refine xw_iconst (v := nI 0) (pc := 90) dX18_head_90 rfl ?_
  refine xw_callX (pc := 91) (xr_V (as := [_]) ok_X18_needs rfl (by decide) q1968 q1970 qs38 (by first | (rw [r1]; rfl) | (rw [xtag_setR, r1]; rfl) | (rw [y1]; rfl) | (rw [z1]; rfl)) (by first | (rw [r1]; rfl) | (rw [xtag_setR, r1]; rfl) | (rw [y1]; rfl) | (rw [z1]; rfl)) dX18_head_91 rfl rfl (Nat.le_of_ble_eq_true rfl)) (SP_X18_needs_F hR0) ?_
  refine xx_out0 rfl (by rw [xWr_tag]; decide) (by rw [xWr_tag]; decide) (by rw [xWr_own]; decide) ?_
  exact ⟨xsz _, rfl, xWr_tag, xWr_own, (xFr.rf (O := o145) (n := 0) (g := g)).le, xWr_at, (xWr_fr ((xFr.rf (O := o145) (n := 0) (g := g)))).sub (fun _ h => h) (by omega)⟩

theorem SP_X18_head_x0 {d : Nat} {g : xG} {R D tb p n : Nat} {ch : Nat → Nat} (hR : xRd g R D tb p n ch) (hcn : xCn g) {sc rk f l : Int32} {tl arr : Nat} (hD : xDr g D none (-1) sc rk f l tl arr []) (hx : hIs n ch p 120 = true) (hi : hIn n ch (p + 1) 48 57 = false) : XM M_X18_head (d + 9) [.ref R] g (xRH g R D tb n ch sc rk f l tl arr 40 (rHd n ch p)) := by
  have hR0 := hR
  have hD0 := hD
  obtain ⟨r1, r2, r3, r4, r5, hB, r7, r8⟩ := hR
  obtain ⟨d1, d2, d3, d4, d5, d6, d7, d8, d9, d10⟩ := hD
  have rl := hR0.lt
  have rn := hR0.own
  have dn : xown g D ≠ 0 := by rw [d2]; decide
  have hpn := (of_decide_eq_true hx).1
  have F1 : xFr (oEq 14) 0 g (xsetI g R 2 (nI (p + 1))) := xFr.rf.si (Or.inr r2)
  have hR1 := hR0.to (q := p + 1) (by omega)
  have y1 : xtag (xsetI g R 2 (nI (p + 1))) R = 15 := by rw [xtag_setI]; exact r1
  unfold rHd
  rw [if_pos hx]
  rw [if_neg (Bool.eq_false_iff.mp hi)]
  refine xm_of (by decide +kernel) (Nat.le_of_ble_eq_true rfl) ?_
  show XW _ _ 0 [(0, _)] [] _ _
  refine xw_aload_n (pc := 0) dX18_head_0 0 rfl ?_
  refine xw_bipush (v := nI 120) (pc := 1) dX18_head_1 (by decide +kernel) ?_
  refine xw_callV (pc := 3) (xr_V (as := [_]) ok_X18_isHere rfl (by decide) q1904 q1906 qs33 (by first | (rw [r1]; rfl) | (rw [xtag_setR, r1]; rfl) | (rw [y1]; rfl) | (rw [z1]; rfl)) (by first | (rw [r1]; rfl) | (rw [xtag_setR, r1]; rfl) | (rw [y1]; rfl) | (rw [z1]; rfl)) dX18_head_3 rfl rfl (Nat.le_of_ble_eq_true rfl)) ((show XM M_X18_isHere (d + 8) [.ref R, .int (nI 120)] g (xOne (some (.int (bI true))) g) from hx ▸ SP_X18_isHere (d := d + 2) hR0 (by decide))) ?_
  refine xw_if_eq (pc := 6) 37 dX18_head_6 rfl (fun hb => absurd hb (by decide)) (fun _ => ?_)
  refine xw_aload_n (pc := 9) dX18_head_9 0 rfl ?_
  refine xw_dup (pc := 10) dX18_head_10 rfl ?_
  refine xw_getNat (k := p) (pc := 11) fd_X18_22 dX18_head_11 (by first | assumption | (simp [-List.getD_eq_getElem?_getD, xE_setI, xsz_setI, xsl_setI, xtag_setI, xown_setI, xlen_setI, xE_setR, xsz_setR, xsl_setR, xtag_setR, xown_setR, xlen_setR, xE_setW, xsz_setW, xsl_setW, xtag_setW, xown_setW, xlen_setW, xi_setR, xi_setW, xr_setI, xr_setW, xww_setI, xww_setR, xi_setI, xr_setR, xww_setW, xE_new, xsz_new, xsl_new, r1, r4, r5, rn, d1, d3, dn, xsub]; done) | (simp [-List.getD_eq_getElem?_getD, xE_setI, xsz_setI, xsl_setI, xtag_setI, xown_setI, xlen_setI, xE_setR, xsz_setR, xsl_setR, xtag_setR, xown_setR, xlen_setR, xE_setW, xsz_setW, xsl_setW, xtag_setW, xown_setW, xlen_setW, xi_setR, xi_setW, xr_setI, xr_setW, xww_setI, xww_setR, xi_setI, xr_setR, xww_setW, xE_new, xsz_new, xsl_new, r1, r4, r5, rn, d1, d3, dn] <;> rfl)) (by simp [-List.getD_eq_getElem?_getD, xE_setI, xsz_setI, xsl_setI, xtag_setI, xown_setI, xlen_setI, xE_setR, xsz_setR, xsl_setR, xtag_setR, xown_setR, xlen_setR, xE_setW, xsz_setW, xsl_setW, xtag_setW, xown_setW, xlen_setW, xi_setR, xi_setW, xr_setI, xr_setW, xww_setI, xww_setR, xi_setI, xr_setR, xww_setW, xE_new, xsz_new, xsl_new, r1, r4, r5, rn, d1, d3, dn]) ?_
  refine xw_iconst (v := nI 1) (pc := 14) dX18_head_14 rfl ?_
  refine xn_iadd (pc := 15) dX18_head_15 ?_
  refine xw_putI (pc := 16) fd_X18_22 (xfin_of (by decide) (by decide +kernel)) dX18_head_16 (by first | assumption | (simp [-List.getD_eq_getElem?_getD, xE_setI, xsz_setI, xsl_setI, xtag_setI, xown_setI, xlen_setI, xE_setR, xsz_setR, xsl_setR, xtag_setR, xown_setR, xlen_setR, xE_setW, xsz_setW, xsl_setW, xtag_setW, xown_setW, xlen_setW, xi_setR, xi_setW, xr_setI, xr_setW, xww_setI, xww_setR, xi_setI, xr_setR, xww_setW, xE_new, xsz_new, xsl_new, r1, r4, r5, rn, d1, d3, dn, xsub]; done) | (simp [-List.getD_eq_getElem?_getD, xE_setI, xsz_setI, xsl_setI, xtag_setI, xown_setI, xlen_setI, xE_setR, xsz_setR, xsl_setR, xtag_setR, xown_setR, xlen_setR, xE_setW, xsz_setW, xsl_setW, xtag_setW, xown_setW, xlen_setW, xi_setR, xi_setW, xr_setI, xr_setW, xww_setI, xww_setR, xi_setI, xr_setR, xww_setW, xE_new, xsz_new, xsl_new, r1, r4, r5, rn, d1, d3, dn] <;> rfl)) (by first | assumption | (simp [-List.getD_eq_getElem?_getD, xE_setI, xsz_setI, xsl_setI, xtag_setI, xown_setI, xlen_setI, xE_setR, xsz_setR, xsl_setR, xtag_setR, xown_setR, xlen_setR, xE_setW, xsz_setW, xsl_setW, xtag_setW, xown_setW, xlen_setW, xi_setR, xi_setW, xr_setI, xr_setW, xww_setI, xww_setR, xi_setI, xr_setR, xww_setW, xE_new, xsz_new, xsl_new, r1, r4, r5, rn, d1, d3, dn]; done) | (simp [-List.getD_eq_getElem?_getD, xE_setI, xsz_setI, xsl_setI, xtag_setI, xown_setI, xlen_setI, xE_setR, xsz_setR, xsl_setR, xtag_setR, xown_setR, xlen_setR, xE_setW, xsz_setW, xsl_setW, xtag_setW, xown_setW, xlen_setW, xi_setR, xi_setW, xr_setI, xr_setW, xww_setI, xww_setR, xi_setI, xr_setR, xww_setW, xE_new, xsz_new, xsl_new, r1, r4, r5, rn, d1, d3, dn]; assumption)) ?_
  refine xw_aload_n (pc := 19) dX18_head_19 0 rfl ?_
  refine xw_getS (b := D) (pc := 20) fd_X18_12 dX18_head_20 (by first | assumption | (simp [-List.getD_eq_getElem?_getD, xE_setI, xsz_setI, xsl_setI, xtag_setI, xown_setI, xlen_setI, xE_setR, xsz_setR, xsl_setR, xtag_setR, xown_setR, xlen_setR, xE_setW, xsz_setW, xsl_setW, xtag_setW, xown_setW, xlen_setW, xi_setR, xi_setW, xr_setI, xr_setW, xww_setI, xww_setR, xi_setI, xr_setR, xww_setW, xE_new, xsz_new, xsl_new, r1, r4, r5, rn, d1, d3, dn, xsub]; done) | (simp [-List.getD_eq_getElem?_getD, xE_setI, xsz_setI, xsl_setI, xtag_setI, xown_setI, xlen_setI, xE_setR, xsz_setR, xsl_setR, xtag_setR, xown_setR, xlen_setR, xE_setW, xsz_setW, xsl_setW, xtag_setW, xown_setW, xlen_setW, xi_setR, xi_setW, xr_setI, xr_setW, xww_setI, xww_setR, xi_setI, xr_setR, xww_setW, xE_new, xsz_new, xsl_new, r1, r4, r5, rn, d1, d3, dn] <;> rfl)) (by simp [-List.getD_eq_getElem?_getD, xE_setI, xsz_setI, xsl_setI, xtag_setI, xown_setI, xlen_setI, xE_setR, xsz_setR, xsl_setR, xtag_setR, xown_setR, xlen_setR, xE_setW, xsz_setW, xsl_setW, xtag_setW, xown_setW, xlen_setW, xi_setR, xi_setW, xr_setI, xr_setW, xww_setI, xww_setR, xi_setI, xr_setR, xww_setW, xE_new, xsz_new, xsl_new, r1, r4, r5, rn, d1, d3, dn]) ?_
  refine xw_aload_n (pc := 23) dX18_head_23 0 rfl ?_
  refine xw_callX (pc := 24) (xr_V (as := []) ok_X18_number rfl (by decide) q1955 q1957 qs35 (by first | (rw [r1]; rfl) | (rw [xtag_setR, r1]; rfl) | (rw [y1]; rfl) | (rw [z1]; rfl)) (by first | (rw [r1]; rfl) | (rw [xtag_setR, r1]; rfl) | (rw [y1]; rfl) | (rw [z1]; rfl)) dX18_head_24 rfl rfl (Nat.le_of_ble_eq_true rfl)) (SP_X18_numberF hR1 hi) ?_
  refine xx_out0 rfl (by rw [xWr_tag]; decide) (by rw [xWr_tag]; decide) (by rw [xWr_own]; decide) ?_
  exact ⟨xsz _, rfl, xWr_tag, xWr_own, F1.b14.le, xWr_at, (xWr_fr (F1.b14)).sub (fun _ h => h) (by omega)⟩

theorem SP_X18_head_x1 {d : Nat} {g : xG} {R D tb p n : Nat} {ch : Nat → Nat} (hR : xRd g R D tb p n ch) (hcn : xCn g) {sc rk f l : Int32} {tl arr : Nat} (hD : xDr g D none (-1) sc rk f l tl arr []) (hx : hIs n ch p 120 = true) (hi : hIn n ch (p + 1) 48 57 = true) (hc : hIs n ch (rNs n ch 2 (ch (p + 1) - 48) (p + 1 + 1)).2 58 = false) : XM M_X18_head (d + 9) [.ref R] g (xRH g R D tb n ch sc rk f l tl arr 40 (rHd n ch p)) := by
  have hR0 := hR
  have hD0 := hD
  obtain ⟨r1, r2, r3, r4, r5, hB, r7, r8⟩ := hR
  obtain ⟨d1, d2, d3, d4, d5, d6, d7, d8, d9, d10⟩ := hD
  have rl := hR0.lt
  have rn := hR0.own
  have dn : xown g D ≠ 0 := by rw [d2]; decide
  have hpn := (of_decide_eq_true hx).1
  have F1 : xFr (oEq 14) 0 g (xsetI g R 2 (nI (p + 1))) := xFr.rf.si (Or.inr r2)
  have hR1 := hR0.to (q := p + 1) (by omega)
  have y1 : xtag (xsetI g R 2 (nI (p + 1))) R = 15 := by rw [xtag_setI]; exact r1
  unfold rHd
  rw [if_pos hx]
  rw [if_pos hi]
  have hpi := (of_decide_eq_true hi).1
  have hNl := rNs_le (n := n) (ch := ch) 2 (ch (p + 1) - 48) (p + 1 + 1) (by omega)
  generalize hNV : (rNs n ch 2 (ch (p + 1) - 48) (p + 1 + 1)) = NV at *
  have hRn := hR0.to (q := NV.2) hNl.2
  have Fn : xFr (oEq 14) 0 g (xsetI g R 2 (nI NV.2)) := xFr.rf.si (Or.inr r2)
  have hDn := (hD0.at_ (v := nI NV.2) r1 r2).seti (j := 1) (v := nI NV.1)
  have Fd : xFr (oEq 14) 0 g (xsetI (xsetI g R 2 (nI NV.2)) D 1 (nI NV.1)) := Fn.si (Or.inr (by rw [xown_setI]; exact d2))
  have hRd := hRn.set (a := D) (j := 1) (v := nI NV.1) (by rw [xtag_setI]; exact d1) (by rw [xown_setI]; exact d2)
  have z1 : xtag (xsetI (xsetI g R 2 (nI NV.2)) D 1 (nI NV.1)) R = 15 := hRd.1
  have SN : XM M_X18_number (d + 8) [.ref R] (xsetI g R 2 (nI (p + 1))) (xOne (some (.int (nI NV.1))) (xsetI g R 2 (nI NV.2))) := by
    have h9 := SP_X18_number (d := d) hR1 hi
    rw [hNV, xsetI_ov rl] at h9
    exact h9
  rw [if_neg (Bool.eq_false_iff.mp hc)]
  refine xm_of (by decide +kernel) (Nat.le_of_ble_eq_true rfl) ?_
  show XW _ _ 0 [(0, _)] [] _ _
  refine xw_aload_n (pc := 0) dX18_head_0 0 rfl ?_
  refine xw_bipush (v := nI 120) (pc := 1) dX18_head_1 (by decide +kernel) ?_
  refine xw_callV (pc := 3) (xr_V (as := [_]) ok_X18_isHere rfl (by decide) q1904 q1906 qs33 (by first | (rw [r1]; rfl) | (rw [xtag_setR, r1]; rfl) | (rw [y1]; rfl) | (rw [z1]; rfl)) (by first | (rw [r1]; rfl) | (rw [xtag_setR, r1]; rfl) | (rw [y1]; rfl) | (rw [z1]; rfl)) dX18_head_3 rfl rfl (Nat.le_of_ble_eq_true rfl)) ((show XM M_X18_isHere (d + 8) [.ref R, .int (nI 120)] g (xOne (some (.int (bI true))) g) from hx ▸ SP_X18_isHere (d := d + 2) hR0 (by decide))) ?_
  refine xw_if_eq (pc := 6) 37 dX18_head_6 rfl (fun hb => absurd hb (by decide)) (fun _ => ?_)
  refine xw_aload_n (pc := 9) dX18_head_9 0 rfl ?_
  refine xw_dup (pc := 10) dX18_head_10 rfl ?_
  refine xw_getNat (k := p) (pc := 11) fd_X18_22 dX18_head_11 (by first | assumption | (simp [-List.getD_eq_getElem?_getD, xE_setI, xsz_setI, xsl_setI, xtag_setI, xown_setI, xlen_setI, xE_setR, xsz_setR, xsl_setR, xtag_setR, xown_setR, xlen_setR, xE_setW, xsz_setW, xsl_setW, xtag_setW, xown_setW, xlen_setW, xi_setR, xi_setW, xr_setI, xr_setW, xww_setI, xww_setR, xi_setI, xr_setR, xww_setW, xE_new, xsz_new, xsl_new, r1, r4, r5, rn, d1, d3, dn, xsub]; done) | (simp [-List.getD_eq_getElem?_getD, xE_setI, xsz_setI, xsl_setI, xtag_setI, xown_setI, xlen_setI, xE_setR, xsz_setR, xsl_setR, xtag_setR, xown_setR, xlen_setR, xE_setW, xsz_setW, xsl_setW, xtag_setW, xown_setW, xlen_setW, xi_setR, xi_setW, xr_setI, xr_setW, xww_setI, xww_setR, xi_setI, xr_setR, xww_setW, xE_new, xsz_new, xsl_new, r1, r4, r5, rn, d1, d3, dn] <;> rfl)) (by simp [-List.getD_eq_getElem?_getD, xE_setI, xsz_setI, xsl_setI, xtag_setI, xown_setI, xlen_setI, xE_setR, xsz_setR, xsl_setR, xtag_setR, xown_setR, xlen_setR, xE_setW, xsz_setW, xsl_setW, xtag_setW, xown_setW, xlen_setW, xi_setR, xi_setW, xr_setI, xr_setW, xww_setI, xww_setR, xi_setI, xr_setR, xww_setW, xE_new, xsz_new, xsl_new, r1, r4, r5, rn, d1, d3, dn]) ?_
  refine xw_iconst (v := nI 1) (pc := 14) dX18_head_14 rfl ?_
  refine xn_iadd (pc := 15) dX18_head_15 ?_
  refine xw_putI (pc := 16) fd_X18_22 (xfin_of (by decide) (by decide +kernel)) dX18_head_16 (by first | assumption | (simp [-List.getD_eq_getElem?_getD, xE_setI, xsz_setI, xsl_setI, xtag_setI, xown_setI, xlen_setI, xE_setR, xsz_setR, xsl_setR, xtag_setR, xown_setR, xlen_setR, xE_setW, xsz_setW, xsl_setW, xtag_setW, xown_setW, xlen_setW, xi_setR, xi_setW, xr_setI, xr_setW, xww_setI, xww_setR, xi_setI, xr_setR, xww_setW, xE_new, xsz_new, xsl_new, r1, r4, r5, rn, d1, d3, dn, xsub]; done) | (simp [-List.getD_eq_getElem?_getD, xE_setI, xsz_setI, xsl_setI, xtag_setI, xown_setI, xlen_setI, xE_setR, xsz_setR, xsl_setR, xtag_setR, xown_setR, xlen_setR, xE_setW, xsz_setW, xsl_setW, xtag_setW, xown_setW, xlen_setW, xi_setR, xi_setW, xr_setI, xr_setW, xww_setI, xww_setR, xi_setI, xr_setR, xww_setW, xE_new, xsz_new, xsl_new, r1, r4, r5, rn, d1, d3, dn] <;> rfl)) (by first | assumption | (simp [-List.getD_eq_getElem?_getD, xE_setI, xsz_setI, xsl_setI, xtag_setI, xown_setI, xlen_setI, xE_setR, xsz_setR, xsl_setR, xtag_setR, xown_setR, xlen_setR, xE_setW, xsz_setW, xsl_setW, xtag_setW, xown_setW, xlen_setW, xi_setR, xi_setW, xr_setI, xr_setW, xww_setI, xww_setR, xi_setI, xr_setR, xww_setW, xE_new, xsz_new, xsl_new, r1, r4, r5, rn, d1, d3, dn]; done) | (simp [-List.getD_eq_getElem?_getD, xE_setI, xsz_setI, xsl_setI, xtag_setI, xown_setI, xlen_setI, xE_setR, xsz_setR, xsl_setR, xtag_setR, xown_setR, xlen_setR, xE_setW, xsz_setW, xsl_setW, xtag_setW, xown_setW, xlen_setW, xi_setR, xi_setW, xr_setI, xr_setW, xww_setI, xww_setR, xi_setI, xr_setR, xww_setW, xE_new, xsz_new, xsl_new, r1, r4, r5, rn, d1, d3, dn]; assumption)) ?_
  refine xw_aload_n (pc := 19) dX18_head_19 0 rfl ?_
  refine xw_getS (b := D) (pc := 20) fd_X18_12 dX18_head_20 (by first | assumption | (simp [-List.getD_eq_getElem?_getD, xE_setI, xsz_setI, xsl_setI, xtag_setI, xown_setI, xlen_setI, xE_setR, xsz_setR, xsl_setR, xtag_setR, xown_setR, xlen_setR, xE_setW, xsz_setW, xsl_setW, xtag_setW, xown_setW, xlen_setW, xi_setR, xi_setW, xr_setI, xr_setW, xww_setI, xww_setR, xi_setI, xr_setR, xww_setW, xE_new, xsz_new, xsl_new, r1, r4, r5, rn, d1, d3, dn, xsub]; done) | (simp [-List.getD_eq_getElem?_getD, xE_setI, xsz_setI, xsl_setI, xtag_setI, xown_setI, xlen_setI, xE_setR, xsz_setR, xsl_setR, xtag_setR, xown_setR, xlen_setR, xE_setW, xsz_setW, xsl_setW, xtag_setW, xown_setW, xlen_setW, xi_setR, xi_setW, xr_setI, xr_setW, xww_setI, xww_setR, xi_setI, xr_setR, xww_setW, xE_new, xsz_new, xsl_new, r1, r4, r5, rn, d1, d3, dn] <;> rfl)) (by simp [-List.getD_eq_getElem?_getD, xE_setI, xsz_setI, xsl_setI, xtag_setI, xown_setI, xlen_setI, xE_setR, xsz_setR, xsl_setR, xtag_setR, xown_setR, xlen_setR, xE_setW, xsz_setW, xsl_setW, xtag_setW, xown_setW, xlen_setW, xi_setR, xi_setW, xr_setI, xr_setW, xww_setI, xww_setR, xi_setI, xr_setR, xww_setW, xE_new, xsz_new, xsl_new, r1, r4, r5, rn, d1, d3, dn]) ?_
  refine xw_aload_n (pc := 23) dX18_head_23 0 rfl ?_
  refine xw_callV (pc := 24) (xr_V (as := []) ok_X18_number rfl (by decide) q1955 q1957 qs35 (by first | (rw [r1]; rfl) | (rw [xtag_setR, r1]; rfl) | (rw [y1]; rfl) | (rw [z1]; rfl)) (by first | (rw [r1]; rfl) | (rw [xtag_setR, r1]; rfl) | (rw [y1]; rfl) | (rw [z1]; rfl)) dX18_head_24 rfl rfl (Nat.le_of_ble_eq_true rfl)) (SN) ?_
  refine xw_putI (pc := 27) fd_X18_66 (xfin_of (by decide) (by decide +kernel)) dX18_head_27 (by first | assumption | (simp [-List.getD_eq_getElem?_getD, xE_setI, xsz_setI, xsl_setI, xtag_setI, xown_setI, xlen_setI, xE_setR, xsz_setR, xsl_setR, xtag_setR, xown_setR, xlen_setR, xE_setW, xsz_setW, xsl_setW, xtag_setW, xown_setW, xlen_setW, xi_setR, xi_setW, xr_setI, xr_setW, xww_setI, xww_setR, xi_setI, xr_setR, xww_setW, xE_new, xsz_new, xsl_new, r1, r4, r5, rn, d1, d3, dn, xsub]; done) | (simp [-List.getD_eq_getElem?_getD, xE_setI, xsz_setI, xsl_setI, xtag_setI, xown_setI, xlen_setI, xE_setR, xsz_setR, xsl_setR, xtag_setR, xown_setR, xlen_setR, xE_setW, xsz_setW, xsl_setW, xtag_setW, xown_setW, xlen_setW, xi_setR, xi_setW, xr_setI, xr_setW, xww_setI, xww_setR, xi_setI, xr_setR, xww_setW, xE_new, xsz_new, xsl_new, r1, r4, r5, rn, d1, d3, dn] <;> rfl)) (by first | assumption | (simp [-List.getD_eq_getElem?_getD, xE_setI, xsz_setI, xsl_setI, xtag_setI, xown_setI, xlen_setI, xE_setR, xsz_setR, xsl_setR, xtag_setR, xown_setR, xlen_setR, xE_setW, xsz_setW, xsl_setW, xtag_setW, xown_setW, xlen_setW, xi_setR, xi_setW, xr_setI, xr_setW, xww_setI, xww_setR, xi_setI, xr_setR, xww_setW, xE_new, xsz_new, xsl_new, r1, r4, r5, rn, d1, d3, dn]; done) | (simp [-List.getD_eq_getElem?_getD, xE_setI, xsz_setI, xsl_setI, xtag_setI, xown_setI, xlen_setI, xE_setR, xsz_setR, xsl_setR, xtag_setR, xown_setR, xlen_setR, xE_setW, xsz_setW, xsl_setW, xtag_setW, xown_setW, xlen_setW, xi_setR, xi_setW, xr_setI, xr_setW, xww_setI, xww_setR, xi_setI, xr_setR, xww_setW, xE_new, xsz_new, xsl_new, r1, r4, r5, rn, d1, d3, dn]; assumption)) ?_
  refine xw_aload_n (pc := 30) dX18_head_30 0 rfl ?_
  refine xw_bipush (v := nI 58) (pc := 31) dX18_head_31 (by decide +kernel) ?_
  refine xw_callX (pc := 33) (xr_V (as := [_]) ok_X18_takes rfl (by decide) q1996 q1998 qs39 (by first | (rw [r1]; rfl) | (rw [xtag_setR, r1]; rfl) | (rw [y1]; rfl) | (rw [z1]; rfl)) (by first | (rw [r1]; rfl) | (rw [xtag_setR, r1]; rfl) | (rw [y1]; rfl) | (rw [z1]; rfl)) dX18_head_33 rfl rfl (Nat.le_of_ble_eq_true rfl)) (SP_X18_takesF (d := d + 1) hRd (by decide) hc) ?_
  refine xx_out0 rfl (by rw [xWr_tag]; decide) (by rw [xWr_tag]; decide) (by rw [xWr_own]; decide) ?_
  exact ⟨xsz _, rfl, xWr_tag, xWr_own, Fd.b14.le, xWr_at, (xWr_fr (Fd.b14)).sub (fun _ h => h) (by omega)⟩

theorem SP_X18_head_x2 {d : Nat} {g : xG} {R D tb p n : Nat} {ch : Nat → Nat} (hR : xRd g R D tb p n ch) (hcn : xCn g) {sc rk f l : Int32} {tl arr : Nat} (hD : xDr g D none (-1) sc rk f l tl arr []) (hx : hIs n ch p 120 = true) (hi : hIn n ch (p + 1) 48 57 = true) (hc : hIs n ch (rNs n ch 2 (ch (p + 1) - 48) (p + 1 + 1)).2 58 = true) : XM M_X18_head (d + 9) [.ref R] g (xRH g R D tb n ch sc rk f l tl arr 40 (rHd n ch p)) := by
  have hR0 := hR
  have hD0 := hD
  obtain ⟨r1, r2, r3, r4, r5, hB, r7, r8⟩ := hR
  obtain ⟨d1, d2, d3, d4, d5, d6, d7, d8, d9, d10⟩ := hD
  have rl := hR0.lt
  have rn := hR0.own
  have dn : xown g D ≠ 0 := by rw [d2]; decide
  have hpn := (of_decide_eq_true hx).1
  have F1 : xFr (oEq 14) 0 g (xsetI g R 2 (nI (p + 1))) := xFr.rf.si (Or.inr r2)
  have hR1 := hR0.to (q := p + 1) (by omega)
  have y1 : xtag (xsetI g R 2 (nI (p + 1))) R = 15 := by rw [xtag_setI]; exact r1
  unfold rHd
  rw [if_pos hx]
  rw [if_pos hi]
  have hpi := (of_decide_eq_true hi).1
  have hNl := rNs_le (n := n) (ch := ch) 2 (ch (p + 1) - 48) (p + 1 + 1) (by omega)
  generalize hNV : (rNs n ch 2 (ch (p + 1) - 48) (p + 1 + 1)) = NV at *
  have hRn := hR0.to (q := NV.2) hNl.2
  have Fn : xFr (oEq 14) 0 g (xsetI g R 2 (nI NV.2)) := xFr.rf.si (Or.inr r2)
  have hDn := (hD0.at_ (v := nI NV.2) r1 r2).seti (j := 1) (v := nI NV.1)
  have Fd : xFr (oEq 14) 0 g (xsetI (xsetI g R 2 (nI NV.2)) D 1 (nI NV.1)) := Fn.si (Or.inr (by rw [xown_setI]; exact d2))
  have hRd := hRn.set (a := D) (j := 1) (v := nI NV.1) (by rw [xtag_setI]; exact d1) (by rw [xown_setI]; exact d2)
  have z1 : xtag (xsetI (xsetI g R 2 (nI NV.2)) D 1 (nI NV.1)) R = 15 := hRd.1
  have SN : XM M_X18_number (d + 8) [.ref R] (xsetI g R 2 (nI (p + 1))) (xOne (some (.int (nI NV.1))) (xsetI g R 2 (nI NV.2))) := by
    have h9 := SP_X18_number (d := d) hR1 hi
    rw [hNV, xsetI_ov rl] at h9
    exact h9
  rw [if_pos hc]
  refine xm_of (by decide +kernel) (Nat.le_of_ble_eq_true rfl) ?_
  show XW _ _ 0 [(0, _)] [] _ _
  refine xw_aload_n (pc := 0) dX18_head_0 0 rfl ?_
  refine xw_bipush (v := nI 120) (pc := 1) dX18_head_1 (by decide +kernel) ?_
  refine xw_callV (pc := 3) (xr_V (as := [_]) ok_X18_isHere rfl (by decide) q1904 q1906 qs33 (by first | (rw [r1]; rfl) | (rw [xtag_setR, r1]; rfl) | (rw [y1]; rfl) | (rw [z1]; rfl)) (by first | (rw [r1]; rfl) | (rw [xtag_setR, r1]; rfl) | (rw [y1]; rfl) | (rw [z1]; rfl)) dX18_head_3 rfl rfl (Nat.le_of_ble_eq_true rfl)) ((show XM M_X18_isHere (d + 8) [.ref R, .int (nI 120)] g (xOne (some (.int (bI true))) g) from hx ▸ SP_X18_isHere (d := d + 2) hR0 (by decide))) ?_
  refine xw_if_eq (pc := 6) 37 dX18_head_6 rfl (fun hb => absurd hb (by decide)) (fun _ => ?_)
  refine xw_aload_n (pc := 9) dX18_head_9 0 rfl ?_
  refine xw_dup (pc := 10) dX18_head_10 rfl ?_
  refine xw_getNat (k := p) (pc := 11) fd_X18_22 dX18_head_11 (by first | assumption | (simp [-List.getD_eq_getElem?_getD, xE_setI, xsz_setI, xsl_setI, xtag_setI, xown_setI, xlen_setI, xE_setR, xsz_setR, xsl_setR, xtag_setR, xown_setR, xlen_setR, xE_setW, xsz_setW, xsl_setW, xtag_setW, xown_setW, xlen_setW, xi_setR, xi_setW, xr_setI, xr_setW, xww_setI, xww_setR, xi_setI, xr_setR, xww_setW, xE_new, xsz_new, xsl_new, r1, r4, r5, rn, d1, d3, dn, xsub]; done) | (simp [-List.getD_eq_getElem?_getD, xE_setI, xsz_setI, xsl_setI, xtag_setI, xown_setI, xlen_setI, xE_setR, xsz_setR, xsl_setR, xtag_setR, xown_setR, xlen_setR, xE_setW, xsz_setW, xsl_setW, xtag_setW, xown_setW, xlen_setW, xi_setR, xi_setW, xr_setI, xr_setW, xww_setI, xww_setR, xi_setI, xr_setR, xww_setW, xE_new, xsz_new, xsl_new, r1, r4, r5, rn, d1, d3, dn] <;> rfl)) (by simp [-List.getD_eq_getElem?_getD, xE_setI, xsz_setI, xsl_setI, xtag_setI, xown_setI, xlen_setI, xE_setR, xsz_setR, xsl_setR, xtag_setR, xown_setR, xlen_setR, xE_setW, xsz_setW, xsl_setW, xtag_setW, xown_setW, xlen_setW, xi_setR, xi_setW, xr_setI, xr_setW, xww_setI, xww_setR, xi_setI, xr_setR, xww_setW, xE_new, xsz_new, xsl_new, r1, r4, r5, rn, d1, d3, dn]) ?_
  refine xw_iconst (v := nI 1) (pc := 14) dX18_head_14 rfl ?_
  refine xn_iadd (pc := 15) dX18_head_15 ?_
  refine xw_putI (pc := 16) fd_X18_22 (xfin_of (by decide) (by decide +kernel)) dX18_head_16 (by first | assumption | (simp [-List.getD_eq_getElem?_getD, xE_setI, xsz_setI, xsl_setI, xtag_setI, xown_setI, xlen_setI, xE_setR, xsz_setR, xsl_setR, xtag_setR, xown_setR, xlen_setR, xE_setW, xsz_setW, xsl_setW, xtag_setW, xown_setW, xlen_setW, xi_setR, xi_setW, xr_setI, xr_setW, xww_setI, xww_setR, xi_setI, xr_setR, xww_setW, xE_new, xsz_new, xsl_new, r1, r4, r5, rn, d1, d3, dn, xsub]; done) | (simp [-List.getD_eq_getElem?_getD, xE_setI, xsz_setI, xsl_setI, xtag_setI, xown_setI, xlen_setI, xE_setR, xsz_setR, xsl_setR, xtag_setR, xown_setR, xlen_setR, xE_setW, xsz_setW, xsl_setW, xtag_setW, xown_setW, xlen_setW, xi_setR, xi_setW, xr_setI, xr_setW, xww_setI, xww_setR, xi_setI, xr_setR, xww_setW, xE_new, xsz_new, xsl_new, r1, r4, r5, rn, d1, d3, dn] <;> rfl)) (by first | assumption | (simp [-List.getD_eq_getElem?_getD, xE_setI, xsz_setI, xsl_setI, xtag_setI, xown_setI, xlen_setI, xE_setR, xsz_setR, xsl_setR, xtag_setR, xown_setR, xlen_setR, xE_setW, xsz_setW, xsl_setW, xtag_setW, xown_setW, xlen_setW, xi_setR, xi_setW, xr_setI, xr_setW, xww_setI, xww_setR, xi_setI, xr_setR, xww_setW, xE_new, xsz_new, xsl_new, r1, r4, r5, rn, d1, d3, dn]; done) | (simp [-List.getD_eq_getElem?_getD, xE_setI, xsz_setI, xsl_setI, xtag_setI, xown_setI, xlen_setI, xE_setR, xsz_setR, xsl_setR, xtag_setR, xown_setR, xlen_setR, xE_setW, xsz_setW, xsl_setW, xtag_setW, xown_setW, xlen_setW, xi_setR, xi_setW, xr_setI, xr_setW, xww_setI, xww_setR, xi_setI, xr_setR, xww_setW, xE_new, xsz_new, xsl_new, r1, r4, r5, rn, d1, d3, dn]; assumption)) ?_
  refine xw_aload_n (pc := 19) dX18_head_19 0 rfl ?_
  refine xw_getS (b := D) (pc := 20) fd_X18_12 dX18_head_20 (by first | assumption | (simp [-List.getD_eq_getElem?_getD, xE_setI, xsz_setI, xsl_setI, xtag_setI, xown_setI, xlen_setI, xE_setR, xsz_setR, xsl_setR, xtag_setR, xown_setR, xlen_setR, xE_setW, xsz_setW, xsl_setW, xtag_setW, xown_setW, xlen_setW, xi_setR, xi_setW, xr_setI, xr_setW, xww_setI, xww_setR, xi_setI, xr_setR, xww_setW, xE_new, xsz_new, xsl_new, r1, r4, r5, rn, d1, d3, dn, xsub]; done) | (simp [-List.getD_eq_getElem?_getD, xE_setI, xsz_setI, xsl_setI, xtag_setI, xown_setI, xlen_setI, xE_setR, xsz_setR, xsl_setR, xtag_setR, xown_setR, xlen_setR, xE_setW, xsz_setW, xsl_setW, xtag_setW, xown_setW, xlen_setW, xi_setR, xi_setW, xr_setI, xr_setW, xww_setI, xww_setR, xi_setI, xr_setR, xww_setW, xE_new, xsz_new, xsl_new, r1, r4, r5, rn, d1, d3, dn] <;> rfl)) (by simp [-List.getD_eq_getElem?_getD, xE_setI, xsz_setI, xsl_setI, xtag_setI, xown_setI, xlen_setI, xE_setR, xsz_setR, xsl_setR, xtag_setR, xown_setR, xlen_setR, xE_setW, xsz_setW, xsl_setW, xtag_setW, xown_setW, xlen_setW, xi_setR, xi_setW, xr_setI, xr_setW, xww_setI, xww_setR, xi_setI, xr_setR, xww_setW, xE_new, xsz_new, xsl_new, r1, r4, r5, rn, d1, d3, dn]) ?_
  refine xw_aload_n (pc := 23) dX18_head_23 0 rfl ?_
  refine xw_callV (pc := 24) (xr_V (as := []) ok_X18_number rfl (by decide) q1955 q1957 qs35 (by first | (rw [r1]; rfl) | (rw [xtag_setR, r1]; rfl) | (rw [y1]; rfl) | (rw [z1]; rfl)) (by first | (rw [r1]; rfl) | (rw [xtag_setR, r1]; rfl) | (rw [y1]; rfl) | (rw [z1]; rfl)) dX18_head_24 rfl rfl (Nat.le_of_ble_eq_true rfl)) (SN) ?_
  refine xw_putI (pc := 27) fd_X18_66 (xfin_of (by decide) (by decide +kernel)) dX18_head_27 (by first | assumption | (simp [-List.getD_eq_getElem?_getD, xE_setI, xsz_setI, xsl_setI, xtag_setI, xown_setI, xlen_setI, xE_setR, xsz_setR, xsl_setR, xtag_setR, xown_setR, xlen_setR, xE_setW, xsz_setW, xsl_setW, xtag_setW, xown_setW, xlen_setW, xi_setR, xi_setW, xr_setI, xr_setW, xww_setI, xww_setR, xi_setI, xr_setR, xww_setW, xE_new, xsz_new, xsl_new, r1, r4, r5, rn, d1, d3, dn, xsub]; done) | (simp [-List.getD_eq_getElem?_getD, xE_setI, xsz_setI, xsl_setI, xtag_setI, xown_setI, xlen_setI, xE_setR, xsz_setR, xsl_setR, xtag_setR, xown_setR, xlen_setR, xE_setW, xsz_setW, xsl_setW, xtag_setW, xown_setW, xlen_setW, xi_setR, xi_setW, xr_setI, xr_setW, xww_setI, xww_setR, xi_setI, xr_setR, xww_setW, xE_new, xsz_new, xsl_new, r1, r4, r5, rn, d1, d3, dn] <;> rfl)) (by first | assumption | (simp [-List.getD_eq_getElem?_getD, xE_setI, xsz_setI, xsl_setI, xtag_setI, xown_setI, xlen_setI, xE_setR, xsz_setR, xsl_setR, xtag_setR, xown_setR, xlen_setR, xE_setW, xsz_setW, xsl_setW, xtag_setW, xown_setW, xlen_setW, xi_setR, xi_setW, xr_setI, xr_setW, xww_setI, xww_setR, xi_setI, xr_setR, xww_setW, xE_new, xsz_new, xsl_new, r1, r4, r5, rn, d1, d3, dn]; done) | (simp [-List.getD_eq_getElem?_getD, xE_setI, xsz_setI, xsl_setI, xtag_setI, xown_setI, xlen_setI, xE_setR, xsz_setR, xsl_setR, xtag_setR, xown_setR, xlen_setR, xE_setW, xsz_setW, xsl_setW, xtag_setW, xown_setW, xlen_setW, xi_setR, xi_setW, xr_setI, xr_setW, xww_setI, xww_setR, xi_setI, xr_setR, xww_setW, xE_new, xsz_new, xsl_new, r1, r4, r5, rn, d1, d3, dn]; assumption)) ?_
  refine xw_aload_n (pc := 30) dX18_head_30 0 rfl ?_
  refine xw_bipush (v := nI 58) (pc := 31) dX18_head_31 (by decide +kernel) ?_
  refine xw_callU (pc := 33) (xr_V (as := [_]) ok_X18_takes rfl (by decide) q1996 q1998 qs39 (by first | (rw [r1]; rfl) | (rw [xtag_setR, r1]; rfl) | (rw [y1]; rfl) | (rw [z1]; rfl)) (by first | (rw [r1]; rfl) | (rw [xtag_setR, r1]; rfl) | (rw [y1]; rfl) | (rw [z1]; rfl)) dX18_head_33 rfl rfl (Nat.le_of_ble_eq_true rfl)) (SP_X18_takes (d := d + 1) hRd (by decide) hc) ?_
  refine xw_vret (pc := 36) dX18_head_36 rfl ?_
  exact ⟨rfl, hDn.at_ z1 (by rw [xown_setI, xown_setI]; exact r2), hRd.to (by have := (of_decide_eq_true hc).1; omega), (Fd.si (Or.inr (by rw [xown_setI, xown_setI]; exact r2))).b14.sub (fun _ h => h) (by omega)⟩

theorem SP_X18_head {d : Nat} {g : xG} {R D tb p n : Nat} {ch : Nat → Nat} (hR : xRd g R D tb p n ch) (hcn : xCn g) {sc rk f l : Int32} {tl arr : Nat} (hD : xDr g D none (-1) sc rk f l tl arr []) : XM M_X18_head (d + 9) [.ref R] g (xRH g R D tb n ch sc rk f l tl arr 40 (rHd n ch p)) := by
  by_cases hx : hIs n ch p 120 = true
  · by_cases hi : hIn n ch (p + 1) 48 57 = true
    · by_cases hc : hIs n ch (rNs n ch 2 (ch (p + 1) - 48) (p + 1 + 1)).2 58 = true
      · exact SP_X18_head_x2 hR hcn hD hx hi hc
      · exact SP_X18_head_x1 hR hcn hD hx hi (Bool.eq_false_iff.mpr hc)
    · exact SP_X18_head_x0 hR hcn hD hx (Bool.eq_false_iff.mpr hi)
  · replace hx := Bool.eq_false_iff.mpr hx
    have one : ∀ {a b : Nat}, hIs n ch p a = true → a ≠ b → hIs n ch p b = false := fun {a b} h hab => decide_eq_false (fun e => hab ((of_decide_eq_true h).2.symm.trans e.2))
    by_cases h0 : hIs n ch p 112 = true
    · exact SP_X18_head_0 hR hcn hD hx h0 (one h0 (by decide)) (one h0 (by decide))
    · by_cases h1 : hIs n ch p 102 = true
      · exact SP_X18_head_1 hR hcn hD hx (Bool.eq_false_iff.mpr h0) h1 (one h1 (by decide))
      · by_cases h2 : hIs n ch p 108 = true
        · exact SP_X18_head_2 hR hcn hD hx (Bool.eq_false_iff.mpr h0) (Bool.eq_false_iff.mpr h1) h2
        · exact SP_X18_head_N hR hcn hD hx (Bool.eq_false_iff.mpr h0) (Bool.eq_false_iff.mpr h1) (Bool.eq_false_iff.mpr h2)
