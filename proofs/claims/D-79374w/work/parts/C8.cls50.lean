/-! CLASS 50: explain -/
set_option maxRecDepth 100000
theorem vz_ldcwS {p : Program} {l : Launch} {e : Env} {R : Room} {s : State} {m : MethodId} {args : Array Value} {below : List Frame} {meth : Method} {c : Code} {T : State} {locs : List Loc} {cells slots : Nat}
    (X : Stand p l e R s m args below meth c T locs cells slots) (hexec : p.tables.exec = Jvm.exec) {own text : String} {index : Nat} {a : Addr} (hown : s.vm.findClass own = some m.cls)
    (hconst : (Cond.stringRef own index text).before args s = true) (hev : (Term.string own index).eval args s none [] s = some (.ref a)) {g : JFrame} (hg : g.method = m) (hdg : decode c.code g.pc = .ok (.ldc_w index, 3)) :
    ∀ target, Steps p.tables e below (T.setTop { g with pc := g.pc + 3, stack := .ref a :: g.stack }) target → Steps p.tables e below (T.setTop g) target := by
  obtain ⟨k, cf, i, a', hk, hcf, hcp, -, hr, hev'⟩ := Cond.stringRef_spec hown hconst
  cases hev.symm.trans hev'
  obtain ⟨k', hk', he⟩ := X.warmed.alike.2.2 _ _ hk
  have hr' : k'.resolved[index]? = some (some (.string a)) := by
    rcases X.warmed.entry hk hk' index with h | ⟨h, -⟩
    · rw [h]; exact hr
    · rw [hr] at h; cases h
  intro target hrest
  subst hg
  jvm_step X.here [hexec, hdg, ldc_w.wp_string (e := e) (s := T) (f := g) X.here.top hk' (by rw [he]; exact hcf) hcp hr']
  exact hrest
theorem xw_ldcwS {M : xM} {d pc : Nat} {l : List (Nat × Value)} {rest : List Value} {g : xG} {Q : Option Value ⊕ Nat → xG → Prop} {ix i : Nat} {tx : String} (hd : decode M.2.1 pc = .ok (.ldc_w ix, 3)) (hi : xss[i]? = some (M.1.cls, ix, tx)) (kk : XW M d (pc + 3) l (.ref ((xE g).2.2.1 (10 + i)) :: rest) g Q) : XW M d pc l rest g Q := by
  refine xw_read (fun p L e R s m args below meth c H locs cells slots Qf ls C hR hS hl _ _ kk9 => ?_) kk
  have hK := C.2.2.2.2.2.2.2.2.2.2.1
  have hZ := hK.2.2.2.2.2.2.2.1 _ _ hi
  intro T hT X
  obtain ⟨t, a1, b1⟩ := kk9 T hT X
  exact ⟨t, vz_ldcwS X C.1 C.2.2.2.2.1 hZ.1 hZ.2 (g := F0 m pc ls rest) rfl (by rw [C.2.1]; exact hd) t a1, b1⟩
theorem chF_lt {s : Nat → Int32} {C H : Nat → Bool} {rr : Nat} : ∀ (f r : Nat), r < rr → ∀ x ∈ chF s C H rr f r, x < rr := by
  intro f
  induction f with
  | zero => intro r _ x hx; cases hx
  | succ f ih =>
    intro r hr x hx
    unfold chF at hx
    rcases List.mem_cons.mp hx with rfl | hx
    · exact hr
    · cases hn : nxt s C H rr r with
      | none => rw [hn] at hx; cases hx
      | some y =>
        rw [hn] at hx
        exact ih y (nxt_lt hn hr).2 x hx
theorem chn_lt {s : Nat → Int32} {C H : Nat → Bool} {rr : Nat} : ∀ x ∈ chn s C H rr, x < rr := by
  intro x hx
  unfold chn at hx
  cases hp : prvK s H rr with
  | none => rw [hp] at hx; cases hx
  | some r =>
    rw [hp] at hx
    exact chF_lt rr r (prvK_lt hp) x hx
/-- the texts of the String constants -/
def xTxt (i : Nat) : List Nat := ((xss[i]?).map (fun q => q.2.2.toList.map Char.toNat)).getD []
def gD (t : List Nat) : Nat → Nat := fun j => t.getD j 0
def xSC (g : xG) : Prop := ∀ i, i < 17 → ∃ sv, xStr g ((xE g).2.2.1 (10 + i)) sv (xTxt i).length (gD (xTxt i)) ∧ xown g ((xE g).2.2.1 (10 + i)) = 0 ∧ xown g sv = 0
theorem xSC.fr {g g' : xG} {N : Nat} {O : Nat → Prop} (h : xSC g) (F : xFr O N g g') (h0 : ¬ O 0) : xSC g' := by
  intro i hi
  obtain ⟨sv, h1, h2, h3⟩ := h i hi
  have ha : (xE g).2.2.1 (10 + i) < xsz g := xlt (by rw [h1.1]; decide)
  have hv : sv < xsz g := xlt (by rw [h1.2.2.2.1]; decide)
  refine ⟨sv, ?_, ?_, (F.own hv).trans h3⟩
  · rw [F.e]; exact h1.fr F (by rw [h2]; exact h0) (by rw [h3]; exact h0)
  · rw [F.e, F.own ha]; exact h2
/-- a StringBuilder of bytes, by its text -/
def xBT (g : xG) (o b : Nat) (t : List Nat) : Prop := ∃ v, xBL g o b v t.length (gD t)
theorem xBT.tag {g : xG} {o b : Nat} {t : List Nat} (h : xBT g o b t) : xtag g b = 19 := by obtain ⟨v, h⟩ := h; exact h.1.1
theorem xBT.d {g : xG} {o b : Nat} {t : List Nat} (h : xBT g o b t) : xBd g o b t.length (gD t) := by obtain ⟨v, h⟩ := h; exact ⟨v, Or.inl h⟩
theorem xBT.fr {g g' : xG} {o b N : Nat} {t : List Nat} {O : Nat → Prop} (h : xBT g o b t) (F : xFr O N g g') (hO : ¬ O o) : xBT g' o b t := by obtain ⟨v, h⟩ := h; exact ⟨v, h.fr F hO⟩
theorem xBL.congr {g : xG} {o b v n : Nat} {ch ch' : Nat → Nat} (h : xBL g o b v n ch) (e : ∀ j, j < n → ch j = ch' j) : xBL g o b v n ch' := ⟨h.1, h.2.1, h.2.2.1, h.2.2.2.1, fun j hj => by rw [← e j hj]; exact h.2.2.2.2 j hj⟩
theorem gD_app {t u : List Nat} {j : Nat} : chA (gD t) t.length (gD u) j = gD (t ++ u) j := by
  unfold chA gD
  by_cases h : j < t.length
  · rw [if_pos h, List.getD_eq_getElem?_getD, List.getD_eq_getElem?_getD, List.getElem?_append_left h]
  · rw [if_neg h, List.getD_eq_getElem?_getD, List.getD_eq_getElem?_getD, List.getElem?_append_right (by omega)]
theorem SP_J8_appT {d : Nat} {g : xG} {o b i : Nat} {t : List Nat} (hB : xBT g o b t) (ho : o ≠ 0) (hC : xSC g) (hi : i < 17) (hl : t.length + (xTxt i).length ≤ 300) : XM M_J8_append (d + 6) [.ref b, .ref ((xE g).2.2.1 (10 + i))] g (xVal (.ref b) (fun g' => xBT g' o b (t ++ xTxt i) ∧ xFr (oEq o) 1300 g g')) := by
  obtain ⟨v, hB⟩ := hB
  obtain ⟨sv, h1, h2, h3⟩ := hC i hi
  refine (SP_J8_append (d := d) hB ho h1 (by rw [h2]; exact Ne.symm ho) (by rw [h3]; exact Ne.symm ho) hl).mono (fun rs g' h _ => ?_)
  obtain ⟨e, w, hw, hF⟩ := h
  refine ⟨e, ⟨w, ?_⟩, hF⟩
  rw [List.length_append]
  exact hw.congr (fun j _ => gD_app)
def dgL (k : Nat) : List Nat := if k < 10 then [48 + k] else [48 + k / 10, 48 + k % 10]
theorem SP_J8_appN {d : Nat} {g : xG} {o b k : Nat} {t : List Nat} (hB : xBT g o b t) (ho : o ≠ 0) (hD : xDig g) (hk : k < 100) (hl : t.length + 2 ≤ 300) : XM M_J8_append_2 (d + 6) [.ref b, .int (nI k)] g (xVal (.ref b) (fun g' => xBT g' o b (t ++ dgL k) ∧ xFr (oEq o) 1300 g g')) := by
  obtain ⟨v, hB⟩ := hB
  refine (SP_J8_append_2 (d := d) hB ho hD hk hl).mono (fun rs g' h _ => ?_)
  obtain ⟨e, w, hw, hF⟩ := h
  have el : (dgL k).length = dgN k := by unfold dgL dgN; split <;> rfl
  refine ⟨e, ⟨w, ?_⟩, hF⟩
  rw [List.length_append, el]
  refine hw.congr (fun j hj => ?_)
  rw [← gD_app]
  unfold chA
  by_cases h : j < t.length
  · rw [if_pos h, if_pos h]
  · rw [if_neg h, if_neg h]
    unfold dgC gD dgL
    unfold dgN at hj
    by_cases h2 : k < 10
    · rw [if_pos h2] at hj ⊢
      rw [if_pos h2]
      have : j - t.length = 0 := by omega
      rw [this]; rfl
    · rw [if_neg h2] at hj ⊢
      rw [if_neg h2]
      have : j - t.length = 0 ∨ j - t.length = 1 := by omega
      rcases this with e | e <;> rw [e] <;> rfl
theorem SP_J8_setT {d : Nat} {g : xG} {o b : Nat} {t : List Nat} (hB : xBT g o b t) (ho : o ≠ 0) (hn : t.length < 2 ^ 20) : XM M_J8_setLength (d + 6) [.ref b, .int (nI 0)] g (xVoid (fun g' => xBT g' o b [] ∧ xFr (oEq o) 0 g g')) := by
  obtain ⟨v, hB⟩ := hB
  refine xm_of (by decide +kernel) (Nat.le_of_ble_eq_true rfl) ?_
  show XW _ _ 0 [(0, _), (1, _)] [] _ _
  refine xw_aload_n (pc := 0) dJ8_setLength_0 0 rfl ?_
  refine xw_iload_n (pc := 1) dJ8_setLength_1 1 rfl ?_
  refine xw_callH (pc := 2) (xr_SU (as := [_]) ok_J7_setLength rfl (by decide) q2083 q2782 q251 q2084 (by decide) (by exact hB.1.1) dJ8_setLength_2 rfl rfl (Nat.le_of_ble_eq_true rfl)) (SP_J7_setLength_0 hB ho hn) ?_
  intro g2 hc2 hm2
  refine xw_vret (pc := 5) dJ8_setLength_5 rfl ?_
  exact ⟨rfl, ⟨v, hc2.1.congr (fun j hj => absurd hj (by omega))⟩, hc2.2⟩
theorem xw_wordE {M : xM} {d pc : Nat} {l : List (Nat × Value)} {rest : List Value} {g : xG} {Q : Option Value ⊕ Nat → xG → Prop} {idx : Nat} {v : Int32} (hE : xCn g) (hv : ∃ e, e < 3 ∧ v = nI e) (hd : decode M.2.1 pc = .ok (.invokevirtual idx, 3)) (hl : Cond.methodLink M.1.cls idx ⟨"PolicyNotation$Effect", "word", "()Ljava/lang/String;"⟩ ∈ lw_all) (hr : (rest.map fun v => v.category).sum ≤ 8) (k : ∀ e, e < 3 → v = nI e → XW M (d + 1) (pc + 3) l (.ref ((xE g).2.2.1 (10 + (5 + e))) :: rest) g Q) : XW M (d + 1) pc l (xref (effO g v) :: rest) g Q := by
  obtain ⟨e, h1, rfl⟩ := hv
  have he : e = 0 ∨ e = 1 ∨ e = 2 := by omega
  rcases he with rfl | rfl | rfl
  · exact xw_word0 (hE 0 (by decide)).1 hl hd hr (k 0 (by decide) rfl)
  · exact xw_word1 (hE 1 (by decide)).1 hl hd hr (k 1 (by decide) rfl)
  · exact xw_word2 (hE 2 (by decide)).1 hl hd hr (k 2 (by decide) rfl)
theorem xCs.frO {g g' : xG} {x lk fa ka la p n rr ww k N : Nat} {Z : xAd} {s : Nat → Int32} {day feats wo : Int32} {H : Nat → Bool} {O : Nat → Prop} (h : xCs g x lk fa ka la p Z s n rr ww k day feats wo H) (F : xFr O N g g') (n1 : ¬ O 1) (n6 : ¬ O 6) (n2 : ¬ O 2) (nP : ∀ o, oP p o → ¬ O o) : xCs g' x lk fa ka la p Z s n rr ww k day feats wo H := by
  have hl : lk < xsz g := xlt (by rw [h.lt]; decide)
  have hf : fa < xsz g := xlt (by rw [h.fat]; decide)
  have hk : ka < xsz g := xlt (by rw [h.kat]; decide)
  have ha : la < xsz g := xlt (by rw [h.lat]; decide)
  have hx : x < xsz g := xlt (by rw [h.tx]; decide)
  have nx : ¬ O (xown g x) := by rw [h.ox]; exact n1
  have nl : ¬ O (xown g lk) := by rw [h.lko]; exact n6
  have nf : ¬ O (xown g fa) := by rw [h.fao]; exact n6
  have nk : ¬ O (xown g ka) := by rw [h.kao6]; exact n6
  obtain ⟨k1, k2, k3, k4, k5, k6, k7, k8, k9, k10, k11, k12, k13, k14⟩ := h.K
  refine ⟨⟨(F.tag hx).trans h.tx, (F.own hx).trans h.ox, (F.r' hx nx).trans h.xp⟩, h.P.fr F nP n2, h.kn, ⟨(F.tag hl).trans k1, (F.r' hl nl).trans k2, (F.r' hl nl).trans k3, (F.r' hl nl).trans k4, (F.r' hl nl).trans k5, (F.i' hl nl).trans k6, (F.i' hl nl).trans k7, (F.tag hf).trans k8, (F.len hf).trans k9, (F.tag hk).trans k10, (F.len hk).trans k11, (F.tag ha).trans k12, (F.len ha).trans k13, fun f hf' => (F.i' hf nf).trans (k14 f hf')⟩, (F.r' hl nl).trans h.l7, ⟨(F.own hl).trans h.lko, (F.own hf).trans h.fao, (F.own hk).trans h.kao6, (F.own ha).trans h.lao⟩, h.ne, h.hH, fun r hr => by rw [F.i' hk nk]; exact h.M hr⟩
/-- the text of an explanation -/
def exP (L : List Nat) : Nat → List Nat
  | 0 => []
  | i + 1 => (exP L i ++ (if 0 < i then xTxt 1 else xTxt 2)) ++ dgL (L.getD i 0)
def exT (L : List Nat) (e : Nat) : List Nat := ((exP L L.length ++ (if L.length = 0 then xTxt 3 else xTxt 2)) ++ xTxt 4) ++ xTxt (5 + e)
theorem dgL_len (k : Nat) : (dgL k).length ≤ 2 := by unfold dgL; split <;> simp
theorem exP_len (L : List Nat) : ∀ i, (exP L i).length ≤ 7 * i
  | 0 => Nat.le_refl _
  | i + 1 => by
    have h1 := exP_len L i
    have h2 := dgL_len (L.getD i 0)
    have e1 : (xTxt 1).length = 5 := by decide +kernel
    have e2 : (xTxt 2).length = 0 := by decide +kernel
    show ((exP L i ++ _) ++ dgL _).length ≤ _
    rw [List.length_append, List.length_append]
    split <;> omega

theorem lp_X1_explain {d : Nat} {g : xG} {x p lk fa ka la n rr ww : Nat} {Z : xAd} {S : xMS} (hM : xMn g x p lk fa ka la Z S n rr ww) {k : Nat} {day feats : Int32} (hk : k < n) {L : List Nat} (hLd : (chn (S 1) (cov (S 1) (-1) k day feats) (hld (isPa (S 1)) rr (cov (S 1) (-1) k day feats)) rr) = L) {eb : Nat} (he : eb < xsz g) (h10 : xr g x 10 = some eb) (hDg : xDig g) (hSC : xSC g) {Q : Option Value ⊕ Nat → xG → Prop} (hend : ∀ gi, xCs gi x lk fa ka la p Z (S 1) n rr ww k day feats (-1) (hld (isPa (S 1)) rr (cov (S 1) (-1) k day feats)) → xBT gi 12 eb (exP L L.length) → xFr (oEq 12) (2600 * L.length) g gi → XW M_X1_explain (d + 80) 72 [(6, .int (nI L.length)), (5, .int (nI L.length)), (4, .ref lk), (0, .ref x), (1, .int (nI k)), (2, .int day), (3, .int feats)] [] gi Q) (hL5 : L.length ≤ 5) : ∀ (j i : Nat) (gi : xG), L.length - i < j → i ≤ L.length → xCs gi x lk fa ka la p Z (S 1) n rr ww k day feats (-1) (hld (isPa (S 1)) rr (cov (S 1) (-1) k day feats)) → xBT gi 12 eb (exP L i) → (∀ j, j < L.length → xi gi la j = nI (L.getD j 0)) → xFr (oEq 12) (2600 * i) g gi → XW M_X1_explain (d + 80) 27 [(6, .int (nI i)), (5, .int (nI L.length)), (4, .ref lk), (0, .ref x), (1, .int (nI k)), (2, .int day), (3, .int feats)] [] gi Q := by
  have r16 := hM.P.wf.r16
  have hLt : ∀ i, i < L.length → L.getD i 0 < 100 := fun i hi => by
    have h9 := chn_lt (s := S 1) (C := cov (S 1) (-1) k day feats) (H := hld (isPa (S 1)) rr (cov (S 1) (-1) k day feats)) (rr := rr) (L.getD i 0) (by rw [hLd, List.getD_eq_getElem?_getD, List.getElem?_eq_getElem hi]; exact List.getElem_mem hi)
    omega
  have l1 : (xTxt 1).length = 5 := by decide +kernel
  have l2 : (xTxt 2).length = 0 := by decide +kernel
  intro j
  induction j with
  | zero => intro i gi h; omega
  | succ j ih =>
    intro i gi hj hi hCs0 hBI tL0 hF
    have hpl := exP_len L i
    have hSC0 := hSC.fr hF (by unfold oEq; omega)
    have hDg0 := hDg.fr hF (by unfold oEq; omega)
    have tx0 : xtag gi x = 1 := hCs0.tx
    have tk0 : xtag gi lk = 4 := hCs0.lt
    have te0 : xr gi x 10 = some eb := (hF.r' (xlt (by rw [hM.tx]; decide)) (by rw [hM.ox]; unfold oEq; omega)).trans h10
    refine xw_iload (pc := 27) dX1_explain_27 0 rfl ?_
    refine xw_iload (pc := 29) dX1_explain_29 1 rfl ?_
    refine xw_icmp_ge (pc := 31) 72 dX1_explain_31 rfl (fun hb31 => ?_) (fun hb31 => ?_)
    · replace hb31 : L.length ≤ i := (nI_leI (a := L.length) (b := i) (by omega) (by omega)).mp hb31
      have ei : i = L.length := by omega
      subst ei
      exact hend gi hCs0 hBI hF
    · replace hb31 : ¬ (L.length ≤ i) := mt (nI_leI (a := L.length) (b := i) (by omega) (by omega)).mpr hb31
      have hil : i < L.length := by omega
      have hel : L.getD i 0 < 100 := hLt i hil
      refine xw_aload_n (pc := 34) dX1_explain_34 3 rfl ?_
      refine xw_getS (b := eb) (pc := 35) fd_X1_55 dX1_explain_35 (by first | assumption | (simp [-List.getD_eq_getElem?_getD, xE_setI, xsz_setI, xsl_setI, xtag_setI, xown_setI, xlen_setI, xE_setR, xsz_setR, xsl_setR, xtag_setR, xown_setR, xlen_setR, xE_setW, xsz_setW, xsl_setW, xtag_setW, xown_setW, xlen_setW, xi_setR, xi_setW, xr_setI, xr_setW, xww_setI, xww_setR, xi_setI, xr_setR, xww_setW, xE_new, xsz_new, xsl_new, tx0, te0, tk0, xsub]; done) | (simp [-List.getD_eq_getElem?_getD, xE_setI, xsz_setI, xsl_setI, xtag_setI, xown_setI, xlen_setI, xE_setR, xsz_setR, xsl_setR, xtag_setR, xown_setR, xlen_setR, xE_setW, xsz_setW, xsl_setW, xtag_setW, xown_setW, xlen_setW, xi_setR, xi_setW, xr_setI, xr_setW, xww_setI, xww_setR, xi_setI, xr_setR, xww_setW, xE_new, xsz_new, xsl_new, tx0, te0, tk0] <;> rfl)) (by simp [-List.getD_eq_getElem?_getD, xE_setI, xsz_setI, xsl_setI, xtag_setI, xown_setI, xlen_setI, xE_setR, xsz_setR, xsl_setR, xtag_setR, xown_setR, xlen_setR, xE_setW, xsz_setW, xsl_setW, xtag_setW, xown_setW, xlen_setW, xi_setR, xi_setW, xr_setI, xr_setW, xww_setI, xww_setR, xi_setI, xr_setR, xww_setW, xE_new, xsz_new, xsl_new, tx0, te0, tk0]) ?_
      refine xw_iload (pc := 38) dX1_explain_38 0 rfl ?_
      refine xw_if_le (pc := 40) 49 dX1_explain_40 rfl (fun hb40 => ?_) (fun hb40 => ?_)
      · replace hb40 : i ≤ 0 := (nI_leI (a := i) (b := 0) (by omega) (by omega)).mp hb40
        have hi0 : ¬ 0 < i := by omega
        have es : (if 0 < i then xTxt 1 else xTxt 2) = xTxt 2 := if_neg hi0
        refine xw_ldcwS (i := 2) (pc := 49) dX1_explain_49 rfl ?_
        refine xw_callF (pc := 52) (xr_V (as := [_]) ok_J8_append rfl (by decide) q2147 q255 q256 (by first | (rw [hBI.tag]; rfl) | (rw [hc52.1.tag]; rfl) | (rw [hc62.1.tag]; rfl)) (by first | (rw [hBI.tag]; rfl) | (rw [hc52.1.tag]; rfl) | (rw [hc62.1.tag]; rfl)) dX1_explain_52 rfl rfl (Nat.le_of_ble_eq_true rfl)) (SP_J8_appT (i := 2) hBI (by decide) hSC0 (by decide) (by have := l2; omega)) ?_
        intro g52 hc52 hm52
        have hCs52 := hCs0.frO hc52.2 (by unfold oEq; omega) (by unfold oEq; omega) (by unfold oEq; omega) (fun o h1 h2 => by have := hM.P.p0; unfold oP at h1; unfold oEq at h2; omega)
        have hSC52 := hSC0.fr hc52.2 (by unfold oEq; omega)
        have hDg52 := hDg0.fr hc52.2 (by unfold oEq; omega)
        have tx52 : xtag g52 x = 1 := hCs52.tx
        have tk52 : xtag g52 lk = 4 := hCs52.lt
        have te52 : xr g52 x 10 = some eb := (hc52.2.r' (xlt (by rw [hCs0.tx]; decide)) (by rw [hCs0.ox]; unfold oEq; omega)).trans te0
        have tL52 : ∀ j, j < L.length → xi g52 la j = nI (L.getD j 0) := fun j hj => (hc52.2.i' (xlt (by rw [hCs0.lat]; decide)) (by rw [hCs0.lao]; unfold oEq; omega)).trans (tL0 j hj)
        refine xw_aload (pc := 55) dX1_explain_55 2 rfl ?_
        refine xw_iload (pc := 57) dX1_explain_57 0 rfl ?_
        refine xw_callV (pc := 59) (xr_V (as := [_]) ok_X5_link rfl (by decide) q1559 q1560 q1561 (by first | (rw [tk0]; rfl) | (rw [tk52]; rfl) | (rw [tk62]; rfl)) (by first | (rw [tk0]; rfl) | (rw [tk52]; rfl) | (rw [tk62]; rfl)) dX1_explain_59 rfl rfl (Nat.le_of_ble_eq_true rfl)) (SP_X5_link tk52 hCs52.l5 hCs52.lat (by rw [hCs52.lal]; omega) hCs52.lal) ?_
        rw [tL52 i hil]
        refine xw_callF (pc := 62) (xr_V (as := [_]) ok_J8_append_2 rfl (by decide) q2148 q375 q376 (by first | (rw [hBI.tag]; rfl) | (rw [hc52.1.tag]; rfl) | (rw [hc62.1.tag]; rfl)) (by first | (rw [hBI.tag]; rfl) | (rw [hc52.1.tag]; rfl) | (rw [hc62.1.tag]; rfl)) dX1_explain_62 rfl rfl (Nat.le_of_ble_eq_true rfl)) (SP_J8_appN hc52.1 (by decide) hDg52 hel (by rw [List.length_append]; omega)) ?_
        intro g62 hc62 hm62
        have hCs62 := hCs52.frO hc62.2 (by unfold oEq; omega) (by unfold oEq; omega) (by unfold oEq; omega) (fun o h1 h2 => by have := hM.P.p0; unfold oP at h1; unfold oEq at h2; omega)
        have hSC62 := hSC52.fr hc62.2 (by unfold oEq; omega)
        have hDg62 := hDg52.fr hc62.2 (by unfold oEq; omega)
        have tx62 : xtag g62 x = 1 := hCs62.tx
        have tk62 : xtag g62 lk = 4 := hCs62.lt
        have te62 : xr g62 x 10 = some eb := (hc62.2.r' (xlt (by rw [hCs52.tx]; decide)) (by rw [hCs52.ox]; unfold oEq; omega)).trans te52
        have tL62 : ∀ j, j < L.length → xi g62 la j = nI (L.getD j 0) := fun j hj => (hc62.2.i' (xlt (by rw [hCs52.lat]; decide)) (by rw [hCs52.lao]; unfold oEq; omega)).trans (tL52 j hj)
        refine xw_pop (pc := 65) dX1_explain_65 rfl ?_
        refine xw_iinc (v := nI (i + 1)) (l' := [(6, _), (5, _), (4, _), (0, _), (1, _), (2, _), (3, _)]) (pc := 66) dX1_explain_66 0 rfl (nI_add _ 1) (by decide) rfl ?_
        refine xw_goto (pc := 69) 27 dX1_explain_69 rfl ?_
        refine ih (i + 1) g62 (by omega) (by omega) hCs62 ?_ tL62 ((hF.tr (hc52.2.tr hc62.2)).sub (fun _ h => h) (by omega))
        show xBT g62 12 eb ((exP L i ++ (if 0 < i then xTxt 1 else xTxt 2)) ++ dgL (L.getD i 0))
        rw [es]
        exact hc62.1
      · replace hb40 : ¬ (i ≤ 0) := mt (nI_leI (a := i) (b := 0) (by omega) (by omega)).mpr hb40
        have hi0 : 0 < i := by omega
        have es : (if 0 < i then xTxt 1 else xTxt 2) = xTxt 1 := if_pos hi0
        refine xw_ldcwS (i := 1) (pc := 43) dX1_explain_43 rfl ?_
        refine xw_goto (pc := 46) 52 dX1_explain_46 rfl ?_
        refine xw_callF (pc := 52) (xr_V (as := [_]) ok_J8_append rfl (by decide) q2147 q255 q256 (by first | (rw [hBI.tag]; rfl) | (rw [hc52.1.tag]; rfl) | (rw [hc62.1.tag]; rfl)) (by first | (rw [hBI.tag]; rfl) | (rw [hc52.1.tag]; rfl) | (rw [hc62.1.tag]; rfl)) dX1_explain_52 rfl rfl (Nat.le_of_ble_eq_true rfl)) (SP_J8_appT (i := 1) hBI (by decide) hSC0 (by decide) (by have := l1; omega)) ?_
        intro g52 hc52 hm52
        have hCs52 := hCs0.frO hc52.2 (by unfold oEq; omega) (by unfold oEq; omega) (by unfold oEq; omega) (fun o h1 h2 => by have := hM.P.p0; unfold oP at h1; unfold oEq at h2; omega)
        have hSC52 := hSC0.fr hc52.2 (by unfold oEq; omega)
        have hDg52 := hDg0.fr hc52.2 (by unfold oEq; omega)
        have tx52 : xtag g52 x = 1 := hCs52.tx
        have tk52 : xtag g52 lk = 4 := hCs52.lt
        have te52 : xr g52 x 10 = some eb := (hc52.2.r' (xlt (by rw [hCs0.tx]; decide)) (by rw [hCs0.ox]; unfold oEq; omega)).trans te0
        have tL52 : ∀ j, j < L.length → xi g52 la j = nI (L.getD j 0) := fun j hj => (hc52.2.i' (xlt (by rw [hCs0.lat]; decide)) (by rw [hCs0.lao]; unfold oEq; omega)).trans (tL0 j hj)
        refine xw_aload (pc := 55) dX1_explain_55 2 rfl ?_
        refine xw_iload (pc := 57) dX1_explain_57 0 rfl ?_
        refine xw_callV (pc := 59) (xr_V (as := [_]) ok_X5_link rfl (by decide) q1559 q1560 q1561 (by first | (rw [tk0]; rfl) | (rw [tk52]; rfl) | (rw [tk62]; rfl)) (by first | (rw [tk0]; rfl) | (rw [tk52]; rfl) | (rw [tk62]; rfl)) dX1_explain_59 rfl rfl (Nat.le_of_ble_eq_true rfl)) (SP_X5_link tk52 hCs52.l5 hCs52.lat (by rw [hCs52.lal]; omega) hCs52.lal) ?_
        rw [tL52 i hil]
        refine xw_callF (pc := 62) (xr_V (as := [_]) ok_J8_append_2 rfl (by decide) q2148 q375 q376 (by first | (rw [hBI.tag]; rfl) | (rw [hc52.1.tag]; rfl) | (rw [hc62.1.tag]; rfl)) (by first | (rw [hBI.tag]; rfl) | (rw [hc52.1.tag]; rfl) | (rw [hc62.1.tag]; rfl)) dX1_explain_62 rfl rfl (Nat.le_of_ble_eq_true rfl)) (SP_J8_appN hc52.1 (by decide) hDg52 hel (by rw [List.length_append]; omega)) ?_
        intro g62 hc62 hm62
        have hCs62 := hCs52.frO hc62.2 (by unfold oEq; omega) (by unfold oEq; omega) (by unfold oEq; omega) (fun o h1 h2 => by have := hM.P.p0; unfold oP at h1; unfold oEq at h2; omega)
        have hSC62 := hSC52.fr hc62.2 (by unfold oEq; omega)
        have hDg62 := hDg52.fr hc62.2 (by unfold oEq; omega)
        have tx62 : xtag g62 x = 1 := hCs62.tx
        have tk62 : xtag g62 lk = 4 := hCs62.lt
        have te62 : xr g62 x 10 = some eb := (hc62.2.r' (xlt (by rw [hCs52.tx]; decide)) (by rw [hCs52.ox]; unfold oEq; omega)).trans te52
        have tL62 : ∀ j, j < L.length → xi g62 la j = nI (L.getD j 0) := fun j hj => (hc62.2.i' (xlt (by rw [hCs52.lat]; decide)) (by rw [hCs52.lao]; unfold oEq; omega)).trans (tL52 j hj)
        refine xw_pop (pc := 65) dX1_explain_65 rfl ?_
        refine xw_iinc (v := nI (i + 1)) (l' := [(6, _), (5, _), (4, _), (0, _), (1, _), (2, _), (3, _)]) (pc := 66) dX1_explain_66 0 rfl (nI_add _ 1) (by decide) rfl ?_
        refine xw_goto (pc := 69) 27 dX1_explain_69 rfl ?_
        refine ih (i + 1) g62 (by omega) (by omega) hCs62 ?_ tL62 ((hF.tr (hc52.2.tr hc62.2)).sub (fun _ h => h) (by omega))
        show xBT g62 12 eb ((exP L i ++ (if 0 < i then xTxt 1 else xTxt 2)) ++ dgL (L.getD i 0))
        rw [es]
        exact hc62.1
