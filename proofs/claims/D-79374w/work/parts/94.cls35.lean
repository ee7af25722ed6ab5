/-! CLASS 35: rules, exemptions -/
set_option maxRecDepth 100000
theorem SP_X1_rule_F {d : Nat} {g : xG} {x p lk fa ka la n rr ww : Nat} {Z : xAd} {S : xMS} (hM : xMn g x p lk fa ka la Z S n rr ww) {v e rk f l : Int32} (hv : ¬ inR v (nI 0) (nI n - nI 1) = true) : XM M_X1_rule (d + 80) [.ref x, .int e, .int v, .int rk, .int f, .int l] g (xThr (xsz g) (xExc g 23)) := by
  have hlc := hM.P.lc
  have n10 := hM.P.wf.n10
  have hlr := hM.P.lr
  have r16 := hM.P.wf.r16
  have hsF : inR v (nI 0) (nI (aC Z).length - nI 1) = false := by rw [hlc]; exact Bool.eq_false_iff.mpr hv
  refine xm_of (by decide +kernel) (Nat.le_of_ble_eq_true rfl) ?_
  show XW _ _ 0 [(0, _), (1, _), (2, _), (3, _), (4, _), (5, _)] [] _ _
  refine xw_aload_n (pc := 0) dX1_rule_0 0 rfl ?_
  refine xw_getS (b := p) (pc := 1) fd_X1_10 dX1_rule_1 (by first | assumption | (simp [-List.getD_eq_getElem?_getD, xE_setI, xsz_setI, xsl_setI, xtag_setI, xown_setI, xlen_setI, xE_setR, xsz_setR, xsl_setR, xtag_setR, xown_setR, xlen_setR, xE_setW, xsz_setW, xsl_setW, xtag_setW, xown_setW, xlen_setW, xi_setR, xi_setW, xr_setI, xr_setW, xww_setI, xww_setR, xi_setI, xr_setR, xww_setW, xE_new, xsz_new, xsl_new, hM.tx, hM.xp, hM.l3, xsub]; done) | (simp [-List.getD_eq_getElem?_getD, xE_setI, xsz_setI, xsl_setI, xtag_setI, xown_setI, xlen_setI, xE_setR, xsz_setR, xsl_setR, xtag_setR, xown_setR, xlen_setR, xE_setW, xsz_setW, xsl_setW, xtag_setW, xown_setW, xlen_setW, xi_setR, xi_setW, xr_setI, xr_setW, xww_setI, xww_setR, xi_setI, xr_setR, xww_setW, xE_new, xsz_new, xsl_new, hM.tx, hM.xp, hM.l3] <;> rfl)) (by simp [-List.getD_eq_getElem?_getD, xE_setI, xsz_setI, xsl_setI, xtag_setI, xown_setI, xlen_setI, xE_setR, xsz_setR, xsl_setR, xtag_setR, xown_setR, xlen_setR, xE_setW, xsz_setW, xsl_setW, xtag_setW, xown_setW, xlen_setW, xi_setR, xi_setW, xr_setI, xr_setW, xww_setI, xww_setR, xi_setI, xr_setR, xww_setW, xE_new, xsz_new, xsl_new, hM.tx, hM.xp, hM.l3]) ?_
  refine xw_iload_n (pc := 4) dX1_rule_4 2 rfl ?_
  refine xw_callV (pc := 5) (xr_V (as := [_]) ok_X2_isScope rfl (by decide) q1251 q1061 q1062 (by rw [hM.P.tag]; rfl) (by rw [hM.P.tag]; rfl) dX1_rule_5 rfl rfl (Nat.le_of_ble_eq_true rfl)) ((show XM M_X2_isScope (d + 79) [.ref p, .int v] g (xOne (some (.int (bI false))) g) from hsF ▸ SP_X2_isScope hM.P.pl)) ?_
  refine xw_callX (pc := 8) (xr_S (as := [_]) ok_X1_checkIndex rfl (by decide) q1252 q1066 dX1_rule_8 rfl rfl (Nat.le_of_ble_eq_true rfl)) (SP_X1_checkIndex_F) ?_
  exact xx_out0 rfl (by rw [xExc_tag]; decide) (by rw [xExc_tag]; decide) (by rw [xExc_own]; decide) ⟨rfl, rfl⟩

theorem SP_X1_rule_F2 {d : Nat} {g : xG} {x p lk fa ka la n rr ww : Nat} {Z : xAd} {S : xMS} (hM : xMn g x p lk fa ka la Z S n rr ww) {k : Nat} {e rk f l : Int32} (hk : k < n) (hx : (inR e (nI 0) (nI 2) && okRule rk f l) = false) : XM M_X1_rule (d + 80) [.ref x, .int e, .int (nI k), .int rk, .int f, .int l] g (xThr (xsz g) (xExc g 22)) := by
  have hlc := hM.P.lc
  have n10 := hM.P.wf.n10
  have hlr := hM.P.lr
  have r16 := hM.P.wf.r16
  have hsT : inR (nI k) (nI 0) (nI (aC Z).length - nI 1) = true := inR_k (by omega) (by omega)
  unfold okRule at hx
  refine xm_of (by decide +kernel) (Nat.le_of_ble_eq_true rfl) ?_
  show XW _ _ 0 [(0, _), (1, _), (2, _), (3, _), (4, _), (5, _)] [] _ _
  refine xw_aload_n (pc := 0) dX1_rule_0 0 rfl ?_
  refine xw_getS (b := p) (pc := 1) fd_X1_10 dX1_rule_1 (by first | assumption | (simp [-List.getD_eq_getElem?_getD, xE_setI, xsz_setI, xsl_setI, xtag_setI, xown_setI, xlen_setI, xE_setR, xsz_setR, xsl_setR, xtag_setR, xown_setR, xlen_setR, xE_setW, xsz_setW, xsl_setW, xtag_setW, xown_setW, xlen_setW, xi_setR, xi_setW, xr_setI, xr_setW, xww_setI, xww_setR, xi_setI, xr_setR, xww_setW, xE_new, xsz_new, xsl_new, hM.tx, hM.xp, hM.l3, xsub]; done) | (simp [-List.getD_eq_getElem?_getD, xE_setI, xsz_setI, xsl_setI, xtag_setI, xown_setI, xlen_setI, xE_setR, xsz_setR, xsl_setR, xtag_setR, xown_setR, xlen_setR, xE_setW, xsz_setW, xsl_setW, xtag_setW, xown_setW, xlen_setW, xi_setR, xi_setW, xr_setI, xr_setW, xww_setI, xww_setR, xi_setI, xr_setR, xww_setW, xE_new, xsz_new, xsl_new, hM.tx, hM.xp, hM.l3] <;> rfl)) (by simp [-List.getD_eq_getElem?_getD, xE_setI, xsz_setI, xsl_setI, xtag_setI, xown_setI, xlen_setI, xE_setR, xsz_setR, xsl_setR, xtag_setR, xown_setR, xlen_setR, xE_setW, xsz_setW, xsl_setW, xtag_setW, xown_setW, xlen_setW, xi_setR, xi_setW, xr_setI, xr_setW, xww_setI, xww_setR, xi_setI, xr_setR, xww_setW, xE_new, xsz_new, xsl_new, hM.tx, hM.xp, hM.l3]) ?_
  refine xw_iload_n (pc := 4) dX1_rule_4 2 rfl ?_
  refine xw_callV (pc := 5) (xr_V (as := [_]) ok_X2_isScope rfl (by decide) q1251 q1061 q1062 (by rw [hM.P.tag]; rfl) (by rw [hM.P.tag]; rfl) dX1_rule_5 rfl rfl (Nat.le_of_ble_eq_true rfl)) ((show XM M_X2_isScope (d + 79) [.ref p, .int (nI k)] g (xOne (some (.int (bI true))) g) from hsT ▸ SP_X2_isScope hM.P.pl)) ?_
  refine xw_callU (pc := 8) (xr_S (as := [_]) ok_X1_checkIndex rfl (by decide) q1252 q1066 dX1_rule_8 rfl rfl (Nat.le_of_ble_eq_true rfl)) (SP_X1_checkIndex_T) ?_
  refine xw_iload_n (pc := 11) dX1_rule_11 1 rfl ?_
  refine xw_iconst (v := nI 0) (pc := 12) dX1_rule_12 rfl ?_
  refine xw_iconst (v := nI 2) (pc := 13) dX1_rule_13 rfl ?_
  refine xw_callV (pc := 14) (xr_S (as := [_, _, _]) ok_X1_isIn rfl (by decide) q1180 q784 dX1_rule_14 rfl rfl (Nat.le_of_ble_eq_true rfl)) (SP_X1_isIn (v := e) (lo := nI 0) (hi := nI 2)) ?_
  refine xw_if_eq (pc := 17) 47 dX1_rule_17 rfl (fun hb17 => ?_) (fun hb17 => ?_)
  · replace hb17 := bI_0.mp hb17
    refine xw_iconst (v := nI 0) (pc := 47) dX1_rule_47 rfl ?_
    refine xw_callX (pc := 48) (xr_S (as := [_]) ok_X1_check rfl (by decide) q1181 q1182 dX1_rule_48 rfl rfl (Nat.le_of_ble_eq_true rfl)) (SP_X1_check_F) ?_
    exact xx_out0 rfl (by rw [xExc_tag]; decide) (by rw [xExc_tag]; decide) (by rw [xExc_own]; decide) ⟨rfl, rfl⟩
  · replace hb17 := bI_n0.mp hb17
    refine xw_iload_n (pc := 20) dX1_rule_20 3 rfl ?_
    refine xw_callV (pc := 21) (xr_S (as := [_]) ok_X1_isRank rfl (by decide) q1262 q1263 dX1_rule_21 rfl rfl (Nat.le_of_ble_eq_true rfl)) (SP_X1_isRank (v := rk)) ?_
    refine xw_if_eq (pc := 24) 47 dX1_rule_24 rfl (fun hb24 => ?_) (fun hb24 => ?_)
    · replace hb24 := bI_0.mp hb24
      refine xw_iconst (v := nI 0) (pc := 47) dX1_rule_47 rfl ?_
      refine xw_callX (pc := 48) (xr_S (as := [_]) ok_X1_check rfl (by decide) q1181 q1182 dX1_rule_48 rfl rfl (Nat.le_of_ble_eq_true rfl)) (SP_X1_check_F) ?_
      exact xx_out0 rfl (by rw [xExc_tag]; decide) (by rw [xExc_tag]; decide) (by rw [xExc_own]; decide) ⟨rfl, rfl⟩
    · replace hb24 := bI_n0.mp hb24
      refine xw_iload (pc := 27) dX1_rule_27 4 rfl ?_
      refine xw_callV (pc := 29) (xr_S (as := [_]) ok_X1_isDay rfl (by decide) q1265 q1266 dX1_rule_29 rfl rfl (Nat.le_of_ble_eq_true rfl)) (SP_X1_isDay (v := f)) ?_
      refine xw_if_eq (pc := 32) 47 dX1_rule_32 rfl (fun hb32 => ?_) (fun hb32 => ?_)
      · replace hb32 := bI_0.mp hb32
        refine xw_iconst (v := nI 0) (pc := 47) dX1_rule_47 rfl ?_
        refine xw_callX (pc := 48) (xr_S (as := [_]) ok_X1_check rfl (by decide) q1181 q1182 dX1_rule_48 rfl rfl (Nat.le_of_ble_eq_true rfl)) (SP_X1_check_F) ?_
        exact xx_out0 rfl (by rw [xExc_tag]; decide) (by rw [xExc_tag]; decide) (by rw [xExc_own]; decide) ⟨rfl, rfl⟩
      · replace hb32 := bI_n0.mp hb32
        refine xw_iload (pc := 35) dX1_rule_35 5 rfl ?_
        refine xw_callV (pc := 37) (xr_S (as := [_]) ok_X1_isDay rfl (by decide) q1265 q1266 dX1_rule_37 rfl rfl (Nat.le_of_ble_eq_true rfl)) (SP_X1_isDay (v := l)) ?_
        refine xw_if_eq (pc := 40) 47 dX1_rule_40 rfl (fun hb40 => ?_) (fun hb40 => ?_)
        rotate_left
        · exfalso
          replace hb40 := bI_n0.mp hb40
          rw [hb17, hb24, hb32, hb40] at hx
          exact absurd hx (by decide)
        replace hb40 := bI_0.mp hb40
        refine xw_iconst (v := nI 0) (pc := 47) dX1_rule_47 rfl ?_
        refine xw_callX (pc := 48) (xr_S (as := [_]) ok_X1_check rfl (by decide) q1181 q1182 dX1_rule_48 rfl rfl (Nat.le_of_ble_eq_true rfl)) (SP_X1_check_F) ?_
        exact xx_out0 rfl (by rw [xExc_tag]; decide) (by rw [xExc_tag]; decide) (by rw [xExc_own]; decide) ⟨rfl, rfl⟩

theorem tl_X1_rule {d : Nat} {g g0 : xG} {wq N : Nat} {x p lk fa ka la n rr ww : Nat} {Z : xAd} {S : xMS} (hM : xMn g x p lk fa ka la Z S n rr ww) {dq da h : Nat} {ps : List Nat} (hPa : xr g x 2 = some dq ∧ xAD g 7 dq da h ps ∧ True ∧ ps.length ≤ 8) {k a b c : Nat} {e : Int32} (hk : k < n) (ha : a < 10) (hb : b < 1000) (hc : c < 1000) (he : ∃ q, q < 3 ∧ e = nI q) {v : Nat × Int32} (hr16 : rr < 16) (hw : xWy g wq v) (hv : v.1 = 0) (F0 : xFr (oEq 5) N g0 g) (hN0 : N ≤ 90) : XW M_X1_rule (d + 80) 70 [(0, .ref x), (1, .int e), (2, .int (nI k)), (3, .int (nI a)), (4, .int (nI b)), (5, .int (nI c))] [.ref wq, .ref x] g (xVal (.int (nI rr)) (xChd g0 p dq da (S 1) ps (ruUp (S 1) rr e (-1) (nI k) (nI a) (nI b) (nI c)) n (rr + 1) ww)) := by
  have hz : xsz g0 ≤ xsz g := F0.le
  have hlr := hM.P.lr
  have n10 := hM.P.wf.n10

  refine xw_callU (pc := 70) (xr_V (as := [_]) ok_X1_refuse rfl (by decide) q1302 q1304 qs22 (by first | (rw [hM9.tx]; rfl) | (rw [hM.tx]; rfl)) (by first | (rw [hM9.tx]; rfl) | (rw [hM.tx]; rfl)) dX1_rule_70 rfl rfl (Nat.le_of_ble_eq_true rfl)) (SP_X1_refuse_N hw hv) ?_
  refine xw_aload_n (pc := 73) dX1_rule_73 0 rfl ?_
  refine xw_getS (b := p) (pc := 74) fd_X1_10 dX1_rule_74 (by first | assumption | (simp [-List.getD_eq_getElem?_getD, xE_setI, xsz_setI, xsl_setI, xtag_setI, xown_setI, xlen_setI, xE_setR, xsz_setR, xsl_setR, xtag_setR, xown_setR, xlen_setR, xE_setW, xsz_setW, xsl_setW, xtag_setW, xown_setW, xlen_setW, xi_setR, xi_setW, xr_setI, xr_setW, xww_setI, xww_setR, xi_setI, xr_setR, xww_setW, xE_new, xsz_new, xsl_new, hM.tx, hM.xp, hM.l3, xsub]; done) | (simp [-List.getD_eq_getElem?_getD, xE_setI, xsz_setI, xsl_setI, xtag_setI, xown_setI, xlen_setI, xE_setR, xsz_setR, xsl_setR, xtag_setR, xown_setR, xlen_setR, xE_setW, xsz_setW, xsl_setW, xtag_setW, xown_setW, xlen_setW, xi_setR, xi_setW, xr_setI, xr_setW, xww_setI, xww_setR, xi_setI, xr_setR, xww_setW, xE_new, xsz_new, xsl_new, hM.tx, hM.xp, hM.l3] <;> rfl)) (by simp [-List.getD_eq_getElem?_getD, xE_setI, xsz_setI, xsl_setI, xtag_setI, xown_setI, xlen_setI, xE_setR, xsz_setR, xsl_setR, xtag_setR, xown_setR, xlen_setR, xE_setW, xsz_setW, xsl_setW, xtag_setW, xown_setW, xlen_setW, xi_setR, xi_setW, xr_setI, xr_setW, xww_setI, xww_setR, xi_setI, xr_setR, xww_setW, xE_new, xsz_new, xsl_new, hM.tx, hM.xp, hM.l3]) ?_
  refine xw_callF (pc := 77) (xr_V (as := []) ok_X2_copy rfl (by decide) q902 q903 q904 (by first | (rw [hP3.tag]; rfl) | (rw [hM.P.tag]; rfl)) (by first | (rw [hP3.tag]; rfl) | (rw [hM.P.tag]; rfl)) dX1_rule_77 rfl rfl (Nat.le_of_ble_eq_true rfl)) (SP_X2_copy (d := d + 70) hM.P) ?_
  intro g77 hc77 hm77
  obtain ⟨Zq, hPq, FC⟩ := hc77
  have hp0 := hM.P.p0
  have hlp := hM.P.lt
  have hxl : x < xsz g := xlt (by rw [hM.tx]; decide)
  have nxC : ¬ oP (xsz g) (xown g x) := by rw [hM.ox]; unfold oP; omega
  have oKC : oKeep (oP (xsz g)) := by unfold oKeep oP; omega
  have hP2 := hM.P.fr FC (fun o h1 h2 => by unfold oP at h1 h2; omega) (by unfold oP; omega)
  have hMc := hM.fr FC oKC hP2
  have hDc := hPa.2.1.fr FC (by unfold oP; omega)
  have cf1 : xr g77 p 1 = some (aL Z 2) := hP2.f1
  have tpC : xtag g77 p = 2 := hP2.tag
  have txC : xtag g77 x = 1 := hMc.tx
  have xpC : xr g77 x 0 = some p := hMc.xp
  obtain ⟨aE, haE⟩ := effO_some (g := g77) (v := e) (by obtain ⟨q, hq, rfl⟩ := he; exact nI_pos (by omega)) (Or.inr he)
  refine xw_astore (l' := [(6, _), (0, _), (1, _), (2, _), (3, _), (4, _), (5, _)]) (pc := 80) dX1_rule_80 (by decide) rfl ?_
  refine xw_aload_n (pc := 82) dX1_rule_82 1 rfl ?_
  refine xw_aload (pc := 83) dX1_rule_83 0 rfl ?_
  refine xw_aload_n (pc := 85) dX1_rule_85 1 rfl ?_
  refine xw_getS (b := p) (pc := 86) fd_X1_10 dX1_rule_86 (by first | assumption | (simp [-List.getD_eq_getElem?_getD, xE_setI, xsz_setI, xsl_setI, xtag_setI, xown_setI, xlen_setI, xE_setR, xsz_setR, xsl_setR, xtag_setR, xown_setR, xlen_setR, xE_setW, xsz_setW, xsl_setW, xtag_setW, xown_setW, xlen_setW, xi_setR, xi_setW, xr_setI, xr_setW, xww_setI, xww_setR, xi_setI, xr_setR, xww_setW, xE_new, xsz_new, xsl_new, hM.tx, hM.xp, hM.l3, cf1, tpC, txC, xpC, xsub]; done) | (simp [-List.getD_eq_getElem?_getD, xE_setI, xsz_setI, xsl_setI, xtag_setI, xown_setI, xlen_setI, xE_setR, xsz_setR, xsl_setR, xtag_setR, xown_setR, xlen_setR, xE_setW, xsz_setW, xsl_setW, xtag_setW, xown_setW, xlen_setW, xi_setR, xi_setW, xr_setI, xr_setW, xww_setI, xww_setR, xi_setI, xr_setR, xww_setW, xE_new, xsz_new, xsl_new, hM.tx, hM.xp, hM.l3, cf1, tpC, txC, xpC] <;> rfl)) (by simp [-List.getD_eq_getElem?_getD, xE_setI, xsz_setI, xsl_setI, xtag_setI, xown_setI, xlen_setI, xE_setR, xsz_setR, xsl_setR, xtag_setR, xown_setR, xlen_setR, xE_setW, xsz_setW, xsl_setW, xtag_setW, xown_setW, xlen_setW, xi_setR, xi_setW, xr_setI, xr_setW, xww_setI, xww_setR, xi_setI, xr_setR, xww_setW, xE_new, xsz_new, xsl_new, hM.tx, hM.xp, hM.l3, cf1, tpC, txC, xpC]) ?_
  refine xw_new (t := 7) (pc := 89) (1000 * p) dX1_rule_89 rfl (by decide) (by first | decide | assumption | omega) q1325 q1011 q125 ?_
  refine xw_at (a := (xsz g77)) (by rfl) ?_
  have FW : xFr oNo 10 g77 (xNew g77 (xBlank 7 (1000 * p) 8) 8) := (xFr.rf (n := 0)).nw.sub (fun _ h => h) (by decide)
  have hP2n := hP2.fr FW (fun o _ h => h) (fun h => h)
  have tpN : xtag (xNew g77 (xBlank 7 (1000 * p) 8) 8) p = 2 := hP2n.tag
  have cf1N : xr (xNew g77 (xBlank 7 (1000 * p) 8) 8) p 1 = some (aL Z 2) := hP2n.f1
  have hMn := hMc.fr (S' := S) FW (by unfold oKeep oNo; simp) hP2n
  have txN : xtag (xNew g77 (xBlank 7 (1000 * p) 8) 8) x = 1 := hMn.tx
  have xpN : xr (xNew g77 (xBlank 7 (1000 * p) 8) 8) x 0 = some p := hMn.xp
  refine xw_dup (pc := 92) dX1_rule_92 rfl ?_
  refine xw_iload_n (pc := 93) dX1_rule_93 2 rfl ?_
  refine xw_callV (pc := 94) (xr_S (as := [_]) ok_X1_effectOf rfl (by decide) q1207 q1208 dX1_rule_94 rfl rfl (Nat.le_of_ble_eq_true rfl)) ((show XM M_X1_effectOf (d + 79) [.int e] (xNew g77 (xBlank 7 (1000 * p) 8) 8) (xOne (some (.ref aE)) (xNew g77 (xBlank 7 (1000 * p) 8) 8)) from by have h9 := SP_X1_effectOf (d := d + 79) (g := (xNew g77 (xBlank 7 (1000 * p) 8) 8)) (v := e); rw [show effO (xNew g77 (xBlank 7 (1000 * p) 8) 8) e = some aE from haE] at h9; exact h9)) ?_
  refine xw_aload_n (pc := 97) dX1_rule_97 1 rfl ?_
  refine xw_getS (b := p) (pc := 98) fd_X1_10 dX1_rule_98 (by first | assumption | (simp [-List.getD_eq_getElem?_getD, xE_setI, xsz_setI, xsl_setI, xtag_setI, xown_setI, xlen_setI, xE_setR, xsz_setR, xsl_setR, xtag_setR, xown_setR, xlen_setR, xE_setW, xsz_setW, xsl_setW, xtag_setW, xown_setW, xlen_setW, xi_setR, xi_setW, xr_setI, xr_setW, xww_setI, xww_setR, xi_setI, xr_setR, xww_setW, xE_new, xsz_new, xsl_new, hM.tx, hM.xp, hM.l3, cf1, tpC, txC, xpC, txN, xpN, tpN, cf1N, xsub]; done) | (simp [-List.getD_eq_getElem?_getD, xE_setI, xsz_setI, xsl_setI, xtag_setI, xown_setI, xlen_setI, xE_setR, xsz_setR, xsl_setR, xtag_setR, xown_setR, xlen_setR, xE_setW, xsz_setW, xsl_setW, xtag_setW, xown_setW, xlen_setW, xi_setR, xi_setW, xr_setI, xr_setW, xww_setI, xww_setR, xi_setI, xr_setR, xww_setW, xE_new, xsz_new, xsl_new, hM.tx, hM.xp, hM.l3, cf1, tpC, txC, xpC, txN, xpN, tpN, cf1N] <;> rfl)) (by simp [-List.getD_eq_getElem?_getD, xE_setI, xsz_setI, xsl_setI, xtag_setI, xown_setI, xlen_setI, xE_setR, xsz_setR, xsl_setR, xtag_setR, xown_setR, xlen_setR, xE_setW, xsz_setW, xsl_setW, xtag_setW, xown_setW, xlen_setW, xi_setR, xi_setW, xr_setI, xr_setW, xww_setI, xww_setR, xi_setI, xr_setR, xww_setW, xE_new, xsz_new, xsl_new, hM.tx, hM.xp, hM.l3, cf1, tpC, txC, xpC, txN, xpN, tpN, cf1N]) ?_
  refine xw_getS (b := (aL Z 2)) (pc := 101) fd_X1_240 dX1_rule_101 (by first | assumption | (simp [-List.getD_eq_getElem?_getD, xE_setI, xsz_setI, xsl_setI, xtag_setI, xown_setI, xlen_setI, xE_setR, xsz_setR, xsl_setR, xtag_setR, xown_setR, xlen_setR, xE_setW, xsz_setW, xsl_setW, xtag_setW, xown_setW, xlen_setW, xi_setR, xi_setW, xr_setI, xr_setW, xww_setI, xww_setR, xi_setI, xr_setR, xww_setW, xE_new, xsz_new, xsl_new, hM.tx, hM.xp, hM.l3, cf1, tpC, txC, xpC, txN, xpN, tpN, cf1N, xsub]; done) | (simp [-List.getD_eq_getElem?_getD, xE_setI, xsz_setI, xsl_setI, xtag_setI, xown_setI, xlen_setI, xE_setR, xsz_setR, xsl_setR, xtag_setR, xown_setR, xlen_setR, xE_setW, xsz_setW, xsl_setW, xtag_setW, xown_setW, xlen_setW, xi_setR, xi_setW, xr_setI, xr_setW, xww_setI, xww_setR, xi_setI, xr_setR, xww_setW, xE_new, xsz_new, xsl_new, hM.tx, hM.xp, hM.l3, cf1, tpC, txC, xpC, txN, xpN, tpN, cf1N] <;> rfl)) (by simp [-List.getD_eq_getElem?_getD, xE_setI, xsz_setI, xsl_setI, xtag_setI, xown_setI, xlen_setI, xE_setR, xsz_setR, xsl_setR, xtag_setR, xown_setR, xlen_setR, xE_setW, xsz_setW, xsl_setW, xtag_setW, xown_setW, xlen_setW, xi_setR, xi_setW, xr_setI, xr_setW, xww_setI, xww_setR, xi_setI, xr_setR, xww_setW, xE_new, xsz_new, xsl_new, hM.tx, hM.xp, hM.l3, cf1, tpC, txC, xpC, txN, xpN, tpN, cf1N]) ?_
  refine xw_callV (pc := 104) (xr_V (as := []) ok_J2_size rfl (by decide) q701 q702 q703 (by first | (rw [hP2n.l1.1]; rfl)) (by first | (rw [hP2n.l1.1]; rfl)) dX1_rule_104 rfl rfl (Nat.le_of_ble_eq_true rfl)) ((show XM M_J2_size (d + 79) [.ref (aL Z 2)] (xNew g77 (xBlank 7 (1000 * p) 8) 8) (xOne (some (.int (nI rr))) (xNew g77 (xBlank 7 (1000 * p) 8) 8)) from hlr ▸ SP_J2_size hP2n.l1)) ?_
  refine xw_iload_n (pc := 107) dX1_rule_107 3 rfl ?_
  refine xw_iload_n (pc := 108) dX1_rule_108 4 rfl ?_
  refine xw_iload (pc := 109) dX1_rule_109 5 rfl ?_
  refine xw_iload (pc := 111) dX1_rule_111 6 rfl ?_
  refine xw_callU (pc := 113) (xr_I (as := [_, _, _, _, _, _]) ok_X9_init rfl (by decide) q1326 q1013 rfl rfl dX1_rule_113 rfl rfl (Nat.le_of_ble_eq_true rfl)) (SP_X9_init (o2 := 1000 * p + 10 + rr) (e := some aE) (by rw [xtag_newS rfl]; rfl) (by rw [xown_newS rfl]; show 1000 * p ≠ 0; omega) (by omega)) ?_
  have hdN := rdep_new0 (s := S 1) (rr := rr) (e := e) (sc := nI k) (rk := nI a) (f := nI b) (l := nI c)
  have hsN : ∀ c', c' < 20 → (ruUp (S 1) rr e (-1) (nI k) (nI a) (nI b) (nI c)) (23 + 20 * rr + c') = ruB e (-1) (nI k) (nI a) (nI b) (nI c) c' := fun c' hc' => ruUp_at hc'
  have hN := haE ▸ xMai_ru (g := g77) (o1 := 1000 * p) (o2 := 1000 * p + 10 + rr) hsN hdN
  have FNo : xFr oNo (0 + 18) g77 (xMai g77 (1000 * p) (1000 * p + 10 + rr) (some aE) (nI rr) (nI k) (nI a) (nI b) (nI c)) := xMai.fr xFr.rf
  have hP3 := hP2.fr FNo (fun o _ h => h) (fun h => h)
  change XW _ _ _ _ _ (xMai g77 (1000 * p) (1000 * p + 10 + rr) (some aE) (nI rr) (nI k) (nI a) (nI b) (nI c)) _
  refine xw_callF (pc := 116) (xr_V (as := [_]) ok_X2_add rfl (by decide) q1327 q1328 q1329 (by first | (rw [hP3.tag]; rfl) | (rw [hM.P.tag]; rfl)) (by first | (rw [hP3.tag]; rfl) | (rw [hM.P.tag]; rfl)) dX1_rule_116 rfl rfl (Nat.le_of_ble_eq_true rfl)) (SP_X2_add hP3.pl (by omega) (Or.inr hN.2.2.2) (by rw [hN.2.1]; omega) (by have := hP3.c1; omega)) ?_
  intro g116 hc116 hm116
  have F2 : xFr (oP p) 19 g77 g116 := (FNo.sub (m := 19) (fun o h1 => absurd h1 (fun z => z)) (by decide)).tr (hc116.2.sub (m := 0) (fun o h1 => by unfold oEq at h1; unfold oP; omega) (Nat.le_refl _))
  have ruN := hN.1.fr (fun j hj => absurd hj (Nat.not_lt_zero j)) hc116.2 (by rw [hN.2.1]; unfold oEq; omega) (by unfold oEq; omega) (by unfold oEq; omega)
  have hNl : xsz g77 < xsz (xMai g77 (1000 * p) (1000 * p + 10 + rr) (some aE) (nI rr) (nI k) (nI a) (nI b) (nI c)) := xlt (by rw [hN.2.2.2]; decide)
  have hNt : xsz g77 + 2 < xsz (xMai g77 (1000 * p) (1000 * p + 10 + rr) (some aE) (nI rr) (nI k) (nI a) (nI b) (nI c)) := xlt (by rw [hN.1.2.2.2.2.2.2.2.2.1.2.2.2.2.1]; decide)
  have hP9 : xPol g116 p _ (ruUp (S 1) rr e (-1) (nI k) (nI a) (nI b) (nI c)) n (rr + 1) ww := hP3.addR hc116.2 hc116.1 hr16 ⟨ruN, (hc116.2.own hNl).trans hN.2.1, by rw [hc116.2.len hNt]; exact hN.2.2.1⟩ ruUp_1 (fun j _ h1 hj => ruUp_o h1 hj) (WFru_new hk ha hb hc n10 (by rw [hdN]; omega) (Or.inl ⟨rfl, he⟩))
  rw [show xi (xMai g77 (1000 * p) (1000 * p + 10 + rr) (some aE) (nI rr) (nI k) (nI a) (nI b) (nI c)) (xsz g77) 0 = nI rr from hN.1.2.1]
  have oKP : oKeep (oP p) := by unfold oKeep oP; omega
  have hM9 := hMc.fr (S' := fun _ => (ruUp (S 1) rr e (-1) (nI k) (nI a) (nI b) (nI c))) F2 oKP hP9
  have hD9 := hDc.fr F2 (by unfold oP; omega)
  have hPq9 := hPq.fr F2 (fun o h1 h2 => by unfold oP at h1 h2; omega) (by unfold oP; omega)
  have nx9 : ¬ oP p (xown g77 x) := by rw [hMc.ox]; unfold oP; omega
  have hx29 : xr g116 x 2 = some dq := (F2.r' (FC.lt hxl) nx9).trans ((FC.r' hxl nxC).trans hPa.1)
  refine xw_callF (pc := 119) (xr_V (as := [_, _]) ok_X1_changed rfl (by decide) q1110 q1112 qs19 (by first | (rw [hM9.tx]; rfl) | (rw [hM.tx]; rfl)) (by first | (rw [hM9.tx]; rfl) | (rw [hM.tx]; rfl)) dX1_rule_119 rfl rfl (Nat.le_of_ble_eq_true rfl)) (SP_X1_changed hM9.tx hx29 hM9.ox hD9 hPa.2.2.2 hPq9.tag) ?_
  intro g119 hc119 hm119
  refine xw_iret (pc := 122) .int dX1_rule_122 rfl ?_ 
  exact ⟨rfl, _, _, _, hP9.fr hc119.2 (fun o h1 h2 => by unfold oP at h1; unfold oEq at h2; omega) (by unfold oEq; omega), hz, ⟨_, _, _, _, hPq9.fr hc119.2 (fun o h1 h2 => by unfold oP at h1; unfold oEq at h2; omega) (by unfold oEq; omega)⟩, hc119.1.choose_spec, ((((F0.sub (O' := oCh p (xsz g0)) (fun o h1 => Or.inl h1) (Nat.le_refl _)).tr (FC.sub (fun o h1 => by unfold oP at h1; unfold oCh; omega) (Nat.le_refl _))).tr (F2.sub (fun o h1 => Or.inr (Or.inr (Or.inl h1))) (Nat.le_refl _))).tr (hc119.2.sub (fun o h1 => Or.inr (Or.inl h1)) (Nat.le_refl _))).sub (fun _ h => h) (by omega)⟩
theorem SP_X1_rule {d : Nat} {g : xG} {x p lk fa ka la n rr ww : Nat} {Z : xAd} {S : xMS} (hM : xMn g x p lk fa ka la Z S n rr ww) {dq da h : Nat} {ps : List Nat} (hPa : xr g x 2 = some dq ∧ xAD g 7 dq da h ps ∧ True ∧ ps.length ≤ 8) {k a b c : Nat} {e : Int32} (hk : k < n) (ha : a < 10) (hb : b < 1000) (hc : c < 1000) (he : ∃ q, q < 3 ∧ e = nI q) (hv : (hind0 rr (nI b) (nI c)).1 = 0) : XM M_X1_rule (d + 80) [.ref x, .int e, .int (nI k), .int (nI a), .int (nI b), .int (nI c)] g (xVal (.int (nI rr)) (xChd g p dq da (S 1) ps (ruUp (S 1) rr e (-1) (nI k) (nI a) (nI b) (nI c)) n (rr + 1) ww)) := by
  have hlc := hM.P.lc
  have n10 := hM.P.wf.n10
  have hlr := hM.P.lr
  have r16 := hM.P.wf.r16
  have hsT : inR (nI k) (nI 0) (nI (aC Z).length - nI 1) = true := inR_k (by omega) (by omega)
  have hE : inR e (nI 0) (nI 2) = true := by obtain ⟨q, hq, rfl⟩ := he; exact inR_nat' (by decide) (by omega)
  have h0 : inR (nI a) (nI 0) (nI 9) = true := inR_nat' (by decide) (by omega)
  have h1 : inR (nI b) (nI 0) (nI 999) = true := inR_nat' (by decide) (by omega)
  have h2 : inR (nI c) (nI 0) (nI 999) = true := inR_nat' (by decide) (by omega)
  have FN : xFr (oEq 5) 2 g (xNew g (xBlank 8 5 1) 1) := (xFr.rf (n := 0)).nw
  have p0 := hM.P.p0
  have hPN := hM.P.fr FN (fun o h1 h2 => by unfold oP at h1; unfold oEq at h2; omega) (by unfold oEq; omega)
  refine xm_of (by decide +kernel) (Nat.le_of_ble_eq_true rfl) ?_
  show XW _ _ 0 [(0, _), (1, _), (2, _), (3, _), (4, _), (5, _)] [] _ _
  refine xw_aload_n (pc := 0) dX1_rule_0 0 rfl ?_
  refine xw_getS (b := p) (pc := 1) fd_X1_10 dX1_rule_1 (by first | assumption | (simp [-List.getD_eq_getElem?_getD, xE_setI, xsz_setI, xsl_setI, xtag_setI, xown_setI, xlen_setI, xE_setR, xsz_setR, xsl_setR, xtag_setR, xown_setR, xlen_setR, xE_setW, xsz_setW, xsl_setW, xtag_setW, xown_setW, xlen_setW, xi_setR, xi_setW, xr_setI, xr_setW, xww_setI, xww_setR, xi_setI, xr_setR, xww_setW, xE_new, xsz_new, xsl_new, hM.tx, hM.xp, hM.l3, xsub]; done) | (simp [-List.getD_eq_getElem?_getD, xE_setI, xsz_setI, xsl_setI, xtag_setI, xown_setI, xlen_setI, xE_setR, xsz_setR, xsl_setR, xtag_setR, xown_setR, xlen_setR, xE_setW, xsz_setW, xsl_setW, xtag_setW, xown_setW, xlen_setW, xi_setR, xi_setW, xr_setI, xr_setW, xww_setI, xww_setR, xi_setI, xr_setR, xww_setW, xE_new, xsz_new, xsl_new, hM.tx, hM.xp, hM.l3] <;> rfl)) (by simp [-List.getD_eq_getElem?_getD, xE_setI, xsz_setI, xsl_setI, xtag_setI, xown_setI, xlen_setI, xE_setR, xsz_setR, xsl_setR, xtag_setR, xown_setR, xlen_setR, xE_setW, xsz_setW, xsl_setW, xtag_setW, xown_setW, xlen_setW, xi_setR, xi_setW, xr_setI, xr_setW, xww_setI, xww_setR, xi_setI, xr_setR, xww_setW, xE_new, xsz_new, xsl_new, hM.tx, hM.xp, hM.l3]) ?_
  refine xw_iload_n (pc := 4) dX1_rule_4 2 rfl ?_
  refine xw_callV (pc := 5) (xr_V (as := [_]) ok_X2_isScope rfl (by decide) q1251 q1061 q1062 (by first | (rw [hPN.tag]; rfl) | (rw [hM.P.tag]; rfl)) (by first | (rw [hPN.tag]; rfl) | (rw [hM.P.tag]; rfl)) dX1_rule_5 rfl rfl (Nat.le_of_ble_eq_true rfl)) ((show XM M_X2_isScope (d + 79) [.ref p, .int (nI k)] g (xOne (some (.int (bI true))) g) from hsT ▸ SP_X2_isScope hM.P.pl)) ?_
  refine xw_callU (pc := 8) (xr_S (as := [_]) ok_X1_checkIndex rfl (by decide) q1252 q1066 dX1_rule_8 rfl rfl (Nat.le_of_ble_eq_true rfl)) (SP_X1_checkIndex_T) ?_
  refine xw_iload_n (pc := 11) dX1_rule_11 1 rfl ?_
  refine xw_iconst (v := nI 0) (pc := 12) dX1_rule_12 rfl ?_
  refine xw_iconst (v := nI 2) (pc := 13) dX1_rule_13 rfl ?_
  refine xw_callV (pc := 14) (xr_S (as := [_, _, _]) ok_X1_isIn rfl (by decide) q1180 q784 dX1_rule_14 rfl rfl (Nat.le_of_ble_eq_true rfl)) (SP_X1_isInT hE) ?_
  refine xw_if_eq (pc := 17) 47 dX1_rule_17 rfl (fun hb => absurd hb (by decide)) (fun _ => ?_)
  refine xw_iload_n (pc := 20) dX1_rule_20 3 rfl ?_
  refine xw_callV (pc := 21) (xr_S (as := [_]) ok_X1_isRank rfl (by decide) q1262 q1263 dX1_rule_21 rfl rfl (Nat.le_of_ble_eq_true rfl)) ((show XM M_X1_isRank (d + 79) [.int (nI a)] g (xOne (some (.int (bI true))) g) from h0 ▸ SP_X1_isRank)) ?_
  refine xw_if_eq (pc := 24) 47 dX1_rule_24 rfl (fun hb => absurd hb (by decide)) (fun _ => ?_)
  refine xw_iload (pc := 27) dX1_rule_27 4 rfl ?_
  refine xw_callV (pc := 29) (xr_S (as := [_]) ok_X1_isDay rfl (by decide) q1265 q1266 dX1_rule_29 rfl rfl (Nat.le_of_ble_eq_true rfl)) ((show XM M_X1_isDay (d + 79) [.int (nI b)] g (xOne (some (.int (bI true))) g) from h1 ▸ SP_X1_isDay)) ?_
  refine xw_if_eq (pc := 32) 47 dX1_rule_32 rfl (fun hb => absurd hb (by decide)) (fun _ => ?_)
  refine xw_iload (pc := 35) dX1_rule_35 5 rfl ?_
  refine xw_callV (pc := 37) (xr_S (as := [_]) ok_X1_isDay rfl (by decide) q1265 q1266 dX1_rule_37 rfl rfl (Nat.le_of_ble_eq_true rfl)) ((show XM M_X1_isDay (d + 79) [.int (nI c)] g (xOne (some (.int (bI true))) g) from h2 ▸ SP_X1_isDay)) ?_
  refine xw_if_eq (pc := 40) 47 dX1_rule_40 rfl (fun hb => absurd hb (by decide)) (fun _ => ?_)
  refine xw_iconst (v := nI 1) (pc := 43) dX1_rule_43 rfl ?_
  refine xw_goto (pc := 44) 48 dX1_rule_44 rfl ?_
  refine xw_callU (pc := 48) (xr_S (as := [_]) ok_X1_check rfl (by decide) q1181 q1182 dX1_rule_48 rfl rfl (Nat.le_of_ble_eq_true rfl)) (SP_X1_check_T) ?_
  refine xw_aload_n (pc := 51) dX1_rule_51 0 rfl ?_
  refine xw_aload_n (pc := 52) dX1_rule_52 0 rfl ?_
  refine xw_getS (b := p) (pc := 53) fd_X1_10 dX1_rule_53 (by first | assumption | (simp [-List.getD_eq_getElem?_getD, xE_setI, xsz_setI, xsl_setI, xtag_setI, xown_setI, xlen_setI, xE_setR, xsz_setR, xsl_setR, xtag_setR, xown_setR, xlen_setR, xE_setW, xsz_setW, xsl_setW, xtag_setW, xown_setW, xlen_setW, xi_setR, xi_setW, xr_setI, xr_setW, xww_setI, xww_setR, xi_setI, xr_setR, xww_setW, xE_new, xsz_new, xsl_new, hM.tx, hM.xp, hM.l3, xsub]; done) | (simp [-List.getD_eq_getElem?_getD, xE_setI, xsz_setI, xsl_setI, xtag_setI, xown_setI, xlen_setI, xE_setR, xsz_setR, xsl_setR, xtag_setR, xown_setR, xlen_setR, xE_setW, xsz_setW, xsl_setW, xtag_setW, xown_setW, xlen_setW, xi_setR, xi_setW, xr_setI, xr_setW, xww_setI, xww_setR, xi_setI, xr_setR, xww_setW, xE_new, xsz_new, xsl_new, hM.tx, hM.xp, hM.l3] <;> rfl)) (by simp [-List.getD_eq_getElem?_getD, xE_setI, xsz_setI, xsl_setI, xtag_setI, xown_setI, xlen_setI, xE_setR, xsz_setR, xsl_setR, xtag_setR, xown_setR, xlen_setR, xE_setW, xsz_setW, xsl_setW, xtag_setW, xown_setW, xlen_setW, xi_setR, xi_setW, xr_setI, xr_setW, xww_setI, xww_setR, xi_setI, xr_setR, xww_setW, xE_new, xsz_new, xsl_new, hM.tx, hM.xp, hM.l3]) ?_
  refine xw_new (t := 8) (pc := 56) 5 dX1_rule_56 rfl (by decide) (by first | decide | assumption | omega) q1268 q1269 q127 ?_
  refine xw_at (a := (xsz g)) (by rfl) ?_
  refine xw_dup (pc := 59) dX1_rule_59 rfl ?_
  refine xw_callU (pc := 60) (xr_IN (as := []) ok_X10_init rfl (by decide) q1270 q1271 rfl rfl dX1_rule_60 rfl rfl (Nat.le_of_ble_eq_true rfl)) (SP_X10_init) ?_
  refine xw_iload (pc := 63) dX1_rule_63 4 rfl ?_
  refine xw_iload (pc := 65) dX1_rule_65 5 rfl ?_
  refine xw_callF (pc := 67) (xr_V (as := [_, _, _]) ok_X2_barsRule rfl (by decide) q1279 q1280 q1281 (by first | (rw [hPN.tag]; rfl) | (rw [hM.P.tag]; rfl)) (by first | (rw [hPN.tag]; rfl) | (rw [hM.P.tag]; rfl)) dX1_rule_67 rfl rfl (Nat.le_of_ble_eq_true rfl)) (SP_X2_barsRule hPN.pl xWy_new) ?_
  intro g67 hc67 hm67
  have F9 := (FN.tr hc67.2).sub (fun _ h => h) (Nat.le_refl _)
  have hw9 : xWy g67 (xsz g) (hind0 rr (nI b) (nI c)) := by have h9 := hc67.1; rw [hlr] at h9; exact h9
  have oK5 : oKeep (oEq 5) := by unfold oKeep oEq; omega
  have hP9 := hM.P.fr F9 (fun o h1 h2 => by unfold oP at h1; unfold oEq at h2; omega) (by unfold oEq; omega)
  have hM9 := hM.fr F9 oK5 hP9
  have hr16 : rr < 16 := hind0_rr (f := nI b) (l := nI c) r16 (by omega)
  have hxl : x < xsz g := xlt (by rw [hM.tx]; decide)
  have nx5 : ¬ oEq 5 (xown g x) := by rw [hM.ox]; unfold oEq; omega
  exact tl_X1_rule hM9 ⟨(F9.r' hxl nx5).trans hPa.1, hPa.2.1.fr F9 (by unfold oEq; omega), trivial, hPa.2.2.2⟩ hk ha hb hc he hr16 hw9 hv F9 (by decide)

theorem SP_X1_rule_R {d : Nat} {g : xG} {x p lk fa ka la n rr ww : Nat} {Z : xAd} {S : xMS} (hM : xMn g x p lk fa ka la Z S n rr ww) {k a b c : Nat} {e : Int32} (hk : k < n) (ha : a < 10) (hb : b < 1000) (hc : c < 1000) (he : ∃ q, q < 3 ∧ e = nI q) (hv : (hind0 rr (nI b) (nI c)).1 ≠ 0) : XM M_X1_rule (d + 80) [.ref x, .int e, .int (nI k), .int (nI a), .int (nI b), .int (nI c)] g (xRef g x (hind0 rr (nI b) (nI c))) := by
  have hlc := hM.P.lc
  have n10 := hM.P.wf.n10
  have hlr := hM.P.lr
  have r16 := hM.P.wf.r16
  have hsT : inR (nI k) (nI 0) (nI (aC Z).length - nI 1) = true := inR_k (by omega) (by omega)
  have hE : inR e (nI 0) (nI 2) = true := by obtain ⟨q, hq, rfl⟩ := he; exact inR_nat' (by decide) (by omega)
  have h0 : inR (nI a) (nI 0) (nI 9) = true := inR_nat' (by decide) (by omega)
  have h1 : inR (nI b) (nI 0) (nI 999) = true := inR_nat' (by decide) (by omega)
  have h2 : inR (nI c) (nI 0) (nI 999) = true := inR_nat' (by decide) (by omega)
  have FN : xFr (oEq 5) 2 g (xNew g (xBlank 8 5 1) 1) := (xFr.rf (n := 0)).nw
  have p0 := hM.P.p0
  have hPN := hM.P.fr FN (fun o h1 h2 => by unfold oP at h1; unfold oEq at h2; omega) (by unfold oEq; omega)
  refine xm_of (by decide +kernel) (Nat.le_of_ble_eq_true rfl) ?_
  show XW _ _ 0 [(0, _), (1, _), (2, _), (3, _), (4, _), (5, _)] [] _ _
  refine xw_aload_n (pc := 0) dX1_rule_0 0 rfl ?_
  refine xw_getS (b := p) (pc := 1) fd_X1_10 dX1_rule_1 (by first | assumption | (simp [-List.getD_eq_getElem?_getD, xE_setI, xsz_setI, xsl_setI, xtag_setI, xown_setI, xlen_setI, xE_setR, xsz_setR, xsl_setR, xtag_setR, xown_setR, xlen_setR, xE_setW, xsz_setW, xsl_setW, xtag_setW, xown_setW, xlen_setW, xi_setR, xi_setW, xr_setI, xr_setW, xww_setI, xww_setR, xi_setI, xr_setR, xww_setW, xE_new, xsz_new, xsl_new, hM.tx, hM.xp, hM.l3, xsub]; done) | (simp [-List.getD_eq_getElem?_getD, xE_setI, xsz_setI, xsl_setI, xtag_setI, xown_setI, xlen_setI, xE_setR, xsz_setR, xsl_setR, xtag_setR, xown_setR, xlen_setR, xE_setW, xsz_setW, xsl_setW, xtag_setW, xown_setW, xlen_setW, xi_setR, xi_setW, xr_setI, xr_setW, xww_setI, xww_setR, xi_setI, xr_setR, xww_setW, xE_new, xsz_new, xsl_new, hM.tx, hM.xp, hM.l3] <;> rfl)) (by simp [-List.getD_eq_getElem?_getD, xE_setI, xsz_setI, xsl_setI, xtag_setI, xown_setI, xlen_setI, xE_setR, xsz_setR, xsl_setR, xtag_setR, xown_setR, xlen_setR, xE_setW, xsz_setW, xsl_setW, xtag_setW, xown_setW, xlen_setW, xi_setR, xi_setW, xr_setI, xr_setW, xww_setI, xww_setR, xi_setI, xr_setR, xww_setW, xE_new, xsz_new, xsl_new, hM.tx, hM.xp, hM.l3]) ?_
  refine xw_iload_n (pc := 4) dX1_rule_4 2 rfl ?_
  refine xw_callV (pc := 5) (xr_V (as := [_]) ok_X2_isScope rfl (by decide) q1251 q1061 q1062 (by first | (rw [hPN.tag]; rfl) | (rw [hM.P.tag]; rfl)) (by first | (rw [hPN.tag]; rfl) | (rw [hM.P.tag]; rfl)) dX1_rule_5 rfl rfl (Nat.le_of_ble_eq_true rfl)) ((show XM M_X2_isScope (d + 79) [.ref p, .int (nI k)] g (xOne (some (.int (bI true))) g) from hsT ▸ SP_X2_isScope hM.P.pl)) ?_
  refine xw_callU (pc := 8) (xr_S (as := [_]) ok_X1_checkIndex rfl (by decide) q1252 q1066 dX1_rule_8 rfl rfl (Nat.le_of_ble_eq_true rfl)) (SP_X1_checkIndex_T) ?_
  refine xw_iload_n (pc := 11) dX1_rule_11 1 rfl ?_
  refine xw_iconst (v := nI 0) (pc := 12) dX1_rule_12 rfl ?_
  refine xw_iconst (v := nI 2) (pc := 13) dX1_rule_13 rfl ?_
  refine xw_callV (pc := 14) (xr_S (as := [_, _, _]) ok_X1_isIn rfl (by decide) q1180 q784 dX1_rule_14 rfl rfl (Nat.le_of_ble_eq_true rfl)) (SP_X1_isInT hE) ?_
  refine xw_if_eq (pc := 17) 47 dX1_rule_17 rfl (fun hb => absurd hb (by decide)) (fun _ => ?_)
  refine xw_iload_n (pc := 20) dX1_rule_20 3 rfl ?_
  refine xw_callV (pc := 21) (xr_S (as := [_]) ok_X1_isRank rfl (by decide) q1262 q1263 dX1_rule_21 rfl rfl (Nat.le_of_ble_eq_true rfl)) ((show XM M_X1_isRank (d + 79) [.int (nI a)] g (xOne (some (.int (bI true))) g) from h0 ▸ SP_X1_isRank)) ?_
  refine xw_if_eq (pc := 24) 47 dX1_rule_24 rfl (fun hb => absurd hb (by decide)) (fun _ => ?_)
  refine xw_iload (pc := 27) dX1_rule_27 4 rfl ?_
  refine xw_callV (pc := 29) (xr_S (as := [_]) ok_X1_isDay rfl (by decide) q1265 q1266 dX1_rule_29 rfl rfl (Nat.le_of_ble_eq_true rfl)) ((show XM M_X1_isDay (d + 79) [.int (nI b)] g (xOne (some (.int (bI true))) g) from h1 ▸ SP_X1_isDay)) ?_
  refine xw_if_eq (pc := 32) 47 dX1_rule_32 rfl (fun hb => absurd hb (by decide)) (fun _ => ?_)
  refine xw_iload (pc := 35) dX1_rule_35 5 rfl ?_
  refine xw_callV (pc := 37) (xr_S (as := [_]) ok_X1_isDay rfl (by decide) q1265 q1266 dX1_rule_37 rfl rfl (Nat.le_of_ble_eq_true rfl)) ((show XM M_X1_isDay (d + 79) [.int (nI c)] g (xOne (some (.int (bI true))) g) from h2 ▸ SP_X1_isDay)) ?_
  refine xw_if_eq (pc := 40) 47 dX1_rule_40 rfl (fun hb => absurd hb (by decide)) (fun _ => ?_)
  refine xw_iconst (v := nI 1) (pc := 43) dX1_rule_43 rfl ?_
  refine xw_goto (pc := 44) 48 dX1_rule_44 rfl ?_
  refine xw_callU (pc := 48) (xr_S (as := [_]) ok_X1_check rfl (by decide) q1181 q1182 dX1_rule_48 rfl rfl (Nat.le_of_ble_eq_true rfl)) (SP_X1_check_T) ?_
  refine xw_aload_n (pc := 51) dX1_rule_51 0 rfl ?_
  refine xw_aload_n (pc := 52) dX1_rule_52 0 rfl ?_
  refine xw_getS (b := p) (pc := 53) fd_X1_10 dX1_rule_53 (by first | assumption | (simp [-List.getD_eq_getElem?_getD, xE_setI, xsz_setI, xsl_setI, xtag_setI, xown_setI, xlen_setI, xE_setR, xsz_setR, xsl_setR, xtag_setR, xown_setR, xlen_setR, xE_setW, xsz_setW, xsl_setW, xtag_setW, xown_setW, xlen_setW, xi_setR, xi_setW, xr_setI, xr_setW, xww_setI, xww_setR, xi_setI, xr_setR, xww_setW, xE_new, xsz_new, xsl_new, hM.tx, hM.xp, hM.l3, xsub]; done) | (simp [-List.getD_eq_getElem?_getD, xE_setI, xsz_setI, xsl_setI, xtag_setI, xown_setI, xlen_setI, xE_setR, xsz_setR, xsl_setR, xtag_setR, xown_setR, xlen_setR, xE_setW, xsz_setW, xsl_setW, xtag_setW, xown_setW, xlen_setW, xi_setR, xi_setW, xr_setI, xr_setW, xww_setI, xww_setR, xi_setI, xr_setR, xww_setW, xE_new, xsz_new, xsl_new, hM.tx, hM.xp, hM.l3] <;> rfl)) (by simp [-List.getD_eq_getElem?_getD, xE_setI, xsz_setI, xsl_setI, xtag_setI, xown_setI, xlen_setI, xE_setR, xsz_setR, xsl_setR, xtag_setR, xown_setR, xlen_setR, xE_setW, xsz_setW, xsl_setW, xtag_setW, xown_setW, xlen_setW, xi_setR, xi_setW, xr_setI, xr_setW, xww_setI, xww_setR, xi_setI, xr_setR, xww_setW, xE_new, xsz_new, xsl_new, hM.tx, hM.xp, hM.l3]) ?_
  refine xw_new (t := 8) (pc := 56) 5 dX1_rule_56 rfl (by decide) (by first | decide | assumption | omega) q1268 q1269 q127 ?_
  refine xw_at (a := (xsz g)) (by rfl) ?_
  refine xw_dup (pc := 59) dX1_rule_59 rfl ?_
  refine xw_callU (pc := 60) (xr_IN (as := []) ok_X10_init rfl (by decide) q1270 q1271 rfl rfl dX1_rule_60 rfl rfl (Nat.le_of_ble_eq_true rfl)) (SP_X10_init) ?_
  refine xw_iload (pc := 63) dX1_rule_63 4 rfl ?_
  refine xw_iload (pc := 65) dX1_rule_65 5 rfl ?_
  refine xw_callF (pc := 67) (xr_V (as := [_, _, _]) ok_X2_barsRule rfl (by decide) q1279 q1280 q1281 (by first | (rw [hPN.tag]; rfl) | (rw [hM.P.tag]; rfl)) (by first | (rw [hPN.tag]; rfl) | (rw [hM.P.tag]; rfl)) dX1_rule_67 rfl rfl (Nat.le_of_ble_eq_true rfl)) (SP_X2_barsRule hPN.pl xWy_new) ?_
  intro g67 hc67 hm67
  have F9 := (FN.tr hc67.2).sub (fun _ h => h) (Nat.le_refl _)
  have hw9 : xWy g67 (xsz g) (hind0 rr (nI b) (nI c)) := by have h9 := hc67.1; rw [hlr] at h9; exact h9
  have oK5 : oKeep (oEq 5) := by unfold oKeep oEq; omega
  have hP9 := hM.P.fr F9 (fun o h1 h2 => by unfold oP at h1; unfold oEq at h2; omega) (by unfold oEq; omega)
  have hM9 := hM.fr F9 oK5 hP9
  refine xw_callY (pc := 70) (xr_V (as := [_]) ok_X1_refuse rfl (by decide) q1302 q1304 qs22 (by rw [hM9.tx]; rfl) (by rw [hM9.tx]; rfl) dX1_rule_70 rfl rfl (Nat.le_of_ble_eq_true rfl)) (SP_X1_refuse_Y hw9 hv hM.tx hM.ox F9 (by decide)) xRef_up rfl ?_
  exact fun _ _ h => h

theorem SP_X1_except_F {d : Nat} {g : xG} {x p lk fa ka la n rr ww : Nat} {Z : xAd} {S : xMS} (hM : xMn g x p lk fa ka la Z S n rr ww) {v e rk f l : Int32} (hv : ¬ inR v (nI 0) (nI rr - nI 1) = true) : XM M_X1_except (d + 80) [.ref x, .int v, .int e, .int rk, .int f, .int l] g (xThr (xsz g) (xExc g 23)) := by
  have hlc := hM.P.lc
  have n10 := hM.P.wf.n10
  have hlr := hM.P.lr
  have r16 := hM.P.wf.r16
  refine xm_of (by decide +kernel) (Nat.le_of_ble_eq_true rfl) ?_
  show XW _ _ 0 [(0, _), (1, _), (2, _), (3, _), (4, _), (5, _)] [] _ _
  refine xw_aload_n (pc := 0) dX1_except_0 0 rfl ?_
  refine xw_getS (b := p) (pc := 1) fd_X1_10 dX1_except_1 (by first | assumption | (simp [-List.getD_eq_getElem?_getD, xE_setI, xsz_setI, xsl_setI, xtag_setI, xown_setI, xlen_setI, xE_setR, xsz_setR, xsl_setR, xtag_setR, xown_setR, xlen_setR, xE_setW, xsz_setW, xsl_setW, xtag_setW, xown_setW, xlen_setW, xi_setR, xi_setW, xr_setI, xr_setW, xww_setI, xww_setR, xi_setI, xr_setR, xww_setW, xE_new, xsz_new, xsl_new, hM.tx, hM.xp, hM.l3, xsub]; done) | (simp [-List.getD_eq_getElem?_getD, xE_setI, xsz_setI, xsl_setI, xtag_setI, xown_setI, xlen_setI, xE_setR, xsz_setR, xsl_setR, xtag_setR, xown_setR, xlen_setR, xE_setW, xsz_setW, xsl_setW, xtag_setW, xown_setW, xlen_setW, xi_setR, xi_setW, xr_setI, xr_setW, xww_setI, xww_setR, xi_setI, xr_setR, xww_setW, xE_new, xsz_new, xsl_new, hM.tx, hM.xp, hM.l3] <;> rfl)) (by simp [-List.getD_eq_getElem?_getD, xE_setI, xsz_setI, xsl_setI, xtag_setI, xown_setI, xlen_setI, xE_setR, xsz_setR, xsl_setR, xtag_setR, xown_setR, xlen_setR, xE_setW, xsz_setW, xsl_setW, xtag_setW, xown_setW, xlen_setW, xi_setR, xi_setW, xr_setI, xr_setW, xww_setI, xww_setR, xi_setI, xr_setR, xww_setW, xE_new, xsz_new, xsl_new, hM.tx, hM.xp, hM.l3]) ?_
  refine xw_iload_n (pc := 4) dX1_except_4 1 rfl ?_
  refine xw_callX (pc := 5) (xr_V (as := [_]) ok_X2_rule rfl (by decide) q1338 q1339 q1340 (by rw [hM.P.tag]; rfl) (by rw [hM.P.tag]; rfl) dX1_except_5 rfl rfl (Nat.le_of_ble_eq_true rfl)) (SP_X2_rule_F hM.P.pl v (by rw [hlr]; exact hv)) ?_
  exact xx_out0 rfl (by rw [xExc_tag]; decide) (by rw [xExc_tag]; decide) (by rw [xExc_own]; decide) ⟨rfl, rfl⟩

theorem SP_X1_except_F2 {d : Nat} {g : xG} {x p lk fa ka la n rr ww : Nat} {Z : xAd} {S : xMS} (hM : xMn g x p lk fa ka la Z S n rr ww) {q : Nat} {v rk f l : Int32} (hq : q < rr) (hv : ¬ inR v (nI 0) (nI n - nI 1) = true) : XM M_X1_except (d + 80) [.ref x, .int (nI q), .int v, .int rk, .int f, .int l] g (xThr (xsz g) (xExc g 23)) := by
  have hlc := hM.P.lc
  have n10 := hM.P.wf.n10
  have hlr := hM.P.lr
  have r16 := hM.P.wf.r16
  have hsF : inR v (nI 0) (nI (aC Z).length - nI 1) = false := by rw [hlc]; exact Bool.eq_false_iff.mpr hv
  refine xm_of (by decide +kernel) (Nat.le_of_ble_eq_true rfl) ?_
  show XW _ _ 0 [(0, _), (1, _), (2, _), (3, _), (4, _), (5, _)] [] _ _
  refine xw_aload_n (pc := 0) dX1_except_0 0 rfl ?_
  refine xw_getS (b := p) (pc := 1) fd_X1_10 dX1_except_1 (by first | assumption | (simp [-List.getD_eq_getElem?_getD, xE_setI, xsz_setI, xsl_setI, xtag_setI, xown_setI, xlen_setI, xE_setR, xsz_setR, xsl_setR, xtag_setR, xown_setR, xlen_setR, xE_setW, xsz_setW, xsl_setW, xtag_setW, xown_setW, xlen_setW, xi_setR, xi_setW, xr_setI, xr_setW, xww_setI, xww_setR, xi_setI, xr_setR, xww_setW, xE_new, xsz_new, xsl_new, hM.tx, hM.xp, hM.l3, xsub]; done) | (simp [-List.getD_eq_getElem?_getD, xE_setI, xsz_setI, xsl_setI, xtag_setI, xown_setI, xlen_setI, xE_setR, xsz_setR, xsl_setR, xtag_setR, xown_setR, xlen_setR, xE_setW, xsz_setW, xsl_setW, xtag_setW, xown_setW, xlen_setW, xi_setR, xi_setW, xr_setI, xr_setW, xww_setI, xww_setR, xi_setI, xr_setR, xww_setW, xE_new, xsz_new, xsl_new, hM.tx, hM.xp, hM.l3] <;> rfl)) (by simp [-List.getD_eq_getElem?_getD, xE_setI, xsz_setI, xsl_setI, xtag_setI, xown_setI, xlen_setI, xE_setR, xsz_setR, xsl_setR, xtag_setR, xown_setR, xlen_setR, xE_setW, xsz_setW, xsl_setW, xtag_setW, xown_setW, xlen_setW, xi_setR, xi_setW, xr_setI, xr_setW, xww_setI, xww_setR, xi_setI, xr_setR, xww_setW, xE_new, xsz_new, xsl_new, hM.tx, hM.xp, hM.l3]) ?_
  refine xw_iload_n (pc := 4) dX1_except_4 1 rfl ?_
  refine xw_callV (pc := 5) (xr_V (as := [_]) ok_X2_rule rfl (by decide) q1338 q1339 q1340 (by rw [hM.P.tag]; rfl) (by rw [hM.P.tag]; rfl) dX1_except_5 rfl rfl (Nat.le_of_ble_eq_true rfl)) (SP_X2_rule hM.P.pl q (by omega) (hM.P.ru hq).1) ?_
  refine xw_astore (l' := [(6, _), (0, _), (1, _), (2, _), (3, _), (4, _), (5, _)]) (pc := 8) dX1_except_8 (by decide) rfl ?_
  refine xw_aload_n (pc := 10) dX1_except_10 1 rfl ?_
  refine xw_getS (b := p) (pc := 11) fd_X1_10 dX1_except_11 (by first | assumption | (simp [-List.getD_eq_getElem?_getD, xE_setI, xsz_setI, xsl_setI, xtag_setI, xown_setI, xlen_setI, xE_setR, xsz_setR, xsl_setR, xtag_setR, xown_setR, xlen_setR, xE_setW, xsz_setW, xsl_setW, xtag_setW, xown_setW, xlen_setW, xi_setR, xi_setW, xr_setI, xr_setW, xww_setI, xww_setR, xi_setI, xr_setR, xww_setW, xE_new, xsz_new, xsl_new, hM.tx, hM.xp, hM.l3, xsub]; done) | (simp [-List.getD_eq_getElem?_getD, xE_setI, xsz_setI, xsl_setI, xtag_setI, xown_setI, xlen_setI, xE_setR, xsz_setR, xsl_setR, xtag_setR, xown_setR, xlen_setR, xE_setW, xsz_setW, xsl_setW, xtag_setW, xown_setW, xlen_setW, xi_setR, xi_setW, xr_setI, xr_setW, xww_setI, xww_setR, xi_setI, xr_setR, xww_setW, xE_new, xsz_new, xsl_new, hM.tx, hM.xp, hM.l3] <;> rfl)) (by simp [-List.getD_eq_getElem?_getD, xE_setI, xsz_setI, xsl_setI, xtag_setI, xown_setI, xlen_setI, xE_setR, xsz_setR, xsl_setR, xtag_setR, xown_setR, xlen_setR, xE_setW, xsz_setW, xsl_setW, xtag_setW, xown_setW, xlen_setW, xi_setR, xi_setW, xr_setI, xr_setW, xww_setI, xww_setR, xi_setI, xr_setR, xww_setW, xE_new, xsz_new, xsl_new, hM.tx, hM.xp, hM.l3]) ?_
  refine xw_iload_n (pc := 14) dX1_except_14 3 rfl ?_
  refine xw_callV (pc := 15) (xr_V (as := [_]) ok_X2_isScope rfl (by decide) q1251 q1061 q1062 (by rw [hM.P.tag]; rfl) (by rw [hM.P.tag]; rfl) dX1_except_15 rfl rfl (Nat.le_of_ble_eq_true rfl)) ((show XM M_X2_isScope (d + 79) [.ref p, .int v] g (xOne (some (.int (bI false))) g) from hsF ▸ SP_X2_isScope hM.P.pl)) ?_
  refine xw_callX (pc := 18) (xr_S (as := [_]) ok_X1_checkIndex rfl (by decide) q1252 q1066 dX1_except_18 rfl rfl (Nat.le_of_ble_eq_true rfl)) (SP_X1_checkIndex_F) ?_
  exact xx_out0 rfl (by rw [xExc_tag]; decide) (by rw [xExc_tag]; decide) (by rw [xExc_own]; decide) ⟨rfl, rfl⟩

theorem SP_X1_except_F3 {d : Nat} {g : xG} {x p lk fa ka la n rr ww : Nat} {Z : xAd} {S : xMS} (hM : xMn g x p lk fa ka la Z S n rr ww) {q k : Nat} {rk f l : Int32} (hq : q < rr) (hk : k < n) (hx : okRule rk f l = false) : XM M_X1_except (d + 80) [.ref x, .int (nI q), .int (nI k), .int rk, .int f, .int l] g (xThr (xsz g) (xExc g 22)) := by
  have hlc := hM.P.lc
  have n10 := hM.P.wf.n10
  have hlr := hM.P.lr
  have r16 := hM.P.wf.r16
  have hsT : inR (nI k) (nI 0) (nI (aC Z).length - nI 1) = true := inR_k (by omega) (by omega)
  unfold okRule at hx
  refine xm_of (by decide +kernel) (Nat.le_of_ble_eq_true rfl) ?_
  show XW _ _ 0 [(0, _), (1, _), (2, _), (3, _), (4, _), (5, _)] [] _ _
  refine xw_aload_n (pc := 0) dX1_except_0 0 rfl ?_
  refine xw_getS (b := p) (pc := 1) fd_X1_10 dX1_except_1 (by first | assumption | (simp [-List.getD_eq_getElem?_getD, xE_setI, xsz_setI, xsl_setI, xtag_setI, xown_setI, xlen_setI, xE_setR, xsz_setR, xsl_setR, xtag_setR, xown_setR, xlen_setR, xE_setW, xsz_setW, xsl_setW, xtag_setW, xown_setW, xlen_setW, xi_setR, xi_setW, xr_setI, xr_setW, xww_setI, xww_setR, xi_setI, xr_setR, xww_setW, xE_new, xsz_new, xsl_new, hM.tx, hM.xp, hM.l3, xsub]; done) | (simp [-List.getD_eq_getElem?_getD, xE_setI, xsz_setI, xsl_setI, xtag_setI, xown_setI, xlen_setI, xE_setR, xsz_setR, xsl_setR, xtag_setR, xown_setR, xlen_setR, xE_setW, xsz_setW, xsl_setW, xtag_setW, xown_setW, xlen_setW, xi_setR, xi_setW, xr_setI, xr_setW, xww_setI, xww_setR, xi_setI, xr_setR, xww_setW, xE_new, xsz_new, xsl_new, hM.tx, hM.xp, hM.l3] <;> rfl)) (by simp [-List.getD_eq_getElem?_getD, xE_setI, xsz_setI, xsl_setI, xtag_setI, xown_setI, xlen_setI, xE_setR, xsz_setR, xsl_setR, xtag_setR, xown_setR, xlen_setR, xE_setW, xsz_setW, xsl_setW, xtag_setW, xown_setW, xlen_setW, xi_setR, xi_setW, xr_setI, xr_setW, xww_setI, xww_setR, xi_setI, xr_setR, xww_setW, xE_new, xsz_new, xsl_new, hM.tx, hM.xp, hM.l3]) ?_
  refine xw_iload_n (pc := 4) dX1_except_4 1 rfl ?_
  refine xw_callV (pc := 5) (xr_V (as := [_]) ok_X2_rule rfl (by decide) q1338 q1339 q1340 (by rw [hM.P.tag]; rfl) (by rw [hM.P.tag]; rfl) dX1_except_5 rfl rfl (Nat.le_of_ble_eq_true rfl)) (SP_X2_rule hM.P.pl q (by omega) (hM.P.ru hq).1) ?_
  refine xw_astore (l' := [(6, _), (0, _), (1, _), (2, _), (3, _), (4, _), (5, _)]) (pc := 8) dX1_except_8 (by decide) rfl ?_
  refine xw_aload_n (pc := 10) dX1_except_10 1 rfl ?_
  refine xw_getS (b := p) (pc := 11) fd_X1_10 dX1_except_11 (by first | assumption | (simp [-List.getD_eq_getElem?_getD, xE_setI, xsz_setI, xsl_setI, xtag_setI, xown_setI, xlen_setI, xE_setR, xsz_setR, xsl_setR, xtag_setR, xown_setR, xlen_setR, xE_setW, xsz_setW, xsl_setW, xtag_setW, xown_setW, xlen_setW, xi_setR, xi_setW, xr_setI, xr_setW, xww_setI, xww_setR, xi_setI, xr_setR, xww_setW, xE_new, xsz_new, xsl_new, hM.tx, hM.xp, hM.l3, xsub]; done) | (simp [-List.getD_eq_getElem?_getD, xE_setI, xsz_setI, xsl_setI, xtag_setI, xown_setI, xlen_setI, xE_setR, xsz_setR, xsl_setR, xtag_setR, xown_setR, xlen_setR, xE_setW, xsz_setW, xsl_setW, xtag_setW, xown_setW, xlen_setW, xi_setR, xi_setW, xr_setI, xr_setW, xww_setI, xww_setR, xi_setI, xr_setR, xww_setW, xE_new, xsz_new, xsl_new, hM.tx, hM.xp, hM.l3] <;> rfl)) (by simp [-List.getD_eq_getElem?_getD, xE_setI, xsz_setI, xsl_setI, xtag_setI, xown_setI, xlen_setI, xE_setR, xsz_setR, xsl_setR, xtag_setR, xown_setR, xlen_setR, xE_setW, xsz_setW, xsl_setW, xtag_setW, xown_setW, xlen_setW, xi_setR, xi_setW, xr_setI, xr_setW, xww_setI, xww_setR, xi_setI, xr_setR, xww_setW, xE_new, xsz_new, xsl_new, hM.tx, hM.xp, hM.l3]) ?_
  refine xw_iload_n (pc := 14) dX1_except_14 3 rfl ?_
  refine xw_callV (pc := 15) (xr_V (as := [_]) ok_X2_isScope rfl (by decide) q1251 q1061 q1062 (by rw [hM.P.tag]; rfl) (by rw [hM.P.tag]; rfl) dX1_except_15 rfl rfl (Nat.le_of_ble_eq_true rfl)) ((show XM M_X2_isScope (d + 79) [.ref p, .int (nI k)] g (xOne (some (.int (bI true))) g) from hsT ▸ SP_X2_isScope hM.P.pl)) ?_
  refine xw_callU (pc := 18) (xr_S (as := [_]) ok_X1_checkIndex rfl (by decide) q1252 q1066 dX1_except_18 rfl rfl (Nat.le_of_ble_eq_true rfl)) (SP_X1_checkIndex_T) ?_
  refine xw_iload_n (pc := 21) dX1_except_21 4 rfl ?_
  refine xw_callV (pc := 22) (xr_S (as := [_]) ok_X1_isRank rfl (by decide) q1262 q1263 dX1_except_22 rfl rfl (Nat.le_of_ble_eq_true rfl)) (SP_X1_isRank (v := rk)) ?_
  refine xw_if_eq (pc := 25) 48 dX1_except_25 rfl (fun hb25 => ?_) (fun hb25 => ?_)
  · replace hb25 := bI_0.mp hb25
    refine xw_iconst (v := nI 0) (pc := 48) dX1_except_48 rfl ?_
    refine xw_callX (pc := 49) (xr_S (as := [_]) ok_X1_check rfl (by decide) q1181 q1182 dX1_except_49 rfl rfl (Nat.le_of_ble_eq_true rfl)) (SP_X1_check_F) ?_
    exact xx_out0 rfl (by rw [xExc_tag]; decide) (by rw [xExc_tag]; decide) (by rw [xExc_own]; decide) ⟨rfl, rfl⟩
  · replace hb25 := bI_n0.mp hb25
    refine xw_iload (pc := 28) dX1_except_28 5 rfl ?_
    refine xw_callV (pc := 30) (xr_S (as := [_]) ok_X1_isDay rfl (by decide) q1265 q1266 dX1_except_30 rfl rfl (Nat.le_of_ble_eq_true rfl)) (SP_X1_isDay (v := f)) ?_
    refine xw_if_eq (pc := 33) 48 dX1_except_33 rfl (fun hb33 => ?_) (fun hb33 => ?_)
    · replace hb33 := bI_0.mp hb33
      refine xw_iconst (v := nI 0) (pc := 48) dX1_except_48 rfl ?_
      refine xw_callX (pc := 49) (xr_S (as := [_]) ok_X1_check rfl (by decide) q1181 q1182 dX1_except_49 rfl rfl (Nat.le_of_ble_eq_true rfl)) (SP_X1_check_F) ?_
      exact xx_out0 rfl (by rw [xExc_tag]; decide) (by rw [xExc_tag]; decide) (by rw [xExc_own]; decide) ⟨rfl, rfl⟩
    · replace hb33 := bI_n0.mp hb33
      refine xw_iload (pc := 36) dX1_except_36 6 rfl ?_
      refine xw_callV (pc := 38) (xr_S (as := [_]) ok_X1_isDay rfl (by decide) q1265 q1266 dX1_except_38 rfl rfl (Nat.le_of_ble_eq_true rfl)) (SP_X1_isDay (v := l)) ?_
      refine xw_if_eq (pc := 41) 48 dX1_except_41 rfl (fun hb41 => ?_) (fun hb41 => ?_)
      rotate_left
      · exfalso
        replace hb41 := bI_n0.mp hb41
        rw [hb25, hb33, hb41] at hx
        exact absurd hx (by decide)
      replace hb41 := bI_0.mp hb41
      refine xw_iconst (v := nI 0) (pc := 48) dX1_except_48 rfl ?_
      refine xw_callX (pc := 49) (xr_S (as := [_]) ok_X1_check rfl (by decide) q1181 q1182 dX1_except_49 rfl rfl (Nat.le_of_ble_eq_true rfl)) (SP_X1_check_F) ?_
      exact xx_out0 rfl (by rw [xExc_tag]; decide) (by rw [xExc_tag]; decide) (by rw [xExc_own]; decide) ⟨rfl, rfl⟩

theorem tl_X1_except {d : Nat} {g g0 : xG} {wq N : Nat} {x p lk fa ka la n rr ww : Nat} {Z : xAd} {S : xMS} (hM : xMn g x p lk fa ka la Z S n rr ww) {dq da h : Nat} {ps : List Nat} (hPa : xr g x 2 = some dq ∧ xAD g 7 dq da h ps ∧ True ∧ ps.length ≤ 8) {q k a b c : Nat} (hq : q < rr) (hk : k < n) (ha : a < 10) (hb : b < 1000) (hc : c < 1000) {a1 : Int32} (hd3 : rdep (S 1) q < 4) {v : Nat × Int32} (hr16 : rr < 16) (hw : xWy g wq v) (hv : v.1 = 0) (F0 : xFr (oEq 5) N g0 g) (hN0 : N ≤ 90) : XW M_X1_except (d + 80) 81 [(6, .ref ((aR Z).getD q 0)), (0, .ref x), (1, .int a1), (2, .int (nI k)), (3, .int (nI a)), (4, .int (nI b)), (5, .int (nI c))] [.ref wq, .ref x] g (xVal (.int (nI rr)) (xChd g0 p dq da (S 1) ps (ruUp (S 1) rr (-1) (nI q) (nI k) (nI a) (nI b) (nI c)) n (rr + 1) ww)) := by
  have hz : xsz g0 ≤ xsz g := F0.le
  have hlr := hM.P.lr
  have n10 := hM.P.wf.n10

  refine xw_callU (pc := 81) (xr_V (as := [_]) ok_X1_refuse rfl (by decide) q1302 q1304 qs22 (by first | (rw [hM9.tx]; rfl) | (rw [hM.tx]; rfl)) (by first | (rw [hM9.tx]; rfl) | (rw [hM.tx]; rfl)) dX1_except_81 rfl rfl (Nat.le_of_ble_eq_true rfl)) (SP_X1_refuse_N hw hv) ?_
  refine xw_aload_n (pc := 84) dX1_except_84 1 rfl ?_
  refine xw_getS (b := p) (pc := 85) fd_X1_10 dX1_except_85 (by first | assumption | (simp [-List.getD_eq_getElem?_getD, xE_setI, xsz_setI, xsl_setI, xtag_setI, xown_setI, xlen_setI, xE_setR, xsz_setR, xsl_setR, xtag_setR, xown_setR, xlen_setR, xE_setW, xsz_setW, xsl_setW, xtag_setW, xown_setW, xlen_setW, xi_setR, xi_setW, xr_setI, xr_setW, xww_setI, xww_setR, xi_setI, xr_setR, xww_setW, xE_new, xsz_new, xsl_new, hM.tx, hM.xp, hM.l3, xsub]; done) | (simp [-List.getD_eq_getElem?_getD, xE_setI, xsz_setI, xsl_setI, xtag_setI, xown_setI, xlen_setI, xE_setR, xsz_setR, xsl_setR, xtag_setR, xown_setR, xlen_setR, xE_setW, xsz_setW, xsl_setW, xtag_setW, xown_setW, xlen_setW, xi_setR, xi_setW, xr_setI, xr_setW, xww_setI, xww_setR, xi_setI, xr_setR, xww_setW, xE_new, xsz_new, xsl_new, hM.tx, hM.xp, hM.l3] <;> rfl)) (by simp [-List.getD_eq_getElem?_getD, xE_setI, xsz_setI, xsl_setI, xtag_setI, xown_setI, xlen_setI, xE_setR, xsz_setR, xsl_setR, xtag_setR, xown_setR, xlen_setR, xE_setW, xsz_setW, xsl_setW, xtag_setW, xown_setW, xlen_setW, xi_setR, xi_setW, xr_setI, xr_setW, xww_setI, xww_setR, xi_setI, xr_setR, xww_setW, xE_new, xsz_new, xsl_new, hM.tx, hM.xp, hM.l3]) ?_
  refine xw_callF (pc := 88) (xr_V (as := []) ok_X2_copy rfl (by decide) q902 q903 q904 (by first | (rw [hP3.tag]; rfl) | (rw [hM.P.tag]; rfl)) (by first | (rw [hP3.tag]; rfl) | (rw [hM.P.tag]; rfl)) dX1_except_88 rfl rfl (Nat.le_of_ble_eq_true rfl)) (SP_X2_copy (d := d + 70) hM.P) ?_
  intro g88 hc88 hm88
  obtain ⟨Zq, hPq, FC⟩ := hc88
  have hp0 := hM.P.p0
  have hlp := hM.P.lt
  have hxl : x < xsz g := xlt (by rw [hM.tx]; decide)
  have nxC : ¬ oP (xsz g) (xown g x) := by rw [hM.ox]; unfold oP; omega
  have oKC : oKeep (oP (xsz g)) := by unfold oKeep oP; omega
  have hP2 := hM.P.fr FC (fun o h1 h2 => by unfold oP at h1 h2; omega) (by unfold oP; omega)
  have hMc := hM.fr FC oKC hP2
  have hDc := hPa.2.1.fr FC (by unfold oP; omega)
  have cf1 : xr g88 p 1 = some (aL Z 2) := hP2.f1
  have tpC : xtag g88 p = 2 := hP2.tag
  have txC : xtag g88 x = 1 := hMc.tx
  have xpC : xr g88 x 0 = some p := hMc.xp
  have ruq := hP2.ru hq
  have hlq : (aR Z).getD q 0 < xsz g88 := xlt (by have := ruq.1; omega)
  refine xw_astore (l' := [(7, _), (6, _), (0, _), (1, _), (2, _), (3, _), (4, _), (5, _)]) (pc := 91) dX1_except_91 (by decide) rfl ?_
  refine xw_aload_n (pc := 93) dX1_except_93 2 rfl ?_
  refine xw_aload (pc := 94) dX1_except_94 0 rfl ?_
  refine xw_aload_n (pc := 96) dX1_except_96 2 rfl ?_
  refine xw_getS (b := p) (pc := 97) fd_X1_10 dX1_except_97 (by first | assumption | (simp [-List.getD_eq_getElem?_getD, xE_setI, xsz_setI, xsl_setI, xtag_setI, xown_setI, xlen_setI, xE_setR, xsz_setR, xsl_setR, xtag_setR, xown_setR, xlen_setR, xE_setW, xsz_setW, xsl_setW, xtag_setW, xown_setW, xlen_setW, xi_setR, xi_setW, xr_setI, xr_setW, xww_setI, xww_setR, xi_setI, xr_setR, xww_setW, xE_new, xsz_new, xsl_new, hM.tx, hM.xp, hM.l3, cf1, tpC, txC, xpC, xsub]; done) | (simp [-List.getD_eq_getElem?_getD, xE_setI, xsz_setI, xsl_setI, xtag_setI, xown_setI, xlen_setI, xE_setR, xsz_setR, xsl_setR, xtag_setR, xown_setR, xlen_setR, xE_setW, xsz_setW, xsl_setW, xtag_setW, xown_setW, xlen_setW, xi_setR, xi_setW, xr_setI, xr_setW, xww_setI, xww_setR, xi_setI, xr_setR, xww_setW, xE_new, xsz_new, xsl_new, hM.tx, hM.xp, hM.l3, cf1, tpC, txC, xpC] <;> rfl)) (by simp [-List.getD_eq_getElem?_getD, xE_setI, xsz_setI, xsl_setI, xtag_setI, xown_setI, xlen_setI, xE_setR, xsz_setR, xsl_setR, xtag_setR, xown_setR, xlen_setR, xE_setW, xsz_setW, xsl_setW, xtag_setW, xown_setW, xlen_setW, xi_setR, xi_setW, xr_setI, xr_setW, xww_setI, xww_setR, xi_setI, xr_setR, xww_setW, xE_new, xsz_new, xsl_new, hM.tx, hM.xp, hM.l3, cf1, tpC, txC, xpC]) ?_
  refine xw_new (t := 6) (pc := 100) (1000 * p) dX1_except_100 rfl (by decide) (by first | decide | assumption | omega) q1360 q926 q124 ?_
  refine xw_at (a := (xsz g88)) (by rfl) ?_
  have FW : xFr oNo 10 g88 (xNew g88 (xBlank 6 (1000 * p) 9) 9) := (xFr.rf (n := 0)).nw.sub (fun _ h => h) (by decide)
  have hP2n := hP2.fr FW (fun o _ h => h) (fun h => h)
  have tpN : xtag (xNew g88 (xBlank 6 (1000 * p) 9) 9) p = 2 := hP2n.tag
  have cf1N : xr (xNew g88 (xBlank 6 (1000 * p) 9) 9) p 1 = some (aL Z 2) := hP2n.f1
  have hMn := hMc.fr (S' := S) FW (by unfold oKeep oNo; simp) hP2n
  have txN : xtag (xNew g88 (xBlank 6 (1000 * p) 9) 9) x = 1 := hMn.tx
  have xpN : xr (xNew g88 (xBlank 6 (1000 * p) 9) 9) x 0 = some p := hMn.xp
  refine xw_dup (pc := 103) dX1_except_103 rfl ?_
  refine xw_aload (pc := 104) dX1_except_104 1 rfl ?_
  refine xw_aload_n (pc := 106) dX1_except_106 2 rfl ?_
  refine xw_getS (b := p) (pc := 107) fd_X1_10 dX1_except_107 (by first | assumption | (simp [-List.getD_eq_getElem?_getD, xE_setI, xsz_setI, xsl_setI, xtag_setI, xown_setI, xlen_setI, xE_setR, xsz_setR, xsl_setR, xtag_setR, xown_setR, xlen_setR, xE_setW, xsz_setW, xsl_setW, xtag_setW, xown_setW, xlen_setW, xi_setR, xi_setW, xr_setI, xr_setW, xww_setI, xww_setR, xi_setI, xr_setR, xww_setW, xE_new, xsz_new, xsl_new, hM.tx, hM.xp, hM.l3, cf1, tpC, txC, xpC, txN, xpN, tpN, cf1N, xsub]; done) | (simp [-List.getD_eq_getElem?_getD, xE_setI, xsz_setI, xsl_setI, xtag_setI, xown_setI, xlen_setI, xE_setR, xsz_setR, xsl_setR, xtag_setR, xown_setR, xlen_setR, xE_setW, xsz_setW, xsl_setW, xtag_setW, xown_setW, xlen_setW, xi_setR, xi_setW, xr_setI, xr_setW, xww_setI, xww_setR, xi_setI, xr_setR, xww_setW, xE_new, xsz_new, xsl_new, hM.tx, hM.xp, hM.l3, cf1, tpC, txC, xpC, txN, xpN, tpN, cf1N] <;> rfl)) (by simp [-List.getD_eq_getElem?_getD, xE_setI, xsz_setI, xsl_setI, xtag_setI, xown_setI, xlen_setI, xE_setR, xsz_setR, xsl_setR, xtag_setR, xown_setR, xlen_setR, xE_setW, xsz_setW, xsl_setW, xtag_setW, xown_setW, xlen_setW, xi_setR, xi_setW, xr_setI, xr_setW, xww_setI, xww_setR, xi_setI, xr_setR, xww_setW, xE_new, xsz_new, xsl_new, hM.tx, hM.xp, hM.l3, cf1, tpC, txC, xpC, txN, xpN, tpN, cf1N]) ?_
  refine xw_getS (b := (aL Z 2)) (pc := 110) fd_X1_240 dX1_except_110 (by first | assumption | (simp [-List.getD_eq_getElem?_getD, xE_setI, xsz_setI, xsl_setI, xtag_setI, xown_setI, xlen_setI, xE_setR, xsz_setR, xsl_setR, xtag_setR, xown_setR, xlen_setR, xE_setW, xsz_setW, xsl_setW, xtag_setW, xown_setW, xlen_setW, xi_setR, xi_setW, xr_setI, xr_setW, xww_setI, xww_setR, xi_setI, xr_setR, xww_setW, xE_new, xsz_new, xsl_new, hM.tx, hM.xp, hM.l3, cf1, tpC, txC, xpC, txN, xpN, tpN, cf1N, xsub]; done) | (simp [-List.getD_eq_getElem?_getD, xE_setI, xsz_setI, xsl_setI, xtag_setI, xown_setI, xlen_setI, xE_setR, xsz_setR, xsl_setR, xtag_setR, xown_setR, xlen_setR, xE_setW, xsz_setW, xsl_setW, xtag_setW, xown_setW, xlen_setW, xi_setR, xi_setW, xr_setI, xr_setW, xww_setI, xww_setR, xi_setI, xr_setR, xww_setW, xE_new, xsz_new, xsl_new, hM.tx, hM.xp, hM.l3, cf1, tpC, txC, xpC, txN, xpN, tpN, cf1N] <;> rfl)) (by simp [-List.getD_eq_getElem?_getD, xE_setI, xsz_setI, xsl_setI, xtag_setI, xown_setI, xlen_setI, xE_setR, xsz_setR, xsl_setR, xtag_setR, xown_setR, xlen_setR, xE_setW, xsz_setW, xsl_setW, xtag_setW, xown_setW, xlen_setW, xi_setR, xi_setW, xr_setI, xr_setW, xww_setI, xww_setR, xi_setI, xr_setR, xww_setW, xE_new, xsz_new, xsl_new, hM.tx, hM.xp, hM.l3, cf1, tpC, txC, xpC, txN, xpN, tpN, cf1N]) ?_
  refine xw_callV (pc := 113) (xr_V (as := []) ok_J2_size rfl (by decide) q701 q702 q703 (by first | (rw [hP2n.l1.1]; rfl)) (by first | (rw [hP2n.l1.1]; rfl)) dX1_except_113 rfl rfl (Nat.le_of_ble_eq_true rfl)) ((show XM M_J2_size (d + 79) [.ref (aL Z 2)] (xNew g88 (xBlank 6 (1000 * p) 9) 9) (xOne (some (.int (nI rr))) (xNew g88 (xBlank 6 (1000 * p) 9) 9)) from hlr ▸ SP_J2_size hP2n.l1)) ?_
  refine xw_iload_n (pc := 116) dX1_except_116 4 rfl ?_
  refine xw_iload_n (pc := 117) dX1_except_117 5 rfl ?_
  refine xw_iload (pc := 118) dX1_except_118 6 rfl ?_
  refine xw_iload (pc := 120) dX1_except_120 7 rfl ?_
  refine xw_callU (pc := 122) (xr_I (as := [_, _, _, _, _, _]) ok_X8_init_2 rfl (by decide) q1361 q1362 rfl rfl dX1_except_122 rfl rfl (Nat.le_of_ble_eq_true rfl)) (SP_X8_init_2 (o2 := 1000 * p + 10 + rr) (by rw [xtag_newS rfl]; rfl) (by rw [xown_newS rfl]; show 1000 * p ≠ 0; omega) (by omega) (by rw [FW.tag hlq]; exact ruq.1) (by omega)) ?_
  have hdN := rdep_newP (s := S 1) (rr := rr) (e := -1) (sc := nI k) (rk := nI a) (f := nI b) (l := nI c) hq hr16
  have hsN : ∀ c', c' < 20 → (ruUp (S 1) rr (-1) (nI q) (nI k) (nI a) (nI b) (nI c)) (23 + 20 * rr + c') = ruB (-1) (nI q) (nI k) (nI a) (nI b) (nI c) c' := fun c' hc' => ruUp_at hc'
  have hN := xExm_ru (g := g88) (o1 := 1000 * p) (o2 := 1000 * p + 10 + rr) hlq ruq.2.1 ruq.2.2.2.2.2.2.2.2.2.2.2.1 (by omega) hsN hdN
  have FNo : xFr oNo (0 + 19) g88 (xExm g88 (1000 * p) (1000 * p + 10 + rr) ((aR Z).getD q 0) (nI rr) (nI k) (nI a) (nI b) (nI c)) := xExm.fr xFr.rf
  have hP3 := hP2.fr FNo (fun o _ h => h) (fun h => h)
  change XW _ _ _ _ _ (xExm g88 (1000 * p) (1000 * p + 10 + rr) ((aR Z).getD q 0) (nI rr) (nI k) (nI a) (nI b) (nI c)) _
  refine xw_callF (pc := 125) (xr_V (as := [_]) ok_X2_add rfl (by decide) q1327 q1328 q1329 (by first | (rw [hP3.tag]; rfl) | (rw [hM.P.tag]; rfl)) (by first | (rw [hP3.tag]; rfl) | (rw [hM.P.tag]; rfl)) dX1_except_125 rfl rfl (Nat.le_of_ble_eq_true rfl)) (SP_X2_add hP3.pl (by omega) (Or.inl hN.2.2.2) (by rw [hN.2.1]; omega) (by have := hP3.c1; omega)) ?_
  intro g125 hc125 hm125
  have F2 : xFr (oP p) 19 g88 g125 := (FNo.sub (m := 19) (fun o h1 => absurd h1 (fun z => z)) (by decide)).tr (hc125.2.sub (m := 0) (fun o h1 => by unfold oEq at h1; unfold oP; omega) (Nat.le_refl _))
  have ruN := hN.1.fr (fun j hj => absurd hj (Nat.not_lt_zero j)) hc125.2 (by rw [hN.2.1]; unfold oEq; omega) (by unfold oEq; omega) (by unfold oEq; omega)
  have hNl : xsz g88 < xsz (xExm g88 (1000 * p) (1000 * p + 10 + rr) ((aR Z).getD q 0) (nI rr) (nI k) (nI a) (nI b) (nI c)) := xlt (by rw [hN.2.2.2]; decide)
  have hNt : xsz g88 + 2 < xsz (xExm g88 (1000 * p) (1000 * p + 10 + rr) ((aR Z).getD q 0) (nI rr) (nI k) (nI a) (nI b) (nI c)) := xlt (by rw [hN.1.2.2.2.2.2.2.2.2.1.2.2.2.2.1]; decide)
  have hP9 : xPol g125 p _ (ruUp (S 1) rr (-1) (nI q) (nI k) (nI a) (nI b) (nI c)) n (rr + 1) ww := hP3.addR hc125.2 hc125.1 hr16 ⟨ruN, (hc125.2.own hNl).trans hN.2.1, by rw [hc125.2.len hNt]; exact hN.2.2.1⟩ ruUp_1 (fun j _ h1 hj => ruUp_o h1 hj) (WFru_new hk ha hb hc n10 (by rw [hdN]; omega) (Or.inr ⟨⟨q, hq, rfl, hr16⟩, rfl⟩))
  rw [show xi (xExm g88 (1000 * p) (1000 * p + 10 + rr) ((aR Z).getD q 0) (nI rr) (nI k) (nI a) (nI b) (nI c)) (xsz g88) 0 = nI rr from hN.1.2.1]
  have oKP : oKeep (oP p) := by unfold oKeep oP; omega
  have hM9 := hMc.fr (S' := fun _ => (ruUp (S 1) rr (-1) (nI q) (nI k) (nI a) (nI b) (nI c))) F2 oKP hP9
  have hD9 := hDc.fr F2 (by unfold oP; omega)
  have hPq9 := hPq.fr F2 (fun o h1 h2 => by unfold oP at h1 h2; omega) (by unfold oP; omega)
  have nx9 : ¬ oP p (xown g88 x) := by rw [hMc.ox]; unfold oP; omega
  have hx29 : xr g125 x 2 = some dq := (F2.r' (FC.lt hxl) nx9).trans ((FC.r' hxl nxC).trans hPa.1)
  refine xw_callF (pc := 128) (xr_V (as := [_, _]) ok_X1_changed rfl (by decide) q1110 q1112 qs19 (by first | (rw [hM9.tx]; rfl) | (rw [hM.tx]; rfl)) (by first | (rw [hM9.tx]; rfl) | (rw [hM.tx]; rfl)) dX1_except_128 rfl rfl (Nat.le_of_ble_eq_true rfl)) (SP_X1_changed hM9.tx hx29 hM9.ox hD9 hPa.2.2.2 hPq9.tag) ?_
  intro g128 hc128 hm128
  refine xw_iret (pc := 131) .int dX1_except_131 rfl ?_ 
  exact ⟨rfl, _, _, _, hP9.fr hc128.2 (fun o h1 h2 => by unfold oP at h1; unfold oEq at h2; omega) (by unfold oEq; omega), hz, ⟨_, _, _, _, hPq9.fr hc128.2 (fun o h1 h2 => by unfold oP at h1; unfold oEq at h2; omega) (by unfold oEq; omega)⟩, hc128.1.choose_spec, ((((F0.sub (O' := oCh p (xsz g0)) (fun o h1 => Or.inl h1) (Nat.le_refl _)).tr (FC.sub (fun o h1 => by unfold oP at h1; unfold oCh; omega) (Nat.le_refl _))).tr (F2.sub (fun o h1 => Or.inr (Or.inr (Or.inl h1))) (Nat.le_refl _))).tr (hc128.2.sub (fun o h1 => Or.inr (Or.inl h1)) (Nat.le_refl _))).sub (fun _ h => h) (by omega)⟩
theorem hindQ_w {s : Nat → Int32} {rr q k : Nat} {f l : Int32} : hindQ s rr q k f l = wThen (wThen (0, nI 0) (hind0 rr f l)) (hindE s q k) := by
  unfold hindQ wThen hind0 hindE
  rw [show 24 + 20 * q = 23 + 20 * q + 1 from by omega]
  by_cases h1 : rr = 16
  · rw [if_pos h1, if_pos h1]; rfl
  · rw [if_neg h1, if_neg h1]
    by_cases h2 : l < f
    · rw [if_pos h2, if_pos h2]; rfl
    · rw [if_neg h2, if_neg h2]; rfl
theorem hindQ_4 {s : Nat → Int32} {rr q k : Nat} {f l : Int32} (h : (hindQ s rr q k f l).1 = 0) (h4 : rdep s q ≤ 4) : rdep s q < 4 := by
  rcases Nat.lt_or_ge (rdep s q) 4 with z | z
  · exact z
  · exfalso
    have e : rdep s q = 4 := by omega
    unfold hindQ at h
    rw [if_pos e] at h
    split at h
    · cases h
    · split at h
      · cases h
      · split at h <;> cases h
theorem SP_X1_except {d : Nat} {g : xG} {x p lk fa ka la n rr ww : Nat} {Z : xAd} {S : xMS} (hM : xMn g x p lk fa ka la Z S n rr ww) {dq da h : Nat} {ps : List Nat} (hPa : xr g x 2 = some dq ∧ xAD g 7 dq da h ps ∧ True ∧ ps.length ≤ 8) {q k a b c : Nat} (hq : q < rr) (hk : k < n) (ha : a < 10) (hb : b < 1000) (hc : c < 1000) (hv : (hindQ (S 1) rr q k (nI b) (nI c)).1 = 0) : XM M_X1_except (d + 80) [.ref x, .int (nI q), .int (nI k), .int (nI a), .int (nI b), .int (nI c)] g (xVal (.int (nI rr)) (xChd g p dq da (S 1) ps (ruUp (S 1) rr (-1) (nI q) (nI k) (nI a) (nI b) (nI c)) n (rr + 1) ww)) := by
  have hlc := hM.P.lc
  have n10 := hM.P.wf.n10
  have hlr := hM.P.lr
  have r16 := hM.P.wf.r16
  have hsT : inR (nI k) (nI 0) (nI (aC Z).length - nI 1) = true := inR_k (by omega) (by omega)
  have h0 : inR (nI a) (nI 0) (nI 9) = true := inR_nat' (by decide) (by omega)
  have h1 : inR (nI b) (nI 0) (nI 999) = true := inR_nat' (by decide) (by omega)
  have h2 : inR (nI c) (nI 0) (nI 999) = true := inR_nat' (by decide) (by omega)
  have FN : xFr (oEq 5) 2 g (xNew g (xBlank 8 5 1) 1) := (xFr.rf (n := 0)).nw
  have p0 := hM.P.p0
  have hPN := hM.P.fr FN (fun o h1 h2 => by unfold oP at h1; unfold oEq at h2; omega) (by unfold oEq; omega)
  refine xm_of (by decide +kernel) (Nat.le_of_ble_eq_true rfl) ?_
  show XW _ _ 0 [(0, _), (1, _), (2, _), (3, _), (4, _), (5, _)] [] _ _
  refine xw_aload_n (pc := 0) dX1_except_0 0 rfl ?_
  refine xw_getS (b := p) (pc := 1) fd_X1_10 dX1_except_1 (by first | assumption | (simp [-List.getD_eq_getElem?_getD, xE_setI, xsz_setI, xsl_setI, xtag_setI, xown_setI, xlen_setI, xE_setR, xsz_setR, xsl_setR, xtag_setR, xown_setR, xlen_setR, xE_setW, xsz_setW, xsl_setW, xtag_setW, xown_setW, xlen_setW, xi_setR, xi_setW, xr_setI, xr_setW, xww_setI, xww_setR, xi_setI, xr_setR, xww_setW, xE_new, xsz_new, xsl_new, hM.tx, hM.xp, hM.l3, xsub]; done) | (simp [-List.getD_eq_getElem?_getD, xE_setI, xsz_setI, xsl_setI, xtag_setI, xown_setI, xlen_setI, xE_setR, xsz_setR, xsl_setR, xtag_setR, xown_setR, xlen_setR, xE_setW, xsz_setW, xsl_setW, xtag_setW, xown_setW, xlen_setW, xi_setR, xi_setW, xr_setI, xr_setW, xww_setI, xww_setR, xi_setI, xr_setR, xww_setW, xE_new, xsz_new, xsl_new, hM.tx, hM.xp, hM.l3] <;> rfl)) (by simp [-List.getD_eq_getElem?_getD, xE_setI, xsz_setI, xsl_setI, xtag_setI, xown_setI, xlen_setI, xE_setR, xsz_setR, xsl_setR, xtag_setR, xown_setR, xlen_setR, xE_setW, xsz_setW, xsl_setW, xtag_setW, xown_setW, xlen_setW, xi_setR, xi_setW, xr_setI, xr_setW, xww_setI, xww_setR, xi_setI, xr_setR, xww_setW, xE_new, xsz_new, xsl_new, hM.tx, hM.xp, hM.l3]) ?_
  refine xw_iload_n (pc := 4) dX1_except_4 1 rfl ?_
  refine xw_callV (pc := 5) (xr_V (as := [_]) ok_X2_rule rfl (by decide) q1338 q1339 q1340 (by first | (rw [hPN.tag]; rfl) | (rw [hP72.tag]; rfl) | (rw [hM.P.tag]; rfl)) (by first | (rw [hPN.tag]; rfl) | (rw [hP72.tag]; rfl) | (rw [hM.P.tag]; rfl)) dX1_except_5 rfl rfl (Nat.le_of_ble_eq_true rfl)) (SP_X2_rule hM.P.pl q (by omega) (hM.P.ru hq).1) ?_
  refine xw_astore (l' := [(6, _), (0, _), (1, _), (2, _), (3, _), (4, _), (5, _)]) (pc := 8) dX1_except_8 (by decide) rfl ?_
  refine xw_aload_n (pc := 10) dX1_except_10 1 rfl ?_
  refine xw_getS (b := p) (pc := 11) fd_X1_10 dX1_except_11 (by first | assumption | (simp [-List.getD_eq_getElem?_getD, xE_setI, xsz_setI, xsl_setI, xtag_setI, xown_setI, xlen_setI, xE_setR, xsz_setR, xsl_setR, xtag_setR, xown_setR, xlen_setR, xE_setW, xsz_setW, xsl_setW, xtag_setW, xown_setW, xlen_setW, xi_setR, xi_setW, xr_setI, xr_setW, xww_setI, xww_setR, xi_setI, xr_setR, xww_setW, xE_new, xsz_new, xsl_new, hM.tx, hM.xp, hM.l3, xsub]; done) | (simp [-List.getD_eq_getElem?_getD, xE_setI, xsz_setI, xsl_setI, xtag_setI, xown_setI, xlen_setI, xE_setR, xsz_setR, xsl_setR, xtag_setR, xown_setR, xlen_setR, xE_setW, xsz_setW, xsl_setW, xtag_setW, xown_setW, xlen_setW, xi_setR, xi_setW, xr_setI, xr_setW, xww_setI, xww_setR, xi_setI, xr_setR, xww_setW, xE_new, xsz_new, xsl_new, hM.tx, hM.xp, hM.l3] <;> rfl)) (by simp [-List.getD_eq_getElem?_getD, xE_setI, xsz_setI, xsl_setI, xtag_setI, xown_setI, xlen_setI, xE_setR, xsz_setR, xsl_setR, xtag_setR, xown_setR, xlen_setR, xE_setW, xsz_setW, xsl_setW, xtag_setW, xown_setW, xlen_setW, xi_setR, xi_setW, xr_setI, xr_setW, xww_setI, xww_setR, xi_setI, xr_setR, xww_setW, xE_new, xsz_new, xsl_new, hM.tx, hM.xp, hM.l3]) ?_
  refine xw_iload_n (pc := 14) dX1_except_14 3 rfl ?_
  refine xw_callV (pc := 15) (xr_V (as := [_]) ok_X2_isScope rfl (by decide) q1251 q1061 q1062 (by first | (rw [hPN.tag]; rfl) | (rw [hP72.tag]; rfl) | (rw [hM.P.tag]; rfl)) (by first | (rw [hPN.tag]; rfl) | (rw [hP72.tag]; rfl) | (rw [hM.P.tag]; rfl)) dX1_except_15 rfl rfl (Nat.le_of_ble_eq_true rfl)) ((show XM M_X2_isScope (d + 79) [.ref p, .int (nI k)] g (xOne (some (.int (bI true))) g) from hsT ▸ SP_X2_isScope hM.P.pl)) ?_
  refine xw_callU (pc := 18) (xr_S (as := [_]) ok_X1_checkIndex rfl (by decide) q1252 q1066 dX1_except_18 rfl rfl (Nat.le_of_ble_eq_true rfl)) (SP_X1_checkIndex_T) ?_
  refine xw_iload_n (pc := 21) dX1_except_21 4 rfl ?_
  refine xw_callV (pc := 22) (xr_S (as := [_]) ok_X1_isRank rfl (by decide) q1262 q1263 dX1_except_22 rfl rfl (Nat.le_of_ble_eq_true rfl)) ((show XM M_X1_isRank (d + 79) [.int (nI a)] g (xOne (some (.int (bI true))) g) from h0 ▸ SP_X1_isRank)) ?_
  refine xw_if_eq (pc := 25) 48 dX1_except_25 rfl (fun hb => absurd hb (by decide)) (fun _ => ?_)
  refine xw_iload (pc := 28) dX1_except_28 5 rfl ?_
  refine xw_callV (pc := 30) (xr_S (as := [_]) ok_X1_isDay rfl (by decide) q1265 q1266 dX1_except_30 rfl rfl (Nat.le_of_ble_eq_true rfl)) ((show XM M_X1_isDay (d + 79) [.int (nI b)] g (xOne (some (.int (bI true))) g) from h1 ▸ SP_X1_isDay)) ?_
  refine xw_if_eq (pc := 33) 48 dX1_except_33 rfl (fun hb => absurd hb (by decide)) (fun _ => ?_)
  refine xw_iload (pc := 36) dX1_except_36 6 rfl ?_
  refine xw_callV (pc := 38) (xr_S (as := [_]) ok_X1_isDay rfl (by decide) q1265 q1266 dX1_except_38 rfl rfl (Nat.le_of_ble_eq_true rfl)) ((show XM M_X1_isDay (d + 79) [.int (nI c)] g (xOne (some (.int (bI true))) g) from h2 ▸ SP_X1_isDay)) ?_
  refine xw_if_eq (pc := 41) 48 dX1_except_41 rfl (fun hb => absurd hb (by decide)) (fun _ => ?_)
  refine xw_iconst (v := nI 1) (pc := 44) dX1_except_44 rfl ?_
  refine xw_goto (pc := 45) 49 dX1_except_45 rfl ?_
  refine xw_callU (pc := 49) (xr_S (as := [_]) ok_X1_check rfl (by decide) q1181 q1182 dX1_except_49 rfl rfl (Nat.le_of_ble_eq_true rfl)) (SP_X1_check_T) ?_
  refine xw_aload_n (pc := 52) dX1_except_52 1 rfl ?_
  refine xw_aload_n (pc := 53) dX1_except_53 1 rfl ?_
  refine xw_getS (b := p) (pc := 54) fd_X1_10 dX1_except_54 (by first | assumption | (simp [-List.getD_eq_getElem?_getD, xE_setI, xsz_setI, xsl_setI, xtag_setI, xown_setI, xlen_setI, xE_setR, xsz_setR, xsl_setR, xtag_setR, xown_setR, xlen_setR, xE_setW, xsz_setW, xsl_setW, xtag_setW, xown_setW, xlen_setW, xi_setR, xi_setW, xr_setI, xr_setW, xww_setI, xww_setR, xi_setI, xr_setR, xww_setW, xE_new, xsz_new, xsl_new, hM.tx, hM.xp, hM.l3, xsub]; done) | (simp [-List.getD_eq_getElem?_getD, xE_setI, xsz_setI, xsl_setI, xtag_setI, xown_setI, xlen_setI, xE_setR, xsz_setR, xsl_setR, xtag_setR, xown_setR, xlen_setR, xE_setW, xsz_setW, xsl_setW, xtag_setW, xown_setW, xlen_setW, xi_setR, xi_setW, xr_setI, xr_setW, xww_setI, xww_setR, xi_setI, xr_setR, xww_setW, xE_new, xsz_new, xsl_new, hM.tx, hM.xp, hM.l3] <;> rfl)) (by simp [-List.getD_eq_getElem?_getD, xE_setI, xsz_setI, xsl_setI, xtag_setI, xown_setI, xlen_setI, xE_setR, xsz_setR, xsl_setR, xtag_setR, xown_setR, xlen_setR, xE_setW, xsz_setW, xsl_setW, xtag_setW, xown_setW, xlen_setW, xi_setR, xi_setW, xr_setI, xr_setW, xww_setI, xww_setR, xi_setI, xr_setR, xww_setW, xE_new, xsz_new, xsl_new, hM.tx, hM.xp, hM.l3]) ?_
  refine xw_aload_n (pc := 57) dX1_except_57 1 rfl ?_
  refine xw_getS (b := p) (pc := 58) fd_X1_10 dX1_except_58 (by first | assumption | (simp [-List.getD_eq_getElem?_getD, xE_setI, xsz_setI, xsl_setI, xtag_setI, xown_setI, xlen_setI, xE_setR, xsz_setR, xsl_setR, xtag_setR, xown_setR, xlen_setR, xE_setW, xsz_setW, xsl_setW, xtag_setW, xown_setW, xlen_setW, xi_setR, xi_setW, xr_setI, xr_setW, xww_setI, xww_setR, xi_setI, xr_setR, xww_setW, xE_new, xsz_new, xsl_new, hM.tx, hM.xp, hM.l3, xsub]; done) | (simp [-List.getD_eq_getElem?_getD, xE_setI, xsz_setI, xsl_setI, xtag_setI, xown_setI, xlen_setI, xE_setR, xsz_setR, xsl_setR, xtag_setR, xown_setR, xlen_setR, xE_setW, xsz_setW, xsl_setW, xtag_setW, xown_setW, xlen_setW, xi_setR, xi_setW, xr_setI, xr_setW, xww_setI, xww_setR, xi_setI, xr_setR, xww_setW, xE_new, xsz_new, xsl_new, hM.tx, hM.xp, hM.l3] <;> rfl)) (by simp [-List.getD_eq_getElem?_getD, xE_setI, xsz_setI, xsl_setI, xtag_setI, xown_setI, xlen_setI, xE_setR, xsz_setR, xsl_setR, xtag_setR, xown_setR, xlen_setR, xE_setW, xsz_setW, xsl_setW, xtag_setW, xown_setW, xlen_setW, xi_setR, xi_setW, xr_setI, xr_setW, xww_setI, xww_setR, xi_setI, xr_setR, xww_setW, xE_new, xsz_new, xsl_new, hM.tx, hM.xp, hM.l3]) ?_
  refine xw_new (t := 8) (pc := 61) 5 dX1_except_61 rfl (by decide) (by first | decide | assumption | omega) q1268 q1269 q127 ?_
  refine xw_at (a := (xsz g)) (by rfl) ?_
  refine xw_dup (pc := 64) dX1_except_64 rfl ?_
  refine xw_callU (pc := 65) (xr_IN (as := []) ok_X10_init rfl (by decide) q1270 q1271 rfl rfl dX1_except_65 rfl rfl (Nat.le_of_ble_eq_true rfl)) (SP_X10_init) ?_
  refine xw_iload (pc := 68) dX1_except_68 5 rfl ?_
  refine xw_iload (pc := 70) dX1_except_70 6 rfl ?_
  refine xw_callF (pc := 72) (xr_V (as := [_, _, _]) ok_X2_barsRule rfl (by decide) q1279 q1280 q1281 (by first | (rw [hPN.tag]; rfl) | (rw [hP72.tag]; rfl) | (rw [hM.P.tag]; rfl)) (by first | (rw [hPN.tag]; rfl) | (rw [hP72.tag]; rfl) | (rw [hM.P.tag]; rfl)) dX1_except_72 rfl rfl (Nat.le_of_ble_eq_true rfl)) (SP_X2_barsRule hPN.pl xWy_new) ?_
  intro g72 hc72 hm72
  have F72 := (FN.tr hc72.2).sub (fun _ h => h) (Nat.le_refl _)
  have hP72 := hM.P.fr F72 (fun o h1 h2 => by unfold oP at h1; unfold oEq at h2; omega) (by unfold oEq; omega)
  refine xw_aload (pc := 75) dX1_except_75 0 rfl ?_
  refine xw_iload_n (pc := 77) dX1_except_77 3 rfl ?_
  refine xw_callF (pc := 78) (xr_V (as := [_, _, _]) ok_X2_barsException rfl (by decide) q1346 q1347 q1348 (by first | (rw [hPN.tag]; rfl) | (rw [hP72.tag]; rfl) | (rw [hM.P.tag]; rfl)) (by first | (rw [hPN.tag]; rfl) | (rw [hP72.tag]; rfl) | (rw [hM.P.tag]; rfl)) dX1_except_78 rfl rfl (Nat.le_of_ble_eq_true rfl)) (SP_X2_barsException hP72 hc72.1 hq hk) ?_
  intro g78 hc78 hm78
  have F9 := (F72.tr hc78.2).sub (fun _ h => h) (Nat.le_refl _)
  have hw9 : xWy g78 (xsz g) (hindQ (S 1) rr q k (nI b) (nI c)) := by
    have h9 := hc78.1
    rw [hlr] at h9
    rw [hindQ_w]
    exact h9
  have oK5 : oKeep (oEq 5) := by unfold oKeep oEq; omega
  have hP9 := hM.P.fr F9 (fun o h1 h2 => by unfold oP at h1; unfold oEq at h2; omega) (by unfold oEq; omega)
  have hM9 := hM.fr F9 oK5 hP9
  have hr16 : rr < 16 := hindQ_rr (s := S 1) (q := q) (k := k) (f := nI b) (l := nI c) r16 (by omega)
  have hxl : x < xsz g := xlt (by rw [hM.tx]; decide)
  have nx5 : ¬ oEq 5 (xown g x) := by rw [hM.ox]; unfold oEq; omega
  exact tl_X1_except hM9 ⟨(F9.r' hxl nx5).trans hPa.1, hPa.2.1.fr F9 (by unfold oEq; omega), trivial, hPa.2.2.2⟩ hq hk ha hb hc (hindQ_4 hv (hM.P.wf.ru hq).2.2.2.2.2.2.1) hr16 hw9 hv F9 (by decide)

theorem SP_X1_except_R {d : Nat} {g : xG} {x p lk fa ka la n rr ww : Nat} {Z : xAd} {S : xMS} (hM : xMn g x p lk fa ka la Z S n rr ww) {q k a b c : Nat} (hq : q < rr) (hk : k < n) (ha : a < 10) (hb : b < 1000) (hc : c < 1000) (hv : (hindQ (S 1) rr q k (nI b) (nI c)).1 ≠ 0) : XM M_X1_except (d + 80) [.ref x, .int (nI q), .int (nI k), .int (nI a), .int (nI b), .int (nI c)] g (xRef g x (hindQ (S 1) rr q k (nI b) (nI c))) := by
  have hlc := hM.P.lc
  have n10 := hM.P.wf.n10
  have hlr := hM.P.lr
  have r16 := hM.P.wf.r16
  have hsT : inR (nI k) (nI 0) (nI (aC Z).length - nI 1) = true := inR_k (by omega) (by omega)
  have h0 : inR (nI a) (nI 0) (nI 9) = true := inR_nat' (by decide) (by omega)
  have h1 : inR (nI b) (nI 0) (nI 999) = true := inR_nat' (by decide) (by omega)
  have h2 : inR (nI c) (nI 0) (nI 999) = true := inR_nat' (by decide) (by omega)
  have FN : xFr (oEq 5) 2 g (xNew g (xBlank 8 5 1) 1) := (xFr.rf (n := 0)).nw
  have p0 := hM.P.p0
  have hPN := hM.P.fr FN (fun o h1 h2 => by unfold oP at h1; unfold oEq at h2; omega) (by unfold oEq; omega)
  refine xm_of (by decide +kernel) (Nat.le_of_ble_eq_true rfl) ?_
  show XW _ _ 0 [(0, _), (1, _), (2, _), (3, _), (4, _), (5, _)] [] _ _
  refine xw_aload_n (pc := 0) dX1_except_0 0 rfl ?_
  refine xw_getS (b := p) (pc := 1) fd_X1_10 dX1_except_1 (by first | assumption | (simp [-List.getD_eq_getElem?_getD, xE_setI, xsz_setI, xsl_setI, xtag_setI, xown_setI, xlen_setI, xE_setR, xsz_setR, xsl_setR, xtag_setR, xown_setR, xlen_setR, xE_setW, xsz_setW, xsl_setW, xtag_setW, xown_setW, xlen_setW, xi_setR, xi_setW, xr_setI, xr_setW, xww_setI, xww_setR, xi_setI, xr_setR, xww_setW, xE_new, xsz_new, xsl_new, hM.tx, hM.xp, hM.l3, xsub]; done) | (simp [-List.getD_eq_getElem?_getD, xE_setI, xsz_setI, xsl_setI, xtag_setI, xown_setI, xlen_setI, xE_setR, xsz_setR, xsl_setR, xtag_setR, xown_setR, xlen_setR, xE_setW, xsz_setW, xsl_setW, xtag_setW, xown_setW, xlen_setW, xi_setR, xi_setW, xr_setI, xr_setW, xww_setI, xww_setR, xi_setI, xr_setR, xww_setW, xE_new, xsz_new, xsl_new, hM.tx, hM.xp, hM.l3] <;> rfl)) (by simp [-List.getD_eq_getElem?_getD, xE_setI, xsz_setI, xsl_setI, xtag_setI, xown_setI, xlen_setI, xE_setR, xsz_setR, xsl_setR, xtag_setR, xown_setR, xlen_setR, xE_setW, xsz_setW, xsl_setW, xtag_setW, xown_setW, xlen_setW, xi_setR, xi_setW, xr_setI, xr_setW, xww_setI, xww_setR, xi_setI, xr_setR, xww_setW, xE_new, xsz_new, xsl_new, hM.tx, hM.xp, hM.l3]) ?_
  refine xw_iload_n (pc := 4) dX1_except_4 1 rfl ?_
  refine xw_callV (pc := 5) (xr_V (as := [_]) ok_X2_rule rfl (by decide) q1338 q1339 q1340 (by first | (rw [hPN.tag]; rfl) | (rw [hP72.tag]; rfl) | (rw [hM.P.tag]; rfl)) (by first | (rw [hPN.tag]; rfl) | (rw [hP72.tag]; rfl) | (rw [hM.P.tag]; rfl)) dX1_except_5 rfl rfl (Nat.le_of_ble_eq_true rfl)) (SP_X2_rule hM.P.pl q (by omega) (hM.P.ru hq).1) ?_
  refine xw_astore (l' := [(6, _), (0, _), (1, _), (2, _), (3, _), (4, _), (5, _)]) (pc := 8) dX1_except_8 (by decide) rfl ?_
  refine xw_aload_n (pc := 10) dX1_except_10 1 rfl ?_
  refine xw_getS (b := p) (pc := 11) fd_X1_10 dX1_except_11 (by first | assumption | (simp [-List.getD_eq_getElem?_getD, xE_setI, xsz_setI, xsl_setI, xtag_setI, xown_setI, xlen_setI, xE_setR, xsz_setR, xsl_setR, xtag_setR, xown_setR, xlen_setR, xE_setW, xsz_setW, xsl_setW, xtag_setW, xown_setW, xlen_setW, xi_setR, xi_setW, xr_setI, xr_setW, xww_setI, xww_setR, xi_setI, xr_setR, xww_setW, xE_new, xsz_new, xsl_new, hM.tx, hM.xp, hM.l3, xsub]; done) | (simp [-List.getD_eq_getElem?_getD, xE_setI, xsz_setI, xsl_setI, xtag_setI, xown_setI, xlen_setI, xE_setR, xsz_setR, xsl_setR, xtag_setR, xown_setR, xlen_setR, xE_setW, xsz_setW, xsl_setW, xtag_setW, xown_setW, xlen_setW, xi_setR, xi_setW, xr_setI, xr_setW, xww_setI, xww_setR, xi_setI, xr_setR, xww_setW, xE_new, xsz_new, xsl_new, hM.tx, hM.xp, hM.l3] <;> rfl)) (by simp [-List.getD_eq_getElem?_getD, xE_setI, xsz_setI, xsl_setI, xtag_setI, xown_setI, xlen_setI, xE_setR, xsz_setR, xsl_setR, xtag_setR, xown_setR, xlen_setR, xE_setW, xsz_setW, xsl_setW, xtag_setW, xown_setW, xlen_setW, xi_setR, xi_setW, xr_setI, xr_setW, xww_setI, xww_setR, xi_setI, xr_setR, xww_setW, xE_new, xsz_new, xsl_new, hM.tx, hM.xp, hM.l3]) ?_
  refine xw_iload_n (pc := 14) dX1_except_14 3 rfl ?_
  refine xw_callV (pc := 15) (xr_V (as := [_]) ok_X2_isScope rfl (by decide) q1251 q1061 q1062 (by first | (rw [hPN.tag]; rfl) | (rw [hP72.tag]; rfl) | (rw [hM.P.tag]; rfl)) (by first | (rw [hPN.tag]; rfl) | (rw [hP72.tag]; rfl) | (rw [hM.P.tag]; rfl)) dX1_except_15 rfl rfl (Nat.le_of_ble_eq_true rfl)) ((show XM M_X2_isScope (d + 79) [.ref p, .int (nI k)] g (xOne (some (.int (bI true))) g) from hsT ▸ SP_X2_isScope hM.P.pl)) ?_
  refine xw_callU (pc := 18) (xr_S (as := [_]) ok_X1_checkIndex rfl (by decide) q1252 q1066 dX1_except_18 rfl rfl (Nat.le_of_ble_eq_true rfl)) (SP_X1_checkIndex_T) ?_
  refine xw_iload_n (pc := 21) dX1_except_21 4 rfl ?_
  refine xw_callV (pc := 22) (xr_S (as := [_]) ok_X1_isRank rfl (by decide) q1262 q1263 dX1_except_22 rfl rfl (Nat.le_of_ble_eq_true rfl)) ((show XM M_X1_isRank (d + 79) [.int (nI a)] g (xOne (some (.int (bI true))) g) from h0 ▸ SP_X1_isRank)) ?_
  refine xw_if_eq (pc := 25) 48 dX1_except_25 rfl (fun hb => absurd hb (by decide)) (fun _ => ?_)
  refine xw_iload (pc := 28) dX1_except_28 5 rfl ?_
  refine xw_callV (pc := 30) (xr_S (as := [_]) ok_X1_isDay rfl (by decide) q1265 q1266 dX1_except_30 rfl rfl (Nat.le_of_ble_eq_true rfl)) ((show XM M_X1_isDay (d + 79) [.int (nI b)] g (xOne (some (.int (bI true))) g) from h1 ▸ SP_X1_isDay)) ?_
  refine xw_if_eq (pc := 33) 48 dX1_except_33 rfl (fun hb => absurd hb (by decide)) (fun _ => ?_)
  refine xw_iload (pc := 36) dX1_except_36 6 rfl ?_
  refine xw_callV (pc := 38) (xr_S (as := [_]) ok_X1_isDay rfl (by decide) q1265 q1266 dX1_except_38 rfl rfl (Nat.le_of_ble_eq_true rfl)) ((show XM M_X1_isDay (d + 79) [.int (nI c)] g (xOne (some (.int (bI true))) g) from h2 ▸ SP_X1_isDay)) ?_
  refine xw_if_eq (pc := 41) 48 dX1_except_41 rfl (fun hb => absurd hb (by decide)) (fun _ => ?_)
  refine xw_iconst (v := nI 1) (pc := 44) dX1_except_44 rfl ?_
  refine xw_goto (pc := 45) 49 dX1_except_45 rfl ?_
  refine xw_callU (pc := 49) (xr_S (as := [_]) ok_X1_check rfl (by decide) q1181 q1182 dX1_except_49 rfl rfl (Nat.le_of_ble_eq_true rfl)) (SP_X1_check_T) ?_
  refine xw_aload_n (pc := 52) dX1_except_52 1 rfl ?_
  refine xw_aload_n (pc := 53) dX1_except_53 1 rfl ?_
  refine xw_getS (b := p) (pc := 54) fd_X1_10 dX1_except_54 (by first | assumption | (simp [-List.getD_eq_getElem?_getD, xE_setI, xsz_setI, xsl_setI, xtag_setI, xown_setI, xlen_setI, xE_setR, xsz_setR, xsl_setR, xtag_setR, xown_setR, xlen_setR, xE_setW, xsz_setW, xsl_setW, xtag_setW, xown_setW, xlen_setW, xi_setR, xi_setW, xr_setI, xr_setW, xww_setI, xww_setR, xi_setI, xr_setR, xww_setW, xE_new, xsz_new, xsl_new, hM.tx, hM.xp, hM.l3, xsub]; done) | (simp [-List.getD_eq_getElem?_getD, xE_setI, xsz_setI, xsl_setI, xtag_setI, xown_setI, xlen_setI, xE_setR, xsz_setR, xsl_setR, xtag_setR, xown_setR, xlen_setR, xE_setW, xsz_setW, xsl_setW, xtag_setW, xown_setW, xlen_setW, xi_setR, xi_setW, xr_setI, xr_setW, xww_setI, xww_setR, xi_setI, xr_setR, xww_setW, xE_new, xsz_new, xsl_new, hM.tx, hM.xp, hM.l3] <;> rfl)) (by simp [-List.getD_eq_getElem?_getD, xE_setI, xsz_setI, xsl_setI, xtag_setI, xown_setI, xlen_setI, xE_setR, xsz_setR, xsl_setR, xtag_setR, xown_setR, xlen_setR, xE_setW, xsz_setW, xsl_setW, xtag_setW, xown_setW, xlen_setW, xi_setR, xi_setW, xr_setI, xr_setW, xww_setI, xww_setR, xi_setI, xr_setR, xww_setW, xE_new, xsz_new, xsl_new, hM.tx, hM.xp, hM.l3]) ?_
  refine xw_aload_n (pc := 57) dX1_except_57 1 rfl ?_
  refine xw_getS (b := p) (pc := 58) fd_X1_10 dX1_except_58 (by first | assumption | (simp [-List.getD_eq_getElem?_getD, xE_setI, xsz_setI, xsl_setI, xtag_setI, xown_setI, xlen_setI, xE_setR, xsz_setR, xsl_setR, xtag_setR, xown_setR, xlen_setR, xE_setW, xsz_setW, xsl_setW, xtag_setW, xown_setW, xlen_setW, xi_setR, xi_setW, xr_setI, xr_setW, xww_setI, xww_setR, xi_setI, xr_setR, xww_setW, xE_new, xsz_new, xsl_new, hM.tx, hM.xp, hM.l3, xsub]; done) | (simp [-List.getD_eq_getElem?_getD, xE_setI, xsz_setI, xsl_setI, xtag_setI, xown_setI, xlen_setI, xE_setR, xsz_setR, xsl_setR, xtag_setR, xown_setR, xlen_setR, xE_setW, xsz_setW, xsl_setW, xtag_setW, xown_setW, xlen_setW, xi_setR, xi_setW, xr_setI, xr_setW, xww_setI, xww_setR, xi_setI, xr_setR, xww_setW, xE_new, xsz_new, xsl_new, hM.tx, hM.xp, hM.l3] <;> rfl)) (by simp [-List.getD_eq_getElem?_getD, xE_setI, xsz_setI, xsl_setI, xtag_setI, xown_setI, xlen_setI, xE_setR, xsz_setR, xsl_setR, xtag_setR, xown_setR, xlen_setR, xE_setW, xsz_setW, xsl_setW, xtag_setW, xown_setW, xlen_setW, xi_setR, xi_setW, xr_setI, xr_setW, xww_setI, xww_setR, xi_setI, xr_setR, xww_setW, xE_new, xsz_new, xsl_new, hM.tx, hM.xp, hM.l3]) ?_
  refine xw_new (t := 8) (pc := 61) 5 dX1_except_61 rfl (by decide) (by first | decide | assumption | omega) q1268 q1269 q127 ?_
  refine xw_at (a := (xsz g)) (by rfl) ?_
  refine xw_dup (pc := 64) dX1_except_64 rfl ?_
  refine xw_callU (pc := 65) (xr_IN (as := []) ok_X10_init rfl (by decide) q1270 q1271 rfl rfl dX1_except_65 rfl rfl (Nat.le_of_ble_eq_true rfl)) (SP_X10_init) ?_
  refine xw_iload (pc := 68) dX1_except_68 5 rfl ?_
  refine xw_iload (pc := 70) dX1_except_70 6 rfl ?_
  refine xw_callF (pc := 72) (xr_V (as := [_, _, _]) ok_X2_barsRule rfl (by decide) q1279 q1280 q1281 (by first | (rw [hPN.tag]; rfl) | (rw [hP72.tag]; rfl) | (rw [hM.P.tag]; rfl)) (by first | (rw [hPN.tag]; rfl) | (rw [hP72.tag]; rfl) | (rw [hM.P.tag]; rfl)) dX1_except_72 rfl rfl (Nat.le_of_ble_eq_true rfl)) (SP_X2_barsRule hPN.pl xWy_new) ?_
  intro g72 hc72 hm72
  have F72 := (FN.tr hc72.2).sub (fun _ h => h) (Nat.le_refl _)
  have hP72 := hM.P.fr F72 (fun o h1 h2 => by unfold oP at h1; unfold oEq at h2; omega) (by unfold oEq; omega)
  refine xw_aload (pc := 75) dX1_except_75 0 rfl ?_
  refine xw_iload_n (pc := 77) dX1_except_77 3 rfl ?_
  refine xw_callF (pc := 78) (xr_V (as := [_, _, _]) ok_X2_barsException rfl (by decide) q1346 q1347 q1348 (by first | (rw [hPN.tag]; rfl) | (rw [hP72.tag]; rfl) | (rw [hM.P.tag]; rfl)) (by first | (rw [hPN.tag]; rfl) | (rw [hP72.tag]; rfl) | (rw [hM.P.tag]; rfl)) dX1_except_78 rfl rfl (Nat.le_of_ble_eq_true rfl)) (SP_X2_barsException hP72 hc72.1 hq hk) ?_
  intro g78 hc78 hm78
  have F9 := (F72.tr hc78.2).sub (fun _ h => h) (Nat.le_refl _)
  have hw9 : xWy g78 (xsz g) (hindQ (S 1) rr q k (nI b) (nI c)) := by
    have h9 := hc78.1
    rw [hlr] at h9
    rw [hindQ_w]
    exact h9
  have oK5 : oKeep (oEq 5) := by unfold oKeep oEq; omega
  have hP9 := hM.P.fr F9 (fun o h1 h2 => by unfold oP at h1; unfold oEq at h2; omega) (by unfold oEq; omega)
  have hM9 := hM.fr F9 oK5 hP9
  refine xw_callY (pc := 81) (xr_V (as := [_]) ok_X1_refuse rfl (by decide) q1302 q1304 qs22 (by rw [hM9.tx]; rfl) (by rw [hM9.tx]; rfl) dX1_except_81 rfl rfl (Nat.le_of_ble_eq_true rfl)) (SP_X1_refuse_Y hw9 hv hM.tx hM.ox F9 (by decide)) xRef_up rfl ?_
  exact fun _ _ h => h

