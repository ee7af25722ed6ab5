/-! CLASS 61: adds, of as many as are read -/
set_option maxRecDepth 100000
/-- tests us, in an array ua, are to be added to the rule b -/
def xAd15 (g : xG) (b o tl arr ua : Nat) (ts us : List Nat) : Prop := (xtag g b = 6 ∨ xtag g b = 7) ∧ xr g b 6 = some tl ∧ xown g b ≠ o ∧ 20 < o ∧ xAL g o tl arr ts ∧ (xTs g (ts ++ us) ∧ ∀ j, j < (ts ++ us).length → xown g ((ts ++ us).getD j 0) = 2) ∧ (xtag g ua = 109 ∧ xown g ua ≠ o ∧ xlen g ua = us.length ∧ ∀ i, i < us.length → xr g ua i = some (us.getD i 0)) ∧ ts.length ≤ 4 ∧ us.length ≤ 15
theorem lq1_X1_adds {d : Nat} {g : xG} {x b o tl arr ua : Nat} {ts us : List Nat} (H : xAd15 g b o tl arr ua ts us) {Q : Option Value ⊕ Nat → xG → Prop} (hq : ∀ (g' : xG) (arr' N : Nat), xAL g' o tl arr' (ts ++ us) → xlen g arr ≤ xlen g' arr' → xFr (oEq o) N g g' → N ≤ 15000 → XW M_X1_adds (d + 20) 49 [(6, .int (nI us.length)), (5, .int (nI us.length)), (4, .ref ua), (3, .int (nI ts.length)), (0, .ref x), (1, .ref b), (2, .ref ua)] [] g' Q) : ∀ (j k : Nat) (gk : xG) (ak N : Nat), us.length - k < j → k ≤ us.length → xAL gk o tl ak (ts ++ us.take k) → xlen g arr ≤ xlen gk ak → xFr (oEq o) N g gk → N ≤ 1000 * k → XW M_X1_adds (d + 20) 19 [(6, .int (nI k)), (5, .int (nI us.length)), (4, .ref ua), (3, .int (nI ts.length)), (0, .ref x), (1, .ref b), (2, .ref ua)] [] gk Q := by
  have H0 := H
  obtain ⟨q1, q2, q3, q4, q5, ⟨q6, q7⟩, ⟨q8, q9, q10, q11⟩, q12, q13⟩ := H
  intro j
  induction j with
  | zero => intro k gk ak N h; omega
  | succ j ih =>
  intro k gk ak N hj hk hL hl F hN
  have hlb : b < xsz g := xlt (by omega)
  have hlu : ua < xsz g := xlt (by rw [q8]; decide)
  have nob : ¬ oEq o (xown g b) := q3
  have nou : ¬ oEq o (xown g ua) := q9
  have tb : xsub 90 (xtag gk b) = true := by rw [F.tag hlb]; exact xsub_R q1
  have fb : xr gk b 6 = some tl := (F.r' hlb nob).trans q2
  have tu : xtag gk ua = 109 := (F.tag hlu).trans q8
  have lu : xlen gk ua = us.length := (F.len hlu).trans q10
  have elu : ∀ i, i < us.length → xr gk ua i = some (us.getD i 0) := fun i hi => (F.r' hlu nou).trans (q11 i hi)
  refine xw_iload (pc := 19) dX1_adds_19 0 rfl ?_
  refine xw_iload (pc := 21) dX1_adds_21 1 rfl ?_
  refine xw_icmp_ge (pc := 23) 49 dX1_adds_23 rfl (fun hb23 => ?_) (fun hb23 => ?_)
  · replace hb23 : us.length ≤ k := (nI_leI (a := us.length) (b := k) (by omega) (by omega)).mp hb23
    have ek : k = us.length := by omega
    subst ek
    rw [List.take_length] at hL
    exact hq gk ak N hL hl F (by omega)
  · replace hb23 : ¬ (us.length ≤ k) := mt (nI_leI (a := us.length) (b := k) (by omega) (by omega)).mpr hb23
    have hb23 : k < us.length := by omega
    have huk := q6 (ts.length + k) (by rw [List.length_append]; omega)
    rw [getD_app4] at huk
    have hut : xtag gk (us.getD k 0) = xtag g (us.getD k 0) := F.tag (xlt (by omega))
    refine xw_aload (pc := 26) dX1_adds_26 2 rfl ?_
    refine xw_iload (pc := 28) dX1_adds_28 0 rfl ?_
    refine xw_aald (q := 8) (k := k) (pc := 30) dX1_adds_30 (by simp [-List.getD_eq_getElem?_getD, xE_setI, xsz_setI, xsl_setI, xtag_setI, xown_setI, xlen_setI, xE_setR, xsz_setR, xsl_setR, xtag_setR, xown_setR, xlen_setR, xE_setW, xsz_setW, xsl_setW, xtag_setW, xown_setW, xlen_setW, xi_setR, xi_setW, xr_setI, xr_setW, xww_setI, xww_setR, xi_setI, xr_setR, xww_setW, xE_new, xsz_new, xsl_new, tb, fb, tu, lu, q4]) (by decide) (by decide) rfl (by omega) ?_
    rw [show xr gk ua k = some (us.getD k 0) from by exact elu k hb23]
    refine xw_astore (l' := [(7, _), (6, _), (5, _), (4, _), (3, _), (0, _), (1, _), (2, _)]) (pc := 31) dX1_adds_31 (by decide) rfl ?_
    refine xw_aload_n (pc := 33) dX1_adds_33 6 rfl ?_
    refine xw_getS (b := tl) (pc := 34) fd_X1_262 dX1_adds_34 (by first | assumption | (simp [-List.getD_eq_getElem?_getD, xE_setI, xsz_setI, xsl_setI, xtag_setI, xown_setI, xlen_setI, xE_setR, xsz_setR, xsl_setR, xtag_setR, xown_setR, xlen_setR, xE_setW, xsz_setW, xsl_setW, xtag_setW, xown_setW, xlen_setW, xi_setR, xi_setW, xr_setI, xr_setW, xww_setI, xww_setR, xi_setI, xr_setR, xww_setW, xE_new, xsz_new, xsl_new, tb, fb, tu, lu, q4, xsub]; done) | (simp [-List.getD_eq_getElem?_getD, xE_setI, xsz_setI, xsl_setI, xtag_setI, xown_setI, xlen_setI, xE_setR, xsz_setR, xsl_setR, xtag_setR, xown_setR, xlen_setR, xE_setW, xsz_setW, xsl_setW, xtag_setW, xown_setW, xlen_setW, xi_setR, xi_setW, xr_setI, xr_setW, xww_setI, xww_setR, xi_setI, xr_setR, xww_setW, xE_new, xsz_new, xsl_new, tb, fb, tu, lu, q4] <;> rfl)) (by simp [-List.getD_eq_getElem?_getD, xE_setI, xsz_setI, xsl_setI, xtag_setI, xown_setI, xlen_setI, xE_setR, xsz_setR, xsl_setR, xtag_setR, xown_setR, xlen_setR, xE_setW, xsz_setW, xsl_setW, xtag_setW, xown_setW, xlen_setW, xi_setR, xi_setW, xr_setI, xr_setW, xww_setI, xww_setR, xi_setI, xr_setR, xww_setW, xE_new, xsz_new, xsl_new, tb, fb, tu, lu, q4]) ?_
    refine xw_aload (pc := 37) dX1_adds_37 0 rfl ?_
    refine xw_callF (pc := 39) (xr_V (as := [_]) ok_J2_add rfl (by decide) q1109 q529 q530 (by rw [hL.1]; rfl) (by rw [hL.1]; rfl) dX1_adds_39 rfl rfl (Nat.le_of_ble_eq_true rfl)) (SP_J2_addG (d := d + 13) hL (by omega) (fun i hi => xObj_T (by rw [(app_take hi).1, F.tag (xlt (by have := (q6 i (app_take hi).2).1; omega))]; exact (q6 i (app_take hi).2).1) (by rw [(app_take hi).1, F.tag (xlt (by have := (q6 i (app_take hi).2).1; omega))]; exact (q6 i (app_take hi).2).2)) (xObj_T (by rw [hut]; exact huk.1) (by rw [hut]; exact huk.2)) (by rw [List.length_append, List.length_take]; omega)) ?_
    intro g39 hc39 hm39
    refine xw_pop (pc := 42) dX1_adds_42 rfl ?_
    refine xw_iinc (v := nI (k + 1)) (l' := [(6, _), (7, _), (5, _), (4, _), (3, _), (0, _), (1, _), (2, _)]) (pc := 43) dX1_adds_43 1 rfl (nI_add _ 1) (by decide) rfl ?_
    refine xw_goto (pc := 46) 19 dX1_adds_46 rfl ?_
    refine xw_pick (pc := 19) (l' := [(6, _), (5, _), (4, _), (3, _), (0, _), (1, _), (2, _)]) [0, 2, 3, 4, 5, 6, 7] rfl ?_
    obtain ⟨ak2, r1, r2, r3⟩ := hc39
    rw [app_step hb23] at r1
    exact ih (k + 1) g39 ak2 (N + 1000) (by omega) (by omega) r1 (Nat.le_trans hl r2) (F.tr r3) (by omega)
theorem lq2_X1_adds {d : Nat} {g : xG} {x b o tl arr ua wq : Nat} {ts us : List Nat} {v : Nat × Int32} {a1 a2 : Int32} (q1 : xtag g b = 6 ∨ xtag g b = 7) (q2 : xr g b 6 = some tl) (q3 : xown g b ≠ o) (q4 : 20 < o) (q5 : xAL g o tl arr (ts ++ us)) (q6 : xTs g (ts ++ us)) (q12 : ts.length ≤ 4) (q13 : us.length ≤ 15) (hw : xWy g wq v) (hv : v.1 ≠ 0) : ∀ (j : Nat) (gk : xG), j ≤ us.length → xAL gk o tl arr (ts ++ us.take j) → xFr (oEq o) 0 g gk → XW M_X1_adds (d + 20) 104 [(5, .ref wq), (4, .int a1), (6, .int a2), (3, .int (nI ts.length)), (0, .ref x), (1, .ref b), (2, .ref ua)] [] gk (xVal (.ref wq) (fun g' => xWy g' wq v ∧ xAL g' o tl arr ts ∧ xFr (oEq o) 0 g g')) := by
  have hlb : b < xsz g := xlt (by omega)
  have nob : ¬ oEq o (xown g b) := q3
  intro j
  induction j with
  | zero =>
    intro gk hj hL F
    have tb : xsub 90 (xtag gk b) = true := by rw [F.tag hlb]; exact xsub_R q1
    have fb : xr gk b 6 = some tl := (F.r' hlb nob).trans q2
    have hwk := hw.fr F (by unfold oEq; omega)
    rw [List.take_zero, List.append_nil] at hL
    obtain ⟨w1, w2, w3, w4⟩ := hwk
    have hwk : xWy gk wq v := ⟨w1, w2, w3, w4⟩
    rcases w4 with w4 | ⟨-, w, w5, -⟩
    · exact absurd w4.1 hv
    refine xw_aload (pc := 104) dX1_adds_104 0 rfl ?_
    refine xw_callV (pc := 106) (xr_V (as := []) ok_X10_isNone rfl (by decide) q1306 q1307 q1308 (by rw [w1]; rfl) (by rw [w1]; rfl) dX1_adds_106 rfl rfl (Nat.le_of_ble_eq_true rfl)) (SP_X10_isNone_F w1 w5) ?_
    refine xw_if_ne (pc := 109) 143 dX1_adds_109 rfl (fun hb => absurd hb (by decide)) (fun _ => ?_)
    refine xw_aload_n (pc := 112) dX1_adds_112 5 rfl ?_
    refine xw_getS (b := tl) (pc := 113) fd_X1_262 dX1_adds_113 (by first | assumption | (simp [-List.getD_eq_getElem?_getD, xE_setI, xsz_setI, xsl_setI, xtag_setI, xown_setI, xlen_setI, xE_setR, xsz_setR, xsl_setR, xtag_setR, xown_setR, xlen_setR, xE_setW, xsz_setW, xsl_setW, xtag_setW, xown_setW, xlen_setW, xi_setR, xi_setW, xr_setI, xr_setW, xww_setI, xww_setR, xi_setI, xr_setR, xww_setW, xE_new, xsz_new, xsl_new, tb, fb, w1, q4, xsub]; done) | (simp [-List.getD_eq_getElem?_getD, xE_setI, xsz_setI, xsl_setI, xtag_setI, xown_setI, xlen_setI, xE_setR, xsz_setR, xsl_setR, xtag_setR, xown_setR, xlen_setR, xE_setW, xsz_setW, xsl_setW, xtag_setW, xown_setW, xlen_setW, xi_setR, xi_setW, xr_setI, xr_setW, xww_setI, xww_setR, xi_setI, xr_setR, xww_setW, xE_new, xsz_new, xsl_new, tb, fb, w1, q4] <;> rfl)) (by simp [-List.getD_eq_getElem?_getD, xE_setI, xsz_setI, xsl_setI, xtag_setI, xown_setI, xlen_setI, xE_setR, xsz_setR, xsl_setR, xtag_setR, xown_setR, xlen_setR, xE_setW, xsz_setW, xsl_setW, xtag_setW, xown_setW, xlen_setW, xi_setR, xi_setW, xr_setI, xr_setW, xww_setI, xww_setR, xi_setI, xr_setR, xww_setW, xE_new, xsz_new, xsl_new, tb, fb, w1, q4]) ?_
    refine xw_callV (pc := 116) (xr_V (as := []) ok_J2_size rfl (by decide) q701 q702 q703 (by rw [hL.1]; rfl) (by rw [hL.1]; rfl) dX1_adds_116 rfl rfl (Nat.le_of_ble_eq_true rfl)) (SP_J2_size hL) ?_
    refine xw_iload_n (pc := 119) dX1_adds_119 3 rfl ?_
    refine xw_icmp_le (pc := 120) 143 dX1_adds_120 rfl (fun hb120 => ?_) (fun hb120 => ?_)
    rotate_left
    · exfalso
      replace hb120 : ¬ (ts.length ≤ ts.length) := mt (nI_leI (a := ts.length) (b := ts.length) (by omega) (by omega)).mpr hb120
      omega
    replace hb120 : ts.length ≤ ts.length := (nI_leI (a := ts.length) (b := ts.length) (by omega) (by omega)).mp hb120
    refine xw_aload (pc := 143) dX1_adds_143 0 rfl ?_
    refine xw_aret (pc := 145) (.object "PolicyNotation$Whys") dX1_adds_145 rfl ?_
    exact ⟨rfl, hwk, hL, F⟩
  | succ j ih =>
    intro gk hj hL F
    have tb : xsub 90 (xtag gk b) = true := by rw [F.tag hlb]; exact xsub_R q1
    have fb : xr gk b 6 = some tl := (F.r' hlb nob).trans q2
    have hwk := hw.fr F (by unfold oEq; omega)
    have ll : (ts ++ us.take (j + 1)).length = ts.length + (j + 1) := by rw [List.length_append, List.length_take]; omega
    obtain ⟨w1, w2, w3, w4⟩ := hwk
    rcases w4 with w4 | ⟨-, w, w5, -⟩
    · exact absurd w4.1 hv
    refine xw_aload (pc := 104) dX1_adds_104 0 rfl ?_
    refine xw_callV (pc := 106) (xr_V (as := []) ok_X10_isNone rfl (by decide) q1306 q1307 q1308 (by rw [w1]; rfl) (by rw [w1]; rfl) dX1_adds_106 rfl rfl (Nat.le_of_ble_eq_true rfl)) (SP_X10_isNone_F w1 w5) ?_
    refine xw_if_ne (pc := 109) 143 dX1_adds_109 rfl (fun hb => absurd hb (by decide)) (fun _ => ?_)
    refine xw_aload_n (pc := 112) dX1_adds_112 5 rfl ?_
    refine xw_getS (b := tl) (pc := 113) fd_X1_262 dX1_adds_113 (by first | assumption | (simp [-List.getD_eq_getElem?_getD, xE_setI, xsz_setI, xsl_setI, xtag_setI, xown_setI, xlen_setI, xE_setR, xsz_setR, xsl_setR, xtag_setR, xown_setR, xlen_setR, xE_setW, xsz_setW, xsl_setW, xtag_setW, xown_setW, xlen_setW, xi_setR, xi_setW, xr_setI, xr_setW, xww_setI, xww_setR, xi_setI, xr_setR, xww_setW, xE_new, xsz_new, xsl_new, tb, fb, w1, q4, xsub]; done) | (simp [-List.getD_eq_getElem?_getD, xE_setI, xsz_setI, xsl_setI, xtag_setI, xown_setI, xlen_setI, xE_setR, xsz_setR, xsl_setR, xtag_setR, xown_setR, xlen_setR, xE_setW, xsz_setW, xsl_setW, xtag_setW, xown_setW, xlen_setW, xi_setR, xi_setW, xr_setI, xr_setW, xww_setI, xww_setR, xi_setI, xr_setR, xww_setW, xE_new, xsz_new, xsl_new, tb, fb, w1, q4] <;> rfl)) (by simp [-List.getD_eq_getElem?_getD, xE_setI, xsz_setI, xsl_setI, xtag_setI, xown_setI, xlen_setI, xE_setR, xsz_setR, xsl_setR, xtag_setR, xown_setR, xlen_setR, xE_setW, xsz_setW, xsl_setW, xtag_setW, xown_setW, xlen_setW, xi_setR, xi_setW, xr_setI, xr_setW, xww_setI, xww_setR, xi_setI, xr_setR, xww_setW, xE_new, xsz_new, xsl_new, tb, fb, w1, q4]) ?_
    refine xw_callV (pc := 116) (xr_V (as := []) ok_J2_size rfl (by decide) q701 q702 q703 (by rw [hL.1]; rfl) (by rw [hL.1]; rfl) dX1_adds_116 rfl rfl (Nat.le_of_ble_eq_true rfl)) ((show XM M_J2_size (d + 19) [.ref tl] gk (xOne (some (.int (nI (ts.length + (j + 1))))) gk) from ll ▸ SP_J2_size hL)) ?_
    refine xw_iload_n (pc := 119) dX1_adds_119 3 rfl ?_
    refine xw_icmp_le (pc := 120) 143 dX1_adds_120 rfl (fun hb120 => ?_) (fun hb120 => ?_)
    · exfalso
      replace hb120 : (ts.length + (j + 1)) ≤ ts.length := (nI_leI (a := (ts.length + (j + 1))) (b := ts.length) (by omega) (by omega)).mp hb120
      omega
    replace hb120 : ¬ ((ts.length + (j + 1)) ≤ ts.length) := mt (nI_leI (a := (ts.length + (j + 1))) (b := ts.length) (by omega) (by omega)).mpr hb120
    refine xw_aload_n (pc := 123) dX1_adds_123 5 rfl ?_
    refine xw_getS (b := tl) (pc := 124) fd_X1_262 dX1_adds_124 (by first | assumption | (simp [-List.getD_eq_getElem?_getD, xE_setI, xsz_setI, xsl_setI, xtag_setI, xown_setI, xlen_setI, xE_setR, xsz_setR, xsl_setR, xtag_setR, xown_setR, xlen_setR, xE_setW, xsz_setW, xsl_setW, xtag_setW, xown_setW, xlen_setW, xi_setR, xi_setW, xr_setI, xr_setW, xww_setI, xww_setR, xi_setI, xr_setR, xww_setW, xE_new, xsz_new, xsl_new, tb, fb, w1, q4, xsub]; done) | (simp [-List.getD_eq_getElem?_getD, xE_setI, xsz_setI, xsl_setI, xtag_setI, xown_setI, xlen_setI, xE_setR, xsz_setR, xsl_setR, xtag_setR, xown_setR, xlen_setR, xE_setW, xsz_setW, xsl_setW, xtag_setW, xown_setW, xlen_setW, xi_setR, xi_setW, xr_setI, xr_setW, xww_setI, xww_setR, xi_setI, xr_setR, xww_setW, xE_new, xsz_new, xsl_new, tb, fb, w1, q4] <;> rfl)) (by simp [-List.getD_eq_getElem?_getD, xE_setI, xsz_setI, xsl_setI, xtag_setI, xown_setI, xlen_setI, xE_setR, xsz_setR, xsl_setR, xtag_setR, xown_setR, xlen_setR, xE_setW, xsz_setW, xsl_setW, xtag_setW, xown_setW, xlen_setW, xi_setR, xi_setW, xr_setI, xr_setW, xww_setI, xww_setR, xi_setI, xr_setR, xww_setW, xE_new, xsz_new, xsl_new, tb, fb, w1, q4]) ?_
    refine xw_aload_n (pc := 127) dX1_adds_127 5 rfl ?_
    refine xw_getS (b := tl) (pc := 128) fd_X1_262 dX1_adds_128 (by first | assumption | (simp [-List.getD_eq_getElem?_getD, xE_setI, xsz_setI, xsl_setI, xtag_setI, xown_setI, xlen_setI, xE_setR, xsz_setR, xsl_setR, xtag_setR, xown_setR, xlen_setR, xE_setW, xsz_setW, xsl_setW, xtag_setW, xown_setW, xlen_setW, xi_setR, xi_setW, xr_setI, xr_setW, xww_setI, xww_setR, xi_setI, xr_setR, xww_setW, xE_new, xsz_new, xsl_new, tb, fb, w1, q4, xsub]; done) | (simp [-List.getD_eq_getElem?_getD, xE_setI, xsz_setI, xsl_setI, xtag_setI, xown_setI, xlen_setI, xE_setR, xsz_setR, xsl_setR, xtag_setR, xown_setR, xlen_setR, xE_setW, xsz_setW, xsl_setW, xtag_setW, xown_setW, xlen_setW, xi_setR, xi_setW, xr_setI, xr_setW, xww_setI, xww_setR, xi_setI, xr_setR, xww_setW, xE_new, xsz_new, xsl_new, tb, fb, w1, q4] <;> rfl)) (by simp [-List.getD_eq_getElem?_getD, xE_setI, xsz_setI, xsl_setI, xtag_setI, xown_setI, xlen_setI, xE_setR, xsz_setR, xsl_setR, xtag_setR, xown_setR, xlen_setR, xE_setW, xsz_setW, xsl_setW, xtag_setW, xown_setW, xlen_setW, xi_setR, xi_setW, xr_setI, xr_setW, xww_setI, xww_setR, xi_setI, xr_setR, xww_setW, xE_new, xsz_new, xsl_new, tb, fb, w1, q4]) ?_
    refine xw_callV (pc := 131) (xr_V (as := []) ok_J2_size rfl (by decide) q701 q702 q703 (by rw [hL.1]; rfl) (by rw [hL.1]; rfl) dX1_adds_131 rfl rfl (Nat.le_of_ble_eq_true rfl)) ((show XM M_J2_size (d + 19) [.ref tl] gk (xOne (some (.int (nI (ts.length + (j + 1))))) gk) from ll ▸ SP_J2_size hL)) ?_
    refine xw_iconst (v := nI 1) (pc := 134) dX1_adds_134 rfl ?_
    refine xn_isub (pc := 135) dX1_adds_135 (by omega) ?_
    refine xw_callF (pc := 136) (xr_V (as := [_]) ok_J2_remove rfl (by decide) q1448 q1449 q1450 (by rw [hL.1]; rfl) (by rw [hL.1]; rfl) dX1_adds_136 rfl rfl (Nat.le_of_ble_eq_true rfl)) (SP_J2_remove hL (by omega) (fun i hi => xObj_T (by rw [(app_take hi).1, F.tag (xlt (by have := (q6 i (app_take hi).2).1; omega))]; exact (q6 i (app_take hi).2).1) (by rw [(app_take hi).1, F.tag (xlt (by have := (q6 i (app_take hi).2).1; omega))]; exact (q6 i (app_take hi).2).2)) (ts.length + (j + 1) - 1) (by omega)) ?_
    intro g136 hc136 hm136
    refine xw_pop (pc := 139) dX1_adds_139 rfl ?_
    refine xw_goto (pc := 140) 104 dX1_adds_140 rfl ?_
    have hL2 := hc136.1
    have eb := app_back (ts := ts) (us := us) (k := j) (by omega)
    rw [ll] at eb
    rw [eb] at hL2
    exact ih g136 (by omega) hL2 ((F.tr hc136.2).sub (fun _ h => h) (by omega))
theorem me_X1_adds_A {d : Nat} {g : xG} {x b o tl arr ua : Nat} {ts us : List Nat} (H : xAd15 g b o tl arr ua ts us) {g1 : xG} {ar1 N : Nat} (hL : xAL g1 o tl ar1 (ts ++ us)) (hl : xlen g arr ≤ xlen g1 ar1) (F : xFr (oEq o) N g g1) (hN : N ≤ 15000) (hbig : 4 < (ts ++ us).length) (q5n : xown g b ≠ 5) : XW M_X1_adds (d + 20) 49 [(6, .int (nI us.length)), (5, .int (nI us.length)), (4, .ref ua), (3, .int (nI ts.length)), (0, .ref x), (1, .ref b), (2, .ref ua)] [] g1 (xAns (fun wq g' => xWy g' wq (adW g (ts ++ us)) ∧ (∃ arr', xAL g' o tl arr' (if (adW g (ts ++ us)).1 = 0 then ts ++ us else ts) ∧ xlen g arr ≤ xlen g' arr') ∧ xFr (fun c => c = o ∨ c = 5) 16000 g g')) := by
  obtain ⟨q1, q2, q3, q4, q5, ⟨q6, q7⟩, ⟨q8, q9, q10, q11⟩, q12, q13⟩ := H
  have hlb : b < xsz g := xlt (by omega)
  have hlu : ua < xsz g := xlt (by rw [q8]; decide)
  have nob : ¬ oEq o (xown g b) := q3
  have nou : ¬ oEq o (xown g ua) := q9
  have tb : xsub 90 (xtag g1 b) = true := by rw [F.tag hlb]; exact xsub_R q1
  have fb : xr g1 b 6 = some tl := (F.r' hlb nob).trans q2
  have tu : xtag g1 ua = 109 := (F.tag hlu).trans q8
  have lu : xlen g1 ua = us.length := (F.len hlu).trans q10
  have elu : ∀ i, i < us.length → xr g1 ua i = some (us.getD i 0) := fun i hi => (F.r' hlu nou).trans (q11 i hi)
  have hT1 : xTs g1 (ts ++ us) := fun j hj => by rw [F.tag (xlt (by have := (q6 j hj).1; omega))]; exact q6 j hj
  have q1b : xtag g1 b = 6 ∨ xtag g1 b = 7 := by rw [F.tag hlb]; exact q1
  have eI : impK g1 (ts ++ us) = impK g (ts ++ us) := impK_fr q6 q7 F (by unfold oEq; omega)
  have lla : (ts ++ us).length = ts.length + us.length := List.length_append
  have FN : xFr (fun c => c = o ∨ c = 5) (N + (1 + 1)) g (xNew g1 (xBlank 8 5 1) 1) := (F.sub (m := N) (fun c h1 => Or.inl h1) (Nat.le_refl _)).nw
  have FN1 : xFr oNo (0 + (1 + 1)) g1 (xNew g1 (xBlank 8 5 1) 1) := (xFr.rf (n := 0)).nw
  have hLN := hL.fr FN1 (fun z => z)
  have tbN : xsub 90 (xtag (xNew g1 (xBlank 8 5 1) 1) b) = true := by rw [FN1.tag (F.lt hlb)]; exact tb
  have fbN : xr (xNew g1 (xBlank 8 5 1) 1) b 6 = some tl := (FN1.r' (F.lt hlb) (fun z => z)).trans fb
  refine xw_aload_n (pc := 49) dX1_adds_49 5 rfl ?_
  skip
  refine xw_callV (pc := 50) (xr_rimpossible q1b dX1_adds_50 q1422 (Nat.le_of_ble_eq_true rfl)) ((eI ▸ SP_X7_impossible (d := d + 14) q1b fb hL hT1 : XM M_X7_impossible (d + 19) [.ref b] g1 (xOne (some (.int (impK g (ts ++ us)))) g1))) ?_
  refine xw_istore (l' := [(4, _), (6, _), (5, _), (3, _), (0, _), (1, _), (2, _)]) (pc := 53) dX1_adds_53 (by decide) rfl ?_
  refine xw_new (t := 8) (pc := 55) 5 dX1_adds_55 rfl (by decide) (by first | decide | assumption | omega) q1268 q1269 q127 ?_
  refine xw_at (a := (xsz g1)) (by rfl) ?_
  refine xw_dup (pc := 58) dX1_adds_58 rfl ?_
  refine xw_callU (pc := 59) (xr_IN (as := []) ok_X10_init rfl (by decide) q1270 q1271 rfl rfl dX1_adds_59 rfl rfl (Nat.le_of_ble_eq_true rfl)) (SP_X10_init) ?_
  refine xw_aload_n (pc := 62) dX1_adds_62 5 rfl ?_
  refine xw_getS (b := tl) (pc := 63) fd_X1_262 dX1_adds_63 (by first | assumption | (simp [-List.getD_eq_getElem?_getD, xE_setI, xsz_setI, xsl_setI, xtag_setI, xown_setI, xlen_setI, xE_setR, xsz_setR, xsl_setR, xtag_setR, xown_setR, xlen_setR, xE_setW, xsz_setW, xsl_setW, xtag_setW, xown_setW, xlen_setW, xi_setR, xi_setW, xr_setI, xr_setW, xww_setI, xww_setR, xi_setI, xr_setR, xww_setW, xE_new, xsz_new, xsl_new, tb, fb, tbN, fbN, q4, xsub]; done) | (simp [-List.getD_eq_getElem?_getD, xE_setI, xsz_setI, xsl_setI, xtag_setI, xown_setI, xlen_setI, xE_setR, xsz_setR, xsl_setR, xtag_setR, xown_setR, xlen_setR, xE_setW, xsz_setW, xsl_setW, xtag_setW, xown_setW, xlen_setW, xi_setR, xi_setW, xr_setI, xr_setW, xww_setI, xww_setR, xi_setI, xr_setR, xww_setW, xE_new, xsz_new, xsl_new, tb, fb, tbN, fbN, q4] <;> rfl)) (by simp [-List.getD_eq_getElem?_getD, xE_setI, xsz_setI, xsl_setI, xtag_setI, xown_setI, xlen_setI, xE_setR, xsz_setR, xsl_setR, xtag_setR, xown_setR, xlen_setR, xE_setW, xsz_setW, xsl_setW, xtag_setW, xown_setW, xlen_setW, xi_setR, xi_setW, xr_setI, xr_setW, xww_setI, xww_setR, xi_setI, xr_setR, xww_setW, xE_new, xsz_new, xsl_new, tb, fb, tbN, fbN, q4]) ?_
  refine xw_callV (pc := 66) (xr_V (as := []) ok_J2_size rfl (by decide) q701 q702 q703 (by first | (rw [hL.1]; rfl) | (rw [hLN.1]; rfl)) (by first | (rw [hL.1]; rfl) | (rw [hLN.1]; rfl)) dX1_adds_66 rfl rfl (Nat.le_of_ble_eq_true rfl)) ((show XM M_J2_size (d + 19) [.ref tl] (xNew g1 (xBlank 8 5 1) 1) (xOne (some (.int (nI (ts ++ us).length))) (xNew g1 (xBlank 8 5 1) 1)) from SP_J2_size hLN)) ?_
  refine xw_iconst (v := nI 4) (pc := 69) dX1_adds_69 rfl ?_
  refine xw_icmp_le (pc := 70) 77 dX1_adds_70 rfl (fun hb70 => ?_) (fun hb70 => ?_)
  · exfalso
    replace hb70 : (ts ++ us).length ≤ 4 := (nI_leI (a := (ts ++ us).length) (b := 4) (by omega) (by omega)).mp hb70
    omega
  replace hb70 : ¬ ((ts ++ us).length ≤ 4) := mt (nI_leI (a := (ts ++ us).length) (b := 4) (by omega) (by omega)).mpr hb70
  refine xw_iconst (v := nI 1) (pc := 73) dX1_adds_73 rfl ?_
  refine xw_goto (pc := 74) 78 dX1_adds_74 rfl ?_
  refine xw_bipush (v := nI 6) (pc := 78) dX1_adds_78 (by decide +kernel) ?_
  refine xw_iconst (v := nI 0) (pc := 80) dX1_adds_80 rfl ?_
  refine xw_callF (pc := 81) (xr_V (as := [_, _, _]) ok_X10_asks rfl (by decide) q1447 q1284 q1285 (by first | (rw [xWy_new.1]; rfl) | (rw [hc81.1.1]; rfl)) (by first | (rw [xWy_new.1]; rfl) | (rw [hc81.1.1]; rfl)) dX1_adds_81 rfl rfl (Nat.le_of_ble_eq_true rfl)) (SP_X10_asks (b := true) (re := 6) (c := 1) xWy_new (by first | rfl | exact nI1 | exact nI0) (by decide)) ?_
  intro g81 hc81 hm81
  refine xw_iload (pc := 84) dX1_adds_84 0 rfl ?_
  refine xw_iconst (v := -1) (pc := 86) dX1_adds_86 (by decide +kernel) ?_
  refine xw_icmp_eq (pc := 87) 94 dX1_adds_87 rfl (fun hb87 => ?_) (fun hb87 => ?_)
  · refine xw_iconst (v := nI 0) (pc := 94) dX1_adds_94 rfl ?_
    refine xw_bipush (v := nI 7) (pc := 95) dX1_adds_95 (by decide +kernel) ?_
    refine xw_iload (pc := 97) dX1_adds_97 0 rfl ?_
    refine xw_callF (pc := 99) (xr_V (as := [_, _, _]) ok_X10_asks rfl (by decide) q1447 q1284 q1285 (by first | (rw [xWy_new.1]; rfl) | (rw [hc81.1.1]; rfl)) (by first | (rw [xWy_new.1]; rfl) | (rw [hc81.1.1]; rfl)) dX1_adds_99 rfl rfl (Nat.le_of_ble_eq_true rfl)) (SP_X10_asks (b := false) (re := 7) (c := 0) hc81.1 (by first | rfl | exact nI1 | exact nI0) (by decide)) ?_
    intro g99 hc99 hm99
    refine xw_astore (l' := [(5, _), (4, _), (6, _), (3, _), (0, _), (1, _), (2, _)]) (pc := 102) dX1_adds_102 (by decide) rfl ?_
    have F99 := (hc81.2.tr hc99.2).sub (m := 6) (fun _ h => h) (by omega)
    have FF : xFr (fun c => c = o ∨ c = 5) 15500 g g99 := (FN.tr (F99.sub (m := 6) (fun c h1 => Or.inr h1) (Nat.le_refl _))).sub (fun _ h => h) (by omega)
    have hw9 : xWy g99 (xsz g1) (adW g (ts ++ us)) := hc99.1.congr (by
      unfold wAsk adW
      rw [if_pos hbig]; simp)
    have hL9 := (hLN.fr F99 (by unfold oEq; omega))
    have hl9 : xlen g arr ≤ xlen g99 ar1 := by
      have e9 : ar1 < xsz g1 := xlt (by rw [hL.2.2.2.2.1]; decide)
      rw [F99.len (FN1.lt e9), FN1.len e9]; exact hl
    have h0 : (adW g (ts ++ us)).1 ≠ 0 := by unfold adW; rw [if_pos hbig]; decide
    have tb9 : xtag g99 b = xtag g b := (FN.tr (F99.sub (m := 6) (fun c h1 => Or.inr h1) (Nat.le_refl _))).tag hlb
    have fb9 : xr g99 b 6 = some tl := (F99.r' (FN1.lt (F.lt hlb)) (by rw [FN1.own (F.lt hlb), F.own hlb]; exact q5n)).trans fbN
    have ob9 : xown g99 b ≠ o := by rw [(FN.tr (F99.sub (m := 6) (fun c h1 => Or.inr h1) (Nat.le_refl _))).own hlb]; exact q3
    have hT9 : xTs g99 (ts ++ us) := fun j hj => by rw [FF.tag (xlt (by have := (q6 j hj).1; omega))]; exact q6 j hj
    have L2 := lq2_X1_adds (d := d) (x := x) (ua := ua) (a1 := impK g (ts ++ us)) (a2 := nI us.length) (by rw [tb9]; exact q1) fb9 ob9 q4 hL9 hT9 q12 q13 hw9 h0 us.length g99 (Nat.le_refl _) (by rw [List.take_length]; exact hL9) xFr.rf
    exact L2.mono (fun rs g' hp _ => by
      obtain ⟨rfl, p1, p2, p3⟩ := hp
      exact ⟨_, rfl, p1, ⟨ar1, by rw [if_neg h0]; exact p2, by rw [p3.len (xlt (by rw [hL9.2.2.2.2.1]; decide))]; exact hl9⟩, (FF.tr (p3.sub (m := 0) (fun c h1 => Or.inl h1) (Nat.le_refl _))).sub (fun _ h => h) (by omega)⟩)
  · refine xw_iconst (v := nI 1) (pc := 90) dX1_adds_90 rfl ?_
    refine xw_goto (pc := 91) 95 dX1_adds_91 rfl ?_
    refine xw_bipush (v := nI 7) (pc := 95) dX1_adds_95 (by decide +kernel) ?_
    refine xw_iload (pc := 97) dX1_adds_97 0 rfl ?_
    refine xw_callF (pc := 99) (xr_V (as := [_, _, _]) ok_X10_asks rfl (by decide) q1447 q1284 q1285 (by first | (rw [xWy_new.1]; rfl) | (rw [hc81.1.1]; rfl)) (by first | (rw [xWy_new.1]; rfl) | (rw [hc81.1.1]; rfl)) dX1_adds_99 rfl rfl (Nat.le_of_ble_eq_true rfl)) (SP_X10_asks (b := true) (re := 7) (c := 1) hc81.1 (by first | rfl | exact nI1 | exact nI0) (by decide)) ?_
    intro g99 hc99 hm99
    refine xw_astore (l' := [(5, _), (4, _), (6, _), (3, _), (0, _), (1, _), (2, _)]) (pc := 102) dX1_adds_102 (by decide) rfl ?_
    have F99 := (hc81.2.tr hc99.2).sub (m := 6) (fun _ h => h) (by omega)
    have FF : xFr (fun c => c = o ∨ c = 5) 15500 g g99 := (FN.tr (F99.sub (m := 6) (fun c h1 => Or.inr h1) (Nat.le_refl _))).sub (fun _ h => h) (by omega)
    have hw9 : xWy g99 (xsz g1) (adW g (ts ++ us)) := hc99.1.congr (by
      unfold wAsk adW
      rw [if_pos hbig]; simp)
    have hL9 := (hLN.fr F99 (by unfold oEq; omega))
    have hl9 : xlen g arr ≤ xlen g99 ar1 := by
      have e9 : ar1 < xsz g1 := xlt (by rw [hL.2.2.2.2.1]; decide)
      rw [F99.len (FN1.lt e9), FN1.len e9]; exact hl
    have h0 : (adW g (ts ++ us)).1 ≠ 0 := by unfold adW; rw [if_pos hbig]; decide
    have tb9 : xtag g99 b = xtag g b := (FN.tr (F99.sub (m := 6) (fun c h1 => Or.inr h1) (Nat.le_refl _))).tag hlb
    have fb9 : xr g99 b 6 = some tl := (F99.r' (FN1.lt (F.lt hlb)) (by rw [FN1.own (F.lt hlb), F.own hlb]; exact q5n)).trans fbN
    have ob9 : xown g99 b ≠ o := by rw [(FN.tr (F99.sub (m := 6) (fun c h1 => Or.inr h1) (Nat.le_refl _))).own hlb]; exact q3
    have hT9 : xTs g99 (ts ++ us) := fun j hj => by rw [FF.tag (xlt (by have := (q6 j hj).1; omega))]; exact q6 j hj
    have L2 := lq2_X1_adds (d := d) (x := x) (ua := ua) (a1 := impK g (ts ++ us)) (a2 := nI us.length) (by rw [tb9]; exact q1) fb9 ob9 q4 hL9 hT9 q12 q13 hw9 h0 us.length g99 (Nat.le_refl _) (by rw [List.take_length]; exact hL9) xFr.rf
    exact L2.mono (fun rs g' hp _ => by
      obtain ⟨rfl, p1, p2, p3⟩ := hp
      exact ⟨_, rfl, p1, ⟨ar1, by rw [if_neg h0]; exact p2, by rw [p3.len (xlt (by rw [hL9.2.2.2.2.1]; decide))]; exact hl9⟩, (FF.tr (p3.sub (m := 0) (fun c h1 => Or.inl h1) (Nat.le_refl _))).sub (fun _ h => h) (by omega)⟩)
theorem me_X1_adds_B {d : Nat} {g : xG} {x b o tl arr ua : Nat} {ts us : List Nat} (H : xAd15 g b o tl arr ua ts us) {g1 : xG} {ar1 N : Nat} (hL : xAL g1 o tl ar1 (ts ++ us)) (hl : xlen g arr ≤ xlen g1 ar1) (F : xFr (oEq o) N g g1) (hN : N ≤ 15000) (hsm : ¬ 4 < (ts ++ us).length) (heq : impK g (ts ++ us) = -1) : XW M_X1_adds (d + 20) 49 [(6, .int (nI us.length)), (5, .int (nI us.length)), (4, .ref ua), (3, .int (nI ts.length)), (0, .ref x), (1, .ref b), (2, .ref ua)] [] g1 (xAns (fun wq g' => xWy g' wq (adW g (ts ++ us)) ∧ (∃ arr', xAL g' o tl arr' (if (adW g (ts ++ us)).1 = 0 then ts ++ us else ts) ∧ xlen g arr ≤ xlen g' arr') ∧ xFr (fun c => c = o ∨ c = 5) 16000 g g')) := by
  obtain ⟨q1, q2, q3, q4, q5, ⟨q6, q7⟩, ⟨q8, q9, q10, q11⟩, q12, q13⟩ := H
  have hlb : b < xsz g := xlt (by omega)
  have hlu : ua < xsz g := xlt (by rw [q8]; decide)
  have nob : ¬ oEq o (xown g b) := q3
  have nou : ¬ oEq o (xown g ua) := q9
  have tb : xsub 90 (xtag g1 b) = true := by rw [F.tag hlb]; exact xsub_R q1
  have fb : xr g1 b 6 = some tl := (F.r' hlb nob).trans q2
  have tu : xtag g1 ua = 109 := (F.tag hlu).trans q8
  have lu : xlen g1 ua = us.length := (F.len hlu).trans q10
  have elu : ∀ i, i < us.length → xr g1 ua i = some (us.getD i 0) := fun i hi => (F.r' hlu nou).trans (q11 i hi)
  have hT1 : xTs g1 (ts ++ us) := fun j hj => by rw [F.tag (xlt (by have := (q6 j hj).1; omega))]; exact q6 j hj
  have q1b : xtag g1 b = 6 ∨ xtag g1 b = 7 := by rw [F.tag hlb]; exact q1
  have eI : impK g1 (ts ++ us) = impK g (ts ++ us) := impK_fr q6 q7 F (by unfold oEq; omega)
  have lla : (ts ++ us).length = ts.length + us.length := List.length_append
  have FN : xFr (fun c => c = o ∨ c = 5) (N + (1 + 1)) g (xNew g1 (xBlank 8 5 1) 1) := (F.sub (m := N) (fun c h1 => Or.inl h1) (Nat.le_refl _)).nw
  have FN1 : xFr oNo (0 + (1 + 1)) g1 (xNew g1 (xBlank 8 5 1) 1) := (xFr.rf (n := 0)).nw
  have hLN := hL.fr FN1 (fun z => z)
  have tbN : xsub 90 (xtag (xNew g1 (xBlank 8 5 1) 1) b) = true := by rw [FN1.tag (F.lt hlb)]; exact tb
  have fbN : xr (xNew g1 (xBlank 8 5 1) 1) b 6 = some tl := (FN1.r' (F.lt hlb) (fun z => z)).trans fb
  refine xw_aload_n (pc := 49) dX1_adds_49 5 rfl ?_
  skip
  refine xw_callV (pc := 50) (xr_rimpossible q1b dX1_adds_50 q1422 (Nat.le_of_ble_eq_true rfl)) ((eI ▸ SP_X7_impossible (d := d + 14) q1b fb hL hT1 : XM M_X7_impossible (d + 19) [.ref b] g1 (xOne (some (.int (impK g (ts ++ us)))) g1))) ?_
  refine xw_istore (l' := [(4, _), (6, _), (5, _), (3, _), (0, _), (1, _), (2, _)]) (pc := 53) dX1_adds_53 (by decide) rfl ?_
  refine xw_new (t := 8) (pc := 55) 5 dX1_adds_55 rfl (by decide) (by first | decide | assumption | omega) q1268 q1269 q127 ?_
  refine xw_at (a := (xsz g1)) (by rfl) ?_
  refine xw_dup (pc := 58) dX1_adds_58 rfl ?_
  refine xw_callU (pc := 59) (xr_IN (as := []) ok_X10_init rfl (by decide) q1270 q1271 rfl rfl dX1_adds_59 rfl rfl (Nat.le_of_ble_eq_true rfl)) (SP_X10_init) ?_
  refine xw_aload_n (pc := 62) dX1_adds_62 5 rfl ?_
  refine xw_getS (b := tl) (pc := 63) fd_X1_262 dX1_adds_63 (by first | assumption | (simp [-List.getD_eq_getElem?_getD, xE_setI, xsz_setI, xsl_setI, xtag_setI, xown_setI, xlen_setI, xE_setR, xsz_setR, xsl_setR, xtag_setR, xown_setR, xlen_setR, xE_setW, xsz_setW, xsl_setW, xtag_setW, xown_setW, xlen_setW, xi_setR, xi_setW, xr_setI, xr_setW, xww_setI, xww_setR, xi_setI, xr_setR, xww_setW, xE_new, xsz_new, xsl_new, tb, fb, tbN, fbN, q4, xsub]; done) | (simp [-List.getD_eq_getElem?_getD, xE_setI, xsz_setI, xsl_setI, xtag_setI, xown_setI, xlen_setI, xE_setR, xsz_setR, xsl_setR, xtag_setR, xown_setR, xlen_setR, xE_setW, xsz_setW, xsl_setW, xtag_setW, xown_setW, xlen_setW, xi_setR, xi_setW, xr_setI, xr_setW, xww_setI, xww_setR, xi_setI, xr_setR, xww_setW, xE_new, xsz_new, xsl_new, tb, fb, tbN, fbN, q4] <;> rfl)) (by simp [-List.getD_eq_getElem?_getD, xE_setI, xsz_setI, xsl_setI, xtag_setI, xown_setI, xlen_setI, xE_setR, xsz_setR, xsl_setR, xtag_setR, xown_setR, xlen_setR, xE_setW, xsz_setW, xsl_setW, xtag_setW, xown_setW, xlen_setW, xi_setR, xi_setW, xr_setI, xr_setW, xww_setI, xww_setR, xi_setI, xr_setR, xww_setW, xE_new, xsz_new, xsl_new, tb, fb, tbN, fbN, q4]) ?_
  refine xw_callV (pc := 66) (xr_V (as := []) ok_J2_size rfl (by decide) q701 q702 q703 (by first | (rw [hL.1]; rfl) | (rw [hLN.1]; rfl)) (by first | (rw [hL.1]; rfl) | (rw [hLN.1]; rfl)) dX1_adds_66 rfl rfl (Nat.le_of_ble_eq_true rfl)) ((show XM M_J2_size (d + 19) [.ref tl] (xNew g1 (xBlank 8 5 1) 1) (xOne (some (.int (nI (ts ++ us).length))) (xNew g1 (xBlank 8 5 1) 1)) from SP_J2_size hLN)) ?_
  refine xw_iconst (v := nI 4) (pc := 69) dX1_adds_69 rfl ?_
  refine xw_icmp_le (pc := 70) 77 dX1_adds_70 rfl (fun hb70 => ?_) (fun hb70 => ?_)
  rotate_left
  · exfalso
    replace hb70 : ¬ ((ts ++ us).length ≤ 4) := mt (nI_leI (a := (ts ++ us).length) (b := 4) (by omega) (by omega)).mpr hb70
    omega
  replace hb70 : (ts ++ us).length ≤ 4 := (nI_leI (a := (ts ++ us).length) (b := 4) (by omega) (by omega)).mp hb70
  refine xw_iconst (v := nI 0) (pc := 77) dX1_adds_77 rfl ?_
  refine xw_bipush (v := nI 6) (pc := 78) dX1_adds_78 (by decide +kernel) ?_
  refine xw_iconst (v := nI 0) (pc := 80) dX1_adds_80 rfl ?_
  refine xw_callF (pc := 81) (xr_V (as := [_, _, _]) ok_X10_asks rfl (by decide) q1447 q1284 q1285 (by first | (rw [xWy_new.1]; rfl) | (rw [hc81.1.1]; rfl)) (by first | (rw [xWy_new.1]; rfl) | (rw [hc81.1.1]; rfl)) dX1_adds_81 rfl rfl (Nat.le_of_ble_eq_true rfl)) (SP_X10_asks (b := false) (re := 6) (c := 0) xWy_new (by first | rfl | exact nI1 | exact nI0) (by decide)) ?_
  intro g81 hc81 hm81
  refine xw_iload (pc := 84) dX1_adds_84 0 rfl ?_
  refine xw_iconst (v := -1) (pc := 86) dX1_adds_86 (by decide +kernel) ?_
  refine xw_icmp_eq (pc := 87) 94 dX1_adds_87 rfl (fun hb87 => ?_) (fun hb87 => ?_)
  rotate_left
  · exfalso
    exact hb87 heq
  refine xw_iconst (v := nI 0) (pc := 94) dX1_adds_94 rfl ?_
  refine xw_bipush (v := nI 7) (pc := 95) dX1_adds_95 (by decide +kernel) ?_
  refine xw_iload (pc := 97) dX1_adds_97 0 rfl ?_
  refine xw_callF (pc := 99) (xr_V (as := [_, _, _]) ok_X10_asks rfl (by decide) q1447 q1284 q1285 (by first | (rw [xWy_new.1]; rfl) | (rw [hc81.1.1]; rfl)) (by first | (rw [xWy_new.1]; rfl) | (rw [hc81.1.1]; rfl)) dX1_adds_99 rfl rfl (Nat.le_of_ble_eq_true rfl)) (SP_X10_asks (b := false) (re := 7) (c := 0) hc81.1 (by first | rfl | exact nI1 | exact nI0) (by decide)) ?_
  intro g99 hc99 hm99
  refine xw_astore (l' := [(5, _), (4, _), (6, _), (3, _), (0, _), (1, _), (2, _)]) (pc := 102) dX1_adds_102 (by decide) rfl ?_
  have F99 := (hc81.2.tr hc99.2).sub (m := 6) (fun _ h => h) (by omega)
  have FF : xFr (fun c => c = o ∨ c = 5) 15500 g g99 := (FN.tr (F99.sub (m := 6) (fun c h1 => Or.inr h1) (Nat.le_refl _))).sub (fun _ h => h) (by omega)
  have hw9 : xWy g99 (xsz g1) (adW g (ts ++ us)) := hc99.1.congr (by
    unfold wAsk adW
    rw [if_neg hsm, if_pos heq]; simp)
  have hL9 := (hLN.fr F99 (by unfold oEq; omega))
  have hl9 : xlen g arr ≤ xlen g99 ar1 := by
    have e9 : ar1 < xsz g1 := xlt (by rw [hL.2.2.2.2.1]; decide)
    rw [F99.len (FN1.lt e9), FN1.len e9]; exact hl
  have h0 : (adW g (ts ++ us)).1 = 0 := by unfold adW; rw [if_neg (by omega), if_pos heq]
  have hn9 : xr g99 (xsz g1) 0 = none := by
    rcases hw9.2.2.2 with z | z
    · exact z.2
    · exact absurd h0 z.1
  refine xw_aload (pc := 104) dX1_adds_104 0 rfl ?_
  refine xw_callV (pc := 106) (xr_V (as := []) ok_X10_isNone rfl (by decide) q1306 q1307 q1308 (by rw [hw9.1]; rfl) (by rw [hw9.1]; rfl) dX1_adds_106 rfl rfl (Nat.le_of_ble_eq_true rfl)) (SP_X10_isNone_T hw9.1 hn9) ?_
  refine xw_if_ne (pc := 109) 143 dX1_adds_109 rfl (fun _ => ?_) (fun hb => absurd hb (by decide))
  refine xw_aload (pc := 143) dX1_adds_143 0 rfl ?_
  refine xw_aret (pc := 145) (.object "PolicyNotation$Whys") dX1_adds_145 rfl ?_
  exact ⟨_, rfl, hw9, ⟨ar1, by rw [if_pos h0]; exact hL9, hl9⟩, FF.sub (fun _ h => h) (by omega)⟩
theorem me_X1_adds_C {d : Nat} {g : xG} {x b o tl arr ua : Nat} {ts us : List Nat} (H : xAd15 g b o tl arr ua ts us) {g1 : xG} {ar1 N : Nat} (hL : xAL g1 o tl ar1 (ts ++ us)) (hl : xlen g arr ≤ xlen g1 ar1) (F : xFr (oEq o) N g g1) (hN : N ≤ 15000) (hsm : ¬ 4 < (ts ++ us).length) (hne : impK g (ts ++ us) ≠ -1) (q5n : xown g b ≠ 5) : XW M_X1_adds (d + 20) 49 [(6, .int (nI us.length)), (5, .int (nI us.length)), (4, .ref ua), (3, .int (nI ts.length)), (0, .ref x), (1, .ref b), (2, .ref ua)] [] g1 (xAns (fun wq g' => xWy g' wq (adW g (ts ++ us)) ∧ (∃ arr', xAL g' o tl arr' (if (adW g (ts ++ us)).1 = 0 then ts ++ us else ts) ∧ xlen g arr ≤ xlen g' arr') ∧ xFr (fun c => c = o ∨ c = 5) 16000 g g')) := by
  obtain ⟨q1, q2, q3, q4, q5, ⟨q6, q7⟩, ⟨q8, q9, q10, q11⟩, q12, q13⟩ := H
  have hlb : b < xsz g := xlt (by omega)
  have hlu : ua < xsz g := xlt (by rw [q8]; decide)
  have nob : ¬ oEq o (xown g b) := q3
  have nou : ¬ oEq o (xown g ua) := q9
  have tb : xsub 90 (xtag g1 b) = true := by rw [F.tag hlb]; exact xsub_R q1
  have fb : xr g1 b 6 = some tl := (F.r' hlb nob).trans q2
  have tu : xtag g1 ua = 109 := (F.tag hlu).trans q8
  have lu : xlen g1 ua = us.length := (F.len hlu).trans q10
  have elu : ∀ i, i < us.length → xr g1 ua i = some (us.getD i 0) := fun i hi => (F.r' hlu nou).trans (q11 i hi)
  have hT1 : xTs g1 (ts ++ us) := fun j hj => by rw [F.tag (xlt (by have := (q6 j hj).1; omega))]; exact q6 j hj
  have q1b : xtag g1 b = 6 ∨ xtag g1 b = 7 := by rw [F.tag hlb]; exact q1
  have eI : impK g1 (ts ++ us) = impK g (ts ++ us) := impK_fr q6 q7 F (by unfold oEq; omega)
  have lla : (ts ++ us).length = ts.length + us.length := List.length_append
  have FN : xFr (fun c => c = o ∨ c = 5) (N + (1 + 1)) g (xNew g1 (xBlank 8 5 1) 1) := (F.sub (m := N) (fun c h1 => Or.inl h1) (Nat.le_refl _)).nw
  have FN1 : xFr oNo (0 + (1 + 1)) g1 (xNew g1 (xBlank 8 5 1) 1) := (xFr.rf (n := 0)).nw
  have hLN := hL.fr FN1 (fun z => z)
  have tbN : xsub 90 (xtag (xNew g1 (xBlank 8 5 1) 1) b) = true := by rw [FN1.tag (F.lt hlb)]; exact tb
  have fbN : xr (xNew g1 (xBlank 8 5 1) 1) b 6 = some tl := (FN1.r' (F.lt hlb) (fun z => z)).trans fb
  refine xw_aload_n (pc := 49) dX1_adds_49 5 rfl ?_
  skip
  refine xw_callV (pc := 50) (xr_rimpossible q1b dX1_adds_50 q1422 (Nat.le_of_ble_eq_true rfl)) ((eI ▸ SP_X7_impossible (d := d + 14) q1b fb hL hT1 : XM M_X7_impossible (d + 19) [.ref b] g1 (xOne (some (.int (impK g (ts ++ us)))) g1))) ?_
  refine xw_istore (l' := [(4, _), (6, _), (5, _), (3, _), (0, _), (1, _), (2, _)]) (pc := 53) dX1_adds_53 (by decide) rfl ?_
  refine xw_new (t := 8) (pc := 55) 5 dX1_adds_55 rfl (by decide) (by first | decide | assumption | omega) q1268 q1269 q127 ?_
  refine xw_at (a := (xsz g1)) (by rfl) ?_
  refine xw_dup (pc := 58) dX1_adds_58 rfl ?_
  refine xw_callU (pc := 59) (xr_IN (as := []) ok_X10_init rfl (by decide) q1270 q1271 rfl rfl dX1_adds_59 rfl rfl (Nat.le_of_ble_eq_true rfl)) (SP_X10_init) ?_
  refine xw_aload_n (pc := 62) dX1_adds_62 5 rfl ?_
  refine xw_getS (b := tl) (pc := 63) fd_X1_262 dX1_adds_63 (by first | assumption | (simp [-List.getD_eq_getElem?_getD, xE_setI, xsz_setI, xsl_setI, xtag_setI, xown_setI, xlen_setI, xE_setR, xsz_setR, xsl_setR, xtag_setR, xown_setR, xlen_setR, xE_setW, xsz_setW, xsl_setW, xtag_setW, xown_setW, xlen_setW, xi_setR, xi_setW, xr_setI, xr_setW, xww_setI, xww_setR, xi_setI, xr_setR, xww_setW, xE_new, xsz_new, xsl_new, tb, fb, tbN, fbN, q4, xsub]; done) | (simp [-List.getD_eq_getElem?_getD, xE_setI, xsz_setI, xsl_setI, xtag_setI, xown_setI, xlen_setI, xE_setR, xsz_setR, xsl_setR, xtag_setR, xown_setR, xlen_setR, xE_setW, xsz_setW, xsl_setW, xtag_setW, xown_setW, xlen_setW, xi_setR, xi_setW, xr_setI, xr_setW, xww_setI, xww_setR, xi_setI, xr_setR, xww_setW, xE_new, xsz_new, xsl_new, tb, fb, tbN, fbN, q4] <;> rfl)) (by simp [-List.getD_eq_getElem?_getD, xE_setI, xsz_setI, xsl_setI, xtag_setI, xown_setI, xlen_setI, xE_setR, xsz_setR, xsl_setR, xtag_setR, xown_setR, xlen_setR, xE_setW, xsz_setW, xsl_setW, xtag_setW, xown_setW, xlen_setW, xi_setR, xi_setW, xr_setI, xr_setW, xww_setI, xww_setR, xi_setI, xr_setR, xww_setW, xE_new, xsz_new, xsl_new, tb, fb, tbN, fbN, q4]) ?_
  refine xw_callV (pc := 66) (xr_V (as := []) ok_J2_size rfl (by decide) q701 q702 q703 (by first | (rw [hL.1]; rfl) | (rw [hLN.1]; rfl)) (by first | (rw [hL.1]; rfl) | (rw [hLN.1]; rfl)) dX1_adds_66 rfl rfl (Nat.le_of_ble_eq_true rfl)) ((show XM M_J2_size (d + 19) [.ref tl] (xNew g1 (xBlank 8 5 1) 1) (xOne (some (.int (nI (ts ++ us).length))) (xNew g1 (xBlank 8 5 1) 1)) from SP_J2_size hLN)) ?_
  refine xw_iconst (v := nI 4) (pc := 69) dX1_adds_69 rfl ?_
  refine xw_icmp_le (pc := 70) 77 dX1_adds_70 rfl (fun hb70 => ?_) (fun hb70 => ?_)
  rotate_left
  · exfalso
    replace hb70 : ¬ ((ts ++ us).length ≤ 4) := mt (nI_leI (a := (ts ++ us).length) (b := 4) (by omega) (by omega)).mpr hb70
    omega
  replace hb70 : (ts ++ us).length ≤ 4 := (nI_leI (a := (ts ++ us).length) (b := 4) (by omega) (by omega)).mp hb70
  refine xw_iconst (v := nI 0) (pc := 77) dX1_adds_77 rfl ?_
  refine xw_bipush (v := nI 6) (pc := 78) dX1_adds_78 (by decide +kernel) ?_
  refine xw_iconst (v := nI 0) (pc := 80) dX1_adds_80 rfl ?_
  refine xw_callF (pc := 81) (xr_V (as := [_, _, _]) ok_X10_asks rfl (by decide) q1447 q1284 q1285 (by first | (rw [xWy_new.1]; rfl) | (rw [hc81.1.1]; rfl)) (by first | (rw [xWy_new.1]; rfl) | (rw [hc81.1.1]; rfl)) dX1_adds_81 rfl rfl (Nat.le_of_ble_eq_true rfl)) (SP_X10_asks (b := false) (re := 6) (c := 0) xWy_new (by first | rfl | exact nI1 | exact nI0) (by decide)) ?_
  intro g81 hc81 hm81
  refine xw_iload (pc := 84) dX1_adds_84 0 rfl ?_
  refine xw_iconst (v := -1) (pc := 86) dX1_adds_86 (by decide +kernel) ?_
  refine xw_icmp_eq (pc := 87) 94 dX1_adds_87 rfl (fun hb87 => ?_) (fun hb87 => ?_)
  · exfalso
    exact hne hb87
  refine xw_iconst (v := nI 1) (pc := 90) dX1_adds_90 rfl ?_
  refine xw_goto (pc := 91) 95 dX1_adds_91 rfl ?_
  refine xw_bipush (v := nI 7) (pc := 95) dX1_adds_95 (by decide +kernel) ?_
  refine xw_iload (pc := 97) dX1_adds_97 0 rfl ?_
  refine xw_callF (pc := 99) (xr_V (as := [_, _, _]) ok_X10_asks rfl (by decide) q1447 q1284 q1285 (by first | (rw [xWy_new.1]; rfl) | (rw [hc81.1.1]; rfl)) (by first | (rw [xWy_new.1]; rfl) | (rw [hc81.1.1]; rfl)) dX1_adds_99 rfl rfl (Nat.le_of_ble_eq_true rfl)) (SP_X10_asks (b := true) (re := 7) (c := 1) hc81.1 (by first | rfl | exact nI1 | exact nI0) (by decide)) ?_
  intro g99 hc99 hm99
  refine xw_astore (l' := [(5, _), (4, _), (6, _), (3, _), (0, _), (1, _), (2, _)]) (pc := 102) dX1_adds_102 (by decide) rfl ?_
  have F99 := (hc81.2.tr hc99.2).sub (m := 6) (fun _ h => h) (by omega)
  have FF : xFr (fun c => c = o ∨ c = 5) 15500 g g99 := (FN.tr (F99.sub (m := 6) (fun c h1 => Or.inr h1) (Nat.le_refl _))).sub (fun _ h => h) (by omega)
  have hw9 : xWy g99 (xsz g1) (adW g (ts ++ us)) := hc99.1.congr (by
    unfold wAsk adW
    rw [if_neg hsm, if_neg hne]; simp)
  have hL9 := (hLN.fr F99 (by unfold oEq; omega))
  have hl9 : xlen g arr ≤ xlen g99 ar1 := by
    have e9 : ar1 < xsz g1 := xlt (by rw [hL.2.2.2.2.1]; decide)
    rw [F99.len (FN1.lt e9), FN1.len e9]; exact hl
  have h0 : (adW g (ts ++ us)).1 ≠ 0 := by unfold adW; rw [if_neg hsm, if_neg hne]; show (7 : Nat) ≠ 0; decide
  have tb9 : xtag g99 b = xtag g b := (FN.tr (F99.sub (m := 6) (fun c h1 => Or.inr h1) (Nat.le_refl _))).tag hlb
  have fb9 : xr g99 b 6 = some tl := (F99.r' (FN1.lt (F.lt hlb)) (by rw [FN1.own (F.lt hlb), F.own hlb]; exact q5n)).trans fbN
  have ob9 : xown g99 b ≠ o := by rw [(FN.tr (F99.sub (m := 6) (fun c h1 => Or.inr h1) (Nat.le_refl _))).own hlb]; exact q3
  have hT9 : xTs g99 (ts ++ us) := fun j hj => by rw [FF.tag (xlt (by have := (q6 j hj).1; omega))]; exact q6 j hj
  have L2 := lq2_X1_adds (d := d) (x := x) (ua := ua) (a1 := impK g (ts ++ us)) (a2 := nI us.length) (by rw [tb9]; exact q1) fb9 ob9 q4 hL9 hT9 q12 q13 hw9 h0 us.length g99 (Nat.le_refl _) (by rw [List.take_length]; exact hL9) xFr.rf
  exact L2.mono (fun rs g' hp _ => by
    obtain ⟨rfl, p1, p2, p3⟩ := hp
    exact ⟨_, rfl, p1, ⟨ar1, by rw [if_neg h0]; exact p2, by rw [p3.len (xlt (by rw [hL9.2.2.2.2.1]; decide))]; exact hl9⟩, (FF.tr (p3.sub (m := 0) (fun c h1 => Or.inl h1) (Nat.le_refl _))).sub (fun _ h => h) (by omega)⟩)
theorem SP_X1_adds15 {d : Nat} {g : xG} {x b o tl arr ua : Nat} {ts us : List Nat} (H : xAd15 g b o tl arr ua ts us) (q5n : xown g b ≠ 5) : XM M_X1_adds (d + 20) [.ref x, .ref b, .ref ua] g (xAns (fun wq g' => xWy g' wq (adW g (ts ++ us)) ∧ (∃ arr', xAL g' o tl arr' (if (adW g (ts ++ us)).1 = 0 then ts ++ us else ts) ∧ xlen g arr ≤ xlen g' arr') ∧ xFr (fun c => c = o ∨ c = 5) 16000 g g')) := by
  have H0 := H
  obtain ⟨q1, q2, q3, q4, q5, ⟨q6, q7⟩, ⟨q8, q9, q10, q11⟩, q12, q13⟩ := H
  have hlb : b < xsz g := xlt (by omega)
  refine xm_of (by decide +kernel) (Nat.le_of_ble_eq_true rfl) ?_
  show XW _ _ 0 [(0, _), (1, _), (2, _)] [] _ _
  have tb : xsub 90 (xtag g b) = true := xsub_R q1
  refine xw_aload_n (pc := 0) dX1_adds_0 1 rfl ?_
  refine xw_getS (b := tl) (pc := 1) fd_X1_262 dX1_adds_1 (by first | assumption | (simp [-List.getD_eq_getElem?_getD, xE_setI, xsz_setI, xsl_setI, xtag_setI, xown_setI, xlen_setI, xE_setR, xsz_setR, xsl_setR, xtag_setR, xown_setR, xlen_setR, xE_setW, xsz_setW, xsl_setW, xtag_setW, xown_setW, xlen_setW, xi_setR, xi_setW, xr_setI, xr_setW, xww_setI, xww_setR, xi_setI, xr_setR, xww_setW, xE_new, xsz_new, xsl_new, q2, tb, q8, q10, xsub]; done) | (simp [-List.getD_eq_getElem?_getD, xE_setI, xsz_setI, xsl_setI, xtag_setI, xown_setI, xlen_setI, xE_setR, xsz_setR, xsl_setR, xtag_setR, xown_setR, xlen_setR, xE_setW, xsz_setW, xsl_setW, xtag_setW, xown_setW, xlen_setW, xi_setR, xi_setW, xr_setI, xr_setW, xww_setI, xww_setR, xi_setI, xr_setR, xww_setW, xE_new, xsz_new, xsl_new, q2, tb, q8, q10] <;> rfl)) (by simp [-List.getD_eq_getElem?_getD, xE_setI, xsz_setI, xsl_setI, xtag_setI, xown_setI, xlen_setI, xE_setR, xsz_setR, xsl_setR, xtag_setR, xown_setR, xlen_setR, xE_setW, xsz_setW, xsl_setW, xtag_setW, xown_setW, xlen_setW, xi_setR, xi_setW, xr_setI, xr_setW, xww_setI, xww_setR, xi_setI, xr_setR, xww_setW, xE_new, xsz_new, xsl_new, q2, tb, q8, q10]) ?_
  refine xw_callV (pc := 4) (xr_V (as := []) ok_J2_size rfl (by decide) q701 q702 q703 (by rw [q5.1]; rfl) (by rw [q5.1]; rfl) dX1_adds_4 rfl rfl (Nat.le_of_ble_eq_true rfl)) (SP_J2_size q5) ?_
  refine xw_istore_n (l' := [(3, _), (0, _), (1, _), (2, _)]) (pc := 7) dX1_adds_7 rfl (by decide) rfl ?_
  refine xw_aload_n (pc := 8) dX1_adds_8 3 rfl ?_
  refine xw_astore (l' := [(4, _), (3, _), (0, _), (1, _), (2, _)]) (pc := 9) dX1_adds_9 (by decide) rfl ?_
  refine xw_aload (pc := 11) dX1_adds_11 0 rfl ?_
  refine xw_alen (q := 8) (pc := 13) dX1_adds_13 (by simp [-List.getD_eq_getElem?_getD, xE_setI, xsz_setI, xsl_setI, xtag_setI, xown_setI, xlen_setI, xE_setR, xsz_setR, xsl_setR, xtag_setR, xown_setR, xlen_setR, xE_setW, xsz_setW, xsl_setW, xtag_setW, xown_setW, xlen_setW, xi_setR, xi_setW, xr_setI, xr_setW, xww_setI, xww_setR, xi_setI, xr_setR, xww_setW, xE_new, xsz_new, xsl_new, q2, tb, q8, q10]) (by decide) ?_
  rw [show xlen _ ua = us.length from by simp [-List.getD_eq_getElem?_getD, xE_setI, xsz_setI, xsl_setI, xtag_setI, xown_setI, xlen_setI, xE_setR, xsz_setR, xsl_setR, xtag_setR, xown_setR, xlen_setR, xE_setW, xsz_setW, xsl_setW, xtag_setW, xown_setW, xlen_setW, xi_setR, xi_setW, xr_setI, xr_setW, xww_setI, xww_setR, xi_setI, xr_setR, xww_setW, xE_new, xsz_new, xsl_new, q2, tb, q8, q10]]
  refine xw_istore (l' := [(5, _), (4, _), (3, _), (0, _), (1, _), (2, _)]) (pc := 14) dX1_adds_14 (by decide) rfl ?_
  refine xw_iconst (v := nI 0) (pc := 16) dX1_adds_16 rfl ?_
  refine xw_istore (l' := [(6, _), (5, _), (4, _), (3, _), (0, _), (1, _), (2, _)]) (pc := 17) dX1_adds_17 (by decide) rfl ?_
  refine lq1_X1_adds (d := d) (x := x) H0 (fun g1 ar1 N hL hl F hN => ?_) (us.length + 1) 0 g arr 0 (by omega) (by omega) (by rw [List.take_zero, List.append_nil]; exact q5) (Nat.le_refl _) xFr.rf (by omega)
  by_cases hbig : 4 < (ts ++ us).length
  · exact me_X1_adds_A H0 hL hl F hN hbig q5n
  · by_cases heq : impK g (ts ++ us) = -1
    · exact me_X1_adds_B H0 hL hl F hN hbig heq
    · exact me_X1_adds_C H0 hL hl F hN hbig heq q5n
