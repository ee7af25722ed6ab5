/-! MODEL 22: the reference reads, whole -/
set_option maxRecDepth 100000
theorem rdS_st {S : xMS} : mset (mset (mset S 0 23 (nI 0)) 0 24 (nI 0)) 0 11 (nI 0) = rdS (mset S 0 11 (nI 0)) false 0 := by
  funext a j
  unfold rdS mset
  by_cases ha : a = 0
  · subst ha
    by_cases h1 : j = 11
    · subst h1; simp
    · by_cases h2 : j = 23
      · subst h2; simp
      · by_cases h3 : j = 24
        · subst h3; simp [nI0]
        · simp [h1, h2, h3]
  · simp [ha]
/-- what's kept while reading -/
def mKp (S T : xMS) : Prop := (∀ a, a ≠ 0 → a ≠ 5 → T a = S a) ∧ ∀ j, j ≠ 11 → j ≠ 22 → (j < 23 ∨ j = 25 ∨ 31 < j) → T 0 j = S 0 j
/-- read in vain -/
def mRE (S T : xMS) (x : Nat) : Prop := (∀ a, a ≠ 0 → a ≠ 5 → T a = S a) ∧ (∀ j, j ≠ 6 → j ≠ 11 → j ≠ 22 → (j < 23 ∨ 31 < j) → T 0 j = S 0 j) ∧ T 0 6 = nI 1 ∧ T 0 22 = nI 0 ∧ T 0 25 = nI x
/-- read -/
def mRT (S T : xMS) (D : xDf) : Prop := mKp S T ∧ T 0 22 = nI 0 ∧ match D with
  | (e, o, s, L, f, l, k) => T 0 26 = effV e ∧ T 0 27 = ofV o ∧ T 0 28 = nI s ∧ T 0 29 = nI f ∧ T 0 30 = nI l ∧ T 0 31 = nI k ∧ mTs T L
def xRead (g : xG) (m : Nat) (S : xMS) (n rr p : Nat) (X : Except Nat xDf) (rs : Option Value ⊕ Nat) (g' : xG) : Prop := match X with
  | .ok D => ∃ T, mRT S T D ∧ rs = .inl (some (.int (opRd T n rr p D).1)) ∧ g' = xWith g m (opRd T n rr p D).2
  | .error x => rs = .inl (some (.int (nI 0))) ∧ ∃ T, mRE S T x ∧ g' = xWith g m T
theorem rd_73 {S0 : xMS} {d : Nat} {g : xG} {m : Nat} {S : xMS} (hM : xMod g m) (n rr p : Nat) (n0 : 0 < n) (hn : n ≤ 10) (hr : rr ≤ 16) (hp : p ≤ 8) (h0 : S 1 0 = nI n) (h1 : S 1 1 = nI rr) (hpm : S 0 5 = nI p) (hW : WFo (S 1) n) (hWp : WFp (S 1) rr) (hWs : WFsc (S 1) n rr) {D : xDf} (hd : dOK D) (hRT : mRT S0 S D) : XW M_X6_read (d + 6) 73 [(0, .ref m)] [] (xWith g m S) (xOne (some (.int (opRd S n rr p D).1)) (xWith g m (opRd S n rr p D).2)) := by
  obtain ⟨e, o, s, T, f, l, k⟩ := D
  obtain ⟨hK, h22, h26, h27, h28, h29, h30, h31, h5, hTs⟩ := hRT
  obtain ⟨heo, hs, hf, hl, hk, hT, hTok⟩ := hd
  have hWm : WFmo S T.length := fun j hj => by
    have h1 := (hTs j hj).2.1
    have h2 := (hTok j hj).2.1
    refine ⟨?_, ?_⟩
    · unfold aN
      rw [h1, nI_clamp (by omega)]
    · unfold aN
      rw [h1, nI_clamp (by omega)]
      exact h2
  have A0 : s < 1000 := by omega
  have A1 : T.length ≤ 60 := by omega
  rcases heo with ⟨i, he, hi, rfl⟩ | ⟨he, v, rfl, hv⟩
  · by_cases hlt : s < n
    · by_cases hh : (hindD (S 1) rr none s f l).1 = 0
      · by_cases ht : (hindT (FA0 S T.length) T.length).1 = 0
        · exact rd_O_n hM n rr p n0 hn hr hp h0 h1 hpm hW hWp hWs A0 A1 hWm h26 h28 h29 h30 h31 h5 h27 hlt hh ht
        · exact rd_T_n hM n rr p n0 hn hr hp h0 h1 hpm hW hWp hWs A0 A1 hWm h26 h28 h29 h30 h31 h5 h27 hlt hh ht
      · exact rd_H_n hM n rr p n0 hn hr hp h0 h1 hpm hW hWp hWs A0 A1 hWm h26 h28 h29 h30 h31 h5 h27 hlt hh
    · exact rd_S_n hM n rr p n0 hn hr hp h0 h1 hpm hW hWp hWs A0 A1 hWm h26 h28 h29 h30 h31 h5 h27 hlt
  · by_cases hq : v < rr
    · by_cases hlt : s < n
      · by_cases hh : (hindD (S 1) rr (some v) s f l).1 = 0
        · by_cases ht : (hindT (FA0 S T.length) T.length).1 = 0
          · exact rd_O_q hM n rr p n0 hn hr hp h0 h1 hpm hW hWp hWs A0 A1 hWm h26 h28 h29 h30 h31 h5 hv h27 hq hlt hh ht
          · exact rd_T_q hM n rr p n0 hn hr hp h0 h1 hpm hW hWp hWs A0 A1 hWm h26 h28 h29 h30 h31 h5 hv h27 hq hlt hh ht
        · exact rd_H_q hM n rr p n0 hn hr hp h0 h1 hpm hW hWp hWs A0 A1 hWm h26 h28 h29 h30 h31 h5 hv h27 hq hlt hh
      · exact rd_S_q hM n rr p n0 hn hr hp h0 h1 hpm hW hWp hWs A0 A1 hWm h26 h28 h29 h30 h31 h5 hv h27 hq hlt
    · exact rd_P_q hM n rr p n0 hn hr hp h0 h1 hpm hW hWp hWs A0 A1 hWm h26 h28 h29 h30 h31 h5 hv h27 hq

theorem rx_w {d : Nat} {g : xG} {m : Nat} {S : xMS} (hM : xMod g m) {S1 : xMS} (hA : mAl (mset S 0 11 (nI 0)) S1) {ln : Nat} {q : Nat} (hq : q ≤ ln) {n rr p : Nat} (hln : ln ≤ 60) (h22 : S 0 22 = nI ln) : XW M_X6_read (d + 6) 19 [(0, .ref m)] [] (xWith g m (rdS S1 true q)) (xRead g m S n rr p (.error q)) := by
  refine xw_aload_n (pc := 19) dX6_read_19 0 rfl ?_
  refine xw_aload_n (pc := 20) dX6_read_20 0 rfl ?_
  refine xm_getB (b := true) (pc := 21) hM fd_X6_255 dX6_read_21 (by rfl) ?_
  refine xw_if_ne (pc := 24) 38 dX6_read_24 rfl (fun _ => ?_) (fun hb => absurd hb (by decide))
  refine xw_iconst (v := nI 1) (pc := 38) dX6_read_38 rfl ?_
  refine xw_goto (pc := 39) 43 dX6_read_39 rfl ?_
  refine xm_putI (pc := 43) hM fd_X6_255 (xfin_of (by decide) (by decide +kernel)) dX6_read_43 ?_
  refine xw_aload_n (pc := 46) dX6_read_46 0 rfl ?_
  refine xw_iconst (v := nI 0) (pc := 47) dX6_read_47 rfl ?_
  refine xm_putI (pc := 48) hM fd_X6_252 (xfin_of (by decide) (by decide +kernel)) dX6_read_48 ?_
  refine xw_aload_n (pc := 51) dX6_read_51 0 rfl ?_
  refine xm_getN (k := 1) (pc := 52) hM fd_X6_255 dX6_read_52 (by first | rfl | (simp [mset, mcpy]; done)) ?_
  refine xw_if_eq (pc := 55) 73 dX6_read_55 rfl (fun hb => absurd hb (by decide)) (fun _ => ?_)
  refine xw_aload_n (pc := 58) dX6_read_58 0 rfl ?_
  refine xw_aload_n (pc := 59) dX6_read_59 0 rfl ?_
  refine xm_getN (k := q) (pc := 60) hM fd_X6_259 dX6_read_60 (by rfl) ?_
  refine xm_putI (pc := 63) hM fd_X6_56 (xfin_of (by decide) (by decide +kernel)) dX6_read_63 ?_
  refine xw_aload_n (pc := 66) dX6_read_66 0 rfl ?_
  refine xw_iconst (v := nI 1) (pc := 67) dX6_read_67 rfl ?_
  refine xm_putI (pc := 68) hM fd_X6_62 (xfin_of (by decide) (by decide +kernel)) dX6_read_68 ?_
  refine xw_iconst (v := nI 0) (pc := 71) dX6_read_71 rfl ?_
  refine xw_iret (pc := 72) .int dX6_read_72 rfl ?_ 
  refine ⟨rfl, _, ⟨fun a h0 h5 => ?_, fun j j6 j11 j22 jb => ?_, rfl, rfl, rfl⟩, rfl⟩
  · simp only [mset_q h0]
    rw [rdS_q h0, hA.1 a h0 h5, mset_q h0]
  · simp only [mset_s]
    rw [if_neg (by omega), if_neg (by omega), if_neg (by omega), if_neg (by omega), rdS_0 (by omega) (by omega), hA.2 j j11 (by omega), mset_s, if_neg (by omega)]
theorem rx_q {d : Nat} {g : xG} {m : Nat} {S : xMS} (hM : xMod g m) {S1 : xMS} (hA : mAl (mset S 0 11 (nI 0)) S1) {ln : Nat} {q : Nat} (hq : q ≤ ln) (hqn : q ≠ ln) {n rr p : Nat} (hln : ln ≤ 60) (h22 : S 0 22 = nI ln) : XW M_X6_read (d + 6) 19 [(0, .ref m)] [] (xWith g m (rdS S1 false q)) (xRead g m S n rr p (.error q)) := by
  refine xw_aload_n (pc := 19) dX6_read_19 0 rfl ?_
  refine xw_aload_n (pc := 20) dX6_read_20 0 rfl ?_
  refine xm_getB (b := false) (pc := 21) hM fd_X6_255 dX6_read_21 (by rfl) ?_
  refine xw_if_ne (pc := 24) 38 dX6_read_24 rfl (fun hb => absurd hb (by decide)) (fun _ => ?_)
  refine xw_aload_n (pc := 27) dX6_read_27 0 rfl ?_
  refine xm_getN (k := q) (pc := 28) hM fd_X6_259 dX6_read_28 (by rfl) ?_
  refine xw_aload_n (pc := 31) dX6_read_31 0 rfl ?_
  refine xm_getN (k := ln) (pc := 32) hM fd_X6_252 dX6_read_32 (by exact hA.l h22) ?_
  refine xw_icmp_ge (pc := 35) 42 dX6_read_35 rfl (fun hb35 => ?_) (fun hb35 => ?_)
  · exfalso
    replace hb35 : ln ≤ q := (nI_leI (a := ln) (b := q) (by omega) (by omega)).mp hb35
    omega
  replace hb35 : ¬ (ln ≤ q) := mt (nI_leI (a := ln) (b := q) (by omega) (by omega)).mpr hb35
  refine xw_iconst (v := nI 1) (pc := 38) dX6_read_38 rfl ?_
  refine xw_goto (pc := 39) 43 dX6_read_39 rfl ?_
  refine xm_putI (pc := 43) hM fd_X6_255 (xfin_of (by decide) (by decide +kernel)) dX6_read_43 ?_
  refine xw_aload_n (pc := 46) dX6_read_46 0 rfl ?_
  refine xw_iconst (v := nI 0) (pc := 47) dX6_read_47 rfl ?_
  refine xm_putI (pc := 48) hM fd_X6_252 (xfin_of (by decide) (by decide +kernel)) dX6_read_48 ?_
  refine xw_aload_n (pc := 51) dX6_read_51 0 rfl ?_
  refine xm_getN (k := 1) (pc := 52) hM fd_X6_255 dX6_read_52 (by first | rfl | (simp [mset, mcpy]; done)) ?_
  refine xw_if_eq (pc := 55) 73 dX6_read_55 rfl (fun hb => absurd hb (by decide)) (fun _ => ?_)
  refine xw_aload_n (pc := 58) dX6_read_58 0 rfl ?_
  refine xw_aload_n (pc := 59) dX6_read_59 0 rfl ?_
  refine xm_getN (k := q) (pc := 60) hM fd_X6_259 dX6_read_60 (by rfl) ?_
  refine xm_putI (pc := 63) hM fd_X6_56 (xfin_of (by decide) (by decide +kernel)) dX6_read_63 ?_
  refine xw_aload_n (pc := 66) dX6_read_66 0 rfl ?_
  refine xw_iconst (v := nI 1) (pc := 67) dX6_read_67 rfl ?_
  refine xm_putI (pc := 68) hM fd_X6_62 (xfin_of (by decide) (by decide +kernel)) dX6_read_68 ?_
  refine xw_iconst (v := nI 0) (pc := 71) dX6_read_71 rfl ?_
  refine xw_iret (pc := 72) .int dX6_read_72 rfl ?_ 
  refine ⟨rfl, _, ⟨fun a h0 h5 => ?_, fun j j6 j11 j22 jb => ?_, rfl, rfl, rfl⟩, rfl⟩
  · simp only [mset_q h0]
    rw [rdS_q h0, hA.1 a h0 h5, mset_q h0]
  · simp only [mset_s]
    rw [if_neg (by omega), if_neg (by omega), if_neg (by omega), if_neg (by omega), rdS_0 (by omega) (by omega), hA.2 j j11 (by omega), mset_s, if_neg (by omega)]
theorem rx_O {d : Nat} {g : xG} {m : Nat} {S : xMS} (hM : xMod g m) {S1 : xMS} (hA : mAl (mset S 0 11 (nI 0)) S1) {ln : Nat} (hln : ln ≤ 60) (h22 : S 0 22 = nI ln) (n rr p : Nat) (n0 : 0 < n) (hn : n ≤ 10) (hr : rr ≤ 16) (hp : p ≤ 8) (h0 : S 1 0 = nI n) (h1 : S 1 1 = nI rr) (hpm : S 0 5 = nI p) (hW : WFo (S 1) n) (hWp : WFp (S 1) rr) (hWs : WFsc (S 1) n rr) {D : xDf} (hd : dOK D) (hD : match D with | (e, o, s, L, f, l, k) => S1 0 26 = effV e ∧ S1 0 27 = ofV o ∧ S1 0 28 = nI s ∧ S1 0 29 = nI f ∧ S1 0 30 = nI l ∧ S1 0 31 = nI k ∧ mTs S1 L) : XW M_X6_read (d + 6) 19 [(0, .ref m)] [] (xWith g m (rdS S1 false ln)) (xRead g m S n rr p (.ok D)) := by
  refine xw_aload_n (pc := 19) dX6_read_19 0 rfl ?_
  refine xw_aload_n (pc := 20) dX6_read_20 0 rfl ?_
  refine xm_getB (b := false) (pc := 21) hM fd_X6_255 dX6_read_21 (by rfl) ?_
  refine xw_if_ne (pc := 24) 38 dX6_read_24 rfl (fun hb => absurd hb (by decide)) (fun _ => ?_)
  refine xw_aload_n (pc := 27) dX6_read_27 0 rfl ?_
  refine xm_getN (k := ln) (pc := 28) hM fd_X6_259 dX6_read_28 (by rfl) ?_
  refine xw_aload_n (pc := 31) dX6_read_31 0 rfl ?_
  refine xm_getN (k := ln) (pc := 32) hM fd_X6_252 dX6_read_32 (by exact hA.l h22) ?_
  refine xw_icmp_ge (pc := 35) 42 dX6_read_35 rfl (fun hb35 => ?_) (fun hb35 => ?_)
  rotate_left
  · exfalso
    replace hb35 : ¬ (ln ≤ ln) := mt (nI_leI (a := ln) (b := ln) (by omega) (by omega)).mpr hb35
    omega
  replace hb35 : ln ≤ ln := (nI_leI (a := ln) (b := ln) (by omega) (by omega)).mp hb35
  refine xw_iconst (v := nI 0) (pc := 42) dX6_read_42 rfl ?_
  refine xm_putI (pc := 43) hM fd_X6_255 (xfin_of (by decide) (by decide +kernel)) dX6_read_43 ?_
  refine xw_aload_n (pc := 46) dX6_read_46 0 rfl ?_
  refine xw_iconst (v := nI 0) (pc := 47) dX6_read_47 rfl ?_
  refine xm_putI (pc := 48) hM fd_X6_252 (xfin_of (by decide) (by decide +kernel)) dX6_read_48 ?_
  refine xw_aload_n (pc := 51) dX6_read_51 0 rfl ?_
  refine xm_getN (k := 0) (pc := 52) hM fd_X6_255 dX6_read_52 (by first | rfl | (simp [mset, mcpy]; done)) ?_
  refine xw_if_eq (pc := 55) 73 dX6_read_55 rfl (fun _ => ?_) (fun hb => absurd hb (by decide))
  have e1 : (mset (mset (rdS S1 false ln) 0 24 (nI 0)) 0 22 (nI 0)) 1 = S 1 := by
    rw [mset_q (by decide), mset_q (by decide), rdS_q (by decide), hA.1 1 (by decide) (by decide), mset_q (by decide)]
  have hRT : mRT S (mset (mset (rdS S1 false ln) 0 24 (nI 0)) 0 22 (nI 0)) D := by
    refine ⟨⟨fun a h0 h5 => ?_, fun j j11 j22 jb => ?_⟩, rfl, ?_⟩
    · simp only [mset_q h0]
      rw [rdS_q h0, hA.1 a h0 h5, mset_q h0]
    · simp only [mset_s]
      rw [if_neg (by omega), if_neg (by omega), rdS_0 (by omega) (by omega), hA.2 j j11 (by omega), mset_s, if_neg (by omega)]
    · obtain ⟨e, o, s, L, f, l, k⟩ := D
      obtain ⟨q1, q2, q3, q4, q5, q6, q7, q8⟩ := hD
      exact ⟨q1, q2, q3, q4, q5, q6, q7, q8⟩
  exact (rd_73 hM n rr p n0 hn hr hp (by rw [e1]; exact h0) (by rw [e1]; exact h1) ((hRT.1.2 5 (by decide) (by decide) (by decide)).trans hpm) (by rw [e1]; exact hW) (by rw [e1]; exact hWp) (by rw [e1]; exact hWs) hd hRT).mono (fun rs g9 h9 _ => ⟨_, hRT, h9.1, h9.2⟩)
theorem SP_X6_read {d : Nat} {g : xG} {m : Nat} {S : xMS} (hM : xMod g m) (hSC : xSC g) {ln : Nat} {ch : Nat → Nat} (h22 : S 0 22 = nI ln) (hln : ln ≤ 60) (hch : ∀ j, j < ln → S 12 j = nI (ch j) ∧ ch j < 65536) (n rr p : Nat) (n0 : 0 < n) (hn : n ≤ 10) (hr : rr ≤ 16) (hp : p ≤ 8) (h0 : S 1 0 = nI n) (h1 : S 1 1 = nI rr) (hpm : S 0 5 = nI p) (hW : WFo (S 1) n) (hWp : WFp (S 1) rr) (hWs : WFsc (S 1) n rr) : XM M_X6_read (d + 7) [.ref m] (xWith g m S) (xRead g m S n rr p (rAll ln ch)) := by
  refine xm_of (by decide +kernel) (Nat.le_of_ble_eq_true rfl) ?_
  show XW _ _ 0 [(0, _)] [] _ _
  refine xw_aload_n (pc := 0) dX6_read_0 0 rfl ?_
  refine xw_iconst (v := nI 0) (pc := 1) dX6_read_1 rfl ?_
  refine xm_putI (pc := 2) hM fd_X6_259 (xfin_of (by decide) (by decide +kernel)) dX6_read_2 ?_
  refine xw_aload_n (pc := 5) dX6_read_5 0 rfl ?_
  refine xw_iconst (v := nI 0) (pc := 6) dX6_read_6 rfl ?_
  refine xm_putI (pc := 7) hM fd_X6_255 (xfin_of (by decide) (by decide +kernel)) dX6_read_7 ?_
  refine xw_aload_n (pc := 10) dX6_read_10 0 rfl ?_
  refine xw_iconst (v := nI 0) (pc := 11) dX6_read_11 rfl ?_
  refine xm_putI (pc := 12) hM fd_X6_145 (xfin_of (by decide) (by decide +kernel)) dX6_read_12 ?_
  rw [rdS_st]
  refine xw_aload_n (pc := 15) dX6_read_15 0 rfl ?_
  refine xw_callH (pc := 16) (xr_V (as := []) ok_X6_readRule rfl (by decide) q2676 q2678 qs82 (by rw [xtag_with, hM.1]; rfl) (by rw [xtag_with, hM.1]; rfl) dX6_read_16 rfl rfl (Nat.le_of_ble_eq_true rfl)) ((SP_X6_readRule (d := d) (S := mset S 0 11 (nI 0)) hM hSC h22 hln (fun j hj => by rw [mset_q (by decide)]; exact hch j hj) rfl).mono (fun rs g9 h9 _ => (show xVoid (fun g9 => ∃ S1 w q, g9 = xWith g m (rdS S1 w q) ∧ mAl (mset S 0 11 (nI 0)) S1 ∧ q ≤ ln ∧ match rAll ln ch with | .ok (e, o, s, T, f, l, k) => w = false ∧ q = ln ∧ S1 0 26 = effV e ∧ S1 0 27 = ofV o ∧ S1 0 28 = nI s ∧ S1 0 29 = nI f ∧ S1 0 30 = nI l ∧ S1 0 31 = nI k ∧ mTs S1 T | .error x => (w = true ∨ q ≠ ln) ∧ q = x) rs g9 from h9))) ?_
  intro g16 hc16 hm16
  obtain ⟨S1, w, q, rfl, hA, hq, hX⟩ := hc16
  cases hr9 : rAll ln ch with
  | error x =>
    rw [hr9] at hX
    obtain ⟨hwq, rfl⟩ := hX
    cases w with
    | true => exact rx_w hM hA hq hln h22
    | false => exact rx_q hM hA hq (hwq.resolve_left (by decide)) hln h22
  | ok D =>
    rw [hr9] at hX
    obtain ⟨e, o, s, T, f, l, k⟩ := D
    obtain ⟨rfl, rfl, hD⟩ := hX
    exact rx_O hM hA hln h22 n rr p n0 hn hr hp h0 h1 hpm hW hWp hWs (rAll_ok hln hr9) hD

