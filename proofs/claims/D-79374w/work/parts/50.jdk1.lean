/-! JDK 1: ArrayList, small -/
set_option maxRecDepth 100000
theorem fd_J2_63 : xFld "java/util/ArrayList" 63 18 0 (.int) := by
  refine ⟨"java/util/ArrayList", "modCount", "I", Or.inl q495, fun t ht => ?_⟩
  have h : t = 18 := by
    unfold xsub at ht
    rw [if_neg (by decide), if_neg (by decide)] at ht
    exact beq_iff_eq.mp ht
  subst h
  exact ⟨RJ2, TJ2, 3, by decide, by decide, rfl, by decide, by decide, rfl, rfl, rfl, Or.inr q496⟩
theorem xw_getNat {M : xM} {d pc : Nat} {l : List (Nat × Value)} {rest : List Value} {g : xG} {Q : Option Value ⊕ Nat → xG → Prop} {idx kk j a k : Nat} {ty : FieldType} (F : xFld M.1.cls idx kk j ty) (hd : decode M.2.1 pc = .ok (.getfield idx, 3)) (ht : xsub kk (xtag g a) = true) (hr : xi g a j = nI k) (k9 : XW M d (pc + 3) l (.int (nI k) :: rest) g Q) (hty : xval ty = (fun c j => .int (c.2.2.2.1 j)) := by rfl) : XW M d pc l (.ref a :: rest) g Q :=
  xw_getI F hd ht (by rw [hr]; exact k9) hty
/-- a list of the objects ls, with elements in arr -/
def xAL (g : xG) (o a arr : Nat) (ls : List Nat) : Prop := xtag g a = 18 ∧ xown g a = o ∧ xr g a 1 = some arr ∧ xi g a 2 = nI ls.length ∧ xtag g arr = 108 ∧ (xown g arr = o ∨ xlen g arr = 0) ∧ ls.length ≤ xlen g arr ∧ xlen g arr < 1000 ∧ ∀ i, i < ls.length → xr g arr i = some (ls.getD i 0)
theorem SP_J2_size {d : Nat} {g : xG} {o a arr : Nat} {ls : List Nat} (h : xAL g o a arr ls) : XM M_J2_size d [.ref a] g (xOne (some (.int (nI ls.length))) g) := by
  obtain ⟨t1, t2, t3, t4, t5, t6, t7, t8, t9⟩ := h
  refine xm_of (by decide +kernel) (Nat.le_of_ble_eq_true rfl) ?_
  show XW _ _ 0 [(0, _)] [] _ _
  refine xw_aload_n (pc := 0) dJ2_size_0 0 rfl ?_
  refine xw_getNat (k := ls.length) (pc := 1) fd_J2_48 dJ2_size_1 (by first | (simp [xE_setI, xsz_setI, xsl_setI, xtag_setI, xown_setI, xlen_setI, xE_setR, xsz_setR, xsl_setR, xtag_setR, xown_setR, xlen_setR, xE_setW, xsz_setW, xsl_setW, xtag_setW, xown_setW, xlen_setW, xi_setR, xi_setW, xr_setI, xr_setW, xww_setI, xww_setR, xi_setI, xr_setR, xww_setW, xE_new, xsz_new, xsl_new, t1, t4, xsub]; done) | (simp [xE_setI, xsz_setI, xsl_setI, xtag_setI, xown_setI, xlen_setI, xE_setR, xsz_setR, xsl_setR, xtag_setR, xown_setR, xlen_setR, xE_setW, xsz_setW, xsl_setW, xtag_setW, xown_setW, xlen_setW, xi_setR, xi_setW, xr_setI, xr_setW, xww_setI, xww_setR, xi_setI, xr_setR, xww_setW, xE_new, xsz_new, xsl_new, t1, t4]; rfl)) (by simp [xE_setI, xsz_setI, xsl_setI, xtag_setI, xown_setI, xlen_setI, xE_setR, xsz_setR, xsl_setR, xtag_setR, xown_setR, xlen_setR, xE_setW, xsz_setW, xsl_setW, xtag_setW, xown_setW, xlen_setW, xi_setR, xi_setW, xr_setI, xr_setW, xww_setI, xww_setR, xi_setI, xr_setR, xww_setW, xE_new, xsz_new, xsl_new, t1, t4]) ?_
  refine xw_iret (pc := 4) .int dJ2_size_4 rfl ?_ 
  exact ⟨rfl, rfl⟩

theorem SP_J14_checkIndex {d : Nat} {g : xG} {i n : Nat} (h : i < n) (hn : n < 2 ^ 31) : XM M_J14_checkIndex d [.int (nI i), .int (nI n), .null] g (xOne (some (.int (nI i))) g) := by
  refine xm_of (by decide +kernel) (Nat.le_of_ble_eq_true rfl) ?_
  show XW _ _ 0 [(0, _), (1, _), (2, _)] [] _ _
  refine xw_iload_n (pc := 0) dJ14_checkIndex_0 0 rfl ?_
  refine xw_if_lt (pc := 1) 9 dJ14_checkIndex_1 rfl (fun hb1 => ?_) (fun hb1 => ?_)
  · exfalso
    replace hb1 : i < 0 := (nI_ltI (a := i) (b := 0) (by omega) (by omega)).mp hb1
    omega
  replace hb1 : ¬ (i < 0) := mt (nI_ltI (a := i) (b := 0) (by omega) (by omega)).mpr hb1
  refine xw_iload_n (pc := 4) dJ14_checkIndex_4 0 rfl ?_
  refine xw_iload_n (pc := 5) dJ14_checkIndex_5 1 rfl ?_
  refine xw_icmp_lt (pc := 6) 16 dJ14_checkIndex_6 rfl (fun hb6 => ?_) (fun hb6 => ?_)
  rotate_left
  · exfalso
    replace hb6 : ¬ (i < n) := mt (nI_ltI (a := i) (b := n) (by omega) (by omega)).mpr hb6
    omega
  replace hb6 : i < n := (nI_ltI (a := i) (b := n) (by omega) (by omega)).mp hb6
  refine xw_iload_n (pc := 16) dJ14_checkIndex_16 0 rfl ?_
  refine xw_iret (pc := 17) .int dJ14_checkIndex_17 rfl ?_ 
  exact ⟨rfl, rfl⟩

theorem SP_J21_checkIndex {d : Nat} {g : xG} {i n : Nat} (h : i < n) (hn : n < 2 ^ 31) : XM M_J21_checkIndex (d + 1) [.int (nI i), .int (nI n)] g (xOne (some (.int (nI i))) g) := by
  refine xm_of (by decide +kernel) (Nat.le_of_ble_eq_true rfl) ?_
  show XW _ _ 0 [(0, _), (1, _)] [] _ _
  refine xw_iload_n (pc := 0) dJ21_checkIndex_0 0 rfl ?_
  refine xw_iload_n (pc := 1) dJ21_checkIndex_1 1 rfl ?_
  refine xw_null (pc := 2) dJ21_checkIndex_2 ?_
  refine xw_callV (pc := 3) (xr_S (as := [_, _, _]) ok_J14_checkIndex rfl (by decide) q712 q713 dJ21_checkIndex_3 rfl rfl (Nat.le_of_ble_eq_true rfl)) (SP_J14_checkIndex (by omega) (by omega)) ?_
  refine xw_iret (pc := 6) .int dJ21_checkIndex_6 rfl ?_ 
  exact ⟨rfl, rfl⟩

theorem SP_J2_elementData {d : Nat} {g : xG} {o a arr : Nat} {ls : List Nat} (h : xAL g o a arr ls) (i : Nat) (hi : i < ls.length) : XM M_J2_elementData d [.ref a, .int (nI i)] g (xOne (some (.ref (ls.getD i 0))) g) := by
  obtain ⟨t1, t2, t3, t4, t5, t6, t7, t8, t9⟩ := h
  have e9 := t9 i hi
  refine xm_of (by decide +kernel) (Nat.le_of_ble_eq_true rfl) ?_
  show XW _ _ 0 [(0, _), (1, _)] [] _ _
  refine xw_aload_n (pc := 0) dJ2_elementData_0 0 rfl ?_
  refine xw_getS (b := arr) (pc := 1) fd_J2_9 dJ2_elementData_1 (by first | (simp [xE_setI, xsz_setI, xsl_setI, xtag_setI, xown_setI, xlen_setI, xE_setR, xsz_setR, xsl_setR, xtag_setR, xown_setR, xlen_setR, xE_setW, xsz_setW, xsl_setW, xtag_setW, xown_setW, xlen_setW, xi_setR, xi_setW, xr_setI, xr_setW, xww_setI, xww_setR, xi_setI, xr_setR, xww_setW, xE_new, xsz_new, xsl_new, t1, t3, t5, xsub]; done) | (simp [xE_setI, xsz_setI, xsl_setI, xtag_setI, xown_setI, xlen_setI, xE_setR, xsz_setR, xsl_setR, xtag_setR, xown_setR, xlen_setR, xE_setW, xsz_setW, xsl_setW, xtag_setW, xown_setW, xlen_setW, xi_setR, xi_setW, xr_setI, xr_setW, xww_setI, xww_setR, xi_setI, xr_setR, xww_setW, xE_new, xsz_new, xsl_new, t1, t3, t5]; rfl)) (by simp [xE_setI, xsz_setI, xsl_setI, xtag_setI, xown_setI, xlen_setI, xE_setR, xsz_setR, xsl_setR, xtag_setR, xown_setR, xlen_setR, xE_setW, xsz_setW, xsl_setW, xtag_setW, xown_setW, xlen_setW, xi_setR, xi_setW, xr_setI, xr_setW, xww_setI, xww_setR, xi_setI, xr_setR, xww_setW, xE_new, xsz_new, xsl_new, t1, t3, t5]) ?_
  refine xw_iload_n (pc := 4) dJ2_elementData_4 1 rfl ?_
  refine xw_aald (q := 7) (k := i) (pc := 5) dJ2_elementData_5 (by simp [xE_setI, xsz_setI, xsl_setI, xtag_setI, xown_setI, xlen_setI, xE_setR, xsz_setR, xsl_setR, xtag_setR, xown_setR, xlen_setR, xE_setW, xsz_setW, xsl_setW, xtag_setW, xown_setW, xlen_setW, xi_setR, xi_setW, xr_setI, xr_setW, xww_setI, xww_setR, xi_setI, xr_setR, xww_setW, xE_new, xsz_new, xsl_new, t1, t3, t5]) (by decide) (by decide) rfl (by omega) ?_
  rw [show xr g arr i = some (ls.getD i 0) from by exact e9]
  refine xw_aret (pc := 6) (.object "java/lang/Object") dJ2_elementData_6 rfl ?_
  exact ⟨rfl, rfl⟩

theorem SP_J2_get {d : Nat} {g : xG} {o a arr : Nat} {ls : List Nat} (h : xAL g o a arr ls) (i : Nat) (hi : i < ls.length) : XM M_J2_get (d + 2) [.ref a, .int (nI i)] g (xOne (some (.ref (ls.getD i 0))) g) := by
  have h0 := h
  obtain ⟨t1, t2, t3, t4, t5, t6, t7, t8, t9⟩ := h
  refine xm_of (by decide +kernel) (Nat.le_of_ble_eq_true rfl) ?_
  show XW _ _ 0 [(0, _), (1, _)] [] _ _
  refine xw_iload_n (pc := 0) dJ2_get_0 1 rfl ?_
  refine xw_aload_n (pc := 1) dJ2_get_1 0 rfl ?_
  refine xw_getNat (k := ls.length) (pc := 2) fd_J2_48 dJ2_get_2 (by first | (simp [xE_setI, xsz_setI, xsl_setI, xtag_setI, xown_setI, xlen_setI, xE_setR, xsz_setR, xsl_setR, xtag_setR, xown_setR, xlen_setR, xE_setW, xsz_setW, xsl_setW, xtag_setW, xown_setW, xlen_setW, xi_setR, xi_setW, xr_setI, xr_setW, xww_setI, xww_setR, xi_setI, xr_setR, xww_setW, xE_new, xsz_new, xsl_new, t1, t4, xsub]; done) | (simp [xE_setI, xsz_setI, xsl_setI, xtag_setI, xown_setI, xlen_setI, xE_setR, xsz_setR, xsl_setR, xtag_setR, xown_setR, xlen_setR, xE_setW, xsz_setW, xsl_setW, xtag_setW, xown_setW, xlen_setW, xi_setR, xi_setW, xr_setI, xr_setW, xww_setI, xww_setR, xi_setI, xr_setR, xww_setW, xE_new, xsz_new, xsl_new, t1, t4]; rfl)) (by simp [xE_setI, xsz_setI, xsl_setI, xtag_setI, xown_setI, xlen_setI, xE_setR, xsz_setR, xsl_setR, xtag_setR, xown_setR, xlen_setR, xE_setW, xsz_setW, xsl_setW, xtag_setW, xown_setW, xlen_setW, xi_setR, xi_setW, xr_setI, xr_setW, xww_setI, xww_setR, xi_setI, xr_setR, xww_setW, xE_new, xsz_new, xsl_new, t1, t4]) ?_
  refine xw_callV (pc := 5) (xr_S (as := [_, _]) ok_J21_checkIndex rfl (by decide) q709 q710 dJ2_get_5 rfl rfl (Nat.le_of_ble_eq_true rfl)) (SP_J21_checkIndex (by omega) (by omega)) ?_
  refine xw_pop (pc := 8) dJ2_get_8 rfl ?_
  refine xw_aload_n (pc := 9) dJ2_get_9 0 rfl ?_
  refine xw_iload_n (pc := 10) dJ2_get_10 1 rfl ?_
  refine xw_callV (pc := 11) (xr_V (as := [_]) ok_J2_elementData rfl (by decide) q715 q716 q717 (by rw [t1]; rfl) (by rw [t1]; rfl) dJ2_get_11 rfl rfl (Nat.le_of_ble_eq_true rfl)) (SP_J2_elementData h0 i hi) ?_
  refine xw_aret (pc := 14) (.object "java/lang/Object") dJ2_get_14 rfl ?_
  exact ⟨rfl, rfl⟩

/-- cells of other owners stay -/
def xFrO (o : Nat) (g g' : xG) : Prop := xE g' = xE g ∧ xsz g ≤ xsz g' ∧ ∀ c, c < xsz g → xown g c ≠ o → xc g' c = xc g c
theorem xFrO.rf {o : Nat} {g : xG} : xFrO o g g := ⟨rfl, Nat.le_refl _, fun _ _ _ => rfl⟩
theorem xtag_of {g g' : xG} {c : Nat} (h : xc g' c = xc g c) : xtag g' c = xtag g c := by unfold xtag; rw [h]
theorem xown_of {g g' : xG} {c : Nat} (h : xc g' c = xc g c) : xown g' c = xown g c := by unfold xown; rw [h]
theorem xlen_of {g g' : xG} {c : Nat} (h : xc g' c = xc g c) : xlen g' c = xlen g c := by unfold xlen; rw [h]
theorem xi_of {g g' : xG} {c : Nat} (h : xc g' c = xc g c) (j : Nat) : xi g' c j = xi g c j := by unfold xi; rw [h]
theorem xr_of {g g' : xG} {c : Nat} (h : xc g' c = xc g c) (j : Nat) : xr g' c j = xr g c j := by unfold xr; rw [h]
theorem xFrO.tr {o : Nat} {g g1 g2 : xG} (h : xFrO o g g1) (k : xFrO o g1 g2) : xFrO o g g2 := ⟨k.1.trans h.1, Nat.le_trans h.2.1 k.2.1, fun c hc ho => (k.2.2 c (Nat.lt_of_lt_of_le hc h.2.1) (by rw [xown_of (h.2.2 c hc ho)]; exact ho)).trans (h.2.2 c hc ho)⟩
theorem xFrO.i {o a j : Nat} {v : Int32} {g : xG} (ha : xown g a = o) : xFrO o g (xsetI g a j v) := ⟨rfl, Nat.le_refl _, fun c _ ho => xc_setI (fun e => ho (by rw [e]; exact ha))⟩
theorem xFrO.r {o a j : Nat} {v : Option Nat} {g : xG} (ha : xown g a = o) : xFrO o g (xsetR g a j v) := ⟨rfl, Nat.le_refl _, fun c _ ho => xc_setR (fun e => ho (by rw [e]; exact ha))⟩
theorem xFrO.n {o k : Nat} {c : xCell} {g : xG} : xFrO o g (xNew g c k) := ⟨rfl, Nat.le_succ _, fun b hb _ => xc_newN (Nat.ne_of_lt hb)⟩
/-- what may be laid into an Object[] -/
def xObj (g : xG) (b : Nat) : Prop := xcls (xtag g b) = true ∧ Cond.castable (xnm (xtag g b)) "java/lang/Object" ∈ lw_tbl
theorem SP_J2_add_2 {d : Nat} {g : xG} {o a arr : Nat} {ls : List Nat} (h : xAL g o a arr ls) (ho : o ≠ 0) {b : Nat} (hb : xObj g b) (hf : ls.length < xlen g arr) : XM M_J2_add_2 d [.ref a, .ref b, .ref arr, .int (nI ls.length)] g (xOne none (xsetI (xsetR g arr ls.length (some b)) a 2 (nI (ls.length + 1)))) := by
  have h0 := h
  obtain ⟨t1, t2, t3, t4, t5, t6, t7, t8, t9⟩ := h
  have hao : xown g arr = o := by rcases t6 with q | q; exact q; omega
  have hna : xown g a ≠ 0 := by rw [t2]; exact ho
  have hnr : xown g arr ≠ 0 := by rw [hao]; exact ho
  refine xm_of (by decide +kernel) (Nat.le_of_ble_eq_true rfl) ?_
  show XW _ _ 0 [(0, _), (1, _), (2, _), (3, _)] [] _ _
  refine xw_iload_n (pc := 0) dJ2_add_2_0 3 rfl ?_
  refine xw_aload_n (pc := 1) dJ2_add_2_1 2 rfl ?_
  refine xw_alen (q := 7) (pc := 2) dJ2_add_2_2 (by simp [xE_setI, xsz_setI, xsl_setI, xtag_setI, xown_setI, xlen_setI, xE_setR, xsz_setR, xsl_setR, xtag_setR, xown_setR, xlen_setR, xE_setW, xsz_setW, xsl_setW, xtag_setW, xown_setW, xlen_setW, xi_setR, xi_setW, xr_setI, xr_setW, xww_setI, xww_setR, xi_setI, xr_setR, xww_setW, xE_new, xsz_new, xsl_new, t1, t5]) (by decide) ?_
  rw [show xlen _ arr = xlen g arr from by simp [xE_setI, xsz_setI, xsl_setI, xtag_setI, xown_setI, xlen_setI, xE_setR, xsz_setR, xsl_setR, xtag_setR, xown_setR, xlen_setR, xE_setW, xsz_setW, xsl_setW, xtag_setW, xown_setW, xlen_setW, xi_setR, xi_setW, xr_setI, xr_setW, xww_setI, xww_setR, xi_setI, xr_setR, xww_setW, xE_new, xsz_new, xsl_new, t1, t5]]
  refine xw_icmp_ne (pc := 3) 11 dJ2_add_2_3 rfl (fun hb3 => ?_) (fun hb3 => ?_)
  rotate_left
  · exfalso
    replace hb3 : ls.length = xlen g arr := (nI_eq (a := ls.length) (b := xlen g arr) (by (first | omega)) (by (first | omega))).mp hb3
    omega
  replace hb3 : ¬ (ls.length = xlen g arr) := mt (nI_eq (a := ls.length) (b := xlen g arr) (by (first | omega)) (by (first | omega))).mpr hb3
  refine xw_aload_n (pc := 11) dJ2_add_2_11 2 rfl ?_
  refine xw_iload_n (pc := 12) dJ2_add_2_12 3 rfl ?_
  refine xw_aload_n (pc := 13) dJ2_add_2_13 1 rfl ?_
  refine xw_aast (q := 7) (k := ls.length) (pc := 14) dJ2_add_2_14 (by simp [xE_setI, xsz_setI, xsl_setI, xtag_setI, xown_setI, xlen_setI, xE_setR, xsz_setR, xsl_setR, xtag_setR, xown_setR, xlen_setR, xE_setW, xsz_setW, xsl_setW, xtag_setW, xown_setW, xlen_setW, xi_setR, xi_setW, xr_setI, xr_setW, xww_setI, xww_setR, xi_setI, xr_setR, xww_setW, xE_new, xsz_new, xsl_new, t1, t5]) (by decide) (by decide) rfl (by first | assumption | (simp [xE_setI, xsz_setI, xsl_setI, xtag_setI, xown_setI, xlen_setI, xE_setR, xsz_setR, xsl_setR, xtag_setR, xown_setR, xlen_setR, xE_setW, xsz_setW, xsl_setW, xtag_setW, xown_setW, xlen_setW, xi_setR, xi_setW, xr_setI, xr_setW, xww_setI, xww_setR, xi_setI, xr_setR, xww_setW, xE_new, xsz_new, xsl_new, t1, t5]; done) | (simp [xE_setI, xsz_setI, xsl_setI, xtag_setI, xown_setI, xlen_setI, xE_setR, xsz_setR, xsl_setR, xtag_setR, xown_setR, xlen_setR, xE_setW, xsz_setW, xsl_setW, xtag_setW, xown_setW, xlen_setW, xi_setR, xi_setW, xr_setI, xr_setW, xww_setI, xww_setR, xi_setI, xr_setR, xww_setW, xE_new, xsz_new, xsl_new, t1, t5]; assumption)) rfl (by omega) (by  exact hb.1) (by exact hb.2) ?_
  refine xw_aload_n (pc := 15) dJ2_add_2_15 0 rfl ?_
  refine xw_iload_n (pc := 16) dJ2_add_2_16 3 rfl ?_
  refine xw_iconst (v := nI 1) (pc := 17) dJ2_add_2_17 rfl ?_
  refine xn_iadd (pc := 18) dJ2_add_2_18 ?_
  refine xw_putI (pc := 19) fd_J2_48 (xfin_of (by decide) (by decide +kernel)) dJ2_add_2_19 (by first | (simp [xE_setI, xsz_setI, xsl_setI, xtag_setI, xown_setI, xlen_setI, xE_setR, xsz_setR, xsl_setR, xtag_setR, xown_setR, xlen_setR, xE_setW, xsz_setW, xsl_setW, xtag_setW, xown_setW, xlen_setW, xi_setR, xi_setW, xr_setI, xr_setW, xww_setI, xww_setR, xi_setI, xr_setR, xww_setW, xE_new, xsz_new, xsl_new, t1, t5, xsub]; done) | (simp [xE_setI, xsz_setI, xsl_setI, xtag_setI, xown_setI, xlen_setI, xE_setR, xsz_setR, xsl_setR, xtag_setR, xown_setR, xlen_setR, xE_setW, xsz_setW, xsl_setW, xtag_setW, xown_setW, xlen_setW, xi_setR, xi_setW, xr_setI, xr_setW, xww_setI, xww_setR, xi_setI, xr_setR, xww_setW, xE_new, xsz_new, xsl_new, t1, t5]; rfl)) (by first | assumption | (simp [xE_setI, xsz_setI, xsl_setI, xtag_setI, xown_setI, xlen_setI, xE_setR, xsz_setR, xsl_setR, xtag_setR, xown_setR, xlen_setR, xE_setW, xsz_setW, xsl_setW, xtag_setW, xown_setW, xlen_setW, xi_setR, xi_setW, xr_setI, xr_setW, xww_setI, xww_setR, xi_setI, xr_setR, xww_setW, xE_new, xsz_new, xsl_new, t1, t5]; done) | (simp [xE_setI, xsz_setI, xsl_setI, xtag_setI, xown_setI, xlen_setI, xE_setR, xsz_setR, xsl_setR, xtag_setR, xown_setR, xlen_setR, xE_setW, xsz_setW, xsl_setW, xtag_setW, xown_setW, xlen_setW, xi_setR, xi_setW, xr_setI, xr_setW, xww_setI, xww_setR, xi_setI, xr_setR, xww_setW, xE_new, xsz_new, xsl_new, t1, t5]; assumption)) ?_
  refine xw_vret (pc := 22) dJ2_add_2_22 rfl ?_
  exact ⟨rfl, rfl⟩

theorem SP_J2_addX {d : Nat} {g : xG} {o a arr : Nat} {ls : List Nat} (h : xAL g o a arr ls) (ho : o ≠ 0) {b : Nat} (hb : xObj g b) (hf : ls.length < xlen g arr) : XM M_J2_add (d + 1) [.ref a, .ref b] g (xOne (some (.int (nI 1))) (xsetI (xsetR (xsetI g a 0 (xi g a 0 + nI 1)) arr ls.length (some b)) a 2 (nI (ls.length + 1)))) := by
  have h0 := h
  obtain ⟨t1, t2, t3, t4, t5, t6, t7, t8, t9⟩ := h
  have hao : xown g arr = o := by rcases t6 with q | q; exact q; omega
  have hna : xown g a ≠ 0 := by rw [t2]; exact ho
  have hnr : xown g arr ≠ 0 := by rw [hao]; exact ho
  refine xm_of (by decide +kernel) (Nat.le_of_ble_eq_true rfl) ?_
  show XW _ _ 0 [(0, _), (1, _)] [] _ _
  refine xw_aload_n (pc := 0) dJ2_add_0 0 rfl ?_
  refine xw_dup (pc := 1) dJ2_add_1 rfl ?_
  refine xw_getI (pc := 2) fd_J2_63 dJ2_add_2 (by first | (simp [xE_setI, xsz_setI, xsl_setI, xtag_setI, xown_setI, xlen_setI, xE_setR, xsz_setR, xsl_setR, xtag_setR, xown_setR, xlen_setR, xE_setW, xsz_setW, xsl_setW, xtag_setW, xown_setW, xlen_setW, xi_setR, xi_setW, xr_setI, xr_setW, xww_setI, xww_setR, xi_setI, xr_setR, xww_setW, xE_new, xsz_new, xsl_new, t1, t3, t4, xsub]; done) | (simp [xE_setI, xsz_setI, xsl_setI, xtag_setI, xown_setI, xlen_setI, xE_setR, xsz_setR, xsl_setR, xtag_setR, xown_setR, xlen_setR, xE_setW, xsz_setW, xsl_setW, xtag_setW, xown_setW, xlen_setW, xi_setR, xi_setW, xr_setI, xr_setW, xww_setI, xww_setR, xi_setI, xr_setR, xww_setW, xE_new, xsz_new, xsl_new, t1, t3, t4]; rfl)) ?_
  refine xw_iconst (v := nI 1) (pc := 5) dJ2_add_5 rfl ?_
  refine xw_iadd (pc := 6) dJ2_add_6 ?_
  refine xw_putI (pc := 7) fd_J2_63 (xfin_of (by decide) (by decide +kernel)) dJ2_add_7 (by first | (simp [xE_setI, xsz_setI, xsl_setI, xtag_setI, xown_setI, xlen_setI, xE_setR, xsz_setR, xsl_setR, xtag_setR, xown_setR, xlen_setR, xE_setW, xsz_setW, xsl_setW, xtag_setW, xown_setW, xlen_setW, xi_setR, xi_setW, xr_setI, xr_setW, xww_setI, xww_setR, xi_setI, xr_setR, xww_setW, xE_new, xsz_new, xsl_new, t1, t3, t4, xsub]; done) | (simp [xE_setI, xsz_setI, xsl_setI, xtag_setI, xown_setI, xlen_setI, xE_setR, xsz_setR, xsl_setR, xtag_setR, xown_setR, xlen_setR, xE_setW, xsz_setW, xsl_setW, xtag_setW, xown_setW, xlen_setW, xi_setR, xi_setW, xr_setI, xr_setW, xww_setI, xww_setR, xi_setI, xr_setR, xww_setW, xE_new, xsz_new, xsl_new, t1, t3, t4]; rfl)) (by first | assumption | (simp [xE_setI, xsz_setI, xsl_setI, xtag_setI, xown_setI, xlen_setI, xE_setR, xsz_setR, xsl_setR, xtag_setR, xown_setR, xlen_setR, xE_setW, xsz_setW, xsl_setW, xtag_setW, xown_setW, xlen_setW, xi_setR, xi_setW, xr_setI, xr_setW, xww_setI, xww_setR, xi_setI, xr_setR, xww_setW, xE_new, xsz_new, xsl_new, t1, t3, t4]; done) | (simp [xE_setI, xsz_setI, xsl_setI, xtag_setI, xown_setI, xlen_setI, xE_setR, xsz_setR, xsl_setR, xtag_setR, xown_setR, xlen_setR, xE_setW, xsz_setW, xsl_setW, xtag_setW, xown_setW, xlen_setW, xi_setR, xi_setW, xr_setI, xr_setW, xww_setI, xww_setR, xi_setI, xr_setR, xww_setW, xE_new, xsz_new, xsl_new, t1, t3, t4]; assumption)) ?_
  have hm1 : xAL (xsetI g a 0 (xi g a 0 + nI 1)) o a arr ls := by
    refine ⟨by rw [xtag_setI]; exact t1, by rw [xown_setI]; exact t2, by rw [xr_setI]; exact t3, by rw [xi_setIK (by decide)]; exact t4, by rw [xtag_setI]; exact t5, by rw [xown_setI, xlen_setI]; exact t6, by rw [xlen_setI]; exact t7, by rw [xlen_setI]; exact t8, fun i hi => by rw [xr_setI]; exact t9 i hi⟩
  have hb1 : xObj (xsetI g a 0 (xi g a 0 + nI 1)) b := by unfold xObj; rw [xtag_setI]; exact hb
  refine xw_aload_n (pc := 10) dJ2_add_10 0 rfl ?_
  refine xw_aload_n (pc := 11) dJ2_add_11 1 rfl ?_
  refine xw_aload_n (pc := 12) dJ2_add_12 0 rfl ?_
  refine xw_getS (b := arr) (pc := 13) fd_J2_9 dJ2_add_13 (by first | (simp [xE_setI, xsz_setI, xsl_setI, xtag_setI, xown_setI, xlen_setI, xE_setR, xsz_setR, xsl_setR, xtag_setR, xown_setR, xlen_setR, xE_setW, xsz_setW, xsl_setW, xtag_setW, xown_setW, xlen_setW, xi_setR, xi_setW, xr_setI, xr_setW, xww_setI, xww_setR, xi_setI, xr_setR, xww_setW, xE_new, xsz_new, xsl_new, t1, t3, t4, xsub]; done) | (simp [xE_setI, xsz_setI, xsl_setI, xtag_setI, xown_setI, xlen_setI, xE_setR, xsz_setR, xsl_setR, xtag_setR, xown_setR, xlen_setR, xE_setW, xsz_setW, xsl_setW, xtag_setW, xown_setW, xlen_setW, xi_setR, xi_setW, xr_setI, xr_setW, xww_setI, xww_setR, xi_setI, xr_setR, xww_setW, xE_new, xsz_new, xsl_new, t1, t3, t4]; rfl)) (by simp [xE_setI, xsz_setI, xsl_setI, xtag_setI, xown_setI, xlen_setI, xE_setR, xsz_setR, xsl_setR, xtag_setR, xown_setR, xlen_setR, xE_setW, xsz_setW, xsl_setW, xtag_setW, xown_setW, xlen_setW, xi_setR, xi_setW, xr_setI, xr_setW, xww_setI, xww_setR, xi_setI, xr_setR, xww_setW, xE_new, xsz_new, xsl_new, t1, t3, t4]) ?_
  refine xw_aload_n (pc := 16) dJ2_add_16 0 rfl ?_
  refine xw_getNat (k := ls.length) (pc := 17) fd_J2_48 dJ2_add_17 (by first | (simp [xE_setI, xsz_setI, xsl_setI, xtag_setI, xown_setI, xlen_setI, xE_setR, xsz_setR, xsl_setR, xtag_setR, xown_setR, xlen_setR, xE_setW, xsz_setW, xsl_setW, xtag_setW, xown_setW, xlen_setW, xi_setR, xi_setW, xr_setI, xr_setW, xww_setI, xww_setR, xi_setI, xr_setR, xww_setW, xE_new, xsz_new, xsl_new, t1, t3, t4, xsub]; done) | (simp [xE_setI, xsz_setI, xsl_setI, xtag_setI, xown_setI, xlen_setI, xE_setR, xsz_setR, xsl_setR, xtag_setR, xown_setR, xlen_setR, xE_setW, xsz_setW, xsl_setW, xtag_setW, xown_setW, xlen_setW, xi_setR, xi_setW, xr_setI, xr_setW, xww_setI, xww_setR, xi_setI, xr_setR, xww_setW, xE_new, xsz_new, xsl_new, t1, t3, t4]; rfl)) (by simp [xE_setI, xsz_setI, xsl_setI, xtag_setI, xown_setI, xlen_setI, xE_setR, xsz_setR, xsl_setR, xtag_setR, xown_setR, xlen_setR, xE_setW, xsz_setW, xsl_setW, xtag_setW, xown_setW, xlen_setW, xi_setR, xi_setW, xr_setI, xr_setW, xww_setI, xww_setR, xi_setI, xr_setR, xww_setW, xE_new, xsz_new, xsl_new, t1, t3, t4]) ?_
  refine xw_callU (pc := 20) (xr_V (as := [_, _, _]) ok_J2_add_2 rfl (by decide) q532 q534 qs1 (by simp only [xtag_setI]; rw [t1]; rfl) (by simp only [xtag_setI]; rw [t1]; rfl) dJ2_add_20 rfl rfl (Nat.le_of_ble_eq_true rfl)) (SP_J2_add_2 (o := o) hm1 ho hb1 (by simp only [xlen_setI]; exact hf)) ?_
  refine xw_iconst (v := nI 1) (pc := 23) dJ2_add_23 rfl ?_
  refine xw_iret (pc := 24) .boolean dJ2_add_24 rfl ?_ 
  exact ⟨rfl, rfl⟩

theorem SP_J2_add {d : Nat} {g : xG} {o a arr : Nat} {ls : List Nat} (h : xAL g o a arr ls) (ho : o ≠ 0) {b : Nat} (hb : xObj g b) (hf : ls.length < xlen g arr) : XM M_J2_add (d + 1) [.ref a, .ref b] g (fun rs g' => rs = .inl (some (.int (nI 1))) ∧ xAL g' o a arr (ls ++ [b]) ∧ xFrO o g g') := by
  refine (SP_J2_addX h ho hb hf).mono (fun rs g' hp _ => ?_)
  obtain ⟨rfl, rfl⟩ := hp
  obtain ⟨t1, t2, t3, t4, t5, t6, t7, t8, t9⟩ := h
  have hao : xown g arr = o := by rcases t6 with q | q; exact q; omega
  have hne : a ≠ arr := fun q => by rw [q, t5] at t1; cases t1
  have hta : xtag g arr ≠ 0 := by rw [t5]; decide
  refine ⟨rfl, ⟨by simp only [xtag_setI, xtag_setR]; exact t1, by simp only [xown_setI, xown_setR]; exact t2, by rw [xr_setI, xr_setRN hne, xr_setI]; exact t3, by rw [xi_setIS (by simp only [xtag_setI, xtag_setR]; rw [t1]; decide)]; simp, by simp only [xtag_setI, xtag_setR]; exact t5, by simp only [xown_setI, xown_setR]; exact Or.inl hao, by simp only [xlen_setI, xlen_setR, List.length_append, List.length_singleton]; omega, by simp only [xlen_setI, xlen_setR]; exact t8, fun i hi => ?_⟩, ((xFrO.i t2).tr (xFrO.r (by rw [xown_setI]; exact hao))).tr (xFrO.i (by rw [xown_setR, xown_setI]; exact t2))⟩
  rw [xr_setI, xr_setR (by rw [xtag_setI]; exact hta)]
  simp only [List.length_append, List.length_singleton] at hi
  by_cases hi2 : i = ls.length
  · subst hi2
    rw [if_pos ⟨rfl, rfl⟩]
    simp
  · rw [if_neg (fun q => hi2 q.2), xr_setI, t9 i (by omega)]
    rw [List.getD_eq_getElem?_getD, List.getD_eq_getElem?_getD, List.getElem?_append_left (by omega)]
