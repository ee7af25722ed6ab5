/-! MODEL 14: the reference reads numbers and tests -/
set_option maxRecDepth 100000
/-- which of the text's chars is here -/
def r1o (ln : Nat) (ch : Nat → Nat) (w : Bool) (p i : Nat) : Option Nat := if w = false ∧ p < ln then fIx (gD (xTxt i)) (ch p) (xTxt i).length 0 else none
/-- the texts that are searched -/
theorem txt_ok {i : Nat} (hi : i = 8 ∨ i = 9 ∨ i = 10) : (xTxt i).length < 10 ∧ 0 < (xTxt i).length ∧ ∀ j, gD (xTxt i) j < 256 := by
  have key : ∀ t : List Nat, (∀ j : Fin t.length, t.getD j.val 0 < 256) → ∀ j, gD t j < 256 := fun t h j => by
    by_cases hj : j < t.length
    · exact h ⟨j, hj⟩
    · unfold gD
      rw [List.getD_eq_getElem?_getD, List.getElem?_eq_none (by omega)]
      decide
  rcases hi with rfl | rfl | rfl
  · exact ⟨by decide +kernel, by decide +kernel, key _ (by decide +kernel)⟩
  · exact ⟨by decide +kernel, by decide +kernel, key _ (by decide +kernel)⟩
  · exact ⟨by decide +kernel, by decide +kernel, key _ (by decide +kernel)⟩
theorem fIx_abc (c : Nat) : fIx (gD (xTxt 9)) c (xTxt 9).length 0 = if 97 ≤ c ∧ c ≤ 102 then some (c - 97) else none := by
  have e : (xTxt 9).length = 6 := by decide +kernel
  have g : ∀ j : Fin 6, gD (xTxt 9) j.val = 97 + j.val := by decide +kernel
  have g0 := g 0; have g1 := g 1; have g2 := g 2; have g3 := g 3; have g4 := g 4; have g5 := g 5
  simp only [Fin.val_zero, Fin.val_one] at g0 g1
  rw [e]
  simp only [fIx]
  by_cases h : 97 ≤ c ∧ c ≤ 102
  · rw [if_pos h]
    have : c = 97 ∨ c = 98 ∨ c = 99 ∨ c = 100 ∨ c = 101 ∨ c = 102 := by omega
    rcases this with rfl | rfl | rfl | rfl | rfl | rfl <;> decide +kernel
  · rw [if_neg h]
    have z0 : ¬ gD (xTxt 9) 0 = c := by rw [show gD (xTxt 9) 0 = 97 from g ⟨0, by decide⟩]; omega
    have z1 : ¬ gD (xTxt 9) (0 + 1) = c := by rw [show gD (xTxt 9) (0 + 1) = 98 from g ⟨1, by decide⟩]; omega
    have z2 : ¬ gD (xTxt 9) (0 + 1 + 1) = c := by rw [show gD (xTxt 9) (0 + 1 + 1) = 99 from g ⟨2, by decide⟩]; omega
    have z3 : ¬ gD (xTxt 9) (0 + 1 + 1 + 1) = c := by rw [show gD (xTxt 9) (0 + 1 + 1 + 1) = 100 from g ⟨3, by decide⟩]; omega
    have z4 : ¬ gD (xTxt 9) (0 + 1 + 1 + 1 + 1) = c := by rw [show gD (xTxt 9) (0 + 1 + 1 + 1 + 1) = 101 from g ⟨4, by decide⟩]; omega
    have z5 : ¬ gD (xTxt 9) (0 + 1 + 1 + 1 + 1 + 1) = c := by rw [show gD (xTxt 9) (0 + 1 + 1 + 1 + 1 + 1) = 102 from g ⟨5, by decide⟩]; omega
    rw [if_neg z0, if_neg z1, if_neg z2, if_neg z3, if_neg z4, if_neg z5]
theorem fIx_sg (c : Nat) : fIx (gD (xTxt 10)) c (xTxt 10).length 0 = sgX c := by
  have e : xTxt 10 = xTxt 0 := by decide +kernel
  rw [e]; rfl

theorem SP_X6_oneOf_w {d : Nat} {g : xG} {m : Nat} {S : xMS} (hM : xMod g m) {i : Nat} (hi : i = 8 ∨ i = 9 ∨ i = 10) (hSC : xSC g) {ln p : Nat} {ch : Nat → Nat} (hl : S 0 22 = nI ln) (hln : ln ≤ 60) (hch : ∀ j, j < ln → S 12 j = nI (ch j) ∧ ch j < 65536) (hp : p ≤ ln) : XM M_X6_oneOf (d + 4) [.ref m, .ref ((xE g).2.2.1 (10 + i))] (xWith g m (rdS S true p)) (xOne (some (.int (-1))) (xWith g m (rdS S true p))) := by
  have hcs : ∀ j, j < ln → ch j < 65536 := fun j hj => (hch j hj).2
  have hci : ∀ j, j < ln → ∀ w q, rdS S w q 12 j = nI (ch j) := fun j hj w q => by rw [rdS_q (by decide)]; exact (hch j hj).1
  refine xm_of (by decide +kernel) (Nat.le_of_ble_eq_true rfl) ?_
  show XW _ _ 0 [(0, _), (1, _)] [] _ _
  refine xw_aload_n (pc := 0) dX6_oneOf_0 0 rfl ?_
  refine xm_getB (b := true) (pc := 1) hM fd_X6_255 dX6_oneOf_1 (by rfl) ?_
  refine xw_if_ne (pc := 4) 34 dX6_oneOf_4 rfl (fun _ => ?_) (fun hb => absurd hb (by decide))
  refine xw_iconst (v := -1) (pc := 34) dX6_oneOf_34 (by decide +kernel) ?_
  refine xw_istore_n (l' := [(2, _), (0, _), (1, _)]) (pc := 35) dX6_oneOf_35 rfl (by decide) rfl ?_
  refine xw_aload_n (pc := 36) dX6_oneOf_36 1 rfl ?_
  refine xw_iload_n (pc := 37) dX6_oneOf_37 0 rfl ?_
  refine xw_if_ge (pc := 38) 45 dX6_oneOf_38 rfl (fun hb38 => ?_) (fun hb38 => ?_)
  · exfalso
    exact absurd hb38 (by decide)
  refine xw_iconst (v := nI 1) (pc := 41) dX6_oneOf_41 rfl ?_
  refine xw_goto (pc := 42) 46 dX6_oneOf_42 rfl ?_
  refine xm_putI (pc := 46) hM fd_X6_255 (xfin_of (by decide) (by decide +kernel)) dX6_oneOf_46 ?_
  refine xw_aload_n (pc := 49) dX6_oneOf_49 1 rfl ?_
  refine xw_dup (pc := 50) dX6_oneOf_50 rfl ?_
  refine xm_getN (k := p) (pc := 51) hM fd_X6_259 dX6_oneOf_51 (by rfl) ?_
  refine xw_aload_n (pc := 54) dX6_oneOf_54 1 rfl ?_
  refine xm_getN (k := 1) (pc := 55) hM fd_X6_255 dX6_oneOf_55 (by first | rfl | (simp [mset, mcpy]; done)) ?_
  refine xw_if_eq (pc := 58) 65 dX6_oneOf_58 rfl (fun hb => absurd hb (by decide)) (fun _ => ?_)
  refine xw_iconst (v := nI 0) (pc := 61) dX6_oneOf_61 rfl ?_
  refine xw_goto (pc := 62) 66 dX6_oneOf_62 rfl ?_
  refine xn_iadd (pc := 66) dX6_oneOf_66 ?_
  refine xm_putI (pc := 67) hM fd_X6_259 (xfin_of (by decide) (by decide +kernel)) dX6_oneOf_67 ?_
  refine xw_iload_n (pc := 70) dX6_oneOf_70 0 rfl ?_
  refine xw_iret (pc := 71) .int dX6_oneOf_71 rfl ?_ 
  rw [show mset (mset (rdS S true p) 0 24 (nI 1)) 0 23 (nI (p + 0)) = rdS S true p from by rw [show mset (rdS S true p) 0 24 (nI 1) = rdS S true p from rdS_w1, rdS_p]; rfl]
  exact ⟨rfl, rfl⟩
theorem SP_X6_oneOf_n {d : Nat} {g : xG} {m : Nat} {S : xMS} (hM : xMod g m) {i : Nat} (hi : i = 8 ∨ i = 9 ∨ i = 10) (hSC : xSC g) {ln p : Nat} {ch : Nat → Nat} (hl : S 0 22 = nI ln) (hln : ln ≤ 60) (hch : ∀ j, j < ln → S 12 j = nI (ch j) ∧ ch j < 65536) (hp : p ≤ ln) (h : ¬ p < ln) : XM M_X6_oneOf (d + 4) [.ref m, .ref ((xE g).2.2.1 (10 + i))] (xWith g m (rdS S false p)) (xOne (some (.int (-1))) (xWith g m (rdS S true p))) := by
  have hcs : ∀ j, j < ln → ch j < 65536 := fun j hj => (hch j hj).2
  have hci : ∀ j, j < ln → ∀ w q, rdS S w q 12 j = nI (ch j) := fun j hj w q => by rw [rdS_q (by decide)]; exact (hch j hj).1
  refine xm_of (by decide +kernel) (Nat.le_of_ble_eq_true rfl) ?_
  show XW _ _ 0 [(0, _), (1, _)] [] _ _
  refine xw_aload_n (pc := 0) dX6_oneOf_0 0 rfl ?_
  refine xm_getB (b := false) (pc := 1) hM fd_X6_255 dX6_oneOf_1 (by rfl) ?_
  refine xw_if_ne (pc := 4) 34 dX6_oneOf_4 rfl (fun hb => absurd hb (by decide)) (fun _ => ?_)
  refine xw_aload_n (pc := 7) dX6_oneOf_7 0 rfl ?_
  refine xm_getN (k := p) (pc := 8) hM fd_X6_259 dX6_oneOf_8 (by rfl) ?_
  refine xw_aload_n (pc := 11) dX6_oneOf_11 0 rfl ?_
  refine xm_getN (k := ln) (pc := 12) hM fd_X6_252 dX6_oneOf_12 (by exact (rdS_0 (by decide) (by decide)).trans hl) ?_
  refine xw_icmp_ge (pc := 15) 34 dX6_oneOf_15 rfl (fun hb15 => ?_) (fun hb15 => ?_)
  rotate_left
  · exfalso
    replace hb15 : ¬ (ln ≤ p) := mt (nI_leI (a := ln) (b := p) (by omega) (by omega)).mpr hb15
    omega
  replace hb15 : ln ≤ p := (nI_leI (a := ln) (b := p) (by omega) (by omega)).mp hb15
  refine xw_iconst (v := -1) (pc := 34) dX6_oneOf_34 (by decide +kernel) ?_
  refine xw_istore_n (l' := [(2, _), (0, _), (1, _)]) (pc := 35) dX6_oneOf_35 rfl (by decide) rfl ?_
  refine xw_aload_n (pc := 36) dX6_oneOf_36 1 rfl ?_
  refine xw_iload_n (pc := 37) dX6_oneOf_37 0 rfl ?_
  refine xw_if_ge (pc := 38) 45 dX6_oneOf_38 rfl (fun hb38 => ?_) (fun hb38 => ?_)
  · exfalso
    exact absurd hb38 (by decide)
  refine xw_iconst (v := nI 1) (pc := 41) dX6_oneOf_41 rfl ?_
  refine xw_goto (pc := 42) 46 dX6_oneOf_42 rfl ?_
  refine xm_putI (pc := 46) hM fd_X6_255 (xfin_of (by decide) (by decide +kernel)) dX6_oneOf_46 ?_
  refine xw_aload_n (pc := 49) dX6_oneOf_49 1 rfl ?_
  refine xw_dup (pc := 50) dX6_oneOf_50 rfl ?_
  refine xm_getN (k := p) (pc := 51) hM fd_X6_259 dX6_oneOf_51 (by rfl) ?_
  refine xw_aload_n (pc := 54) dX6_oneOf_54 1 rfl ?_
  refine xm_getN (k := 1) (pc := 55) hM fd_X6_255 dX6_oneOf_55 (by first | rfl | (simp [mset, mcpy]; done)) ?_
  refine xw_if_eq (pc := 58) 65 dX6_oneOf_58 rfl (fun hb => absurd hb (by decide)) (fun _ => ?_)
  refine xw_iconst (v := nI 0) (pc := 61) dX6_oneOf_61 rfl ?_
  refine xw_goto (pc := 62) 66 dX6_oneOf_62 rfl ?_
  refine xn_iadd (pc := 66) dX6_oneOf_66 ?_
  refine xm_putI (pc := 67) hM fd_X6_259 (xfin_of (by decide) (by decide +kernel)) dX6_oneOf_67 ?_
  refine xw_iload_n (pc := 70) dX6_oneOf_70 0 rfl ?_
  refine xw_iret (pc := 71) .int dX6_oneOf_71 rfl ?_ 
  rw [show mset (mset (rdS S false p) 0 24 (nI 1)) 0 23 (nI (p + 0)) = rdS S true p from by rw [show mset (rdS S false p) 0 24 (nI 1) = rdS S true p from rdS_w1, rdS_p]; rfl]
  exact ⟨rfl, rfl⟩
theorem SP_X6_oneOf_x {d : Nat} {g : xG} {m : Nat} {S : xMS} (hM : xMod g m) {i : Nat} (hi : i = 8 ∨ i = 9 ∨ i = 10) (hSC : xSC g) {ln p : Nat} {ch : Nat → Nat} (hl : S 0 22 = nI ln) (hln : ln ≤ 60) (hch : ∀ j, j < ln → S 12 j = nI (ch j) ∧ ch j < 65536) (hp : p ≤ ln) (h : p < ln) (hx : fIx (gD (xTxt i)) (ch p) (xTxt i).length 0 = none) : XM M_X6_oneOf (d + 4) [.ref m, .ref ((xE g).2.2.1 (10 + i))] (xWith g m (rdS S false p)) (xOne (some (.int (-1))) (xWith g m (rdS S true p))) := by
  have hcs : ∀ j, j < ln → ch j < 65536 := fun j hj => (hch j hj).2
  have hci : ∀ j, j < ln → ∀ w q, rdS S w q 12 j = nI (ch j) := fun j hj w q => by rw [rdS_q (by decide)]; exact (hch j hj).1
  obtain ⟨sv, hST, -, -⟩ := (hSC.with (S := rdS S false p) hM) i (by omega)
  obtain ⟨tl1, tl2, tl3⟩ := txt_ok hi
  refine xm_of (by decide +kernel) (Nat.le_of_ble_eq_true rfl) ?_
  show XW _ _ 0 [(0, _), (1, _)] [] _ _
  refine xw_aload_n (pc := 0) dX6_oneOf_0 0 rfl ?_
  refine xm_getB (b := false) (pc := 1) hM fd_X6_255 dX6_oneOf_1 (by rfl) ?_
  refine xw_if_ne (pc := 4) 34 dX6_oneOf_4 rfl (fun hb => absurd hb (by decide)) (fun _ => ?_)
  refine xw_aload_n (pc := 7) dX6_oneOf_7 0 rfl ?_
  refine xm_getN (k := p) (pc := 8) hM fd_X6_259 dX6_oneOf_8 (by rfl) ?_
  refine xw_aload_n (pc := 11) dX6_oneOf_11 0 rfl ?_
  refine xm_getN (k := ln) (pc := 12) hM fd_X6_252 dX6_oneOf_12 (by exact (rdS_0 (by decide) (by decide)).trans hl) ?_
  refine xw_icmp_ge (pc := 15) 34 dX6_oneOf_15 rfl (fun hb15 => ?_) (fun hb15 => ?_)
  · exfalso
    replace hb15 : ln ≤ p := (nI_leI (a := ln) (b := p) (by omega) (by omega)).mp hb15
    omega
  replace hb15 : ¬ (ln ≤ p) := mt (nI_leI (a := ln) (b := p) (by omega) (by omega)).mpr hb15
  refine xw_aload_n (pc := 18) dX6_oneOf_18 1 rfl ?_
  refine xw_aload_n (pc := 19) dX6_oneOf_19 0 rfl ?_
  refine xm_get (p := 12) (pc := 20) hM fd_X6_52 dX6_oneOf_20 rfl ?_
  refine xw_aload_n (pc := 23) dX6_oneOf_23 0 rfl ?_
  refine xm_getN (k := p) (pc := 24) hM fd_X6_259 dX6_oneOf_24 (by rfl) ?_
  refine xm_cald (pc := 27) hM dX6_oneOf_27 rfl (by omega) ?_
  rw [hci p h _ _]
  refine xw_callV (pc := 28) (xr_V (as := [_]) ok_J9_indexOf rfl (by decide) q2685 q2023 q2024 (by rw [show xtag (xWith g m (rdS S false p)) ((xE g).2.2.1 (10 + i)) = 20 from hST.1]; rfl) (by rw [show xtag (xWith g m (rdS S false p)) ((xE g).2.2.1 (10 + i)) = 20 from hST.1]; rfl) dX6_oneOf_28 rfl rfl (Nat.le_of_ble_eq_true rfl)) (SP_J9_indexOf hST (by omega) tl2 tl3 (hcs p h)) ?_
  rw [hx]
  refine xw_goto (pc := 31) 35 dX6_oneOf_31 rfl ?_
  refine xw_istore_n (l' := [(2, _), (0, _), (1, _)]) (pc := 35) dX6_oneOf_35 rfl (by decide) rfl ?_
  refine xw_aload_n (pc := 36) dX6_oneOf_36 1 rfl ?_
  refine xw_iload_n (pc := 37) dX6_oneOf_37 0 rfl ?_
  refine xw_if_ge (pc := 38) 45 dX6_oneOf_38 rfl (fun hb38 => ?_) (fun hb38 => ?_)
  · exfalso
    exact absurd hb38 (by decide)
  refine xw_iconst (v := nI 1) (pc := 41) dX6_oneOf_41 rfl ?_
  refine xw_goto (pc := 42) 46 dX6_oneOf_42 rfl ?_
  refine xm_putI (pc := 46) hM fd_X6_255 (xfin_of (by decide) (by decide +kernel)) dX6_oneOf_46 ?_
  refine xw_aload_n (pc := 49) dX6_oneOf_49 1 rfl ?_
  refine xw_dup (pc := 50) dX6_oneOf_50 rfl ?_
  refine xm_getN (k := p) (pc := 51) hM fd_X6_259 dX6_oneOf_51 (by rfl) ?_
  refine xw_aload_n (pc := 54) dX6_oneOf_54 1 rfl ?_
  refine xm_getN (k := 1) (pc := 55) hM fd_X6_255 dX6_oneOf_55 (by first | rfl | (simp [mset, mcpy]; done)) ?_
  refine xw_if_eq (pc := 58) 65 dX6_oneOf_58 rfl (fun hb => absurd hb (by decide)) (fun _ => ?_)
  refine xw_iconst (v := nI 0) (pc := 61) dX6_oneOf_61 rfl ?_
  refine xw_goto (pc := 62) 66 dX6_oneOf_62 rfl ?_
  refine xn_iadd (pc := 66) dX6_oneOf_66 ?_
  refine xm_putI (pc := 67) hM fd_X6_259 (xfin_of (by decide) (by decide +kernel)) dX6_oneOf_67 ?_
  refine xw_iload_n (pc := 70) dX6_oneOf_70 0 rfl ?_
  refine xw_iret (pc := 71) .int dX6_oneOf_71 rfl ?_ 
  rw [show mset (mset (rdS S false p) 0 24 (nI 1)) 0 23 (nI (p + 0)) = rdS S true p from by rw [show mset (rdS S false p) 0 24 (nI 1) = rdS S true p from rdS_w1, rdS_p]; rfl]
  exact ⟨rfl, rfl⟩
theorem SP_X6_oneOf_y {d : Nat} {g : xG} {m : Nat} {S : xMS} (hM : xMod g m) {i : Nat} (hi : i = 8 ∨ i = 9 ∨ i = 10) (hSC : xSC g) {k : Nat} {ln p : Nat} {ch : Nat → Nat} (hl : S 0 22 = nI ln) (hln : ln ≤ 60) (hch : ∀ j, j < ln → S 12 j = nI (ch j) ∧ ch j < 65536) (hp : p ≤ ln) (h : p < ln) (hx : fIx (gD (xTxt i)) (ch p) (xTxt i).length 0 = some k) : XM M_X6_oneOf (d + 4) [.ref m, .ref ((xE g).2.2.1 (10 + i))] (xWith g m (rdS S false p)) (xOne (some (.int (nI k))) (xWith g m (rdS S false (p + 1)))) := by
  have hcs : ∀ j, j < ln → ch j < 65536 := fun j hj => (hch j hj).2
  have hci : ∀ j, j < ln → ∀ w q, rdS S w q 12 j = nI (ch j) := fun j hj w q => by rw [rdS_q (by decide)]; exact (hch j hj).1
  obtain ⟨sv, hST, -, -⟩ := (hSC.with (S := rdS S false p) hM) i (by omega)
  obtain ⟨tl1, tl2, tl3⟩ := txt_ok hi
  have hk := fIx_lt _ _ _ hx
  refine xm_of (by decide +kernel) (Nat.le_of_ble_eq_true rfl) ?_
  show XW _ _ 0 [(0, _), (1, _)] [] _ _
  refine xw_aload_n (pc := 0) dX6_oneOf_0 0 rfl ?_
  refine xm_getB (b := false) (pc := 1) hM fd_X6_255 dX6_oneOf_1 (by rfl) ?_
  refine xw_if_ne (pc := 4) 34 dX6_oneOf_4 rfl (fun hb => absurd hb (by decide)) (fun _ => ?_)
  refine xw_aload_n (pc := 7) dX6_oneOf_7 0 rfl ?_
  refine xm_getN (k := p) (pc := 8) hM fd_X6_259 dX6_oneOf_8 (by rfl) ?_
  refine xw_aload_n (pc := 11) dX6_oneOf_11 0 rfl ?_
  refine xm_getN (k := ln) (pc := 12) hM fd_X6_252 dX6_oneOf_12 (by exact (rdS_0 (by decide) (by decide)).trans hl) ?_
  refine xw_icmp_ge (pc := 15) 34 dX6_oneOf_15 rfl (fun hb15 => ?_) (fun hb15 => ?_)
  · exfalso
    replace hb15 : ln ≤ p := (nI_leI (a := ln) (b := p) (by omega) (by omega)).mp hb15
    omega
  replace hb15 : ¬ (ln ≤ p) := mt (nI_leI (a := ln) (b := p) (by omega) (by omega)).mpr hb15
  refine xw_aload_n (pc := 18) dX6_oneOf_18 1 rfl ?_
  refine xw_aload_n (pc := 19) dX6_oneOf_19 0 rfl ?_
  refine xm_get (p := 12) (pc := 20) hM fd_X6_52 dX6_oneOf_20 rfl ?_
  refine xw_aload_n (pc := 23) dX6_oneOf_23 0 rfl ?_
  refine xm_getN (k := p) (pc := 24) hM fd_X6_259 dX6_oneOf_24 (by rfl) ?_
  refine xm_cald (pc := 27) hM dX6_oneOf_27 rfl (by omega) ?_
  rw [hci p h _ _]
  refine xw_callV (pc := 28) (xr_V (as := [_]) ok_J9_indexOf rfl (by decide) q2685 q2023 q2024 (by rw [show xtag (xWith g m (rdS S false p)) ((xE g).2.2.1 (10 + i)) = 20 from hST.1]; rfl) (by rw [show xtag (xWith g m (rdS S false p)) ((xE g).2.2.1 (10 + i)) = 20 from hST.1]; rfl) dX6_oneOf_28 rfl rfl (Nat.le_of_ble_eq_true rfl)) (SP_J9_indexOf hST (by omega) tl2 tl3 (hcs p h)) ?_
  rw [hx, show ixV (some k) = nI k from rfl]
  refine xw_goto (pc := 31) 35 dX6_oneOf_31 rfl ?_
  refine xw_istore_n (l' := [(2, _), (0, _), (1, _)]) (pc := 35) dX6_oneOf_35 rfl (by decide) rfl ?_
  refine xw_aload_n (pc := 36) dX6_oneOf_36 1 rfl ?_
  refine xw_iload_n (pc := 37) dX6_oneOf_37 0 rfl ?_
  refine xw_if_ge (pc := 38) 45 dX6_oneOf_38 rfl (fun hb38 => ?_) (fun hb38 => ?_)
  rotate_left
  · exfalso
    replace hb38 : ¬ (0 ≤ k) := mt (nI_leI (a := 0) (b := k) (by omega) (by omega)).mpr hb38
    omega
  replace hb38 : 0 ≤ k := (nI_leI (a := 0) (b := k) (by omega) (by omega)).mp hb38
  refine xw_iconst (v := nI 0) (pc := 45) dX6_oneOf_45 rfl ?_
  refine xm_putI (pc := 46) hM fd_X6_255 (xfin_of (by decide) (by decide +kernel)) dX6_oneOf_46 ?_
  refine xw_aload_n (pc := 49) dX6_oneOf_49 1 rfl ?_
  refine xw_dup (pc := 50) dX6_oneOf_50 rfl ?_
  refine xm_getN (k := p) (pc := 51) hM fd_X6_259 dX6_oneOf_51 (by rfl) ?_
  refine xw_aload_n (pc := 54) dX6_oneOf_54 1 rfl ?_
  refine xm_getN (k := 0) (pc := 55) hM fd_X6_255 dX6_oneOf_55 (by first | rfl | (simp [mset, mcpy]; done)) ?_
  refine xw_if_eq (pc := 58) 65 dX6_oneOf_58 rfl (fun _ => ?_) (fun hb => absurd hb (by decide))
  refine xw_iconst (v := nI 1) (pc := 65) dX6_oneOf_65 rfl ?_
  refine xn_iadd (pc := 66) dX6_oneOf_66 ?_
  refine xm_putI (pc := 67) hM fd_X6_259 (xfin_of (by decide) (by decide +kernel)) dX6_oneOf_67 ?_
  refine xw_iload_n (pc := 70) dX6_oneOf_70 0 rfl ?_
  refine xw_iret (pc := 71) .int dX6_oneOf_71 rfl ?_ 
  rw [show mset (mset (rdS S false p) 0 24 (nI 0)) 0 23 (nI (p + 1)) = rdS S false (p + 1) from by rw [show mset (rdS S false p) 0 24 (nI 0) = rdS S false p from rdS_w0, rdS_p]]
  exact ⟨rfl, rfl⟩
theorem SP_X6_oneOf_F {d : Nat} {g : xG} {m : Nat} {S : xMS} (hM : xMod g m) {w : Bool} {i : Nat} (hi : i = 8 ∨ i = 9 ∨ i = 10) (hSC : xSC g) {ln p : Nat} {ch : Nat → Nat} (hl : S 0 22 = nI ln) (hln : ln ≤ 60) (hch : ∀ j, j < ln → S 12 j = nI (ch j) ∧ ch j < 65536) (hp : p ≤ ln) (h : r1o ln ch w p i = none) : XM M_X6_oneOf (d + 4) [.ref m, .ref ((xE g).2.2.1 (10 + i))] (xWith g m (rdS S w p)) (xOne (some (.int (-1))) (xWith g m (rdS S true p))) := by
  unfold r1o at h
  cases w
  · by_cases hq : p < ln
    · rw [if_pos ⟨rfl, hq⟩] at h
      exact SP_X6_oneOf_x hM hi hSC hl hln hch hp hq h
    · exact SP_X6_oneOf_n hM hi hSC hl hln hch hp hq
  · exact SP_X6_oneOf_w hM hi hSC hl hln hch hp
theorem SP_X6_oneOf_T {d : Nat} {g : xG} {m : Nat} {S : xMS} (hM : xMod g m) {w : Bool} {k : Nat} {i : Nat} (hi : i = 8 ∨ i = 9 ∨ i = 10) (hSC : xSC g) {ln p : Nat} {ch : Nat → Nat} (hl : S 0 22 = nI ln) (hln : ln ≤ 60) (hch : ∀ j, j < ln → S 12 j = nI (ch j) ∧ ch j < 65536) (hp : p ≤ ln) (h : r1o ln ch w p i = some k) : XM M_X6_oneOf (d + 4) [.ref m, .ref ((xE g).2.2.1 (10 + i))] (xWith g m (rdS S w p)) (xOne (some (.int (nI k))) (xWith g m (rdS S false (p + 1)))) := by
  unfold r1o at h
  cases w
  · by_cases hq : p < ln
    · rw [if_pos ⟨rfl, hq⟩] at h
      exact SP_X6_oneOf_y hM hi hSC hl hln hch hp hq h
    · rw [if_neg (fun e => hq e.2)] at h; cases h
  · rw [if_neg (fun e => by cases e.1)] at h; cases h
theorem lp_X6_number {d : Nat} {g : xG} {m : Nat} {S : xMS} (hM : xMod g m) {ln : Nat} {ch : Nat → Nat} (hl : S 0 22 = nI ln) (hln : ln ≤ 60) (hch : ∀ j, j < ln → S 12 j = nI (ch j) ∧ ch j < 65536) : ∀ (k j v p : Nat), j + k = 3 → p ≤ ln → XW M_X6_number (d + 3) 7 [(2, .int (nI j)), (1, .int (nI v)), (0, .ref m)] [] (xWith g m (rdS S false p)) (xOne (some (.int (nI (rNs ln ch k v p).1))) (xWith g m (rdS S false (rNs ln ch k v p).2))) := by
  intro k
  induction k with
  | zero =>
    intro j v p hik hp
    refine xw_iload_n (pc := 7) dX6_number_7 0 rfl ?_
    refine xw_iconst (v := nI 3) (pc := 8) dX6_number_8 rfl ?_
    refine xw_icmp_ge (pc := 9) 39 dX6_number_9 rfl (fun hb9 => ?_) (fun hb9 => ?_)
    rotate_left
    · exfalso
      replace hb9 : ¬ (3 ≤ j) := mt (nI_leI (a := 3) (b := j) (by omega) (by omega)).mpr hb9
      omega
    replace hb9 : 3 ≤ j := (nI_leI (a := 3) (b := j) (by omega) (by omega)).mp hb9
    refine xw_iload_n (pc := 39) dX6_number_39 1 rfl ?_
    refine xw_iret (pc := 40) .int dX6_number_40 rfl ?_ 
    exact ⟨rfl, rfl⟩
  | succ k ih =>
    intro j v p hik hp
    have SH := SP_X6_isHere (d := d + 1) (w := false) hM (a := 48) (b := 57) (by decide) (by decide) hl hln hch hp
    unfold rNs
    by_cases h : hIn ln ch p 48 57 = true
    · rw [if_pos h]
      have hq := of_decide_eq_true h
      rw [h] at SH
      refine xw_iload_n (pc := 7) dX6_number_7 0 rfl ?_
      refine xw_iconst (v := nI 3) (pc := 8) dX6_number_8 rfl ?_
      refine xw_icmp_ge (pc := 9) 39 dX6_number_9 rfl (fun hb9 => ?_) (fun hb9 => ?_)
      · exfalso
        replace hb9 : 3 ≤ j := (nI_leI (a := 3) (b := j) (by omega) (by omega)).mp hb9
        omega
      replace hb9 : ¬ (3 ≤ j) := mt (nI_leI (a := 3) (b := j) (by omega) (by omega)).mpr hb9
      refine xw_aload_n (pc := 12) dX6_number_12 2 rfl ?_
      refine xw_bipush (v := nI 48) (pc := 13) dX6_number_13 (by decide +kernel) ?_
      refine xw_bipush (v := nI 57) (pc := 15) dX6_number_15 (by decide +kernel) ?_
      refine xw_callV (pc := 17) (xr_V (as := [_, _]) ok_X6_isHere rfl (by decide) q2694 q2696 qs86 (by rw [xtag_with, hM.1]; rfl) (by rw [xtag_with, hM.1]; rfl) dX6_number_17 rfl rfl (Nat.le_of_ble_eq_true rfl)) ((show XM M_X6_isHere (d + 2) [.ref m, .int (nI 48), .int (nI 57)] (xWith g m (rdS S false p)) (xOne (some (.int (bI true))) (xWith g m (rdS S false p))) from SH)) ?_
      refine xw_if_eq (pc := 20) 39 dX6_number_20 rfl (fun hb => absurd hb (by decide)) (fun _ => ?_)
      refine xw_bipush (v := nI 10) (pc := 23) dX6_number_23 (by decide +kernel) ?_
      refine xw_iload_n (pc := 25) dX6_number_25 1 rfl ?_
      refine xn_imul (pc := 26) dX6_number_26 ?_
      refine xw_aload_n (pc := 27) dX6_number_27 2 rfl ?_
      refine xw_callV (pc := 28) (xr_V (as := []) ok_X6_digit rfl (by decide) q2690 q2692 qs85 (by rw [xtag_with, hM.1]; rfl) (by rw [xtag_with, hM.1]; rfl) dX6_number_28 rfl rfl (Nat.le_of_ble_eq_true rfl)) (SP_X6_digit_T (w := false) hM hl hln hch hp h) ?_
      refine xn_iadd (pc := 31) dX6_number_31 ?_
      refine xw_istore_n (l' := [(1, _), (2, _), (0, _)]) (pc := 32) dX6_number_32 rfl (by decide) rfl ?_
      refine xw_iinc (v := nI (j + 1)) (l' := [(2, _), (1, _), (0, _)]) (pc := 33) dX6_number_33 1 rfl (nI_add _ 1) (by decide) rfl ?_
      refine xw_goto (pc := 36) 7 dX6_number_36 rfl ?_
      exact ih (j + 1) (10 * v + (ch p - 48)) (p + 1) (by omega) (by omega)
    · rw [if_neg h]
      replace h := Bool.eq_false_iff.mpr h
      rw [h] at SH
      refine xw_iload_n (pc := 7) dX6_number_7 0 rfl ?_
      refine xw_iconst (v := nI 3) (pc := 8) dX6_number_8 rfl ?_
      refine xw_icmp_ge (pc := 9) 39 dX6_number_9 rfl (fun hb9 => ?_) (fun hb9 => ?_)
      · exfalso
        replace hb9 : 3 ≤ j := (nI_leI (a := 3) (b := j) (by omega) (by omega)).mp hb9
        omega
      replace hb9 : ¬ (3 ≤ j) := mt (nI_leI (a := 3) (b := j) (by omega) (by omega)).mpr hb9
      refine xw_aload_n (pc := 12) dX6_number_12 2 rfl ?_
      refine xw_bipush (v := nI 48) (pc := 13) dX6_number_13 (by decide +kernel) ?_
      refine xw_bipush (v := nI 57) (pc := 15) dX6_number_15 (by decide +kernel) ?_
      refine xw_callV (pc := 17) (xr_V (as := [_, _]) ok_X6_isHere rfl (by decide) q2694 q2696 qs86 (by rw [xtag_with, hM.1]; rfl) (by rw [xtag_with, hM.1]; rfl) dX6_number_17 rfl rfl (Nat.le_of_ble_eq_true rfl)) ((show XM M_X6_isHere (d + 2) [.ref m, .int (nI 48), .int (nI 57)] (xWith g m (rdS S false p)) (xOne (some (.int (bI false))) (xWith g m (rdS S false p))) from SH)) ?_
      refine xw_if_eq (pc := 20) 39 dX6_number_20 rfl (fun _ => ?_) (fun hb => absurd hb (by decide))
      refine xw_iload_n (pc := 39) dX6_number_39 1 rfl ?_
      refine xw_iret (pc := 40) .int dX6_number_40 rfl ?_ 
      exact ⟨rfl, rfl⟩
theorem SP_X6_number_T {d : Nat} {g : xG} {m : Nat} {S : xMS} (hM : xMod g m) {w : Bool} {ln p : Nat} {ch : Nat → Nat} (hl : S 0 22 = nI ln) (hln : ln ≤ 60) (hch : ∀ j, j < ln → S 12 j = nI (ch j) ∧ ch j < 65536) (hp : p ≤ ln) (h : (!w && hIn ln ch p 48 57) = true) : XM M_X6_number (d + 3) [.ref m] (xWith g m (rdS S w p)) (xOne (some (.int (nI (rNs ln ch 2 (ch p - 48) (p + 1)).1))) (xWith g m (rdS S false (rNs ln ch 2 (ch p - 48) (p + 1)).2))) := by
  have hcs : ∀ j, j < ln → ch j < 65536 := fun j hj => (hch j hj).2
  have hci : ∀ j, j < ln → ∀ w q, rdS S w q 12 j = nI (ch j) := fun j hj w q => by rw [rdS_q (by decide)]; exact (hch j hj).1
  have hI : hIn ln ch p 48 57 = true := by
    cases w
    · exact h
    · cases h
  have hq := of_decide_eq_true hI
  refine xm_of (by decide +kernel) (Nat.le_of_ble_eq_true rfl) ?_
  show XW _ _ 0 [(0, _)] [] _ _
  refine xw_aload_n (pc := 0) dX6_number_0 0 rfl ?_
  refine xw_callV (pc := 1) (xr_V (as := []) ok_X6_digit rfl (by decide) q2690 q2692 qs85 (by rw [xtag_with, hM.1]; rfl) (by rw [xtag_with, hM.1]; rfl) dX6_number_1 rfl rfl (Nat.le_of_ble_eq_true rfl)) (SP_X6_digit_T hM hl hln hch hp h) ?_
  refine xw_istore_n (l' := [(1, _), (0, _)]) (pc := 4) dX6_number_4 rfl (by decide) rfl ?_
  refine xw_iconst (v := nI 1) (pc := 5) dX6_number_5 rfl ?_
  refine xw_istore_n (l' := [(2, _), (1, _), (0, _)]) (pc := 6) dX6_number_6 rfl (by decide) rfl ?_
  exact lp_X6_number hM hl hln hch 2 1 (ch p - 48) (p + 1) rfl (by omega)
theorem SP_X6_number_F {d : Nat} {g : xG} {m : Nat} {S : xMS} (hM : xMod g m) {w : Bool} {ln p : Nat} {ch : Nat → Nat} (hl : S 0 22 = nI ln) (hln : ln ≤ 60) (hch : ∀ j, j < ln → S 12 j = nI (ch j) ∧ ch j < 65536) (hp : p ≤ ln) (h : (!w && hIn ln ch p 48 57) = false) : XM M_X6_number (d + 3) [.ref m] (xWith g m (rdS S w p)) (xOne (some (.int (nI 0))) (xWith g m (rdS S true p))) := by
  have hcs : ∀ j, j < ln → ch j < 65536 := fun j hj => (hch j hj).2
  have hci : ∀ j, j < ln → ∀ w q, rdS S w q 12 j = nI (ch j) := fun j hj w q => by rw [rdS_q (by decide)]; exact (hch j hj).1
  have SH := SP_X6_isHere (d := d + 1) (w := true) hM (a := 48) (b := 57) (by decide) (by decide) hl hln hch hp
  refine xm_of (by decide +kernel) (Nat.le_of_ble_eq_true rfl) ?_
  show XW _ _ 0 [(0, _)] [] _ _
  refine xw_aload_n (pc := 0) dX6_number_0 0 rfl ?_
  refine xw_callV (pc := 1) (xr_V (as := []) ok_X6_digit rfl (by decide) q2690 q2692 qs85 (by rw [xtag_with, hM.1]; rfl) (by rw [xtag_with, hM.1]; rfl) dX6_number_1 rfl rfl (Nat.le_of_ble_eq_true rfl)) (SP_X6_digit_F hM hl hln hch hp h) ?_
  refine xw_istore_n (l' := [(1, _), (0, _)]) (pc := 4) dX6_number_4 rfl (by decide) rfl ?_
  refine xw_iconst (v := nI 1) (pc := 5) dX6_number_5 rfl ?_
  refine xw_istore_n (l' := [(2, _), (1, _), (0, _)]) (pc := 6) dX6_number_6 rfl (by decide) rfl ?_
  refine xw_iload_n (pc := 7) dX6_number_7 0 rfl ?_
  refine xw_iconst (v := nI 3) (pc := 8) dX6_number_8 rfl ?_
  refine xw_icmp_ge (pc := 9) 39 dX6_number_9 rfl (fun hb => absurd hb (by decide)) (fun _ => ?_)
  refine xw_aload_n (pc := 12) dX6_number_12 2 rfl ?_
  refine xw_bipush (v := nI 48) (pc := 13) dX6_number_13 (by decide +kernel) ?_
  refine xw_bipush (v := nI 57) (pc := 15) dX6_number_15 (by decide +kernel) ?_
  refine xw_callV (pc := 17) (xr_V (as := [_, _]) ok_X6_isHere rfl (by decide) q2694 q2696 qs86 (by rw [xtag_with, hM.1]; rfl) (by rw [xtag_with, hM.1]; rfl) dX6_number_17 rfl rfl (Nat.le_of_ble_eq_true rfl)) ((show XM M_X6_isHere (d + 2) [.ref m, .int (nI 48), .int (nI 57)] (xWith g m (rdS S true p)) (xOne (some (.int (bI false))) (xWith g m (rdS S true p))) from SH)) ?_
  refine xw_if_eq (pc := 20) 39 dX6_number_20 rfl (fun _ => ?_) (fun hb => absurd hb (by decide))
  refine xw_iload_n (pc := 39) dX6_number_39 1 rfl ?_
  refine xw_iret (pc := 40) .int dX6_number_40 rfl ?_ 
  exact ⟨rfl, rfl⟩
