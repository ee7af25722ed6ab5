/-! MODEL 17: the reference reads days and rank -/
set_option maxRecDepth 100000
theorem hIn_hIs {ln p c : Nat} {ch : Nat → Nat} : hIn ln ch p c c = hIs ln ch p c := by
  unfold hIn hIs
  congr 1
  exact propext ⟨fun e => ⟨e.1, by omega⟩, fun e => ⟨e.1, by omega, by omega⟩⟩
/-- the fields read -/
def mFd (S : xMS) (e o : Option Nat) (s : Nat) (T : List xT3) (f l k : Nat) : Prop := S 0 26 = effV e ∧ S 0 27 = ofV o ∧ S 0 28 = nI s ∧ S 0 29 = nI f ∧ S 0 30 = nI l ∧ S 0 31 = nI k ∧ mTs S T
theorem mFd.end_ {g : xG} {m ln p : Nat} {S : xMS} {e o : Option Nat} {s f l k : Nat} {T : List xT3} (h : mFd S e o s T f l k) (hp : p ≤ ln) : xMR g m S ln (rEn ln p (e, o, s, T, f, l, k)) (.inl none) (xWith g m (rdS S false p)) := by
  obtain ⟨a1, a2, a3, a4, a5, a6, a7, a8⟩ := h
  refine ⟨rfl, S, false, p, rfl, mAl.rf, hp, ?_⟩
  unfold rEn
  by_cases hq : p = ln
  · rw [if_pos hq]
    exact ⟨rfl, hq, a1, a2, a3, a4, a5, a6, a7, a8⟩
  · rw [if_neg hq]
    exact ⟨Or.inr hq, rfl⟩
theorem mFd.k {S : xMS} {e o : Option Nat} {s f l k v : Nat} {T : List xT3} (h : mFd S e o s T f l k) : mFd (mset S 0 31 (nI v)) e o s T f l v := by
  obtain ⟨a1, a2, a3, a4, a5, a6, a7, a8⟩ := h
  exact ⟨a1, a2, a3, a4, a5, rfl, a7, a8⟩
theorem mFd.l {S : xMS} {e o : Option Nat} {s f l k v : Nat} {T : List xT3} (h : mFd S e o s T f l k) : mFd (mset S 0 30 (nI v)) e o s T f v k := by
  obtain ⟨a1, a2, a3, a4, a5, a6, a7, a8⟩ := h
  exact ⟨a1, a2, a3, a4, rfl, a6, a7, a8⟩
theorem mFd.f {S : xMS} {e o : Option Nat} {s f l k v : Nat} {T : List xT3} (h : mFd S e o s T f l k) : mFd (mset S 0 29 (nI v)) e o s T v l k := by
  obtain ⟨a1, a2, a3, a4, a5, a6, a7, a8⟩ := h
  exact ⟨a1, a2, a3, rfl, a5, a6, a7, a8⟩

theorem rw_158 {d : Nat} {g : xG} {m : Nat} {S : xMS} (hM : xMod g m) (hSC : xSC g) {ln p : Nat} {ch : Nat → Nat} (hl : S 0 22 = nI ln) (hln : ln ≤ 60) (hch : ∀ j, j < ln → S 12 j = nI (ch j) ∧ ch j < 65536) (hp : p ≤ ln) : XW M_X6_readRule (d + 6) 158 [(0, .ref m)] [] (xWith g m (rdS S true p)) (xMW g m S p) := by
  refine xw_aload_n (pc := 158) dX6_readRule_158 0 rfl ?_
  refine xw_aload_n (pc := 159) dX6_readRule_159 0 rfl ?_
  refine xw_callV (pc := 160) (xr_V (as := []) ok_X6_number rfl (by decide) q2686 q2688 qs84 (by rw [xtag_with, hM.1]; rfl) (by rw [xtag_with, hM.1]; rfl) dX6_readRule_160 rfl rfl (Nat.le_of_ble_eq_true rfl)) (SP_X6_number_F (w := true) hM hl hln hch hp rfl) ?_
  refine xm_putI (pc := 163) hM fd_X6_306 (xfin_of (by decide) (by decide +kernel)) dX6_readRule_163 ?_
  rw [rdS_m (Or.inr ⟨by decide, by decide⟩)]
  refine (rw_166 (S := (mset S 0 30 (nI 0))) hM hSC (mAl.l (mAl.st (j := 30) (v := nI 0) mAl.rf (by decide)) hl) hln (mAl.c (mAl.st (j := 30) (v := nI 0) mAl.rf (by decide)) hch) hp).mono (fun rs g' h9 _ => ?_)
  obtain ⟨e1, S9, e2, e3⟩ := h9
  exact ⟨e1, S9, e2, (mAl.st (j := 30) (v := nI 0) mAl.rf (by decide)).tr e3⟩
theorem rw_152 {d : Nat} {g : xG} {m : Nat} {S : xMS} (hM : xMod g m) (hSC : xSC g) {ln p : Nat} {ch : Nat → Nat} (hl : S 0 22 = nI ln) (hln : ln ≤ 60) (hch : ∀ j, j < ln → S 12 j = nI (ch j) ∧ ch j < 65536) (hp : p ≤ ln) : XW M_X6_readRule (d + 6) 152 [(0, .ref m)] [] (xWith g m (rdS S true p)) (xMW g m S p) := by
  refine xw_aload_n (pc := 152) dX6_readRule_152 0 rfl ?_
  refine xw_bipush (v := nI 45) (pc := 153) dX6_readRule_153 (by decide +kernel) ?_
  refine xw_callU (pc := 155) (xr_V (as := [_]) ok_X6_sign rfl (by decide) q2698 q2700 qs87 (by rw [xtag_with, hM.1]; rfl) (by rw [xtag_with, hM.1]; rfl) dX6_readRule_155 rfl rfl (Nat.le_of_ble_eq_true rfl)) (SP_X6_sign_F (w := true) (c := 45) hM (by decide) hl hln hch hp rfl) ?_
  exact rw_158 hM hSC hl hln hch hp
theorem rw_72 {d : Nat} {g : xG} {m : Nat} {S : xMS} (hM : xMod g m) (hSC : xSC g) {ln p : Nat} {ch : Nat → Nat} (hl : S 0 22 = nI ln) (hln : ln ≤ 60) (hch : ∀ j, j < ln → S 12 j = nI (ch j) ∧ ch j < 65536) (hp : p ≤ ln) : XW M_X6_readRule (d + 6) 72 [(0, .ref m)] [] (xWith g m (rdS S true p)) (xMW g m S p) := by
  refine xw_aload_n (pc := 72) dX6_readRule_72 0 rfl ?_
  refine xw_bipush (v := nI 44) (pc := 73) dX6_readRule_73 (by decide +kernel) ?_
  refine xw_bipush (v := nI 44) (pc := 75) dX6_readRule_75 (by decide +kernel) ?_
  refine xw_callV (pc := 77) (xr_V (as := [_, _]) ok_X6_isHere rfl (by decide) q2694 q2696 qs86 (by rw [xtag_with, hM.1]; rfl) (by rw [xtag_with, hM.1]; rfl) dX6_readRule_77 rfl rfl (Nat.le_of_ble_eq_true rfl)) ((show XM M_X6_isHere (d + 5) [.ref m, .int (nI 44), .int (nI 44)] (xWith g m (rdS S true p)) (xOne (some (.int (bI false))) (xWith g m (rdS S true p))) from SP_X6_isHere (d := d + 4) (w := true) hM (by decide) (by decide) hl hln hch hp)) ?_
  refine xw_if_eq (pc := 80) 100 dX6_readRule_80 rfl (fun _ => ?_) (fun hb => absurd hb (by decide))
  exact rw_100 hM hSC hl hln hch hp
theorem rn_166_0 {d : Nat} {g : xG} {m : Nat} {S : xMS} (hM : xMod g m) (hSC : xSC g) {ln p : Nat} {ch : Nat → Nat} (hl : S 0 22 = nI ln) (hln : ln ≤ 60) (hch : ∀ j, j < ln → S 12 j = nI (ch j) ∧ ch j < 65536) (hp : p ≤ ln) {e o : Option Nat} {s f l : Nat} {T : List xT3} (hF : mFd S e o s T f l 0) (h : hIs ln ch p 33 = false) : XW M_X6_readRule (d + 6) 166 [(0, .ref m)] [] (xWith g m (rdS S false p)) (xMR g m S ln (rRk ln ch p e o s T f l)) := by
  unfold rRk
  rw [if_neg (Bool.eq_false_iff.mp h)]
  refine xw_aload_n (pc := 166) dX6_readRule_166 0 rfl ?_
  refine xw_bipush (v := nI 33) (pc := 167) dX6_readRule_167 (by decide +kernel) ?_
  refine xw_bipush (v := nI 33) (pc := 169) dX6_readRule_169 (by decide +kernel) ?_
  refine xw_callV (pc := 171) (xr_V (as := [_, _]) ok_X6_isHere rfl (by decide) q2694 q2696 qs86 (by rw [xtag_with, hM.1]; rfl) (by rw [xtag_with, hM.1]; rfl) dX6_readRule_171 rfl rfl (Nat.le_of_ble_eq_true rfl)) ((show XM M_X6_isHere (d + 5) [.ref m, .int (nI 33), .int (nI 33)] (xWith g m (rdS S false p)) (xOne (some (.int (bI false))) (xWith g m (rdS S false p))) from by have h9 := SP_X6_isHere (d := d + 4) (w := false) (a := 33) (b := 33) hM (by decide) (by decide) hl hln hch hp; rw [hIn_hIs, h] at h9; exact h9)) ?_
  refine xw_if_eq (pc := 174) 195 dX6_readRule_174 rfl (fun _ => ?_) (fun hb => absurd hb (by decide))
  refine xw_vret (pc := 195) dX6_readRule_195 rfl ?_
  exact hF.end_ hp
theorem rn_166_1 {d : Nat} {g : xG} {m : Nat} {S : xMS} (hM : xMod g m) (hSC : xSC g) {ln p : Nat} {ch : Nat → Nat} (hl : S 0 22 = nI ln) (hln : ln ≤ 60) (hch : ∀ j, j < ln → S 12 j = nI (ch j) ∧ ch j < 65536) (hp : p ≤ ln) {e o : Option Nat} {s f l : Nat} {T : List xT3} (hF : mFd S e o s T f l 0) (h : hIs ln ch p 33 = true) (hi : hIn ln ch (p + 1) 48 57 = false) : XW M_X6_readRule (d + 6) 166 [(0, .ref m)] [] (xWith g m (rdS S false p)) (xMR g m S ln (rRk ln ch p e o s T f l)) := by
  unfold rRk
  rw [if_pos h, if_neg (Bool.eq_false_iff.mp hi)]
  have hpn := (of_decide_eq_true h).1
  refine xw_aload_n (pc := 166) dX6_readRule_166 0 rfl ?_
  refine xw_bipush (v := nI 33) (pc := 167) dX6_readRule_167 (by decide +kernel) ?_
  refine xw_bipush (v := nI 33) (pc := 169) dX6_readRule_169 (by decide +kernel) ?_
  refine xw_callV (pc := 171) (xr_V (as := [_, _]) ok_X6_isHere rfl (by decide) q2694 q2696 qs86 (by rw [xtag_with, hM.1]; rfl) (by rw [xtag_with, hM.1]; rfl) dX6_readRule_171 rfl rfl (Nat.le_of_ble_eq_true rfl)) ((show XM M_X6_isHere (d + 5) [.ref m, .int (nI 33), .int (nI 33)] (xWith g m (rdS S false p)) (xOne (some (.int (bI true))) (xWith g m (rdS S false p))) from by have h9 := SP_X6_isHere (d := d + 4) (w := false) (a := 33) (b := 33) hM (by decide) (by decide) hl hln hch hp; rw [hIn_hIs, h] at h9; exact h9)) ?_
  refine xw_if_eq (pc := 174) 195 dX6_readRule_174 rfl (fun hb => absurd hb (by decide)) (fun _ => ?_)
  refine xw_aload_n (pc := 177) dX6_readRule_177 0 rfl ?_
  refine xw_dup (pc := 178) dX6_readRule_178 rfl ?_
  refine xm_getN (k := p) (pc := 179) hM fd_X6_259 dX6_readRule_179 (by rfl) ?_
  refine xw_iconst (v := nI 1) (pc := 182) dX6_readRule_182 rfl ?_
  refine xn_iadd (pc := 183) dX6_readRule_183 ?_
  refine xm_putI (pc := 184) hM fd_X6_259 (xfin_of (by decide) (by decide +kernel)) dX6_readRule_184 ?_
  rw [show mset (rdS S false p) 0 23 (nI (p + 1)) = rdS S false (p + 1) from rdS_p]
  refine xw_aload_n (pc := 187) dX6_readRule_187 0 rfl ?_
  refine xw_aload_n (pc := 188) dX6_readRule_188 0 rfl ?_
  refine xw_callV (pc := 189) (xr_V (as := []) ok_X6_digit rfl (by decide) q2690 q2692 qs85 (by rw [xtag_with, hM.1]; rfl) (by rw [xtag_with, hM.1]; rfl) dX6_readRule_189 rfl rfl (Nat.le_of_ble_eq_true rfl)) (SP_X6_digit_F (w := false) hM hl hln hch (by omega) hi) ?_
  refine xm_putI (pc := 192) hM fd_X6_309 (xfin_of (by decide) (by decide +kernel)) dX6_readRule_192 ?_
  refine xw_vret (pc := 195) dX6_readRule_195 rfl ?_
  rw [rdS_m (Or.inr ⟨by decide, by decide⟩)]
  exact xMW.r ⟨rfl, _, rfl, mAl.rf⟩ (mAl.st (j := 31) (v := nI 0) mAl.rf (by decide)) (by omega)
theorem rn_166_2 {d : Nat} {g : xG} {m : Nat} {S : xMS} (hM : xMod g m) (hSC : xSC g) {ln p : Nat} {ch : Nat → Nat} (hl : S 0 22 = nI ln) (hln : ln ≤ 60) (hch : ∀ j, j < ln → S 12 j = nI (ch j) ∧ ch j < 65536) (hp : p ≤ ln) {e o : Option Nat} {s f l : Nat} {T : List xT3} (hF : mFd S e o s T f l 0) (h : hIs ln ch p 33 = true) (hi : hIn ln ch (p + 1) 48 57 = true) : XW M_X6_readRule (d + 6) 166 [(0, .ref m)] [] (xWith g m (rdS S false p)) (xMR g m S ln (rRk ln ch p e o s T f l)) := by
  unfold rRk
  rw [if_pos h, if_pos hi]
  have hpn := (of_decide_eq_true h).1
  refine xw_aload_n (pc := 166) dX6_readRule_166 0 rfl ?_
  refine xw_bipush (v := nI 33) (pc := 167) dX6_readRule_167 (by decide +kernel) ?_
  refine xw_bipush (v := nI 33) (pc := 169) dX6_readRule_169 (by decide +kernel) ?_
  refine xw_callV (pc := 171) (xr_V (as := [_, _]) ok_X6_isHere rfl (by decide) q2694 q2696 qs86 (by rw [xtag_with, hM.1]; rfl) (by rw [xtag_with, hM.1]; rfl) dX6_readRule_171 rfl rfl (Nat.le_of_ble_eq_true rfl)) ((show XM M_X6_isHere (d + 5) [.ref m, .int (nI 33), .int (nI 33)] (xWith g m (rdS S false p)) (xOne (some (.int (bI true))) (xWith g m (rdS S false p))) from by have h9 := SP_X6_isHere (d := d + 4) (w := false) (a := 33) (b := 33) hM (by decide) (by decide) hl hln hch hp; rw [hIn_hIs, h] at h9; exact h9)) ?_
  refine xw_if_eq (pc := 174) 195 dX6_readRule_174 rfl (fun hb => absurd hb (by decide)) (fun _ => ?_)
  refine xw_aload_n (pc := 177) dX6_readRule_177 0 rfl ?_
  refine xw_dup (pc := 178) dX6_readRule_178 rfl ?_
  refine xm_getN (k := p) (pc := 179) hM fd_X6_259 dX6_readRule_179 (by rfl) ?_
  refine xw_iconst (v := nI 1) (pc := 182) dX6_readRule_182 rfl ?_
  refine xn_iadd (pc := 183) dX6_readRule_183 ?_
  refine xm_putI (pc := 184) hM fd_X6_259 (xfin_of (by decide) (by decide +kernel)) dX6_readRule_184 ?_
  rw [show mset (rdS S false p) 0 23 (nI (p + 1)) = rdS S false (p + 1) from rdS_p]
  refine xw_aload_n (pc := 187) dX6_readRule_187 0 rfl ?_
  refine xw_aload_n (pc := 188) dX6_readRule_188 0 rfl ?_
  refine xw_callV (pc := 189) (xr_V (as := []) ok_X6_digit rfl (by decide) q2690 q2692 qs85 (by rw [xtag_with, hM.1]; rfl) (by rw [xtag_with, hM.1]; rfl) dX6_readRule_189 rfl rfl (Nat.le_of_ble_eq_true rfl)) (SP_X6_digit_T (w := false) hM hl hln hch (by omega) hi) ?_
  refine xm_putI (pc := 192) hM fd_X6_309 (xfin_of (by decide) (by decide +kernel)) dX6_readRule_192 ?_
  refine xw_vret (pc := 195) dX6_readRule_195 rfl ?_
  rw [rdS_m (Or.inr ⟨by decide, by decide⟩)]
  exact xMR.al (hF.k.end_ (by have := (of_decide_eq_true hi).1; omega)) (mAl.st (j := 31) (v := nI (ch (p + 1) - 48)) mAl.rf (by decide))
theorem rn_166 {d : Nat} {g : xG} {m : Nat} {S : xMS} (hM : xMod g m) (hSC : xSC g) {ln p : Nat} {ch : Nat → Nat} (hl : S 0 22 = nI ln) (hln : ln ≤ 60) (hch : ∀ j, j < ln → S 12 j = nI (ch j) ∧ ch j < 65536) (hp : p ≤ ln) {e o : Option Nat} {s f l : Nat} {T : List xT3} (hF : mFd S e o s T f l 0) : XW M_X6_readRule (d + 6) 166 [(0, .ref m)] [] (xWith g m (rdS S false p)) (xMR g m S ln (rRk ln ch p e o s T f l)) := by
  by_cases h : hIs ln ch p 33 = true
  · by_cases hi : hIn ln ch (p + 1) 48 57 = true
    · exact rn_166_2 hM hSC hl hln hch hp hF h hi
    · exact rn_166_1 hM hSC hl hln hch hp hF h (Bool.eq_false_iff.mpr hi)
  · exact rn_166_0 hM hSC hl hln hch hp hF (Bool.eq_false_iff.mpr h)
theorem rn_152_0 {d : Nat} {g : xG} {m : Nat} {S : xMS} (hM : xMod g m) (hSC : xSC g) {ln p : Nat} {ch : Nat → Nat} (hl : S 0 22 = nI ln) (hln : ln ≤ 60) (hch : ∀ j, j < ln → S 12 j = nI (ch j) ∧ ch j < 65536) (hp : p ≤ ln) {e o : Option Nat} {s f : Nat} {T : List xT3} (hF : mFd S e o s T f 999 0) (h : hIs ln ch p 45 = false) : XW M_X6_readRule (d + 6) 152 [(0, .ref m)] [] (xWith g m (rdS S false p)) (xMR g m S ln (rLa ln ch p e o s T f)) := by
  unfold rLa
  rw [if_neg (Bool.eq_false_iff.mp h)]
  refine xw_aload_n (pc := 152) dX6_readRule_152 0 rfl ?_
  refine xw_bipush (v := nI 45) (pc := 153) dX6_readRule_153 (by decide +kernel) ?_
  refine xw_callU (pc := 155) (xr_V (as := [_]) ok_X6_sign rfl (by decide) q2698 q2700 qs87 (by rw [xtag_with, hM.1]; rfl) (by rw [xtag_with, hM.1]; rfl) dX6_readRule_155 rfl rfl (Nat.le_of_ble_eq_true rfl)) (SP_X6_sign_F (w := false) (c := 45) hM (by decide) hl hln hch hp h) ?_
  exact (rw_158 hM hSC hl hln hch hp).mono (fun _ _ h9 _ => h9.r mAl.rf hp)
theorem rn_152_1 {d : Nat} {g : xG} {m : Nat} {S : xMS} (hM : xMod g m) (hSC : xSC g) {ln p : Nat} {ch : Nat → Nat} (hl : S 0 22 = nI ln) (hln : ln ≤ 60) (hch : ∀ j, j < ln → S 12 j = nI (ch j) ∧ ch j < 65536) (hp : p ≤ ln) {e o : Option Nat} {s f : Nat} {T : List xT3} (hF : mFd S e o s T f 999 0) (h : hIs ln ch p 45 = true) (hi : hIn ln ch (p + 1) 48 57 = false) : XW M_X6_readRule (d + 6) 152 [(0, .ref m)] [] (xWith g m (rdS S false p)) (xMR g m S ln (rLa ln ch p e o s T f)) := by
  unfold rLa
  rw [if_pos h, if_neg (Bool.eq_false_iff.mp hi)]
  have hpn := (of_decide_eq_true h).1
  refine xw_aload_n (pc := 152) dX6_readRule_152 0 rfl ?_
  refine xw_bipush (v := nI 45) (pc := 153) dX6_readRule_153 (by decide +kernel) ?_
  refine xw_callU (pc := 155) (xr_V (as := [_]) ok_X6_sign rfl (by decide) q2698 q2700 qs87 (by rw [xtag_with, hM.1]; rfl) (by rw [xtag_with, hM.1]; rfl) dX6_readRule_155 rfl rfl (Nat.le_of_ble_eq_true rfl)) (SP_X6_sign_T (w := false) (c := 45) hM (by decide) hl hln hch hp h) ?_
  refine xw_aload_n (pc := 158) dX6_readRule_158 0 rfl ?_
  refine xw_aload_n (pc := 159) dX6_readRule_159 0 rfl ?_
  refine xw_callV (pc := 160) (xr_V (as := []) ok_X6_number rfl (by decide) q2686 q2688 qs84 (by rw [xtag_with, hM.1]; rfl) (by rw [xtag_with, hM.1]; rfl) dX6_readRule_160 rfl rfl (Nat.le_of_ble_eq_true rfl)) (SP_X6_number_F (w := false) hM hl hln hch (by omega) hi) ?_
  refine xm_putI (pc := 163) hM fd_X6_306 (xfin_of (by decide) (by decide +kernel)) dX6_readRule_163 ?_
  rw [rdS_m (Or.inr ⟨by decide, by decide⟩)]
  exact (rw_166 (S := (mset S 0 30 (nI 0))) hM hSC (mAl.l (mAl.st (j := 30) (v := nI 0) mAl.rf (by decide)) hl) hln (mAl.c (mAl.st (j := 30) (v := nI 0) mAl.rf (by decide)) hch) (by omega)).mono (fun _ _ h9 _ => h9.r (mAl.st (j := 30) (v := nI 0) mAl.rf (by decide)) (by omega))
theorem rn_152_2 {d : Nat} {g : xG} {m : Nat} {S : xMS} (hM : xMod g m) (hSC : xSC g) {ln p : Nat} {ch : Nat → Nat} (hl : S 0 22 = nI ln) (hln : ln ≤ 60) (hch : ∀ j, j < ln → S 12 j = nI (ch j) ∧ ch j < 65536) (hp : p ≤ ln) {e o : Option Nat} {s f : Nat} {T : List xT3} (hF : mFd S e o s T f 999 0) (h : hIs ln ch p 45 = true) (hi : hIn ln ch (p + 1) 48 57 = true) : XW M_X6_readRule (d + 6) 152 [(0, .ref m)] [] (xWith g m (rdS S false p)) (xMR g m S ln (rLa ln ch p e o s T f)) := by
  unfold rLa
  rw [if_pos h, if_pos hi]
  have hpn := (of_decide_eq_true h).1
  have hpi := (of_decide_eq_true hi).1
  have hNl := rNs_le (n := ln) (ch := ch) 2 (ch (p + 1) - 48) (p + 1 + 1) (by omega)
  refine xw_aload_n (pc := 152) dX6_readRule_152 0 rfl ?_
  refine xw_bipush (v := nI 45) (pc := 153) dX6_readRule_153 (by decide +kernel) ?_
  refine xw_callU (pc := 155) (xr_V (as := [_]) ok_X6_sign rfl (by decide) q2698 q2700 qs87 (by rw [xtag_with, hM.1]; rfl) (by rw [xtag_with, hM.1]; rfl) dX6_readRule_155 rfl rfl (Nat.le_of_ble_eq_true rfl)) (SP_X6_sign_T (w := false) (c := 45) hM (by decide) hl hln hch hp h) ?_
  refine xw_aload_n (pc := 158) dX6_readRule_158 0 rfl ?_
  refine xw_aload_n (pc := 159) dX6_readRule_159 0 rfl ?_
  refine xw_callV (pc := 160) (xr_V (as := []) ok_X6_number rfl (by decide) q2686 q2688 qs84 (by rw [xtag_with, hM.1]; rfl) (by rw [xtag_with, hM.1]; rfl) dX6_readRule_160 rfl rfl (Nat.le_of_ble_eq_true rfl)) (SP_X6_number_T (w := false) hM hl hln hch (by omega) hi) ?_
  refine xm_putI (pc := 163) hM fd_X6_306 (xfin_of (by decide) (by decide +kernel)) dX6_readRule_163 ?_
  rw [rdS_m (Or.inr ⟨by decide, by decide⟩)]
  exact (rn_166 (S := (mset S 0 30 (nI (rNs ln ch 2 (ch (p + 1) - 48) (p + 1 + 1)).1))) hM hSC (mAl.l (mAl.st (j := 30) (v := nI (rNs ln ch 2 (ch (p + 1) - 48) (p + 1 + 1)).1) mAl.rf (by decide)) hl) hln (mAl.c (mAl.st (j := 30) (v := nI (rNs ln ch 2 (ch (p + 1) - 48) (p + 1 + 1)).1) mAl.rf (by decide)) hch) hNl.2 hF.l).mono (fun _ _ h9 _ => h9.al (mAl.st (j := 30) (v := nI (rNs ln ch 2 (ch (p + 1) - 48) (p + 1 + 1)).1) mAl.rf (by decide)))
theorem rn_152 {d : Nat} {g : xG} {m : Nat} {S : xMS} (hM : xMod g m) (hSC : xSC g) {ln p : Nat} {ch : Nat → Nat} (hl : S 0 22 = nI ln) (hln : ln ≤ 60) (hch : ∀ j, j < ln → S 12 j = nI (ch j) ∧ ch j < 65536) (hp : p ≤ ln) {e o : Option Nat} {s f : Nat} {T : List xT3} (hF : mFd S e o s T f 999 0) : XW M_X6_readRule (d + 6) 152 [(0, .ref m)] [] (xWith g m (rdS S false p)) (xMR g m S ln (rLa ln ch p e o s T f)) := by
  by_cases h : hIs ln ch p 45 = true
  · by_cases hi : hIn ln ch (p + 1) 48 57 = true
    · exact rn_152_2 hM hSC hl hln hch hp hF h hi
    · exact rn_152_1 hM hSC hl hln hch hp hF h (Bool.eq_false_iff.mpr hi)
  · exact rn_152_0 hM hSC hl hln hch hp hF (Bool.eq_false_iff.mpr h)
theorem rn_123_0 {d : Nat} {g : xG} {m : Nat} {S : xMS} (hM : xMod g m) (hSC : xSC g) {ln p : Nat} {ch : Nat → Nat} (hl : S 0 22 = nI ln) (hln : ln ≤ 60) (hch : ∀ j, j < ln → S 12 j = nI (ch j) ∧ ch j < 65536) (hp : p ≤ ln) {e o : Option Nat} {s : Nat} {T : List xT3} (hF : mFd S e o s T 0 999 0) (h : hIs ln ch p 64 = false) : XW M_X6_readRule (d + 6) 123 [(0, .ref m)] [] (xWith g m (rdS S false p)) (xMR g m S ln (rDy ln ch p e o s T)) := by
  unfold rDy
  rw [if_neg (Bool.eq_false_iff.mp h)]
  refine xw_aload_n (pc := 123) dX6_readRule_123 0 rfl ?_
  refine xw_bipush (v := nI 64) (pc := 124) dX6_readRule_124 (by decide +kernel) ?_
  refine xw_bipush (v := nI 64) (pc := 126) dX6_readRule_126 (by decide +kernel) ?_
  refine xw_callV (pc := 128) (xr_V (as := [_, _]) ok_X6_isHere rfl (by decide) q2694 q2696 qs86 (by rw [xtag_with, hM.1]; rfl) (by rw [xtag_with, hM.1]; rfl) dX6_readRule_128 rfl rfl (Nat.le_of_ble_eq_true rfl)) ((show XM M_X6_isHere (d + 5) [.ref m, .int (nI 64), .int (nI 64)] (xWith g m (rdS S false p)) (xOne (some (.int (bI false))) (xWith g m (rdS S false p))) from by have h9 := SP_X6_isHere (d := d + 4) (w := false) (a := 64) (b := 64) hM (by decide) (by decide) hl hln hch hp; rw [hIn_hIs, h] at h9; exact h9)) ?_
  refine xw_if_eq (pc := 131) 166 dX6_readRule_131 rfl (fun _ => ?_) (fun hb => absurd hb (by decide))
  exact rn_166 hM hSC hl hln hch hp hF
theorem rn_123_1 {d : Nat} {g : xG} {m : Nat} {S : xMS} (hM : xMod g m) (hSC : xSC g) {ln p : Nat} {ch : Nat → Nat} (hl : S 0 22 = nI ln) (hln : ln ≤ 60) (hch : ∀ j, j < ln → S 12 j = nI (ch j) ∧ ch j < 65536) (hp : p ≤ ln) {e o : Option Nat} {s : Nat} {T : List xT3} (hF : mFd S e o s T 0 999 0) (h : hIs ln ch p 64 = true) (hi : hIn ln ch (p + 1) 48 57 = false) : XW M_X6_readRule (d + 6) 123 [(0, .ref m)] [] (xWith g m (rdS S false p)) (xMR g m S ln (rDy ln ch p e o s T)) := by
  unfold rDy
  rw [if_pos h, if_neg (Bool.eq_false_iff.mp hi)]
  have hpn := (of_decide_eq_true h).1
  refine xw_aload_n (pc := 123) dX6_readRule_123 0 rfl ?_
  refine xw_bipush (v := nI 64) (pc := 124) dX6_readRule_124 (by decide +kernel) ?_
  refine xw_bipush (v := nI 64) (pc := 126) dX6_readRule_126 (by decide +kernel) ?_
  refine xw_callV (pc := 128) (xr_V (as := [_, _]) ok_X6_isHere rfl (by decide) q2694 q2696 qs86 (by rw [xtag_with, hM.1]; rfl) (by rw [xtag_with, hM.1]; rfl) dX6_readRule_128 rfl rfl (Nat.le_of_ble_eq_true rfl)) ((show XM M_X6_isHere (d + 5) [.ref m, .int (nI 64), .int (nI 64)] (xWith g m (rdS S false p)) (xOne (some (.int (bI true))) (xWith g m (rdS S false p))) from by have h9 := SP_X6_isHere (d := d + 4) (w := false) (a := 64) (b := 64) hM (by decide) (by decide) hl hln hch hp; rw [hIn_hIs, h] at h9; exact h9)) ?_
  refine xw_if_eq (pc := 131) 166 dX6_readRule_131 rfl (fun hb => absurd hb (by decide)) (fun _ => ?_)
  refine xw_aload_n (pc := 134) dX6_readRule_134 0 rfl ?_
  refine xw_dup (pc := 135) dX6_readRule_135 rfl ?_
  refine xm_getN (k := p) (pc := 136) hM fd_X6_259 dX6_readRule_136 (by rfl) ?_
  refine xw_iconst (v := nI 1) (pc := 139) dX6_readRule_139 rfl ?_
  refine xn_iadd (pc := 140) dX6_readRule_140 ?_
  refine xm_putI (pc := 141) hM fd_X6_259 (xfin_of (by decide) (by decide +kernel)) dX6_readRule_141 ?_
  rw [show mset (rdS S false p) 0 23 (nI (p + 1)) = rdS S false (p + 1) from rdS_p]
  refine xw_aload_n (pc := 144) dX6_readRule_144 0 rfl ?_
  refine xw_aload_n (pc := 145) dX6_readRule_145 0 rfl ?_
  refine xw_callV (pc := 146) (xr_V (as := []) ok_X6_number rfl (by decide) q2686 q2688 qs84 (by rw [xtag_with, hM.1]; rfl) (by rw [xtag_with, hM.1]; rfl) dX6_readRule_146 rfl rfl (Nat.le_of_ble_eq_true rfl)) (SP_X6_number_F (w := false) hM hl hln hch (by omega) hi) ?_
  refine xm_putI (pc := 149) hM fd_X6_303 (xfin_of (by decide) (by decide +kernel)) dX6_readRule_149 ?_
  rw [rdS_m (Or.inr ⟨by decide, by decide⟩)]
  exact (rw_152 (S := (mset S 0 29 (nI 0))) hM hSC (mAl.l (mAl.st (j := 29) (v := nI 0) mAl.rf (by decide)) hl) hln (mAl.c (mAl.st (j := 29) (v := nI 0) mAl.rf (by decide)) hch) (by omega)).mono (fun _ _ h9 _ => h9.r (mAl.st (j := 29) (v := nI 0) mAl.rf (by decide)) (by omega))
theorem rn_123_2 {d : Nat} {g : xG} {m : Nat} {S : xMS} (hM : xMod g m) (hSC : xSC g) {ln p : Nat} {ch : Nat → Nat} (hl : S 0 22 = nI ln) (hln : ln ≤ 60) (hch : ∀ j, j < ln → S 12 j = nI (ch j) ∧ ch j < 65536) (hp : p ≤ ln) {e o : Option Nat} {s : Nat} {T : List xT3} (hF : mFd S e o s T 0 999 0) (h : hIs ln ch p 64 = true) (hi : hIn ln ch (p + 1) 48 57 = true) : XW M_X6_readRule (d + 6) 123 [(0, .ref m)] [] (xWith g m (rdS S false p)) (xMR g m S ln (rDy ln ch p e o s T)) := by
  unfold rDy
  rw [if_pos h, if_pos hi]
  have hpn := (of_decide_eq_true h).1
  have hpi := (of_decide_eq_true hi).1
  have hNl := rNs_le (n := ln) (ch := ch) 2 (ch (p + 1) - 48) (p + 1 + 1) (by omega)
  refine xw_aload_n (pc := 123) dX6_readRule_123 0 rfl ?_
  refine xw_bipush (v := nI 64) (pc := 124) dX6_readRule_124 (by decide +kernel) ?_
  refine xw_bipush (v := nI 64) (pc := 126) dX6_readRule_126 (by decide +kernel) ?_
  refine xw_callV (pc := 128) (xr_V (as := [_, _]) ok_X6_isHere rfl (by decide) q2694 q2696 qs86 (by rw [xtag_with, hM.1]; rfl) (by rw [xtag_with, hM.1]; rfl) dX6_readRule_128 rfl rfl (Nat.le_of_ble_eq_true rfl)) ((show XM M_X6_isHere (d + 5) [.ref m, .int (nI 64), .int (nI 64)] (xWith g m (rdS S false p)) (xOne (some (.int (bI true))) (xWith g m (rdS S false p))) from by have h9 := SP_X6_isHere (d := d + 4) (w := false) (a := 64) (b := 64) hM (by decide) (by decide) hl hln hch hp; rw [hIn_hIs, h] at h9; exact h9)) ?_
  refine xw_if_eq (pc := 131) 166 dX6_readRule_131 rfl (fun hb => absurd hb (by decide)) (fun _ => ?_)
  refine xw_aload_n (pc := 134) dX6_readRule_134 0 rfl ?_
  refine xw_dup (pc := 135) dX6_readRule_135 rfl ?_
  refine xm_getN (k := p) (pc := 136) hM fd_X6_259 dX6_readRule_136 (by rfl) ?_
  refine xw_iconst (v := nI 1) (pc := 139) dX6_readRule_139 rfl ?_
  refine xn_iadd (pc := 140) dX6_readRule_140 ?_
  refine xm_putI (pc := 141) hM fd_X6_259 (xfin_of (by decide) (by decide +kernel)) dX6_readRule_141 ?_
  rw [show mset (rdS S false p) 0 23 (nI (p + 1)) = rdS S false (p + 1) from rdS_p]
  refine xw_aload_n (pc := 144) dX6_readRule_144 0 rfl ?_
  refine xw_aload_n (pc := 145) dX6_readRule_145 0 rfl ?_
  refine xw_callV (pc := 146) (xr_V (as := []) ok_X6_number rfl (by decide) q2686 q2688 qs84 (by rw [xtag_with, hM.1]; rfl) (by rw [xtag_with, hM.1]; rfl) dX6_readRule_146 rfl rfl (Nat.le_of_ble_eq_true rfl)) (SP_X6_number_T (w := false) hM hl hln hch (by omega) hi) ?_
  refine xm_putI (pc := 149) hM fd_X6_303 (xfin_of (by decide) (by decide +kernel)) dX6_readRule_149 ?_
  rw [rdS_m (Or.inr ⟨by decide, by decide⟩)]
  exact (rn_152 (S := (mset S 0 29 (nI (rNs ln ch 2 (ch (p + 1) - 48) (p + 1 + 1)).1))) hM hSC (mAl.l (mAl.st (j := 29) (v := nI (rNs ln ch 2 (ch (p + 1) - 48) (p + 1 + 1)).1) mAl.rf (by decide)) hl) hln (mAl.c (mAl.st (j := 29) (v := nI (rNs ln ch 2 (ch (p + 1) - 48) (p + 1 + 1)).1) mAl.rf (by decide)) hch) hNl.2 hF.f).mono (fun _ _ h9 _ => h9.al (mAl.st (j := 29) (v := nI (rNs ln ch 2 (ch (p + 1) - 48) (p + 1 + 1)).1) mAl.rf (by decide)))
theorem rn_123 {d : Nat} {g : xG} {m : Nat} {S : xMS} (hM : xMod g m) (hSC : xSC g) {ln p : Nat} {ch : Nat → Nat} (hl : S 0 22 = nI ln) (hln : ln ≤ 60) (hch : ∀ j, j < ln → S 12 j = nI (ch j) ∧ ch j < 65536) (hp : p ≤ ln) {e o : Option Nat} {s : Nat} {T : List xT3} (hF : mFd S e o s T 0 999 0) : XW M_X6_readRule (d + 6) 123 [(0, .ref m)] [] (xWith g m (rdS S false p)) (xMR g m S ln (rDy ln ch p e o s T)) := by
  by_cases h : hIs ln ch p 64 = true
  · by_cases hi : hIn ln ch (p + 1) 48 57 = true
    · exact rn_123_2 hM hSC hl hln hch hp hF h hi
    · exact rn_123_1 hM hSC hl hln hch hp hF h (Bool.eq_false_iff.mpr hi)
  · exact rn_123_0 hM hSC hl hln hch hp hF (Bool.eq_false_iff.mpr h)
