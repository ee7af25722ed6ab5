/-! LAW 12: the law's cases -/
set_option maxRecDepth 100000
/-- the law's method -/
abbrev M_L_law : xM := (⟨"PolicyNotationLaw", "law", "([I)Z"⟩, cL_law, 9, (Option.some FieldType.boolean), [])
theorem jR.val {M : xM} {d : Nat} {as : List Value} {h : xG} {m : Nat} {g1 : xG} {b : Value} {c : Nat} {S' : xMS} (k : XM M d as h (jR m g1 b c S')) : XM M d as h (xVal b (fun h' => ∃ g2 T, h' = xWith g2 m T ∧ xAg2 S' T ∧ T 0 6 = nI c ∧ xMod g2 m ∧ xM3 g2 m ∧ xFr o313 1000 g1 g2)) := k.mono (fun _ _ h _ => h)
theorem lg_s {v : Int64} : lg_cmp v.toUInt64.toInt64 v = 0 := by
  have e : v.toUInt64.toInt64 = v := by simp
  rw [e]
  unfold lg_cmp
  rw [if_neg (by simp), if_pos rfl]
theorem i2c_n (v : Int32) : ∃ c, c < 65536 ∧ (v.toUInt32 % 65536).toInt32 = nI c := by
  refine ⟨(v.toUInt32 % 65536).toNat, ?_, ?_⟩
  · rw [UInt32.toNat_mod]
    exact Nat.mod_lt _ (by decide)
  · rw [nI_ofNat]
    apply Int32.toBitVec_inj.mp
    apply BitVec.eq_of_toNat_eq
    simp
    show v.toBitVec.toNat % 65536 = v.toBitVec.toNat % 65536 % 4294967296
    omega
theorem dcmp_self {v : UInt64} (h : dZ v) : Op.cmpValue (FP.dcmp v v) .l = 0 := by
  have hc : ∀ a : Int, compare a a = .eq := fun a => by
    show compareOfLessAndEq a a = .eq
    unfold compareOfLessAndEq
    rw [if_neg (by omega), if_pos rfl]
  have e : FP.dcmp v v = some .eq := by
    show FP.Core.order (FP.Core.decode FP.Core.b64 v.toNat) (FP.Core.decode FP.Core.b64 v.toNat) = some .eq
    have hd := h.dec
    generalize FP.Core.decode FP.Core.b64 v.toNat = dd at hd ⊢
    cases dd with
    | nan => exact hd.elim
    | inf s => exact congrArg some (hc _)
    | fin s c q => exact congrArg some (hc _)
  rw [e]
  rfl
theorem xEqv.ti {g h : xG} (e : xEqv g h) : (∀ b, xtag g b = xtag h b) ∧ (∀ b, xlen g b = xlen h b) ∧ ∀ b j, xi g b j = xi h b j := ⟨fun b => congrArg (fun z : xCell => z.1) (e.2.2.2 b), fun b => congrArg (fun z : xCell => z.2.2.1) (e.2.2.2 b), fun b j => congrArg (fun z : xCell => z.2.2.2.1 j) (e.2.2.2 b)⟩

theorem LC_scope {d : Nat} {x m out outD sc len : Nat} {scr : Nat → Int32} {h : xG} {S : xMS} {i : Nat} (hJ : xJ x m out outD sc len scr h S) (hi : i + 6 ≤ len) (hl : len ≤ 144) {Q : Option Value ⊕ Nat → xG → Prop} (k : ∀ h' S', xJ x m out outD sc len scr h' S' → xsz h' + xsl h' ≤ xsz h + xsl h + 46100 → XW M_L_law (d + 92) 3272 [(0, .ref sc), (1, .ref x), (2, .ref m), (3, .ref out), (4, .ref outD), (5, .int (nI i))] [] h' Q) : XW M_L_law (d + 92) 236 [(0, .ref sc), (1, .ref x), (2, .ref m), (3, .ref out), (4, .ref outD), (5, .int (nI i))] [] h Q := by
  obtain ⟨p_, lk_, fa_, ka_, la_, Z_, n_, rr_, ww_, dq_, da_, hh_, ps_, sv_, hp_⟩ := hJ.1.1.p
  have hx : xtag h x = 1 := hp_.M.tx
  have c1 := hJ.2.2.2.2.1
  have c3 := hJ.2.2.2.2.2.2.1
  have c4 := hJ.2.2.2.2.2.2.2
  have oo := hJ.2.2.1
  have oD := hJ.2.2.2.1
  obtain ⟨c, b, S', hc, hP, hR, hW⟩ := W_scope (out := out) hJ.1.1 hJ.1.2 hx oo (p0 := scr (i + 1))
  refine xw_aload_n (pc := 236) dL_law_236 1 rfl ?_
  refine xw_aload_n (pc := 237) dL_law_237 0 rfl ?_
  refine xw_iload (pc := 238) dL_law_238 5 rfl ?_
  refine xw_iconst (v := nI 1) (pc := 240) dL_law_240 rfl ?_
  refine xn_iadd (pc := 241) dL_law_241 ?_
  refine xw_iald (k := (i + 1)) (pc := 242) dL_law_242 (by simp [-List.getD_eq_getElem?_getD, xE_setI, xsz_setI, xsl_setI, xtag_setI, xown_setI, xlen_setI, xE_setR, xsz_setR, xsl_setR, xtag_setR, xown_setR, xlen_setR, xE_setW, xsz_setW, xsl_setW, xtag_setW, xown_setW, xlen_setW, xi_setR, xi_setW, xr_setI, xr_setW, xww_setI, xww_setR, xi_setI, xr_setR, xww_setW, xE_new, xsz_new, xsl_new, hx, c1]) rfl (by rw [c3]; omega) ?_
  rw [c4 (i + 1) (by omega)]
  refine xw_aload_n (pc := 243) dL_law_243 3 rfl ?_
  refine xw_callF (pc := 244) (xr_SX (as := [_, _, _]) ok_X0_scope rfl (by decide) q1029 q1030 dL_law_244 rfl rfl (Nat.le_of_ble_eq_true rfl)) (hW d) ?_
  intro g1 hc1 hm1
  obtain ⟨st1, F1, w1⟩ := hc1
  refine xw_istore (l' := [(6, _), (0, _), (1, _), (2, _), (3, _), (4, _), (5, _)]) (pc := 247) dL_law_247 (by decide) rfl ?_
  obtain ⟨hK1, ⟨hM1, h31, he1⟩, ho1, hoD1, hs1⟩ := hJ.mid st1 F1 (by unfold oW; omega) (by unfold oW; omega)
  have tw1 : xtag (xWith g1 m S) sc = 101 := (he1.ti.1 sc).trans hs1.1
  have lw1 : xlen (xWith g1 m S) sc = len := (he1.ti.2.1 sc).trans hs1.2.2.1
  have iw1 : ∀ j, j < len → xi (xWith g1 m S) sc j = scr j := fun j hj => (he1.ti.2.2 sc j).trans (hs1.2.2.2 j hj)
  refine XW.eqv he1.symm ?_
  refine xw_aload_n (pc := 249) dL_law_249 3 rfl ?_
  refine xw_aload_n (pc := 250) dL_law_250 1 rfl ?_
  refine xw_iload (pc := 251) dL_law_251 6 rfl ?_
  refine xw_iconst (v := nI 1) (pc := 253) dL_law_253 rfl ?_
  refine xn_iadd (pc := 254) dL_law_254 ?_
  refine xw_iald (k := (i + 1)) (pc := 255) dL_law_255 (by simp [-List.getD_eq_getElem?_getD, xE_setI, xsz_setI, xsl_setI, xtag_setI, xown_setI, xlen_setI, xE_setR, xsz_setR, xsl_setR, xtag_setR, xown_setR, xlen_setR, xE_setW, xsz_setW, xsl_setW, xtag_setW, xown_setW, xlen_setW, xi_setR, xi_setW, xr_setI, xr_setW, xww_setI, xww_setR, xi_setI, xr_setR, xww_setW, xE_new, xsz_new, xsl_new, hx, c1, tw1]) rfl (by rw [lw1]; omega) ?_
  rw [iw1 (i + 1) (by omega)]
  refine xw_callF (pc := 256) (xr_V (as := [_]) ok_X6_scope rfl (by decide) q2356 q2357 q2358 (by rw [xtag_with]; first | (rw [hM1.1]; rfl) | (rw [hM3.1]; rfl)) (by rw [xtag_with]; first | (rw [hM1.1]; rfl) | (rw [hM3.1]; rfl)) dL_law_256 rfl rfl (Nat.le_of_ble_eq_true rfl)) (jR.val (hR (d + 1) g1 m hM1 h31 hK1)) ?_
  intro g2 hc2 hm2
  obtain ⟨g3, T, e3, ag, c6, hM3, h33, F3⟩ := hc2
  subst e3
  obtain ⟨hJ2, F4⟩ := xJ.done st1 hK1 ho1 hoD1 hs1 ag hM3 h33 F3
  have hsz : xsz (xWith g3 m T) + xsl (xWith g3 m T) ≤ xsz h + xsl h + 46100 := by
    have := F1.2.2.2.1
    have := F4.2.2.2.1
    omega
  have t2o := hJ2.2.2.1.1
  have t2D := hJ2.2.2.2.1.1
  refine xw_istore (l' := [(7, _), (6, _), (0, _), (1, _), (2, _), (3, _), (4, _), (5, _)]) (pc := 259) dL_law_259 (by decide) rfl ?_
  refine xw_aload_n (pc := 261) dL_law_261 4 rfl ?_
  refine xw_callV (pc := 262) (xr_V (as := []) ok_X6_thrown rfl (by decide) q2352 q2353 q2354 (by rw [xtag_with]; first | (rw [hM1.1]; rfl) | (rw [hM3.1]; rfl)) (by rw [xtag_with]; first | (rw [hM1.1]; rfl) | (rw [hM3.1]; rfl)) dL_law_262 rfl rfl (Nat.le_of_ble_eq_true rfl)) (by have z := SP_X6_thrown (d := d + 91) (S := T) hM3; rw [c6] at z; exact z) ?_
  refine xw_iload (pc := 265) dL_law_265 1 rfl ?_
  refine xw_icmp_eq (pc := 267) 272 dL_law_267 rfl (fun hb267 => ?_) (fun hb267 => ?_)
  rotate_left
  · exfalso
    replace hb267 : ¬ (c = c) := mt (nI_eq (a := c) (b := c) (by omega) (by omega)).mpr hb267
    omega
  replace hb267 : c = c := (nI_eq (a := c) (b := c) (by omega) (by omega)).mp hb267
  refine xw_iload (pc := 272) dL_law_272 1 rfl ?_
  refine xw_if_ne (pc := 274) 289 dL_law_274 rfl (fun hb274 => ?_) (fun hb274 => ?_)
  · replace hb274 : ¬ (c = 0) := mt (nI_eq (a := c) (b := 0) (by omega) (by omega)).mpr hb274
    refine xw_goto (pc := 289) 3272 dL_law_289 rfl ?_
    refine xw_pick (pc := 3272) (l' := [(0, _), (1, _), (2, _), (3, _), (4, _), (5, _)]) [2, 3, 4, 5, 6, 7] rfl ?_
    exact k _ _ hJ2 hsz
  · replace hb274 : c = 0 := (nI_eq (a := c) (b := 0) (by omega) (by omega)).mp hb274
    refine xw_aload_n (pc := 277) dL_law_277 5 rfl ?_
    refine xw_iconst (v := nI 0) (pc := 278) dL_law_278 rfl ?_
    have wE : xw (xWith g3 m T) out 0 = _ := (F4.w' (xlt (by rw [ho1.1]; decide)) (by rw [ho1.2.1]; unfold o313; omega)).trans (w1 hb274)
    refine xw_lald (k := 0) (pc := 279) dL_law_279 (by simp [-List.getD_eq_getElem?_getD, xE_setI, xsz_setI, xsl_setI, xtag_setI, xown_setI, xlen_setI, xE_setR, xsz_setR, xsl_setR, xtag_setR, xown_setR, xlen_setR, xE_setW, xsz_setW, xsl_setW, xtag_setW, xown_setW, xlen_setW, xi_setR, xi_setW, xr_setI, xr_setW, xww_setI, xww_setR, xi_setI, xr_setR, xww_setW, xE_new, xsz_new, xsl_new, hx, c1, tw1, t2o, t2D]) rfl (by rw [hJ2.2.2.1.2.2]; decide) ?_
    rw [wE]
    refine xw_iload (pc := 280) dL_law_280 0 rfl ?_
    refine xw_i2l (pc := 282) dL_law_282 ?_
    refine xw_lcmp (pc := 283) dL_law_283 rfl ?_
    refine xw_if_eq (pc := 284) 289 dL_law_284 rfl (fun hb284 => ?_) (fun hb284 => ?_)
    rotate_left
    · exfalso
      exact hb284 lg_s
    refine xw_goto (pc := 289) 3272 dL_law_289 rfl ?_
    refine xw_pick (pc := 3272) (l' := [(0, _), (1, _), (2, _), (3, _), (4, _), (5, _)]) [2, 3, 4, 5, 6, 7] rfl ?_
    exact k _ _ hJ2 hsz
theorem LC_setDefault {d : Nat} {x m out outD sc len : Nat} {scr : Nat → Int32} {h : xG} {S : xMS} {i : Nat} (hJ : xJ x m out outD sc len scr h S) (hi : i + 6 ≤ len) (hl : len ≤ 144) {Q : Option Value ⊕ Nat → xG → Prop} (k : ∀ h' S', xJ x m out outD sc len scr h' S' → xsz h' + xsl h' ≤ xsz h + xsl h + 46100 → XW M_L_law (d + 92) 3272 [(0, .ref sc), (1, .ref x), (2, .ref m), (3, .ref out), (4, .ref outD), (5, .int (nI i))] [] h' Q) : XW M_L_law (d + 92) 292 [(0, .ref sc), (1, .ref x), (2, .ref m), (3, .ref out), (4, .ref outD), (5, .int (nI i))] [] h Q := by
  obtain ⟨p_, lk_, fa_, ka_, la_, Z_, n_, rr_, ww_, dq_, da_, hh_, ps_, sv_, hp_⟩ := hJ.1.1.p
  have hx : xtag h x = 1 := hp_.M.tx
  have c1 := hJ.2.2.2.2.1
  have c3 := hJ.2.2.2.2.2.2.1
  have c4 := hJ.2.2.2.2.2.2.2
  have oo := hJ.2.2.1
  have oD := hJ.2.2.2.1
  obtain ⟨c, b, S', hc, hP, hR, hW⟩ := W_setDefault (out := out) hJ.1.1 hJ.1.2 hx oo (p0 := scr (i + 1)) (p1 := scr (i + 2))
  refine xw_aload_n (pc := 292) dL_law_292 1 rfl ?_
  refine xw_aload_n (pc := 293) dL_law_293 0 rfl ?_
  refine xw_iload (pc := 294) dL_law_294 5 rfl ?_
  refine xw_iconst (v := nI 1) (pc := 296) dL_law_296 rfl ?_
  refine xn_iadd (pc := 297) dL_law_297 ?_
  refine xw_iald (k := (i + 1)) (pc := 298) dL_law_298 (by simp [-List.getD_eq_getElem?_getD, xE_setI, xsz_setI, xsl_setI, xtag_setI, xown_setI, xlen_setI, xE_setR, xsz_setR, xsl_setR, xtag_setR, xown_setR, xlen_setR, xE_setW, xsz_setW, xsl_setW, xtag_setW, xown_setW, xlen_setW, xi_setR, xi_setW, xr_setI, xr_setW, xww_setI, xww_setR, xi_setI, xr_setR, xww_setW, xE_new, xsz_new, xsl_new, hx, c1]) rfl (by rw [c3]; omega) ?_
  rw [c4 (i + 1) (by omega)]
  refine xw_aload_n (pc := 299) dL_law_299 0 rfl ?_
  refine xw_iload (pc := 300) dL_law_300 5 rfl ?_
  refine xw_iconst (v := nI 2) (pc := 302) dL_law_302 rfl ?_
  refine xn_iadd (pc := 303) dL_law_303 ?_
  refine xw_iald (k := (i + 2)) (pc := 304) dL_law_304 (by simp [-List.getD_eq_getElem?_getD, xE_setI, xsz_setI, xsl_setI, xtag_setI, xown_setI, xlen_setI, xE_setR, xsz_setR, xsl_setR, xtag_setR, xown_setR, xlen_setR, xE_setW, xsz_setW, xsl_setW, xtag_setW, xown_setW, xlen_setW, xi_setR, xi_setW, xr_setI, xr_setW, xww_setI, xww_setR, xi_setI, xr_setR, xww_setW, xE_new, xsz_new, xsl_new, hx, c1]) rfl (by rw [c3]; omega) ?_
  rw [c4 (i + 2) (by omega)]
  refine xw_aload_n (pc := 305) dL_law_305 3 rfl ?_
  refine xw_callF (pc := 306) (xr_SX (as := [_, _, _, _]) ok_X0_setDefault rfl (by decide) q1172 q1173 dL_law_306 rfl rfl (Nat.le_of_ble_eq_true rfl)) (hW d) ?_
  intro g1 hc1 hm1
  obtain ⟨st1, F1, w1⟩ := hc1
  refine xw_istore (l' := [(6, _), (0, _), (1, _), (2, _), (3, _), (4, _), (5, _)]) (pc := 309) dL_law_309 (by decide) rfl ?_
  obtain ⟨hK1, ⟨hM1, h31, he1⟩, ho1, hoD1, hs1⟩ := hJ.mid st1 F1 (by unfold oW; omega) (by unfold oW; omega)
  have tw1 : xtag (xWith g1 m S) sc = 101 := (he1.ti.1 sc).trans hs1.1
  have lw1 : xlen (xWith g1 m S) sc = len := (he1.ti.2.1 sc).trans hs1.2.2.1
  have iw1 : ∀ j, j < len → xi (xWith g1 m S) sc j = scr j := fun j hj => (he1.ti.2.2 sc j).trans (hs1.2.2.2 j hj)
  refine XW.eqv he1.symm ?_
  refine xw_aload_n (pc := 311) dL_law_311 3 rfl ?_
  refine xw_aload_n (pc := 312) dL_law_312 1 rfl ?_
  refine xw_iload (pc := 313) dL_law_313 6 rfl ?_
  refine xw_iconst (v := nI 1) (pc := 315) dL_law_315 rfl ?_
  refine xn_iadd (pc := 316) dL_law_316 ?_
  refine xw_iald (k := (i + 1)) (pc := 317) dL_law_317 (by simp [-List.getD_eq_getElem?_getD, xE_setI, xsz_setI, xsl_setI, xtag_setI, xown_setI, xlen_setI, xE_setR, xsz_setR, xsl_setR, xtag_setR, xown_setR, xlen_setR, xE_setW, xsz_setW, xsl_setW, xtag_setW, xown_setW, xlen_setW, xi_setR, xi_setW, xr_setI, xr_setW, xww_setI, xww_setR, xi_setI, xr_setR, xww_setW, xE_new, xsz_new, xsl_new, hx, c1, tw1]) rfl (by rw [lw1]; omega) ?_
  rw [iw1 (i + 1) (by omega)]
  refine xw_aload_n (pc := 318) dL_law_318 1 rfl ?_
  refine xw_iload (pc := 319) dL_law_319 6 rfl ?_
  refine xw_iconst (v := nI 2) (pc := 321) dL_law_321 rfl ?_
  refine xn_iadd (pc := 322) dL_law_322 ?_
  refine xw_iald (k := (i + 2)) (pc := 323) dL_law_323 (by simp [-List.getD_eq_getElem?_getD, xE_setI, xsz_setI, xsl_setI, xtag_setI, xown_setI, xlen_setI, xE_setR, xsz_setR, xsl_setR, xtag_setR, xown_setR, xlen_setR, xE_setW, xsz_setW, xsl_setW, xtag_setW, xown_setW, xlen_setW, xi_setR, xi_setW, xr_setI, xr_setW, xww_setI, xww_setR, xi_setI, xr_setR, xww_setW, xE_new, xsz_new, xsl_new, hx, c1, tw1]) rfl (by rw [lw1]; omega) ?_
  rw [iw1 (i + 2) (by omega)]
  refine xw_callF (pc := 324) (xr_V (as := [_, _]) ok_X6_setDefault rfl (by decide) q2376 q2377 q2378 (by rw [xtag_with]; first | (rw [hM1.1]; rfl) | (rw [hM3.1]; rfl)) (by rw [xtag_with]; first | (rw [hM1.1]; rfl) | (rw [hM3.1]; rfl)) dL_law_324 rfl rfl (Nat.le_of_ble_eq_true rfl)) (jR.val (hR (d + 1) g1 m hM1 h31 hK1)) ?_
  intro g2 hc2 hm2
  obtain ⟨g3, T, e3, ag, c6, hM3, h33, F3⟩ := hc2
  subst e3
  obtain ⟨hJ2, F4⟩ := xJ.done st1 hK1 ho1 hoD1 hs1 ag hM3 h33 F3
  have hsz : xsz (xWith g3 m T) + xsl (xWith g3 m T) ≤ xsz h + xsl h + 46100 := by
    have := F1.2.2.2.1
    have := F4.2.2.2.1
    omega
  have t2o := hJ2.2.2.1.1
  have t2D := hJ2.2.2.2.1.1
  refine xw_istore (l' := [(7, _), (6, _), (0, _), (1, _), (2, _), (3, _), (4, _), (5, _)]) (pc := 327) dL_law_327 (by decide) rfl ?_
  refine xw_aload_n (pc := 329) dL_law_329 4 rfl ?_
  refine xw_callV (pc := 330) (xr_V (as := []) ok_X6_thrown rfl (by decide) q2352 q2353 q2354 (by rw [xtag_with]; first | (rw [hM1.1]; rfl) | (rw [hM3.1]; rfl)) (by rw [xtag_with]; first | (rw [hM1.1]; rfl) | (rw [hM3.1]; rfl)) dL_law_330 rfl rfl (Nat.le_of_ble_eq_true rfl)) (by have z := SP_X6_thrown (d := d + 91) (S := T) hM3; rw [c6] at z; exact z) ?_
  refine xw_iload (pc := 333) dL_law_333 1 rfl ?_
  refine xw_icmp_eq (pc := 335) 340 dL_law_335 rfl (fun hb335 => ?_) (fun hb335 => ?_)
  rotate_left
  · exfalso
    replace hb335 : ¬ (c = c) := mt (nI_eq (a := c) (b := c) (by omega) (by omega)).mpr hb335
    omega
  replace hb335 : c = c := (nI_eq (a := c) (b := c) (by omega) (by omega)).mp hb335
  refine xw_iload (pc := 340) dL_law_340 1 rfl ?_
  refine xw_if_ne (pc := 342) 357 dL_law_342 rfl (fun hb342 => ?_) (fun hb342 => ?_)
  · replace hb342 : ¬ (c = 0) := mt (nI_eq (a := c) (b := 0) (by omega) (by omega)).mpr hb342
    refine xw_goto (pc := 357) 3272 dL_law_357 rfl ?_
    refine xw_pick (pc := 3272) (l' := [(0, _), (1, _), (2, _), (3, _), (4, _), (5, _)]) [2, 3, 4, 5, 6, 7] rfl ?_
    exact k _ _ hJ2 hsz
  · replace hb342 : c = 0 := (nI_eq (a := c) (b := 0) (by omega) (by omega)).mp hb342
    refine xw_aload_n (pc := 345) dL_law_345 5 rfl ?_
    refine xw_iconst (v := nI 0) (pc := 346) dL_law_346 rfl ?_
    have wE : xw (xWith g3 m T) out 0 = _ := (F4.w' (xlt (by rw [ho1.1]; decide)) (by rw [ho1.2.1]; unfold o313; omega)).trans (w1 hb342)
    refine xw_lald (k := 0) (pc := 347) dL_law_347 (by simp [-List.getD_eq_getElem?_getD, xE_setI, xsz_setI, xsl_setI, xtag_setI, xown_setI, xlen_setI, xE_setR, xsz_setR, xsl_setR, xtag_setR, xown_setR, xlen_setR, xE_setW, xsz_setW, xsl_setW, xtag_setW, xown_setW, xlen_setW, xi_setR, xi_setW, xr_setI, xr_setW, xww_setI, xww_setR, xi_setI, xr_setR, xww_setW, xE_new, xsz_new, xsl_new, hx, c1, tw1, t2o, t2D]) rfl (by rw [hJ2.2.2.1.2.2]; decide) ?_
    rw [wE]
    refine xw_iload (pc := 348) dL_law_348 0 rfl ?_
    refine xw_i2l (pc := 350) dL_law_350 ?_
    refine xw_lcmp (pc := 351) dL_law_351 rfl ?_
    refine xw_if_eq (pc := 352) 357 dL_law_352 rfl (fun hb352 => ?_) (fun hb352 => ?_)
    rotate_left
    · exfalso
      exact hb352 lg_s
    refine xw_goto (pc := 357) 3272 dL_law_357 rfl ?_
    refine xw_pick (pc := 3272) (l' := [(0, _), (1, _), (2, _), (3, _), (4, _), (5, _)]) [2, 3, 4, 5, 6, 7] rfl ?_
    exact k _ _ hJ2 hsz
theorem LC_scopeOf {d : Nat} {x m out outD sc len : Nat} {scr : Nat → Int32} {h : xG} {S : xMS} {i : Nat} (hJ : xJ x m out outD sc len scr h S) (hi : i + 6 ≤ len) (hl : len ≤ 144) {Q : Option Value ⊕ Nat → xG → Prop} (k : ∀ h' S', xJ x m out outD sc len scr h' S' → xsz h' + xsl h' ≤ xsz h + xsl h + 46100 → XW M_L_law (d + 92) 3272 [(0, .ref sc), (1, .ref x), (2, .ref m), (3, .ref out), (4, .ref outD), (5, .int (nI i))] [] h' Q) : XW M_L_law (d + 92) 360 [(0, .ref sc), (1, .ref x), (2, .ref m), (3, .ref out), (4, .ref outD), (5, .int (nI i))] [] h Q := by
  obtain ⟨p_, lk_, fa_, ka_, la_, Z_, n_, rr_, ww_, dq_, da_, hh_, ps_, sv_, hp_⟩ := hJ.1.1.p
  have hx : xtag h x = 1 := hp_.M.tx
  have c1 := hJ.2.2.2.2.1
  have c3 := hJ.2.2.2.2.2.2.1
  have c4 := hJ.2.2.2.2.2.2.2
  have oo := hJ.2.2.1
  have oD := hJ.2.2.2.1
  obtain ⟨c, b, S', hc, hP, hR, hW⟩ := W_scopeOf (out := out) hJ.1.1 hJ.1.2 hx oo (p0 := scr (i + 1)) (p1 := scr (i + 2))
  refine xw_aload_n (pc := 360) dL_law_360 1 rfl ?_
  refine xw_aload_n (pc := 361) dL_law_361 0 rfl ?_
  refine xw_iload (pc := 362) dL_law_362 5 rfl ?_
  refine xw_iconst (v := nI 1) (pc := 364) dL_law_364 rfl ?_
  refine xn_iadd (pc := 365) dL_law_365 ?_
  refine xw_iald (k := (i + 1)) (pc := 366) dL_law_366 (by simp [-List.getD_eq_getElem?_getD, xE_setI, xsz_setI, xsl_setI, xtag_setI, xown_setI, xlen_setI, xE_setR, xsz_setR, xsl_setR, xtag_setR, xown_setR, xlen_setR, xE_setW, xsz_setW, xsl_setW, xtag_setW, xown_setW, xlen_setW, xi_setR, xi_setW, xr_setI, xr_setW, xww_setI, xww_setR, xi_setI, xr_setR, xww_setW, xE_new, xsz_new, xsl_new, hx, c1]) rfl (by rw [c3]; omega) ?_
  rw [c4 (i + 1) (by omega)]
  refine xw_aload_n (pc := 367) dL_law_367 0 rfl ?_
  refine xw_iload (pc := 368) dL_law_368 5 rfl ?_
  refine xw_iconst (v := nI 2) (pc := 370) dL_law_370 rfl ?_
  refine xn_iadd (pc := 371) dL_law_371 ?_
  refine xw_iald (k := (i + 2)) (pc := 372) dL_law_372 (by simp [-List.getD_eq_getElem?_getD, xE_setI, xsz_setI, xsl_setI, xtag_setI, xown_setI, xlen_setI, xE_setR, xsz_setR, xsl_setR, xtag_setR, xown_setR, xlen_setR, xE_setW, xsz_setW, xsl_setW, xtag_setW, xown_setW, xlen_setW, xi_setR, xi_setW, xr_setI, xr_setW, xww_setI, xww_setR, xi_setI, xr_setR, xww_setW, xE_new, xsz_new, xsl_new, hx, c1]) rfl (by rw [c3]; omega) ?_
  rw [c4 (i + 2) (by omega)]
  refine xw_aload_n (pc := 373) dL_law_373 3 rfl ?_
  refine xw_callF (pc := 374) (xr_SX (as := [_, _, _, _]) ok_X0_scopeOf rfl (by decide) q1215 q1216 dL_law_374 rfl rfl (Nat.le_of_ble_eq_true rfl)) (hW d) ?_
  intro g1 hc1 hm1
  obtain ⟨st1, F1, w1⟩ := hc1
  refine xw_istore (l' := [(6, _), (0, _), (1, _), (2, _), (3, _), (4, _), (5, _)]) (pc := 377) dL_law_377 (by decide) rfl ?_
  obtain ⟨hK1, ⟨hM1, h31, he1⟩, ho1, hoD1, hs1⟩ := hJ.mid st1 F1 (by unfold oW; omega) (by unfold oW; omega)
  have tw1 : xtag (xWith g1 m S) sc = 101 := (he1.ti.1 sc).trans hs1.1
  have lw1 : xlen (xWith g1 m S) sc = len := (he1.ti.2.1 sc).trans hs1.2.2.1
  have iw1 : ∀ j, j < len → xi (xWith g1 m S) sc j = scr j := fun j hj => (he1.ti.2.2 sc j).trans (hs1.2.2.2 j hj)
  refine XW.eqv he1.symm ?_
  refine xw_aload_n (pc := 379) dL_law_379 3 rfl ?_
  refine xw_aload_n (pc := 380) dL_law_380 1 rfl ?_
  refine xw_iload (pc := 381) dL_law_381 6 rfl ?_
  refine xw_iconst (v := nI 1) (pc := 383) dL_law_383 rfl ?_
  refine xn_iadd (pc := 384) dL_law_384 ?_
  refine xw_iald (k := (i + 1)) (pc := 385) dL_law_385 (by simp [-List.getD_eq_getElem?_getD, xE_setI, xsz_setI, xsl_setI, xtag_setI, xown_setI, xlen_setI, xE_setR, xsz_setR, xsl_setR, xtag_setR, xown_setR, xlen_setR, xE_setW, xsz_setW, xsl_setW, xtag_setW, xown_setW, xlen_setW, xi_setR, xi_setW, xr_setI, xr_setW, xww_setI, xww_setR, xi_setI, xr_setR, xww_setW, xE_new, xsz_new, xsl_new, hx, c1, tw1]) rfl (by rw [lw1]; omega) ?_
  rw [iw1 (i + 1) (by omega)]
  refine xw_aload_n (pc := 386) dL_law_386 1 rfl ?_
  refine xw_iload (pc := 387) dL_law_387 6 rfl ?_
  refine xw_iconst (v := nI 2) (pc := 389) dL_law_389 rfl ?_
  refine xn_iadd (pc := 390) dL_law_390 ?_
  refine xw_iald (k := (i + 2)) (pc := 391) dL_law_391 (by simp [-List.getD_eq_getElem?_getD, xE_setI, xsz_setI, xsl_setI, xtag_setI, xown_setI, xlen_setI, xE_setR, xsz_setR, xsl_setR, xtag_setR, xown_setR, xlen_setR, xE_setW, xsz_setW, xsl_setW, xtag_setW, xown_setW, xlen_setW, xi_setR, xi_setW, xr_setI, xr_setW, xww_setI, xww_setR, xi_setI, xr_setR, xww_setW, xE_new, xsz_new, xsl_new, hx, c1, tw1]) rfl (by rw [lw1]; omega) ?_
  rw [iw1 (i + 2) (by omega)]
  refine xw_callF (pc := 392) (xr_V (as := [_, _]) ok_X6_scopeOf rfl (by decide) q2380 q2381 q2382 (by rw [xtag_with]; first | (rw [hM1.1]; rfl) | (rw [hM3.1]; rfl)) (by rw [xtag_with]; first | (rw [hM1.1]; rfl) | (rw [hM3.1]; rfl)) dL_law_392 rfl rfl (Nat.le_of_ble_eq_true rfl)) (jR.val (hR (d + 1) g1 m hM1 h31 hK1)) ?_
  intro g2 hc2 hm2
  obtain ⟨g3, T, e3, ag, c6, hM3, h33, F3⟩ := hc2
  subst e3
  obtain ⟨hJ2, F4⟩ := xJ.done st1 hK1 ho1 hoD1 hs1 ag hM3 h33 F3
  have hsz : xsz (xWith g3 m T) + xsl (xWith g3 m T) ≤ xsz h + xsl h + 46100 := by
    have := F1.2.2.2.1
    have := F4.2.2.2.1
    omega
  have t2o := hJ2.2.2.1.1
  have t2D := hJ2.2.2.2.1.1
  refine xw_istore (l' := [(7, _), (6, _), (0, _), (1, _), (2, _), (3, _), (4, _), (5, _)]) (pc := 395) dL_law_395 (by decide) rfl ?_
  refine xw_aload_n (pc := 397) dL_law_397 4 rfl ?_
  refine xw_callV (pc := 398) (xr_V (as := []) ok_X6_thrown rfl (by decide) q2352 q2353 q2354 (by rw [xtag_with]; first | (rw [hM1.1]; rfl) | (rw [hM3.1]; rfl)) (by rw [xtag_with]; first | (rw [hM1.1]; rfl) | (rw [hM3.1]; rfl)) dL_law_398 rfl rfl (Nat.le_of_ble_eq_true rfl)) (by have z := SP_X6_thrown (d := d + 91) (S := T) hM3; rw [c6] at z; exact z) ?_
  refine xw_iload (pc := 401) dL_law_401 1 rfl ?_
  refine xw_icmp_eq (pc := 403) 408 dL_law_403 rfl (fun hb403 => ?_) (fun hb403 => ?_)
  rotate_left
  · exfalso
    replace hb403 : ¬ (c = c) := mt (nI_eq (a := c) (b := c) (by omega) (by omega)).mpr hb403
    omega
  replace hb403 : c = c := (nI_eq (a := c) (b := c) (by omega) (by omega)).mp hb403
  refine xw_iload (pc := 408) dL_law_408 1 rfl ?_
  refine xw_if_ne (pc := 410) 425 dL_law_410 rfl (fun hb410 => ?_) (fun hb410 => ?_)
  · replace hb410 : ¬ (c = 0) := mt (nI_eq (a := c) (b := 0) (by omega) (by omega)).mpr hb410
    refine xw_goto (pc := 425) 3272 dL_law_425 rfl ?_
    refine xw_pick (pc := 3272) (l' := [(0, _), (1, _), (2, _), (3, _), (4, _), (5, _)]) [2, 3, 4, 5, 6, 7] rfl ?_
    exact k _ _ hJ2 hsz
  · replace hb410 : c = 0 := (nI_eq (a := c) (b := 0) (by omega) (by omega)).mp hb410
    refine xw_aload_n (pc := 413) dL_law_413 5 rfl ?_
    refine xw_iconst (v := nI 0) (pc := 414) dL_law_414 rfl ?_
    have wE : xw (xWith g3 m T) out 0 = _ := (F4.w' (xlt (by rw [ho1.1]; decide)) (by rw [ho1.2.1]; unfold o313; omega)).trans (w1 hb410)
    refine xw_lald (k := 0) (pc := 415) dL_law_415 (by simp [-List.getD_eq_getElem?_getD, xE_setI, xsz_setI, xsl_setI, xtag_setI, xown_setI, xlen_setI, xE_setR, xsz_setR, xsl_setR, xtag_setR, xown_setR, xlen_setR, xE_setW, xsz_setW, xsl_setW, xtag_setW, xown_setW, xlen_setW, xi_setR, xi_setW, xr_setI, xr_setW, xww_setI, xww_setR, xi_setI, xr_setR, xww_setW, xE_new, xsz_new, xsl_new, hx, c1, tw1, t2o, t2D]) rfl (by rw [hJ2.2.2.1.2.2]; decide) ?_
    rw [wE]
    refine xw_iload (pc := 416) dL_law_416 0 rfl ?_
    refine xw_i2l (pc := 418) dL_law_418 ?_
    refine xw_lcmp (pc := 419) dL_law_419 rfl ?_
    refine xw_if_eq (pc := 420) 425 dL_law_420 rfl (fun hb420 => ?_) (fun hb420 => ?_)
    rotate_left
    · exfalso
      exact hb420 lg_s
    refine xw_goto (pc := 425) 3272 dL_law_425 rfl ?_
    refine xw_pick (pc := 3272) (l' := [(0, _), (1, _), (2, _), (3, _), (4, _), (5, _)]) [2, 3, 4, 5, 6, 7] rfl ?_
    exact k _ _ hJ2 hsz
theorem LC_isWithin {d : Nat} {x m out outD sc len : Nat} {scr : Nat → Int32} {h : xG} {S : xMS} {i : Nat} (hJ : xJ x m out outD sc len scr h S) (hi : i + 6 ≤ len) (hl : len ≤ 144) {Q : Option Value ⊕ Nat → xG → Prop} (k : ∀ h' S', xJ x m out outD sc len scr h' S' → xsz h' + xsl h' ≤ xsz h + xsl h + 46100 → XW M_L_law (d + 92) 3272 [(0, .ref sc), (1, .ref x), (2, .ref m), (3, .ref out), (4, .ref outD), (5, .int (nI i))] [] h' Q) : XW M_L_law (d + 92) 428 [(0, .ref sc), (1, .ref x), (2, .ref m), (3, .ref out), (4, .ref outD), (5, .int (nI i))] [] h Q := by
  obtain ⟨p_, lk_, fa_, ka_, la_, Z_, n_, rr_, ww_, dq_, da_, hh_, ps_, sv_, hp_⟩ := hJ.1.1.p
  have hx : xtag h x = 1 := hp_.M.tx
  have c1 := hJ.2.2.2.2.1
  have c3 := hJ.2.2.2.2.2.2.1
  have c4 := hJ.2.2.2.2.2.2.2
  have oo := hJ.2.2.1
  have oD := hJ.2.2.2.1
  obtain ⟨c, b, S', hc, hP, hR, hW⟩ := W_isWithin (out := out) hJ.1.1 hJ.1.2 hx oo (p0 := scr (i + 1)) (p1 := scr (i + 2))
  refine xw_aload_n (pc := 428) dL_law_428 1 rfl ?_
  refine xw_aload_n (pc := 429) dL_law_429 0 rfl ?_
  refine xw_iload (pc := 430) dL_law_430 5 rfl ?_
  refine xw_iconst (v := nI 1) (pc := 432) dL_law_432 rfl ?_
  refine xn_iadd (pc := 433) dL_law_433 ?_
  refine xw_iald (k := (i + 1)) (pc := 434) dL_law_434 (by simp [-List.getD_eq_getElem?_getD, xE_setI, xsz_setI, xsl_setI, xtag_setI, xown_setI, xlen_setI, xE_setR, xsz_setR, xsl_setR, xtag_setR, xown_setR, xlen_setR, xE_setW, xsz_setW, xsl_setW, xtag_setW, xown_setW, xlen_setW, xi_setR, xi_setW, xr_setI, xr_setW, xww_setI, xww_setR, xi_setI, xr_setR, xww_setW, xE_new, xsz_new, xsl_new, hx, c1]) rfl (by rw [c3]; omega) ?_
  rw [c4 (i + 1) (by omega)]
  refine xw_aload_n (pc := 435) dL_law_435 0 rfl ?_
  refine xw_iload (pc := 436) dL_law_436 5 rfl ?_
  refine xw_iconst (v := nI 2) (pc := 438) dL_law_438 rfl ?_
  refine xn_iadd (pc := 439) dL_law_439 ?_
  refine xw_iald (k := (i + 2)) (pc := 440) dL_law_440 (by simp [-List.getD_eq_getElem?_getD, xE_setI, xsz_setI, xsl_setI, xtag_setI, xown_setI, xlen_setI, xE_setR, xsz_setR, xsl_setR, xtag_setR, xown_setR, xlen_setR, xE_setW, xsz_setW, xsl_setW, xtag_setW, xown_setW, xlen_setW, xi_setR, xi_setW, xr_setI, xr_setW, xww_setI, xww_setR, xi_setI, xr_setR, xww_setW, xE_new, xsz_new, xsl_new, hx, c1]) rfl (by rw [c3]; omega) ?_
  rw [c4 (i + 2) (by omega)]
  refine xw_aload_n (pc := 441) dL_law_441 3 rfl ?_
  refine xw_callF (pc := 442) (xr_SX (as := [_, _, _, _]) ok_X0_isWithin rfl (by decide) q1244 q1245 dL_law_442 rfl rfl (Nat.le_of_ble_eq_true rfl)) (hW d) ?_
  intro g1 hc1 hm1
  obtain ⟨st1, F1, w1⟩ := hc1
  refine xw_istore (l' := [(6, _), (0, _), (1, _), (2, _), (3, _), (4, _), (5, _)]) (pc := 445) dL_law_445 (by decide) rfl ?_
  obtain ⟨hK1, ⟨hM1, h31, he1⟩, ho1, hoD1, hs1⟩ := hJ.mid st1 F1 (by unfold oW; omega) (by unfold oW; omega)
  have tw1 : xtag (xWith g1 m S) sc = 101 := (he1.ti.1 sc).trans hs1.1
  have lw1 : xlen (xWith g1 m S) sc = len := (he1.ti.2.1 sc).trans hs1.2.2.1
  have iw1 : ∀ j, j < len → xi (xWith g1 m S) sc j = scr j := fun j hj => (he1.ti.2.2 sc j).trans (hs1.2.2.2 j hj)
  refine XW.eqv he1.symm ?_
  refine xw_aload_n (pc := 447) dL_law_447 3 rfl ?_
  refine xw_aload_n (pc := 448) dL_law_448 1 rfl ?_
  refine xw_iload (pc := 449) dL_law_449 6 rfl ?_
  refine xw_iconst (v := nI 1) (pc := 451) dL_law_451 rfl ?_
  refine xn_iadd (pc := 452) dL_law_452 ?_
  refine xw_iald (k := (i + 1)) (pc := 453) dL_law_453 (by simp [-List.getD_eq_getElem?_getD, xE_setI, xsz_setI, xsl_setI, xtag_setI, xown_setI, xlen_setI, xE_setR, xsz_setR, xsl_setR, xtag_setR, xown_setR, xlen_setR, xE_setW, xsz_setW, xsl_setW, xtag_setW, xown_setW, xlen_setW, xi_setR, xi_setW, xr_setI, xr_setW, xww_setI, xww_setR, xi_setI, xr_setR, xww_setW, xE_new, xsz_new, xsl_new, hx, c1, tw1]) rfl (by rw [lw1]; omega) ?_
  rw [iw1 (i + 1) (by omega)]
  refine xw_aload_n (pc := 454) dL_law_454 1 rfl ?_
  refine xw_iload (pc := 455) dL_law_455 6 rfl ?_
  refine xw_iconst (v := nI 2) (pc := 457) dL_law_457 rfl ?_
  refine xn_iadd (pc := 458) dL_law_458 ?_
  refine xw_iald (k := (i + 2)) (pc := 459) dL_law_459 (by simp [-List.getD_eq_getElem?_getD, xE_setI, xsz_setI, xsl_setI, xtag_setI, xown_setI, xlen_setI, xE_setR, xsz_setR, xsl_setR, xtag_setR, xown_setR, xlen_setR, xE_setW, xsz_setW, xsl_setW, xtag_setW, xown_setW, xlen_setW, xi_setR, xi_setW, xr_setI, xr_setW, xww_setI, xww_setR, xi_setI, xr_setR, xww_setW, xE_new, xsz_new, xsl_new, hx, c1, tw1]) rfl (by rw [lw1]; omega) ?_
  rw [iw1 (i + 2) (by omega)]
  refine xw_callF (pc := 460) (xr_V (as := [_, _]) ok_X6_isWithin rfl (by decide) q2403 q2404 q2405 (by rw [xtag_with]; first | (rw [hM1.1]; rfl) | (rw [hM3.1]; rfl)) (by rw [xtag_with]; first | (rw [hM1.1]; rfl) | (rw [hM3.1]; rfl)) dL_law_460 rfl rfl (Nat.le_of_ble_eq_true rfl)) (jR.val (hR (d + 1) g1 m hM1 h31 hK1)) ?_
  intro g2 hc2 hm2
  obtain ⟨g3, T, e3, ag, c6, hM3, h33, F3⟩ := hc2
  subst e3
  obtain ⟨hJ2, F4⟩ := xJ.done st1 hK1 ho1 hoD1 hs1 ag hM3 h33 F3
  have hsz : xsz (xWith g3 m T) + xsl (xWith g3 m T) ≤ xsz h + xsl h + 46100 := by
    have := F1.2.2.2.1
    have := F4.2.2.2.1
    omega
  have t2o := hJ2.2.2.1.1
  have t2D := hJ2.2.2.2.1.1
  refine xw_istore (l' := [(7, _), (6, _), (0, _), (1, _), (2, _), (3, _), (4, _), (5, _)]) (pc := 463) dL_law_463 (by decide) rfl ?_
  refine xw_aload_n (pc := 465) dL_law_465 4 rfl ?_
  refine xw_callV (pc := 466) (xr_V (as := []) ok_X6_thrown rfl (by decide) q2352 q2353 q2354 (by rw [xtag_with]; first | (rw [hM1.1]; rfl) | (rw [hM3.1]; rfl)) (by rw [xtag_with]; first | (rw [hM1.1]; rfl) | (rw [hM3.1]; rfl)) dL_law_466 rfl rfl (Nat.le_of_ble_eq_true rfl)) (by have z := SP_X6_thrown (d := d + 91) (S := T) hM3; rw [c6] at z; exact z) ?_
  refine xw_iload (pc := 469) dL_law_469 1 rfl ?_
  refine xw_icmp_eq (pc := 471) 476 dL_law_471 rfl (fun hb471 => ?_) (fun hb471 => ?_)
  rotate_left
  · exfalso
    replace hb471 : ¬ (c = c) := mt (nI_eq (a := c) (b := c) (by omega) (by omega)).mpr hb471
    omega
  replace hb471 : c = c := (nI_eq (a := c) (b := c) (by omega) (by omega)).mp hb471
  refine xw_iload (pc := 476) dL_law_476 1 rfl ?_
  refine xw_if_ne (pc := 478) 500 dL_law_478 rfl (fun hb478 => ?_) (fun hb478 => ?_)
  · replace hb478 : ¬ (c = 0) := mt (nI_eq (a := c) (b := 0) (by omega) (by omega)).mpr hb478
    refine xw_goto (pc := 500) 3272 dL_law_500 rfl ?_
    refine xw_pick (pc := 3272) (l' := [(0, _), (1, _), (2, _), (3, _), (4, _), (5, _)]) [2, 3, 4, 5, 6, 7] rfl ?_
    exact k _ _ hJ2 hsz
  · replace hb478 : c = 0 := (nI_eq (a := c) (b := 0) (by omega) (by omega)).mp hb478
    refine xw_aload_n (pc := 481) dL_law_481 5 rfl ?_
    refine xw_iconst (v := nI 0) (pc := 482) dL_law_482 rfl ?_
    have wE : xw (xWith g3 m T) out 0 = _ := (F4.w' (xlt (by rw [ho1.1]; decide)) (by rw [ho1.2.1]; unfold o313; omega)).trans (w1 hb478)
    refine xw_lald (k := 0) (pc := 483) dL_law_483 (by simp [-List.getD_eq_getElem?_getD, xE_setI, xsz_setI, xsl_setI, xtag_setI, xown_setI, xlen_setI, xE_setR, xsz_setR, xsl_setR, xtag_setR, xown_setR, xlen_setR, xE_setW, xsz_setW, xsl_setW, xtag_setW, xown_setW, xlen_setW, xi_setR, xi_setW, xr_setI, xr_setW, xww_setI, xww_setR, xi_setI, xr_setR, xww_setW, xE_new, xsz_new, xsl_new, hx, c1, tw1, t2o, t2D]) rfl (by rw [hJ2.2.2.1.2.2]; decide) ?_
    rw [wE]
    refine xw_iload (pc := 484) dL_law_484 0 rfl ?_
    refine xw_if_eq (pc := 486) 493 dL_law_486 rfl (fun hb486 => ?_) (fun hb486 => ?_)
    · replace hb486 := bI_0.mp hb486
      refine xw_lconst (v := 0) (pc := 493) dL_law_493 (by decide) ?_
      refine xw_lcmp (pc := 494) dL_law_494 rfl ?_
      refine xw_if_eq (pc := 495) 500 dL_law_495 rfl (fun hb495 => ?_) (fun hb495 => ?_)
      rotate_left
      · exfalso
        exact hb495 (by rw [hb486]; decide)
      refine xw_goto (pc := 500) 3272 dL_law_500 rfl ?_
      refine xw_pick (pc := 3272) (l' := [(0, _), (1, _), (2, _), (3, _), (4, _), (5, _)]) [2, 3, 4, 5, 6, 7] rfl ?_
      exact k _ _ hJ2 hsz
    · replace hb486 := bI_n0.mp hb486
      refine xw_lconst (v := 1) (pc := 489) dL_law_489 (by decide) ?_
      refine xw_goto (pc := 490) 494 dL_law_490 rfl ?_
      refine xw_lcmp (pc := 494) dL_law_494 rfl ?_
      refine xw_if_eq (pc := 495) 500 dL_law_495 rfl (fun hb495 => ?_) (fun hb495 => ?_)
      rotate_left
      · exfalso
        exact hb495 (by rw [hb486]; decide)
      refine xw_goto (pc := 500) 3272 dL_law_500 rfl ?_
      refine xw_pick (pc := 3272) (l' := [(0, _), (1, _), (2, _), (3, _), (4, _), (5, _)]) [2, 3, 4, 5, 6, 7] rfl ?_
      exact k _ _ hJ2 hsz
theorem LC_rule {d : Nat} {x m out outD sc len : Nat} {scr : Nat → Int32} {h : xG} {S : xMS} {i : Nat} (hJ : xJ x m out outD sc len scr h S) (hi : i + 6 ≤ len) (hl : len ≤ 144) {Q : Option Value ⊕ Nat → xG → Prop} (k : ∀ h' S', xJ x m out outD sc len scr h' S' → xsz h' + xsl h' ≤ xsz h + xsl h + 46100 → XW M_L_law (d + 92) 3272 [(0, .ref sc), (1, .ref x), (2, .ref m), (3, .ref out), (4, .ref outD), (5, .int (nI i))] [] h' Q) : XW M_L_law (d + 92) 503 [(0, .ref sc), (1, .ref x), (2, .ref m), (3, .ref out), (4, .ref outD), (5, .int (nI i))] [] h Q := by
  obtain ⟨p_, lk_, fa_, ka_, la_, Z_, n_, rr_, ww_, dq_, da_, hh_, ps_, sv_, hp_⟩ := hJ.1.1.p
  have hx : xtag h x = 1 := hp_.M.tx
  have c1 := hJ.2.2.2.2.1
  have c3 := hJ.2.2.2.2.2.2.1
  have c4 := hJ.2.2.2.2.2.2.2
  have oo := hJ.2.2.1
  have oD := hJ.2.2.2.1
  obtain ⟨c, b, S', hc, hP, hR, hW⟩ := W_rule (out := out) hJ.1.1 hJ.1.2 hx oo (p0 := scr (i + 1)) (p1 := scr (i + 2)) (p2 := scr (i + 3)) (p3 := scr (i + 4)) (p4 := scr (i + 5))
  refine xw_aload_n (pc := 503) dL_law_503 1 rfl ?_
  refine xw_aload_n (pc := 504) dL_law_504 0 rfl ?_
  refine xw_iload (pc := 505) dL_law_505 5 rfl ?_
  refine xw_iconst (v := nI 1) (pc := 507) dL_law_507 rfl ?_
  refine xn_iadd (pc := 508) dL_law_508 ?_
  refine xw_iald (k := (i + 1)) (pc := 509) dL_law_509 (by simp [-List.getD_eq_getElem?_getD, xE_setI, xsz_setI, xsl_setI, xtag_setI, xown_setI, xlen_setI, xE_setR, xsz_setR, xsl_setR, xtag_setR, xown_setR, xlen_setR, xE_setW, xsz_setW, xsl_setW, xtag_setW, xown_setW, xlen_setW, xi_setR, xi_setW, xr_setI, xr_setW, xww_setI, xww_setR, xi_setI, xr_setR, xww_setW, xE_new, xsz_new, xsl_new, hx, c1]) rfl (by rw [c3]; omega) ?_
  rw [c4 (i + 1) (by omega)]
  refine xw_aload_n (pc := 510) dL_law_510 0 rfl ?_
  refine xw_iload (pc := 511) dL_law_511 5 rfl ?_
  refine xw_iconst (v := nI 2) (pc := 513) dL_law_513 rfl ?_
  refine xn_iadd (pc := 514) dL_law_514 ?_
  refine xw_iald (k := (i + 2)) (pc := 515) dL_law_515 (by simp [-List.getD_eq_getElem?_getD, xE_setI, xsz_setI, xsl_setI, xtag_setI, xown_setI, xlen_setI, xE_setR, xsz_setR, xsl_setR, xtag_setR, xown_setR, xlen_setR, xE_setW, xsz_setW, xsl_setW, xtag_setW, xown_setW, xlen_setW, xi_setR, xi_setW, xr_setI, xr_setW, xww_setI, xww_setR, xi_setI, xr_setR, xww_setW, xE_new, xsz_new, xsl_new, hx, c1]) rfl (by rw [c3]; omega) ?_
  rw [c4 (i + 2) (by omega)]
  refine xw_aload_n (pc := 516) dL_law_516 0 rfl ?_
  refine xw_iload (pc := 517) dL_law_517 5 rfl ?_
  refine xw_iconst (v := nI 3) (pc := 519) dL_law_519 rfl ?_
  refine xn_iadd (pc := 520) dL_law_520 ?_
  refine xw_iald (k := (i + 3)) (pc := 521) dL_law_521 (by simp [-List.getD_eq_getElem?_getD, xE_setI, xsz_setI, xsl_setI, xtag_setI, xown_setI, xlen_setI, xE_setR, xsz_setR, xsl_setR, xtag_setR, xown_setR, xlen_setR, xE_setW, xsz_setW, xsl_setW, xtag_setW, xown_setW, xlen_setW, xi_setR, xi_setW, xr_setI, xr_setW, xww_setI, xww_setR, xi_setI, xr_setR, xww_setW, xE_new, xsz_new, xsl_new, hx, c1]) rfl (by rw [c3]; omega) ?_
  rw [c4 (i + 3) (by omega)]
  refine xw_aload_n (pc := 522) dL_law_522 0 rfl ?_
  refine xw_iload (pc := 523) dL_law_523 5 rfl ?_
  refine xw_iconst (v := nI 4) (pc := 525) dL_law_525 rfl ?_
  refine xn_iadd (pc := 526) dL_law_526 ?_
  refine xw_iald (k := (i + 4)) (pc := 527) dL_law_527 (by simp [-List.getD_eq_getElem?_getD, xE_setI, xsz_setI, xsl_setI, xtag_setI, xown_setI, xlen_setI, xE_setR, xsz_setR, xsl_setR, xtag_setR, xown_setR, xlen_setR, xE_setW, xsz_setW, xsl_setW, xtag_setW, xown_setW, xlen_setW, xi_setR, xi_setW, xr_setI, xr_setW, xww_setI, xww_setR, xi_setI, xr_setR, xww_setW, xE_new, xsz_new, xsl_new, hx, c1]) rfl (by rw [c3]; omega) ?_
  rw [c4 (i + 4) (by omega)]
  refine xw_aload_n (pc := 528) dL_law_528 0 rfl ?_
  refine xw_iload (pc := 529) dL_law_529 5 rfl ?_
  refine xw_iconst (v := nI 5) (pc := 531) dL_law_531 rfl ?_
  refine xn_iadd (pc := 532) dL_law_532 ?_
  refine xw_iald (k := (i + 5)) (pc := 533) dL_law_533 (by simp [-List.getD_eq_getElem?_getD, xE_setI, xsz_setI, xsl_setI, xtag_setI, xown_setI, xlen_setI, xE_setR, xsz_setR, xsl_setR, xtag_setR, xown_setR, xlen_setR, xE_setW, xsz_setW, xsl_setW, xtag_setW, xown_setW, xlen_setW, xi_setR, xi_setW, xr_setI, xr_setW, xww_setI, xww_setR, xi_setI, xr_setR, xww_setW, xE_new, xsz_new, xsl_new, hx, c1]) rfl (by rw [c3]; omega) ?_
  rw [c4 (i + 5) (by omega)]
  refine xw_aload_n (pc := 534) dL_law_534 3 rfl ?_
  refine xw_callF (pc := 535) (xr_SX (as := [_, _, _, _, _, _, _]) ok_X0_rule rfl (by decide) q1254 q1255 dL_law_535 rfl rfl (Nat.le_of_ble_eq_true rfl)) (hW d) ?_
  intro g1 hc1 hm1
  obtain ⟨st1, F1, w1⟩ := hc1
  refine xw_istore (l' := [(6, _), (0, _), (1, _), (2, _), (3, _), (4, _), (5, _)]) (pc := 538) dL_law_538 (by decide) rfl ?_
  obtain ⟨hK1, ⟨hM1, h31, he1⟩, ho1, hoD1, hs1⟩ := hJ.mid st1 F1 (by unfold oW; omega) (by unfold oW; omega)
  have tw1 : xtag (xWith g1 m S) sc = 101 := (he1.ti.1 sc).trans hs1.1
  have lw1 : xlen (xWith g1 m S) sc = len := (he1.ti.2.1 sc).trans hs1.2.2.1
  have iw1 : ∀ j, j < len → xi (xWith g1 m S) sc j = scr j := fun j hj => (he1.ti.2.2 sc j).trans (hs1.2.2.2 j hj)
  refine XW.eqv he1.symm ?_
  refine xw_aload_n (pc := 540) dL_law_540 3 rfl ?_
  refine xw_aload_n (pc := 541) dL_law_541 1 rfl ?_
  refine xw_iload (pc := 542) dL_law_542 6 rfl ?_
  refine xw_iconst (v := nI 1) (pc := 544) dL_law_544 rfl ?_
  refine xn_iadd (pc := 545) dL_law_545 ?_
  refine xw_iald (k := (i + 1)) (pc := 546) dL_law_546 (by simp [-List.getD_eq_getElem?_getD, xE_setI, xsz_setI, xsl_setI, xtag_setI, xown_setI, xlen_setI, xE_setR, xsz_setR, xsl_setR, xtag_setR, xown_setR, xlen_setR, xE_setW, xsz_setW, xsl_setW, xtag_setW, xown_setW, xlen_setW, xi_setR, xi_setW, xr_setI, xr_setW, xww_setI, xww_setR, xi_setI, xr_setR, xww_setW, xE_new, xsz_new, xsl_new, hx, c1, tw1]) rfl (by rw [lw1]; omega) ?_
  rw [iw1 (i + 1) (by omega)]
  refine xw_aload_n (pc := 547) dL_law_547 1 rfl ?_
  refine xw_iload (pc := 548) dL_law_548 6 rfl ?_
  refine xw_iconst (v := nI 2) (pc := 550) dL_law_550 rfl ?_
  refine xn_iadd (pc := 551) dL_law_551 ?_
  refine xw_iald (k := (i + 2)) (pc := 552) dL_law_552 (by simp [-List.getD_eq_getElem?_getD, xE_setI, xsz_setI, xsl_setI, xtag_setI, xown_setI, xlen_setI, xE_setR, xsz_setR, xsl_setR, xtag_setR, xown_setR, xlen_setR, xE_setW, xsz_setW, xsl_setW, xtag_setW, xown_setW, xlen_setW, xi_setR, xi_setW, xr_setI, xr_setW, xww_setI, xww_setR, xi_setI, xr_setR, xww_setW, xE_new, xsz_new, xsl_new, hx, c1, tw1]) rfl (by rw [lw1]; omega) ?_
  rw [iw1 (i + 2) (by omega)]
  refine xw_aload_n (pc := 553) dL_law_553 1 rfl ?_
  refine xw_iload (pc := 554) dL_law_554 6 rfl ?_
  refine xw_iconst (v := nI 3) (pc := 556) dL_law_556 rfl ?_
  refine xn_iadd (pc := 557) dL_law_557 ?_
  refine xw_iald (k := (i + 3)) (pc := 558) dL_law_558 (by simp [-List.getD_eq_getElem?_getD, xE_setI, xsz_setI, xsl_setI, xtag_setI, xown_setI, xlen_setI, xE_setR, xsz_setR, xsl_setR, xtag_setR, xown_setR, xlen_setR, xE_setW, xsz_setW, xsl_setW, xtag_setW, xown_setW, xlen_setW, xi_setR, xi_setW, xr_setI, xr_setW, xww_setI, xww_setR, xi_setI, xr_setR, xww_setW, xE_new, xsz_new, xsl_new, hx, c1, tw1]) rfl (by rw [lw1]; omega) ?_
  rw [iw1 (i + 3) (by omega)]
  refine xw_aload_n (pc := 559) dL_law_559 1 rfl ?_
  refine xw_iload (pc := 560) dL_law_560 6 rfl ?_
  refine xw_iconst (v := nI 4) (pc := 562) dL_law_562 rfl ?_
  refine xn_iadd (pc := 563) dL_law_563 ?_
  refine xw_iald (k := (i + 4)) (pc := 564) dL_law_564 (by simp [-List.getD_eq_getElem?_getD, xE_setI, xsz_setI, xsl_setI, xtag_setI, xown_setI, xlen_setI, xE_setR, xsz_setR, xsl_setR, xtag_setR, xown_setR, xlen_setR, xE_setW, xsz_setW, xsl_setW, xtag_setW, xown_setW, xlen_setW, xi_setR, xi_setW, xr_setI, xr_setW, xww_setI, xww_setR, xi_setI, xr_setR, xww_setW, xE_new, xsz_new, xsl_new, hx, c1, tw1]) rfl (by rw [lw1]; omega) ?_
  rw [iw1 (i + 4) (by omega)]
  refine xw_aload_n (pc := 565) dL_law_565 1 rfl ?_
  refine xw_iload (pc := 566) dL_law_566 6 rfl ?_
  refine xw_iconst (v := nI 5) (pc := 568) dL_law_568 rfl ?_
  refine xn_iadd (pc := 569) dL_law_569 ?_
  refine xw_iald (k := (i + 5)) (pc := 570) dL_law_570 (by simp [-List.getD_eq_getElem?_getD, xE_setI, xsz_setI, xsl_setI, xtag_setI, xown_setI, xlen_setI, xE_setR, xsz_setR, xsl_setR, xtag_setR, xown_setR, xlen_setR, xE_setW, xsz_setW, xsl_setW, xtag_setW, xown_setW, xlen_setW, xi_setR, xi_setW, xr_setI, xr_setW, xww_setI, xww_setR, xi_setI, xr_setR, xww_setW, xE_new, xsz_new, xsl_new, hx, c1, tw1]) rfl (by rw [lw1]; omega) ?_
  rw [iw1 (i + 5) (by omega)]
  refine xw_callF (pc := 571) (xr_V (as := [_, _, _, _, _]) ok_X6_rule rfl (by decide) q2411 q2412 q2413 (by rw [xtag_with]; first | (rw [hM1.1]; rfl) | (rw [hM3.1]; rfl)) (by rw [xtag_with]; first | (rw [hM1.1]; rfl) | (rw [hM3.1]; rfl)) dL_law_571 rfl rfl (Nat.le_of_ble_eq_true rfl)) (jR.val (hR (d + 1) g1 m hM1 h31 hK1)) ?_
  intro g2 hc2 hm2
  obtain ⟨g3, T, e3, ag, c6, hM3, h33, F3⟩ := hc2
  subst e3
  obtain ⟨hJ2, F4⟩ := xJ.done st1 hK1 ho1 hoD1 hs1 ag hM3 h33 F3
  have hsz : xsz (xWith g3 m T) + xsl (xWith g3 m T) ≤ xsz h + xsl h + 46100 := by
    have := F1.2.2.2.1
    have := F4.2.2.2.1
    omega
  have t2o := hJ2.2.2.1.1
  have t2D := hJ2.2.2.2.1.1
  refine xw_istore (l' := [(7, _), (6, _), (0, _), (1, _), (2, _), (3, _), (4, _), (5, _)]) (pc := 574) dL_law_574 (by decide) rfl ?_
  refine xw_aload_n (pc := 576) dL_law_576 4 rfl ?_
  refine xw_callV (pc := 577) (xr_V (as := []) ok_X6_thrown rfl (by decide) q2352 q2353 q2354 (by rw [xtag_with]; first | (rw [hM1.1]; rfl) | (rw [hM3.1]; rfl)) (by rw [xtag_with]; first | (rw [hM1.1]; rfl) | (rw [hM3.1]; rfl)) dL_law_577 rfl rfl (Nat.le_of_ble_eq_true rfl)) (by have z := SP_X6_thrown (d := d + 91) (S := T) hM3; rw [c6] at z; exact z) ?_
  refine xw_iload (pc := 580) dL_law_580 1 rfl ?_
  refine xw_icmp_eq (pc := 582) 587 dL_law_582 rfl (fun hb582 => ?_) (fun hb582 => ?_)
  rotate_left
  · exfalso
    replace hb582 : ¬ (c = c) := mt (nI_eq (a := c) (b := c) (by omega) (by omega)).mpr hb582
    omega
  replace hb582 : c = c := (nI_eq (a := c) (b := c) (by omega) (by omega)).mp hb582
  refine xw_iload (pc := 587) dL_law_587 1 rfl ?_
  refine xw_if_ne (pc := 589) 604 dL_law_589 rfl (fun hb589 => ?_) (fun hb589 => ?_)
  · replace hb589 : ¬ (c = 0) := mt (nI_eq (a := c) (b := 0) (by omega) (by omega)).mpr hb589
    refine xw_goto (pc := 604) 3272 dL_law_604 rfl ?_
    refine xw_pick (pc := 3272) (l' := [(0, _), (1, _), (2, _), (3, _), (4, _), (5, _)]) [2, 3, 4, 5, 6, 7] rfl ?_
    exact k _ _ hJ2 hsz
  · replace hb589 : c = 0 := (nI_eq (a := c) (b := 0) (by omega) (by omega)).mp hb589
    refine xw_aload_n (pc := 592) dL_law_592 5 rfl ?_
    refine xw_iconst (v := nI 0) (pc := 593) dL_law_593 rfl ?_
    have wE : xw (xWith g3 m T) out 0 = _ := (F4.w' (xlt (by rw [ho1.1]; decide)) (by rw [ho1.2.1]; unfold o313; omega)).trans (w1 hb589)
    refine xw_lald (k := 0) (pc := 594) dL_law_594 (by simp [-List.getD_eq_getElem?_getD, xE_setI, xsz_setI, xsl_setI, xtag_setI, xown_setI, xlen_setI, xE_setR, xsz_setR, xsl_setR, xtag_setR, xown_setR, xlen_setR, xE_setW, xsz_setW, xsl_setW, xtag_setW, xown_setW, xlen_setW, xi_setR, xi_setW, xr_setI, xr_setW, xww_setI, xww_setR, xi_setI, xr_setR, xww_setW, xE_new, xsz_new, xsl_new, hx, c1, tw1, t2o, t2D]) rfl (by rw [hJ2.2.2.1.2.2]; decide) ?_
    rw [wE]
    refine xw_iload (pc := 595) dL_law_595 0 rfl ?_
    refine xw_i2l (pc := 597) dL_law_597 ?_
    refine xw_lcmp (pc := 598) dL_law_598 rfl ?_
    refine xw_if_eq (pc := 599) 604 dL_law_599 rfl (fun hb599 => ?_) (fun hb599 => ?_)
    rotate_left
    · exfalso
      exact hb599 lg_s
    refine xw_goto (pc := 604) 3272 dL_law_604 rfl ?_
    refine xw_pick (pc := 3272) (l' := [(0, _), (1, _), (2, _), (3, _), (4, _), (5, _)]) [2, 3, 4, 5, 6, 7] rfl ?_
    exact k _ _ hJ2 hsz
theorem LC_except {d : Nat} {x m out outD sc len : Nat} {scr : Nat → Int32} {h : xG} {S : xMS} {i : Nat} (hJ : xJ x m out outD sc len scr h S) (hi : i + 6 ≤ len) (hl : len ≤ 144) {Q : Option Value ⊕ Nat → xG → Prop} (k : ∀ h' S', xJ x m out outD sc len scr h' S' → xsz h' + xsl h' ≤ xsz h + xsl h + 46100 → XW M_L_law (d + 92) 3272 [(0, .ref sc), (1, .ref x), (2, .ref m), (3, .ref out), (4, .ref outD), (5, .int (nI i))] [] h' Q) : XW M_L_law (d + 92) 607 [(0, .ref sc), (1, .ref x), (2, .ref m), (3, .ref out), (4, .ref outD), (5, .int (nI i))] [] h Q := by
  obtain ⟨p_, lk_, fa_, ka_, la_, Z_, n_, rr_, ww_, dq_, da_, hh_, ps_, sv_, hp_⟩ := hJ.1.1.p
  have hx : xtag h x = 1 := hp_.M.tx
  have c1 := hJ.2.2.2.2.1
  have c3 := hJ.2.2.2.2.2.2.1
  have c4 := hJ.2.2.2.2.2.2.2
  have oo := hJ.2.2.1
  have oD := hJ.2.2.2.1
  obtain ⟨c, b, S', hc, hP, hR, hW⟩ := W_except (out := out) hJ.1.1 hJ.1.2 hx oo (p0 := scr (i + 1)) (p1 := scr (i + 2)) (p2 := scr (i + 3)) (p3 := scr (i + 4)) (p4 := scr (i + 5))
  refine xw_aload_n (pc := 607) dL_law_607 1 rfl ?_
  refine xw_aload_n (pc := 608) dL_law_608 0 rfl ?_
  refine xw_iload (pc := 609) dL_law_609 5 rfl ?_
  refine xw_iconst (v := nI 1) (pc := 611) dL_law_611 rfl ?_
  refine xn_iadd (pc := 612) dL_law_612 ?_
  refine xw_iald (k := (i + 1)) (pc := 613) dL_law_613 (by simp [-List.getD_eq_getElem?_getD, xE_setI, xsz_setI, xsl_setI, xtag_setI, xown_setI, xlen_setI, xE_setR, xsz_setR, xsl_setR, xtag_setR, xown_setR, xlen_setR, xE_setW, xsz_setW, xsl_setW, xtag_setW, xown_setW, xlen_setW, xi_setR, xi_setW, xr_setI, xr_setW, xww_setI, xww_setR, xi_setI, xr_setR, xww_setW, xE_new, xsz_new, xsl_new, hx, c1]) rfl (by rw [c3]; omega) ?_
  rw [c4 (i + 1) (by omega)]
  refine xw_aload_n (pc := 614) dL_law_614 0 rfl ?_
  refine xw_iload (pc := 615) dL_law_615 5 rfl ?_
  refine xw_iconst (v := nI 2) (pc := 617) dL_law_617 rfl ?_
  refine xn_iadd (pc := 618) dL_law_618 ?_
  refine xw_iald (k := (i + 2)) (pc := 619) dL_law_619 (by simp [-List.getD_eq_getElem?_getD, xE_setI, xsz_setI, xsl_setI, xtag_setI, xown_setI, xlen_setI, xE_setR, xsz_setR, xsl_setR, xtag_setR, xown_setR, xlen_setR, xE_setW, xsz_setW, xsl_setW, xtag_setW, xown_setW, xlen_setW, xi_setR, xi_setW, xr_setI, xr_setW, xww_setI, xww_setR, xi_setI, xr_setR, xww_setW, xE_new, xsz_new, xsl_new, hx, c1]) rfl (by rw [c3]; omega) ?_
  rw [c4 (i + 2) (by omega)]
  refine xw_aload_n (pc := 620) dL_law_620 0 rfl ?_
  refine xw_iload (pc := 621) dL_law_621 5 rfl ?_
  refine xw_iconst (v := nI 3) (pc := 623) dL_law_623 rfl ?_
  refine xn_iadd (pc := 624) dL_law_624 ?_
  refine xw_iald (k := (i + 3)) (pc := 625) dL_law_625 (by simp [-List.getD_eq_getElem?_getD, xE_setI, xsz_setI, xsl_setI, xtag_setI, xown_setI, xlen_setI, xE_setR, xsz_setR, xsl_setR, xtag_setR, xown_setR, xlen_setR, xE_setW, xsz_setW, xsl_setW, xtag_setW, xown_setW, xlen_setW, xi_setR, xi_setW, xr_setI, xr_setW, xww_setI, xww_setR, xi_setI, xr_setR, xww_setW, xE_new, xsz_new, xsl_new, hx, c1]) rfl (by rw [c3]; omega) ?_
  rw [c4 (i + 3) (by omega)]
  refine xw_aload_n (pc := 626) dL_law_626 0 rfl ?_
  refine xw_iload (pc := 627) dL_law_627 5 rfl ?_
  refine xw_iconst (v := nI 4) (pc := 629) dL_law_629 rfl ?_
  refine xn_iadd (pc := 630) dL_law_630 ?_
  refine xw_iald (k := (i + 4)) (pc := 631) dL_law_631 (by simp [-List.getD_eq_getElem?_getD, xE_setI, xsz_setI, xsl_setI, xtag_setI, xown_setI, xlen_setI, xE_setR, xsz_setR, xsl_setR, xtag_setR, xown_setR, xlen_setR, xE_setW, xsz_setW, xsl_setW, xtag_setW, xown_setW, xlen_setW, xi_setR, xi_setW, xr_setI, xr_setW, xww_setI, xww_setR, xi_setI, xr_setR, xww_setW, xE_new, xsz_new, xsl_new, hx, c1]) rfl (by rw [c3]; omega) ?_
  rw [c4 (i + 4) (by omega)]
  refine xw_aload_n (pc := 632) dL_law_632 0 rfl ?_
  refine xw_iload (pc := 633) dL_law_633 5 rfl ?_
  refine xw_iconst (v := nI 5) (pc := 635) dL_law_635 rfl ?_
  refine xn_iadd (pc := 636) dL_law_636 ?_
  refine xw_iald (k := (i + 5)) (pc := 637) dL_law_637 (by simp [-List.getD_eq_getElem?_getD, xE_setI, xsz_setI, xsl_setI, xtag_setI, xown_setI, xlen_setI, xE_setR, xsz_setR, xsl_setR, xtag_setR, xown_setR, xlen_setR, xE_setW, xsz_setW, xsl_setW, xtag_setW, xown_setW, xlen_setW, xi_setR, xi_setW, xr_setI, xr_setW, xww_setI, xww_setR, xi_setI, xr_setR, xww_setW, xE_new, xsz_new, xsl_new, hx, c1]) rfl (by rw [c3]; omega) ?_
  rw [c4 (i + 5) (by omega)]
  refine xw_aload_n (pc := 638) dL_law_638 3 rfl ?_
  refine xw_callF (pc := 639) (xr_SX (as := [_, _, _, _, _, _, _]) ok_X0_except rfl (by decide) q1331 q1332 dL_law_639 rfl rfl (Nat.le_of_ble_eq_true rfl)) (hW d) ?_
  intro g1 hc1 hm1
  obtain ⟨st1, F1, w1⟩ := hc1
  refine xw_istore (l' := [(6, _), (0, _), (1, _), (2, _), (3, _), (4, _), (5, _)]) (pc := 642) dL_law_642 (by decide) rfl ?_
  obtain ⟨hK1, ⟨hM1, h31, he1⟩, ho1, hoD1, hs1⟩ := hJ.mid st1 F1 (by unfold oW; omega) (by unfold oW; omega)
  have tw1 : xtag (xWith g1 m S) sc = 101 := (he1.ti.1 sc).trans hs1.1
  have lw1 : xlen (xWith g1 m S) sc = len := (he1.ti.2.1 sc).trans hs1.2.2.1
  have iw1 : ∀ j, j < len → xi (xWith g1 m S) sc j = scr j := fun j hj => (he1.ti.2.2 sc j).trans (hs1.2.2.2 j hj)
  refine XW.eqv he1.symm ?_
  refine xw_aload_n (pc := 644) dL_law_644 3 rfl ?_
  refine xw_aload_n (pc := 645) dL_law_645 1 rfl ?_
  refine xw_iload (pc := 646) dL_law_646 6 rfl ?_
  refine xw_iconst (v := nI 1) (pc := 648) dL_law_648 rfl ?_
  refine xn_iadd (pc := 649) dL_law_649 ?_
  refine xw_iald (k := (i + 1)) (pc := 650) dL_law_650 (by simp [-List.getD_eq_getElem?_getD, xE_setI, xsz_setI, xsl_setI, xtag_setI, xown_setI, xlen_setI, xE_setR, xsz_setR, xsl_setR, xtag_setR, xown_setR, xlen_setR, xE_setW, xsz_setW, xsl_setW, xtag_setW, xown_setW, xlen_setW, xi_setR, xi_setW, xr_setI, xr_setW, xww_setI, xww_setR, xi_setI, xr_setR, xww_setW, xE_new, xsz_new, xsl_new, hx, c1, tw1]) rfl (by rw [lw1]; omega) ?_
  rw [iw1 (i + 1) (by omega)]
  refine xw_aload_n (pc := 651) dL_law_651 1 rfl ?_
  refine xw_iload (pc := 652) dL_law_652 6 rfl ?_
  refine xw_iconst (v := nI 2) (pc := 654) dL_law_654 rfl ?_
  refine xn_iadd (pc := 655) dL_law_655 ?_
  refine xw_iald (k := (i + 2)) (pc := 656) dL_law_656 (by simp [-List.getD_eq_getElem?_getD, xE_setI, xsz_setI, xsl_setI, xtag_setI, xown_setI, xlen_setI, xE_setR, xsz_setR, xsl_setR, xtag_setR, xown_setR, xlen_setR, xE_setW, xsz_setW, xsl_setW, xtag_setW, xown_setW, xlen_setW, xi_setR, xi_setW, xr_setI, xr_setW, xww_setI, xww_setR, xi_setI, xr_setR, xww_setW, xE_new, xsz_new, xsl_new, hx, c1, tw1]) rfl (by rw [lw1]; omega) ?_
  rw [iw1 (i + 2) (by omega)]
  refine xw_aload_n (pc := 657) dL_law_657 1 rfl ?_
  refine xw_iload (pc := 658) dL_law_658 6 rfl ?_
  refine xw_iconst (v := nI 3) (pc := 660) dL_law_660 rfl ?_
  refine xn_iadd (pc := 661) dL_law_661 ?_
  refine xw_iald (k := (i + 3)) (pc := 662) dL_law_662 (by simp [-List.getD_eq_getElem?_getD, xE_setI, xsz_setI, xsl_setI, xtag_setI, xown_setI, xlen_setI, xE_setR, xsz_setR, xsl_setR, xtag_setR, xown_setR, xlen_setR, xE_setW, xsz_setW, xsl_setW, xtag_setW, xown_setW, xlen_setW, xi_setR, xi_setW, xr_setI, xr_setW, xww_setI, xww_setR, xi_setI, xr_setR, xww_setW, xE_new, xsz_new, xsl_new, hx, c1, tw1]) rfl (by rw [lw1]; omega) ?_
  rw [iw1 (i + 3) (by omega)]
  refine xw_aload_n (pc := 663) dL_law_663 1 rfl ?_
  refine xw_iload (pc := 664) dL_law_664 6 rfl ?_
  refine xw_iconst (v := nI 4) (pc := 666) dL_law_666 rfl ?_
  refine xn_iadd (pc := 667) dL_law_667 ?_
  refine xw_iald (k := (i + 4)) (pc := 668) dL_law_668 (by simp [-List.getD_eq_getElem?_getD, xE_setI, xsz_setI, xsl_setI, xtag_setI, xown_setI, xlen_setI, xE_setR, xsz_setR, xsl_setR, xtag_setR, xown_setR, xlen_setR, xE_setW, xsz_setW, xsl_setW, xtag_setW, xown_setW, xlen_setW, xi_setR, xi_setW, xr_setI, xr_setW, xww_setI, xww_setR, xi_setI, xr_setR, xww_setW, xE_new, xsz_new, xsl_new, hx, c1, tw1]) rfl (by rw [lw1]; omega) ?_
  rw [iw1 (i + 4) (by omega)]
  refine xw_aload_n (pc := 669) dL_law_669 1 rfl ?_
  refine xw_iload (pc := 670) dL_law_670 6 rfl ?_
  refine xw_iconst (v := nI 5) (pc := 672) dL_law_672 rfl ?_
  refine xn_iadd (pc := 673) dL_law_673 ?_
  refine xw_iald (k := (i + 5)) (pc := 674) dL_law_674 (by simp [-List.getD_eq_getElem?_getD, xE_setI, xsz_setI, xsl_setI, xtag_setI, xown_setI, xlen_setI, xE_setR, xsz_setR, xsl_setR, xtag_setR, xown_setR, xlen_setR, xE_setW, xsz_setW, xsl_setW, xtag_setW, xown_setW, xlen_setW, xi_setR, xi_setW, xr_setI, xr_setW, xww_setI, xww_setR, xi_setI, xr_setR, xww_setW, xE_new, xsz_new, xsl_new, hx, c1, tw1]) rfl (by rw [lw1]; omega) ?_
  rw [iw1 (i + 5) (by omega)]
  refine xw_callF (pc := 675) (xr_V (as := [_, _, _, _, _]) ok_X6_except rfl (by decide) q2441 q2442 q2443 (by rw [xtag_with]; first | (rw [hM1.1]; rfl) | (rw [hM3.1]; rfl)) (by rw [xtag_with]; first | (rw [hM1.1]; rfl) | (rw [hM3.1]; rfl)) dL_law_675 rfl rfl (Nat.le_of_ble_eq_true rfl)) (jR.val (hR (d + 1) g1 m hM1 h31 hK1)) ?_
  intro g2 hc2 hm2
  obtain ⟨g3, T, e3, ag, c6, hM3, h33, F3⟩ := hc2
  subst e3
  obtain ⟨hJ2, F4⟩ := xJ.done st1 hK1 ho1 hoD1 hs1 ag hM3 h33 F3
  have hsz : xsz (xWith g3 m T) + xsl (xWith g3 m T) ≤ xsz h + xsl h + 46100 := by
    have := F1.2.2.2.1
    have := F4.2.2.2.1
    omega
  have t2o := hJ2.2.2.1.1
  have t2D := hJ2.2.2.2.1.1
  refine xw_istore (l' := [(7, _), (6, _), (0, _), (1, _), (2, _), (3, _), (4, _), (5, _)]) (pc := 678) dL_law_678 (by decide) rfl ?_
  refine xw_aload_n (pc := 680) dL_law_680 4 rfl ?_
  refine xw_callV (pc := 681) (xr_V (as := []) ok_X6_thrown rfl (by decide) q2352 q2353 q2354 (by rw [xtag_with]; first | (rw [hM1.1]; rfl) | (rw [hM3.1]; rfl)) (by rw [xtag_with]; first | (rw [hM1.1]; rfl) | (rw [hM3.1]; rfl)) dL_law_681 rfl rfl (Nat.le_of_ble_eq_true rfl)) (by have z := SP_X6_thrown (d := d + 91) (S := T) hM3; rw [c6] at z; exact z) ?_
  refine xw_iload (pc := 684) dL_law_684 1 rfl ?_
  refine xw_icmp_eq (pc := 686) 691 dL_law_686 rfl (fun hb686 => ?_) (fun hb686 => ?_)
  rotate_left
  · exfalso
    replace hb686 : ¬ (c = c) := mt (nI_eq (a := c) (b := c) (by omega) (by omega)).mpr hb686
    omega
  replace hb686 : c = c := (nI_eq (a := c) (b := c) (by omega) (by omega)).mp hb686
  refine xw_iload (pc := 691) dL_law_691 1 rfl ?_
  refine xw_if_ne (pc := 693) 708 dL_law_693 rfl (fun hb693 => ?_) (fun hb693 => ?_)
  · replace hb693 : ¬ (c = 0) := mt (nI_eq (a := c) (b := 0) (by omega) (by omega)).mpr hb693
    refine xw_goto (pc := 708) 3272 dL_law_708 rfl ?_
    refine xw_pick (pc := 3272) (l' := [(0, _), (1, _), (2, _), (3, _), (4, _), (5, _)]) [2, 3, 4, 5, 6, 7] rfl ?_
    exact k _ _ hJ2 hsz
  · replace hb693 : c = 0 := (nI_eq (a := c) (b := 0) (by omega) (by omega)).mp hb693
    refine xw_aload_n (pc := 696) dL_law_696 5 rfl ?_
    refine xw_iconst (v := nI 0) (pc := 697) dL_law_697 rfl ?_
    have wE : xw (xWith g3 m T) out 0 = _ := (F4.w' (xlt (by rw [ho1.1]; decide)) (by rw [ho1.2.1]; unfold o313; omega)).trans (w1 hb693)
    refine xw_lald (k := 0) (pc := 698) dL_law_698 (by simp [-List.getD_eq_getElem?_getD, xE_setI, xsz_setI, xsl_setI, xtag_setI, xown_setI, xlen_setI, xE_setR, xsz_setR, xsl_setR, xtag_setR, xown_setR, xlen_setR, xE_setW, xsz_setW, xsl_setW, xtag_setW, xown_setW, xlen_setW, xi_setR, xi_setW, xr_setI, xr_setW, xww_setI, xww_setR, xi_setI, xr_setR, xww_setW, xE_new, xsz_new, xsl_new, hx, c1, tw1, t2o, t2D]) rfl (by rw [hJ2.2.2.1.2.2]; decide) ?_
    rw [wE]
    refine xw_iload (pc := 699) dL_law_699 0 rfl ?_
    refine xw_i2l (pc := 701) dL_law_701 ?_
    refine xw_lcmp (pc := 702) dL_law_702 rfl ?_
    refine xw_if_eq (pc := 703) 708 dL_law_703 rfl (fun hb703 => ?_) (fun hb703 => ?_)
    rotate_left
    · exfalso
      exact hb703 lg_s
    refine xw_goto (pc := 708) 3272 dL_law_708 rfl ?_
    refine xw_pick (pc := 3272) (l' := [(0, _), (1, _), (2, _), (3, _), (4, _), (5, _)]) [2, 3, 4, 5, 6, 7] rfl ?_
    exact k _ _ hJ2 hsz
theorem LC_test {d : Nat} {x m out outD sc len : Nat} {scr : Nat → Int32} {h : xG} {S : xMS} {i : Nat} (hJ : xJ x m out outD sc len scr h S) (hi : i + 6 ≤ len) (hl : len ≤ 144) {Q : Option Value ⊕ Nat → xG → Prop} (k : ∀ h' S', xJ x m out outD sc len scr h' S' → xsz h' + xsl h' ≤ xsz h + xsl h + 46100 → XW M_L_law (d + 92) 3272 [(0, .ref sc), (1, .ref x), (2, .ref m), (3, .ref out), (4, .ref outD), (5, .int (nI i))] [] h' Q) : XW M_L_law (d + 92) 711 [(0, .ref sc), (1, .ref x), (2, .ref m), (3, .ref out), (4, .ref outD), (5, .int (nI i))] [] h Q := by
  obtain ⟨p_, lk_, fa_, ka_, la_, Z_, n_, rr_, ww_, dq_, da_, hh_, ps_, sv_, hp_⟩ := hJ.1.1.p
  have hx : xtag h x = 1 := hp_.M.tx
  have c1 := hJ.2.2.2.2.1
  have c3 := hJ.2.2.2.2.2.2.1
  have c4 := hJ.2.2.2.2.2.2.2
  have oo := hJ.2.2.1
  have oD := hJ.2.2.2.1
  obtain ⟨c, b, S', hc, hP, hR, hW⟩ := W_test (out := out) hJ.1.1 hJ.1.2 hx oo (p0 := scr (i + 1)) (p1 := scr (i + 2)) (p2 := scr (i + 3)) (p3 := scr (i + 4))
  refine xw_aload_n (pc := 711) dL_law_711 1 rfl ?_
  refine xw_aload_n (pc := 712) dL_law_712 0 rfl ?_
  refine xw_iload (pc := 713) dL_law_713 5 rfl ?_
  refine xw_iconst (v := nI 1) (pc := 715) dL_law_715 rfl ?_
  refine xn_iadd (pc := 716) dL_law_716 ?_
  refine xw_iald (k := (i + 1)) (pc := 717) dL_law_717 (by simp [-List.getD_eq_getElem?_getD, xE_setI, xsz_setI, xsl_setI, xtag_setI, xown_setI, xlen_setI, xE_setR, xsz_setR, xsl_setR, xtag_setR, xown_setR, xlen_setR, xE_setW, xsz_setW, xsl_setW, xtag_setW, xown_setW, xlen_setW, xi_setR, xi_setW, xr_setI, xr_setW, xww_setI, xww_setR, xi_setI, xr_setR, xww_setW, xE_new, xsz_new, xsl_new, hx, c1]) rfl (by rw [c3]; omega) ?_
  rw [c4 (i + 1) (by omega)]
  refine xw_aload_n (pc := 718) dL_law_718 0 rfl ?_
  refine xw_iload (pc := 719) dL_law_719 5 rfl ?_
  refine xw_iconst (v := nI 2) (pc := 721) dL_law_721 rfl ?_
  refine xn_iadd (pc := 722) dL_law_722 ?_
  refine xw_iald (k := (i + 2)) (pc := 723) dL_law_723 (by simp [-List.getD_eq_getElem?_getD, xE_setI, xsz_setI, xsl_setI, xtag_setI, xown_setI, xlen_setI, xE_setR, xsz_setR, xsl_setR, xtag_setR, xown_setR, xlen_setR, xE_setW, xsz_setW, xsl_setW, xtag_setW, xown_setW, xlen_setW, xi_setR, xi_setW, xr_setI, xr_setW, xww_setI, xww_setR, xi_setI, xr_setR, xww_setW, xE_new, xsz_new, xsl_new, hx, c1]) rfl (by rw [c3]; omega) ?_
  rw [c4 (i + 2) (by omega)]
  refine xw_aload_n (pc := 724) dL_law_724 0 rfl ?_
  refine xw_iload (pc := 725) dL_law_725 5 rfl ?_
  refine xw_iconst (v := nI 3) (pc := 727) dL_law_727 rfl ?_
  refine xn_iadd (pc := 728) dL_law_728 ?_
  refine xw_iald (k := (i + 3)) (pc := 729) dL_law_729 (by simp [-List.getD_eq_getElem?_getD, xE_setI, xsz_setI, xsl_setI, xtag_setI, xown_setI, xlen_setI, xE_setR, xsz_setR, xsl_setR, xtag_setR, xown_setR, xlen_setR, xE_setW, xsz_setW, xsl_setW, xtag_setW, xown_setW, xlen_setW, xi_setR, xi_setW, xr_setI, xr_setW, xww_setI, xww_setR, xi_setI, xr_setR, xww_setW, xE_new, xsz_new, xsl_new, hx, c1]) rfl (by rw [c3]; omega) ?_
  rw [c4 (i + 3) (by omega)]
  refine xw_aload_n (pc := 730) dL_law_730 0 rfl ?_
  refine xw_iload (pc := 731) dL_law_731 5 rfl ?_
  refine xw_iconst (v := nI 4) (pc := 733) dL_law_733 rfl ?_
  refine xn_iadd (pc := 734) dL_law_734 ?_
  refine xw_iald (k := (i + 4)) (pc := 735) dL_law_735 (by simp [-List.getD_eq_getElem?_getD, xE_setI, xsz_setI, xsl_setI, xtag_setI, xown_setI, xlen_setI, xE_setR, xsz_setR, xsl_setR, xtag_setR, xown_setR, xlen_setR, xE_setW, xsz_setW, xsl_setW, xtag_setW, xown_setW, xlen_setW, xi_setR, xi_setW, xr_setI, xr_setW, xww_setI, xww_setR, xi_setI, xr_setR, xww_setW, xE_new, xsz_new, xsl_new, hx, c1]) rfl (by rw [c3]; omega) ?_
  rw [c4 (i + 4) (by omega)]
  refine xw_aload_n (pc := 736) dL_law_736 3 rfl ?_
  refine xw_callF (pc := 737) (xr_SX (as := [_, _, _, _, _, _]) ok_X0_test rfl (by decide) q1365 q1366 dL_law_737 rfl rfl (Nat.le_of_ble_eq_true rfl)) (hW d) ?_
  intro g1 hc1 hm1
  obtain ⟨st1, F1, w1⟩ := hc1
  refine xw_istore (l' := [(6, _), (0, _), (1, _), (2, _), (3, _), (4, _), (5, _)]) (pc := 740) dL_law_740 (by decide) rfl ?_
  obtain ⟨hK1, ⟨hM1, h31, he1⟩, ho1, hoD1, hs1⟩ := hJ.mid st1 F1 (by unfold oW; omega) (by unfold oW; omega)
  have tw1 : xtag (xWith g1 m S) sc = 101 := (he1.ti.1 sc).trans hs1.1
  have lw1 : xlen (xWith g1 m S) sc = len := (he1.ti.2.1 sc).trans hs1.2.2.1
  have iw1 : ∀ j, j < len → xi (xWith g1 m S) sc j = scr j := fun j hj => (he1.ti.2.2 sc j).trans (hs1.2.2.2 j hj)
  refine XW.eqv he1.symm ?_
  refine xw_aload_n (pc := 742) dL_law_742 3 rfl ?_
  refine xw_aload_n (pc := 743) dL_law_743 1 rfl ?_
  refine xw_iload (pc := 744) dL_law_744 6 rfl ?_
  refine xw_iconst (v := nI 1) (pc := 746) dL_law_746 rfl ?_
  refine xn_iadd (pc := 747) dL_law_747 ?_
  refine xw_iald (k := (i + 1)) (pc := 748) dL_law_748 (by simp [-List.getD_eq_getElem?_getD, xE_setI, xsz_setI, xsl_setI, xtag_setI, xown_setI, xlen_setI, xE_setR, xsz_setR, xsl_setR, xtag_setR, xown_setR, xlen_setR, xE_setW, xsz_setW, xsl_setW, xtag_setW, xown_setW, xlen_setW, xi_setR, xi_setW, xr_setI, xr_setW, xww_setI, xww_setR, xi_setI, xr_setR, xww_setW, xE_new, xsz_new, xsl_new, hx, c1, tw1]) rfl (by rw [lw1]; omega) ?_
  rw [iw1 (i + 1) (by omega)]
  refine xw_aload_n (pc := 749) dL_law_749 1 rfl ?_
  refine xw_iload (pc := 750) dL_law_750 6 rfl ?_
  refine xw_iconst (v := nI 2) (pc := 752) dL_law_752 rfl ?_
  refine xn_iadd (pc := 753) dL_law_753 ?_
  refine xw_iald (k := (i + 2)) (pc := 754) dL_law_754 (by simp [-List.getD_eq_getElem?_getD, xE_setI, xsz_setI, xsl_setI, xtag_setI, xown_setI, xlen_setI, xE_setR, xsz_setR, xsl_setR, xtag_setR, xown_setR, xlen_setR, xE_setW, xsz_setW, xsl_setW, xtag_setW, xown_setW, xlen_setW, xi_setR, xi_setW, xr_setI, xr_setW, xww_setI, xww_setR, xi_setI, xr_setR, xww_setW, xE_new, xsz_new, xsl_new, hx, c1, tw1]) rfl (by rw [lw1]; omega) ?_
  rw [iw1 (i + 2) (by omega)]
  refine xw_aload_n (pc := 755) dL_law_755 1 rfl ?_
  refine xw_iload (pc := 756) dL_law_756 6 rfl ?_
  refine xw_iconst (v := nI 3) (pc := 758) dL_law_758 rfl ?_
  refine xn_iadd (pc := 759) dL_law_759 ?_
  refine xw_iald (k := (i + 3)) (pc := 760) dL_law_760 (by simp [-List.getD_eq_getElem?_getD, xE_setI, xsz_setI, xsl_setI, xtag_setI, xown_setI, xlen_setI, xE_setR, xsz_setR, xsl_setR, xtag_setR, xown_setR, xlen_setR, xE_setW, xsz_setW, xsl_setW, xtag_setW, xown_setW, xlen_setW, xi_setR, xi_setW, xr_setI, xr_setW, xww_setI, xww_setR, xi_setI, xr_setR, xww_setW, xE_new, xsz_new, xsl_new, hx, c1, tw1]) rfl (by rw [lw1]; omega) ?_
  rw [iw1 (i + 3) (by omega)]
  refine xw_aload_n (pc := 761) dL_law_761 1 rfl ?_
  refine xw_iload (pc := 762) dL_law_762 6 rfl ?_
  refine xw_iconst (v := nI 4) (pc := 764) dL_law_764 rfl ?_
  refine xn_iadd (pc := 765) dL_law_765 ?_
  refine xw_iald (k := (i + 4)) (pc := 766) dL_law_766 (by simp [-List.getD_eq_getElem?_getD, xE_setI, xsz_setI, xsl_setI, xtag_setI, xown_setI, xlen_setI, xE_setR, xsz_setR, xsl_setR, xtag_setR, xown_setR, xlen_setR, xE_setW, xsz_setW, xsl_setW, xtag_setW, xown_setW, xlen_setW, xi_setR, xi_setW, xr_setI, xr_setW, xww_setI, xww_setR, xi_setI, xr_setR, xww_setW, xE_new, xsz_new, xsl_new, hx, c1, tw1]) rfl (by rw [lw1]; omega) ?_
  rw [iw1 (i + 4) (by omega)]
  refine xw_callF (pc := 767) (xr_V (as := [_, _, _, _]) ok_X6_test rfl (by decide) q2449 q2450 q2451 (by rw [xtag_with]; first | (rw [hM1.1]; rfl) | (rw [hM3.1]; rfl)) (by rw [xtag_with]; first | (rw [hM1.1]; rfl) | (rw [hM3.1]; rfl)) dL_law_767 rfl rfl (Nat.le_of_ble_eq_true rfl)) (jR.val (hR (d + 1) g1 m hM1 h31 hK1)) ?_
  intro g2 hc2 hm2
  obtain ⟨g3, T, e3, ag, c6, hM3, h33, F3⟩ := hc2
  subst e3
  obtain ⟨hJ2, F4⟩ := xJ.done st1 hK1 ho1 hoD1 hs1 ag hM3 h33 F3
  have hsz : xsz (xWith g3 m T) + xsl (xWith g3 m T) ≤ xsz h + xsl h + 46100 := by
    have := F1.2.2.2.1
    have := F4.2.2.2.1
    omega
  have t2o := hJ2.2.2.1.1
  have t2D := hJ2.2.2.2.1.1
  refine xw_istore (l' := [(7, _), (6, _), (0, _), (1, _), (2, _), (3, _), (4, _), (5, _)]) (pc := 770) dL_law_770 (by decide) rfl ?_
  refine xw_aload_n (pc := 772) dL_law_772 4 rfl ?_
  refine xw_callV (pc := 773) (xr_V (as := []) ok_X6_thrown rfl (by decide) q2352 q2353 q2354 (by rw [xtag_with]; first | (rw [hM1.1]; rfl) | (rw [hM3.1]; rfl)) (by rw [xtag_with]; first | (rw [hM1.1]; rfl) | (rw [hM3.1]; rfl)) dL_law_773 rfl rfl (Nat.le_of_ble_eq_true rfl)) (by have z := SP_X6_thrown (d := d + 91) (S := T) hM3; rw [c6] at z; exact z) ?_
  refine xw_iload (pc := 776) dL_law_776 1 rfl ?_
  refine xw_icmp_eq (pc := 778) 783 dL_law_778 rfl (fun hb778 => ?_) (fun hb778 => ?_)
  rotate_left
  · exfalso
    replace hb778 : ¬ (c = c) := mt (nI_eq (a := c) (b := c) (by omega) (by omega)).mpr hb778
    omega
  replace hb778 : c = c := (nI_eq (a := c) (b := c) (by omega) (by omega)).mp hb778
  refine xw_iload (pc := 783) dL_law_783 1 rfl ?_
  refine xw_if_ne (pc := 785) 800 dL_law_785 rfl (fun hb785 => ?_) (fun hb785 => ?_)
  · replace hb785 : ¬ (c = 0) := mt (nI_eq (a := c) (b := 0) (by omega) (by omega)).mpr hb785
    refine xw_goto (pc := 800) 3272 dL_law_800 rfl ?_
    refine xw_pick (pc := 3272) (l' := [(0, _), (1, _), (2, _), (3, _), (4, _), (5, _)]) [2, 3, 4, 5, 6, 7] rfl ?_
    exact k _ _ hJ2 hsz
  · replace hb785 : c = 0 := (nI_eq (a := c) (b := 0) (by omega) (by omega)).mp hb785
    refine xw_aload_n (pc := 788) dL_law_788 5 rfl ?_
    refine xw_iconst (v := nI 0) (pc := 789) dL_law_789 rfl ?_
    have wE : xw (xWith g3 m T) out 0 = _ := (F4.w' (xlt (by rw [ho1.1]; decide)) (by rw [ho1.2.1]; unfold o313; omega)).trans (w1 hb785)
    refine xw_lald (k := 0) (pc := 790) dL_law_790 (by simp [-List.getD_eq_getElem?_getD, xE_setI, xsz_setI, xsl_setI, xtag_setI, xown_setI, xlen_setI, xE_setR, xsz_setR, xsl_setR, xtag_setR, xown_setR, xlen_setR, xE_setW, xsz_setW, xsl_setW, xtag_setW, xown_setW, xlen_setW, xi_setR, xi_setW, xr_setI, xr_setW, xww_setI, xww_setR, xi_setI, xr_setR, xww_setW, xE_new, xsz_new, xsl_new, hx, c1, tw1, t2o, t2D]) rfl (by rw [hJ2.2.2.1.2.2]; decide) ?_
    rw [wE]
    refine xw_iload (pc := 791) dL_law_791 0 rfl ?_
    refine xw_i2l (pc := 793) dL_law_793 ?_
    refine xw_lcmp (pc := 794) dL_law_794 rfl ?_
    refine xw_if_eq (pc := 795) 800 dL_law_795 rfl (fun hb795 => ?_) (fun hb795 => ?_)
    rotate_left
    · exfalso
      exact hb795 lg_s
    refine xw_goto (pc := 800) 3272 dL_law_800 rfl ?_
    refine xw_pick (pc := 3272) (l' := [(0, _), (1, _), (2, _), (3, _), (4, _), (5, _)]) [2, 3, 4, 5, 6, 7] rfl ?_
    exact k _ _ hJ2 hsz
theorem LC_setFactor {d : Nat} {x m out outD sc len : Nat} {scr : Nat → Int32} {h : xG} {S : xMS} {i : Nat} (hJ : xJ x m out outD sc len scr h S) (hi : i + 6 ≤ len) (hl : len ≤ 144) {Q : Option Value ⊕ Nat → xG → Prop} (k : ∀ h' S', xJ x m out outD sc len scr h' S' → xsz h' + xsl h' ≤ xsz h + xsl h + 46100 → XW M_L_law (d + 92) 3272 [(0, .ref sc), (1, .ref x), (2, .ref m), (3, .ref out), (4, .ref outD), (5, .int (nI i))] [] h' Q) : XW M_L_law (d + 92) 803 [(0, .ref sc), (1, .ref x), (2, .ref m), (3, .ref out), (4, .ref outD), (5, .int (nI i))] [] h Q := by
  obtain ⟨p_, lk_, fa_, ka_, la_, Z_, n_, rr_, ww_, dq_, da_, hh_, ps_, sv_, hp_⟩ := hJ.1.1.p
  have hx : xtag h x = 1 := hp_.M.tx
  have c1 := hJ.2.2.2.2.1
  have c3 := hJ.2.2.2.2.2.2.1
  have c4 := hJ.2.2.2.2.2.2.2
  have oo := hJ.2.2.1
  have oD := hJ.2.2.2.1
  obtain ⟨c, b, S', hc, hP, hR, hW⟩ := W_setFactor (out := out) hJ.1.1 hJ.1.2 hx oo (p0 := scr (i + 1)) (p1 := scr (i + 2))
  refine xw_aload_n (pc := 803) dL_law_803 1 rfl ?_
  refine xw_aload_n (pc := 804) dL_law_804 0 rfl ?_
  refine xw_iload (pc := 805) dL_law_805 5 rfl ?_
  refine xw_iconst (v := nI 1) (pc := 807) dL_law_807 rfl ?_
  refine xn_iadd (pc := 808) dL_law_808 ?_
  refine xw_iald (k := (i + 1)) (pc := 809) dL_law_809 (by simp [-List.getD_eq_getElem?_getD, xE_setI, xsz_setI, xsl_setI, xtag_setI, xown_setI, xlen_setI, xE_setR, xsz_setR, xsl_setR, xtag_setR, xown_setR, xlen_setR, xE_setW, xsz_setW, xsl_setW, xtag_setW, xown_setW, xlen_setW, xi_setR, xi_setW, xr_setI, xr_setW, xww_setI, xww_setR, xi_setI, xr_setR, xww_setW, xE_new, xsz_new, xsl_new, hx, c1]) rfl (by rw [c3]; omega) ?_
  rw [c4 (i + 1) (by omega)]
  refine xw_aload_n (pc := 810) dL_law_810 0 rfl ?_
  refine xw_iload (pc := 811) dL_law_811 5 rfl ?_
  refine xw_iconst (v := nI 2) (pc := 813) dL_law_813 rfl ?_
  refine xn_iadd (pc := 814) dL_law_814 ?_
  refine xw_iald (k := (i + 2)) (pc := 815) dL_law_815 (by simp [-List.getD_eq_getElem?_getD, xE_setI, xsz_setI, xsl_setI, xtag_setI, xown_setI, xlen_setI, xE_setR, xsz_setR, xsl_setR, xtag_setR, xown_setR, xlen_setR, xE_setW, xsz_setW, xsl_setW, xtag_setW, xown_setW, xlen_setW, xi_setR, xi_setW, xr_setI, xr_setW, xww_setI, xww_setR, xi_setI, xr_setR, xww_setW, xE_new, xsz_new, xsl_new, hx, c1]) rfl (by rw [c3]; omega) ?_
  rw [c4 (i + 2) (by omega)]
  refine xw_aload_n (pc := 816) dL_law_816 3 rfl ?_
  refine xw_callF (pc := 817) (xr_SX (as := [_, _, _, _]) ok_X0_setFactor rfl (by decide) q1457 q1458 dL_law_817 rfl rfl (Nat.le_of_ble_eq_true rfl)) (hW d) ?_
  intro g1 hc1 hm1
  obtain ⟨st1, F1, w1⟩ := hc1
  refine xw_istore (l' := [(6, _), (0, _), (1, _), (2, _), (3, _), (4, _), (5, _)]) (pc := 820) dL_law_820 (by decide) rfl ?_
  obtain ⟨hK1, ⟨hM1, h31, he1⟩, ho1, hoD1, hs1⟩ := hJ.mid st1 F1 (by unfold oW; omega) (by unfold oW; omega)
  have tw1 : xtag (xWith g1 m S) sc = 101 := (he1.ti.1 sc).trans hs1.1
  have lw1 : xlen (xWith g1 m S) sc = len := (he1.ti.2.1 sc).trans hs1.2.2.1
  have iw1 : ∀ j, j < len → xi (xWith g1 m S) sc j = scr j := fun j hj => (he1.ti.2.2 sc j).trans (hs1.2.2.2 j hj)
  refine XW.eqv he1.symm ?_
  refine xw_aload_n (pc := 822) dL_law_822 3 rfl ?_
  refine xw_aload_n (pc := 823) dL_law_823 1 rfl ?_
  refine xw_iload (pc := 824) dL_law_824 6 rfl ?_
  refine xw_iconst (v := nI 1) (pc := 826) dL_law_826 rfl ?_
  refine xn_iadd (pc := 827) dL_law_827 ?_
  refine xw_iald (k := (i + 1)) (pc := 828) dL_law_828 (by simp [-List.getD_eq_getElem?_getD, xE_setI, xsz_setI, xsl_setI, xtag_setI, xown_setI, xlen_setI, xE_setR, xsz_setR, xsl_setR, xtag_setR, xown_setR, xlen_setR, xE_setW, xsz_setW, xsl_setW, xtag_setW, xown_setW, xlen_setW, xi_setR, xi_setW, xr_setI, xr_setW, xww_setI, xww_setR, xi_setI, xr_setR, xww_setW, xE_new, xsz_new, xsl_new, hx, c1, tw1]) rfl (by rw [lw1]; omega) ?_
  rw [iw1 (i + 1) (by omega)]
  refine xw_aload_n (pc := 829) dL_law_829 1 rfl ?_
  refine xw_iload (pc := 830) dL_law_830 6 rfl ?_
  refine xw_iconst (v := nI 2) (pc := 832) dL_law_832 rfl ?_
  refine xn_iadd (pc := 833) dL_law_833 ?_
  refine xw_iald (k := (i + 2)) (pc := 834) dL_law_834 (by simp [-List.getD_eq_getElem?_getD, xE_setI, xsz_setI, xsl_setI, xtag_setI, xown_setI, xlen_setI, xE_setR, xsz_setR, xsl_setR, xtag_setR, xown_setR, xlen_setR, xE_setW, xsz_setW, xsl_setW, xtag_setW, xown_setW, xlen_setW, xi_setR, xi_setW, xr_setI, xr_setW, xww_setI, xww_setR, xi_setI, xr_setR, xww_setW, xE_new, xsz_new, xsl_new, hx, c1, tw1]) rfl (by rw [lw1]; omega) ?_
  rw [iw1 (i + 2) (by omega)]
  refine xw_callF (pc := 835) (xr_V (as := [_, _]) ok_X6_setFactor rfl (by decide) q2480 q2481 q2482 (by rw [xtag_with]; first | (rw [hM1.1]; rfl) | (rw [hM3.1]; rfl)) (by rw [xtag_with]; first | (rw [hM1.1]; rfl) | (rw [hM3.1]; rfl)) dL_law_835 rfl rfl (Nat.le_of_ble_eq_true rfl)) (jR.val (hR (d + 1) g1 m hM1 h31 hK1)) ?_
  intro g2 hc2 hm2
  obtain ⟨g3, T, e3, ag, c6, hM3, h33, F3⟩ := hc2
  subst e3
  obtain ⟨hJ2, F4⟩ := xJ.done st1 hK1 ho1 hoD1 hs1 ag hM3 h33 F3
  have hsz : xsz (xWith g3 m T) + xsl (xWith g3 m T) ≤ xsz h + xsl h + 46100 := by
    have := F1.2.2.2.1
    have := F4.2.2.2.1
    omega
  have t2o := hJ2.2.2.1.1
  have t2D := hJ2.2.2.2.1.1
  refine xw_istore (l' := [(7, _), (6, _), (0, _), (1, _), (2, _), (3, _), (4, _), (5, _)]) (pc := 838) dL_law_838 (by decide) rfl ?_
  refine xw_aload_n (pc := 840) dL_law_840 4 rfl ?_
  refine xw_callV (pc := 841) (xr_V (as := []) ok_X6_thrown rfl (by decide) q2352 q2353 q2354 (by rw [xtag_with]; first | (rw [hM1.1]; rfl) | (rw [hM3.1]; rfl)) (by rw [xtag_with]; first | (rw [hM1.1]; rfl) | (rw [hM3.1]; rfl)) dL_law_841 rfl rfl (Nat.le_of_ble_eq_true rfl)) (by have z := SP_X6_thrown (d := d + 91) (S := T) hM3; rw [c6] at z; exact z) ?_
  refine xw_iload (pc := 844) dL_law_844 1 rfl ?_
  refine xw_icmp_eq (pc := 846) 851 dL_law_846 rfl (fun hb846 => ?_) (fun hb846 => ?_)
  rotate_left
  · exfalso
    replace hb846 : ¬ (c = c) := mt (nI_eq (a := c) (b := c) (by omega) (by omega)).mpr hb846
    omega
  replace hb846 : c = c := (nI_eq (a := c) (b := c) (by omega) (by omega)).mp hb846
  refine xw_iload (pc := 851) dL_law_851 1 rfl ?_
  refine xw_if_ne (pc := 853) 868 dL_law_853 rfl (fun hb853 => ?_) (fun hb853 => ?_)
  · replace hb853 : ¬ (c = 0) := mt (nI_eq (a := c) (b := 0) (by omega) (by omega)).mpr hb853
    refine xw_goto (pc := 868) 3272 dL_law_868 rfl ?_
    refine xw_pick (pc := 3272) (l' := [(0, _), (1, _), (2, _), (3, _), (4, _), (5, _)]) [2, 3, 4, 5, 6, 7] rfl ?_
    exact k _ _ hJ2 hsz
  · replace hb853 : c = 0 := (nI_eq (a := c) (b := 0) (by omega) (by omega)).mp hb853
    refine xw_aload_n (pc := 856) dL_law_856 5 rfl ?_
    refine xw_iconst (v := nI 0) (pc := 857) dL_law_857 rfl ?_
    have wE : xw (xWith g3 m T) out 0 = _ := (F4.w' (xlt (by rw [ho1.1]; decide)) (by rw [ho1.2.1]; unfold o313; omega)).trans (w1 hb853)
    refine xw_lald (k := 0) (pc := 858) dL_law_858 (by simp [-List.getD_eq_getElem?_getD, xE_setI, xsz_setI, xsl_setI, xtag_setI, xown_setI, xlen_setI, xE_setR, xsz_setR, xsl_setR, xtag_setR, xown_setR, xlen_setR, xE_setW, xsz_setW, xsl_setW, xtag_setW, xown_setW, xlen_setW, xi_setR, xi_setW, xr_setI, xr_setW, xww_setI, xww_setR, xi_setI, xr_setR, xww_setW, xE_new, xsz_new, xsl_new, hx, c1, tw1, t2o, t2D]) rfl (by rw [hJ2.2.2.1.2.2]; decide) ?_
    rw [wE]
    refine xw_iload (pc := 859) dL_law_859 0 rfl ?_
    refine xw_i2l (pc := 861) dL_law_861 ?_
    refine xw_lcmp (pc := 862) dL_law_862 rfl ?_
    refine xw_if_eq (pc := 863) 868 dL_law_863 rfl (fun hb863 => ?_) (fun hb863 => ?_)
    rotate_left
    · exfalso
      exact hb863 lg_s
    refine xw_goto (pc := 868) 3272 dL_law_868 rfl ?_
    refine xw_pick (pc := 3272) (l' := [(0, _), (1, _), (2, _), (3, _), (4, _), (5, _)]) [2, 3, 4, 5, 6, 7] rfl ?_
    exact k _ _ hJ2 hsz
theorem LC_end {d : Nat} {x m out outD sc len : Nat} {scr : Nat → Int32} {h : xG} {S : xMS} {i : Nat} (hJ : xJ x m out outD sc len scr h S) (hi : i + 6 ≤ len) (hl : len ≤ 144) {Q : Option Value ⊕ Nat → xG → Prop} (k : ∀ h' S', xJ x m out outD sc len scr h' S' → xsz h' + xsl h' ≤ xsz h + xsl h + 46100 → XW M_L_law (d + 92) 3272 [(0, .ref sc), (1, .ref x), (2, .ref m), (3, .ref out), (4, .ref outD), (5, .int (nI i))] [] h' Q) : XW M_L_law (d + 92) 871 [(0, .ref sc), (1, .ref x), (2, .ref m), (3, .ref out), (4, .ref outD), (5, .int (nI i))] [] h Q := by
  obtain ⟨p_, lk_, fa_, ka_, la_, Z_, n_, rr_, ww_, dq_, da_, hh_, ps_, sv_, hp_⟩ := hJ.1.1.p
  have hx : xtag h x = 1 := hp_.M.tx
  have c1 := hJ.2.2.2.2.1
  have c3 := hJ.2.2.2.2.2.2.1
  have c4 := hJ.2.2.2.2.2.2.2
  have oo := hJ.2.2.1
  have oD := hJ.2.2.2.1
  obtain ⟨c, b, S', hc, hP, hR, hW⟩ := W_end (out := out) hJ.1.1 hJ.1.2 hx oo (p0 := scr (i + 1)) (p1 := scr (i + 2))
  refine xw_aload_n (pc := 871) dL_law_871 1 rfl ?_
  refine xw_aload_n (pc := 872) dL_law_872 0 rfl ?_
  refine xw_iload (pc := 873) dL_law_873 5 rfl ?_
  refine xw_iconst (v := nI 1) (pc := 875) dL_law_875 rfl ?_
  refine xn_iadd (pc := 876) dL_law_876 ?_
  refine xw_iald (k := (i + 1)) (pc := 877) dL_law_877 (by simp [-List.getD_eq_getElem?_getD, xE_setI, xsz_setI, xsl_setI, xtag_setI, xown_setI, xlen_setI, xE_setR, xsz_setR, xsl_setR, xtag_setR, xown_setR, xlen_setR, xE_setW, xsz_setW, xsl_setW, xtag_setW, xown_setW, xlen_setW, xi_setR, xi_setW, xr_setI, xr_setW, xww_setI, xww_setR, xi_setI, xr_setR, xww_setW, xE_new, xsz_new, xsl_new, hx, c1]) rfl (by rw [c3]; omega) ?_
  rw [c4 (i + 1) (by omega)]
  refine xw_aload_n (pc := 878) dL_law_878 0 rfl ?_
  refine xw_iload (pc := 879) dL_law_879 5 rfl ?_
  refine xw_iconst (v := nI 2) (pc := 881) dL_law_881 rfl ?_
  refine xn_iadd (pc := 882) dL_law_882 ?_
  refine xw_iald (k := (i + 2)) (pc := 883) dL_law_883 (by simp [-List.getD_eq_getElem?_getD, xE_setI, xsz_setI, xsl_setI, xtag_setI, xown_setI, xlen_setI, xE_setR, xsz_setR, xsl_setR, xtag_setR, xown_setR, xlen_setR, xE_setW, xsz_setW, xsl_setW, xtag_setW, xown_setW, xlen_setW, xi_setR, xi_setW, xr_setI, xr_setW, xww_setI, xww_setR, xi_setI, xr_setR, xww_setW, xE_new, xsz_new, xsl_new, hx, c1]) rfl (by rw [c3]; omega) ?_
  rw [c4 (i + 2) (by omega)]
  refine xw_aload_n (pc := 884) dL_law_884 3 rfl ?_
  refine xw_callF (pc := 885) (xr_SX (as := [_, _, _, _]) ok_X0_end rfl (by decide) q1464 q1465 dL_law_885 rfl rfl (Nat.le_of_ble_eq_true rfl)) (hW d) ?_
  intro g1 hc1 hm1
  obtain ⟨st1, F1, w1⟩ := hc1
  refine xw_istore (l' := [(6, _), (0, _), (1, _), (2, _), (3, _), (4, _), (5, _)]) (pc := 888) dL_law_888 (by decide) rfl ?_
  obtain ⟨hK1, ⟨hM1, h31, he1⟩, ho1, hoD1, hs1⟩ := hJ.mid st1 F1 (by unfold oW; omega) (by unfold oW; omega)
  have tw1 : xtag (xWith g1 m S) sc = 101 := (he1.ti.1 sc).trans hs1.1
  have lw1 : xlen (xWith g1 m S) sc = len := (he1.ti.2.1 sc).trans hs1.2.2.1
  have iw1 : ∀ j, j < len → xi (xWith g1 m S) sc j = scr j := fun j hj => (he1.ti.2.2 sc j).trans (hs1.2.2.2 j hj)
  refine XW.eqv he1.symm ?_
  refine xw_aload_n (pc := 890) dL_law_890 3 rfl ?_
  refine xw_aload_n (pc := 891) dL_law_891 1 rfl ?_
  refine xw_iload (pc := 892) dL_law_892 6 rfl ?_
  refine xw_iconst (v := nI 1) (pc := 894) dL_law_894 rfl ?_
  refine xn_iadd (pc := 895) dL_law_895 ?_
  refine xw_iald (k := (i + 1)) (pc := 896) dL_law_896 (by simp [-List.getD_eq_getElem?_getD, xE_setI, xsz_setI, xsl_setI, xtag_setI, xown_setI, xlen_setI, xE_setR, xsz_setR, xsl_setR, xtag_setR, xown_setR, xlen_setR, xE_setW, xsz_setW, xsl_setW, xtag_setW, xown_setW, xlen_setW, xi_setR, xi_setW, xr_setI, xr_setW, xww_setI, xww_setR, xi_setI, xr_setR, xww_setW, xE_new, xsz_new, xsl_new, hx, c1, tw1]) rfl (by rw [lw1]; omega) ?_
  rw [iw1 (i + 1) (by omega)]
  refine xw_aload_n (pc := 897) dL_law_897 1 rfl ?_
  refine xw_iload (pc := 898) dL_law_898 6 rfl ?_
  refine xw_iconst (v := nI 2) (pc := 900) dL_law_900 rfl ?_
  refine xn_iadd (pc := 901) dL_law_901 ?_
  refine xw_iald (k := (i + 2)) (pc := 902) dL_law_902 (by simp [-List.getD_eq_getElem?_getD, xE_setI, xsz_setI, xsl_setI, xtag_setI, xown_setI, xlen_setI, xE_setR, xsz_setR, xsl_setR, xtag_setR, xown_setR, xlen_setR, xE_setW, xsz_setW, xsl_setW, xtag_setW, xown_setW, xlen_setW, xi_setR, xi_setW, xr_setI, xr_setW, xww_setI, xww_setR, xi_setI, xr_setR, xww_setW, xE_new, xsz_new, xsl_new, hx, c1, tw1]) rfl (by rw [lw1]; omega) ?_
  rw [iw1 (i + 2) (by omega)]
  refine xw_callF (pc := 903) (xr_V (as := [_, _]) ok_X6_end rfl (by decide) q2484 q2485 q2486 (by rw [xtag_with]; first | (rw [hM1.1]; rfl) | (rw [hM3.1]; rfl)) (by rw [xtag_with]; first | (rw [hM1.1]; rfl) | (rw [hM3.1]; rfl)) dL_law_903 rfl rfl (Nat.le_of_ble_eq_true rfl)) (jR.val (hR (d + 1) g1 m hM1 h31 hK1)) ?_
  intro g2 hc2 hm2
  obtain ⟨g3, T, e3, ag, c6, hM3, h33, F3⟩ := hc2
  subst e3
  obtain ⟨hJ2, F4⟩ := xJ.done st1 hK1 ho1 hoD1 hs1 ag hM3 h33 F3
  have hsz : xsz (xWith g3 m T) + xsl (xWith g3 m T) ≤ xsz h + xsl h + 46100 := by
    have := F1.2.2.2.1
    have := F4.2.2.2.1
    omega
  have t2o := hJ2.2.2.1.1
  have t2D := hJ2.2.2.2.1.1
  refine xw_istore (l' := [(7, _), (6, _), (0, _), (1, _), (2, _), (3, _), (4, _), (5, _)]) (pc := 906) dL_law_906 (by decide) rfl ?_
  refine xw_aload_n (pc := 908) dL_law_908 4 rfl ?_
  refine xw_callV (pc := 909) (xr_V (as := []) ok_X6_thrown rfl (by decide) q2352 q2353 q2354 (by rw [xtag_with]; first | (rw [hM1.1]; rfl) | (rw [hM3.1]; rfl)) (by rw [xtag_with]; first | (rw [hM1.1]; rfl) | (rw [hM3.1]; rfl)) dL_law_909 rfl rfl (Nat.le_of_ble_eq_true rfl)) (by have z := SP_X6_thrown (d := d + 91) (S := T) hM3; rw [c6] at z; exact z) ?_
  refine xw_iload (pc := 912) dL_law_912 1 rfl ?_
  refine xw_icmp_eq (pc := 914) 919 dL_law_914 rfl (fun hb914 => ?_) (fun hb914 => ?_)
  rotate_left
  · exfalso
    replace hb914 : ¬ (c = c) := mt (nI_eq (a := c) (b := c) (by omega) (by omega)).mpr hb914
    omega
  replace hb914 : c = c := (nI_eq (a := c) (b := c) (by omega) (by omega)).mp hb914
  refine xw_iload (pc := 919) dL_law_919 1 rfl ?_
  refine xw_if_ne (pc := 921) 936 dL_law_921 rfl (fun hb921 => ?_) (fun hb921 => ?_)
  · replace hb921 : ¬ (c = 0) := mt (nI_eq (a := c) (b := 0) (by omega) (by omega)).mpr hb921
    refine xw_goto (pc := 936) 3272 dL_law_936 rfl ?_
    refine xw_pick (pc := 3272) (l' := [(0, _), (1, _), (2, _), (3, _), (4, _), (5, _)]) [2, 3, 4, 5, 6, 7] rfl ?_
    exact k _ _ hJ2 hsz
  · replace hb921 : c = 0 := (nI_eq (a := c) (b := 0) (by omega) (by omega)).mp hb921
    refine xw_aload_n (pc := 924) dL_law_924 5 rfl ?_
    refine xw_iconst (v := nI 0) (pc := 925) dL_law_925 rfl ?_
    have wE : xw (xWith g3 m T) out 0 = _ := (F4.w' (xlt (by rw [ho1.1]; decide)) (by rw [ho1.2.1]; unfold o313; omega)).trans (w1 hb921)
    refine xw_lald (k := 0) (pc := 926) dL_law_926 (by simp [-List.getD_eq_getElem?_getD, xE_setI, xsz_setI, xsl_setI, xtag_setI, xown_setI, xlen_setI, xE_setR, xsz_setR, xsl_setR, xtag_setR, xown_setR, xlen_setR, xE_setW, xsz_setW, xsl_setW, xtag_setW, xown_setW, xlen_setW, xi_setR, xi_setW, xr_setI, xr_setW, xww_setI, xww_setR, xi_setI, xr_setR, xww_setW, xE_new, xsz_new, xsl_new, hx, c1, tw1, t2o, t2D]) rfl (by rw [hJ2.2.2.1.2.2]; decide) ?_
    rw [wE]
    refine xw_iload (pc := 927) dL_law_927 0 rfl ?_
    refine xw_i2l (pc := 929) dL_law_929 ?_
    refine xw_lcmp (pc := 930) dL_law_930 rfl ?_
    refine xw_if_eq (pc := 931) 936 dL_law_931 rfl (fun hb931 => ?_) (fun hb931 => ?_)
    rotate_left
    · exfalso
      exact hb931 lg_s
    refine xw_goto (pc := 936) 3272 dL_law_936 rfl ?_
    refine xw_pick (pc := 3272) (l' := [(0, _), (1, _), (2, _), (3, _), (4, _), (5, _)]) [2, 3, 4, 5, 6, 7] rfl ?_
    exact k _ _ hJ2 hsz
theorem LC_ruleOf {d : Nat} {x m out outD sc len : Nat} {scr : Nat → Int32} {h : xG} {S : xMS} {i : Nat} (hJ : xJ x m out outD sc len scr h S) (hi : i + 6 ≤ len) (hl : len ≤ 144) {Q : Option Value ⊕ Nat → xG → Prop} (k : ∀ h' S', xJ x m out outD sc len scr h' S' → xsz h' + xsl h' ≤ xsz h + xsl h + 46100 → XW M_L_law (d + 92) 3272 [(0, .ref sc), (1, .ref x), (2, .ref m), (3, .ref out), (4, .ref outD), (5, .int (nI i))] [] h' Q) : XW M_L_law (d + 92) 939 [(0, .ref sc), (1, .ref x), (2, .ref m), (3, .ref out), (4, .ref outD), (5, .int (nI i))] [] h Q := by
  obtain ⟨p_, lk_, fa_, ka_, la_, Z_, n_, rr_, ww_, dq_, da_, hh_, ps_, sv_, hp_⟩ := hJ.1.1.p
  have hx : xtag h x = 1 := hp_.M.tx
  have c1 := hJ.2.2.2.2.1
  have c3 := hJ.2.2.2.2.2.2.1
  have c4 := hJ.2.2.2.2.2.2.2
  have oo := hJ.2.2.1
  have oD := hJ.2.2.2.1
  obtain ⟨c, b, S', hc, hP, hR, hW⟩ := W_ruleOf (out := out) hJ.1.1 hJ.1.2 hx oo (p0 := scr (i + 1)) (p1 := scr (i + 2))
  refine xw_aload_n (pc := 939) dL_law_939 1 rfl ?_
  refine xw_aload_n (pc := 940) dL_law_940 0 rfl ?_
  refine xw_iload (pc := 941) dL_law_941 5 rfl ?_
  refine xw_iconst (v := nI 1) (pc := 943) dL_law_943 rfl ?_
  refine xn_iadd (pc := 944) dL_law_944 ?_
  refine xw_iald (k := (i + 1)) (pc := 945) dL_law_945 (by simp [-List.getD_eq_getElem?_getD, xE_setI, xsz_setI, xsl_setI, xtag_setI, xown_setI, xlen_setI, xE_setR, xsz_setR, xsl_setR, xtag_setR, xown_setR, xlen_setR, xE_setW, xsz_setW, xsl_setW, xtag_setW, xown_setW, xlen_setW, xi_setR, xi_setW, xr_setI, xr_setW, xww_setI, xww_setR, xi_setI, xr_setR, xww_setW, xE_new, xsz_new, xsl_new, hx, c1]) rfl (by rw [c3]; omega) ?_
  rw [c4 (i + 1) (by omega)]
  refine xw_aload_n (pc := 946) dL_law_946 0 rfl ?_
  refine xw_iload (pc := 947) dL_law_947 5 rfl ?_
  refine xw_iconst (v := nI 2) (pc := 949) dL_law_949 rfl ?_
  refine xn_iadd (pc := 950) dL_law_950 ?_
  refine xw_iald (k := (i + 2)) (pc := 951) dL_law_951 (by simp [-List.getD_eq_getElem?_getD, xE_setI, xsz_setI, xsl_setI, xtag_setI, xown_setI, xlen_setI, xE_setR, xsz_setR, xsl_setR, xtag_setR, xown_setR, xlen_setR, xE_setW, xsz_setW, xsl_setW, xtag_setW, xown_setW, xlen_setW, xi_setR, xi_setW, xr_setI, xr_setW, xww_setI, xww_setR, xi_setI, xr_setR, xww_setW, xE_new, xsz_new, xsl_new, hx, c1]) rfl (by rw [c3]; omega) ?_
  rw [c4 (i + 2) (by omega)]
  refine xw_aload_n (pc := 952) dL_law_952 3 rfl ?_
  refine xw_callF (pc := 953) (xr_SX (as := [_, _, _, _]) ok_X0_ruleOf rfl (by decide) q1471 q1472 dL_law_953 rfl rfl (Nat.le_of_ble_eq_true rfl)) (hW d) ?_
  intro g1 hc1 hm1
  obtain ⟨st1, F1, w1⟩ := hc1
  refine xw_istore (l' := [(6, _), (0, _), (1, _), (2, _), (3, _), (4, _), (5, _)]) (pc := 956) dL_law_956 (by decide) rfl ?_
  obtain ⟨hK1, ⟨hM1, h31, he1⟩, ho1, hoD1, hs1⟩ := hJ.mid st1 F1 (by unfold oW; omega) (by unfold oW; omega)
  have tw1 : xtag (xWith g1 m S) sc = 101 := (he1.ti.1 sc).trans hs1.1
  have lw1 : xlen (xWith g1 m S) sc = len := (he1.ti.2.1 sc).trans hs1.2.2.1
  have iw1 : ∀ j, j < len → xi (xWith g1 m S) sc j = scr j := fun j hj => (he1.ti.2.2 sc j).trans (hs1.2.2.2 j hj)
  refine XW.eqv he1.symm ?_
  refine xw_aload_n (pc := 958) dL_law_958 3 rfl ?_
  refine xw_aload_n (pc := 959) dL_law_959 1 rfl ?_
  refine xw_iload (pc := 960) dL_law_960 6 rfl ?_
  refine xw_iconst (v := nI 1) (pc := 962) dL_law_962 rfl ?_
  refine xn_iadd (pc := 963) dL_law_963 ?_
  refine xw_iald (k := (i + 1)) (pc := 964) dL_law_964 (by simp [-List.getD_eq_getElem?_getD, xE_setI, xsz_setI, xsl_setI, xtag_setI, xown_setI, xlen_setI, xE_setR, xsz_setR, xsl_setR, xtag_setR, xown_setR, xlen_setR, xE_setW, xsz_setW, xsl_setW, xtag_setW, xown_setW, xlen_setW, xi_setR, xi_setW, xr_setI, xr_setW, xww_setI, xww_setR, xi_setI, xr_setR, xww_setW, xE_new, xsz_new, xsl_new, hx, c1, tw1]) rfl (by rw [lw1]; omega) ?_
  rw [iw1 (i + 1) (by omega)]
  refine xw_aload_n (pc := 965) dL_law_965 1 rfl ?_
  refine xw_iload (pc := 966) dL_law_966 6 rfl ?_
  refine xw_iconst (v := nI 2) (pc := 968) dL_law_968 rfl ?_
  refine xn_iadd (pc := 969) dL_law_969 ?_
  refine xw_iald (k := (i + 2)) (pc := 970) dL_law_970 (by simp [-List.getD_eq_getElem?_getD, xE_setI, xsz_setI, xsl_setI, xtag_setI, xown_setI, xlen_setI, xE_setR, xsz_setR, xsl_setR, xtag_setR, xown_setR, xlen_setR, xE_setW, xsz_setW, xsl_setW, xtag_setW, xown_setW, xlen_setW, xi_setR, xi_setW, xr_setI, xr_setW, xww_setI, xww_setR, xi_setI, xr_setR, xww_setW, xE_new, xsz_new, xsl_new, hx, c1, tw1]) rfl (by rw [lw1]; omega) ?_
  rw [iw1 (i + 2) (by omega)]
  refine xw_callF (pc := 971) (xr_V (as := [_, _]) ok_X6_ruleOf rfl (by decide) q2488 q2489 q2490 (by rw [xtag_with]; first | (rw [hM1.1]; rfl) | (rw [hM3.1]; rfl)) (by rw [xtag_with]; first | (rw [hM1.1]; rfl) | (rw [hM3.1]; rfl)) dL_law_971 rfl rfl (Nat.le_of_ble_eq_true rfl)) (jR.val (hR (d + 1) g1 m hM1 h31 hK1)) ?_
  intro g2 hc2 hm2
  obtain ⟨g3, T, e3, ag, c6, hM3, h33, F3⟩ := hc2
  subst e3
  obtain ⟨hJ2, F4⟩ := xJ.done st1 hK1 ho1 hoD1 hs1 ag hM3 h33 F3
  have hsz : xsz (xWith g3 m T) + xsl (xWith g3 m T) ≤ xsz h + xsl h + 46100 := by
    have := F1.2.2.2.1
    have := F4.2.2.2.1
    omega
  have t2o := hJ2.2.2.1.1
  have t2D := hJ2.2.2.2.1.1
  refine xw_istore (l' := [(7, _), (6, _), (0, _), (1, _), (2, _), (3, _), (4, _), (5, _)]) (pc := 974) dL_law_974 (by decide) rfl ?_
  refine xw_aload_n (pc := 976) dL_law_976 4 rfl ?_
  refine xw_callV (pc := 977) (xr_V (as := []) ok_X6_thrown rfl (by decide) q2352 q2353 q2354 (by rw [xtag_with]; first | (rw [hM1.1]; rfl) | (rw [hM3.1]; rfl)) (by rw [xtag_with]; first | (rw [hM1.1]; rfl) | (rw [hM3.1]; rfl)) dL_law_977 rfl rfl (Nat.le_of_ble_eq_true rfl)) (by have z := SP_X6_thrown (d := d + 91) (S := T) hM3; rw [c6] at z; exact z) ?_
  refine xw_iload (pc := 980) dL_law_980 1 rfl ?_
  refine xw_icmp_eq (pc := 982) 987 dL_law_982 rfl (fun hb982 => ?_) (fun hb982 => ?_)
  rotate_left
  · exfalso
    replace hb982 : ¬ (c = c) := mt (nI_eq (a := c) (b := c) (by omega) (by omega)).mpr hb982
    omega
  replace hb982 : c = c := (nI_eq (a := c) (b := c) (by omega) (by omega)).mp hb982
  refine xw_iload (pc := 987) dL_law_987 1 rfl ?_
  refine xw_if_ne (pc := 989) 1004 dL_law_989 rfl (fun hb989 => ?_) (fun hb989 => ?_)
  · replace hb989 : ¬ (c = 0) := mt (nI_eq (a := c) (b := 0) (by omega) (by omega)).mpr hb989
    refine xw_goto (pc := 1004) 3272 dL_law_1004 rfl ?_
    refine xw_pick (pc := 3272) (l' := [(0, _), (1, _), (2, _), (3, _), (4, _), (5, _)]) [2, 3, 4, 5, 6, 7] rfl ?_
    exact k _ _ hJ2 hsz
  · replace hb989 : c = 0 := (nI_eq (a := c) (b := 0) (by omega) (by omega)).mp hb989
    refine xw_aload_n (pc := 992) dL_law_992 5 rfl ?_
    refine xw_iconst (v := nI 0) (pc := 993) dL_law_993 rfl ?_
    have wE : xw (xWith g3 m T) out 0 = _ := (F4.w' (xlt (by rw [ho1.1]; decide)) (by rw [ho1.2.1]; unfold o313; omega)).trans (w1 hb989)
    refine xw_lald (k := 0) (pc := 994) dL_law_994 (by simp [-List.getD_eq_getElem?_getD, xE_setI, xsz_setI, xsl_setI, xtag_setI, xown_setI, xlen_setI, xE_setR, xsz_setR, xsl_setR, xtag_setR, xown_setR, xlen_setR, xE_setW, xsz_setW, xsl_setW, xtag_setW, xown_setW, xlen_setW, xi_setR, xi_setW, xr_setI, xr_setW, xww_setI, xww_setR, xi_setI, xr_setR, xww_setW, xE_new, xsz_new, xsl_new, hx, c1, tw1, t2o, t2D]) rfl (by rw [hJ2.2.2.1.2.2]; decide) ?_
    rw [wE]
    refine xw_iload (pc := 995) dL_law_995 0 rfl ?_
    refine xw_i2l (pc := 997) dL_law_997 ?_
    refine xw_lcmp (pc := 998) dL_law_998 rfl ?_
    refine xw_if_eq (pc := 999) 1004 dL_law_999 rfl (fun hb999 => ?_) (fun hb999 => ?_)
    rotate_left
    · exfalso
      exact hb999 lg_s
    refine xw_goto (pc := 1004) 3272 dL_law_1004 rfl ?_
    refine xw_pick (pc := 3272) (l' := [(0, _), (1, _), (2, _), (3, _), (4, _), (5, _)]) [2, 3, 4, 5, 6, 7] rfl ?_
    exact k _ _ hJ2 hsz
theorem LC_testOf {d : Nat} {x m out outD sc len : Nat} {scr : Nat → Int32} {h : xG} {S : xMS} {i : Nat} (hJ : xJ x m out outD sc len scr h S) (hi : i + 6 ≤ len) (hl : len ≤ 144) {Q : Option Value ⊕ Nat → xG → Prop} (k : ∀ h' S', xJ x m out outD sc len scr h' S' → xsz h' + xsl h' ≤ xsz h + xsl h + 46100 → XW M_L_law (d + 92) 3272 [(0, .ref sc), (1, .ref x), (2, .ref m), (3, .ref out), (4, .ref outD), (5, .int (nI i))] [] h' Q) : XW M_L_law (d + 92) 1007 [(0, .ref sc), (1, .ref x), (2, .ref m), (3, .ref out), (4, .ref outD), (5, .int (nI i))] [] h Q := by
  obtain ⟨p_, lk_, fa_, ka_, la_, Z_, n_, rr_, ww_, dq_, da_, hh_, ps_, sv_, hp_⟩ := hJ.1.1.p
  have hx : xtag h x = 1 := hp_.M.tx
  have c1 := hJ.2.2.2.2.1
  have c3 := hJ.2.2.2.2.2.2.1
  have c4 := hJ.2.2.2.2.2.2.2
  have oo := hJ.2.2.1
  have oD := hJ.2.2.2.1
  obtain ⟨c, b, S', hc, hP, hR, hW⟩ := W_testOf (out := out) hJ.1.1 hJ.1.2 hx oo (p0 := scr (i + 1)) (p1 := scr (i + 2)) (p2 := scr (i + 3))
  refine xw_aload_n (pc := 1007) dL_law_1007 1 rfl ?_
  refine xw_aload_n (pc := 1008) dL_law_1008 0 rfl ?_
  refine xw_iload (pc := 1009) dL_law_1009 5 rfl ?_
  refine xw_iconst (v := nI 1) (pc := 1011) dL_law_1011 rfl ?_
  refine xn_iadd (pc := 1012) dL_law_1012 ?_
  refine xw_iald (k := (i + 1)) (pc := 1013) dL_law_1013 (by simp [-List.getD_eq_getElem?_getD, xE_setI, xsz_setI, xsl_setI, xtag_setI, xown_setI, xlen_setI, xE_setR, xsz_setR, xsl_setR, xtag_setR, xown_setR, xlen_setR, xE_setW, xsz_setW, xsl_setW, xtag_setW, xown_setW, xlen_setW, xi_setR, xi_setW, xr_setI, xr_setW, xww_setI, xww_setR, xi_setI, xr_setR, xww_setW, xE_new, xsz_new, xsl_new, hx, c1]) rfl (by rw [c3]; omega) ?_
  rw [c4 (i + 1) (by omega)]
  refine xw_aload_n (pc := 1014) dL_law_1014 0 rfl ?_
  refine xw_iload (pc := 1015) dL_law_1015 5 rfl ?_
  refine xw_iconst (v := nI 2) (pc := 1017) dL_law_1017 rfl ?_
  refine xn_iadd (pc := 1018) dL_law_1018 ?_
  refine xw_iald (k := (i + 2)) (pc := 1019) dL_law_1019 (by simp [-List.getD_eq_getElem?_getD, xE_setI, xsz_setI, xsl_setI, xtag_setI, xown_setI, xlen_setI, xE_setR, xsz_setR, xsl_setR, xtag_setR, xown_setR, xlen_setR, xE_setW, xsz_setW, xsl_setW, xtag_setW, xown_setW, xlen_setW, xi_setR, xi_setW, xr_setI, xr_setW, xww_setI, xww_setR, xi_setI, xr_setR, xww_setW, xE_new, xsz_new, xsl_new, hx, c1]) rfl (by rw [c3]; omega) ?_
  rw [c4 (i + 2) (by omega)]
  refine xw_aload_n (pc := 1020) dL_law_1020 0 rfl ?_
  refine xw_iload (pc := 1021) dL_law_1021 5 rfl ?_
  refine xw_iconst (v := nI 3) (pc := 1023) dL_law_1023 rfl ?_
  refine xn_iadd (pc := 1024) dL_law_1024 ?_
  refine xw_iald (k := (i + 3)) (pc := 1025) dL_law_1025 (by simp [-List.getD_eq_getElem?_getD, xE_setI, xsz_setI, xsl_setI, xtag_setI, xown_setI, xlen_setI, xE_setR, xsz_setR, xsl_setR, xtag_setR, xown_setR, xlen_setR, xE_setW, xsz_setW, xsl_setW, xtag_setW, xown_setW, xlen_setW, xi_setR, xi_setW, xr_setI, xr_setW, xww_setI, xww_setR, xi_setI, xr_setR, xww_setW, xE_new, xsz_new, xsl_new, hx, c1]) rfl (by rw [c3]; omega) ?_
  rw [c4 (i + 3) (by omega)]
  refine xw_aload_n (pc := 1026) dL_law_1026 3 rfl ?_
  refine xw_callF (pc := 1027) (xr_SX (as := [_, _, _, _, _]) ok_X0_testOf rfl (by decide) q1483 q1484 dL_law_1027 rfl rfl (Nat.le_of_ble_eq_true rfl)) (hW d) ?_
  intro g1 hc1 hm1
  obtain ⟨st1, F1, w1⟩ := hc1
  refine xw_istore (l' := [(6, _), (0, _), (1, _), (2, _), (3, _), (4, _), (5, _)]) (pc := 1030) dL_law_1030 (by decide) rfl ?_
  obtain ⟨hK1, ⟨hM1, h31, he1⟩, ho1, hoD1, hs1⟩ := hJ.mid st1 F1 (by unfold oW; omega) (by unfold oW; omega)
  have tw1 : xtag (xWith g1 m S) sc = 101 := (he1.ti.1 sc).trans hs1.1
  have lw1 : xlen (xWith g1 m S) sc = len := (he1.ti.2.1 sc).trans hs1.2.2.1
  have iw1 : ∀ j, j < len → xi (xWith g1 m S) sc j = scr j := fun j hj => (he1.ti.2.2 sc j).trans (hs1.2.2.2 j hj)
  refine XW.eqv he1.symm ?_
  refine xw_aload_n (pc := 1032) dL_law_1032 3 rfl ?_
  refine xw_aload_n (pc := 1033) dL_law_1033 1 rfl ?_
  refine xw_iload (pc := 1034) dL_law_1034 6 rfl ?_
  refine xw_iconst (v := nI 1) (pc := 1036) dL_law_1036 rfl ?_
  refine xn_iadd (pc := 1037) dL_law_1037 ?_
  refine xw_iald (k := (i + 1)) (pc := 1038) dL_law_1038 (by simp [-List.getD_eq_getElem?_getD, xE_setI, xsz_setI, xsl_setI, xtag_setI, xown_setI, xlen_setI, xE_setR, xsz_setR, xsl_setR, xtag_setR, xown_setR, xlen_setR, xE_setW, xsz_setW, xsl_setW, xtag_setW, xown_setW, xlen_setW, xi_setR, xi_setW, xr_setI, xr_setW, xww_setI, xww_setR, xi_setI, xr_setR, xww_setW, xE_new, xsz_new, xsl_new, hx, c1, tw1]) rfl (by rw [lw1]; omega) ?_
  rw [iw1 (i + 1) (by omega)]
  refine xw_aload_n (pc := 1039) dL_law_1039 1 rfl ?_
  refine xw_iload (pc := 1040) dL_law_1040 6 rfl ?_
  refine xw_iconst (v := nI 2) (pc := 1042) dL_law_1042 rfl ?_
  refine xn_iadd (pc := 1043) dL_law_1043 ?_
  refine xw_iald (k := (i + 2)) (pc := 1044) dL_law_1044 (by simp [-List.getD_eq_getElem?_getD, xE_setI, xsz_setI, xsl_setI, xtag_setI, xown_setI, xlen_setI, xE_setR, xsz_setR, xsl_setR, xtag_setR, xown_setR, xlen_setR, xE_setW, xsz_setW, xsl_setW, xtag_setW, xown_setW, xlen_setW, xi_setR, xi_setW, xr_setI, xr_setW, xww_setI, xww_setR, xi_setI, xr_setR, xww_setW, xE_new, xsz_new, xsl_new, hx, c1, tw1]) rfl (by rw [lw1]; omega) ?_
  rw [iw1 (i + 2) (by omega)]
  refine xw_aload_n (pc := 1045) dL_law_1045 1 rfl ?_
  refine xw_iload (pc := 1046) dL_law_1046 6 rfl ?_
  refine xw_iconst (v := nI 3) (pc := 1048) dL_law_1048 rfl ?_
  refine xn_iadd (pc := 1049) dL_law_1049 ?_
  refine xw_iald (k := (i + 3)) (pc := 1050) dL_law_1050 (by simp [-List.getD_eq_getElem?_getD, xE_setI, xsz_setI, xsl_setI, xtag_setI, xown_setI, xlen_setI, xE_setR, xsz_setR, xsl_setR, xtag_setR, xown_setR, xlen_setR, xE_setW, xsz_setW, xsl_setW, xtag_setW, xown_setW, xlen_setW, xi_setR, xi_setW, xr_setI, xr_setW, xww_setI, xww_setR, xi_setI, xr_setR, xww_setW, xE_new, xsz_new, xsl_new, hx, c1, tw1]) rfl (by rw [lw1]; omega) ?_
  rw [iw1 (i + 3) (by omega)]
  refine xw_callF (pc := 1051) (xr_V (as := [_, _, _]) ok_X6_testOf rfl (by decide) q2492 q2493 q2494 (by rw [xtag_with]; first | (rw [hM1.1]; rfl) | (rw [hM3.1]; rfl)) (by rw [xtag_with]; first | (rw [hM1.1]; rfl) | (rw [hM3.1]; rfl)) dL_law_1051 rfl rfl (Nat.le_of_ble_eq_true rfl)) (jR.val (hR (d + 1) g1 m hM1 h31 hK1)) ?_
  intro g2 hc2 hm2
  obtain ⟨g3, T, e3, ag, c6, hM3, h33, F3⟩ := hc2
  subst e3
  obtain ⟨hJ2, F4⟩ := xJ.done st1 hK1 ho1 hoD1 hs1 ag hM3 h33 F3
  have hsz : xsz (xWith g3 m T) + xsl (xWith g3 m T) ≤ xsz h + xsl h + 46100 := by
    have := F1.2.2.2.1
    have := F4.2.2.2.1
    omega
  have t2o := hJ2.2.2.1.1
  have t2D := hJ2.2.2.2.1.1
  refine xw_istore (l' := [(7, _), (6, _), (0, _), (1, _), (2, _), (3, _), (4, _), (5, _)]) (pc := 1054) dL_law_1054 (by decide) rfl ?_
  refine xw_aload_n (pc := 1056) dL_law_1056 4 rfl ?_
  refine xw_callV (pc := 1057) (xr_V (as := []) ok_X6_thrown rfl (by decide) q2352 q2353 q2354 (by rw [xtag_with]; first | (rw [hM1.1]; rfl) | (rw [hM3.1]; rfl)) (by rw [xtag_with]; first | (rw [hM1.1]; rfl) | (rw [hM3.1]; rfl)) dL_law_1057 rfl rfl (Nat.le_of_ble_eq_true rfl)) (by have z := SP_X6_thrown (d := d + 91) (S := T) hM3; rw [c6] at z; exact z) ?_
  refine xw_iload (pc := 1060) dL_law_1060 1 rfl ?_
  refine xw_icmp_eq (pc := 1062) 1067 dL_law_1062 rfl (fun hb1062 => ?_) (fun hb1062 => ?_)
  rotate_left
  · exfalso
    replace hb1062 : ¬ (c = c) := mt (nI_eq (a := c) (b := c) (by omega) (by omega)).mpr hb1062
    omega
  replace hb1062 : c = c := (nI_eq (a := c) (b := c) (by omega) (by omega)).mp hb1062
  refine xw_iload (pc := 1067) dL_law_1067 1 rfl ?_
  refine xw_if_ne (pc := 1069) 1084 dL_law_1069 rfl (fun hb1069 => ?_) (fun hb1069 => ?_)
  · replace hb1069 : ¬ (c = 0) := mt (nI_eq (a := c) (b := 0) (by omega) (by omega)).mpr hb1069
    refine xw_goto (pc := 1084) 3272 dL_law_1084 rfl ?_
    refine xw_pick (pc := 3272) (l' := [(0, _), (1, _), (2, _), (3, _), (4, _), (5, _)]) [2, 3, 4, 5, 6, 7] rfl ?_
    exact k _ _ hJ2 hsz
  · replace hb1069 : c = 0 := (nI_eq (a := c) (b := 0) (by omega) (by omega)).mp hb1069
    refine xw_aload_n (pc := 1072) dL_law_1072 5 rfl ?_
    refine xw_iconst (v := nI 0) (pc := 1073) dL_law_1073 rfl ?_
    have wE : xw (xWith g3 m T) out 0 = _ := (F4.w' (xlt (by rw [ho1.1]; decide)) (by rw [ho1.2.1]; unfold o313; omega)).trans (w1 hb1069)
    refine xw_lald (k := 0) (pc := 1074) dL_law_1074 (by simp [-List.getD_eq_getElem?_getD, xE_setI, xsz_setI, xsl_setI, xtag_setI, xown_setI, xlen_setI, xE_setR, xsz_setR, xsl_setR, xtag_setR, xown_setR, xlen_setR, xE_setW, xsz_setW, xsl_setW, xtag_setW, xown_setW, xlen_setW, xi_setR, xi_setW, xr_setI, xr_setW, xww_setI, xww_setR, xi_setI, xr_setR, xww_setW, xE_new, xsz_new, xsl_new, hx, c1, tw1, t2o, t2D]) rfl (by rw [hJ2.2.2.1.2.2]; decide) ?_
    rw [wE]
    refine xw_iload (pc := 1075) dL_law_1075 0 rfl ?_
    refine xw_i2l (pc := 1077) dL_law_1077 ?_
    refine xw_lcmp (pc := 1078) dL_law_1078 rfl ?_
    refine xw_if_eq (pc := 1079) 1084 dL_law_1079 rfl (fun hb1079 => ?_) (fun hb1079 => ?_)
    rotate_left
    · exfalso
      exact hb1079 lg_s
    refine xw_goto (pc := 1084) 3272 dL_law_1084 rfl ?_
    refine xw_pick (pc := 3272) (l' := [(0, _), (1, _), (2, _), (3, _), (4, _), (5, _)]) [2, 3, 4, 5, 6, 7] rfl ?_
    exact k _ _ hJ2 hsz
theorem LC_covers {d : Nat} {x m out outD sc len : Nat} {scr : Nat → Int32} {h : xG} {S : xMS} {i : Nat} (hJ : xJ x m out outD sc len scr h S) (hi : i + 6 ≤ len) (hl : len ≤ 144) {Q : Option Value ⊕ Nat → xG → Prop} (k : ∀ h' S', xJ x m out outD sc len scr h' S' → xsz h' + xsl h' ≤ xsz h + xsl h + 46100 → XW M_L_law (d + 92) 3272 [(0, .ref sc), (1, .ref x), (2, .ref m), (3, .ref out), (4, .ref outD), (5, .int (nI i))] [] h' Q) : XW M_L_law (d + 92) 1087 [(0, .ref sc), (1, .ref x), (2, .ref m), (3, .ref out), (4, .ref outD), (5, .int (nI i))] [] h Q := by
  obtain ⟨p_, lk_, fa_, ka_, la_, Z_, n_, rr_, ww_, dq_, da_, hh_, ps_, sv_, hp_⟩ := hJ.1.1.p
  have hx : xtag h x = 1 := hp_.M.tx
  have c1 := hJ.2.2.2.2.1
  have c3 := hJ.2.2.2.2.2.2.1
  have c4 := hJ.2.2.2.2.2.2.2
  have oo := hJ.2.2.1
  have oD := hJ.2.2.2.1
  obtain ⟨c, b, S', hc, hP, hR, hW⟩ := W_covers (out := out) hJ.1.1 hJ.1.2 hx oo (p0 := scr (i + 1)) (p1 := scr (i + 2)) (p2 := scr (i + 3)) (p3 := scr (i + 4))
  refine xw_aload_n (pc := 1087) dL_law_1087 1 rfl ?_
  refine xw_aload_n (pc := 1088) dL_law_1088 0 rfl ?_
  refine xw_iload (pc := 1089) dL_law_1089 5 rfl ?_
  refine xw_iconst (v := nI 1) (pc := 1091) dL_law_1091 rfl ?_
  refine xn_iadd (pc := 1092) dL_law_1092 ?_
  refine xw_iald (k := (i + 1)) (pc := 1093) dL_law_1093 (by simp [-List.getD_eq_getElem?_getD, xE_setI, xsz_setI, xsl_setI, xtag_setI, xown_setI, xlen_setI, xE_setR, xsz_setR, xsl_setR, xtag_setR, xown_setR, xlen_setR, xE_setW, xsz_setW, xsl_setW, xtag_setW, xown_setW, xlen_setW, xi_setR, xi_setW, xr_setI, xr_setW, xww_setI, xww_setR, xi_setI, xr_setR, xww_setW, xE_new, xsz_new, xsl_new, hx, c1]) rfl (by rw [c3]; omega) ?_
  rw [c4 (i + 1) (by omega)]
  refine xw_aload_n (pc := 1094) dL_law_1094 0 rfl ?_
  refine xw_iload (pc := 1095) dL_law_1095 5 rfl ?_
  refine xw_iconst (v := nI 2) (pc := 1097) dL_law_1097 rfl ?_
  refine xn_iadd (pc := 1098) dL_law_1098 ?_
  refine xw_iald (k := (i + 2)) (pc := 1099) dL_law_1099 (by simp [-List.getD_eq_getElem?_getD, xE_setI, xsz_setI, xsl_setI, xtag_setI, xown_setI, xlen_setI, xE_setR, xsz_setR, xsl_setR, xtag_setR, xown_setR, xlen_setR, xE_setW, xsz_setW, xsl_setW, xtag_setW, xown_setW, xlen_setW, xi_setR, xi_setW, xr_setI, xr_setW, xww_setI, xww_setR, xi_setI, xr_setR, xww_setW, xE_new, xsz_new, xsl_new, hx, c1]) rfl (by rw [c3]; omega) ?_
  rw [c4 (i + 2) (by omega)]
  refine xw_aload_n (pc := 1100) dL_law_1100 0 rfl ?_
  refine xw_iload (pc := 1101) dL_law_1101 5 rfl ?_
  refine xw_iconst (v := nI 3) (pc := 1103) dL_law_1103 rfl ?_
  refine xn_iadd (pc := 1104) dL_law_1104 ?_
  refine xw_iald (k := (i + 3)) (pc := 1105) dL_law_1105 (by simp [-List.getD_eq_getElem?_getD, xE_setI, xsz_setI, xsl_setI, xtag_setI, xown_setI, xlen_setI, xE_setR, xsz_setR, xsl_setR, xtag_setR, xown_setR, xlen_setR, xE_setW, xsz_setW, xsl_setW, xtag_setW, xown_setW, xlen_setW, xi_setR, xi_setW, xr_setI, xr_setW, xww_setI, xww_setR, xi_setI, xr_setR, xww_setW, xE_new, xsz_new, xsl_new, hx, c1]) rfl (by rw [c3]; omega) ?_
  rw [c4 (i + 3) (by omega)]
  refine xw_aload_n (pc := 1106) dL_law_1106 0 rfl ?_
  refine xw_iload (pc := 1107) dL_law_1107 5 rfl ?_
  refine xw_iconst (v := nI 4) (pc := 1109) dL_law_1109 rfl ?_
  refine xn_iadd (pc := 1110) dL_law_1110 ?_
  refine xw_iald (k := (i + 4)) (pc := 1111) dL_law_1111 (by simp [-List.getD_eq_getElem?_getD, xE_setI, xsz_setI, xsl_setI, xtag_setI, xown_setI, xlen_setI, xE_setR, xsz_setR, xsl_setR, xtag_setR, xown_setR, xlen_setR, xE_setW, xsz_setW, xsl_setW, xtag_setW, xown_setW, xlen_setW, xi_setR, xi_setW, xr_setI, xr_setW, xww_setI, xww_setR, xi_setI, xr_setR, xww_setW, xE_new, xsz_new, xsl_new, hx, c1]) rfl (by rw [c3]; omega) ?_
  rw [c4 (i + 4) (by omega)]
  refine xw_aload_n (pc := 1112) dL_law_1112 3 rfl ?_
  refine xw_callF (pc := 1113) (xr_SX (as := [_, _, _, _, _, _]) ok_X0_covers rfl (by decide) q1505 q1506 dL_law_1113 rfl rfl (Nat.le_of_ble_eq_true rfl)) (hW d) ?_
  intro g1 hc1 hm1
  obtain ⟨st1, F1, w1⟩ := hc1
  refine xw_istore (l' := [(6, _), (0, _), (1, _), (2, _), (3, _), (4, _), (5, _)]) (pc := 1116) dL_law_1116 (by decide) rfl ?_
  obtain ⟨hK1, ⟨hM1, h31, he1⟩, ho1, hoD1, hs1⟩ := hJ.mid st1 F1 (by unfold oW; omega) (by unfold oW; omega)
  have tw1 : xtag (xWith g1 m S) sc = 101 := (he1.ti.1 sc).trans hs1.1
  have lw1 : xlen (xWith g1 m S) sc = len := (he1.ti.2.1 sc).trans hs1.2.2.1
  have iw1 : ∀ j, j < len → xi (xWith g1 m S) sc j = scr j := fun j hj => (he1.ti.2.2 sc j).trans (hs1.2.2.2 j hj)
  refine XW.eqv he1.symm ?_
  refine xw_aload_n (pc := 1118) dL_law_1118 3 rfl ?_
  refine xw_aload_n (pc := 1119) dL_law_1119 1 rfl ?_
  refine xw_iload (pc := 1120) dL_law_1120 6 rfl ?_
  refine xw_iconst (v := nI 1) (pc := 1122) dL_law_1122 rfl ?_
  refine xn_iadd (pc := 1123) dL_law_1123 ?_
  refine xw_iald (k := (i + 1)) (pc := 1124) dL_law_1124 (by simp [-List.getD_eq_getElem?_getD, xE_setI, xsz_setI, xsl_setI, xtag_setI, xown_setI, xlen_setI, xE_setR, xsz_setR, xsl_setR, xtag_setR, xown_setR, xlen_setR, xE_setW, xsz_setW, xsl_setW, xtag_setW, xown_setW, xlen_setW, xi_setR, xi_setW, xr_setI, xr_setW, xww_setI, xww_setR, xi_setI, xr_setR, xww_setW, xE_new, xsz_new, xsl_new, hx, c1, tw1]) rfl (by rw [lw1]; omega) ?_
  rw [iw1 (i + 1) (by omega)]
  refine xw_aload_n (pc := 1125) dL_law_1125 1 rfl ?_
  refine xw_iload (pc := 1126) dL_law_1126 6 rfl ?_
  refine xw_iconst (v := nI 2) (pc := 1128) dL_law_1128 rfl ?_
  refine xn_iadd (pc := 1129) dL_law_1129 ?_
  refine xw_iald (k := (i + 2)) (pc := 1130) dL_law_1130 (by simp [-List.getD_eq_getElem?_getD, xE_setI, xsz_setI, xsl_setI, xtag_setI, xown_setI, xlen_setI, xE_setR, xsz_setR, xsl_setR, xtag_setR, xown_setR, xlen_setR, xE_setW, xsz_setW, xsl_setW, xtag_setW, xown_setW, xlen_setW, xi_setR, xi_setW, xr_setI, xr_setW, xww_setI, xww_setR, xi_setI, xr_setR, xww_setW, xE_new, xsz_new, xsl_new, hx, c1, tw1]) rfl (by rw [lw1]; omega) ?_
  rw [iw1 (i + 2) (by omega)]
  refine xw_aload_n (pc := 1131) dL_law_1131 1 rfl ?_
  refine xw_iload (pc := 1132) dL_law_1132 6 rfl ?_
  refine xw_iconst (v := nI 3) (pc := 1134) dL_law_1134 rfl ?_
  refine xn_iadd (pc := 1135) dL_law_1135 ?_
  refine xw_iald (k := (i + 3)) (pc := 1136) dL_law_1136 (by simp [-List.getD_eq_getElem?_getD, xE_setI, xsz_setI, xsl_setI, xtag_setI, xown_setI, xlen_setI, xE_setR, xsz_setR, xsl_setR, xtag_setR, xown_setR, xlen_setR, xE_setW, xsz_setW, xsl_setW, xtag_setW, xown_setW, xlen_setW, xi_setR, xi_setW, xr_setI, xr_setW, xww_setI, xww_setR, xi_setI, xr_setR, xww_setW, xE_new, xsz_new, xsl_new, hx, c1, tw1]) rfl (by rw [lw1]; omega) ?_
  rw [iw1 (i + 3) (by omega)]
  refine xw_aload_n (pc := 1137) dL_law_1137 1 rfl ?_
  refine xw_iload (pc := 1138) dL_law_1138 6 rfl ?_
  refine xw_iconst (v := nI 4) (pc := 1140) dL_law_1140 rfl ?_
  refine xn_iadd (pc := 1141) dL_law_1141 ?_
  refine xw_iald (k := (i + 4)) (pc := 1142) dL_law_1142 (by simp [-List.getD_eq_getElem?_getD, xE_setI, xsz_setI, xsl_setI, xtag_setI, xown_setI, xlen_setI, xE_setR, xsz_setR, xsl_setR, xtag_setR, xown_setR, xlen_setR, xE_setW, xsz_setW, xsl_setW, xtag_setW, xown_setW, xlen_setW, xi_setR, xi_setW, xr_setI, xr_setW, xww_setI, xww_setR, xi_setI, xr_setR, xww_setW, xE_new, xsz_new, xsl_new, hx, c1, tw1]) rfl (by rw [lw1]; omega) ?_
  rw [iw1 (i + 4) (by omega)]
  refine xw_callF (pc := 1143) (xr_V (as := [_, _, _, _]) ok_X6_covers rfl (by decide) q2496 q2497 q2498 (by rw [xtag_with]; first | (rw [hM1.1]; rfl) | (rw [hM3.1]; rfl)) (by rw [xtag_with]; first | (rw [hM1.1]; rfl) | (rw [hM3.1]; rfl)) dL_law_1143 rfl rfl (Nat.le_of_ble_eq_true rfl)) (jR.val (hR (d + 1) g1 m hM1 h31 hK1)) ?_
  intro g2 hc2 hm2
  obtain ⟨g3, T, e3, ag, c6, hM3, h33, F3⟩ := hc2
  subst e3
  obtain ⟨hJ2, F4⟩ := xJ.done st1 hK1 ho1 hoD1 hs1 ag hM3 h33 F3
  have hsz : xsz (xWith g3 m T) + xsl (xWith g3 m T) ≤ xsz h + xsl h + 46100 := by
    have := F1.2.2.2.1
    have := F4.2.2.2.1
    omega
  have t2o := hJ2.2.2.1.1
  have t2D := hJ2.2.2.2.1.1
  refine xw_istore (l' := [(7, _), (6, _), (0, _), (1, _), (2, _), (3, _), (4, _), (5, _)]) (pc := 1146) dL_law_1146 (by decide) rfl ?_
  refine xw_aload_n (pc := 1148) dL_law_1148 4 rfl ?_
  refine xw_callV (pc := 1149) (xr_V (as := []) ok_X6_thrown rfl (by decide) q2352 q2353 q2354 (by rw [xtag_with]; first | (rw [hM1.1]; rfl) | (rw [hM3.1]; rfl)) (by rw [xtag_with]; first | (rw [hM1.1]; rfl) | (rw [hM3.1]; rfl)) dL_law_1149 rfl rfl (Nat.le_of_ble_eq_true rfl)) (by have z := SP_X6_thrown (d := d + 91) (S := T) hM3; rw [c6] at z; exact z) ?_
  refine xw_iload (pc := 1152) dL_law_1152 1 rfl ?_
  refine xw_icmp_eq (pc := 1154) 1159 dL_law_1154 rfl (fun hb1154 => ?_) (fun hb1154 => ?_)
  rotate_left
  · exfalso
    replace hb1154 : ¬ (c = c) := mt (nI_eq (a := c) (b := c) (by omega) (by omega)).mpr hb1154
    omega
  replace hb1154 : c = c := (nI_eq (a := c) (b := c) (by omega) (by omega)).mp hb1154
  refine xw_iload (pc := 1159) dL_law_1159 1 rfl ?_
  refine xw_if_ne (pc := 1161) 1183 dL_law_1161 rfl (fun hb1161 => ?_) (fun hb1161 => ?_)
  · replace hb1161 : ¬ (c = 0) := mt (nI_eq (a := c) (b := 0) (by omega) (by omega)).mpr hb1161
    refine xw_goto (pc := 1183) 3272 dL_law_1183 rfl ?_
    refine xw_pick (pc := 3272) (l' := [(0, _), (1, _), (2, _), (3, _), (4, _), (5, _)]) [2, 3, 4, 5, 6, 7] rfl ?_
    exact k _ _ hJ2 hsz
  · replace hb1161 : c = 0 := (nI_eq (a := c) (b := 0) (by omega) (by omega)).mp hb1161
    refine xw_aload_n (pc := 1164) dL_law_1164 5 rfl ?_
    refine xw_iconst (v := nI 0) (pc := 1165) dL_law_1165 rfl ?_
    have wE : xw (xWith g3 m T) out 0 = _ := (F4.w' (xlt (by rw [ho1.1]; decide)) (by rw [ho1.2.1]; unfold o313; omega)).trans (w1 hb1161)
    refine xw_lald (k := 0) (pc := 1166) dL_law_1166 (by simp [-List.getD_eq_getElem?_getD, xE_setI, xsz_setI, xsl_setI, xtag_setI, xown_setI, xlen_setI, xE_setR, xsz_setR, xsl_setR, xtag_setR, xown_setR, xlen_setR, xE_setW, xsz_setW, xsl_setW, xtag_setW, xown_setW, xlen_setW, xi_setR, xi_setW, xr_setI, xr_setW, xww_setI, xww_setR, xi_setI, xr_setR, xww_setW, xE_new, xsz_new, xsl_new, hx, c1, tw1, t2o, t2D]) rfl (by rw [hJ2.2.2.1.2.2]; decide) ?_
    rw [wE]
    refine xw_iload (pc := 1167) dL_law_1167 0 rfl ?_
    refine xw_if_eq (pc := 1169) 1176 dL_law_1169 rfl (fun hb1169 => ?_) (fun hb1169 => ?_)
    · replace hb1169 := bI_0.mp hb1169
      refine xw_lconst (v := 0) (pc := 1176) dL_law_1176 (by decide) ?_
      refine xw_lcmp (pc := 1177) dL_law_1177 rfl ?_
      refine xw_if_eq (pc := 1178) 1183 dL_law_1178 rfl (fun hb1178 => ?_) (fun hb1178 => ?_)
      rotate_left
      · exfalso
        exact hb1178 (by rw [hb1169]; decide)
      refine xw_goto (pc := 1183) 3272 dL_law_1183 rfl ?_
      refine xw_pick (pc := 3272) (l' := [(0, _), (1, _), (2, _), (3, _), (4, _), (5, _)]) [2, 3, 4, 5, 6, 7] rfl ?_
      exact k _ _ hJ2 hsz
    · replace hb1169 := bI_n0.mp hb1169
      refine xw_lconst (v := 1) (pc := 1172) dL_law_1172 (by decide) ?_
      refine xw_goto (pc := 1173) 1177 dL_law_1173 rfl ?_
      refine xw_lcmp (pc := 1177) dL_law_1177 rfl ?_
      refine xw_if_eq (pc := 1178) 1183 dL_law_1178 rfl (fun hb1178 => ?_) (fun hb1178 => ?_)
      rotate_left
      · exfalso
        exact hb1178 (by rw [hb1169]; decide)
      refine xw_goto (pc := 1183) 3272 dL_law_1183 rfl ?_
      refine xw_pick (pc := 3272) (l' := [(0, _), (1, _), (2, _), (3, _), (4, _), (5, _)]) [2, 3, 4, 5, 6, 7] rfl ?_
      exact k _ _ hJ2 hsz
theorem LC_holds {d : Nat} {x m out outD sc len : Nat} {scr : Nat → Int32} {h : xG} {S : xMS} {i : Nat} (hJ : xJ x m out outD sc len scr h S) (hi : i + 6 ≤ len) (hl : len ≤ 144) {Q : Option Value ⊕ Nat → xG → Prop} (k : ∀ h' S', xJ x m out outD sc len scr h' S' → xsz h' + xsl h' ≤ xsz h + xsl h + 46100 → XW M_L_law (d + 92) 3272 [(0, .ref sc), (1, .ref x), (2, .ref m), (3, .ref out), (4, .ref outD), (5, .int (nI i))] [] h' Q) : XW M_L_law (d + 92) 1186 [(0, .ref sc), (1, .ref x), (2, .ref m), (3, .ref out), (4, .ref outD), (5, .int (nI i))] [] h Q := by
  obtain ⟨p_, lk_, fa_, ka_, la_, Z_, n_, rr_, ww_, dq_, da_, hh_, ps_, sv_, hp_⟩ := hJ.1.1.p
  have hx : xtag h x = 1 := hp_.M.tx
  have c1 := hJ.2.2.2.2.1
  have c3 := hJ.2.2.2.2.2.2.1
  have c4 := hJ.2.2.2.2.2.2.2
  have oo := hJ.2.2.1
  have oD := hJ.2.2.2.1
  obtain ⟨c, b, S', hc, hP, hR, hW⟩ := W_holds (out := out) hJ.1.1 hJ.1.2 hx oo (p0 := scr (i + 1)) (p1 := scr (i + 2)) (p2 := scr (i + 3)) (p3 := scr (i + 4))
  refine xw_aload_n (pc := 1186) dL_law_1186 1 rfl ?_
  refine xw_aload_n (pc := 1187) dL_law_1187 0 rfl ?_
  refine xw_iload (pc := 1188) dL_law_1188 5 rfl ?_
  refine xw_iconst (v := nI 1) (pc := 1190) dL_law_1190 rfl ?_
  refine xn_iadd (pc := 1191) dL_law_1191 ?_
  refine xw_iald (k := (i + 1)) (pc := 1192) dL_law_1192 (by simp [-List.getD_eq_getElem?_getD, xE_setI, xsz_setI, xsl_setI, xtag_setI, xown_setI, xlen_setI, xE_setR, xsz_setR, xsl_setR, xtag_setR, xown_setR, xlen_setR, xE_setW, xsz_setW, xsl_setW, xtag_setW, xown_setW, xlen_setW, xi_setR, xi_setW, xr_setI, xr_setW, xww_setI, xww_setR, xi_setI, xr_setR, xww_setW, xE_new, xsz_new, xsl_new, hx, c1]) rfl (by rw [c3]; omega) ?_
  rw [c4 (i + 1) (by omega)]
  refine xw_aload_n (pc := 1193) dL_law_1193 0 rfl ?_
  refine xw_iload (pc := 1194) dL_law_1194 5 rfl ?_
  refine xw_iconst (v := nI 2) (pc := 1196) dL_law_1196 rfl ?_
  refine xn_iadd (pc := 1197) dL_law_1197 ?_
  refine xw_iald (k := (i + 2)) (pc := 1198) dL_law_1198 (by simp [-List.getD_eq_getElem?_getD, xE_setI, xsz_setI, xsl_setI, xtag_setI, xown_setI, xlen_setI, xE_setR, xsz_setR, xsl_setR, xtag_setR, xown_setR, xlen_setR, xE_setW, xsz_setW, xsl_setW, xtag_setW, xown_setW, xlen_setW, xi_setR, xi_setW, xr_setI, xr_setW, xww_setI, xww_setR, xi_setI, xr_setR, xww_setW, xE_new, xsz_new, xsl_new, hx, c1]) rfl (by rw [c3]; omega) ?_
  rw [c4 (i + 2) (by omega)]
  refine xw_aload_n (pc := 1199) dL_law_1199 0 rfl ?_
  refine xw_iload (pc := 1200) dL_law_1200 5 rfl ?_
  refine xw_iconst (v := nI 3) (pc := 1202) dL_law_1202 rfl ?_
  refine xn_iadd (pc := 1203) dL_law_1203 ?_
  refine xw_iald (k := (i + 3)) (pc := 1204) dL_law_1204 (by simp [-List.getD_eq_getElem?_getD, xE_setI, xsz_setI, xsl_setI, xtag_setI, xown_setI, xlen_setI, xE_setR, xsz_setR, xsl_setR, xtag_setR, xown_setR, xlen_setR, xE_setW, xsz_setW, xsl_setW, xtag_setW, xown_setW, xlen_setW, xi_setR, xi_setW, xr_setI, xr_setW, xww_setI, xww_setR, xi_setI, xr_setR, xww_setW, xE_new, xsz_new, xsl_new, hx, c1]) rfl (by rw [c3]; omega) ?_
  rw [c4 (i + 3) (by omega)]
  refine xw_aload_n (pc := 1205) dL_law_1205 0 rfl ?_
  refine xw_iload (pc := 1206) dL_law_1206 5 rfl ?_
  refine xw_iconst (v := nI 4) (pc := 1208) dL_law_1208 rfl ?_
  refine xn_iadd (pc := 1209) dL_law_1209 ?_
  refine xw_iald (k := (i + 4)) (pc := 1210) dL_law_1210 (by simp [-List.getD_eq_getElem?_getD, xE_setI, xsz_setI, xsl_setI, xtag_setI, xown_setI, xlen_setI, xE_setR, xsz_setR, xsl_setR, xtag_setR, xown_setR, xlen_setR, xE_setW, xsz_setW, xsl_setW, xtag_setW, xown_setW, xlen_setW, xi_setR, xi_setW, xr_setI, xr_setW, xww_setI, xww_setR, xi_setI, xr_setR, xww_setW, xE_new, xsz_new, xsl_new, hx, c1]) rfl (by rw [c3]; omega) ?_
  rw [c4 (i + 4) (by omega)]
  refine xw_aload_n (pc := 1211) dL_law_1211 3 rfl ?_
  refine xw_callF (pc := 1212) (xr_SX (as := [_, _, _, _, _, _]) ok_X0_holds rfl (by decide) q1522 q1523 dL_law_1212 rfl rfl (Nat.le_of_ble_eq_true rfl)) (hW d) ?_
  intro g1 hc1 hm1
  obtain ⟨st1, F1, w1⟩ := hc1
  refine xw_istore (l' := [(6, _), (0, _), (1, _), (2, _), (3, _), (4, _), (5, _)]) (pc := 1215) dL_law_1215 (by decide) rfl ?_
  obtain ⟨hK1, ⟨hM1, h31, he1⟩, ho1, hoD1, hs1⟩ := hJ.mid st1 F1 (by unfold oW; omega) (by unfold oW; omega)
  have tw1 : xtag (xWith g1 m S) sc = 101 := (he1.ti.1 sc).trans hs1.1
  have lw1 : xlen (xWith g1 m S) sc = len := (he1.ti.2.1 sc).trans hs1.2.2.1
  have iw1 : ∀ j, j < len → xi (xWith g1 m S) sc j = scr j := fun j hj => (he1.ti.2.2 sc j).trans (hs1.2.2.2 j hj)
  refine XW.eqv he1.symm ?_
  refine xw_aload_n (pc := 1217) dL_law_1217 3 rfl ?_
  refine xw_aload_n (pc := 1218) dL_law_1218 1 rfl ?_
  refine xw_iload (pc := 1219) dL_law_1219 6 rfl ?_
  refine xw_iconst (v := nI 1) (pc := 1221) dL_law_1221 rfl ?_
  refine xn_iadd (pc := 1222) dL_law_1222 ?_
  refine xw_iald (k := (i + 1)) (pc := 1223) dL_law_1223 (by simp [-List.getD_eq_getElem?_getD, xE_setI, xsz_setI, xsl_setI, xtag_setI, xown_setI, xlen_setI, xE_setR, xsz_setR, xsl_setR, xtag_setR, xown_setR, xlen_setR, xE_setW, xsz_setW, xsl_setW, xtag_setW, xown_setW, xlen_setW, xi_setR, xi_setW, xr_setI, xr_setW, xww_setI, xww_setR, xi_setI, xr_setR, xww_setW, xE_new, xsz_new, xsl_new, hx, c1, tw1]) rfl (by rw [lw1]; omega) ?_
  rw [iw1 (i + 1) (by omega)]
  refine xw_aload_n (pc := 1224) dL_law_1224 1 rfl ?_
  refine xw_iload (pc := 1225) dL_law_1225 6 rfl ?_
  refine xw_iconst (v := nI 2) (pc := 1227) dL_law_1227 rfl ?_
  refine xn_iadd (pc := 1228) dL_law_1228 ?_
  refine xw_iald (k := (i + 2)) (pc := 1229) dL_law_1229 (by simp [-List.getD_eq_getElem?_getD, xE_setI, xsz_setI, xsl_setI, xtag_setI, xown_setI, xlen_setI, xE_setR, xsz_setR, xsl_setR, xtag_setR, xown_setR, xlen_setR, xE_setW, xsz_setW, xsl_setW, xtag_setW, xown_setW, xlen_setW, xi_setR, xi_setW, xr_setI, xr_setW, xww_setI, xww_setR, xi_setI, xr_setR, xww_setW, xE_new, xsz_new, xsl_new, hx, c1, tw1]) rfl (by rw [lw1]; omega) ?_
  rw [iw1 (i + 2) (by omega)]
  refine xw_aload_n (pc := 1230) dL_law_1230 1 rfl ?_
  refine xw_iload (pc := 1231) dL_law_1231 6 rfl ?_
  refine xw_iconst (v := nI 3) (pc := 1233) dL_law_1233 rfl ?_
  refine xn_iadd (pc := 1234) dL_law_1234 ?_
  refine xw_iald (k := (i + 3)) (pc := 1235) dL_law_1235 (by simp [-List.getD_eq_getElem?_getD, xE_setI, xsz_setI, xsl_setI, xtag_setI, xown_setI, xlen_setI, xE_setR, xsz_setR, xsl_setR, xtag_setR, xown_setR, xlen_setR, xE_setW, xsz_setW, xsl_setW, xtag_setW, xown_setW, xlen_setW, xi_setR, xi_setW, xr_setI, xr_setW, xww_setI, xww_setR, xi_setI, xr_setR, xww_setW, xE_new, xsz_new, xsl_new, hx, c1, tw1]) rfl (by rw [lw1]; omega) ?_
  rw [iw1 (i + 3) (by omega)]
  refine xw_aload_n (pc := 1236) dL_law_1236 1 rfl ?_
  refine xw_iload (pc := 1237) dL_law_1237 6 rfl ?_
  refine xw_iconst (v := nI 4) (pc := 1239) dL_law_1239 rfl ?_
  refine xn_iadd (pc := 1240) dL_law_1240 ?_
  refine xw_iald (k := (i + 4)) (pc := 1241) dL_law_1241 (by simp [-List.getD_eq_getElem?_getD, xE_setI, xsz_setI, xsl_setI, xtag_setI, xown_setI, xlen_setI, xE_setR, xsz_setR, xsl_setR, xtag_setR, xown_setR, xlen_setR, xE_setW, xsz_setW, xsl_setW, xtag_setW, xown_setW, xlen_setW, xi_setR, xi_setW, xr_setI, xr_setW, xww_setI, xww_setR, xi_setI, xr_setR, xww_setW, xE_new, xsz_new, xsl_new, hx, c1, tw1]) rfl (by rw [lw1]; omega) ?_
  rw [iw1 (i + 4) (by omega)]
  refine xw_callF (pc := 1242) (xr_V (as := [_, _, _, _]) ok_X6_holds rfl (by decide) q2515 q2516 q2517 (by rw [xtag_with]; first | (rw [hM1.1]; rfl) | (rw [hM3.1]; rfl)) (by rw [xtag_with]; first | (rw [hM1.1]; rfl) | (rw [hM3.1]; rfl)) dL_law_1242 rfl rfl (Nat.le_of_ble_eq_true rfl)) (jR.val (hR (d + 1) g1 m hM1 h31 hK1)) ?_
  intro g2 hc2 hm2
  obtain ⟨g3, T, e3, ag, c6, hM3, h33, F3⟩ := hc2
  subst e3
  obtain ⟨hJ2, F4⟩ := xJ.done st1 hK1 ho1 hoD1 hs1 ag hM3 h33 F3
  have hsz : xsz (xWith g3 m T) + xsl (xWith g3 m T) ≤ xsz h + xsl h + 46100 := by
    have := F1.2.2.2.1
    have := F4.2.2.2.1
    omega
  have t2o := hJ2.2.2.1.1
  have t2D := hJ2.2.2.2.1.1
  refine xw_istore (l' := [(7, _), (6, _), (0, _), (1, _), (2, _), (3, _), (4, _), (5, _)]) (pc := 1245) dL_law_1245 (by decide) rfl ?_
  refine xw_aload_n (pc := 1247) dL_law_1247 4 rfl ?_
  refine xw_callV (pc := 1248) (xr_V (as := []) ok_X6_thrown rfl (by decide) q2352 q2353 q2354 (by rw [xtag_with]; first | (rw [hM1.1]; rfl) | (rw [hM3.1]; rfl)) (by rw [xtag_with]; first | (rw [hM1.1]; rfl) | (rw [hM3.1]; rfl)) dL_law_1248 rfl rfl (Nat.le_of_ble_eq_true rfl)) (by have z := SP_X6_thrown (d := d + 91) (S := T) hM3; rw [c6] at z; exact z) ?_
  refine xw_iload (pc := 1251) dL_law_1251 1 rfl ?_
  refine xw_icmp_eq (pc := 1253) 1258 dL_law_1253 rfl (fun hb1253 => ?_) (fun hb1253 => ?_)
  rotate_left
  · exfalso
    replace hb1253 : ¬ (c = c) := mt (nI_eq (a := c) (b := c) (by omega) (by omega)).mpr hb1253
    omega
  replace hb1253 : c = c := (nI_eq (a := c) (b := c) (by omega) (by omega)).mp hb1253
  refine xw_iload (pc := 1258) dL_law_1258 1 rfl ?_
  refine xw_if_ne (pc := 1260) 1282 dL_law_1260 rfl (fun hb1260 => ?_) (fun hb1260 => ?_)
  · replace hb1260 : ¬ (c = 0) := mt (nI_eq (a := c) (b := 0) (by omega) (by omega)).mpr hb1260
    refine xw_goto (pc := 1282) 3272 dL_law_1282 rfl ?_
    refine xw_pick (pc := 3272) (l' := [(0, _), (1, _), (2, _), (3, _), (4, _), (5, _)]) [2, 3, 4, 5, 6, 7] rfl ?_
    exact k _ _ hJ2 hsz
  · replace hb1260 : c = 0 := (nI_eq (a := c) (b := 0) (by omega) (by omega)).mp hb1260
    refine xw_aload_n (pc := 1263) dL_law_1263 5 rfl ?_
    refine xw_iconst (v := nI 0) (pc := 1264) dL_law_1264 rfl ?_
    have wE : xw (xWith g3 m T) out 0 = _ := (F4.w' (xlt (by rw [ho1.1]; decide)) (by rw [ho1.2.1]; unfold o313; omega)).trans (w1 hb1260)
    refine xw_lald (k := 0) (pc := 1265) dL_law_1265 (by simp [-List.getD_eq_getElem?_getD, xE_setI, xsz_setI, xsl_setI, xtag_setI, xown_setI, xlen_setI, xE_setR, xsz_setR, xsl_setR, xtag_setR, xown_setR, xlen_setR, xE_setW, xsz_setW, xsl_setW, xtag_setW, xown_setW, xlen_setW, xi_setR, xi_setW, xr_setI, xr_setW, xww_setI, xww_setR, xi_setI, xr_setR, xww_setW, xE_new, xsz_new, xsl_new, hx, c1, tw1, t2o, t2D]) rfl (by rw [hJ2.2.2.1.2.2]; decide) ?_
    rw [wE]
    refine xw_iload (pc := 1266) dL_law_1266 0 rfl ?_
    refine xw_if_eq (pc := 1268) 1275 dL_law_1268 rfl (fun hb1268 => ?_) (fun hb1268 => ?_)
    · replace hb1268 := bI_0.mp hb1268
      refine xw_lconst (v := 0) (pc := 1275) dL_law_1275 (by decide) ?_
      refine xw_lcmp (pc := 1276) dL_law_1276 rfl ?_
      refine xw_if_eq (pc := 1277) 1282 dL_law_1277 rfl (fun hb1277 => ?_) (fun hb1277 => ?_)
      rotate_left
      · exfalso
        exact hb1277 (by rw [hb1268]; decide)
      refine xw_goto (pc := 1282) 3272 dL_law_1282 rfl ?_
      refine xw_pick (pc := 3272) (l' := [(0, _), (1, _), (2, _), (3, _), (4, _), (5, _)]) [2, 3, 4, 5, 6, 7] rfl ?_
      exact k _ _ hJ2 hsz
    · replace hb1268 := bI_n0.mp hb1268
      refine xw_lconst (v := 1) (pc := 1271) dL_law_1271 (by decide) ?_
      refine xw_goto (pc := 1272) 1276 dL_law_1272 rfl ?_
      refine xw_lcmp (pc := 1276) dL_law_1276 rfl ?_
      refine xw_if_eq (pc := 1277) 1282 dL_law_1277 rfl (fun hb1277 => ?_) (fun hb1277 => ?_)
      rotate_left
      · exfalso
        exact hb1277 (by rw [hb1268]; decide)
      refine xw_goto (pc := 1282) 3272 dL_law_1282 rfl ?_
      refine xw_pick (pc := 3272) (l' := [(0, _), (1, _), (2, _), (3, _), (4, _), (5, _)]) [2, 3, 4, 5, 6, 7] rfl ?_
      exact k _ _ hJ2 hsz
theorem LC_holdsAgain {d : Nat} {x m out outD sc len : Nat} {scr : Nat → Int32} {h : xG} {S : xMS} {i : Nat} (hJ : xJ x m out outD sc len scr h S) (hi : i + 6 ≤ len) (hl : len ≤ 144) {Q : Option Value ⊕ Nat → xG → Prop} (k : ∀ h' S', xJ x m out outD sc len scr h' S' → xsz h' + xsl h' ≤ xsz h + xsl h + 46100 → XW M_L_law (d + 92) 3272 [(0, .ref sc), (1, .ref x), (2, .ref m), (3, .ref out), (4, .ref outD), (5, .int (nI i))] [] h' Q) : XW M_L_law (d + 92) 1285 [(0, .ref sc), (1, .ref x), (2, .ref m), (3, .ref out), (4, .ref outD), (5, .int (nI i))] [] h Q := by
  obtain ⟨p_, lk_, fa_, ka_, la_, Z_, n_, rr_, ww_, dq_, da_, hh_, ps_, sv_, hp_⟩ := hJ.1.1.p
  have hx : xtag h x = 1 := hp_.M.tx
  have c1 := hJ.2.2.2.2.1
  have c3 := hJ.2.2.2.2.2.2.1
  have c4 := hJ.2.2.2.2.2.2.2
  have oo := hJ.2.2.1
  have oD := hJ.2.2.2.1
  obtain ⟨c, b, S', hc, hP, hR, hW⟩ := W_holdsAgain (out := out) hJ.1.1 hJ.1.2 hx oo (p0 := scr (i + 1)) (p1 := scr (i + 2)) (p2 := scr (i + 3)) (p3 := scr (i + 4))
  refine xw_aload_n (pc := 1285) dL_law_1285 1 rfl ?_
  refine xw_aload_n (pc := 1286) dL_law_1286 0 rfl ?_
  refine xw_iload (pc := 1287) dL_law_1287 5 rfl ?_
  refine xw_iconst (v := nI 1) (pc := 1289) dL_law_1289 rfl ?_
  refine xn_iadd (pc := 1290) dL_law_1290 ?_
  refine xw_iald (k := (i + 1)) (pc := 1291) dL_law_1291 (by simp [-List.getD_eq_getElem?_getD, xE_setI, xsz_setI, xsl_setI, xtag_setI, xown_setI, xlen_setI, xE_setR, xsz_setR, xsl_setR, xtag_setR, xown_setR, xlen_setR, xE_setW, xsz_setW, xsl_setW, xtag_setW, xown_setW, xlen_setW, xi_setR, xi_setW, xr_setI, xr_setW, xww_setI, xww_setR, xi_setI, xr_setR, xww_setW, xE_new, xsz_new, xsl_new, hx, c1]) rfl (by rw [c3]; omega) ?_
  rw [c4 (i + 1) (by omega)]
  refine xw_aload_n (pc := 1292) dL_law_1292 0 rfl ?_
  refine xw_iload (pc := 1293) dL_law_1293 5 rfl ?_
  refine xw_iconst (v := nI 2) (pc := 1295) dL_law_1295 rfl ?_
  refine xn_iadd (pc := 1296) dL_law_1296 ?_
  refine xw_iald (k := (i + 2)) (pc := 1297) dL_law_1297 (by simp [-List.getD_eq_getElem?_getD, xE_setI, xsz_setI, xsl_setI, xtag_setI, xown_setI, xlen_setI, xE_setR, xsz_setR, xsl_setR, xtag_setR, xown_setR, xlen_setR, xE_setW, xsz_setW, xsl_setW, xtag_setW, xown_setW, xlen_setW, xi_setR, xi_setW, xr_setI, xr_setW, xww_setI, xww_setR, xi_setI, xr_setR, xww_setW, xE_new, xsz_new, xsl_new, hx, c1]) rfl (by rw [c3]; omega) ?_
  rw [c4 (i + 2) (by omega)]
  refine xw_aload_n (pc := 1298) dL_law_1298 0 rfl ?_
  refine xw_iload (pc := 1299) dL_law_1299 5 rfl ?_
  refine xw_iconst (v := nI 3) (pc := 1301) dL_law_1301 rfl ?_
  refine xn_iadd (pc := 1302) dL_law_1302 ?_
  refine xw_iald (k := (i + 3)) (pc := 1303) dL_law_1303 (by simp [-List.getD_eq_getElem?_getD, xE_setI, xsz_setI, xsl_setI, xtag_setI, xown_setI, xlen_setI, xE_setR, xsz_setR, xsl_setR, xtag_setR, xown_setR, xlen_setR, xE_setW, xsz_setW, xsl_setW, xtag_setW, xown_setW, xlen_setW, xi_setR, xi_setW, xr_setI, xr_setW, xww_setI, xww_setR, xi_setI, xr_setR, xww_setW, xE_new, xsz_new, xsl_new, hx, c1]) rfl (by rw [c3]; omega) ?_
  rw [c4 (i + 3) (by omega)]
  refine xw_aload_n (pc := 1304) dL_law_1304 0 rfl ?_
  refine xw_iload (pc := 1305) dL_law_1305 5 rfl ?_
  refine xw_iconst (v := nI 4) (pc := 1307) dL_law_1307 rfl ?_
  refine xn_iadd (pc := 1308) dL_law_1308 ?_
  refine xw_iald (k := (i + 4)) (pc := 1309) dL_law_1309 (by simp [-List.getD_eq_getElem?_getD, xE_setI, xsz_setI, xsl_setI, xtag_setI, xown_setI, xlen_setI, xE_setR, xsz_setR, xsl_setR, xtag_setR, xown_setR, xlen_setR, xE_setW, xsz_setW, xsl_setW, xtag_setW, xown_setW, xlen_setW, xi_setR, xi_setW, xr_setI, xr_setW, xww_setI, xww_setR, xi_setI, xr_setR, xww_setW, xE_new, xsz_new, xsl_new, hx, c1]) rfl (by rw [c3]; omega) ?_
  rw [c4 (i + 4) (by omega)]
  refine xw_aload_n (pc := 1310) dL_law_1310 3 rfl ?_
  refine xw_callF (pc := 1311) (xr_SX (as := [_, _, _, _, _, _]) ok_X0_holdsAgain rfl (by decide) q1530 q1531 dL_law_1311 rfl rfl (Nat.le_of_ble_eq_true rfl)) (hW d) ?_
  intro g1 hc1 hm1
  obtain ⟨st1, F1, w1⟩ := hc1
  refine xw_istore (l' := [(6, _), (0, _), (1, _), (2, _), (3, _), (4, _), (5, _)]) (pc := 1314) dL_law_1314 (by decide) rfl ?_
  obtain ⟨hK1, ⟨hM1, h31, he1⟩, ho1, hoD1, hs1⟩ := hJ.mid st1 F1 (by unfold oW; omega) (by unfold oW; omega)
  have tw1 : xtag (xWith g1 m S) sc = 101 := (he1.ti.1 sc).trans hs1.1
  have lw1 : xlen (xWith g1 m S) sc = len := (he1.ti.2.1 sc).trans hs1.2.2.1
  have iw1 : ∀ j, j < len → xi (xWith g1 m S) sc j = scr j := fun j hj => (he1.ti.2.2 sc j).trans (hs1.2.2.2 j hj)
  refine XW.eqv he1.symm ?_
  refine xw_aload_n (pc := 1316) dL_law_1316 3 rfl ?_
  refine xw_aload_n (pc := 1317) dL_law_1317 1 rfl ?_
  refine xw_iload (pc := 1318) dL_law_1318 6 rfl ?_
  refine xw_iconst (v := nI 1) (pc := 1320) dL_law_1320 rfl ?_
  refine xn_iadd (pc := 1321) dL_law_1321 ?_
  refine xw_iald (k := (i + 1)) (pc := 1322) dL_law_1322 (by simp [-List.getD_eq_getElem?_getD, xE_setI, xsz_setI, xsl_setI, xtag_setI, xown_setI, xlen_setI, xE_setR, xsz_setR, xsl_setR, xtag_setR, xown_setR, xlen_setR, xE_setW, xsz_setW, xsl_setW, xtag_setW, xown_setW, xlen_setW, xi_setR, xi_setW, xr_setI, xr_setW, xww_setI, xww_setR, xi_setI, xr_setR, xww_setW, xE_new, xsz_new, xsl_new, hx, c1, tw1]) rfl (by rw [lw1]; omega) ?_
  rw [iw1 (i + 1) (by omega)]
  refine xw_aload_n (pc := 1323) dL_law_1323 1 rfl ?_
  refine xw_iload (pc := 1324) dL_law_1324 6 rfl ?_
  refine xw_iconst (v := nI 2) (pc := 1326) dL_law_1326 rfl ?_
  refine xn_iadd (pc := 1327) dL_law_1327 ?_
  refine xw_iald (k := (i + 2)) (pc := 1328) dL_law_1328 (by simp [-List.getD_eq_getElem?_getD, xE_setI, xsz_setI, xsl_setI, xtag_setI, xown_setI, xlen_setI, xE_setR, xsz_setR, xsl_setR, xtag_setR, xown_setR, xlen_setR, xE_setW, xsz_setW, xsl_setW, xtag_setW, xown_setW, xlen_setW, xi_setR, xi_setW, xr_setI, xr_setW, xww_setI, xww_setR, xi_setI, xr_setR, xww_setW, xE_new, xsz_new, xsl_new, hx, c1, tw1]) rfl (by rw [lw1]; omega) ?_
  rw [iw1 (i + 2) (by omega)]
  refine xw_aload_n (pc := 1329) dL_law_1329 1 rfl ?_
  refine xw_iload (pc := 1330) dL_law_1330 6 rfl ?_
  refine xw_iconst (v := nI 3) (pc := 1332) dL_law_1332 rfl ?_
  refine xn_iadd (pc := 1333) dL_law_1333 ?_
  refine xw_iald (k := (i + 3)) (pc := 1334) dL_law_1334 (by simp [-List.getD_eq_getElem?_getD, xE_setI, xsz_setI, xsl_setI, xtag_setI, xown_setI, xlen_setI, xE_setR, xsz_setR, xsl_setR, xtag_setR, xown_setR, xlen_setR, xE_setW, xsz_setW, xsl_setW, xtag_setW, xown_setW, xlen_setW, xi_setR, xi_setW, xr_setI, xr_setW, xww_setI, xww_setR, xi_setI, xr_setR, xww_setW, xE_new, xsz_new, xsl_new, hx, c1, tw1]) rfl (by rw [lw1]; omega) ?_
  rw [iw1 (i + 3) (by omega)]
  refine xw_aload_n (pc := 1335) dL_law_1335 1 rfl ?_
  refine xw_iload (pc := 1336) dL_law_1336 6 rfl ?_
  refine xw_iconst (v := nI 4) (pc := 1338) dL_law_1338 rfl ?_
  refine xn_iadd (pc := 1339) dL_law_1339 ?_
  refine xw_iald (k := (i + 4)) (pc := 1340) dL_law_1340 (by simp [-List.getD_eq_getElem?_getD, xE_setI, xsz_setI, xsl_setI, xtag_setI, xown_setI, xlen_setI, xE_setR, xsz_setR, xsl_setR, xtag_setR, xown_setR, xlen_setR, xE_setW, xsz_setW, xsl_setW, xtag_setW, xown_setW, xlen_setW, xi_setR, xi_setW, xr_setI, xr_setW, xww_setI, xww_setR, xi_setI, xr_setR, xww_setW, xE_new, xsz_new, xsl_new, hx, c1, tw1]) rfl (by rw [lw1]; omega) ?_
  rw [iw1 (i + 4) (by omega)]
  refine xw_callF (pc := 1341) (xr_V (as := [_, _, _, _]) ok_X6_holdsAgain rfl (by decide) q2523 q2524 q2525 (by rw [xtag_with]; first | (rw [hM1.1]; rfl) | (rw [hM3.1]; rfl)) (by rw [xtag_with]; first | (rw [hM1.1]; rfl) | (rw [hM3.1]; rfl)) dL_law_1341 rfl rfl (Nat.le_of_ble_eq_true rfl)) (jR.val (hR (d + 1) g1 m hM1 h31 hK1)) ?_
  intro g2 hc2 hm2
  obtain ⟨g3, T, e3, ag, c6, hM3, h33, F3⟩ := hc2
  subst e3
  obtain ⟨hJ2, F4⟩ := xJ.done st1 hK1 ho1 hoD1 hs1 ag hM3 h33 F3
  have hsz : xsz (xWith g3 m T) + xsl (xWith g3 m T) ≤ xsz h + xsl h + 46100 := by
    have := F1.2.2.2.1
    have := F4.2.2.2.1
    omega
  have t2o := hJ2.2.2.1.1
  have t2D := hJ2.2.2.2.1.1
  refine xw_istore (l' := [(7, _), (6, _), (0, _), (1, _), (2, _), (3, _), (4, _), (5, _)]) (pc := 1344) dL_law_1344 (by decide) rfl ?_
  refine xw_aload_n (pc := 1346) dL_law_1346 4 rfl ?_
  refine xw_callV (pc := 1347) (xr_V (as := []) ok_X6_thrown rfl (by decide) q2352 q2353 q2354 (by rw [xtag_with]; first | (rw [hM1.1]; rfl) | (rw [hM3.1]; rfl)) (by rw [xtag_with]; first | (rw [hM1.1]; rfl) | (rw [hM3.1]; rfl)) dL_law_1347 rfl rfl (Nat.le_of_ble_eq_true rfl)) (by have z := SP_X6_thrown (d := d + 91) (S := T) hM3; rw [c6] at z; exact z) ?_
  refine xw_iload (pc := 1350) dL_law_1350 1 rfl ?_
  refine xw_icmp_eq (pc := 1352) 1357 dL_law_1352 rfl (fun hb1352 => ?_) (fun hb1352 => ?_)
  rotate_left
  · exfalso
    replace hb1352 : ¬ (c = c) := mt (nI_eq (a := c) (b := c) (by omega) (by omega)).mpr hb1352
    omega
  replace hb1352 : c = c := (nI_eq (a := c) (b := c) (by omega) (by omega)).mp hb1352
  refine xw_iload (pc := 1357) dL_law_1357 1 rfl ?_
  refine xw_if_ne (pc := 1359) 1381 dL_law_1359 rfl (fun hb1359 => ?_) (fun hb1359 => ?_)
  · replace hb1359 : ¬ (c = 0) := mt (nI_eq (a := c) (b := 0) (by omega) (by omega)).mpr hb1359
    refine xw_goto (pc := 1381) 3272 dL_law_1381 rfl ?_
    refine xw_pick (pc := 3272) (l' := [(0, _), (1, _), (2, _), (3, _), (4, _), (5, _)]) [2, 3, 4, 5, 6, 7] rfl ?_
    exact k _ _ hJ2 hsz
  · replace hb1359 : c = 0 := (nI_eq (a := c) (b := 0) (by omega) (by omega)).mp hb1359
    refine xw_aload_n (pc := 1362) dL_law_1362 5 rfl ?_
    refine xw_iconst (v := nI 0) (pc := 1363) dL_law_1363 rfl ?_
    have wE : xw (xWith g3 m T) out 0 = _ := (F4.w' (xlt (by rw [ho1.1]; decide)) (by rw [ho1.2.1]; unfold o313; omega)).trans (w1 hb1359)
    refine xw_lald (k := 0) (pc := 1364) dL_law_1364 (by simp [-List.getD_eq_getElem?_getD, xE_setI, xsz_setI, xsl_setI, xtag_setI, xown_setI, xlen_setI, xE_setR, xsz_setR, xsl_setR, xtag_setR, xown_setR, xlen_setR, xE_setW, xsz_setW, xsl_setW, xtag_setW, xown_setW, xlen_setW, xi_setR, xi_setW, xr_setI, xr_setW, xww_setI, xww_setR, xi_setI, xr_setR, xww_setW, xE_new, xsz_new, xsl_new, hx, c1, tw1, t2o, t2D]) rfl (by rw [hJ2.2.2.1.2.2]; decide) ?_
    rw [wE]
    refine xw_iload (pc := 1365) dL_law_1365 0 rfl ?_
    refine xw_if_eq (pc := 1367) 1374 dL_law_1367 rfl (fun hb1367 => ?_) (fun hb1367 => ?_)
    · replace hb1367 := bI_0.mp hb1367
      refine xw_lconst (v := 0) (pc := 1374) dL_law_1374 (by decide) ?_
      refine xw_lcmp (pc := 1375) dL_law_1375 rfl ?_
      refine xw_if_eq (pc := 1376) 1381 dL_law_1376 rfl (fun hb1376 => ?_) (fun hb1376 => ?_)
      rotate_left
      · exfalso
        exact hb1376 (by rw [hb1367]; decide)
      refine xw_goto (pc := 1381) 3272 dL_law_1381 rfl ?_
      refine xw_pick (pc := 3272) (l' := [(0, _), (1, _), (2, _), (3, _), (4, _), (5, _)]) [2, 3, 4, 5, 6, 7] rfl ?_
      exact k _ _ hJ2 hsz
    · replace hb1367 := bI_n0.mp hb1367
      refine xw_lconst (v := 1) (pc := 1370) dL_law_1370 (by decide) ?_
      refine xw_goto (pc := 1371) 1375 dL_law_1371 rfl ?_
      refine xw_lcmp (pc := 1375) dL_law_1375 rfl ?_
      refine xw_if_eq (pc := 1376) 1381 dL_law_1376 rfl (fun hb1376 => ?_) (fun hb1376 => ?_)
      rotate_left
      · exfalso
        exact hb1376 (by rw [hb1367]; decide)
      refine xw_goto (pc := 1381) 3272 dL_law_1381 rfl ?_
      refine xw_pick (pc := 3272) (l' := [(0, _), (1, _), (2, _), (3, _), (4, _), (5, _)]) [2, 3, 4, 5, 6, 7] rfl ?_
      exact k _ _ hJ2 hsz
theorem LC_outcome {d : Nat} {x m out outD sc len : Nat} {scr : Nat → Int32} {h : xG} {S : xMS} {i : Nat} (hJ : xJ x m out outD sc len scr h S) (hi : i + 6 ≤ len) (hl : len ≤ 144) {Q : Option Value ⊕ Nat → xG → Prop} (k : ∀ h' S', xJ x m out outD sc len scr h' S' → xsz h' + xsl h' ≤ xsz h + xsl h + 46100 → XW M_L_law (d + 92) 3272 [(0, .ref sc), (1, .ref x), (2, .ref m), (3, .ref out), (4, .ref outD), (5, .int (nI i))] [] h' Q) : XW M_L_law (d + 92) 1384 [(0, .ref sc), (1, .ref x), (2, .ref m), (3, .ref out), (4, .ref outD), (5, .int (nI i))] [] h Q := by
  obtain ⟨p_, lk_, fa_, ka_, la_, Z_, n_, rr_, ww_, dq_, da_, hh_, ps_, sv_, hp_⟩ := hJ.1.1.p
  have hx : xtag h x = 1 := hp_.M.tx
  have c1 := hJ.2.2.2.2.1
  have c3 := hJ.2.2.2.2.2.2.1
  have c4 := hJ.2.2.2.2.2.2.2
  have oo := hJ.2.2.1
  have oD := hJ.2.2.2.1
  obtain ⟨c, b, S', hc, hP, hR, hW⟩ := W_outcome (out := out) hJ.1.1 hJ.1.2 hx oo (p0 := scr (i + 1)) (p1 := scr (i + 2)) (p2 := scr (i + 3))
  refine xw_aload_n (pc := 1384) dL_law_1384 1 rfl ?_
  refine xw_aload_n (pc := 1385) dL_law_1385 0 rfl ?_
  refine xw_iload (pc := 1386) dL_law_1386 5 rfl ?_
  refine xw_iconst (v := nI 1) (pc := 1388) dL_law_1388 rfl ?_
  refine xn_iadd (pc := 1389) dL_law_1389 ?_
  refine xw_iald (k := (i + 1)) (pc := 1390) dL_law_1390 (by simp [-List.getD_eq_getElem?_getD, xE_setI, xsz_setI, xsl_setI, xtag_setI, xown_setI, xlen_setI, xE_setR, xsz_setR, xsl_setR, xtag_setR, xown_setR, xlen_setR, xE_setW, xsz_setW, xsl_setW, xtag_setW, xown_setW, xlen_setW, xi_setR, xi_setW, xr_setI, xr_setW, xww_setI, xww_setR, xi_setI, xr_setR, xww_setW, xE_new, xsz_new, xsl_new, hx, c1]) rfl (by rw [c3]; omega) ?_
  rw [c4 (i + 1) (by omega)]
  refine xw_aload_n (pc := 1391) dL_law_1391 0 rfl ?_
  refine xw_iload (pc := 1392) dL_law_1392 5 rfl ?_
  refine xw_iconst (v := nI 2) (pc := 1394) dL_law_1394 rfl ?_
  refine xn_iadd (pc := 1395) dL_law_1395 ?_
  refine xw_iald (k := (i + 2)) (pc := 1396) dL_law_1396 (by simp [-List.getD_eq_getElem?_getD, xE_setI, xsz_setI, xsl_setI, xtag_setI, xown_setI, xlen_setI, xE_setR, xsz_setR, xsl_setR, xtag_setR, xown_setR, xlen_setR, xE_setW, xsz_setW, xsl_setW, xtag_setW, xown_setW, xlen_setW, xi_setR, xi_setW, xr_setI, xr_setW, xww_setI, xww_setR, xi_setI, xr_setR, xww_setW, xE_new, xsz_new, xsl_new, hx, c1]) rfl (by rw [c3]; omega) ?_
  rw [c4 (i + 2) (by omega)]
  refine xw_aload_n (pc := 1397) dL_law_1397 0 rfl ?_
  refine xw_iload (pc := 1398) dL_law_1398 5 rfl ?_
  refine xw_iconst (v := nI 3) (pc := 1400) dL_law_1400 rfl ?_
  refine xn_iadd (pc := 1401) dL_law_1401 ?_
  refine xw_iald (k := (i + 3)) (pc := 1402) dL_law_1402 (by simp [-List.getD_eq_getElem?_getD, xE_setI, xsz_setI, xsl_setI, xtag_setI, xown_setI, xlen_setI, xE_setR, xsz_setR, xsl_setR, xtag_setR, xown_setR, xlen_setR, xE_setW, xsz_setW, xsl_setW, xtag_setW, xown_setW, xlen_setW, xi_setR, xi_setW, xr_setI, xr_setW, xww_setI, xww_setR, xi_setI, xr_setR, xww_setW, xE_new, xsz_new, xsl_new, hx, c1]) rfl (by rw [c3]; omega) ?_
  rw [c4 (i + 3) (by omega)]
  refine xw_aload_n (pc := 1403) dL_law_1403 3 rfl ?_
  refine xw_callF (pc := 1404) (xr_SX (as := [_, _, _, _, _]) ok_X0_outcome rfl (by decide) q1544 q1545 dL_law_1404 rfl rfl (Nat.le_of_ble_eq_true rfl)) (hW d) ?_
  intro g1 hc1 hm1
  obtain ⟨st1, F1, w1⟩ := hc1
  refine xw_istore (l' := [(6, _), (0, _), (1, _), (2, _), (3, _), (4, _), (5, _)]) (pc := 1407) dL_law_1407 (by decide) rfl ?_
  obtain ⟨hK1, ⟨hM1, h31, he1⟩, ho1, hoD1, hs1⟩ := hJ.mid st1 F1 (by unfold oW; omega) (by unfold oW; omega)
  have tw1 : xtag (xWith g1 m S) sc = 101 := (he1.ti.1 sc).trans hs1.1
  have lw1 : xlen (xWith g1 m S) sc = len := (he1.ti.2.1 sc).trans hs1.2.2.1
  have iw1 : ∀ j, j < len → xi (xWith g1 m S) sc j = scr j := fun j hj => (he1.ti.2.2 sc j).trans (hs1.2.2.2 j hj)
  refine XW.eqv he1.symm ?_
  refine xw_aload_n (pc := 1409) dL_law_1409 3 rfl ?_
  refine xw_aload_n (pc := 1410) dL_law_1410 1 rfl ?_
  refine xw_iload (pc := 1411) dL_law_1411 6 rfl ?_
  refine xw_iconst (v := nI 1) (pc := 1413) dL_law_1413 rfl ?_
  refine xn_iadd (pc := 1414) dL_law_1414 ?_
  refine xw_iald (k := (i + 1)) (pc := 1415) dL_law_1415 (by simp [-List.getD_eq_getElem?_getD, xE_setI, xsz_setI, xsl_setI, xtag_setI, xown_setI, xlen_setI, xE_setR, xsz_setR, xsl_setR, xtag_setR, xown_setR, xlen_setR, xE_setW, xsz_setW, xsl_setW, xtag_setW, xown_setW, xlen_setW, xi_setR, xi_setW, xr_setI, xr_setW, xww_setI, xww_setR, xi_setI, xr_setR, xww_setW, xE_new, xsz_new, xsl_new, hx, c1, tw1]) rfl (by rw [lw1]; omega) ?_
  rw [iw1 (i + 1) (by omega)]
  refine xw_aload_n (pc := 1416) dL_law_1416 1 rfl ?_
  refine xw_iload (pc := 1417) dL_law_1417 6 rfl ?_
  refine xw_iconst (v := nI 2) (pc := 1419) dL_law_1419 rfl ?_
  refine xn_iadd (pc := 1420) dL_law_1420 ?_
  refine xw_iald (k := (i + 2)) (pc := 1421) dL_law_1421 (by simp [-List.getD_eq_getElem?_getD, xE_setI, xsz_setI, xsl_setI, xtag_setI, xown_setI, xlen_setI, xE_setR, xsz_setR, xsl_setR, xtag_setR, xown_setR, xlen_setR, xE_setW, xsz_setW, xsl_setW, xtag_setW, xown_setW, xlen_setW, xi_setR, xi_setW, xr_setI, xr_setW, xww_setI, xww_setR, xi_setI, xr_setR, xww_setW, xE_new, xsz_new, xsl_new, hx, c1, tw1]) rfl (by rw [lw1]; omega) ?_
  rw [iw1 (i + 2) (by omega)]
  refine xw_aload_n (pc := 1422) dL_law_1422 1 rfl ?_
  refine xw_iload (pc := 1423) dL_law_1423 6 rfl ?_
  refine xw_iconst (v := nI 3) (pc := 1425) dL_law_1425 rfl ?_
  refine xn_iadd (pc := 1426) dL_law_1426 ?_
  refine xw_iald (k := (i + 3)) (pc := 1427) dL_law_1427 (by simp [-List.getD_eq_getElem?_getD, xE_setI, xsz_setI, xsl_setI, xtag_setI, xown_setI, xlen_setI, xE_setR, xsz_setR, xsl_setR, xtag_setR, xown_setR, xlen_setR, xE_setW, xsz_setW, xsl_setW, xtag_setW, xown_setW, xlen_setW, xi_setR, xi_setW, xr_setI, xr_setW, xww_setI, xww_setR, xi_setI, xr_setR, xww_setW, xE_new, xsz_new, xsl_new, hx, c1, tw1]) rfl (by rw [lw1]; omega) ?_
  rw [iw1 (i + 3) (by omega)]
  refine xw_callF (pc := 1428) (xr_V (as := [_, _, _]) ok_X6_outcome rfl (by decide) q2528 q2529 q2530 (by rw [xtag_with]; first | (rw [hM1.1]; rfl) | (rw [hM3.1]; rfl)) (by rw [xtag_with]; first | (rw [hM1.1]; rfl) | (rw [hM3.1]; rfl)) dL_law_1428 rfl rfl (Nat.le_of_ble_eq_true rfl)) (jR.val (hR (d + 1) g1 m hM1 h31 hK1)) ?_
  intro g2 hc2 hm2
  obtain ⟨g3, T, e3, ag, c6, hM3, h33, F3⟩ := hc2
  subst e3
  obtain ⟨hJ2, F4⟩ := xJ.done st1 hK1 ho1 hoD1 hs1 ag hM3 h33 F3
  have hsz : xsz (xWith g3 m T) + xsl (xWith g3 m T) ≤ xsz h + xsl h + 46100 := by
    have := F1.2.2.2.1
    have := F4.2.2.2.1
    omega
  have t2o := hJ2.2.2.1.1
  have t2D := hJ2.2.2.2.1.1
  refine xw_istore (l' := [(7, _), (6, _), (0, _), (1, _), (2, _), (3, _), (4, _), (5, _)]) (pc := 1431) dL_law_1431 (by decide) rfl ?_
  refine xw_aload_n (pc := 1433) dL_law_1433 4 rfl ?_
  refine xw_callV (pc := 1434) (xr_V (as := []) ok_X6_thrown rfl (by decide) q2352 q2353 q2354 (by rw [xtag_with]; first | (rw [hM1.1]; rfl) | (rw [hM3.1]; rfl)) (by rw [xtag_with]; first | (rw [hM1.1]; rfl) | (rw [hM3.1]; rfl)) dL_law_1434 rfl rfl (Nat.le_of_ble_eq_true rfl)) (by have z := SP_X6_thrown (d := d + 91) (S := T) hM3; rw [c6] at z; exact z) ?_
  refine xw_iload (pc := 1437) dL_law_1437 1 rfl ?_
  refine xw_icmp_eq (pc := 1439) 1444 dL_law_1439 rfl (fun hb1439 => ?_) (fun hb1439 => ?_)
  rotate_left
  · exfalso
    replace hb1439 : ¬ (c = c) := mt (nI_eq (a := c) (b := c) (by omega) (by omega)).mpr hb1439
    omega
  replace hb1439 : c = c := (nI_eq (a := c) (b := c) (by omega) (by omega)).mp hb1439
  refine xw_iload (pc := 1444) dL_law_1444 1 rfl ?_
  refine xw_if_ne (pc := 1446) 1461 dL_law_1446 rfl (fun hb1446 => ?_) (fun hb1446 => ?_)
  · replace hb1446 : ¬ (c = 0) := mt (nI_eq (a := c) (b := 0) (by omega) (by omega)).mpr hb1446
    refine xw_goto (pc := 1461) 3272 dL_law_1461 rfl ?_
    refine xw_pick (pc := 3272) (l' := [(0, _), (1, _), (2, _), (3, _), (4, _), (5, _)]) [2, 3, 4, 5, 6, 7] rfl ?_
    exact k _ _ hJ2 hsz
  · replace hb1446 : c = 0 := (nI_eq (a := c) (b := 0) (by omega) (by omega)).mp hb1446
    refine xw_aload_n (pc := 1449) dL_law_1449 5 rfl ?_
    refine xw_iconst (v := nI 0) (pc := 1450) dL_law_1450 rfl ?_
    have wE : xw (xWith g3 m T) out 0 = _ := (F4.w' (xlt (by rw [ho1.1]; decide)) (by rw [ho1.2.1]; unfold o313; omega)).trans (w1 hb1446)
    refine xw_lald (k := 0) (pc := 1451) dL_law_1451 (by simp [-List.getD_eq_getElem?_getD, xE_setI, xsz_setI, xsl_setI, xtag_setI, xown_setI, xlen_setI, xE_setR, xsz_setR, xsl_setR, xtag_setR, xown_setR, xlen_setR, xE_setW, xsz_setW, xsl_setW, xtag_setW, xown_setW, xlen_setW, xi_setR, xi_setW, xr_setI, xr_setW, xww_setI, xww_setR, xi_setI, xr_setR, xww_setW, xE_new, xsz_new, xsl_new, hx, c1, tw1, t2o, t2D]) rfl (by rw [hJ2.2.2.1.2.2]; decide) ?_
    rw [wE]
    refine xw_iload (pc := 1452) dL_law_1452 0 rfl ?_
    refine xw_i2l (pc := 1454) dL_law_1454 ?_
    refine xw_lcmp (pc := 1455) dL_law_1455 rfl ?_
    refine xw_if_eq (pc := 1456) 1461 dL_law_1456 rfl (fun hb1456 => ?_) (fun hb1456 => ?_)
    rotate_left
    · exfalso
      exact hb1456 lg_s
    refine xw_goto (pc := 1461) 3272 dL_law_1461 rfl ?_
    refine xw_pick (pc := 3272) (l' := [(0, _), (1, _), (2, _), (3, _), (4, _), (5, _)]) [2, 3, 4, 5, 6, 7] rfl ?_
    exact k _ _ hJ2 hsz
