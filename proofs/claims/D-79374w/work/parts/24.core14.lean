/-! CORE 14: exceptions -/
set_option maxRecDepth 100000
def xwarmB (w : Cond) : Bool := match w with
  | .fieldLinkNest _ _ _ _ _ _ => true
  | .methodLinkNest _ _ _ _ => true
  | .castable _ _ => true
  | .declares _ => true
  | _ => false
theorem xwarm_of {w : Cond} (h : xwarmB w = true) : xwarm w := by
  cases w <;> first | (cases h; done) | exact Or.inl ⟨_, _, _, _, _, _, rfl⟩ | exact Or.inr (Or.inl ⟨_, _, _, _, rfl⟩) | exact Or.inr (Or.inr (Or.inl ⟨_, _, rfl⟩)) | exact Or.inr (Or.inr (Or.inr (Or.inl ⟨_, rfl⟩)))
theorem xt_in (ws : List Cond) (ps : List Nat) (hp : ws = ps.filterMap (fun i => lw_tbl[i]?)) (hg : ws.all (fun w => goodWord w || xwarmB w) = true) : ∀ w ∈ ws, w ∈ lw_tbl ∧ (goodWord w = true ∨ xwarm w) := by
  intro w h
  have h1 := List.all_eq_true.mp hg w h
  refine ⟨?_, ?_⟩
  · rw [hp] at h
    obtain ⟨i, -, hi⟩ := List.mem_filterMap.mp h
    exact List.mem_of_getElem? hi
  · rw [Bool.or_eq_true] at h1
    rcases h1 with h1 | h1
    · exact Or.inl h1
    · exact Or.inr (xwarm_of h1)
theorem xt_use {E : xEnv} {s : State} {args : Array Value} {ws : List Cond} (h : ∀ w ∈ ws, w ∈ lw_tbl ∧ (goodWord w = true ∨ xwarm w)) (hts : ∀ w ∈ lw_all, w.before args s = true) (hK : xK E s) : ∀ w ∈ ws, w.before args s = true := by
  intro w hw
  obtain ⟨h1, h2⟩ := h w hw
  rcases h2 with h2 | h2
  · exact hts w (List.mem_filter.mpr ⟨h1, h2⟩)
  · have h3 := hK.2.2.2.1 w h1 h2
    rcases h2 with ⟨_, _, _, _, _, _, rfl⟩ | ⟨_, _, _, _, rfl⟩ | ⟨_, _, rfl⟩ | ⟨_, rfl⟩ | ⟨_, rfl⟩ | ⟨_, _, _, _, rfl⟩ <;> exact va_Nw.use rfl h3
section X14
variable {M : xM} {d pc : Nat} {l : List (Nat × Value)} {rest : List Value} {g : xG} {Q : Option Value ⊕ Nat → xG → Prop}
/-- throw new E() in a method without handlers -/
theorem xx_throw0 {cls : String} {names : List String} {ik ic : Nat} {T : u_T} {N : Nat} (tg : Nat) (hcx : xcl[tg - 1]? = some (cls, T, N)) (h22 : 22 ≤ tg) (h28 : tg < 28) (hh : M.2.2.2.2 = []) (hln : names.length = 2) (hcls : Bundle.fit cls = true) (hnames : ∀ n ∈ names, Bundle.fit n = true)
    (hk : Cond.classLink M.1.cls ik cls ∈ lw_all) (hini : Cond.initialized cls ∈ lw_all) (hat : ∀ w ∈ vx_at0 M.1.cls ic cls names, w ∈ lw_tbl ∧ (goodWord w = true ∨ xwarm w)) (hgood : (Cond.classLink M.1.cls ik cls :: Cond.initialized cls :: vx_at0 M.1.cls ic cls names).all vx_ot = true)
    (d0 : decode M.2.1 pc = .ok (.new ik, 3)) (d3 : decode M.2.1 (pc + 3) = .ok (.dup, 1)) (d4 : decode M.2.1 (pc + 4) = .ok (.invokespecial ic, 3)) (d7 : decode M.2.1 (pc + 7) = .ok (.athrow, 1)) (hr : (rest.map fun v => v.category).sum ≤ 8)
    (hQ : Q (.inr (xsz g)) (xNew g (xBlank tg 9 0) 6)) : XW M (d + 6) pc l rest g Q := by
  refine ⟨.inr (xsz g), xNew g (xBlank tg 9 0) 6, hQ, ⟨rfl, Nat.le_succ _, Nat.le_add_right _ _⟩, ?_⟩
  intro p L e R s m args below meth c z0 H locs ls S
  obtain ⟨Cx, h1, h2, h3, h4, h5, h6, hR, hS, hl⟩ := S
  obtain ⟨hx, hb, hr9, hml, hown, hts, hlocks, hname, htab, hL, hK, hbase, hbq⟩ := Cx
  have e5 : xsz (xNew g (xBlank tg 9 0) 6) = xsz g + 1 := rfl
  have e6 : xsl (xNew g (xBlank tg 9 0) 6) = xsl g + 6 := rfl
  rw [e5] at h5
  rw [e6] at h6
  have hnoex : ∀ x ∈ c.exceptionTable.toList, covers x (pc + 7) = false := by
    intro x hx9
    rw [htab, hh] at hx9
    cases hx9
  have hZ : ∀ q ∈ xsq, vx_Zq q.1 q.2.1 q.2.2 (xF (xE g)) s s.heap := fun q hq => (hK.2.2.2.2.2.2.1 q hq).kept (fun a ha _ => hbq a ha)
  refine vx_throw0 (ik := ik) (ic := ic) (cls := cls) (names := names) (A := xF (xE g)) hx hb hL hown hcls hnames (hts _ hk) (hts _ hini) (xt_use hat hts hK) (fun w hw => List.all_eq_true.mp hgood w hw) (hZ _ (List.mem_cons_self)) (hZ _ (List.mem_cons_of_mem _ List.mem_cons_self)) hS (by rw [hml]; exact hl.1) d0 d3 d4 d7 hnoex (by omega) (by rw [hln]; unfold xloc at h4; omega) (by omega) (by omega) hlocks (fun t ce hal t1 t2 t3 t4 t5 => ?_) hS.2.2 (by omega) (by omega)
  have hxcn : xcn tg = cls := by unfold xcn; rw [hcx]
  have ec : xc (xNew g (xBlank tg 9 0) 6) (xsz g) = xBlank tg 9 0 := xc_new
  have et : xtag (xNew g (xBlank tg 9 0) 6) (xsz g) = tg := by unfold xtag; rw [ec]; rfl
  refine ⟨by rw [hR.1], ⟨by rw [t1, hR.1]; rfl, by rw [t1]; exact Nat.le_succ_of_le hR.2.1, fun q hq => ?_, fun b => ?_⟩, ?_, ?_, ?_, ?_⟩
  · rw [t2 q (Nat.lt_of_lt_of_le hq hR.2.1)]
    exact hR.2.2.1 q hq
  · by_cases hbz : b = xsz g
    · subst hbz
      rw [ec]
      obtain ⟨hS1, hfc, kC, hkC, hkind⟩ := hK.1 _ _ hcx
      refine Or.inr ⟨ce, by rw [← hR.1]; exact t3, by rw [t4]; exact fun h => (by cases h), by rw [t4]; rfl, fun _ => ⟨t4, by rw [← hR.1]; exact hR.2.1⟩, ?_, fun _ => ⟨Nat.zero_le _, ?_⟩, fun h => ?_, fun j hj => absurd hj (Nat.not_lt_zero j)⟩
      · have e9 : xcid (xE (xNew g (xBlank tg 9 0) 6)) tg = (xE g).1.1 (tg - 1) := if_pos (by omega)
        refine Eq.trans ?_ e9.symm
        have q1 := t5.symm.trans hfc
        exact Option.some.inj q1
      · show xmin tg ≤ 0
        unfold xmin
        rw [if_neg (by omega), if_pos h22]
        exact Nat.le_refl _
      · have : 100 ≤ tg := h
        omega
    · rw [xc_newN hbz]
      rcases hR.2.2.2 b with h0 | ⟨cell, q1, q2⟩
      · exact Or.inl h0
      · have hb1 : b < H.size := (Array.getElem?_eq_some_iff.mp q1).1
        exact Or.inr ⟨cell, by rw [t2 b hb1]; exact q1, q2⟩
  · rw [hR.1, et, hxcn]
  · rw [hR.1, et]; omega
  · rw [hR.1, et]; omega
  · rw [hR.1]
    show (xc (xNew g (xBlank tg 9 0) 6) (xsz g)).2.1 ≠ 0
    rw [ec]
    exact (by decide : (9 : Nat) ≠ 0)
/-- what the row says of a throwable -/
theorem x_exc {q : Nat} {s : State} {H : Heap} (hK : xK (xE g) s) (hR : xR g H) (h0 : 0 < xtag g q) (h28 : xtag g q < 28) (ho : xown g q ≠ 0) : ∃ ce : Cell, H[q]? = some ce ∧ ce.vm = .none ∧ s.vm.findClass (xcn (xtag g q)) = some ce.cls := by
  obtain ⟨cell, q1, q2, q3⟩ := x_obj hK hR h0 h28
  rcases hR.2.2.2 q with hz | ⟨cell2, r1, r2, r3, r4, r5⟩
  · exact absurd hz (Nat.ne_of_gt h0)
  · cases q1.symm.trans r1
    refine ⟨cell, q1, (r4 ho).1, ?_⟩
    have e : xnm (xtag g q) = xcn (xtag g q) := if_pos (by omega)
    rw [← e]
    exact q3
/-- athrow -/
theorem xw_athrow {q : Nat} (hd : decode M.2.1 pc = .ok (.athrow, 1)) (k : XX M d pc l q g Q) : XW M d pc l (.ref q :: rest) g Q := by
  obtain ⟨rs, g', hQ, hm, hr⟩ := k
  refine ⟨rs, g', hQ, hm, ?_⟩
  intro p L e R s m args below meth c z0 H locs ls S
  exact vx_athrow S.1.1 S.1.2.1 hd (hr p L e R s m args below meth c z0 H locs ls rest S)
/-- not caught here: every handler doesn't cover pc, or catches another class -/
def xPass (own : String) (pc : Nat) (E : String) (z : Nat × Nat × Nat × Nat) : Prop := ¬ (z.1 ≤ pc ∧ pc < z.2.1) ∨ (z.2.2.2 ≠ 0 ∧ ∃ nm : String, Cond.classLink own z.2.2.2 nm ∈ lw_all ∧ (E, nm) ∈ xnc)
end X14
theorem xt_IOOBE : ∀ w ∈ vx_at0 "PolicyNotation" 60 "java/lang/IndexOutOfBoundsException" ["java/lang/RuntimeException", "java/lang/Exception"], w ∈ lw_tbl ∧ (goodWord w = true ∨ xwarm w) := xt_in _ [97, 195, 204, 214, 217, 219, 196, 197, 149, 150, 198, 203, 215, 456, 185, 457, 187, 458, 189, 199, 201, 191, 1078, 1079, 1080, 1081, 176, 1081, 1082, 1083, 1084, 178, 1084, 1085, 1086, 196, 180, 1077, 1069, 1070, 1071, 210, 1072, 1073, 1074, 1075, 454, 193, 1076] rfl (by decide +kernel)
theorem xt_IAE : ∀ w ∈ vx_at0 "PolicyNotation" 63 "java/lang/IllegalArgumentException" ["java/lang/RuntimeException", "java/lang/Exception"], w ∈ lw_tbl ∧ (goodWord w = true ∨ xwarm w) := xt_in _ [97, 195, 204, 214, 217, 219, 196, 197, 149, 150, 198, 203, 215, 456, 185, 457, 187, 458, 189, 199, 201, 191, 1186, 1187, 1188, 1081, 176, 1081, 1082, 1083, 1084, 178, 1084, 1085, 1086, 196, 180, 1185, 174, 175, 182, 183, 184, 186, 188, 190, 454, 193, 192] rfl (by decide +kernel)
theorem xt_ISE : ∀ w ∈ vx_at0 "PolicyNotation" 66 "java/lang/IllegalStateException" ["java/lang/RuntimeException", "java/lang/Exception"], w ∈ lw_tbl ∧ (goodWord w = true ∨ xwarm w) := xt_in _ [97, 195, 204, 214, 217, 219, 196, 197, 149, 150, 198, 203, 215, 456, 185, 457, 187, 458, 189, 199, 201, 191, 1102, 1103, 1104, 1081, 176, 1081, 1082, 1083, 1084, 178, 1084, 1085, 1086, 196, 180, 1101, 1093, 1094, 1095, 209, 1096, 1097, 1098, 1099, 454, 193, 1100] rfl (by decide +kernel)
theorem xt_NSEE : ∀ w ∈ vx_at0 "PolicyNotation" 69 "java/util/NoSuchElementException" ["java/lang/RuntimeException", "java/lang/Exception"], w ∈ lw_tbl ∧ (goodWord w = true ∨ xwarm w) := xt_in _ [97, 195, 204, 214, 217, 219, 196, 197, 149, 150, 198, 203, 215, 456, 185, 457, 187, 458, 189, 199, 201, 191, 1167, 1168, 1169, 1081, 176, 1081, 1082, 1083, 1084, 178, 1084, 1085, 1086, 196, 180, 1499, 1158, 1159, 1160, 213, 1161, 1162, 1163, 1164, 454, 193, 1165] rfl (by decide +kernel)
theorem xt_UOE : ∀ w ∈ vx_at0 "PolicyNotation" 92 "java/lang/UnsupportedOperationException" ["java/lang/RuntimeException", "java/lang/Exception"], w ∈ lw_tbl ∧ (goodWord w = true ∨ xwarm w) := xt_in _ [97, 195, 204, 214, 217, 219, 196, 197, 149, 150, 198, 203, 215, 456, 185, 457, 187, 458, 189, 199, 201, 191, 1320, 1321, 1322, 1081, 176, 1081, 1082, 1083, 1084, 178, 1084, 1085, 1086, 196, 180, 1319, 1311, 1312, 1313, 212, 1314, 1315, 1316, 1317, 454, 193, 1318] rfl (by decide +kernel)
