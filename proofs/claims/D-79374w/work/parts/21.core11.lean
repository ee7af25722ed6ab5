/-! CORE 11: System.arraycopy -/
set_option maxRecDepth 100000
section X11
variable {M : xM} {d pc : Nat} {l : List (Nat × Value)} {rest : List Value} {g : xG} {Q : Option Value ⊕ Nat → xG → Prop}
theorem xw_writeL {pc' a : Nat} {c0 : xCell} {st st' : List Value}
    (h : ∀ (p : Program) (L : Launch) (e : Env) (R : Room) (s : State) (m : MethodId) (args : Array Value) (below : List Frame) (meth : Method) (c : Code) (H : Heap) (locs : List Loc) (cells slots : Nat) (Qf : State → Prop) (ls : Array Slot), xC M p L s m args meth c (xE g) → xR g H → lv_has ls M.2.2.1 l → d ≤ R.frames → xloc d ≤ R.locals →
      (∀ (H' : Heap) (L' : List Loc), (∀ q ∈ L', q.base = a) → xAt (xE g) a c0 H' → (xE g).2.2.2.size ≤ a → H'.size = H.size → (∀ q : Nat, q ≠ a → H'[q]? = H[q]?) → W p L e R s m args below meth c H' (locs ++ L') cells slots Qf (F0 m pc' ls st')) → W p L e R s m args below meth c H locs cells slots Qf (F0 m pc ls st))
    (k : XW M d pc' l st' (xPut g a c0) Q) : XW M d pc l st g Q := by
  obtain ⟨rs, g', hQ, hm, hr⟩ := k
  refine ⟨rs, g', hQ, hm, ?_⟩
  intro p L e R s m args below meth c z0 H locs ls S
  obtain ⟨C, h1, h2, h3, h4, h5, h6, hR, hS, hl⟩ := S
  refine h p L e R s m args below meth c H locs _ _ _ ls C hR hl h3 h4 (fun H' L' eL e1 e2 e3 e4 => ?_)
  refine hr p L e R s m args below meth c z0 H' _ ls ⟨C, h1, h2, h3, h4, h5, h6, ⟨e3.trans hR.1, by rw [e3]; exact hR.2.1, fun q hq => ?_, fun b => ?_⟩, ⟨by rw [e3]; exact hS.1, fun q q1 q2 => ?_, fun q hq => ?_⟩, hl⟩
  · have hq' : q < (xE g).2.2.2.size := hq
    rw [e4 q (by omega)]
    exact hR.2.2.1 q hq'
  · by_cases hb : b = a
    · subst hb
      by_cases hlt : b < xsz g
      · rw [xc_put hlt]
        exact e1
      · refine Or.inl ?_
        unfold xc
        rw [if_neg (show ¬ b < xsz (xPut g b c0) from hlt)]
        rfl
    · rw [xc_putN hb]
      rcases hR.2.2.2 b with h0 | ⟨cell, q1, q2⟩
      · exact Or.inl h0
      · exact Or.inr ⟨cell, by rw [e4 b hb]; exact q1, q2⟩
  · rw [e4 q (fun e => q2 (by rw [e]; exact e2))]
    exact hS.2.1 q q1 q2
  · rcases List.mem_append.mp hq with h | h
    · exact hS.2.2 q h
    · rw [eL q h]
      exact e2
theorem xw_copyV {a0 a sp dp n q idx : Nat} {c0 : xCell} (hd : decode M.2.1 pc = .ok (.invokestatic idx, 3)) (hl : Cond.methodLink M.1.cls idx arraycopyName ∈ lw_all) (hq : q < 14) (ht0 : xtag g a0 = 101 + q) (ht : xtag g a = 101 + q) (ho : xown g a ≠ 0) (hs : sp + n ≤ xlen g a0) (hdp : dp + n ≤ xlen g a) (hr : (rest.map fun v => v.category).sum ≤ 8)
    (h1 : c0.1 = (xc g a).1) (h2 : c0.2.1 = (xc g a).2.1) (h3 : c0.2.2.1 = (xc g a).2.2.1) (hv : ∀ j, xval (xak q) c0 j = if dp ≤ j ∧ j < dp + n then xval (xak q) (xc g a0) (sp + (j - dp)) else xval (xak q) (xc g a) j)
    (htk : ∀ i b, i < n → xval (xak q) (xc g a0) (sp + i) = .ref b → xak q = .object "java/lang/Object" ∧ xcls (xtag g b) = true ∧ Cond.castable (xnm (xtag g b)) "java/lang/Object" ∈ lw_tbl)
    (kk : XW M (d + 1) (pc + 3) l rest (xPut g a c0) Q) : XW M (d + 1) pc l (.int (nI n) :: .int (nI dp) :: .ref a :: .int (nI sp) :: .ref a0 :: rest) g Q := by
  refine xw_writeL (fun p L e R s m args below meth c H locs cells slots Qf ls Cx hR hl9 hf9 hlo9 kk9 => ?_) kk
  have hK := Cx.2.2.2.2.2.2.2.2.2.2.1
  have hts := Cx.2.2.2.2.2.1
  obtain ⟨cs, q1, q2, q3, q4, q5, qA, z1, z2, z3, z4⟩ := x_arr (q := q) hq hK hR ht0
  obtain ⟨cd, r1, r2, r3, r4, r5, rA, y1, y2, y3, y4⟩ := x_arr (q := q) hq hK hR ht
  obtain ⟨kS, hkS, cmS, hkindS⟩ := qA.2
  obtain ⟨kD, hkD, cmD, hkindD⟩ := rA.2
  have b1 : (nI sp).toNatClampNeg = sp := nI_clamp (by omega)
  have b2 : (nI dp).toNatClampNeg = dp := nI_clamp (by omega)
  have b3 : (nI n).toNatClampNeg = n := nI_clamp (by omega)
  intro T hT X
  obtain ⟨vm', X', step⟩ := X.arraycopy Cx.1 Cx.2.2.2.2.1 (hts _ hl) (hts _ q299) (hts _ q298) (hts _ q108) (src := a0) (dst := a) (cs := cs) (cd := cd) (srcPos := nI sp) (destPos := nI dp) (n := nI n) (by rw [hT]; exact q1) (by rw [hT]; exact r1)
    qA.1 rA.1 q2 r2 hkS hkD hkindS hkindD (by simp) (nI_pos (by omega)) (nI_pos (by omega)) (nI_pos (by omega))
    (by rw [nI_toInt (by omega), nI_toInt (by omega), z1]; omega)
    (by rw [nI_toInt (by omega), nI_toInt (by omega), y1]; omega)
    (fun vm₁ hal i hi => by
      rw [b3] at hi
      have e : cs.slots.getD ((nI sp).toNatClampNeg + i) .null = xval (xak q) (xc g a0) (sp + i) := by
        rw [b1, Array.getD_eq_getD_getElem?, z4 (sp + i) (by omega)]
        rfl
      rw [e]
      refine ⟨z3 (sp + i) (by omega), ?_⟩
      cases hy : xval (xak q) (xc g a0) (sp + i) with
      | ref y =>
        obtain ⟨hob, hcl, hca⟩ := htk i y hi hy
        obtain ⟨cv, v1, v2, v3⟩ := x_any hK hR hcl
        have hRA := (hK.2.1 q hq).2
        rw [hob] at hRA
        obtain ⟨kA, comp, f1, f2, f3, f4⟩ := hRA
        obtain ⟨c9, t9, w1, w2, w3⟩ := Cond.castable_spec (va_Nw.use (A := args) rfl (hK.2.2.2.1 _ hca (Or.inr (Or.inr (Or.inl ⟨_, _, rfl⟩)))))
        cases v3.symm.trans w1
        cases f3.symm.trans w2
        rw [r5] at hkD
        cases f1.symm.trans hkD
        have hcm : comp = cmD := by
          have := f2.symm.trans hkindD
          injection this
        subst hcm
        obtain ⟨kV, hkV, -⟩ := Vm.findClass_spec v3
        obtain ⟨kT, hkT, -⟩ := Vm.findClass_spec f3
        obtain ⟨kV', hkV', -⟩ := hal.2.2 _ _ hkV
        obtain ⟨kT', hkT', -⟩ := hal.2.2 _ _ hkT
        refine ⟨cv, (show T.heap[y]? = some cv by rw [hT]; exact v1), (fun z h => by rw [h] at v2; cases v2), ⟨kV', hkV'⟩, ⟨kT', hkT'⟩, ?_⟩
        show vm₁.assignable _ _ = true
        rw [hal.assignable]
        exact w3
      | _ => exact trivial)
    (g := F0 m pc ls (.int (nI n) :: .int (nI dp) :: .ref a :: .int (nI sp) :: .ref a0 :: rest)) rfl (by rw [Cx.2.2.2.1]; exact hl9.1) (rest := rest) rfl (by rw [Cx.2.1]; exact hd) (by omega)
    (by
      have e5 : nativeFrameWords "java/lang/System" "arraycopy" 5 = 7 := by decide +kernel
      rw [e5]
      show 2 * 0 + _ + _ ≤ _
      unfold xloc at hlo9
      omega)
  obtain ⟨s1, s2, s3, -⟩ := Cell.storeRun_facts cd (nI dp).toNatClampNeg (cs.stretch (nI sp).toNatClampNeg (nI n).toNatClampNeg)
  have hlt : a < H.size := (Array.getElem?_eq_some_iff.mp r1).1
  have ec : copied cs cd (nI sp) (nI dp) (nI n) = cd.storeRun dp (cs.stretch sp n) := by unfold copied; rw [b1, b2, b3]
  rw [b1, b2, b3] at s1 s2 s3
  rw [ec] at X' step
  have elen : (cs.stretch sp n).length = n := by simp [Cell.stretch]
  have hslots : ∀ j, j < xlen g a → (cd.storeRun dp (cs.stretch sp n)).slots[j]? = some (xval (xak q) c0 j) := by
    intro j hj
    rw [Cell.storeRun_get _ _ _ _ (by rw [elen, y1]; exact hdp), elen, hv j]
    by_cases hin : dp ≤ j ∧ j < dp + n
    · rw [if_pos hin, if_pos hin]
      unfold Cell.stretch
      rw [List.getElem?_map, List.getElem?_range (by omega), Option.map_some, Array.getD_eq_getD_getElem?, z4 _ (by omega)]
      rfl
    · rw [if_neg hin, if_neg hin]
      exact y4 j hj
  have ht' : (xc g a).1 = 101 + q := ht
  have f1 : ∀ j, xty c0.1 j = xak q := by
    intro j
    rw [h1, ht']
    unfold xty
    rw [if_neg (by omega), if_neg (by omega)]
    congr 1
    omega
  have f2 : ∀ j, xix (xE g) c0.1 j = j := by
    intro j
    rw [h1, ht']
    exact if_neg (by omega)
  have f3 : xcid (xE g) c0.1 = (xE g).2.1 (101 + q) := by
    rw [h1, ht']
    exact if_neg (by omega)
  have hfits : ∀ j, j < xlen g a → fits (xak q) (xval (xak q) c0 j) = true := by
    intro j hj
    rw [hv j]
    by_cases hin : dp ≤ j ∧ j < dp + n
    · rw [if_pos hin]
      exact z3 _ (by omega)
    · rw [if_neg hin]
      exact y3 j hj
  have hheap : ((T.setVm vm').setCell a (cd.storeRun dp (cs.stretch sp n))).heap = H.setIfInBounds a (cd.storeRun dp (cs.stretch sp n)) := by rw [← hT]; rfl
  obtain ⟨t, a1, b9⟩ := kk9 (H.setIfInBounds a (cd.storeRun dp (cs.stretch sp n))) _ (fun q hq => by
      obtain ⟨z, -, hz⟩ := List.mem_map.mp hq
      rw [← hz]) (Or.inr ⟨cd.storeRun dp (cs.stretch sp n), by simp [hlt], by rw [s2]; exact r2, by rw [s2]; exact r3, by rw [s2, h2]; exact r4, by rw [s1, f3]; exact r5, fun h60 => by rw [h1, ht'] at h60; omega, fun _ => ⟨by rw [s3, h3]; exact y1, by rw [h3]; exact y2, fun j hj => by rw [h3] at hj; rw [f1]; exact hfits j hj⟩, fun j hj => by rw [h3] at hj; rw [f1, f2]; exact hslots j hj⟩) (r4 ho).2 (by simp) (fun q hq => by simp [Array.getElem?_setIfInBounds, Ne.symm hq]) _ hheap X'
  exact ⟨t, step t a1, b9⟩
theorem xak_int {q : Nat} (hq : q < 5) (c : xCell) (j : Nat) : ∃ F : Int32 → Value, (∀ (c : xCell) (j : Nat), xval (xak q) c j = F (c.2.2.2.1 j)) ∧ ∀ x b, F x ≠ .ref b := by
  have h : q = 0 ∨ q = 1 ∨ q = 2 ∨ q = 3 ∨ q = 4 := by omega
  rcases h with rfl | rfl | rfl | rfl | rfl
  · exact ⟨fun x => .int x, fun _ _ => rfl, fun _ _ h => by cases h⟩
  · exact ⟨fun x => .int x, fun _ _ => rfl, fun _ _ h => by cases h⟩
  · exact ⟨fun x => .int x, fun _ _ => rfl, fun _ _ h => by cases h⟩
  · exact ⟨fun x => .int x, fun _ _ => rfl, fun _ _ h => by cases h⟩
  · exact ⟨fun x => .float x.toUInt32, fun _ _ => rfl, fun _ _ h => by cases h⟩
/-- .. of ints, bytes, chars, floats -/
theorem xw_copyI {a0 a sp dp n q idx : Nat} (hd : decode M.2.1 pc = .ok (.invokestatic idx, 3)) (hl : Cond.methodLink M.1.cls idx arraycopyName ∈ lw_all) (hq : q < 5) (ht0 : xtag g a0 = 101 + q) (ht : xtag g a = 101 + q) (ho : xown g a ≠ 0) (hs : sp + n ≤ xlen g a0) (hdp : dp + n ≤ xlen g a) (hr : (rest.map fun v => v.category).sum ≤ 8)
    (kk : XW M (d + 1) (pc + 3) l rest (xPut g a (xcI (xc g a) (va_cpy (xi g a0) (xi g a) sp dp n))) Q) : XW M (d + 1) pc l (.int (nI n) :: .int (nI dp) :: .ref a :: .int (nI sp) :: .ref a0 :: rest) g Q := by
  obtain ⟨F, hF, hN⟩ := xak_int hq (xc g a) 0
  refine xw_copyV (c0 := xcI (xc g a) (va_cpy (xi g a0) (xi g a) sp dp n)) hd hl (by omega) ht0 ht ho hs hdp hr rfl rfl rfl (fun j => ?_) (fun i b _ h => absurd ((hF _ _).symm.trans h) (hN _ _)) kk
  rw [hF, hF, hF]
  show F (va_cpy (xi g a0) (xi g a) sp dp n j) = _
  unfold va_cpy
  by_cases hin : dp ≤ j ∧ j < dp + n
  · rw [if_pos hin, if_pos hin]; rfl
  · rw [if_neg hin, if_neg hin]; rfl
/-- .. of references, between Object[] -/
theorem xw_copyR {a0 a sp dp n idx : Nat} (hd : decode M.2.1 pc = .ok (.invokestatic idx, 3)) (hl : Cond.methodLink M.1.cls idx arraycopyName ∈ lw_all) (ht0 : xtag g a0 = 108) (ht : xtag g a = 108) (ho : xown g a ≠ 0) (hs : sp + n ≤ xlen g a0) (hdp : dp + n ≤ xlen g a) (hr : (rest.map fun v => v.category).sum ≤ 8)
    (hel : ∀ i b, i < n → xr g a0 (sp + i) = some b → xcls (xtag g b) = true ∧ Cond.castable (xnm (xtag g b)) "java/lang/Object" ∈ lw_tbl)
    (kk : XW M (d + 1) (pc + 3) l rest (xPut g a (xcR (xc g a) (va_cpy (xr g a0) (xr g a) sp dp n))) Q) : XW M (d + 1) pc l (.int (nI n) :: .int (nI dp) :: .ref a :: .int (nI sp) :: .ref a0 :: rest) g Q := by
  have hF : ∀ (c : xCell) (j : Nat), xval (xak 7) c j = xref (c.2.2.2.2.1 j) := fun _ _ => rfl
  refine xw_copyV (c0 := xcR (xc g a) (va_cpy (xr g a0) (xr g a) sp dp n)) (q := 7) hd hl (by omega) ht0 ht ho hs hdp hr rfl rfl rfl (fun j => ?_) (fun i b hi h => ⟨rfl, hel i b hi ?_⟩) kk
  · rw [hF, hF, hF]
    show xref (va_cpy (xr g a0) (xr g a) sp dp n j) = _
    unfold va_cpy
    by_cases hin : dp ≤ j ∧ j < dp + n
    · rw [if_pos hin, if_pos hin]; rfl
    · rw [if_neg hin, if_neg hin]; rfl
  · rw [hF] at h
    show (xc g a0).2.2.2.2.1 (sp + i) = some b
    cases hx : (xc g a0).2.2.2.2.1 (sp + i) with
    | none => rw [hx] at h; cases h
    | some y => rw [hx] at h; cases h; rfl
/-- the reference's arrays: p0's into p1's -/
def mcpy (S : xMS) (p0 p1 sp dp n : Nat) : xMS := fun p => if p = p1 then va_cpy (S p0) (S p1) sp dp n else S p
theorem xm_copy {m : Nat} {S : xMS} {p0 p1 j0 j1 q n0 n1 sp dp n idx : Nat} (hM : xMod g m) (hd : decode M.2.1 pc = .ok (.invokestatic idx, 3)) (hl : Cond.methodLink M.1.cls idx arraycopyName ∈ lw_all) (hp0 : xmA p0 = some (j0, q, n0)) (hp1 : xmA p1 = some (j1, q, n1)) (hq : q < 5) (hs : sp + n ≤ n0) (hdp : dp + n ≤ n1) (hr : (rest.map fun v => v.category).sum ≤ 8)
    (kk : XW M (d + 1) (pc + 3) l rest (xWith g m (mcpy S p0 p1 sp dp n)) Q) : XW M (d + 1) pc l (.int (nI n) :: .int (nI dp) :: .ref (m + p1) :: .int (nI sp) :: .ref (m + p0) :: rest) (xWith g m S) Q := by
  have l0 := xmp_lt hp0
  have l1 := xmp_lt hp1
  have t0 := xmp_tag hM hp0
  have t1 := xmp_tag hM hp1
  refine xw_copyI hd hl hq (by rw [xtag_with]; exact (hM.2.2 _ _ hp0).2.1) (by rw [xtag_with]; exact (hM.2.2 _ _ hp1).2.1) (by rw [xown_with]; exact (hM.2.2 _ _ hp1).2.2.1) (by rw [xlen_with, (hM.2.2 _ _ hp0).2.2.2]; exact hs) (by rw [xlen_with, (hM.2.2 _ _ hp1).2.2.2]; exact hdp) hr ?_
  have e0 : xi (xWith g m S) (m + p0) = S p0 := funext fun j => xi_with l0 t0
  have e1 : xi (xWith g m S) (m + p1) = S p1 := funext fun j => xi_with l1 t1
  have e : xPut (xWith g m S) (m + p1) (xcI (xc (xWith g m S) (m + p1)) (va_cpy (xi (xWith g m S) (m + p0)) (xi (xWith g m S) (m + p1)) sp dp n)) = xWith g m (mcpy S p0 p1 sp dp n) := by
    rw [e0, e1, xc_with l1 (xlt t1)]
    unfold xPut
    refine congrArg (fun f => (g.1, g.2.1, g.2.2.1, f)) (funext fun a => ?_)
    by_cases ha : a = m + p1
    · subst ha
      rw [if_pos rfl, if_pos ⟨by omega, by omega⟩, Nat.add_sub_cancel_left]
      unfold mcpy
      rw [if_pos rfl]
      rfl
    · rw [if_neg ha]
      show (if m ≤ a ∧ a < m + 14 then _ else _) = _
      by_cases k : m ≤ a ∧ a < m + 14
      · rw [if_pos k, if_pos k]
        unfold mcpy
        rw [if_neg (fun q => ha (by omega))]
      · rw [if_neg k, if_neg k]
  rw [e]
  exact kk
end X11
