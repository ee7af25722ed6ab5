/-! CORE 13: more kinds of calls -/
set_option maxRecDepth 100000
section X13
variable {M : xM} {d pc : Nat} {l : List (Nat × Value)} {rest : List Value} {g : xG} {Q : Option Value ⊕ Nat → xG → Prop}
theorem x_back {M' : xM} {n mc ms : Nat} {R : Room} {s : State} {args : Array Value} (hM : xMok M' n) (hh : M'.2.2.2.2 = []) (hloc : M'.2.2.1 ≤ 40) (hts : ∀ w ∈ lw_all, w.before args s = true) (hf : d + 1 ≤ R.frames) (hlo : xloc (d + 1) ≤ R.locals) :
    (mc = mc ∧ ms = ms ∧ d + 1 ≤ R.frames ∧ 8 + (M'.2.2.1 + 11) + xloc d ≤ R.locals ∧ (∀ w ∈ xws M', ∀ (a' : Array Value) (U : State), s.WarmedH U.vm → w.before a' U = true) ∧ Cond.code M'.1 M'.2.1 M'.2.2.1 M'.2.2.2.1 ∈ xws M') ∧ (Cond.code M'.1 M'.2.1 M'.2.2.1 M'.2.2.2.1).before args s = true ∧ (Cond.initialized M'.1.cls).before args s = true := by
  obtain ⟨y, cc, nL, ret, hh9⟩ := M'
  have h9 : hh9 = [] := hh
  subst h9
  obtain ⟨hd, hG, hini⟩ := hM
  have e1 : xloc (d + 1) = xloc d + 64 := by unfold xloc; omega
  have hc : Cond.code y cc nL ret ∈ xws (y, cc, nL, ret, []) := List.mem_cons_self
  exact ⟨⟨rfl, rfl, hf, by have : nL ≤ 40 := hloc; show 8 + (nL + 11) + xloc d ≤ R.locals; omega, pay_in hts hG, hc⟩, hts _ (hG _ hc).1, hts _ hini⟩
/-- what a class declares -/
def xDecl (x : MethodName) : Prop := Cond.declares x ∈ lw_tbl ∨ ∃ b m r, Cond.instanceMethod x ∈ lw_all ∧ Cond.code x b m r ∈ lw_all
/-- invokevirtual, of x; the receiver's class C selects M' -/
theorem xr_U {M' : xM} {x : MethodName} {n idx b : Nat} {owner : String} {as st0 : List Value} (hM : xMok M' n) (hh : M'.2.2.2.2 = []) (hloc : M'.2.2.1 ≤ 40) (hl : Cond.methodLink M.1.cls idx x ∈ lw_all) (hsm : Cond.sameMethod x.cls owner x.name x.desc ∈ lw_all) (hde : xDecl ⟨owner, x.name, x.desc⟩) (hmh : owner ≠ "java/lang/invoke/MethodHandle" ∧ owner ≠ "java/lang/invoke/VarHandle" ∧ (parseMethodDescriptor x.desc).map (fun d => d.parameters.length) = some n)
    (hi : Cond.instanceMethod M'.1 ∈ lw_all) (ht : xcls (xtag g b) = true) (hse : Cond.selects (xnm (xtag g b)) x M'.1 ∈ lw_all) (hd : decode M.2.1 pc = .ok (.invokevirtual idx, 3)) (hn : as.length = n) (hst : as.reverse ++ .ref b :: rest = st0) (hr : (rest.map fun v => v.category).sum ≤ 8) : xRun M M' d pc g st0 rest (.ref b :: as) := by
  intro p L e R s m args below meth c H locs cells slots ls mc ms Pc Qc XC free C hR hz hf hlo hc1 hc2 blind hP hMet
  subst hst
  have hts := C.2.2.2.2.2.1
  have hK := C.2.2.2.2.2.2.2.2.2.2.1
  have hrc := x_any hK hR ht
  obtain ⟨q1, q2, q3⟩ := x_back (mc := mc) (ms := ms) hM hh hloc hts hf hlo
  have hdec : va_Decl s ⟨owner, x.name, x.desc⟩ := by
    rcases hde with h | ⟨b9, m9, r9, h1, h2⟩
    · exact va_Decl.abs (hK.2.2.2.1 _ h (Or.inr (Or.inr (Or.inr (Or.inl ⟨_, rfl⟩)))))
    · exact va_Decl.of (hts _ h1) (hts _ h2)
  refine vx_runU (C := xnm (xtag g b)) (owner := owner) (x := x) (b := b) (As := as) ⟨C.1, C.2.1, C.2.2.2.1, C.2.2.2.2.1, hts⟩ hMet ⟨q1, q2, q3, ⟨hmh.1, hmh.2.1⟩, fun sig h => ?_, hts _ hl, hts _ hsm, hdec, hts _ hse, hts _ hi⟩ ⟨blind, hrc, hP⟩ rfl hn hz rfl (x_cat hr m ls _) hd ⟨hc1, hc2⟩
  have h2 := hmh.2.2
  rw [h] at h2
  exact (Option.some.inj h2).symm
theorem x_selP {y : MethodName} {s : State} {args : Array Value} {C : String} {n : Nat} (hy : y.cls ≠ "java/lang/invoke/MethodHandle" ∧ y.cls ≠ "java/lang/invoke/VarHandle")
    (hins : (Cond.instantiable C n).before args s = true) (hpriv : (Cond.privateMethod y).before args s = true) (hinst : (Cond.instanceMethod y).before args s = true) (hsm : (Cond.sameMethod y.cls y.cls y.name y.desc).before args s = true) :
    (Cond.selects C y y).before args s = true := by
  obtain ⟨c, k, hc, hk, -, hniab, -, -⟩ := Cond.instantiable_spec hins
  obtain ⟨cn, ck, r1, hcn, hck, hni, hf, hn1⟩ := Cond.sameMethod_found hsm
  obtain ⟨mk, methM, hnamed, hmethM, -, -⟩ := Cond.instanceMethod_spec hinst
  have hfound : s.methodFound? y.cls y.name y.desc = some mk := State.methodFound?_of_named hnamed hy
  have hcls : mk.cls = cn := Option.some.inj ((findClass_of_methodNamed hnamed).symm.trans hcn)
  have hsel : selectMethod {} s.vm c mk = .method mk := selectMethod_private hmethM (Cond.privateMethod_at hpriv mk methM hnamed hmethM)
  simp only [Cond.before, Cond.holds, Cond.value, hc, hfound, hnamed, hsel, hcls, hck]
  simp; exact hni
/-- invokevirtual of a private method of the object's superclass -/
theorem xr_UP {M' : xM} {n idx b k : Nat} {as st0 : List Value} (hM : xMok M' n) (hh : M'.2.2.2.2 = []) (hloc : M'.2.2.1 ≤ 40) (hl : Cond.methodLink M.1.cls idx M'.1 ∈ lw_all) (hsm : Cond.sameMethod M'.1.cls M'.1.cls M'.1.name M'.1.desc ∈ lw_all) (hc : Cond.code M'.1 M'.2.1 M'.2.2.1 M'.2.2.2.1 ∈ lw_all)
    (hi : Cond.instanceMethod M'.1 ∈ lw_all) (ht : xcls (xtag g b) = true) (hins : Cond.instantiable (xnm (xtag g b)) k ∈ lw_all) (hpr : Cond.privateMethod M'.1 ∈ lw_tbl) (hd : decode M.2.1 pc = .ok (.invokevirtual idx, 3)) (hn : as.length = n) (hst : as.reverse ++ .ref b :: rest = st0) (hr : (rest.map fun v => v.category).sum ≤ 8) : xRun M M' d pc g st0 rest (.ref b :: as) := by
  intro p L e R s m args below meth c H locs cells slots ls mc ms Pc Qc XC free C hR hz hf hlo hc1 hc2 blind hP hMet
  subst hst
  have hts := C.2.2.2.2.2.1
  have hK := C.2.2.2.2.2.2.2.2.2.2.1
  have hrc := x_any hK hR ht
  obtain ⟨q1, q2, q3⟩ := x_back (mc := mc) (ms := ms) hM hh hloc hts hf hlo
  have hsel := x_selP ⟨hM.1.1, hM.1.2.1⟩ (hts _ hins) (va_Nw.use (A := args) rfl (hK.2.2.2.1 _ hpr (Or.inr (Or.inr (Or.inr (Or.inr (Or.inl ⟨_, rfl⟩))))))) (hts _ hi) (hts _ hsm)
  refine vx_runU (C := xnm (xtag g b)) (owner := M'.1.cls) (x := M'.1) (b := b) (As := as) ⟨C.1, C.2.1, C.2.2.2.1, C.2.2.2.2.1, hts⟩ hMet ⟨q1, q2, q3, ⟨hM.1.1, hM.1.2.1⟩, fun sig h => ?_, hts _ hl, hts _ hsm, va_Decl.of (hts _ hi) (hts _ hc), hsel, hts _ hi⟩ ⟨blind, hrc, hP⟩ rfl hn hz rfl (x_cat hr m ls _) hd ⟨hc1, hc2⟩
  have h2 := hM.1.2.2
  rw [h] at h2
  exact (Option.some.inj h2).symm
/-- invokestatic of a nest-mate's -/
theorem xr_SN {M' : xM} {n idx : Nat} {host : String} {as st0 : List Value} (hM : xMok M' n) (hh : M'.2.2.2.2 = []) (hloc : M'.2.2.1 ≤ 40) (hl : Cond.methodLinkNest M.1.cls idx M'.1 host ∈ lw_tbl) (hs : Cond.static M'.1 ∈ lw_all) (hd : decode M.2.1 pc = .ok (.invokestatic idx, 3)) (hn : as.length = n) (hst : as.reverse ++ rest = st0) (hr : (rest.map fun v => v.category).sum ≤ 8) : xRun M M' d pc g st0 rest as := by
  intro p L e R s m args below meth c H locs cells slots ls mc ms Pc Qc XC free C hR hz hf hlo hc1 hc2 blind hP hMet
  subst hst
  have hts := C.2.2.2.2.2.1
  have hK := C.2.2.2.2.2.2.2.2.2.2.1
  obtain ⟨q1, q2, q3⟩ := x_back (mc := mc) (ms := ms) hM hh hloc hts hf hlo
  have hlk := va_Nw.use (A := args) rfl (hK.2.2.2.1 _ hl (Or.inr (Or.inl ⟨_, _, _, _, rfl⟩)))
  exact vx_runSN ⟨C.1, C.2.1, C.2.2.2.1, C.2.2.2.2.1, hts⟩ hMet ⟨⟨q1, q2, q3, ⟨hM.1.1, hM.1.2.1⟩, fun sig h => by have h2 := hM.1.2.2; rw [h] at h2; exact (Option.some.inj h2).symm, hlk⟩, hts _ hs, trivial⟩ ⟨blind, hP⟩ rfl hn hz rfl (x_cat hr m ls _) hd ⟨hc1, hc2⟩
/-- a nest-mate's constructor -/
theorem xr_IN {M' : xM} {n idx b : Nat} {host : String} {as st0 : List Value} (hM : xMok M' n) (hh : M'.2.2.2.2 = []) (hloc : M'.2.2.1 ≤ 40) (hl : Cond.methodLinkNest M.1.cls idx M'.1 host ∈ lw_tbl) (hi : Cond.instanceMethod M'.1 ∈ lw_all) (hret : M'.2.2.2.1 = none) (hnm : M'.1.name = "<init>") (hd : decode M.2.1 pc = .ok (.invokespecial idx, 3)) (hn : as.length = n) (hst : as.reverse ++ .ref b :: rest = st0) (hr : (rest.map fun v => v.category).sum ≤ 8) : xRun M M' d pc g st0 rest (.ref b :: as) := by
  intro p L e R s m args below meth c H locs cells slots ls mc ms Pc Qc XC free C hR hz hf hlo hc1 hc2 blind hP hMet
  subst hst
  have hts := C.2.2.2.2.2.1
  have hK := C.2.2.2.2.2.2.2.2.2.2.1
  obtain ⟨q1, q2, q3⟩ := x_back (mc := mc) (ms := ms) hM hh hloc hts hf hlo
  rw [hret] at q1 q2
  have hlk := va_Nw.use (A := args) rfl (hK.2.2.2.1 _ hl (Or.inr (Or.inl ⟨_, _, _, _, rfl⟩)))
  exact vx_runIN (b := b) (As := as) ⟨C.1, C.2.1, C.2.2.2.1, C.2.2.2.2.1, hts⟩ hMet ⟨⟨q1, q2, q3, ⟨hM.1.1, hM.1.2.1⟩, fun sig h => by have h2 := hM.1.2.2; rw [h] at h2; exact (Option.some.inj h2).symm, hlk⟩, hnm, hts _ hi⟩ ⟨blind, hP⟩ rfl hn hz rfl (x_cat hr m ls _) hd ⟨hc1, hc2⟩
/-- a callee with handlers: static; of the receiver's own class -/
theorem xr_SX {M' : xM} {n idx : Nat} {h9 : Nat × Nat × Nat × Nat} {t9 : List (Nat × Nat × Nat × Nat)} {as st0 : List Value} (hM : xMok M' n) (hh : M'.2.2.2.2 = h9 :: t9) (hloc : M'.2.2.1 ≤ 40) (hl : Cond.methodLink M.1.cls idx M'.1 ∈ lw_all) (hs : Cond.static M'.1 ∈ lw_all) (hd : decode M.2.1 pc = .ok (.invokestatic idx, 3)) (hn : as.length = n) (hst : as.reverse ++ rest = st0) (hr : (rest.map fun v => v.category).sum ≤ 8) : xRun M M' d pc g st0 rest as := by
  intro p L e R s m args below meth c H locs cells slots ls mc ms Pc Qc XC free C hR hz hf hlo hc1 hc2 blind hP hMet
  subst hst
  have hts := C.2.2.2.2.2.1
  obtain ⟨q1, q2, q3, q4, q5, q6⟩ := x_cbW (mc := mc) (ms := ms) hM hh hloc hts hf hlo hl
  exact vx_runSX ⟨C.1, C.2.1, C.2.2.2.1, C.2.2.2.2.1, hts⟩ hMet ⟨q1, q2, q3, q4, q5, q6, hts _ hs⟩ ⟨blind, hP⟩ rfl hn hz rfl (x_cat hr m ls _) hd ⟨hc1, hc2⟩
theorem xr_VX {M' : xM} {n idx b : Nat} {h9 : Nat × Nat × Nat × Nat} {t9 : List (Nat × Nat × Nat × Nat)} {as st0 : List Value} (hM : xMok M' n) (hh : M'.2.2.2.2 = h9 :: t9) (hloc : M'.2.2.1 ≤ 40) (hl : Cond.methodLink M.1.cls idx M'.1 ∈ lw_all) (hi : Cond.instanceMethod M'.1 ∈ lw_all) (hse : Cond.selects M'.1.cls M'.1 M'.1 ∈ lw_all) (ht : xcls (xtag g b) = true) (hnm : xnm (xtag g b) = M'.1.cls) (hd : decode M.2.1 pc = .ok (.invokevirtual idx, 3)) (hn : as.length = n) (hst : as.reverse ++ .ref b :: rest = st0) (hr : (rest.map fun v => v.category).sum ≤ 8) : xRun M M' d pc g st0 rest (.ref b :: as) := by
  intro p L e R s m args below meth c H locs cells slots ls mc ms Pc Qc XC free C hR hz hf hlo hc1 hc2 blind hP hMet
  subst hst
  have hts := C.2.2.2.2.2.1
  have hrc := x_any C.2.2.2.2.2.2.2.2.2.2.1 hR ht
  rw [hnm] at hrc
  obtain ⟨q1, q2, q3, q4, q5, q6⟩ := x_cbW (mc := mc) (ms := ms) hM hh hloc hts hf hlo hl
  exact vx_runVX (C := M'.1.cls) (b := b) (As := as) ⟨C.1, C.2.1, C.2.2.2.1, C.2.2.2.2.1, hts⟩ hMet ⟨q1, q2, q3, q4, q5, q6, hts _ hi, hts _ hse⟩ ⟨blind, hrc, hP⟩ rfl hn hz rfl (x_cat hr m ls _) hd ⟨hc1, hc2⟩
end X13
