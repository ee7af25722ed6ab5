/-! CORE 26: lambdas made, lambdas called -/
set_option maxRecDepth 100000
theorem x_arr3 {α : Type} {xs : Array Nat} {f : Nat → Nat → Nat → Option α} {r : α} (h : Lambda.shapeOf?.match_15 (fun _ => Option α) xs f (fun _ => none) = some r) : ∃ a0 a1 a2, f a0 a1 a2 = some r := by
  rcases xs with ⟨L⟩
  rcases L with _ | ⟨a, _ | ⟨b, _ | ⟨c, _ | ⟨d, L⟩⟩⟩⟩
  · cases h
  · cases h
  · cases h
  · exact ⟨a, b, c, h⟩
  · cases h
theorem x_m19 {α : Type} {x : Option CpInfo} {f : Nat → Nat → Option α} {r : α} (h : Lambda.shapeOf?.match_19 (fun _ => Option α) x f (fun _ => none) = some r) : ∃ b nt, x = some (.invokeDynamic b nt) ∧ f b nt = some r := by
  split at h
  · exact ⟨_, _, rfl, h⟩
  · exact nomatch h
theorem x_m17 {α : Type} {x : Option CpInfo} {f : Nat → Option α} {r : α} (h : Lambda.shapeOf?.match_17 (fun _ => Option α) x f (fun _ => none) = some r) : ∃ y, f y = some r := by
  split at h
  · exact ⟨_, h⟩
  · exact nomatch h
theorem x_m9 {α : Type} {x : Option CpInfo} {f : Nat → Option α} {r : α} (h : Lambda.shapeOf?.match_9 (fun _ => Option α) x f (fun _ => none) = some r) : ∃ y, f y = some r := by
  split at h
  · exact ⟨_, h⟩
  · exact nomatch h
theorem x_m12 {α : Type} {x : Option CpInfo} {f : Nat → Nat → Option α} {r : α} (h : Lambda.shapeOf?.match_12 (fun _ => Option α) x f (fun _ => none) = some r) : ∃ y z, f y z = some r := by
  split at h
  · exact ⟨_, _, h⟩
  · exact nomatch h
theorem x_m6 {α : Type} {x : Option FieldType} {f : String → Option α} {r : α} (h : Lambda.shapeOf?.match_6 (fun _ => Option α) x f (fun _ => none) = some r) : ∃ y, f y = some r := by
  split at h
  · exact ⟨_, h⟩
  · exact nomatch h
theorem x_shape {cf : ClassFile} {ix : Nat} {σ : Lambda.Shape} (h : Lambda.shapeOf? cf ix = some σ) : ∃ (b nt : Nat) (desc : String) (site : MethodDescriptor), cf.constantPool[ix]? = some (.invokeDynamic b nt) ∧ cf.constantPool.nameAndType? nt = some (σ.name, desc) ∧ parseMethodDescriptor desc = some site ∧ site.parameters = σ.captured := by
  have nx : ∀ {α β : Type} {o : Option α} {f : α → Option β} {r : β}, (o >>= f) = some r → ∃ a, o = some a ∧ f a = some r := fun h => Option.bind_eq_some_iff.mp h
  unfold Lambda.shapeOf? at h
  obtain ⟨b, nt, hc, h⟩ := x_m19 h
  obtain ⟨_, -, h⟩ := nx h
  obtain ⟨_, -, h⟩ := nx h
  obtain ⟨_, h⟩ := x_m17 h
  obtain ⟨_, -, h⟩ := nx h
  obtain ⟨_, _, _, h⟩ := x_arr3 h
  obtain ⟨_, h⟩ := x_m9 h
  obtain ⟨_, _, h⟩ := x_m12 h
  obtain ⟨_, h⟩ := x_m9 h
  obtain ⟨⟨name, desc⟩, hnt, h⟩ := nx h
  obtain ⟨site, hsite, h⟩ := nx h
  obtain ⟨_, h⟩ := x_m6 h
  obtain ⟨⟨_, _, _, _⟩, -, h⟩ := nx h
  obtain ⟨_, -, h⟩ := nx h
  obtain ⟨_, -, h⟩ := nx h
  obtain ⟨_, -, h⟩ := nx h
  obtain ⟨_, -, h⟩ := nx h
  obtain ⟨_, -, h⟩ := nx h
  cases h
  exact ⟨b, nt, desc, site, hc, hnt, hsite, rfl⟩
/-- a lambda's row: what it has caught -/
def xLm (t o n : Nat) (f : Nat → Int32) (r : Nat → Option Nat) : xCell := (t, o, n, f, r, fun _ => 0)
/-- what is known of the class of a site's objects -/
def xMadeT (own : String) (sh : Lambda.Shape) (T : Array FieldType) : Prop := ∀ (vm : Vm) (d c : ClassId) (dk : Class), vm.classes[d]? = some dk → dk.name = own → Lambda.isMade { classPath := fun _ => none } vm d sh c = true →
  (∀ o ok, vm.findClass "java/lang/Object" = some o → vm.classes[o]? = some ok → ok.instanceTypes.size = 0) → ∃ k, vm.classes[c]? = some k ∧ k.instanceTypes = T
theorem x_obj0 {s : State} {args : Array Value} (h : (Cond.instantiable "java/lang/Object" 0).before args s = true) : ∀ o ok, s.vm.findClass "java/lang/Object" = some o → s.vm.classes[o]? = some ok → ok.instanceTypes.size = 0 := fun o ok h1 h2 => by
  obtain ⟨c1, k1, q1, q2, -, -, -, q6⟩ := Cond.instantiable_spec h
  cases q1.symm.trans h1
  cases q2.symm.trans h2
  exact q6
section X26
variable {M M' : xM} {d pc : Nat} {l : List (Nat × Value)} {rest : List Value} {g : xG} {Q P : Option Value ⊕ Nat → xG → Prop} {st0 as : List Value}
theorem xw_makeL {pc' n : Nat} {c0 : xCell} {st st' : List Value}
    (h : ∀ (p : Program) (L : Launch) (e : Env) (R : Room) (s : State) (m : MethodId) (args : Array Value) (below : List Frame) (meth : Method) (c : Code) (H : Heap) (locs : List Loc) (cells slots : Nat) (Qf : State → Prop) (ls : Array Slot), xC M p L s m args meth c (xE g) → xR g H → lv_has ls M.2.2.1 l → xloc d ≤ R.locals → cells + 1 ≤ R.cells → slots + n ≤ R.slots →
      (∀ H' : Heap, xAt (xE g) H.size c0 H' → H'.size = H.size + 1 → (∀ q : Nat, q < H.size → H'[q]? = H[q]?) → W p L e R s m args below meth c H' locs (cells + 1) (slots + n) Qf (F0 m pc' ls st')) → W p L e R s m args below meth c H locs cells slots Qf (F0 m pc ls st))
    (k : XW M d pc' l st' (xNew g c0 n) Q) : XW M d pc l st g Q := by
  obtain ⟨rs, g', hQ, hm, hr⟩ := k
  have hz : xsz (xNew g c0 n) = xsz g + 1 := rfl
  have hy : xsl (xNew g c0 n) = xsl g + n := rfl
  refine ⟨rs, g', hQ, ⟨hm.1, by have := hm.2.1; omega, by have := hm.2.2; omega⟩, ?_⟩
  intro p L e R s m args below meth c z0 H locs ls S
  obtain ⟨C, h1, h2, h3, h4, h5, h6, hR, hS, hl⟩ := S
  have hz1 : xsz g - s.heap.size + 1 = xsz (xNew g c0 n) - s.heap.size := by omega
  have hz2 : xsl g - z0 + n = xsl (xNew g c0 n) - z0 := by omega
  have z1 := hm.2.1
  have z2 := hm.2.2
  refine h p L e R s m args below meth c H locs _ _ _ ls C hR hl h4 (by omega) (by omega) (fun H' e1 e3 e4 => ?_)
  rw [hz1, hz2]
  refine hr p L e R s m args below meth c z0 H' _ ls ⟨C, by omega, by omega, h3, h4, h5, h6, ⟨by rw [e3, hR.1]; exact hz.symm, by rw [e3]; exact Nat.le_succ_of_le hR.2.1, fun q hq => ?_, fun b => ?_⟩, ⟨by rw [e3]; exact Nat.le_succ_of_le hS.1, fun q q1 q2 => (e4 q (Nat.lt_of_lt_of_le q1 hS.1)).trans (hS.2.1 q q1 q2), hS.2.2⟩, hl⟩
  · rw [e4 q (Nat.lt_of_lt_of_le hq hR.2.1)]
    exact hR.2.2.1 q hq
  · by_cases hb : b = H.size
    · subst hb
      rw [hR.1, xc_new]
      rw [hR.1] at e1
      exact e1
    · rw [xc_newN (by rw [← hR.1]; exact hb)]
      rcases hR.2.2.2 b with h0 | ⟨cell, q1, q2⟩
      · exact Or.inl h0
      · have hb1 : b < H.size := (Array.getElem?_eq_some_iff.mp q1).1
        exact Or.inr ⟨cell, by rw [e4 b hb1]; exact q1, q2⟩
/-- invokedynamic: a lambda that has caught something -/
theorem xw_lamM {ix t n : Nat} {sh : Lambda.Shape} {c0 : xCell} {cs : List Value} {T : Array FieldType} (hq : (M.1, pc, ix, sh, t) ∈ xsites) (ht : 60 < t ∧ t < 100 ∧ ¬ (t = 76 ∨ t = 77)) (hT : xMadeT M.1.cls sh T) (hd : decode M.2.1 pc = .ok (.invokedynamic ix, 5))
    (h1 : c0.1 = t) (h2 : c0.2.1 ≠ 0) (h3 : c0.2.2.1 = n) (hcap : sh.captured.length = n) (hn : cs.length = n) (hz : ((T.toList.zip cs).map fun (t, v) => narrow t v) = cs) (hf : ∀ (i : Nat) v, cs[i]? = some v → ∃ ty, T[i]? = some ty ∧ fits ty v = true)
    (hv : ∀ j, j < n → cs[j]? = some (xval (xlty t j) c0 j)) {st : List Value} (hst : cs.reverse ++ rest = st) (hr : (st.map fun v => v.category).sum ≤ 8)
    (kk : XW M d (pc + 5) l (.ref (xsz g) :: rest) (xNew g c0 n) Q) : XW M d pc l st g Q := by
  refine xw_makeL (fun p L e R s m args below meth c H locs cells slots Qf ls C hR hl hlo hc1 hc2 kk9 => ?_) kk
  have hts := C.2.2.2.2.2.1
  have hK := C.2.2.2.2.2.2.2.2.2.2.1
  obtain ⟨m', k, cf, i0, p0, hm', hk, hcf, hsh, hfind, hmade, hcall⟩ := hK.2.2.2.2.2.2.2.2.2.2.1.1 _ hq
  cases C.2.2.2.2.2.2.2.1.2.symm.trans hm'
  have hlk : xlk (xE g) t = .makes ((xE g).2.1 t) := if_neg ht.2.2
  dsimp only at hfind hmade
  rw [hlk] at hfind
  obtain ⟨k', hk', hkn⟩ := className_of_methodNamed C.2.2.2.2.2.2.2.1.2
  cases hk.symm.trans hk'
  obtain ⟨kK, hkK, htyK⟩ := hT _ _ _ _ hk hkn hmade (x_obj0 (hts _ q2847))
  have hkind : kK.kind = .ordinary := by
    obtain ⟨-, kk2, -, -, -, -, -, -, -, -, -, -, -, -, h9, -, -, -, -, -, -, -, -, -, -, -, ⟨-, h10, -⟩, -⟩ := Lambda.isMade_spec hmade
    cases hkK.symm.trans h9
    exact h10
  obtain ⟨bsm, nt, desc, site, hc, hnt, hsite, hpar⟩ := x_shape hsh
  subst hst
  intro T₀ hT₀ X
  have hzz : ((kK.instanceTypes.toList.zip cs).map fun (t, v) => narrow t v) = cs := by rw [htyK]; exact hz
  obtain ⟨X₁, st1⟩ := X.lambdaMakes C.1 (g := F0 m pc ls (cs.reverse ++ rest)) rfl (by rw [C.2.2.2.1]; exact hl.1) (by rw [C.2.1]; exact hd) (vals := cs) (rest := rest) hk hfind hcf hc hnt (parseLong_of_parse hsite) (by rw [hpar, hcap, hn]) rfl hkK
    (by rw [X.admits.platform]; show 2 * 0 + ((cs.reverse ++ rest).map fun v => v.category).sum + 3072 ≤ R.locals; unfold xloc at hlo; omega) hc1 (by rw [hzz, hn]; exact hc2)
    (fun i v hi => by
      rw [hzz] at hi
      obtain ⟨ty, a1, a2⟩ := hf i v (by simpa using hi)
      simp [State.fitsSlot, State.slotType?, hkK, hkind, htyK, a1, a2])
  rw [hzz] at X₁ st1
  have e1 : cs.toArray.size = n := by simpa using hn
  rw [e1] at X₁
  have hh : (T₀.pushCell { cls := (xE g).2.1 t, slots := cs.toArray, vm := .none }).heap[H.size]? = some { cls := (xE g).2.1 t, slots := cs.toArray, vm := .none } := by rw [← hT₀]; exact State.heap_pushCell_size _ _
  obtain ⟨t2, a1, b1⟩ := kk9 _ (Or.inr ⟨_, hh, fun h => (by cases h), rfl, fun _ => ⟨rfl, hR.2.1⟩, by rw [h1]; exact (if_neg (by omega)).symm, fun h => absurd h (by rw [h1]; omega), fun h => absurd h (by rw [h1]; omega), fun j hj => by
      rw [h3] at hj
      have e2 : xix (xE g) c0.1 j = j := by rw [h1]; exact if_neg (by omega)
      have e3 : xty c0.1 j = xlty t j := by rw [h1]; unfold xty; rw [if_neg (by omega), if_pos (by omega)]
      rw [e2, e3]
      simpa using hv j hj⟩) (by rw [← hT₀]; exact State.heap_size_pushCell _ _) (fun q hq9 => by rw [← hT₀] at hq9 ⊢; exact State.heap_pushCell_of_lt _ _ hq9) _ rfl X₁
  refine ⟨t2, st1 t2 ?_, b1⟩
  rw [hT₀, hR.1]
  exact a1
/-- .. that has caught nothing: the one object -/
theorem xw_lamC {ix t : Nat} {sh : Lambda.Shape} (hq : (M.1, pc, ix, sh, t) ∈ xsites) (ht : t = 76 ∨ t = 77) (hd : decode M.2.1 pc = .ok (.invokedynamic ix, 5)) (hr : (rest.map fun v => v.category).sum ≤ 8)
    (kk : XW M d (pc + 5) l (.ref ((xE g).2.2.1 t) :: rest) g Q) : XW M d pc l rest g Q := by
  refine xw_readC (fun p L e R s m args below meth c H locs cells slots Qf ls C hR hS hl hlo hf hc hs kk9 => ?_) kk
  have hK := C.2.2.2.2.2.2.2.2.2.2.1
  obtain ⟨m', k, cf, i0, p0, hm', hk, hcf, hsh, hfind, hmade, hcall⟩ := hK.2.2.2.2.2.2.2.2.2.2.1.1 _ hq
  cases C.2.2.2.2.2.2.2.1.2.symm.trans hm'
  have hlk : xlk (xE g) t = .constant ((xE g).2.2.1 t) := if_pos ht
  dsimp only at hfind
  rw [hlk] at hfind
  intro T hT X
  obtain ⟨t2, a1, b1⟩ := kk9 T hT X
  exact ⟨t2, X.lambdaConstant C.1 (g := F0 m pc ls rest) rfl (by rw [C.2.2.2.1]; exact hl.1) (by rw [C.2.1]; exact hd) hk hfind (by rw [X.admits.platform]; show 2 * 0 + (rest.map fun v => v.category).sum + 3072 ≤ R.locals; unfold xloc at hlo; omega) a1, b1⟩
/-- the call of a lambda: two frames -/
def xRunL (M M' : xM) (rt : FieldType) (d pc : Nat) (g : xG) (st0 rest as : List Value) : Prop := ∀ (p : Program) (L : Launch) (e : Env) (R : Room) (s : State) (m : MethodId) (args : Array Value) (below : List Frame) (meth : Method) (c : Code) (H : Heap) (locs : List Loc) (cells slots : Nat) (ls : Array Slot) (mc ms : Nat) (Pc : Array Value → State → Prop) (Qc : Array Value → State → Outcome → State → Prop) (XC : String → Addr → State → State → Prop) (free : Addr → Prop),
  xC M p L s m args meth c (xE g) → xR g H → ls.size = M.2.2.1 → d + 2 ≤ R.frames → xloc (d + 2) ≤ R.locals → cells + mc ≤ R.cells → slots + ms ≤ R.slots → FrameBlind Pc → (∀ U : State, U.heap = H → s.WarmedH U.vm → Pc as.toArray U) →
  (∀ E q st t, ¬ XC E q st t) → (∀ b st v t, Qc b st (.returned v) t → ∃ w : Int32, v = some (.int w) ∧ narrow rt (.int w) = .int w) →
  vx_Met L M'.1 (xws M') { frames := d, cells := mc, slots := ms, locals := xloc d } Pc Qc XC mc ms free → vx_Run5 p L e R s m args below meth c H locs cells slots mc ms (F0 m pc ls st0) rest (Qc as.toArray) XC free
theorem xw_callLam {rt : FieldType} (hrun : xRunL M M' rt d pc g st0 rest as) (hc : XM M' d as g P) (kk : ∀ rs g1, P rs g1 → xMono g g1 → ∃ w : Int32, rs = .inl (some (.int w)) ∧ narrow rt (.int w) = .int w ∧ XW M (d + 2) (pc + 5) l (.int w :: rest) g1 Q) : XW M (d + 2) pc l st0 g Q := by
  obtain ⟨rs1, g1, hP, hm1, hmet⟩ := hc
  obtain ⟨w, rfl, hnw, k'⟩ := kk rs1 g1 hP hm1
  have blind : FrameBlind (va_Pc as (fun U => xR g U.heap ∧ xK (xE g) U)) := fun a U g9 mk h => ⟨h.1, h.2.1, xK.moved (State.WarmedH.refl U) h.2.2⟩
  obtain ⟨rs, g', hQ, hm2, hr2⟩ := k'
  refine ⟨rs, g', hQ, hm1.tr hm2, ?_⟩
  intro p L e R s m args below meth c z0 H locs ls S
  obtain ⟨C, h1, h2, h3, h4, h5, h6, hR, hS, hl⟩ := S
  have a1 := hm1.2.1
  have a2 := hm2.2.1
  have a3 := hm1.2.2
  have a4 := hm2.2.2
  have run := hrun p L e R s m args below meth c H locs (xsz g - s.heap.size) (xsl g - z0) ls _ _ _ _ _ _ C hR hl.1 h3 h4 (by omega) (by omega) blind (fun U hU hW => ⟨rfl, by rw [hU]; exact hR, C.2.2.2.2.2.2.2.2.2.2.1.moved hW⟩) (fun E q st t h => by cases h.1) (fun b st v t h => by
    obtain ⟨v', hv, ho, -⟩ := h
    cases hv
    cases ho
    exact ⟨w, rfl, hnw⟩) (hmet L C.2.2.2.2.2.2.2.2.2.1)
  intro T hT X
  rcases run T hT X with ⟨v', st₀, t, T', L', h0, X', hL, e1, e2, ⟨v'', hv, ho, hR1⟩, st⟩ | ⟨q, st₀, t, T', L', E, ce, h0, X', hL, e1, e2, ⟨hv, -⟩, -⟩
  · cases hv
    cases ho
    rw [← e1] at hR1
    have hz : s.heap.size ≤ T'.heap.size := by rw [hR1.1]; omega
    have e3 : xsz g - s.heap.size + (xsz g1 - xsz g) = xsz g1 - s.heap.size := by omega
    have e4 : xsl g - z0 + (xsl g1 - xsl g) = xsl g1 - z0 := by omega
    rw [e3, e4] at X'
    have w9 := hr2 p L e R s m args below meth c z0 T'.heap (locs ++ L') ls ⟨by rw [hm1.1]; exact C, by omega, by omega, h3, h4, h5, h6, hR1, by rw [hm1.1]; exact x_under hm1.1 C.2.2.2.2.2.2.2.2.2.2.2.1 C.2.2.2.2.2.2.2.2.2.2.2.2 hz hR1 hS.2.2 hL, hl⟩
    rw [hm1.1] at w9
    obtain ⟨t2, b1, b2⟩ := w9 T' rfl X'
    exact ⟨t2, st t2 b1, b2⟩
  · cases hv
end X26

section X26b
variable {M : xM} {d pc : Nat} {l : List (Nat × Value)} {rest : List Value} {g : xG} {Q : Option Value ⊕ Nat → xG → Prop}
theorem lI71 : lL71.2.1 = (#[.object "PolicyNotation"] : Array FieldType) := by decide +kernel
theorem lT71 : xMadeT "PolicyNotation" sg71 #[.object "PolicyNotation"] := fun vm d c dk h1 h2 h3 h4 => by
  obtain ⟨k, tk, file, methk, ck, tc, t9, -, hk, -, -, -, -, -, -, -, -, -, -, -, -, -, -, -, -, hi, -⟩ := lF71 h1 h2 h3 h4
  exact ⟨k, hk, hi.trans lI71⟩
theorem xw_lam71 {ix : Nat} {v0 : Nat} (o : Nat) (ho : o ≠ 0) (hq : (M.1, pc, ix, sg71, 71) ∈ xsites) (hcl : M.1.cls = "PolicyNotation") (hd : decode M.2.1 pc = .ok (.invokedynamic ix, 5)) (hr : (rest.map fun v => v.category).sum ≤ 6)
    (kk : XW M d (pc + 5) l (.ref (xsz g) :: rest) (xNew g (xLm 71 o 1 (fun _ => 0) (fun _ => some v0)) 1) Q) : XW M d pc l (.ref v0 :: rest) g Q :=
  xw_lamM (t := 71) (n := 1) (cs := [.ref v0]) (rest := rest) (T := #[.object "PolicyNotation"]) hq ⟨by decide, by decide, by decide⟩ (by rw [hcl]; exact lT71) hd rfl ho rfl rfl rfl rfl (fun i v h => by
    match i, h with
    | 0, h => cases h; exact ⟨_, rfl, rfl⟩
    | _ + 1, h => cases h) (fun j hj => by
    match j, hj with
    | 0, _ => rfl
    | _ + 1, hj => exact absurd hj (by omega)) rfl (by show 1 + (rest.map fun v => v.category).sum ≤ 8; omega) kk
theorem lV71 {s : State} {args : Array Value} {d cK : ClassId} {dk : Class} (hts : ∀ w ∈ lw_all, w.before args s = true) (hd : s.vm.classes[d]? = some dk) (hdn : dk.name = "PolicyNotation") (hmade : Lambda.isMade { classPath := fun _ => none } s.vm d sg71 cK = true) : ∀ vm₁ : Vm, s.WarmedH vm₁ → vz_F vm₁ cK lC71 .int := by
  intro vm₁ hW
  have hal := hW.alike
  obtain ⟨dk₁, hdk₁, hed⟩ := hal.2.2 _ _ hd
  have hO : ∀ o ok, vm₁.findClass "java/lang/Object" = some o → vm₁.classes[o]? = some ok → ok.instanceTypes.size = 0 := fun o ok h1 h2 => by
    obtain ⟨c1, k1, q1, q2, -, -, -, q6⟩ := Cond.instantiable_spec (hts _ q2847)
    rw [hal.findClass] at h1
    cases q1.symm.trans h1
    obtain ⟨k2, q3, q4⟩ := hal.2.2 _ _ q2
    cases q3.symm.trans h2
    rw [q4]; exact q6
  obtain ⟨k, tk, file, methk, ck, tc, t9, -, hk, hkn, -, -, hmk, hck, hbytes, hml, hlk, hfl, hret, -⟩ := lF71 hdk₁ (by rw [hed]; exact hdn) (Lambda.isMade_warmer hW hmade) hO
  exact ⟨k, methk, ck, hk, by rw [hkn]; decide +kernel, hmk, hck, hbytes, hml, hlk, hfl, hret⟩
theorem xr_L71 {idx count b br : Nat} {cv0 : Nat} (h0 : xr g b 0 = some cv0) (htx : xtag g cv0 = 1) (hl : Cond.methodLink M.1.cls idx ⟨"PolicyNotation$Told", "of", "(LPolicyNotation$Work;)I"⟩ ∈ lw_all) (ht : xtag g b = 71) (ho : xown g b ≠ 0) (hle : 1 ≤ xlen g b) (hd : decode M.2.1 pc = .ok (.invokeinterface idx count, 5)) (hr : (rest.map fun v => v.category).sum ≤ 8) : xRunL M M_X1_chained .int d pc g (.ref br :: .ref b :: rest) rest [.ref cv0, .ref br] := by
  intro p L e R s m args below meth c H locs cells slots ls mc ms Pc Qc XC free C hR hz hf hlo hc1 hc2 blind hP hXC hQn hMet
  have hts := C.2.2.2.2.2.1
  have hK := C.2.2.2.2.2.2.2.2.2.2.1
  rcases hR.2.2.2 b with h9 | ⟨cell, k1, -, k2, k3, k4, -, -, k5⟩
  · exact absurd (show xtag g b = 0 from h9) (by rw [ht]; decide)
  have w3 : cell.vm = .none := (k3 ho).1
  have ht' : (xc g b).1 = 71 := ht
  rw [ht'] at k4 k5
  have k4 : cell.cls = (xE g).2.1 71 := k4
  have s0 : cell.slots[0]? = some (.ref cv0) := by
    have := k5 0 (Nat.lt_of_lt_of_le (by decide) hle)
    rw [show xval (xty 71 0) (xc g b) 0 = .ref cv0 from congrArg xref h0] at this
    exact this
  obtain ⟨cellB, z1, z2, z3⟩ := x_any hK hR (show xcls (xtag g cv0) = true by rw [htx]; rfl)
  rw [htx] at z3
  obtain ⟨x9, p9, i9, hin⟩ := sg71_in
  obtain ⟨m', k, cf, i0, p0, hm', hk, hcf, hsh, hfind, hmade, hcall⟩ := hK.2.2.2.2.2.2.2.2.2.2.1.1 _ hin
  dsimp only at hmade hcall hm'
  have hxn : x9.cls = "PolicyNotation" := by
    have h8 : ∀ q ∈ xsites, q.2.2.2.2 = 71 → q.1.cls = "PolicyNotation" := by decide +kernel
    exact h8 _ hin rfl
  obtain ⟨k', hk', hkn⟩ := className_of_methodNamed hm'
  cases hk.symm.trans hk'
  rw [hxn] at hkn
  rw [← k4] at hmade hcall
  have e1 : xloc (d + 2) = xloc d + 128 := by unfold xloc; omega
  have hG := ok_X1_chained.2.1
  have hws := pay_in hts hG
  obtain ⟨t9, hy⟩ := Cond.code_named (hts _ (hG _ List.mem_cons_self).1)
  exact vz_lam (p := p) (l := L) (e := e) C.1 C.2.2.2.2.1 (hts _ hl) (va_Nw.use (A := args) rfl (hK.2.2.2.1 _ q897 (Or.inr (Or.inr (Or.inr (Or.inl ⟨_, rfl⟩)))))) (va_Nw.use (A := args) rfl (hK.2.2.2.1 _ q896 (Or.inr (Or.inr (Or.inr (Or.inr (Or.inr ⟨_, _, _, ⟨by decide, by decide⟩, rfl⟩)))))))
    ⟨by decide, by decide⟩ (by decide +kernel) k1 w3 hmade hcall ⟨rfl, rfl, by decide +kernel⟩ (lV71 hts hk hkn hmade) hMet blind rfl rfl hws List.mem_cons_self (fun a' U hU => hws _ (xws_all ok_X1_chained.2.2) a' U hU) hy hP hXC hQn (lP71 C.1 hk hkn hmade (hts _ q2847) k1 w3 s0 hy (hts _ (ok_X1_chained.2.1 _ List.mem_cons_self).1) (hts _ qs10) z1 z2 z3 (hts _ q866)) ld71_5 ld71_8 (by decide) (by rw [hz, C.2.2.2.1]) hr hf (by show 40 + (2 + 11) + xloc d ≤ R.locals; omega) hc1 hc2 (by rw [C.2.1]; exact hd)
theorem lI72 : lL72.2.1 = (#[.int] : Array FieldType) := by decide +kernel
theorem lT72 : xMadeT "PolicyNotation" sg72 #[.int] := fun vm d c dk h1 h2 h3 h4 => by
  obtain ⟨k, tk, file, methk, ck, tc, t9, -, hk, -, -, -, -, -, -, -, -, -, -, -, -, -, -, -, -, hi, -⟩ := lF72 h1 h2 h3 h4
  exact ⟨k, hk, hi.trans lI72⟩
theorem xw_lam72 {ix : Nat} {v0 : Int32} (o : Nat) (ho : o ≠ 0) (hq : (M.1, pc, ix, sg72, 72) ∈ xsites) (hcl : M.1.cls = "PolicyNotation") (hd : decode M.2.1 pc = .ok (.invokedynamic ix, 5)) (hr : (rest.map fun v => v.category).sum ≤ 6)
    (kk : XW M d (pc + 5) l (.ref (xsz g) :: rest) (xNew g (xLm 72 o 1 (fun _ => v0) (fun _ => none)) 1) Q) : XW M d pc l (.int v0 :: rest) g Q :=
  xw_lamM (t := 72) (n := 1) (cs := [.int v0]) (rest := rest) (T := #[.int]) hq ⟨by decide, by decide, by decide⟩ (by rw [hcl]; exact lT72) hd rfl ho rfl rfl rfl rfl (fun i v h => by
    match i, h with
    | 0, h => cases h; exact ⟨_, rfl, rfl⟩
    | _ + 1, h => cases h) (fun j hj => by
    match j, hj with
    | 0, _ => rfl
    | _ + 1, hj => exact absurd hj (by omega)) rfl (by show 1 + (rest.map fun v => v.category).sum ≤ 8; omega) kk
theorem lV72 {s : State} {args : Array Value} {d cK : ClassId} {dk : Class} (hts : ∀ w ∈ lw_all, w.before args s = true) (hd : s.vm.classes[d]? = some dk) (hdn : dk.name = "PolicyNotation") (hmade : Lambda.isMade { classPath := fun _ => none } s.vm d sg72 cK = true) : ∀ vm₁ : Vm, s.WarmedH vm₁ → vz_F vm₁ cK lC72 .boolean := by
  intro vm₁ hW
  have hal := hW.alike
  obtain ⟨dk₁, hdk₁, hed⟩ := hal.2.2 _ _ hd
  have hO : ∀ o ok, vm₁.findClass "java/lang/Object" = some o → vm₁.classes[o]? = some ok → ok.instanceTypes.size = 0 := fun o ok h1 h2 => by
    obtain ⟨c1, k1, q1, q2, -, -, -, q6⟩ := Cond.instantiable_spec (hts _ q2847)
    rw [hal.findClass] at h1
    cases q1.symm.trans h1
    obtain ⟨k2, q3, q4⟩ := hal.2.2 _ _ q2
    cases q3.symm.trans h2
    rw [q4]; exact q6
  obtain ⟨k, tk, file, methk, ck, tc, t9, -, hk, hkn, -, -, hmk, hck, hbytes, hml, hlk, hfl, hret, -⟩ := lF72 hdk₁ (by rw [hed]; exact hdn) (Lambda.isMade_warmer hW hmade) hO
  exact ⟨k, methk, ck, hk, by rw [hkn]; decide +kernel, hmk, hck, hbytes, hml, hlk, hfl, hret⟩
theorem xr_L72 {idx count b br : Nat} (hl : Cond.methodLink M.1.cls idx ⟨"PolicyNotation$Asked", "is", "(LPolicyNotation$Rule;)Z"⟩ ∈ lw_all) (ht : xtag g b = 72) (ho : xown g b ≠ 0) (hle : 1 ≤ xlen g b) (hd : decode M.2.1 pc = .ok (.invokeinterface idx count, 5)) (hr : (rest.map fun v => v.category).sum ≤ 8) : xRunL M M_X1_lambda_scopeOf_0 .boolean d pc g (.ref br :: .ref b :: rest) rest [.int (xi g b 0), .ref br] := by
  intro p L e R s m args below meth c H locs cells slots ls mc ms Pc Qc XC free C hR hz hf hlo hc1 hc2 blind hP hXC hQn hMet
  have hts := C.2.2.2.2.2.1
  have hK := C.2.2.2.2.2.2.2.2.2.2.1
  rcases hR.2.2.2 b with h9 | ⟨cell, k1, -, k2, k3, k4, -, -, k5⟩
  · exact absurd (show xtag g b = 0 from h9) (by rw [ht]; decide)
  have w3 : cell.vm = .none := (k3 ho).1
  have ht' : (xc g b).1 = 72 := ht
  rw [ht'] at k4 k5
  have k4 : cell.cls = (xE g).2.1 72 := k4
  have s0 : cell.slots[0]? = some (.int (xi g b 0)) := by
    have := k5 0 (Nat.lt_of_lt_of_le (by decide) hle)
    rw [show xval (xty 72 0) (xc g b) 0 = .int (xi g b 0) from rfl] at this
    exact this
  obtain ⟨x9, p9, i9, hin⟩ := sg72_in
  obtain ⟨m', k, cf, i0, p0, hm', hk, hcf, hsh, hfind, hmade, hcall⟩ := hK.2.2.2.2.2.2.2.2.2.2.1.1 _ hin
  dsimp only at hmade hcall hm'
  have hxn : x9.cls = "PolicyNotation" := by
    have h8 : ∀ q ∈ xsites, q.2.2.2.2 = 72 → q.1.cls = "PolicyNotation" := by decide +kernel
    exact h8 _ hin rfl
  obtain ⟨k', hk', hkn⟩ := className_of_methodNamed hm'
  cases hk.symm.trans hk'
  rw [hxn] at hkn
  rw [← k4] at hmade hcall
  have e1 : xloc (d + 2) = xloc d + 128 := by unfold xloc; omega
  have hG := ok_X1_lambda_scopeOf_0.2.1
  have hws := pay_in hts hG
  obtain ⟨t9, hy⟩ := Cond.code_named (hts _ (hG _ List.mem_cons_self).1)
  exact vz_lam (p := p) (l := L) (e := e) C.1 C.2.2.2.2.1 (hts _ hl) (va_Nw.use (A := args) rfl (hK.2.2.2.1 _ q1235 (Or.inr (Or.inr (Or.inr (Or.inl ⟨_, rfl⟩)))))) (va_Nw.use (A := args) rfl (hK.2.2.2.1 _ q1234 (Or.inr (Or.inr (Or.inr (Or.inr (Or.inr ⟨_, _, _, ⟨by decide, by decide⟩, rfl⟩)))))))
    ⟨by decide, by decide⟩ (by decide +kernel) k1 w3 hmade hcall ⟨rfl, rfl, by decide +kernel⟩ (lV72 hts hk hkn hmade) hMet blind rfl rfl hws List.mem_cons_self (fun a' U hU => hws _ (xws_all ok_X1_lambda_scopeOf_0.2.2) a' U hU) hy hP hXC hQn (lP72 C.1 hk hkn hmade (hts _ q2847) k1 w3 s0 hy (hts _ (ok_X1_lambda_scopeOf_0.2.1 _ List.mem_cons_self).1) (hts _ q1224) (hts _ ok_X1_lambda_scopeOf_0.2.2)) ld72_5 ld72_8 (by decide) (by rw [hz, C.2.2.2.1]) hr hf (by show 40 + (2 + 11) + xloc d ≤ R.locals; omega) hc1 hc2 (by rw [C.2.1]; exact hd)
theorem lI73 : lL73.2.1 = (#[.object "PolicyNotation$Asked"] : Array FieldType) := by decide +kernel
theorem lT73 : xMadeT "PolicyNotation$Policy" sg73 #[.object "PolicyNotation$Asked"] := fun vm d c dk h1 h2 h3 h4 => by
  obtain ⟨k, tk, file, methk, ck, tc, t9, -, hk, -, -, -, -, -, -, -, -, -, -, -, -, -, -, -, -, hi, -⟩ := lF73 h1 h2 h3 h4
  exact ⟨k, hk, hi.trans lI73⟩
theorem xw_lam73 {ix : Nat} {v0 : Nat} (o : Nat) (ho : o ≠ 0) (hq : (M.1, pc, ix, sg73, 73) ∈ xsites) (hcl : M.1.cls = "PolicyNotation$Policy") (hd : decode M.2.1 pc = .ok (.invokedynamic ix, 5)) (hr : (rest.map fun v => v.category).sum ≤ 6)
    (kk : XW M d (pc + 5) l (.ref (xsz g) :: rest) (xNew g (xLm 73 o 1 (fun _ => 0) (fun _ => some v0)) 1) Q) : XW M d pc l (.ref v0 :: rest) g Q :=
  xw_lamM (t := 73) (n := 1) (cs := [.ref v0]) (rest := rest) (T := #[.object "PolicyNotation$Asked"]) hq ⟨by decide, by decide, by decide⟩ (by rw [hcl]; exact lT73) hd rfl ho rfl rfl rfl rfl (fun i v h => by
    match i, h with
    | 0, h => cases h; exact ⟨_, rfl, rfl⟩
    | _ + 1, h => cases h) (fun j hj => by
    match j, hj with
    | 0, _ => rfl
    | _ + 1, hj => exact absurd hj (by omega)) rfl (by show 1 + (rest.map fun v => v.category).sum ≤ 8; omega) kk
theorem lV73 {s : State} {args : Array Value} {d cK : ClassId} {dk : Class} (hts : ∀ w ∈ lw_all, w.before args s = true) (hd : s.vm.classes[d]? = some dk) (hdn : dk.name = "PolicyNotation$Policy") (hmade : Lambda.isMade { classPath := fun _ => none } s.vm d sg73 cK = true) : ∀ vm₁ : Vm, s.WarmedH vm₁ → vz_F vm₁ cK lC73 .int := by
  intro vm₁ hW
  have hal := hW.alike
  obtain ⟨dk₁, hdk₁, hed⟩ := hal.2.2 _ _ hd
  have hO : ∀ o ok, vm₁.findClass "java/lang/Object" = some o → vm₁.classes[o]? = some ok → ok.instanceTypes.size = 0 := fun o ok h1 h2 => by
    obtain ⟨c1, k1, q1, q2, -, -, -, q6⟩ := Cond.instantiable_spec (hts _ q2847)
    rw [hal.findClass] at h1
    cases q1.symm.trans h1
    obtain ⟨k2, q3, q4⟩ := hal.2.2 _ _ q2
    cases q3.symm.trans h2
    rw [q4]; exact q6
  obtain ⟨k, tk, file, methk, ck, tc, t9, -, hk, hkn, -, -, hmk, hck, hbytes, hml, hlk, hfl, hret, -⟩ := lF73 hdk₁ (by rw [hed]; exact hdn) (Lambda.isMade_warmer hW hmade) hO
  exact ⟨k, methk, ck, hk, by rw [hkn]; decide +kernel, hmk, hck, hbytes, hml, hlk, hfl, hret⟩
theorem xr_L73 {idx count b br : Nat} {cv0 : Nat} (h0 : xr g b 0 = some cv0) (hl : Cond.methodLink M.1.cls idx ⟨"PolicyNotation$Counted", "of", "(LPolicyNotation$Rule;)I"⟩ ∈ lw_all) (ht : xtag g b = 73) (ho : xown g b ≠ 0) (hle : 1 ≤ xlen g b) (hd : decode M.2.1 pc = .ok (.invokeinterface idx count, 5)) (hr : (rest.map fun v => v.category).sum ≤ 8) : xRunL M M_X2_lambda_count_0 .int d pc g (.ref br :: .ref b :: rest) rest [.ref cv0, .ref br] := by
  intro p L e R s m args below meth c H locs cells slots ls mc ms Pc Qc XC free C hR hz hf hlo hc1 hc2 blind hP hXC hQn hMet
  have hts := C.2.2.2.2.2.1
  have hK := C.2.2.2.2.2.2.2.2.2.2.1
  rcases hR.2.2.2 b with h9 | ⟨cell, k1, -, k2, k3, k4, -, -, k5⟩
  · exact absurd (show xtag g b = 0 from h9) (by rw [ht]; decide)
  have w3 : cell.vm = .none := (k3 ho).1
  have ht' : (xc g b).1 = 73 := ht
  rw [ht'] at k4 k5
  have k4 : cell.cls = (xE g).2.1 73 := k4
  have s0 : cell.slots[0]? = some (.ref cv0) := by
    have := k5 0 (Nat.lt_of_lt_of_le (by decide) hle)
    rw [show xval (xty 73 0) (xc g b) 0 = .ref cv0 from congrArg xref h0] at this
    exact this
  obtain ⟨x9, p9, i9, hin⟩ := sg73_in
  obtain ⟨m', k, cf, i0, p0, hm', hk, hcf, hsh, hfind, hmade, hcall⟩ := hK.2.2.2.2.2.2.2.2.2.2.1.1 _ hin
  dsimp only at hmade hcall hm'
  have hxn : x9.cls = "PolicyNotation$Policy" := by
    have h8 : ∀ q ∈ xsites, q.2.2.2.2 = 73 → q.1.cls = "PolicyNotation$Policy" := by decide +kernel
    exact h8 _ hin rfl
  obtain ⟨k', hk', hkn⟩ := className_of_methodNamed hm'
  cases hk.symm.trans hk'
  rw [hxn] at hkn
  rw [← k4] at hmade hcall
  have e1 : xloc (d + 2) = xloc d + 128 := by unfold xloc; omega
  have hG := ok_X2_lambda_count_0.2.1
  have hws := pay_in hts hG
  obtain ⟨t9, hy⟩ := Cond.code_named (hts _ (hG _ List.mem_cons_self).1)
  exact vz_lam (p := p) (l := L) (e := e) C.1 C.2.2.2.2.1 (hts _ hl) (va_Nw.use (A := args) rfl (hK.2.2.2.1 _ q1243 (Or.inr (Or.inr (Or.inr (Or.inl ⟨_, rfl⟩)))))) (va_Nw.use (A := args) rfl (hK.2.2.2.1 _ q1242 (Or.inr (Or.inr (Or.inr (Or.inr (Or.inr ⟨_, _, _, ⟨by decide, by decide⟩, rfl⟩)))))))
    ⟨by decide, by decide⟩ (by decide +kernel) k1 w3 hmade hcall ⟨rfl, rfl, by decide +kernel⟩ (lV73 hts hk hkn hmade) hMet blind rfl rfl hws List.mem_cons_self (fun a' U hU => hws _ (xws_all ok_X2_lambda_count_0.2.2) a' U hU) hy hP hXC hQn (lP73 C.1 hk hkn hmade (hts _ q2847) k1 w3 s0 hy (hts _ (ok_X2_lambda_count_0.2.1 _ List.mem_cons_self).1) (hts _ q1230) (hts _ ok_X2_lambda_count_0.2.2)) ld73_5 ld73_8 (by decide) (by rw [hz, C.2.2.2.1]) hr hf (by show 40 + (2 + 11) + xloc d ≤ R.locals; omega) hc1 hc2 (by rw [C.2.1]; exact hd)
theorem lI74 : lL74.2.1 = (#[.int] : Array FieldType) := by decide +kernel
theorem lT74 : xMadeT "PolicyNotation" sg74 #[.int] := fun vm d c dk h1 h2 h3 h4 => by
  obtain ⟨k, tk, file, methk, ck, tc, t9, -, hk, -, -, -, -, -, -, -, -, -, -, -, -, -, -, -, -, hi, -⟩ := lF74 h1 h2 h3 h4
  exact ⟨k, hk, hi.trans lI74⟩
theorem xw_lam74 {ix : Nat} {v0 : Int32} (o : Nat) (ho : o ≠ 0) (hq : (M.1, pc, ix, sg74, 74) ∈ xsites) (hcl : M.1.cls = "PolicyNotation") (hd : decode M.2.1 pc = .ok (.invokedynamic ix, 5)) (hr : (rest.map fun v => v.category).sum ≤ 6)
    (kk : XW M d (pc + 5) l (.ref (xsz g) :: rest) (xNew g (xLm 74 o 1 (fun _ => v0) (fun _ => none)) 1) Q) : XW M d pc l (.int v0 :: rest) g Q :=
  xw_lamM (t := 74) (n := 1) (cs := [.int v0]) (rest := rest) (T := #[.int]) hq ⟨by decide, by decide, by decide⟩ (by rw [hcl]; exact lT74) hd rfl ho rfl rfl rfl rfl (fun i v h => by
    match i, h with
    | 0, h => cases h; exact ⟨_, rfl, rfl⟩
    | _ + 1, h => cases h) (fun j hj => by
    match j, hj with
    | 0, _ => rfl
    | _ + 1, hj => exact absurd hj (by omega)) rfl (by show 1 + (rest.map fun v => v.category).sum ≤ 8; omega) kk
theorem lV74 {s : State} {args : Array Value} {d cK : ClassId} {dk : Class} (hts : ∀ w ∈ lw_all, w.before args s = true) (hd : s.vm.classes[d]? = some dk) (hdn : dk.name = "PolicyNotation") (hmade : Lambda.isMade { classPath := fun _ => none } s.vm d sg74 cK = true) : ∀ vm₁ : Vm, s.WarmedH vm₁ → vz_F vm₁ cK lC74 .boolean := by
  intro vm₁ hW
  have hal := hW.alike
  obtain ⟨dk₁, hdk₁, hed⟩ := hal.2.2 _ _ hd
  have hO : ∀ o ok, vm₁.findClass "java/lang/Object" = some o → vm₁.classes[o]? = some ok → ok.instanceTypes.size = 0 := fun o ok h1 h2 => by
    obtain ⟨c1, k1, q1, q2, -, -, -, q6⟩ := Cond.instantiable_spec (hts _ q2847)
    rw [hal.findClass] at h1
    cases q1.symm.trans h1
    obtain ⟨k2, q3, q4⟩ := hal.2.2 _ _ q2
    cases q3.symm.trans h2
    rw [q4]; exact q6
  obtain ⟨k, tk, file, methk, ck, tc, t9, -, hk, hkn, -, -, hmk, hck, hbytes, hml, hlk, hfl, hret, -⟩ := lF74 hdk₁ (by rw [hed]; exact hdn) (Lambda.isMade_warmer hW hmade) hO
  exact ⟨k, methk, ck, hk, by rw [hkn]; decide +kernel, hmk, hck, hbytes, hml, hlk, hfl, hret⟩
theorem xr_L74 {idx count b br : Nat} (hl : Cond.methodLink M.1.cls idx ⟨"PolicyNotation$Asked", "is", "(LPolicyNotation$Rule;)Z"⟩ ∈ lw_all) (ht : xtag g b = 74) (ho : xown g b ≠ 0) (hle : 1 ≤ xlen g b) (hd : decode M.2.1 pc = .ok (.invokeinterface idx count, 5)) (hr : (rest.map fun v => v.category).sum ≤ 8) : xRunL M M_X1_lambda_ruleOf_1 .boolean d pc g (.ref br :: .ref b :: rest) rest [.int (xi g b 0), .ref br] := by
  intro p L e R s m args below meth c H locs cells slots ls mc ms Pc Qc XC free C hR hz hf hlo hc1 hc2 blind hP hXC hQn hMet
  have hts := C.2.2.2.2.2.1
  have hK := C.2.2.2.2.2.2.2.2.2.2.1
  rcases hR.2.2.2 b with h9 | ⟨cell, k1, -, k2, k3, k4, -, -, k5⟩
  · exact absurd (show xtag g b = 0 from h9) (by rw [ht]; decide)
  have w3 : cell.vm = .none := (k3 ho).1
  have ht' : (xc g b).1 = 74 := ht
  rw [ht'] at k4 k5
  have k4 : cell.cls = (xE g).2.1 74 := k4
  have s0 : cell.slots[0]? = some (.int (xi g b 0)) := by
    have := k5 0 (Nat.lt_of_lt_of_le (by decide) hle)
    rw [show xval (xty 74 0) (xc g b) 0 = .int (xi g b 0) from rfl] at this
    exact this
  obtain ⟨x9, p9, i9, hin⟩ := sg74_in
  obtain ⟨m', k, cf, i0, p0, hm', hk, hcf, hsh, hfind, hmade, hcall⟩ := hK.2.2.2.2.2.2.2.2.2.2.1.1 _ hin
  dsimp only at hmade hcall hm'
  have hxn : x9.cls = "PolicyNotation" := by
    have h8 : ∀ q ∈ xsites, q.2.2.2.2 = 74 → q.1.cls = "PolicyNotation" := by decide +kernel
    exact h8 _ hin rfl
  obtain ⟨k', hk', hkn⟩ := className_of_methodNamed hm'
  cases hk.symm.trans hk'
  rw [hxn] at hkn
  rw [← k4] at hmade hcall
  have e1 : xloc (d + 2) = xloc d + 128 := by unfold xloc; omega
  have hG := ok_X1_lambda_ruleOf_1.2.1
  have hws := pay_in hts hG
  obtain ⟨t9, hy⟩ := Cond.code_named (hts _ (hG _ List.mem_cons_self).1)
  exact vz_lam (p := p) (l := L) (e := e) C.1 C.2.2.2.2.1 (hts _ hl) (va_Nw.use (A := args) rfl (hK.2.2.2.1 _ q1235 (Or.inr (Or.inr (Or.inr (Or.inl ⟨_, rfl⟩)))))) (va_Nw.use (A := args) rfl (hK.2.2.2.1 _ q1234 (Or.inr (Or.inr (Or.inr (Or.inr (Or.inr ⟨_, _, _, ⟨by decide, by decide⟩, rfl⟩)))))))
    ⟨by decide, by decide⟩ (by decide +kernel) k1 w3 hmade hcall ⟨rfl, rfl, by decide +kernel⟩ (lV74 hts hk hkn hmade) hMet blind rfl rfl hws List.mem_cons_self (fun a' U hU => hws _ (xws_all ok_X1_lambda_ruleOf_1.2.2) a' U hU) hy hP hXC hQn (lP74 C.1 hk hkn hmade (hts _ q2847) k1 w3 s0 hy (hts _ (ok_X1_lambda_ruleOf_1.2.1 _ List.mem_cons_self).1) (hts _ q1481) (hts _ ok_X1_lambda_ruleOf_1.2.2)) ld74_5 ld74_8 (by decide) (by rw [hz, C.2.2.2.1]) hr hf (by show 40 + (2 + 11) + xloc d ≤ R.locals; omega) hc1 hc2 (by rw [C.2.1]; exact hd)
theorem lI75 : lL75.2.1 = (#[.object "PolicyNotation", .int] : Array FieldType) := by decide +kernel
theorem lT75 : xMadeT "PolicyNotation" sg75 #[.object "PolicyNotation", .int] := fun vm d c dk h1 h2 h3 h4 => by
  obtain ⟨k, tk, file, methk, ck, tc, t9, -, -, hk, -, -, -, -, -, -, -, -, -, -, -, -, -, -, -, -, hi, -⟩ := lF75 h1 h2 h3 h4
  exact ⟨k, hk, hi.trans lI75⟩
theorem xw_lam75 {ix : Nat} {v0 : Nat} {v1 : Int32} (o : Nat) (ho : o ≠ 0) (hq : (M.1, pc, ix, sg75, 75) ∈ xsites) (hcl : M.1.cls = "PolicyNotation") (hd : decode M.2.1 pc = .ok (.invokedynamic ix, 5)) (hr : (rest.map fun v => v.category).sum ≤ 6)
    (kk : XW M d (pc + 5) l (.ref (xsz g) :: rest) (xNew g (xLm 75 o 2 (fun _ => v1) (fun _ => some v0)) 2) Q) : XW M d pc l (.int v1 :: .ref v0 :: rest) g Q :=
  xw_lamM (t := 75) (n := 2) (cs := [.ref v0, .int v1]) (rest := rest) (T := #[.object "PolicyNotation", .int]) hq ⟨by decide, by decide, by decide⟩ (by rw [hcl]; exact lT75) hd rfl ho rfl rfl rfl rfl (fun i v h => by
    match i, h with
    | 0, h => cases h; exact ⟨_, rfl, rfl⟩
    | 1, h => cases h; exact ⟨_, rfl, rfl⟩
    | _ + 2, h => cases h) (fun j hj => by
    match j, hj with
    | 0, _ => rfl
    | 1, _ => rfl
    | _ + 2, hj => exact absurd hj (by omega)) rfl (by show 1 + (1 + (rest.map fun v => v.category).sum) ≤ 8; omega) kk
theorem lV75 {s : State} {args : Array Value} {d cK : ClassId} {dk : Class} (hts : ∀ w ∈ lw_all, w.before args s = true) (hd : s.vm.classes[d]? = some dk) (hdn : dk.name = "PolicyNotation") (hmade : Lambda.isMade { classPath := fun _ => none } s.vm d sg75 cK = true) : ∀ vm₁ : Vm, s.WarmedH vm₁ → vz_F vm₁ cK lC75 .int := by
  intro vm₁ hW
  have hal := hW.alike
  obtain ⟨dk₁, hdk₁, hed⟩ := hal.2.2 _ _ hd
  have hO : ∀ o ok, vm₁.findClass "java/lang/Object" = some o → vm₁.classes[o]? = some ok → ok.instanceTypes.size = 0 := fun o ok h1 h2 => by
    obtain ⟨c1, k1, q1, q2, -, -, -, q6⟩ := Cond.instantiable_spec (hts _ q2847)
    rw [hal.findClass] at h1
    cases q1.symm.trans h1
    obtain ⟨k2, q3, q4⟩ := hal.2.2 _ _ q2
    cases q3.symm.trans h2
    rw [q4]; exact q6
  obtain ⟨k, tk, file, methk, ck, tc, t9, -, -, hk, hkn, -, -, hmk, hck, hbytes, hml, hlk, hfl, hret, -⟩ := lF75 hdk₁ (by rw [hed]; exact hdn) (Lambda.isMade_warmer hW hmade) hO
  exact ⟨k, methk, ck, hk, by rw [hkn]; decide +kernel, hmk, hck, hbytes, hml, hlk, hfl, hret⟩
theorem xr_L75 {idx count b br : Nat} {cv0 : Nat} (h0 : xr g b 0 = some cv0) (htx : xtag g cv0 = 1) (hl : Cond.methodLink M.1.cls idx ⟨"PolicyNotation$Told", "of", "(LPolicyNotation$Work;)I"⟩ ∈ lw_all) (ht : xtag g b = 75) (ho : xown g b ≠ 0) (hle : 2 ≤ xlen g b) (hd : decode M.2.1 pc = .ok (.invokeinterface idx count, 5)) (hr : (rest.map fun v => v.category).sum ≤ 8) : xRunL M M_X1_lambda_without_2 .int d pc g (.ref br :: .ref b :: rest) rest [.ref cv0, .int (xi g b 1), .ref br] := by
  intro p L e R s m args below meth c H locs cells slots ls mc ms Pc Qc XC free C hR hz hf hlo hc1 hc2 blind hP hXC hQn hMet
  have hts := C.2.2.2.2.2.1
  have hK := C.2.2.2.2.2.2.2.2.2.2.1
  rcases hR.2.2.2 b with h9 | ⟨cell, k1, -, k2, k3, k4, -, -, k5⟩
  · exact absurd (show xtag g b = 0 from h9) (by rw [ht]; decide)
  have w3 : cell.vm = .none := (k3 ho).1
  have ht' : (xc g b).1 = 75 := ht
  rw [ht'] at k4 k5
  have k4 : cell.cls = (xE g).2.1 75 := k4
  have s0 : cell.slots[0]? = some (.ref cv0) := by
    have := k5 0 (Nat.lt_of_lt_of_le (by decide) hle)
    rw [show xval (xty 75 0) (xc g b) 0 = .ref cv0 from congrArg xref h0] at this
    exact this
  have s1 : cell.slots[1]? = some (.int (xi g b 1)) := by
    have := k5 1 (Nat.lt_of_lt_of_le (by decide) hle)
    rw [show xval (xty 75 1) (xc g b) 1 = .int (xi g b 1) from rfl] at this
    exact this
  obtain ⟨cellB, z1, z2, z3⟩ := x_any hK hR (show xcls (xtag g cv0) = true by rw [htx]; rfl)
  rw [htx] at z3
  obtain ⟨x9, p9, i9, hin⟩ := sg75_in
  obtain ⟨m', k, cf, i0, p0, hm', hk, hcf, hsh, hfind, hmade, hcall⟩ := hK.2.2.2.2.2.2.2.2.2.2.1.1 _ hin
  dsimp only at hmade hcall hm'
  have hxn : x9.cls = "PolicyNotation" := by
    have h8 : ∀ q ∈ xsites, q.2.2.2.2 = 75 → q.1.cls = "PolicyNotation" := by decide +kernel
    exact h8 _ hin rfl
  obtain ⟨k', hk', hkn⟩ := className_of_methodNamed hm'
  cases hk.symm.trans hk'
  rw [hxn] at hkn
  rw [← k4] at hmade hcall
  have e1 : xloc (d + 2) = xloc d + 128 := by unfold xloc; omega
  have hG := ok_X1_lambda_without_2.2.1
  have hws := pay_in hts hG
  obtain ⟨t9, hy⟩ := Cond.code_named (hts _ (hG _ List.mem_cons_self).1)
  exact vz_lam (p := p) (l := L) (e := e) C.1 C.2.2.2.2.1 (hts _ hl) (va_Nw.use (A := args) rfl (hK.2.2.2.1 _ q897 (Or.inr (Or.inr (Or.inr (Or.inl ⟨_, rfl⟩)))))) (va_Nw.use (A := args) rfl (hK.2.2.2.1 _ q896 (Or.inr (Or.inr (Or.inr (Or.inr (Or.inr ⟨_, _, _, ⟨by decide, by decide⟩, rfl⟩)))))))
    ⟨by decide, by decide⟩ (by decide +kernel) k1 w3 hmade hcall ⟨rfl, rfl, by decide +kernel⟩ (lV75 hts hk hkn hmade) hMet blind rfl rfl hws List.mem_cons_self (fun a' U hU => hws _ (xws_all ok_X1_lambda_without_2.2.2) a' U hU) hy hP hXC hQn (lP75 C.1 hk hkn hmade (hts _ q2847) k1 w3 s0 s1 hy (hts _ (ok_X1_lambda_without_2.2.1 _ List.mem_cons_self).1) (hts _ qs27) z1 z2 z3 (hts _ q1690)) ld75_9 ld75_12 (by decide) (by rw [hz, C.2.2.2.1]) hr hf (by show 40 + (3 + 11) + xloc d ≤ R.locals; omega) hc1 hc2 (by rw [C.2.1]; exact hd)
theorem lV76 {s : State} {args : Array Value} {d cK : ClassId} {dk : Class} (hts : ∀ w ∈ lw_all, w.before args s = true) (hd : s.vm.classes[d]? = some dk) (hdn : dk.name = "PolicyNotation") (hmade : Lambda.isMade { classPath := fun _ => none } s.vm d sg76 cK = true) : ∀ vm₁ : Vm, s.WarmedH vm₁ → vz_F vm₁ cK lC76 .boolean := by
  intro vm₁ hW
  have hal := hW.alike
  obtain ⟨dk₁, hdk₁, hed⟩ := hal.2.2 _ _ hd
  have hO : ∀ o ok, vm₁.findClass "java/lang/Object" = some o → vm₁.classes[o]? = some ok → ok.instanceTypes.size = 0 := fun o ok h1 h2 => by
    obtain ⟨c1, k1, q1, q2, -, -, -, q6⟩ := Cond.instantiable_spec (hts _ q2847)
    rw [hal.findClass] at h1
    cases q1.symm.trans h1
    obtain ⟨k2, q3, q4⟩ := hal.2.2 _ _ q2
    cases q3.symm.trans h2
    rw [q4]; exact q6
  obtain ⟨k, tk, file, methk, ck, tc, t9, hk, hkn, -, -, hmk, hck, hbytes, hml, hlk, hfl, hret, -⟩ := lF76 hdk₁ (by rw [hed]; exact hdn) (Lambda.isMade_warmer hW hmade) hO
  exact ⟨k, methk, ck, hk, by rw [hkn]; decide +kernel, hmk, hck, hbytes, hml, hlk, hfl, hret⟩
theorem xr_L76 {idx count br : Nat} (hl : Cond.methodLink M.1.cls idx ⟨"PolicyNotation$Asked", "is", "(LPolicyNotation$Rule;)Z"⟩ ∈ lw_all) (hd : decode M.2.1 pc = .ok (.invokeinterface idx count, 5)) (hr : (rest.map fun v => v.category).sum ≤ 8) : xRunL M M_X1_lambda_account_3 .boolean d pc g (.ref br :: .ref ((xE g).2.2.1 76) :: rest) rest [.ref br] := by
  intro p L e R s m args below meth c H locs cells slots ls mc ms Pc Qc XC free C hR hz hf hlo hc1 hc2 blind hP hXC hQn hMet
  have hts := C.2.2.2.2.2.1
  have hK := C.2.2.2.2.2.2.2.2.2.2.1
  obtain ⟨cell, w1, w2, w3⟩ := hK.2.2.2.2.2.2.2.2.2.2.1.2 76 (by decide)
  have k1 : H[(xE g).2.2.1 76]? = some cell := by
    have hb : (xE g).2.2.1 76 < (xE g).2.2.2.size := (Array.getElem?_eq_some_iff.mp w1).1
    rw [hR.2.2.1 _ hb]
    exact w1
  have k4 : cell.cls = (xE g).2.1 76 := w2
  obtain ⟨x9, p9, i9, hin⟩ := sg76_in
  obtain ⟨m', k, cf, i0, p0, hm', hk, hcf, hsh, hfind, hmade, hcall⟩ := hK.2.2.2.2.2.2.2.2.2.2.1.1 _ hin
  dsimp only at hmade hcall hm'
  have hxn : x9.cls = "PolicyNotation" := by
    have h8 : ∀ q ∈ xsites, q.2.2.2.2 = 76 → q.1.cls = "PolicyNotation" := by decide +kernel
    exact h8 _ hin rfl
  obtain ⟨k', hk', hkn⟩ := className_of_methodNamed hm'
  cases hk.symm.trans hk'
  rw [hxn] at hkn
  rw [← k4] at hmade hcall
  have e1 : xloc (d + 2) = xloc d + 128 := by unfold xloc; omega
  have hG := ok_X1_lambda_account_3.2.1
  have hws := pay_in hts hG
  obtain ⟨t9, hy⟩ := Cond.code_named (hts _ (hG _ List.mem_cons_self).1)
  exact vz_lam (p := p) (l := L) (e := e) C.1 C.2.2.2.2.1 (hts _ hl) (va_Nw.use (A := args) rfl (hK.2.2.2.1 _ q1235 (Or.inr (Or.inr (Or.inr (Or.inl ⟨_, rfl⟩)))))) (va_Nw.use (A := args) rfl (hK.2.2.2.1 _ q1234 (Or.inr (Or.inr (Or.inr (Or.inr (Or.inr ⟨_, _, _, ⟨by decide, by decide⟩, rfl⟩)))))))
    ⟨by decide, by decide⟩ (by decide +kernel) k1 w3 hmade hcall ⟨rfl, rfl, by decide +kernel⟩ (lV76 hts hk hkn hmade) hMet blind rfl rfl hws List.mem_cons_self (fun a' U hU => hws _ (xws_all ok_X1_lambda_account_3.2.2) a' U hU) hy hP hXC hQn (lP76 C.1 hk hkn hmade (hts _ q2847) k1 w3 hy (hts _ (ok_X1_lambda_account_3.2.1 _ List.mem_cons_self).1) (hts _ q2188) (hts _ ok_X1_lambda_account_3.2.2)) ld76_1 ld76_4 (by decide) (by rw [hz, C.2.2.2.1]) hr hf (by show 40 + (1 + 11) + xloc d ≤ R.locals; omega) hc1 hc2 (by rw [C.2.1]; exact hd)
theorem lV77 {s : State} {args : Array Value} {d cK : ClassId} {dk : Class} (hts : ∀ w ∈ lw_all, w.before args s = true) (hd : s.vm.classes[d]? = some dk) (hdn : dk.name = "PolicyNotation") (hmade : Lambda.isMade { classPath := fun _ => none } s.vm d sg77 cK = true) : ∀ vm₁ : Vm, s.WarmedH vm₁ → vz_F vm₁ cK lC77 .int := by
  intro vm₁ hW
  have hal := hW.alike
  obtain ⟨dk₁, hdk₁, hed⟩ := hal.2.2 _ _ hd
  have hO : ∀ o ok, vm₁.findClass "java/lang/Object" = some o → vm₁.classes[o]? = some ok → ok.instanceTypes.size = 0 := fun o ok h1 h2 => by
    obtain ⟨c1, k1, q1, q2, -, -, -, q6⟩ := Cond.instantiable_spec (hts _ q2847)
    rw [hal.findClass] at h1
    cases q1.symm.trans h1
    obtain ⟨k2, q3, q4⟩ := hal.2.2 _ _ q2
    cases q3.symm.trans h2
    rw [q4]; exact q6
  obtain ⟨k, tk, file, methk, ck, tc, t9, hk, hkn, -, -, hmk, hck, hbytes, hml, hlk, hfl, hret, -⟩ := lF77 hdk₁ (by rw [hed]; exact hdn) (Lambda.isMade_warmer hW hmade) hO
  exact ⟨k, methk, ck, hk, by rw [hkn]; decide +kernel, hmk, hck, hbytes, hml, hlk, hfl, hret⟩
theorem xr_L77 {idx count br : Nat} (hl : Cond.methodLink M.1.cls idx ⟨"PolicyNotation$Counted", "of", "(LPolicyNotation$Rule;)I"⟩ ∈ lw_all) (hd : decode M.2.1 pc = .ok (.invokeinterface idx count, 5)) (hr : (rest.map fun v => v.category).sum ≤ 8) : xRunL M M_X1_lambda_account_4 .int d pc g (.ref br :: .ref ((xE g).2.2.1 77) :: rest) rest [.ref br] := by
  intro p L e R s m args below meth c H locs cells slots ls mc ms Pc Qc XC free C hR hz hf hlo hc1 hc2 blind hP hXC hQn hMet
  have hts := C.2.2.2.2.2.1
  have hK := C.2.2.2.2.2.2.2.2.2.2.1
  obtain ⟨cell, w1, w2, w3⟩ := hK.2.2.2.2.2.2.2.2.2.2.1.2 77 (by decide)
  have k1 : H[(xE g).2.2.1 77]? = some cell := by
    have hb : (xE g).2.2.1 77 < (xE g).2.2.2.size := (Array.getElem?_eq_some_iff.mp w1).1
    rw [hR.2.2.1 _ hb]
    exact w1
  have k4 : cell.cls = (xE g).2.1 77 := w2
  obtain ⟨x9, p9, i9, hin⟩ := sg77_in
  obtain ⟨m', k, cf, i0, p0, hm', hk, hcf, hsh, hfind, hmade, hcall⟩ := hK.2.2.2.2.2.2.2.2.2.2.1.1 _ hin
  dsimp only at hmade hcall hm'
  have hxn : x9.cls = "PolicyNotation" := by
    have h8 : ∀ q ∈ xsites, q.2.2.2.2 = 77 → q.1.cls = "PolicyNotation" := by decide +kernel
    exact h8 _ hin rfl
  obtain ⟨k', hk', hkn⟩ := className_of_methodNamed hm'
  cases hk.symm.trans hk'
  rw [hxn] at hkn
  rw [← k4] at hmade hcall
  have e1 : xloc (d + 2) = xloc d + 128 := by unfold xloc; omega
  have hG := ok_X1_lambda_account_4.2.1
  have hws := pay_in hts hG
  obtain ⟨t9, hy⟩ := Cond.code_named (hts _ (hG _ List.mem_cons_self).1)
  exact vz_lam (p := p) (l := L) (e := e) C.1 C.2.2.2.2.1 (hts _ hl) (va_Nw.use (A := args) rfl (hK.2.2.2.1 _ q1243 (Or.inr (Or.inr (Or.inr (Or.inl ⟨_, rfl⟩)))))) (va_Nw.use (A := args) rfl (hK.2.2.2.1 _ q1242 (Or.inr (Or.inr (Or.inr (Or.inr (Or.inr ⟨_, _, _, ⟨by decide, by decide⟩, rfl⟩)))))))
    ⟨by decide, by decide⟩ (by decide +kernel) k1 w3 hmade hcall ⟨rfl, rfl, by decide +kernel⟩ (lV77 hts hk hkn hmade) hMet blind rfl rfl hws List.mem_cons_self (fun a' U hU => hws _ (xws_all ok_X1_lambda_account_4.2.2) a' U hU) hy hP hXC hQn (lP77 C.1 hk hkn hmade (hts _ q2847) k1 w3 hy (hts _ (ok_X1_lambda_account_4.2.1 _ List.mem_cons_self).1) (hts _ q2190) (hts _ ok_X1_lambda_account_4.2.2)) ld77_1 ld77_4 (by decide) (by rw [hz, C.2.2.2.1]) hr hf (by show 40 + (1 + 11) + xloc d ≤ R.locals; omega) hc1 hc2 (by rw [C.2.1]; exact hd)
theorem lI78 : lL78.2.1 = (#[.object "PolicyNotation"] : Array FieldType) := by decide +kernel
theorem lT78 : xMadeT "PolicyNotation" sg78 #[.object "PolicyNotation"] := fun vm d c dk h1 h2 h3 h4 => by
  obtain ⟨k, tk, file, methk, ck, tc, t9, -, hk, -, -, -, -, -, -, -, -, -, -, -, -, -, -, -, -, hi, -⟩ := lF78 h1 h2 h3 h4
  exact ⟨k, hk, hi.trans lI78⟩
theorem xw_lam78 {ix : Nat} {v0 : Nat} (o : Nat) (ho : o ≠ 0) (hq : (M.1, pc, ix, sg78, 78) ∈ xsites) (hcl : M.1.cls = "PolicyNotation") (hd : decode M.2.1 pc = .ok (.invokedynamic ix, 5)) (hr : (rest.map fun v => v.category).sum ≤ 6)
    (kk : XW M d (pc + 5) l (.ref (xsz g) :: rest) (xNew g (xLm 78 o 1 (fun _ => 0) (fun _ => some v0)) 1) Q) : XW M d pc l (.ref v0 :: rest) g Q :=
  xw_lamM (t := 78) (n := 1) (cs := [.ref v0]) (rest := rest) (T := #[.object "PolicyNotation"]) hq ⟨by decide, by decide, by decide⟩ (by rw [hcl]; exact lT78) hd rfl ho rfl rfl rfl rfl (fun i v h => by
    match i, h with
    | 0, h => cases h; exact ⟨_, rfl, rfl⟩
    | _ + 1, h => cases h) (fun j hj => by
    match j, hj with
    | 0, _ => rfl
    | _ + 1, hj => exact absurd hj (by omega)) rfl (by show 1 + (rest.map fun v => v.category).sum ≤ 8; omega) kk
theorem lV78 {s : State} {args : Array Value} {d cK : ClassId} {dk : Class} (hts : ∀ w ∈ lw_all, w.before args s = true) (hd : s.vm.classes[d]? = some dk) (hdn : dk.name = "PolicyNotation") (hmade : Lambda.isMade { classPath := fun _ => none } s.vm d sg78 cK = true) : ∀ vm₁ : Vm, s.WarmedH vm₁ → vz_F vm₁ cK lC78 .int := by
  intro vm₁ hW
  have hal := hW.alike
  obtain ⟨dk₁, hdk₁, hed⟩ := hal.2.2 _ _ hd
  have hO : ∀ o ok, vm₁.findClass "java/lang/Object" = some o → vm₁.classes[o]? = some ok → ok.instanceTypes.size = 0 := fun o ok h1 h2 => by
    obtain ⟨c1, k1, q1, q2, -, -, -, q6⟩ := Cond.instantiable_spec (hts _ q2847)
    rw [hal.findClass] at h1
    cases q1.symm.trans h1
    obtain ⟨k2, q3, q4⟩ := hal.2.2 _ _ q2
    cases q3.symm.trans h2
    rw [q4]; exact q6
  obtain ⟨k, tk, file, methk, ck, tc, t9, -, hk, hkn, -, -, hmk, hck, hbytes, hml, hlk, hfl, hret, -⟩ := lF78 hdk₁ (by rw [hed]; exact hdn) (Lambda.isMade_warmer hW hmade) hO
  exact ⟨k, methk, ck, hk, by rw [hkn]; decide +kernel, hmk, hck, hbytes, hml, hlk, hfl, hret⟩
theorem xr_L78 {idx count b br : Nat} {cv0 : Nat} (h0 : xr g b 0 = some cv0) (htx : xtag g cv0 = 1) (hl : Cond.methodLink M.1.cls idx ⟨"PolicyNotation$Told", "of", "(LPolicyNotation$Work;)I"⟩ ∈ lw_all) (ht : xtag g b = 78) (ho : xown g b ≠ 0) (hle : 1 ≤ xlen g b) (hd : decode M.2.1 pc = .ok (.invokeinterface idx count, 5)) (hr : (rest.map fun v => v.category).sum ≤ 8) : xRunL M M_X1_lambda_account_5 .int d pc g (.ref br :: .ref b :: rest) rest [.ref cv0, .ref br] := by
  intro p L e R s m args below meth c H locs cells slots ls mc ms Pc Qc XC free C hR hz hf hlo hc1 hc2 blind hP hXC hQn hMet
  have hts := C.2.2.2.2.2.1
  have hK := C.2.2.2.2.2.2.2.2.2.2.1
  rcases hR.2.2.2 b with h9 | ⟨cell, k1, -, k2, k3, k4, -, -, k5⟩
  · exact absurd (show xtag g b = 0 from h9) (by rw [ht]; decide)
  have w3 : cell.vm = .none := (k3 ho).1
  have ht' : (xc g b).1 = 78 := ht
  rw [ht'] at k4 k5
  have k4 : cell.cls = (xE g).2.1 78 := k4
  have s0 : cell.slots[0]? = some (.ref cv0) := by
    have := k5 0 (Nat.lt_of_lt_of_le (by decide) hle)
    rw [show xval (xty 78 0) (xc g b) 0 = .ref cv0 from congrArg xref h0] at this
    exact this
  obtain ⟨cellB, z1, z2, z3⟩ := x_any hK hR (show xcls (xtag g cv0) = true by rw [htx]; rfl)
  rw [htx] at z3
  obtain ⟨x9, p9, i9, hin⟩ := sg78_in
  obtain ⟨m', k, cf, i0, p0, hm', hk, hcf, hsh, hfind, hmade, hcall⟩ := hK.2.2.2.2.2.2.2.2.2.2.1.1 _ hin
  dsimp only at hmade hcall hm'
  have hxn : x9.cls = "PolicyNotation" := by
    have h8 : ∀ q ∈ xsites, q.2.2.2.2 = 78 → q.1.cls = "PolicyNotation" := by decide +kernel
    exact h8 _ hin rfl
  obtain ⟨k', hk', hkn⟩ := className_of_methodNamed hm'
  cases hk.symm.trans hk'
  rw [hxn] at hkn
  rw [← k4] at hmade hcall
  have e1 : xloc (d + 2) = xloc d + 128 := by unfold xloc; omega
  have hG := ok_X1_lambda_account_5.2.1
  have hws := pay_in hts hG
  obtain ⟨t9, hy⟩ := Cond.code_named (hts _ (hG _ List.mem_cons_self).1)
  exact vz_lam (p := p) (l := L) (e := e) C.1 C.2.2.2.2.1 (hts _ hl) (va_Nw.use (A := args) rfl (hK.2.2.2.1 _ q897 (Or.inr (Or.inr (Or.inr (Or.inl ⟨_, rfl⟩)))))) (va_Nw.use (A := args) rfl (hK.2.2.2.1 _ q896 (Or.inr (Or.inr (Or.inr (Or.inr (Or.inr ⟨_, _, _, ⟨by decide, by decide⟩, rfl⟩)))))))
    ⟨by decide, by decide⟩ (by decide +kernel) k1 w3 hmade hcall ⟨rfl, rfl, by decide +kernel⟩ (lV78 hts hk hkn hmade) hMet blind rfl rfl hws List.mem_cons_self (fun a' U hU => hws _ (xws_all ok_X1_lambda_account_5.2.2) a' U hU) hy hP hXC hQn (lP78 C.1 hk hkn hmade (hts _ q2847) k1 w3 s0 hy (hts _ (ok_X1_lambda_account_5.2.1 _ List.mem_cons_self).1) (hts _ qs45) z1 z2 z3 (hts _ q2199)) ld78_5 ld78_8 (by decide) (by rw [hz, C.2.2.2.1]) hr hf (by show 40 + (2 + 11) + xloc d ≤ R.locals; omega) hc1 hc2 (by rw [C.2.1]; exact hd)
end X26b
