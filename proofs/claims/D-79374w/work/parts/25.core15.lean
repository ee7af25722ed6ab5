/-! CORE 15: out of a method, and handlers -/
set_option maxRecDepth 100000
section X15
variable {M : xM} {d pc : Nat} {l : List (Nat × Value)} {rest : List Value} {g : xG} {Q : Option Value ⊕ Nat → xG → Prop}
def xEnt (z : Nat × Nat × Nat × Nat) : ExceptionTableEntry := ⟨z.1, z.2.1, z.2.2.1, z.2.2.2⟩
/-- the handler's row doesn't take it -/
def xNot (own : String) (pc : Nat) (E : String) (z : Nat × Nat × Nat × Nat) : Prop := covers (xEnt z) pc = false ∨ (z.2.2.2 ≠ 0 ∧ ∃ nm : String, Cond.classLink own z.2.2.2 nm ∈ lw_all ∧ (E, nm) ∈ xnc)
theorem x_not {own : String} {pc : Nat} {E : String} {hh : List (Nat × Nat × Nat × Nat)} {s : State} {args : Array Value} {En : xEnv} (h : ∀ z ∈ hh, xNot own pc E z) (hts : ∀ w ∈ lw_all, w.before args s = true) (hK : xK En s) : ∀ z ∈ tableOf hh, covers z pc = false ∨ (z.catchType ≠ 0 ∧ ∃ nm : String, (Cond.classLink own z.catchType nm).before args s = true ∧ va_Nc E nm s) := by
  intro z hz
  obtain ⟨y, hy, rfl⟩ := List.mem_map.mp hz
  rcases h y hy with h | ⟨h0, nm, h1, h2⟩
  · exact Or.inl h
  · exact Or.inr ⟨h0, nm, hts _ h1, hK.2.2.2.2.1 _ h2⟩
/-- it goes up to the caller -/
theorem xx_out {q : Nat} (hp : ∀ z ∈ M.2.2.2.2, xNot M.1.cls pc (xcn (xtag g q)) z) (h0 : 0 < xtag g q) (h28 : xtag g q < 28) (ho : xown g q ≠ 0) (hQ : Q (.inr q) g) : XX M d pc l q g Q := by
  refine ⟨.inr q, g, hQ, xMono.rf, ?_⟩
  intro p L e R s m args below meth c z0 H locs ls rest9 S
  obtain ⟨C, h1, h2, h3, h4, h5, h6, hR, hS, hl⟩ := S
  obtain ⟨hx, hb, hr9, hml, hown, hts, hlocks, hname, htab, hL, hK, hbase, hbq⟩ := C
  obtain ⟨ce, c1, c2, c3⟩ := x_exc hK hR h0 h28 ho
  exact vx_outP hown hlocks (by rw [htab]; exact x_not hp hts hK) c1 c2 c3 (fun t ht _ => ⟨rfl, by rw [ht]; exact hR, rfl, h0, by omega, ho⟩) hS.2.2 (Nat.le_refl _) (Nat.le_refl _)
/-- caught by the row x, by name -/
theorem xx_catch {q : Nat} {nm : String} (pre : List (Nat × Nat × Nat × Nat)) (x : Nat × Nat × Nat × Nat) (suf : List (Nat × Nat × Nat × Nat)) (hsplit : M.2.2.2.2 = pre ++ x :: suf) (hp : ∀ z ∈ pre, xNot M.1.cls pc (xcn (xtag g q)) z) (hx9 : covers (xEnt x) pc = true) (hx0 : x.2.2.2 ≠ 0) (hlink : Cond.classLink M.1.cls x.2.2.2 nm ∈ lw_all) (hcast : Cond.castable (xcn (xtag g q)) nm ∈ lw_tbl)
    (h0 : 0 < xtag g q) (h28 : xtag g q < 28) (ho : xown g q ≠ 0) (k : XW M d x.2.2.1 l [.ref q] g Q) : XX M d pc l q g Q := by
  obtain ⟨rs, g', hQ, hm, hr⟩ := k
  refine ⟨rs, g', hQ, hm, ?_⟩
  intro p L e R s m args below meth c z0 H locs ls rest9 S
  have kk := hr p L e R s m args below meth c z0 H locs ls S
  obtain ⟨C, h1, h2, h3, h4, h5, h6, hR, hS, hl⟩ := S
  obtain ⟨hx, hb, hr9, hml, hown, hts, hlocks, hname, htab, hL, hK, hbase, hbq⟩ := C
  obtain ⟨ce, c1, c2, c3⟩ := x_exc hK hR h0 h28 ho
  exact vx_catch hown (tableOf pre) (xEnt x) (tableOf suf) (by rw [htab, hsplit]; simp [tableOf, xEnt]) (x_not hp hts hK) hx9 hx0 (hts _ hlink) (va_Nw.use (A := args) rfl (hK.2.2.2.1 _ hcast (Or.inr (Or.inr (Or.inl ⟨_, _, rfl⟩))))) c1 c2 c3 kk
/-- .. by a row that takes all -/
theorem xx_catchAny {q : Nat} (pre : List (Nat × Nat × Nat × Nat)) (x : Nat × Nat × Nat × Nat) (suf : List (Nat × Nat × Nat × Nat)) (hsplit : M.2.2.2.2 = pre ++ x :: suf) (hp : ∀ z ∈ pre, xNot M.1.cls pc (xcn (xtag g q)) z) (hx9 : covers (xEnt x) pc = true) (hx0 : x.2.2.2 = 0)
    (h0 : 0 < xtag g q) (h28 : xtag g q < 28) (ho : xown g q ≠ 0) (k : XW M d x.2.2.1 l [.ref q] g Q) : XX M d pc l q g Q := by
  obtain ⟨rs, g', hQ, hm, hr⟩ := k
  refine ⟨rs, g', hQ, hm, ?_⟩
  intro p L e R s m args below meth c z0 H locs ls rest9 S
  have kk := hr p L e R s m args below meth c z0 H locs ls S
  obtain ⟨C, h1, h2, h3, h4, h5, h6, hR, hS, hl⟩ := S
  obtain ⟨hx, hb, hr9, hml, hown, hts, hlocks, hname, htab, hL, hK, hbase, hbq⟩ := C
  obtain ⟨ce, c1, c2, c3⟩ := x_exc hK hR h0 h28 ho
  intro T hT X
  have hpl : e.platform.magicAccessors = ({} : Platform).magicAccessors := by rw [X.admits.platform]
  obtain ⟨vm', X', st⟩ := X.thenCaughtThrough q (g := F0 m pc ls rest9) rfl (Steps.refl _) (by rw [hT]; exact c1) (by rw [c2]; rfl) (by obtain ⟨k9, h9, -⟩ := Vm.findClass_spec c3; exact ⟨k9, h9⟩) (tableOf pre) (xEnt x) (tableOf suf) (by rw [htab, hsplit]; simp [tableOf, xEnt])
    (fun z hz => by
      rcases x_not hp hts hK z hz with h | ⟨hz0, nm, hl1, hn1⟩
      · exact Or.inl h
      · obtain ⟨c6, hc6, hcl6⟩ := Cond.classLink_spec hown hl1 e.platform hpl
        obtain ⟨a8, b8, h1, h2, h3⟩ := hn1
        cases Option.some.inj (h1.symm.trans c3)
        cases Option.some.inj (h2.symm.trans hc6)
        exact Or.inr ⟨hz0, _, hcl6, h3⟩) hx9 (Or.inl hx0)
  obtain ⟨t, a1, b1⟩ := kk (T.setVm vm') hT X'
  exact ⟨t, st.trans a1, b1⟩
end X15
