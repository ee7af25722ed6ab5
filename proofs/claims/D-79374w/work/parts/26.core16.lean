/-! CORE 16: contracts that throw; checks -/
set_option maxRecDepth 100000
/-- q goes up, with the heap g1 -/
def xThr (q : Nat) (g1 : xG) (rs : Option Value ⊕ Nat) (g' : xG) : Prop := rs = .inr q ∧ g' = g1
section X16
variable {M M' : xM} {d pc : Nat} {l : List (Nat × Value)} {rest : List Value} {g g1 : xG} {Q P : Option Value ⊕ Nat → xG → Prop} {st0 as : List Value}
theorem xw_callX {q : Nat} (hrun : xRun M M' d pc g st0 rest as) (hc : XM M' d as g (xThr q g1)) (k : XX M (d + 1) pc l q g1 Q) : XW M (d + 1) pc l st0 g Q :=
  xw_call hrun hc (fun rs g2 h _ => by
    obtain ⟨rfl, rfl⟩ := h
    exact k)
/-- out of a method without handlers -/
theorem xx_out0 {q : Nat} (hh : M.2.2.2.2 = []) (h0 : 0 < xtag g q) (h28 : xtag g q < 28) (ho : xown g q ≠ 0) (hQ : Q (.inr q) g) : XX M d pc l q g Q :=
  xx_out (by rw [hh]; intro z hz; cases hz) h0 h28 ho hQ
end X16
/-- a new throwable of class tag t at the heap's end -/
def xExc (g : xG) (t : Nat) : xG := xNew g (xBlank t 9 0) 6
theorem xExc_tag {g : xG} {t : Nat} : xtag (xExc g t) (xsz g) = t := by
  show (xc (xNew g _ 6) (xsz g)).1 = t
  rw [xc_new]
  rfl
theorem xExc_own {g : xG} {t : Nat} : xown (xExc g t) (xsz g) = 9 := by
  show (xc (xNew g _ 6) (xsz g)).2.1 = 9
  rw [xc_new]
  rfl
theorem xExc_c {g : xG} {t a : Nat} (h : a < xsz g) : xc (xExc g t) a = xc g a := xc_newN (Nat.ne_of_lt h)
theorem x_oinit : Cond.code Lib.objectInit ⟨#[0xb1]⟩ 1 none ∈ lw_all := by
  have e : (⟨#[0xb1]⟩ : ByteArray) = object_method_1_code := by decide +kernel
  rw [e]
  exact q150
section X16b
variable {M : xM} {d pc : Nat} {l : List (Nat × Value)} {rest : List Value} {g : xG} {Q : Option Value ⊕ Nat → xG → Prop}
/-- Object's constructor -/
theorem xw_objInit {idx a : Nat} (hd : decode M.2.1 pc = .ok (.invokespecial idx, 3)) (hl : Cond.methodLink M.1.cls idx Lib.objectInit ∈ lw_all) (hr : (rest.map fun v => v.category).sum ≤ 8) (k : XW M (d + 1) (pc + 3) l rest g Q) : XW M (d + 1) pc l (.ref a :: rest) g Q :=
  xw_read (fun p L e R s m args below meth c H locs cells slots Qf ls C hR hS hl9 hlo hf kk => by
    have hts := C.2.2.2.2.2.1
    exact W.objInit C.1 C.2.1 C.2.2.2.2.1 (hts _ hl) (hts _ q149) (hts _ x_oinit) rfl (by rw [C.2.2.2.1]; exact hl9.1) rfl hd (by omega) (by show 2 * 0 + _ + 12 ≤ _; unfold xloc at hlo; omega) kk) k
end X16b
