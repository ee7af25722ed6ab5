/-! CORE 1: the picture of the heap: a row for every address: tag, owner, length, ints, refs, words -/
set_option maxRecDepth 100000
abbrev xCell : Type := Nat × Nat × Nat × (Nat → Int32) × (Nat → Option Nat) × (Nat → UInt64)
abbrev xEnv : Type := va_G × (Nat → ClassId) × (Nat → Nat) × Heap
abbrev xG : Type := xEnv × Nat × Nat × (Nat → xCell)
abbrev xM : Type := MethodName × ByteArray × Nat × Option FieldType × List (Nat × Nat × Nat × Nat)
def xE (g : xG) : xEnv := g.1
def xsz (g : xG) : Nat := g.2.1
def xsl (g : xG) : Nat := g.2.2.1
def xZero : xCell := (0, 0, 0, fun _ => 0, fun _ => none, fun _ => 0)
def xc (g : xG) (a : Nat) : xCell := if a < xsz g then g.2.2.2 a else xZero
def xtag (g : xG) (a : Nat) : Nat := (xc g a).1
def xown (g : xG) (a : Nat) : Nat := (xc g a).2.1
def xlen (g : xG) (a : Nat) : Nat := (xc g a).2.2.1
def xi (g : xG) (a j : Nat) : Int32 := (xc g a).2.2.2.1 j
def xr (g : xG) (a j : Nat) : Option Nat := (xc g a).2.2.2.2.1 j
def xw (g : xG) (a j : Nat) : UInt64 := (xc g a).2.2.2.2.2 j
def xref (o : Option Nat) : Value := match o with
  | none => .null
  | some a => .ref a
def xval (ty : FieldType) (c : xCell) (j : Nat) : Value := match ty with
  | .float => .float (c.2.2.2.1 j).toUInt32
  | .long => .long (c.2.2.2.2.2 j).toInt64
  | .double => .double (c.2.2.2.2.2 j)
  | .object _ => xref (c.2.2.2.2.1 j)
  | .array _ => xref (c.2.2.2.2.1 j)
  | _ => .int (c.2.2.2.1 j)
/-- the row of a with another cell -/
def xPut (g : xG) (a : Nat) (c : xCell) : xG := (g.1, g.2.1, g.2.2.1, fun b => if b = a then c else g.2.2.2 b)
def xup {α : Type} (f : Nat → α) (j : Nat) (v : α) : Nat → α := fun k => if k = j then v else f k
def xcI (c : xCell) (f : Nat → Int32) : xCell := (c.1, c.2.1, c.2.2.1, f, c.2.2.2.2.1, c.2.2.2.2.2)
def xcR (c : xCell) (f : Nat → Option Nat) : xCell := (c.1, c.2.1, c.2.2.1, c.2.2.2.1, f, c.2.2.2.2.2)
def xcW (c : xCell) (f : Nat → UInt64) : xCell := (c.1, c.2.1, c.2.2.1, c.2.2.2.1, c.2.2.2.2.1, f)
def xsetI (g : xG) (a j : Nat) (v : Int32) : xG := xPut g a (xcI (xc g a) (xup (xc g a).2.2.2.1 j v))
def xsetR (g : xG) (a j : Nat) (v : Option Nat) : xG := xPut g a (xcR (xc g a) (xup (xc g a).2.2.2.2.1 j v))
def xsetW (g : xG) (a j : Nat) (v : UInt64) : xG := xPut g a (xcW (xc g a) (xup (xc g a).2.2.2.2.2 j v))
/-- a new cell at the heap's end: tag, owner, length, slots that it costs -/
def xBlank (t o n : Nat) : xCell := (t, o, n, fun _ => 0, fun _ => none, fun _ => 0)
def xNew (g : xG) (c : xCell) (k : Nat) : xG := (g.1, g.2.1 + 1, g.2.2.1 + k, fun b => if b = g.2.1 then c else g.2.2.2 b)
/-! tags: 1..27 objects (place in xcl, plus 1); 61.. constants and lambdas; 101..114 arrays -/
abbrev xcl : List vw_C := [(RX1, TX1, 11), (RX2, TX2, 3), (RX3, TX3, 3), (RX5, TX5, 8), (RX6, TX6, 34), (RX8, TX8, 9), (RX9, TX9, 8), (RX10, TX10, 1), (RX11, TX11, 2), (RX13, TX13, 2), (RX14, TX14, 2), (RX15, TX15, 2), (RX16, TX16, 2), (RX17, TX17, 4), (RX18, TX18, 3), (RX19, TX19, 7), (RX20, TX20, 7), (RJ2, TJ2, 3), (RJ8, TJ8, 4), (RJ9, TJ9, 4), (RJ18, TJ18, 3), (RJ6, TJ6, 6), (RJ19, TJ19, 6), (RJ22, TJ22, 6), (RJ23, TJ23, 6), (RJ24, TJ24, 6), (RJ25, TJ25, 6)]
def xcty : Nat → Nat → FieldType := fun k => match k with
  | 0 => tyX1
  | 1 => tyX2
  | 2 => tyX3
  | 3 => tyX5
  | 4 => tyX6
  | 5 => tyX8
  | 6 => tyX9
  | 7 => tyX10
  | 8 => tyX11
  | 9 => tyX13
  | 10 => tyX14
  | 11 => tyX15
  | 12 => tyX16
  | 13 => tyX17
  | 14 => tyX18
  | 15 => tyX19
  | 16 => tyX20
  | 17 => tyJ2
  | 18 => tyJ8
  | 19 => tyJ9
  | 20 => tyJ18
  | 21 => tyJ6
  | 22 => tyJ19
  | 23 => tyJ22
  | 24 => tyJ23
  | 25 => tyJ24
  | _ => tyJ25
def xak : Nat → FieldType := fun k => match k with
  | 0 => .int
  | 1 => .boolean
  | 2 => .byte
  | 3 => .char
  | 4 => .float
  | 5 => .long
  | 6 => .double
  | 7 => .object "java/lang/Object"
  | 8 => .object "PolicyNotation$Test"
  | 9 => .object "PolicyNotation$Equal"
  | 10 => .object "PolicyNotation$Less"
  | 11 => .object "PolicyNotation$Greater"
  | 12 => .object "PolicyNotation$Unlike"
  | _ => .array .float
/-- what a lambda has caught -/
def xlty : Nat → Nat → FieldType := fun t j => match t with
  | 71 => .object "PolicyNotation"
  | 72 => .int
  | 73 => .object "PolicyNotation$Asked"
  | 74 => .int
  | 75 => (match j with
    | 0 => .object "PolicyNotation"
    | _ => .int)
  | _ => .object "PolicyNotation"
def xN (t : Nat) : Nat := match xcl[t - 1]? with
  | some q => q.2.2
  | none => 0
def xmin (t : Nat) : Nat := if t = 20 then 2 else if 22 ≤ t then 0 else xN t
def xcn (t : Nat) : String := match xcl[t - 1]? with
  | some q => q.1
  | none => ""
def xty (t j : Nat) : FieldType := if t < 60 then xcty (t - 1) j else if t < 100 then xlty t j else xak (t - 101)
def xcid (E : xEnv) (t : Nat) : ClassId := if t < 60 then E.1.1 (t - 1) else E.2.1 t
def xix (E : xEnv) (t j : Nat) : Nat := if t < 60 then E.1.2 (t - 1) j else j
def xF (E : xEnv) : Nat → Prop := fun q => E.2.2.2.size ≤ q
/-- the address a holds what its row says -/
def xAt (E : xEnv) (a : Nat) (c : xCell) (H : Heap) : Prop := c.1 = 0 ∨ ∃ cell : Cell, H[a]? = some cell ∧ cell.vm ≠ .unknown ∧ cell.vm.isStatics = false ∧
  (c.2.1 ≠ 0 → cell.vm = .none ∧ E.2.2.2.size ≤ a) ∧ cell.cls = xcid E c.1 ∧ (c.1 < 60 → c.2.2.1 ≤ xN c.1 ∧ xmin c.1 ≤ c.2.2.1) ∧
  (100 ≤ c.1 → cell.slots.size = c.2.2.1 ∧ c.2.2.1 < 2 ^ 31 ∧ ∀ j, j < c.2.2.1 → fits (xty c.1 j) (xval (xty c.1 j) c j) = true) ∧
  ∀ j, j < c.2.2.1 → cell.slots[xix E c.1 j]? = some (xval (xty c.1 j) c j)
def xR (g : xG) (H : Heap) : Prop := H.size = xsz g ∧ (xE g).2.2.2.size ≤ H.size ∧ (∀ q : Nat, q < (xE g).2.2.2.size → H[q]? = (xE g).2.2.2[q]?) ∧ ∀ a, xAt (xE g) a (xc g a) H
/-! what the tables say all through the run -/
/-- constants' classes -/
def xkn : List (Nat × String) := [(61, "PolicyNotation$Effect$1"), (62, "PolicyNotation$Effect$2"), (63, "PolicyNotation$Effect$3")]
/-- static fields: class, name, descriptor, value out of the env's addresses -/
def xsv (ad : Nat → Nat) : Nat → Value := fun i => match i with
  | 0 => .ref (ad 0)
  | 1 => .ref (ad 1)
  | 2 => .ref (ad 2)
  | 3 => .ref (ad 3)
  | 4 => .ref (ad 4)
  | 5 => .ref (ad 5)
  | 6 => .ref (ad 6)
  | 7 => .int 1
  | 8 => .int 1
  | 9 => .int 0
  | _ => .int 8
def xst : List (String × String × String) := [("PolicyNotation$Effect", "PERMITS", "LPolicyNotation$Effect;"), ("PolicyNotation$Effect", "FORBIDS", "LPolicyNotation$Effect;"), ("PolicyNotation$Effect", "LIMITS", "LPolicyNotation$Effect;"),
  ("java/util/ArrayList", "EMPTY_ELEMENTDATA", "[Ljava/lang/Object;"), ("java/util/ArrayList", "DEFAULTCAPACITY_EMPTY_ELEMENTDATA", "[Ljava/lang/Object;"), ("java/lang/Integer", "DigitOnes", "[B"), ("java/lang/Integer", "DigitTens", "[B"),
  ("java/lang/String", "COMPACT_STRINGS", "Z"), ("java/lang/StringUTF16", "$assertionsDisabled", "Z"), ("java/lang/StringUTF16", "HI_BYTE_SHIFT", "I"), ("java/lang/StringUTF16", "LO_BYTE_SHIFT", "I")]
/-- static references of which only 'a reference or null' is known -/
def xsq : List (String × String × String) := [("java/lang/Throwable", "UNASSIGNED_STACK", "[Ljava/lang/StackTraceElement;"), ("java/lang/Throwable", "SUPPRESSED_SENTINEL", "Ljava/util/List;"), ("jdk/internal/util/Preconditions", "SIOOBE_FORMATTER", "Ljava/util/function/BiFunction;")]
/-- String constants: by whom, entry, text; the address is ad (10 + place) -/
def xss : List (String × Nat × String) := [("PolicyNotation$Reader", 86, "=<>#"), ("PolicyNotation", 515, " but "), ("PolicyNotation", 517, ""), ("PolicyNotation", 525, "default"), ("PolicyNotation", 527, ": "),
  ("PolicyNotation$Effect$1", 7, "permits"), ("PolicyNotation$Effect$2", 7, "forbids"), ("PolicyNotation$Effect$3", 7, "limits"), ("PolicyNotationModel", 282, "pflx"), ("PolicyNotationModel", 274, "abcdef"), ("PolicyNotationModel", 280, "=<>#"),
  ("PolicyNotationModel", 324, ""), ("PolicyNotationModel", 326, " but "), ("PolicyNotationModel", 346, "default"), ("PolicyNotationModel", 348, ": permits"), ("PolicyNotationModel", 350, ": forbids"), ("PolicyNotationModel", 352, ": limits")]
/-- pairs that aren't castable -/
def xnc : List (String × String) := [("java/lang/IllegalArgumentException", "java/lang/IndexOutOfBoundsException"), ("java/lang/IllegalStateException", "java/lang/IndexOutOfBoundsException"), ("java/lang/UnsupportedOperationException", "java/lang/IndexOutOfBoundsException"),
  ("java/lang/UnsupportedOperationException", "java/lang/IllegalArgumentException"), ("java/util/NoSuchElementException", "java/lang/IndexOutOfBoundsException"), ("java/util/NoSuchElementException", "java/lang/IllegalArgumentException"),
  ("java/lang/IllegalArgumentException", "java/util/NoSuchElementException"), ("java/lang/IllegalStateException", "java/lang/IllegalArgumentException"),
  ("java/lang/IllegalArgumentException", "PolicyNotation$Wrong"), ("java/lang/UnsupportedOperationException", "PolicyNotation$Wrong"), ("java/lang/IllegalStateException", "java/util/NoSuchElementException"), ("java/util/NoSuchElementException", "java/lang/IllegalStateException"), ("java/lang/UnsupportedOperationException", "java/util/NoSuchElementException"),
  ("PolicyNotation$Less", "PolicyNotation$Equal"), ("PolicyNotation$Greater", "PolicyNotation$Equal"), ("PolicyNotation$Unlike", "PolicyNotation$Equal"), ("PolicyNotation$Greater", "PolicyNotation$Less"), ("PolicyNotation$Unlike", "PolicyNotation$Less"), ("PolicyNotation$Unlike", "PolicyNotation$Greater"), ("PolicyNotation$Equal", "PolicyNotation$Less"), ("PolicyNotation$Equal", "PolicyNotation$Greater"), ("PolicyNotation$Less", "PolicyNotation$Greater"),
  ("PolicyNotation$Equal", "PolicyNotation$Unlike"), ("PolicyNotation$Less", "PolicyNotation$Unlike"), ("PolicyNotation$Greater", "PolicyNotation$Unlike"), ("PolicyNotation$Exemption", "PolicyNotation$Main")]
theorem xlt {g : xG} {a : Nat} (h : xtag g a ≠ 0) : a < xsz g := by
  by_cases k : a < xsz g
  · exact k
  · exact absurd (show (xc g a).1 = 0 by unfold xc; rw [if_neg k]; rfl) h
theorem xc_put {g : xG} {a : Nat} {c : xCell} (h : a < xsz g) : xc (xPut g a c) a = c := by
  have e : a < xsz (xPut g a c) := h
  unfold xc
  rw [if_pos e]
  exact if_pos rfl
theorem xc_putN {g : xG} {a b : Nat} {c : xCell} (h : b ≠ a) : xc (xPut g a c) b = xc g b := by
  unfold xc
  show (if b < xsz g then _ else _) = _
  by_cases k : b < xsz g
  · rw [if_pos k, if_pos k]
    exact if_neg h
  · rw [if_neg k, if_neg k]
theorem xc_new {g : xG} {c : xCell} {n : Nat} : xc (xNew g c n) (xsz g) = c := by
  have e : xsz g < xsz (xNew g c n) := Nat.lt_succ_self _
  unfold xc
  rw [if_pos e]
  exact if_pos rfl
theorem xc_newN {g : xG} {c : xCell} {n b : Nat} (h : b ≠ xsz g) : xc (xNew g c n) b = xc g b := by
  have e : xsz (xNew g c n) = xsz g + 1 := rfl
  unfold xc
  by_cases k : b < xsz g
  · rw [if_pos k, if_pos (by omega)]
    exact if_neg h
  · rw [if_neg k, if_neg (by omega)]
