/-! a page that is kept: its beach, that one's rows, itself -/
set_option maxRecDepth 100000
/-- of a page: where it lies, where its beach and its rows lie; what the rows hold; moats, spades, tide, since when -/
abbrev PGc : Type := (Nat × (Nat → Nat)) × (Nat → Nat → Int32) × (Nat → Int32)
def wPg (gI : Nat → ClassId) (o : Nat) (u : PGc) : va_W :=
  [(u.1.2 0, .inr (1, [.ref (u.1.2 1), .ref (u.1.2 2), .ref (u.1.2 3), .ref (u.1.2 4), .int (u.2.2 0), .int (u.2.2 1), .int (u.2.2 2)])), (u.1.2 1, .inl (gI 0, 12, .inl (u.2.1 0))), (u.1.2 2, .inl (gI 0, 12, .inl (u.2.1 1))), (u.1.2 3, .inl (gI 0, 8, .inl (u.2.1 2))), (u.1.2 4, .inl (gI 0, 8, .inl (u.2.1 3))),
   (u.1.1, .inr (9, [.ref (u.1.2 0), .int (u.2.2 3), .ref o]))]
def wNP (gI : Nat → ClassId) (o : Nat) : Option PGc → va_W
  | none => []
  | some u => wPg gI o u
def pgA (a b c d e : Nat) : Nat → Nat | 0 => a | 1 => b | 2 => c | 3 => d | _ => e
def pgR (a b c d : Nat → Int32) : Nat → Nat → Int32 | 0 => a | 1 => b | 2 => c | _ => d
def pgN (a b c d : Int32) : Nat → Int32 | 0 => a | 1 => b | 2 => c | _ => d
