/-! a text that is gone through: predicates -/
set_option maxRecDepth 100000
/-- a text that is gone through: its bytes, size, end, place -/
def wW (gI : Nat → ClassId) (o pt : Nat) (tx : Nat → Int32) (sz en pw : Int32) : va_W := [(o, .inr (4, [.ref pt, .int sz, .int en, .int pw])), (pt, .inl (gI 3, 80, .inl tx))]
def wp_W_here (tx : Nat → Int32) (sz en pw : Int32) (Q : Int32 → Prop) : Prop :=
  ((en ≤ pw → Q (-1 : Int32)) ∧ (¬ en ≤ pw → (vp_in pw 80 ∧ Q ((tx pw.toNatClampNeg) &&& (255 : Int32)))))
def wp_W_need (v1 : Int32) (tx : Nat → Int32) (sz en pw : Int32) (Q : Prop) (E : Int32 → Prop) : Prop :=
  ((¬ v1 = 0 → Q) ∧ (v1 = 0 → E pw ))
def wp_W_needEnd (tx : Nat → Int32) (sz en pw : Int32) (Q : Prop) (E : Int32 → Prop) : Prop :=
  ((¬ pw = sz → wp_W_need (0 : Int32) tx sz en pw Q (fun (v_ : Int32) => E v_ )) ∧ (pw = sz → wp_W_need (1 : Int32) tx sz en pw Q (fun (v_ : Int32) => E v_ )))
def wp_W_passes (v1 : Int32) (tx : Nat → Int32) (sz en pw : Int32) (Q : Int32 → (Int32) → Prop) : Prop :=
  wp_W_here tx sz en pw (fun (x1 : Int32) => ((x1 = v1 → Q (1 : Int32) (pw + (1 : Int32))) ∧ (¬ x1 = v1 → Q (0 : Int32) pw)))
def wp_W_one (v1 : Int32) (v2 : Int32) (tx : Nat → Int32) (sz en pw : Int32) (Q : Int32 → (Int32) → Prop) (E : Int32 → (Int32) → Prop) : Prop :=
  wp_W_here tx sz en pw (fun (x1 : Int32) => wp_X1_in (x1.toInt64) (v1.toInt64) (((v1 + v2) - (1 : Int32)).toInt64) (fun (x2 : Int32) => wp_W_need x2 tx sz en pw (vp_in ((pw + (1 : Int32)) - (1 : Int32)) 80 ∧ Q ((tx ((pw + (1 : Int32)) - (1 : Int32)).toNatClampNeg) - v1) (pw + (1 : Int32))) (fun (v_ : Int32) => E v_ pw)))
def wp_W_number_2_L1 (v1 : Int32) (tx : Nat → Int32) (sz : Int32) (en : Int32) (Q : Int32 → (Int32) → Prop) (E : Int32 → (Int32) → Prop) (K53 : (Int32) → (Int32) → Prop) : Nat → (Int32) → (Int32) → (Int32) → Prop
  | 0, _, _, _ => False
  | n + 1, v2, v3, pw =>
    ((v1 ≤ v3 → K53 v2 pw) ∧ (¬ v1 ≤ v3 → wp_W_here tx sz en pw (fun (x4 : Int32) => wp_X1_in (x4.toInt64) (48 : Int64) (57 : Int64) (fun (x5 : Int32) => ((x5 = 0 → K53 v2 pw) ∧ (¬ x5 = 0 → wp_W_one (48 : Int32) (10 : Int32) tx sz en pw (fun (x6 : Int32) (pw7 : Int32) => wp_W_number_2_L1 v1 tx sz en Q E K53 n (((10 : Int32) * v2) + x6) (v3 + (1 : Int32)) pw7) (fun (v_ : Int32) (pw8 : Int32) => E v_ pw8)))))))
def wp_W_number_2 (v1 : Int32) (tx : Nat → Int32) (sz en pw : Int32) (Q : Int32 → (Int32) → Prop) (E : Int32 → (Int32) → Prop) : Prop :=
  wp_W_one (48 : Int32) (10 : Int32) tx sz en pw (fun (x1 : Int32) (pw2 : Int32) => (∃ k11, wp_W_number_2_L1 v1 tx sz en Q E (fun (v2_11 : Int32) (pw_12 : Int32) => Q v2_11 pw_12) k11 x1 (1 : Int32) pw2)) (fun (v_ : Int32) (pw3 : Int32) => E v_ pw3)
def wp_W_number (v1 : Int32) (v2 : Int32) (v3 : Int32) (tx : Nat → Int32) (sz en pw : Int32) (Q : Int32 → (Int32) → Prop) (E : Int32 → (Int32) → Prop) : Prop :=
  wp_W_number_2 v1 tx sz en pw (fun (x1 : Int32) (pw2 : Int32) => wp_X1_in (x1.toInt64) (v2.toInt64) (v3.toInt64) (fun (x4 : Int32) => ((¬ x4 = 0 → Q x1 pw2) ∧ (x4 = 0 → E (pw2 - (1 : Int32)) pw2)))) (fun (v_ : Int32) (pw3 : Int32) => E v_ pw3)
