/-! predicates of the JDK's methods -/
set_option maxRecDepth 100000
def wp_J10_bitCount (v0 : Int32) (Q : Int32 → Prop) : Prop :=
  (∀ x1 : Int32, x1 = (v0 - ((v0.toUInt32 >>> ((1 : Int32).toUInt32 &&& Int32.toUInt32 31)).toInt32 &&& (1431655765 : Int32))) → (∀ x2 : Int32, x2 = ((x1 &&& (858993459 : Int32)) + ((x1.toUInt32 >>> ((2 : Int32).toUInt32 &&& Int32.toUInt32 31)).toInt32 &&& (858993459 : Int32))) → (∀ x3 : Int32, x3 = ((x2 + (x2.toUInt32 >>> ((4 : Int32).toUInt32 &&& Int32.toUInt32 31)).toInt32) &&& (252645135 : Int32)) → (∀ x4 : Int32, x4 = (x3 + (x3.toUInt32 >>> ((8 : Int32).toUInt32 &&& Int32.toUInt32 31)).toInt32) → (∀ x5 : Int32, x5 = (x4 + (x4.toUInt32 >>> ((16 : Int32).toUInt32 &&& Int32.toUInt32 31)).toInt32) → Q (x5 &&& (63 : Int32)))))))
def wp_J4_coder (si_ : Nat) (Q : Int32 → Prop) : Prop :=
  (((1 : Int32) = 0 → Q (1 : Int32)) ∧ (¬ (1 : Int32) = 0 → Q (0 : Int32)))
def wp_J4_length (si_ : Nat) (Q : Int32 → Prop) : Prop :=
  wp_J4_coder si_ (fun (x1 : Int32) => Q ((nI (sB si_).length) >>> (x1 &&& 31)))
def wp_J4_isLatin1 (si_ : Nat) (Q : Int32 → Prop) : Prop :=
  (((1 : Int32) = 0 → Q (0 : Int32)) ∧ (¬ (1 : Int32) = 0 → ((¬ (0 : Int32) = 0 → Q (0 : Int32)) ∧ ((0 : Int32) = 0 → Q (1 : Int32)))))
def wp_J6_checkIndex (v0 : Int32) (v1 : Int32) (Q : Int32 → Prop) : Prop :=
  ((v0 < 0 → False) ∧ (¬ v0 < 0 → ((v0 < v1 → Q v0) ∧ (¬ v0 < v1 → False))))
def wp_J4_checkIndex (v0 : Int32) (v1 : Int32) (Q : Prop) : Prop :=
  wp_J6_checkIndex v0 v1 (fun (x1 : Int32) => Q)
def wp_J5_charAt (si_ : Nat) (v1 : Int32) (Q : Int32 → Prop) : Prop :=
  wp_J4_checkIndex v1 (nI (sB si_).length) (vp_in v1 (sB si_).length ∧ (narrow .char (.int (((((sB si_).getD v1.toNatClampNeg 0) &&& (255 : Int32)).toUInt32 % 65536).toInt32)) = .int (((((sB si_).getD v1.toNatClampNeg 0) &&& (255 : Int32)).toUInt32 % 65536).toInt32) ∧ Q (((((sB si_).getD v1.toNatClampNeg 0) &&& (255 : Int32)).toUInt32 % 65536).toInt32)))
def wp_J4_charAt (si_ : Nat) (v1 : Int32) (Q : Int32 → Prop) : Prop :=
  wp_J4_isLatin1 si_ (fun (x1 : Int32) => ((x1 = 0 → False) ∧ (¬ x1 = 0 → wp_J5_charAt si_ v1 (fun (x2 : Int32) => (narrow .char (.int x2) = .int x2 ∧ Q x2)))))
def wp_J5_canEncode (v0 : Int32) (Q : Int32 → Prop) : Prop :=
  ((v0 < 0 → Q (0 : Int32)) ∧ (¬ v0 < 0 → (((255 : Int32) < v0 → Q (0 : Int32)) ∧ (¬ (255 : Int32) < v0 → Q (1 : Int32)))))
def wp_J5_indexOfChar_L1 (si_ : Nat) (v3 : Int32) (v4 : Int32) (K31 : Prop) (K22 : (Int32) → Prop) : Nat → (Int32) → Prop
  | 0, _ => False
  | n + 1, v5 =>
    ((v3 ≤ v5 → K31) ∧ (¬ v3 ≤ v5 → (vp_in v5 (sB si_).length ∧ ((¬ ((sB si_).getD v5.toNatClampNeg 0) = v4 → wp_J5_indexOfChar_L1 si_ v3 v4 K31 K22 n (v5 + (1 : Int32))) ∧ (((sB si_).getD v5.toNatClampNeg 0) = v4 → K22 v5)))))
def wp_J5_indexOfChar (si_ : Nat) (v1 : Int32) (v2 : Int32) (v3 : Int32) (Q : Int32 → Prop) : Prop :=
  (∃ k7, wp_J5_indexOfChar_L1 si_ v3 (v1.toInt8.toInt32) (Q (-1 : Int32)) (fun (v5_3 : Int32) => Q v5_3) k7 v2)
def wp_J5_indexOf (si_ : Nat) (v1 : Int32) (v2 : Int32) (v3 : Int32) (Q : Int32 → Prop) : Prop :=
  wp_J5_canEncode v1 (fun (x1 : Int32) => ((¬ x1 = 0 → (((mxI v2 (0 : Int32)) < (mnI v3 (nI (sB si_).length)) → wp_J5_indexOfChar si_ v1 (mxI v2 (0 : Int32)) (mnI v3 (nI (sB si_).length)) (fun (x2 : Int32) => Q x2)) ∧ (¬ (mxI v2 (0 : Int32)) < (mnI v3 (nI (sB si_).length)) → Q (-1 : Int32)))) ∧ (x1 = 0 → Q (-1 : Int32))))
def wp_J4_indexOf_2 (si_ : Nat) (v1 : Int32) (v2 : Int32) (Q : Int32 → Prop) : Prop :=
  wp_J4_isLatin1 si_ (fun (x1 : Int32) => ((x1 = 0 → False) ∧ (¬ x1 = 0 → wp_J4_length si_ (fun (x2 : Int32) => wp_J5_indexOf si_ v1 v2 x2 (fun (x3 : Int32) => Q x3)))))
def wp_J4_indexOf (si_ : Nat) (v1 : Int32) (Q : Int32 → Prop) : Prop :=
  wp_J4_indexOf_2 si_ v1 (0 : Int32) (fun (x1 : Int32) => Q x1)
