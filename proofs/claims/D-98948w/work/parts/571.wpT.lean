/-! a sheet: predicates -/
set_option maxRecDepth 100000
def wp_Sb_rowOf_L1 (v1 : Int32) (v3 : Int32) (fd : Nat → Int32) (ar : Nat → Nat → Int32) (lw : Nat → Int64) (hh : HT) (rn : Option (Nat × Nat)) (K41 : (Nat → Int32) → Prop) : Nat → (Int32) → (Int32) → (Nat → Int32) → Prop
  | 0, _, _, _ => False
  | n + 1, v4, v6, sc =>
    ((v1 ≤ v6 → K41 sc) ∧ (¬ v1 ≤ v6 → (vp_in v6 v1.toNatClampNeg ∧ wp_Sb_rowOf_L1 v1 v3 fd ar lw hh rn K41 n (v4 + v3) (v6 + (1 : Int32)) (upd sc v6.toNatClampNeg (vp_nar .byte (v4.toInt8.toInt32))))))
def wp_Sb_rowOf (v0 : Int32) (v1 : Int32) (v2 : Int32) (v3 : Int32) (fd : Nat → Int32) (ar : Nat → Nat → Int32) (lw : Nat → Int64) (hh : HT) (rn : Option (Nat × Nat)) (Q : (Nat → Int32) → Prop) : Prop :=
  ((¬ v0 = 0 → False) ∧ (v0 = 0 → ((¬ v1 < 0 ∧ v1.toNatClampNeg ≤ 8) ∧ (∃ k15, wp_Sb_rowOf_L1 v1 v3 fd ar lw hh rn (fun (sc_3 : Nat → Int32) => Q sc_3) k15 v2 (0 : Int32) (fun _ => 0)))))
def wp_Sb_entry (v1 : Int32) (fd : Nat → Int32) (ar : Nat → Nat → Int32) (lw : Nat → Int64) (hh : HT) (rn : Option (Nat × Nat)) (sc : Nat → Int32) (sn : Nat) (Q : Int32 → Prop) : Prop :=
  (((1 : Int32) = 0 → False) ∧ (¬ (1 : Int32) = 0 → (vp_in v1 sn ∧ Q (sc v1.toNatClampNeg))))
def wp_Ss_rowOf_L1 (v1 : Int32) (v3 : Int32) (fd : Nat → Int32) (ar : Nat → Nat → Int32) (lw : Nat → Int64) (hh : HT) (rn : Option (Nat × Nat)) (K83 : (Nat → Int32) → Prop) : Nat → (Int32) → (Int32) → (Nat → Int32) → Prop
  | 0, _, _, _ => False
  | n + 1, v4, v6, sc =>
    ((v1 ≤ v6 → K83 sc) ∧ (¬ v1 ≤ v6 → (vp_in v6 v1.toNatClampNeg ∧ wp_Ss_rowOf_L1 v1 v3 fd ar lw hh rn K83 n (v4 + v3) (v6 + (1 : Int32)) (upd sc v6.toNatClampNeg (vp_nar .short (v4.toInt16.toInt32))))))
def wp_Ss_rowOf (v0 : Int32) (v1 : Int32) (v2 : Int32) (v3 : Int32) (fd : Nat → Int32) (ar : Nat → Nat → Int32) (lw : Nat → Int64) (hh : HT) (rn : Option (Nat × Nat)) (Q : (Nat → Int32) → Prop) : Prop :=
  ((¬ v0 = 0 → ((¬ v0 = (1 : Int32) → False) ∧ (v0 = (1 : Int32) → ((¬ v1 < 0 ∧ v1.toNatClampNeg ≤ 8) ∧ (∃ k57, wp_Ss_rowOf_L1 v1 v3 fd ar lw hh rn (fun (sc_3 : Nat → Int32) => Q sc_3) k57 v2 (0 : Int32) (fun _ => 0)))))) ∧ (v0 = 0 → False))
def wp_Ss_entry (v1 : Int32) (fd : Nat → Int32) (ar : Nat → Nat → Int32) (lw : Nat → Int64) (hh : HT) (rn : Option (Nat × Nat)) (sc : Nat → Int32) (sn : Nat) (Q : Int32 → Prop) : Prop :=
  (((0 : Int32) = 0 → (((1 : Int32) = 0 → False) ∧ (¬ (1 : Int32) = 0 → (vp_in v1 sn ∧ Q (sc v1.toNatClampNeg))))) ∧ (¬ (0 : Int32) = 0 → False))
def wp_Si_rowOf_L1 (v1 : Int32) (v3 : Int32) (fd : Nat → Int32) (ar : Nat → Nat → Int32) (lw : Nat → Int64) (hh : HT) (rn : Option (Nat × Nat)) (K119 : (Nat → Int32) → Prop) : Nat → (Int32) → (Int32) → (Nat → Int32) → Prop
  | 0, _, _, _ => False
  | n + 1, v4, v6, sc =>
    ((v1 ≤ v6 → K119 sc) ∧ (¬ v1 ≤ v6 → (vp_in v6 v1.toNatClampNeg ∧ wp_Si_rowOf_L1 v1 v3 fd ar lw hh rn K119 n (v4 + v3) (v6 + (1 : Int32)) (upd sc v6.toNatClampNeg v4))))
def wp_Si_rowOf (v0 : Int32) (v1 : Int32) (v2 : Int32) (v3 : Int32) (fd : Nat → Int32) (ar : Nat → Nat → Int32) (lw : Nat → Int64) (hh : HT) (rn : Option (Nat × Nat)) (Q : (Nat → Int32) → Prop) : Prop :=
  ((¬ v0 = 0 → ((¬ v0 = (1 : Int32) → ((¬ v1 < 0 ∧ v1.toNatClampNeg ≤ 8) ∧ (∃ k94, wp_Si_rowOf_L1 v1 v3 fd ar lw hh rn (fun (sc_3 : Nat → Int32) => Q sc_3) k94 v2 (0 : Int32) (fun _ => 0)))) ∧ (v0 = (1 : Int32) → False))) ∧ (v0 = 0 → False))
def wp_Si_entry (v1 : Int32) (fd : Nat → Int32) (ar : Nat → Nat → Int32) (lw : Nat → Int64) (hh : HT) (rn : Option (Nat × Nat)) (sc : Nat → Int32) (sn : Nat) (Q : Int32 → Prop) : Prop :=
  (((0 : Int32) = 0 → (((0 : Int32) = 0 → (vp_in v1 sn ∧ Q (sc v1.toNatClampNeg))) ∧ (¬ (0 : Int32) = 0 → False))) ∧ (¬ (0 : Int32) = 0 → False))
def wp_Sb_sheet_L2 (v2 : Int32) (fd : Nat → Int32) (lw : Nat → Int64) (hh : HT) (rn : Option (Nat × Nat)) (sc : Nat → Int32) (K123 : (Int32) → (Nat → Nat → Int32) → Prop) : Nat → (Int32) → (Int32) → (Nat → Nat → Int32) → Prop
  | 0, _, _, _ => False
  | n + 1, v6, v7, ar =>
    (((fd 10) ≤ v7 → K123 v6 ar) ∧ (¬ (fd 10) ≤ v7 → ((v7 < v2 → wp_Sb_entry v7 fd ar lw hh rn sc (v2.toNatClampNeg) (fun (x4 : Int32) => (vp_in v7 8 ∧ (vp_in v7 8 ∧ (∀ x5 : Int32, x5 = (v6 + ((upd (ar 43) v7.toNatClampNeg (mxI (0 : Int32) (mnI (9 : Int32) x4))) v7.toNatClampNeg)) → wp_Sb_sheet_L2 v2 fd lw hh rn sc K123 n x5 (v7 + (1 : Int32)) (va_up ar 43 (upd (ar 43) v7.toNatClampNeg (mxI (0 : Int32) (mnI (9 : Int32) x4))))))))) ∧ (¬ v7 < v2 → (vp_in v7 8 ∧ (vp_in v7 8 ∧ (∀ x6 : Int32, x6 = (v6 + ((upd (ar 43) v7.toNatClampNeg (0 : Int32)) v7.toNatClampNeg)) → wp_Sb_sheet_L2 v2 fd lw hh rn sc K123 n x6 (v7 + (1 : Int32)) (va_up ar 43 (upd (ar 43) v7.toNatClampNeg (0 : Int32))))))))))
def wp_Sb_sheet_J1 (v2 : Int32) (fd : Nat → Int32) (lw : Nat → Int64) (hh : HT) (rn : Option (Nat × Nat)) (sc : Nat → Int32) (Q : Int32 → (Nat → Nat → Int32) → Prop) (ar : Nat → Nat → Int32) : Prop :=
  (∃ k52, wp_Sb_sheet_L2 v2 fd lw hh rn sc (fun (v6_9 : Int32) (ar_10 : Nat → Nat → Int32) => Q v6_9 ar_10) k52 (0 : Int32) (0 : Int32) ar)
def wp_Sb_sheet (v1 : Int32) (v2 : Int32) (v3 : Int32) (v4 : Int32) (fd : Nat → Int32) (ar : Nat → Nat → Int32) (lw : Nat → Int64) (hh : HT) (rn : Option (Nat × Nat)) (Q : Int32 → (Nat → Nat → Int32) → Prop) : Prop :=
  wp_X1_in (v1.toInt64) (0 : Int64) (3 : Int64) (fun (x1 : Int32) => ((x1 = 0 → Q (-1 : Int32) ar) ∧ (¬ x1 = 0 → ((v2 ≤ (8 : Int32) → (((3 : Int32) ≤ v1 → False) ∧ (¬ (3 : Int32) ≤ v1 → wp_Sb_rowOf v1 v2 v3 v4 fd ar lw hh rn (fun (sc3 : Nat → Int32) => wp_Sb_sheet_J1 v2 fd lw hh rn sc3 Q ar)))) ∧ (¬ v2 ≤ (8 : Int32) → Q (-1 : Int32) ar)))))
def wp_Ss_sheet_L2 (v2 : Int32) (fd : Nat → Int32) (lw : Nat → Int64) (hh : HT) (rn : Option (Nat × Nat)) (sc : Nat → Int32) (K123 : (Int32) → (Nat → Nat → Int32) → Prop) : Nat → (Int32) → (Int32) → (Nat → Nat → Int32) → Prop
  | 0, _, _, _ => False
  | n + 1, v6, v7, ar =>
    (((fd 10) ≤ v7 → K123 v6 ar) ∧ (¬ (fd 10) ≤ v7 → ((v7 < v2 → wp_Ss_entry v7 fd ar lw hh rn sc (v2.toNatClampNeg) (fun (x4 : Int32) => (vp_in v7 8 ∧ (vp_in v7 8 ∧ (∀ x5 : Int32, x5 = (v6 + ((upd (ar 43) v7.toNatClampNeg (mxI (0 : Int32) (mnI (9 : Int32) x4))) v7.toNatClampNeg)) → wp_Ss_sheet_L2 v2 fd lw hh rn sc K123 n x5 (v7 + (1 : Int32)) (va_up ar 43 (upd (ar 43) v7.toNatClampNeg (mxI (0 : Int32) (mnI (9 : Int32) x4))))))))) ∧ (¬ v7 < v2 → (vp_in v7 8 ∧ (vp_in v7 8 ∧ (∀ x6 : Int32, x6 = (v6 + ((upd (ar 43) v7.toNatClampNeg (0 : Int32)) v7.toNatClampNeg)) → wp_Ss_sheet_L2 v2 fd lw hh rn sc K123 n x6 (v7 + (1 : Int32)) (va_up ar 43 (upd (ar 43) v7.toNatClampNeg (0 : Int32))))))))))
def wp_Ss_sheet_J1 (v2 : Int32) (fd : Nat → Int32) (lw : Nat → Int64) (hh : HT) (rn : Option (Nat × Nat)) (sc : Nat → Int32) (Q : Int32 → (Nat → Nat → Int32) → Prop) (ar : Nat → Nat → Int32) : Prop :=
  (∃ k52, wp_Ss_sheet_L2 v2 fd lw hh rn sc (fun (v6_9 : Int32) (ar_10 : Nat → Nat → Int32) => Q v6_9 ar_10) k52 (0 : Int32) (0 : Int32) ar)
def wp_Ss_sheet (v1 : Int32) (v2 : Int32) (v3 : Int32) (v4 : Int32) (fd : Nat → Int32) (ar : Nat → Nat → Int32) (lw : Nat → Int64) (hh : HT) (rn : Option (Nat × Nat)) (Q : Int32 → (Nat → Nat → Int32) → Prop) : Prop :=
  wp_X1_in (v1.toInt64) (0 : Int64) (3 : Int64) (fun (x1 : Int32) => ((x1 = 0 → Q (-1 : Int32) ar) ∧ (¬ x1 = 0 → ((v2 ≤ (8 : Int32) → (((3 : Int32) ≤ v1 → False) ∧ (¬ (3 : Int32) ≤ v1 → wp_Ss_rowOf v1 v2 v3 v4 fd ar lw hh rn (fun (sc3 : Nat → Int32) => wp_Ss_sheet_J1 v2 fd lw hh rn sc3 Q ar)))) ∧ (¬ v2 ≤ (8 : Int32) → Q (-1 : Int32) ar)))))
def wp_Si_sheet_L2 (v2 : Int32) (fd : Nat → Int32) (lw : Nat → Int64) (hh : HT) (rn : Option (Nat × Nat)) (sc : Nat → Int32) (K123 : (Int32) → (Nat → Nat → Int32) → Prop) : Nat → (Int32) → (Int32) → (Nat → Nat → Int32) → Prop
  | 0, _, _, _ => False
  | n + 1, v6, v7, ar =>
    (((fd 10) ≤ v7 → K123 v6 ar) ∧ (¬ (fd 10) ≤ v7 → ((v7 < v2 → wp_Si_entry v7 fd ar lw hh rn sc (v2.toNatClampNeg) (fun (x4 : Int32) => (vp_in v7 8 ∧ (vp_in v7 8 ∧ (∀ x5 : Int32, x5 = (v6 + ((upd (ar 43) v7.toNatClampNeg (mxI (0 : Int32) (mnI (9 : Int32) x4))) v7.toNatClampNeg)) → wp_Si_sheet_L2 v2 fd lw hh rn sc K123 n x5 (v7 + (1 : Int32)) (va_up ar 43 (upd (ar 43) v7.toNatClampNeg (mxI (0 : Int32) (mnI (9 : Int32) x4))))))))) ∧ (¬ v7 < v2 → (vp_in v7 8 ∧ (vp_in v7 8 ∧ (∀ x6 : Int32, x6 = (v6 + ((upd (ar 43) v7.toNatClampNeg (0 : Int32)) v7.toNatClampNeg)) → wp_Si_sheet_L2 v2 fd lw hh rn sc K123 n x6 (v7 + (1 : Int32)) (va_up ar 43 (upd (ar 43) v7.toNatClampNeg (0 : Int32))))))))))
def wp_Si_sheet_J1 (v2 : Int32) (fd : Nat → Int32) (lw : Nat → Int64) (hh : HT) (rn : Option (Nat × Nat)) (sc : Nat → Int32) (Q : Int32 → (Nat → Nat → Int32) → Prop) (ar : Nat → Nat → Int32) : Prop :=
  (∃ k52, wp_Si_sheet_L2 v2 fd lw hh rn sc (fun (v6_9 : Int32) (ar_10 : Nat → Nat → Int32) => Q v6_9 ar_10) k52 (0 : Int32) (0 : Int32) ar)
def wp_Si_sheet (v1 : Int32) (v2 : Int32) (v3 : Int32) (v4 : Int32) (fd : Nat → Int32) (ar : Nat → Nat → Int32) (lw : Nat → Int64) (hh : HT) (rn : Option (Nat × Nat)) (Q : Int32 → (Nat → Nat → Int32) → Prop) : Prop :=
  wp_X1_in (v1.toInt64) (0 : Int64) (3 : Int64) (fun (x1 : Int32) => ((x1 = 0 → Q (-1 : Int32) ar) ∧ (¬ x1 = 0 → ((v2 ≤ (8 : Int32) → (((3 : Int32) ≤ v1 → False) ∧ (¬ (3 : Int32) ≤ v1 → wp_Si_rowOf v1 v2 v3 v4 fd ar lw hh rn (fun (sc3 : Nat → Int32) => wp_Si_sheet_J1 v2 fd lw hh rn sc3 Q ar)))) ∧ (¬ v2 ≤ (8 : Int32) → Q (-1 : Int32) ar)))))
def wp_Sg_sheet_L2 (v2 : Int32) (fd : Nat → Int32) (lw : Nat → Int64) (hh : HT) (rn : Option (Nat × Nat)) (K123 : (Int32) → (Nat → Nat → Int32) → Prop) : Nat → (Int32) → (Int32) → (Nat → Nat → Int32) → Prop
  | 0, _, _, _ => False
  | n + 1, v6, v7, ar =>
    (((fd 10) ≤ v7 → K123 v6 ar) ∧ (¬ (fd 10) ≤ v7 → (vp_in v7 8 ∧ (vp_in v7 8 ∧ (∀ x2 : Int32, x2 = (v6 + ((upd (ar 43) v7.toNatClampNeg (0 : Int32)) v7.toNatClampNeg)) → wp_Sg_sheet_L2 v2 fd lw hh rn K123 n x2 (v7 + (1 : Int32)) (va_up ar 43 (upd (ar 43) v7.toNatClampNeg (0 : Int32))))))))
def wp_Sg_sheet_J1 (v2 : Int32) (fd : Nat → Int32) (lw : Nat → Int64) (hh : HT) (rn : Option (Nat × Nat)) (Q : Int32 → (Nat → Nat → Int32) → Prop) (ar : Nat → Nat → Int32) : Prop :=
  (∃ k52, wp_Sg_sheet_L2 v2 fd lw hh rn (fun (v6_4 : Int32) (ar_5 : Nat → Nat → Int32) => Q (-3 : Int32) ar_5) k52 (0 : Int32) (0 : Int32) ar)
def wp_Sg_sheet (v1 : Int32) (v2 : Int32) (v3 : Int32) (v4 : Int32) (fd : Nat → Int32) (ar : Nat → Nat → Int32) (lw : Nat → Int64) (hh : HT) (rn : Option (Nat × Nat)) (Q : Int32 → (Nat → Nat → Int32) → Prop) : Prop :=
  wp_X1_in (v1.toInt64) (0 : Int64) (3 : Int64) (fun (x1 : Int32) => ((x1 = 0 → Q (-1 : Int32) ar) ∧ (¬ x1 = 0 → ((v2 ≤ (8 : Int32) → (((3 : Int32) ≤ v1 → wp_Sg_sheet_J1 v2 fd lw hh rn Q ar) ∧ (¬ (3 : Int32) ≤ v1 → False))) ∧ (¬ v2 ≤ (8 : Int32) → Q (-1 : Int32) ar)))))
def wp_Sn_sheet (v1 : Int32) (v2 : Int32) (v3 : Int32) (v4 : Int32) (fd : Nat → Int32) (ar : Nat → Nat → Int32) (lw : Nat → Int64) (hh : HT) (rn : Option (Nat × Nat)) (Q : Int32 → (Nat → Nat → Int32) → Prop) : Prop :=
  wp_X1_in (v1.toInt64) (0 : Int64) (3 : Int64) (fun (x1 : Int32) => ((x1 = 0 → Q (-1 : Int32) ar) ∧ (¬ x1 = 0 → ((v2 ≤ (8 : Int32) → (((3 : Int32) ≤ v1 → False) ∧ (¬ (3 : Int32) ≤ v1 → (v2 < 0 ∧ Q (-2 : Int32) ar)))) ∧ (¬ v2 ≤ (8 : Int32) → Q (-1 : Int32) ar)))))
