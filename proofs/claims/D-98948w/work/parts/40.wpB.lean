/-! predicates of a beach -/
set_option maxRecDepth 100000
def wp_A_fill_L1 (na : Nat) (v1 : Int32) (v3 : Int32) (K20 : (Nat → Int32) → Prop) : Nat → (Int32) → (Nat → Int32) → Prop
  | 0, _, _ => False
  | n + 1, v2, f =>
    ((v3 ≤ v2 → K20 f) ∧ (¬ v3 ≤ v2 → (vp_in v2 na ∧ wp_A_fill_L1 na v1 v3 K20 n (v2 + (1 : Int32)) (upd f v2.toNatClampNeg v1))))
def wp_A_fill (na : Nat) (v1 : Int32) (f : Nat → Int32) (Q : (Nat → Int32) → Prop) : Prop :=
  (∃ k5, wp_A_fill_L1 na v1 (nI na) (fun (f_2 : Nat → Int32) => Q f_2) k5 (0 : Int32) f)
def wp_A_sum_L1 (na : Nat) (v3 : Int32) (f : Nat → Int32) (K33 : (Int32) → Prop) : Nat → (Int32) → (Int32) → Prop
  | 0, _, _ => False
  | n + 1, v1, v4 =>
    ((v3 ≤ v4 → K33 v1) ∧ (¬ v3 ≤ v4 → (vp_in v4 na ∧ wp_A_sum_L1 na v3 f K33 n (v1 + (f v4.toNatClampNeg)) (v4 + (1 : Int32)))))
def wp_A_sum (na : Nat) (f : Nat → Int32) (Q : Int32 → Prop) : Prop :=
  (∃ k10, wp_A_sum_L1 na (nI na) f (fun (v1_2 : Int32) => Q v1_2) k10 (0 : Int32) (0 : Int32))
def wp_B_wet_L1 (v1 : Int32) (wl : Nat → Int32) (dp : Nat → Int32) (aa : Nat → Int32) (md : Nat → Int32) (mo : Int32) (sp : Int32) (ti : Int32) (K34 : (Int32) → Prop) : Nat → (Int32) → (Int32) → Prop
  | 0, _, _ => False
  | n + 1, v2, v3 =>
    ((v1 ≤ v3 → K34 v2) ∧ (¬ v1 ≤ v3 → (vp_in v3 12 ∧ (((dp v3.toNatClampNeg) ≤ 0 → wp_B_wet_L1 v1 wl dp aa md mo sp ti K34 n (v2 ||| (0 : Int32)) (v3 + (1 : Int32))) ∧ (¬ (dp v3.toNatClampNeg) ≤ 0 → wp_B_wet_L1 v1 wl dp aa md mo sp ti K34 n (v2 ||| ((1 : Int32) <<< (v3 &&& 31))) (v3 + (1 : Int32)))))))
def wp_B_wet (v1 : Int32) (wl dp aa md : Nat → Int32) (mo sp ti : Int32) (Q : Int32 → Prop) : Prop :=
  (∃ k4, wp_B_wet_L1 v1 wl dp aa md mo sp ti (fun (v2_3 : Int32) => Q v2_3) k4 (0 : Int32) (0 : Int32))
def wp_B_atHome_L1 (v1 : Int32) (wl : Nat → Int32) (dp : Nat → Int32) (aa : Nat → Int32) (md : Nat → Int32) (mo : Int32) (sp : Int32) (ti : Int32) (K35 : (Int32) → Prop) : Nat → (Int32) → (Int32) → Prop
  | 0, _, _ => False
  | n + 1, v2, v3 =>
    ((v1 ≤ v3 → K35 v2) ∧ (¬ v1 ≤ v3 → (vp_in v3 8 ∧ ((¬ (aa v3.toNatClampNeg) = (-1 : Int32) → wp_B_atHome_L1 v1 wl dp aa md mo sp ti K35 n (v2 ||| (0 : Int32)) (v3 + (1 : Int32))) ∧ ((aa v3.toNatClampNeg) = (-1 : Int32) → wp_B_atHome_L1 v1 wl dp aa md mo sp ti K35 n (v2 ||| ((1 : Int32) <<< (v3 &&& 31))) (v3 + (1 : Int32)))))))
def wp_B_atHome (v1 : Int32) (wl dp aa md : Nat → Int32) (mo sp ti : Int32) (Q : Int32 → Prop) : Prop :=
  (∃ k4, wp_B_atHome_L1 v1 wl dp aa md mo sp ti (fun (v2_3 : Int32) => Q v2_3) k4 (0 : Int32) (0 : Int32))
def wp_B_those_L1 (v1 : Int32) (v2 : Int32) (wl : Nat → Int32) (dp : Nat → Int32) (aa : Nat → Int32) (md : Nat → Int32) (mo : Int32) (sp : Int32) (ti : Int32) (K39 : (Int32) → Prop) : Nat → (Int32) → (Int32) → Prop
  | 0, _, _ => False
  | n + 1, v3, v4 =>
    ((v2 ≤ v4 → K39 v3) ∧ (¬ v2 ≤ v4 → (vp_in v4 8 ∧ ((¬ (aa v4.toNatClampNeg) = v1 → wp_B_those_L1 v1 v2 wl dp aa md mo sp ti K39 n (v3 ||| (0 : Int32)) (v4 + (1 : Int32))) ∧ ((aa v4.toNatClampNeg) = v1 → wp_B_those_L1 v1 v2 wl dp aa md mo sp ti K39 n (v3 ||| ((1 : Int32) <<< (v4 &&& 31))) (v4 + (1 : Int32)))))))
def wp_B_those (v1 : Int32) (v2 : Int32) (wl dp aa md : Nat → Int32) (mo sp ti : Int32) (Q : Int32 → Prop) : Prop :=
  (∃ k5, wp_B_those_L1 v1 v2 wl dp aa md mo sp ti (fun (v3_3 : Int32) => Q v3_3) k5 (0 : Int32) (0 : Int32))
def wp_B_spill (v1 : Int32) (v2 : Int32) (v3 : Int32) (wl dp aa md : Nat → Int32) (mo sp ti : Int32) (Q : Int32 → (Nat → Int32) → Prop) : Prop :=
  (vp_in v1 12 ∧ (vp_in v2 12 ∧ (((dp v2.toNatClampNeg) < (((dp v1.toNatClampNeg) - v3) - (1 : Int32)) → (vp_in v2 12 ∧ Q (1 : Int32) (upd dp v2.toNatClampNeg (((dp v1.toNatClampNeg) - v3) - (1 : Int32))))) ∧ (¬ (dp v2.toNatClampNeg) < (((dp v1.toNatClampNeg) - v3) - (1 : Int32)) → Q (0 : Int32) dp))))
def wp_B_flow_L2 (v1 : Int32) (wl : Nat → Int32) (aa : Nat → Int32) (md : Nat → Int32) (mo : Int32) (sp : Int32) (ti : Int32) (dk : Nat → Int32) (K59 : (Int32) → (Nat → Int32) → Prop) : Nat → (Int32) → (Int32) → (Nat → Int32) → Prop
  | 0, _, _, _ => False
  | n + 1, v3, v4, dp =>
    ((v1 ≤ (v4 + (1 : Int32)) → K59 v3 dp) ∧ (¬ v1 ≤ (v4 + (1 : Int32)) → (vp_in v4 12 ∧ wp_B_spill v4 (v4 + (1 : Int32)) (dk v4.toNatClampNeg) wl dp aa md mo sp ti (fun (x1 : Int32) (dp2 : Nat → Int32) => (vp_in v4 12 ∧ wp_B_spill (v4 + (1 : Int32)) v4 (dk v4.toNatClampNeg) wl dp2 aa md mo sp ti (fun (x3 : Int32) (dp4 : Nat → Int32) => wp_B_flow_L2 v1 wl aa md mo sp ti dk K59 n ((v3 ||| x1) ||| x3) (v4 + (1 : Int32)) dp4))))))
def wp_B_flow_L1 (v1 : Int32) (wl : Nat → Int32) (aa : Nat → Int32) (md : Nat → Int32) (mo : Int32) (sp : Int32) (ti : Int32) (dk : Nat → Int32) (K62 : (Nat → Int32) → Prop) : Nat → (Int32) → (Nat → Int32) → Prop
  | 0, _, _ => False
  | n + 1, v3, dp =>
    ((v3 = 0 → K62 dp) ∧ (¬ v3 = 0 → (∃ k11, wp_B_flow_L2 v1 wl aa md mo sp ti dk (fun (v3_6 : Int32) (dp_7 : Nat → Int32) => wp_B_flow_L1 v1 wl aa md mo sp ti dk K62 n v3_6 dp_7) k11 (0 : Int32) (0 : Int32) dp)))
def wp_B_flow (v1 : Int32) (wl dp aa md : Nat → Int32) (mo sp ti : Int32) (dk : Nat → Int32) (Q : (Nat → Int32) → Prop) : Prop :=
  (∃ k2, wp_B_flow_L1 v1 wl aa md mo sp ti dk (fun (dp_9 : Nat → Int32) => Q dp_9) k2 (1 : Int32) dp)
def wp_B_clear (wl dp aa md : Nat → Int32) (mo sp ti : Int32) (Q : (Nat → Int32) → (Nat → Int32) → (Nat → Int32) → (Int32) → (Int32) → Prop) : Prop :=
  wp_A_fill 12 (0 : Int32) wl (fun (f1 : Nat → Int32) => wp_A_fill 12 (0 : Int32) dp (fun (f2 : Nat → Int32) => wp_A_fill 8 (-1 : Int32) aa (fun (f3 : Nat → Int32) => Q f1 f2 f3 (0 : Int32) (0 : Int32))))
def wp_B_be (wl dp aa md : Nat → Int32) (mo sp ti : Int32) (wl2 dp2 aa2 md2 : Nat → Int32) (mo2 sp2 ti2 : Int32) (Q : (Nat → Int32) → (Nat → Int32) → (Nat → Int32) → (Nat → Int32) → (Int32) → (Int32) → (Int32) → Prop) : Prop :=
  Q (va_cpy wl2 wl (0 : Int32).toNatClampNeg (0 : Int32).toNatClampNeg (12 : Int32).toNatClampNeg) (va_cpy dp2 dp (0 : Int32).toNatClampNeg (0 : Int32).toNatClampNeg (12 : Int32).toNatClampNeg) (va_cpy aa2 aa (0 : Int32).toNatClampNeg (0 : Int32).toNatClampNeg (8 : Int32).toNatClampNeg) (va_cpy md2 md (0 : Int32).toNatClampNeg (0 : Int32).toNatClampNeg (8 : Int32).toNatClampNeg) mo2 sp2 ti2
