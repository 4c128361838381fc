/-! walks of the model (printed by gen/mk.py) -/
set_option maxRecDepth 100000
set_option maxHeartbeats 4000000 in
theorem ct_M_thrown {l : Launch} {V : evT} {D : va_G} {gI : Nat → ClassId} {o : Nat} {ad : Nat → Nat} {fd : Nat → Int32} {ar : Nat → Nat → Int32} {lw : Nat → Int64} {Q : Int32 → Prop} (h : wp_M_thrown fd ar lw Q) : ct_i l V D vwCl (tyL gI) yX3_thrown cX3_thrown 1 .int { frames := 1, cells := 0, slots := 0, locals := 12 } [.ref o] (wm gI o ad fd ar lw) (fun u : Unit => (wm gI o ad fd ar lw)) (fun (x : Int32) (u : Unit) => Q x) := by
  refine ct_ofi RX3 rfl (by decide +kernel) (Nat.le_of_ble_eq_true rfl) ?_
  intro p e s m args below meth c A F hP hD ls hl
  obtain ⟨⟨hx, hb, hml, hown, hts⟩, hr, hlocks, hA, hK, hE⟩ := id F
  have hS : va_S A s.heap s.heap [] := va_S.rf
  have hl : lv_has ls 1 [(0, .ref o)] := hl
  have hRf : 1 ≤ ({ frames := 1, cells := 0, slots := 0, locals := 12 } : Room).frames := Nat.le_refl _
  have hRl : 12 ≤ ({ frames := 1, cells := 0, slots := 0, locals := 12 } : Room).locals := Nat.le_refl _
  have hC : 0 ≤ ({ frames := 1, cells := 0, slots := 0, locals := 12 } : Room).cells := Nat.le_refl _
  have hSl : 0 ≤ ({ frames := 1, cells := 0, slots := 0, locals := 12 } : Room).slots := Nat.le_refl _
  unfold wp_M_thrown at h
  refine lv_aload_n hx hb dX3_thrown_0 rfl (lv_at hl 0 rfl) ?_
  refine va_get hx hb hts in_X3 hown hK hP 0 rfl rfl 0 (Nat.le_of_ble_eq_true rfl) (hts _ q1218) (fun _ h => h) (v := .int (fd 0)) rfl dX3_thrown_1 ?_
  exact rt_i F dX3_thrown_4 rfl () h hP hD hS (Nat.le_refl _) (Nat.le_refl _)
set_option maxHeartbeats 4000000 in
theorem lp_M_sign_L1 {p : Program} {l : Launch} {e : Env} {R : Room} {s : State} {m : MethodId} {args : Array Value} {below : List Frame} {meth : Method} {c : Code} {cells slots : Nat} {A : Nat → Prop} {Qf : State → Prop} {V : evT} {D : va_G} {gI : Nat → ClassId} {o : Nat} {ad : Nat → Nat} {v1 : Int32} {fd : Nat → Int32} {lw : Nat → Int64} {K53 : (Nat → Nat → Int32) → Prop} (F : ct_F p m c meth cX3_sign 3 s args RX3 (some .int) A V D vwCl (tyL gI)) (hRf : 1 ≤ R.frames) (hRl : 12 ≤ R.locals) (hC : cells ≤ R.cells) (hSl : slots ≤ R.slots)
    (hK53 : ∀ (ar : Nat → Nat → Int32), K53 ar → ∀ (H : Heap) (locs : List Loc) (ls : Array Slot), va_P D vwCl (wm gI o ad fd ar lw) H → va_D A (wm gI o ad fd ar lw) → va_S A s.heap H locs → lv_has ls 3 [(0, .ref o)] → W p l e R s m args below meth c H locs cells slots Qf (F0 m 53 ls [])) :
    ∀ (n : Nat) (v2 : Int32) (ar : Nat → Nat → Int32), wp_M_sign_L1 v1 fd lw K53 n v2 ar → ∀ (H : Heap) (locs : List Loc) (ls : Array Slot), va_P D vwCl (wm gI o ad fd ar lw) H → va_D A (wm gI o ad fd ar lw) → va_S A s.heap H locs → lv_has ls 3 [(0, .ref o), (1, .int v1), (2, .int v2)] → W p l e R s m args below meth c H locs cells slots Qf (F0 m 18 ls []) := by
  obtain ⟨⟨hx, hb, hml, hown, hts⟩, hr, hlocks, hA, hK, hE⟩ := id F
  intro n
  induction n with
  | zero => intro v2 ar h; exact h.elim
  | succ n ih =>
    intro v2 ar h H locs ls hP hD hS hl
    unfold wp_M_sign_L1 at h
    refine lv_iload_n hx hb dX3_sign_18 rfl (lv_at hl 2 rfl) ?_
    refine lv_iconst (v := (4 : Int32)) hx hb dX3_sign_19 (by decide) ?_
    refine lv_icmp_ge (tgt := 53) hx hb dX3_sign_20 (by decide) (fun c1 => ?_) (fun c1 => ?_)
    · replace h := h.1 c1
      exact hK53 _ h _ _ _ hP hD hS (lv_sub hl [0] rfl)
    · replace h := h.2 c1
      refine lv_aload_n hx hb dX3_sign_23 rfl (lv_at hl 0 rfl) ?_
      refine va_get hx hb hts in_X3 hown hK hP 0 rfl rfl 14 (Nat.le_of_ble_eq_true rfl) (hts _ q1232) (fun _ h => h) (v := .ref (ad 14)) rfl dX3_sign_24 ?_
      refine lv_aload_n hx hb dX3_sign_27 rfl (lv_at hl 0 rfl) ?_
      refine va_get hx hb hts in_X3 hown hK hP 0 rfl rfl 15 (Nat.le_of_ble_eq_true rfl) (hts _ q1233) (fun _ h => h) (v := .int (fd 15)) rfl dX3_sign_28 ?_
      refine lv_iload_n hx hb dX3_sign_31 rfl (lv_at hl 2 rfl) ?_
      refine lv_iadd hx hb dX3_sign_32 ?_
      refine lv_iload_n hx hb dX3_sign_33 rfl (lv_at hl 1 rfl) ?_
      refine lv_bipush (v := (24 : Int32)) hx hb dX3_sign_34 (by decide) ?_
      refine lv_bipush (v := (8 : Int32)) hx hb dX3_sign_36 (by decide) ?_
      refine lv_iload_n hx hb dX3_sign_38 rfl (lv_at hl 2 rfl) ?_
      refine lv_imul hx hb dX3_sign_39 ?_
      refine lv_isub hx hb dX3_sign_40 ?_
      refine lv_ishr hx hb dX3_sign_41 ?_
      refine lv_sipush (v := (255 : Int32)) hx hb dX3_sign_42 (by decide) ?_
      refine lv_iand hx hb dX3_sign_45 ?_
      refine pt_iast (f := (ar 14)) hx hb hK hP hD hS 10 0 rfl rfl h.1 dX3_sign_46 wmA_14 (fun H locs hP hD hS => ?_)
      replace h := h.2
      refine lv_iinc (v := (v2 + (1 : Int32))) (lv' := [(2, .int (v2 + (1 : Int32))), (0, .ref o), (1, .int v1)]) hx hb dX3_sign_47 hl (k := 2) rfl rfl (by decide) rfl (fun ls hl => ?_)
      refine lv_goto (tgt := 18) hx hb dX3_sign_50 (by decide) ?_
      exact ih _ _ h _ _ _ hP hD hS (lv_sub hl [1, 2, 0] rfl)
set_option maxHeartbeats 4000000 in
theorem ct_M_sign {l : Launch} {V : evT} {D : va_G} {gI : Nat → ClassId} {o : Nat} {ad : Nat → Nat} {v1 : Int32} {fd : Nat → Int32} {ar : Nat → Nat → Int32} {lw : Nat → Int64} {Q : Int32 → (Nat → Int32) → (Nat → Nat → Int32) → Prop} (h : wp_M_sign v1 fd ar lw Q) : ct_i l V D vwCl (tyL gI) yX3_sign cX3_sign 3 .int { frames := 1, cells := 0, slots := 0, locals := 12 } [.ref o, .int v1] (wm gI o ad fd ar lw) (fun u : (Nat → Int32) × (Nat → Nat → Int32) => (wm gI o ad u.1 u.2 lw)) (fun (x : Int32) (u : (Nat → Int32) × (Nat → Nat → Int32)) => Q x u.1 u.2) := by
  refine ct_ofi RX3 rfl (by decide +kernel) (Nat.le_of_ble_eq_true rfl) ?_
  intro p e s m args below meth c A F hP hD ls hl
  obtain ⟨⟨hx, hb, hml, hown, hts⟩, hr, hlocks, hA, hK, hE⟩ := id F
  have hS : va_S A s.heap s.heap [] := va_S.rf
  have hl : lv_has ls 3 [(0, .ref o), (1, .int v1)] := hl
  have hRf : 1 ≤ ({ frames := 1, cells := 0, slots := 0, locals := 12 } : Room).frames := Nat.le_refl _
  have hRl : 12 ≤ ({ frames := 1, cells := 0, slots := 0, locals := 12 } : Room).locals := Nat.le_refl _
  have hC : 0 ≤ ({ frames := 1, cells := 0, slots := 0, locals := 12 } : Room).cells := Nat.le_refl _
  have hSl : 0 ≤ ({ frames := 1, cells := 0, slots := 0, locals := 12 } : Room).slots := Nat.le_refl _
  unfold wp_M_sign at h
  refine lv_aload_n hx hb dX3_sign_0 rfl (lv_at hl 0 rfl) ?_
  refine lv_iconst (v := (0 : Int32)) hx hb dX3_sign_1 (by decide) ?_
  refine pt_put (v := .int (0 : Int32)) hx hb hts in_X3 tyX3 tyX3_ok nmX3 hown hK hP hD hS 0 rfl rfl 0 (Nat.le_of_ble_eq_true rfl) (hts _ q1218) (fun _ h => h) rfl (ty := .int) (by decide +kernel) rfl rfl (Nat.le_of_ble_eq_true rfl) dX3_sign_2 wmF_0 (fun H locs hP hD hS => ?_)
  refine lv_aload_n hx hb dX3_sign_5 rfl (lv_at hl 0 rfl) ?_
  refine va_get hx hb hts in_X3 hown hK hP 0 rfl rfl 15 (Nat.le_of_ble_eq_true rfl) (hts _ q1233) (fun _ h => h) (v := .int (fd 15)) rfl dX3_sign_6 ?_
  refine lv_bipush (v := (76 : Int32)) hx hb dX3_sign_9 (by decide) ?_
  refine lv_icmp_le (tgt := 16) hx hb dX3_sign_11 (by decide) (fun c3 => ?_) (fun c3 => ?_)
  · replace h := h.1 c3
    refine lv_iconst (v := (0 : Int32)) hx hb dX3_sign_16 (by decide) ?_
    refine lv_istore_n (lv' := [(2, .int (0 : Int32)), (0, .ref o), (1, .int v1)]) hx hb dX3_sign_17 rfl hl (by decide) rfl (fun ls hl => ?_)
    obtain ⟨k18, h⟩ := h
    refine lp_M_sign_L1 F hRf hRl hC hSl ?hk53 k18 _ _ h _ _ _ hP hD hS (lv_sub hl [1, 2, 0] rfl)
    case hk53 =>
      intro ar_2 h H locs ls hP hD hS hl
      refine lv_aload_n hx hb dX3_sign_53 rfl (lv_at hl 0 rfl) ?_
      refine lv_dup hx hb dX3_sign_54 rfl ?_
      refine va_get hx hb hts in_X3 hown hK hP 0 rfl rfl 15 (Nat.le_of_ble_eq_true rfl) (hts _ q1233) (fun _ h => h) (v := .int (fd 15)) rfl dX3_sign_55 ?_
      refine lv_iconst (v := (4 : Int32)) hx hb dX3_sign_58 (by decide) ?_
      refine lv_iadd hx hb dX3_sign_59 ?_
      refine pt_put (v := .int ((fd 15) + (4 : Int32))) hx hb hts in_X3 tyX3 tyX3_ok nmX3 hown hK hP hD hS 0 rfl rfl 15 (Nat.le_of_ble_eq_true rfl) (hts _ q1233) (fun _ h => h) rfl (ty := .int) (by decide +kernel) rfl rfl (Nat.le_of_ble_eq_true rfl) dX3_sign_60 wmF_15 (fun H locs hP hD hS => ?_)
      refine lv_aload_n hx hb dX3_sign_63 rfl (lv_at hl 0 rfl) ?_
      refine va_get hx hb hts in_X3 hown hK hP 0 rfl rfl 15 (Nat.le_of_ble_eq_true rfl) (hts _ q1233) (fun _ h => h) (v := .int ((fd 15) + (4 : Int32))) rfl dX3_sign_64 ?_
      exact rt_i F dX3_sign_67 rfl ((upd (upd fd 0 (0 : Int32)) 15 ((fd 15) + (4 : Int32))), ar_2) h hP hD hS (Nat.le_refl _) (Nat.le_refl _)
  · replace h := h.2 c3
    refine lv_iconst (v := (-1 : Int32)) hx hb dX3_sign_14 (by decide) ?_
    exact rt_i F dX3_sign_15 rfl ((upd fd 0 (0 : Int32)), ar) h hP hD hS (Nat.le_refl _) (Nat.le_refl _)
set_option maxHeartbeats 4000000 in
theorem ct_X3_in {l : Launch} {V : evT} {D : va_G} {gI : Nat → ClassId} {v0 : Int64} {v2 : Int64} {v4 : Int64} {Q : Int32 → Prop} (h : wp_X3_in v0 v2 v4  Q) : ct_i l V D vwCl (tyL gI) yX3_in cX3_in 6 .boolean { frames := 1, cells := 0, slots := 0, locals := 12 } [.long v0, .long v2, .long v4] [] (fun u : Unit => []) (fun (x : Int32) (u : Unit) => Q x) := by
  refine ct_ofi RX3 rfl (by decide +kernel) (Nat.le_of_ble_eq_true rfl) ?_
  intro p e s m args below meth c A F hP hD ls hl
  obtain ⟨⟨hx, hb, hml, hown, hts⟩, hr, hlocks, hA, hK, hE⟩ := id F
  have hS : va_S A s.heap s.heap [] := va_S.rf
  have hl : lv_has ls 6 [(0, .long v0), (2, .long v2), (4, .long v4)] := hl
  have hRf : 1 ≤ ({ frames := 1, cells := 0, slots := 0, locals := 12 } : Room).frames := Nat.le_refl _
  have hRl : 12 ≤ ({ frames := 1, cells := 0, slots := 0, locals := 12 } : Room).locals := Nat.le_refl _
  have hC : 0 ≤ ({ frames := 1, cells := 0, slots := 0, locals := 12 } : Room).cells := Nat.le_refl _
  have hSl : 0 ≤ ({ frames := 1, cells := 0, slots := 0, locals := 12 } : Room).slots := Nat.le_refl _
  unfold wp_X3_in at h
  refine lv_lload_n hx hb dX3_in_0 rfl (lv_at hl 0 rfl) ?_
  refine lv_lload_n hx hb dX3_in_1 rfl (lv_at hl 1 rfl) ?_
  refine W.lcmp hx hb dX3_in_2 ?_
  refine lv_if_lt (tgt := 17) hx hb dX3_in_3 (by decide) (fun c2 => ?_) (fun c2 => ?_)
  · replace h := h.1 c2
    refine lv_iconst (v := (0 : Int32)) hx hb dX3_in_17 (by decide) ?_
    exact rt_i F dX3_in_18 rfl () h hP hD hS (Nat.le_refl _) (Nat.le_refl _)
  · replace h := h.2 c2
    refine lv_lload_n hx hb dX3_in_6 rfl (lv_at hl 0 rfl) ?_
    refine lv_lload hx hb dX3_in_7 (lv_at hl 2 rfl) ?_
    refine W.lcmp hx hb dX3_in_9 ?_
    refine lv_if_gt (tgt := 17) hx hb dX3_in_10 (by decide) (fun c1 => ?_) (fun c1 => ?_)
    · replace h := h.1 c1
      refine lv_iconst (v := (0 : Int32)) hx hb dX3_in_17 (by decide) ?_
      exact rt_i F dX3_in_18 rfl () h hP hD hS (Nat.le_refl _) (Nat.le_refl _)
    · replace h := h.2 c1
      refine lv_iconst (v := (1 : Int32)) hx hb dX3_in_13 (by decide) ?_
      refine lv_goto (tgt := 18) hx hb dX3_in_14 (by decide) ?_
      exact rt_i F dX3_in_18 rfl () h hP hD hS (Nat.le_refl _) (Nat.le_refl _)
set_option maxHeartbeats 4000000 in
theorem ct_M_begins {l : Launch} {V : evT} {D : va_G} {gI : Nat → ClassId} {o : Nat} {ad : Nat → Nat} {v1 : Int32} {fd : Nat → Int32} {ar : Nat → Nat → Int32} {lw : Nat → Int64} {Q : Int32 → (Nat → Int32) → Prop} (h : wp_M_begins v1 fd ar lw Q) : ct_i l V D vwCl (tyL gI) yX3_begins cX3_begins 3 .int { frames := 1, cells := 0, slots := 0, locals := 29 } [.ref o, .int v1] (wm gI o ad fd ar lw) (fun u : (Nat → Int32) => (wm gI o ad u ar lw)) (fun (x : Int32) (u : (Nat → Int32)) => Q x u) := by
  refine ct_ofi RX3 rfl (by decide +kernel) (Nat.le_of_ble_eq_true rfl) ?_
  intro p e s m args below meth c A F hP hD ls hl
  obtain ⟨⟨hx, hb, hml, hown, hts⟩, hr, hlocks, hA, hK, hE⟩ := id F
  have hS : va_S A s.heap s.heap [] := va_S.rf
  have hl : lv_has ls 3 [(0, .ref o), (1, .int v1)] := hl
  have hRf : 1 ≤ ({ frames := 1, cells := 0, slots := 0, locals := 29 } : Room).frames := Nat.le_refl _
  have hRl : 29 ≤ ({ frames := 1, cells := 0, slots := 0, locals := 29 } : Room).locals := Nat.le_refl _
  have hC : 0 ≤ ({ frames := 1, cells := 0, slots := 0, locals := 29 } : Room).cells := Nat.le_refl _
  have hSl : 0 ≤ ({ frames := 1, cells := 0, slots := 0, locals := 29 } : Room).slots := Nat.le_refl _
  unfold wp_M_begins at h
  refine lv_aload_n hx hb dX3_begins_0 rfl (lv_at hl 0 rfl) ?_
  refine va_get hx hb hts in_X3 hown hK hP 0 rfl rfl 15 (Nat.le_of_ble_eq_true rfl) (hts _ q1233) (fun _ h => h) (v := .int (fd 15)) rfl dX3_begins_1 ?_
  refine lv_istore_n (lv' := [(2, .int (fd 15)), (0, .ref o), (1, .int v1)]) hx hb dX3_begins_4 rfl hl (by decide) rfl (fun ls hl => ?_)
  refine lv_aload_n hx hb dX3_begins_5 rfl (lv_at hl 1 rfl) ?_
  refine lv_iconst (v := (0 : Int32)) hx hb dX3_begins_6 (by decide) ?_
  refine pt_put (v := .int (0 : Int32)) hx hb hts in_X3 tyX3 tyX3_ok nmX3 hown hK hP hD hS 0 rfl rfl 15 (Nat.le_of_ble_eq_true rfl) (hts _ q1233) (fun _ h => h) rfl (ty := .int) (by decide +kernel) rfl rfl (Nat.le_of_ble_eq_true rfl) dX3_begins_7 wmF_15 (fun H locs hP hD hS => ?_)
  refine lv_aload_n hx hb dX3_begins_10 rfl (lv_at hl 1 rfl) ?_
  refine lv_iconst (v := (0 : Int32)) hx hb dX3_begins_11 (by decide) ?_
  refine pt_put (v := .int (0 : Int32)) hx hb hts in_X3 tyX3 tyX3_ok nmX3 hown hK hP hD hS 0 rfl rfl 16 (Nat.le_of_ble_eq_true rfl) (hts _ q1234) (fun _ h => h) rfl (ty := .int) (by decide +kernel) rfl rfl (Nat.le_of_ble_eq_true rfl) dX3_begins_12 wmF_16 (fun H locs hP hD hS => ?_)
  refine lv_aload_n hx hb dX3_begins_15 rfl (lv_at hl 1 rfl) ?_
  refine lv_iconst (v := (0 : Int32)) hx hb dX3_begins_16 (by decide) ?_
  refine pt_put (v := .int (0 : Int32)) hx hb hts in_X3 tyX3 tyX3_ok nmX3 hown hK hP hD hS 0 rfl rfl 18 (Nat.le_of_ble_eq_true rfl) (hts _ q1236) (fun _ h => h) rfl (ty := .int) (by decide +kernel) rfl rfl (Nat.le_of_ble_eq_true rfl) dX3_begins_17 wmF_18 (fun H locs hP hD hS => ?_)
  refine lv_aload_n hx hb dX3_begins_20 rfl (lv_at hl 1 rfl) ?_
  refine lv_iload_n hx hb dX3_begins_21 rfl (lv_at hl 0 rfl) ?_
  refine lv_iload_n hx hb dX3_begins_22 rfl (lv_at hl 2 rfl) ?_
  refine va_mmin hx hb (hml.trans hl.1.symm) hown (hts _ q1402) (hts _ q336) (hts _ q100) (hts _ q337) (Nat.le_trans (Nat.le_of_ble_eq_true rfl) hRf) (Nat.le_trans (Nat.le_of_ble_eq_true rfl) hRl) hC hSl dX3_begins_23 ?_
  refine pt_put (v := .int (mnI (fd 15) v1)) hx hb hts in_X3 tyX3 tyX3_ok nmX3 hown hK hP hD hS 0 rfl rfl 17 (Nat.le_of_ble_eq_true rfl) (hts _ q1235) (fun _ h => h) rfl (ty := .int) (by decide +kernel) rfl rfl (Nat.le_of_ble_eq_true rfl) dX3_begins_26 wmF_17 (fun H locs hP hD hS => ?_)
  refine lv_iload_n hx hb dX3_begins_29 rfl (lv_at hl 0 rfl) ?_
  exact rt_i F dX3_begins_30 rfl ((upd (upd (upd (upd fd 15 (0 : Int32)) 16 (0 : Int32)) 18 (0 : Int32)) 17 (mnI (fd 15) v1))) h hP hD hS (Nat.le_refl _) (Nat.le_refl _)
set_option maxHeartbeats 4000000 in
theorem ct_X3_flag {l : Launch} {V : evT} {D : va_G} {gI : Nat → ClassId} {v0 : Int32} {Q : Int32 → Prop} (h : wp_X3_flag v0  Q) : ct_i l V D vwCl (tyL gI) yX3_flag cX3_flag 1 .int { frames := 1, cells := 0, slots := 0, locals := 12 } [.int v0] [] (fun u : Unit => []) (fun (x : Int32) (u : Unit) => Q x) := by
  refine ct_ofi RX3 rfl (by decide +kernel) (Nat.le_of_ble_eq_true rfl) ?_
  intro p e s m args below meth c A F hP hD ls hl
  obtain ⟨⟨hx, hb, hml, hown, hts⟩, hr, hlocks, hA, hK, hE⟩ := id F
  have hS : va_S A s.heap s.heap [] := va_S.rf
  have hl : lv_has ls 1 [(0, .int v0)] := hl
  have hRf : 1 ≤ ({ frames := 1, cells := 0, slots := 0, locals := 12 } : Room).frames := Nat.le_refl _
  have hRl : 12 ≤ ({ frames := 1, cells := 0, slots := 0, locals := 12 } : Room).locals := Nat.le_refl _
  have hC : 0 ≤ ({ frames := 1, cells := 0, slots := 0, locals := 12 } : Room).cells := Nat.le_refl _
  have hSl : 0 ≤ ({ frames := 1, cells := 0, slots := 0, locals := 12 } : Room).slots := Nat.le_refl _
  unfold wp_X3_flag at h
  refine lv_iload_n hx hb dX3_flag_0 rfl (lv_at hl 0 rfl) ?_
  refine lv_if_eq (tgt := 8) hx hb dX3_flag_1 (by decide) (fun c1 => ?_) (fun c1 => ?_)
  · replace h := h.1 c1
    refine lv_iconst (v := (0 : Int32)) hx hb dX3_flag_8 (by decide) ?_
    exact rt_i F dX3_flag_9 rfl () h hP hD hS (Nat.le_refl _) (Nat.le_refl _)
  · replace h := h.2 c1
    refine lv_iconst (v := (1 : Int32)) hx hb dX3_flag_4 (by decide) ?_
    refine lv_goto (tgt := 9) hx hb dX3_flag_5 (by decide) ?_
    exact rt_i F dX3_flag_9 rfl () h hP hD hS (Nat.le_refl _) (Nat.le_refl _)
set_option maxHeartbeats 4000000 in
theorem lp_M_faultOf_J2 {p : Program} {l : Launch} {e : Env} {R : Room} {s : State} {m : MethodId} {args : Array Value} {below : List Frame} {meth : Method} {c : Code} {cells slots : Nat} {A : Nat → Prop} {V : evT} {D : va_G} {gI : Nat → ClassId} {o : Nat} {ad : Nat → Nat} {v1 : Int32} {v2 : Int32} {fd : Nat → Int32} {ar : Nat → Nat → Int32} {lw : Nat → Int64} {Q : Int32 → Prop} (F : ct_F p m c meth cX3_faultOf 5 s args RX3 (some .int) A V D vwCl (tyL gI)) (hRf : 1 ≤ R.frames) (hRl : 12 ≤ R.locals) (hC : cells ≤ R.cells) (hSl : slots ≤ R.slots) :
    ∀ (t0 : Int32), wp_M_faultOf_J2 v1 v2 fd ar lw Q t0 → ∀ (H : Heap) (locs : List Loc) (ls : Array Slot), va_P D vwCl (wm gI o ad fd ar lw) H → va_D A (wm gI o ad fd ar lw) → va_S A s.heap H locs → lv_has ls 5 [(0, .ref o), (1, .int v1), (2, .int v2)] → W p l e R s m args below meth c H locs cells slots (MQ below (va_Qi (fun (x : Int32) (u : Unit) => Q x) (fun u t => va_P D vwCl (wm gI o ad fd ar lw) t.heap ∧ va_K D vwCl (tyL gI) t ∧ va_D A (wm gI o ad fd ar lw)) A) args s cells slots A) (F0 m 20 ls [.int t0]) := by
  obtain ⟨⟨hx, hb, hml, hown, hts⟩, hr, hlocks, hA, hK, hE⟩ := id F
  intro t0 h H locs ls hP hD hS hl
  unfold wp_M_faultOf_J2 at h
  refine lv_istore (lv' := [(4, .int t0), (0, .ref o), (1, .int v1), (2, .int v2)]) hx hb dX3_faultOf_20 hl (by decide) rfl (fun ls hl => ?_)
  refine lv_iload_n hx hb dX3_faultOf_22 rfl (lv_at hl 2 rfl) ?_
  refine lv_iload_n hx hb dX3_faultOf_23 rfl (lv_at hl 3 rfl) ?_
  refine lv_icmp_le (tgt := 44) hx hb dX3_faultOf_24 (by decide) (fun c5 => ?_) (fun c5 => ?_)
  · replace h := h.1 c5
    refine lv_iload hx hb dX3_faultOf_44 (lv_at hl 0 rfl) ?_
    refine lv_if_eq (tgt := 53) hx hb dX3_faultOf_46 (by decide) (fun c1 => ?_) (fun c1 => ?_)
    · replace h := h.1 c1
      refine lv_iconst (v := (-1 : Int32)) hx hb dX3_faultOf_53 (by decide) ?_
      refine lv_aload_n hx hb dX3_faultOf_54 rfl (lv_at hl 1 rfl) ?_
      refine va_get hx hb hts in_X3 hown hK hP 0 rfl rfl 16 (Nat.le_of_ble_eq_true rfl) (hts _ q1234) (fun _ h => h) (v := .int (fd 16)) rfl dX3_faultOf_55 ?_
      refine lv_isub hx hb dX3_faultOf_58 ?_
      exact rt_i F dX3_faultOf_59 rfl () h hP hD hS (Nat.le_refl _) (Nat.le_refl _)
    · replace h := h.2 c1
      refine lv_iconst (v := (0 : Int32)) hx hb dX3_faultOf_49 (by decide) ?_
      refine lv_goto (tgt := 59) hx hb dX3_faultOf_50 (by decide) ?_
      exact rt_i F dX3_faultOf_59 rfl () h hP hD hS (Nat.le_refl _) (Nat.le_refl _)
  · replace h := h.2 c5
    refine lv_iload hx hb dX3_faultOf_27 (lv_at hl 0 rfl) ?_
    refine lv_if_ne (tgt := 40) hx hb dX3_faultOf_29 (by decide) (fun c4 => ?_) (fun c4 => ?_)
    · replace h := h.1 c4
      refine lv_iconst (v := (-1 : Int32)) hx hb dX3_faultOf_40 (by decide) ?_
      refine lv_iload_n hx hb dX3_faultOf_41 rfl (lv_at hl 3 rfl) ?_
      refine lv_isub hx hb dX3_faultOf_42 ?_
      exact rt_i F dX3_faultOf_43 rfl () h hP hD hS (Nat.le_refl _) (Nat.le_refl _)
    · replace h := h.2 c4
      refine lv_aload_n hx hb dX3_faultOf_32 rfl (lv_at hl 1 rfl) ?_
      refine va_get hx hb hts in_X3 hown hK hP 0 rfl rfl 16 (Nat.le_of_ble_eq_true rfl) (hts _ q1234) (fun _ h => h) (v := .int (fd 16)) rfl dX3_faultOf_33 ?_
      refine lv_iload_n hx hb dX3_faultOf_36 rfl (lv_at hl 3 rfl) ?_
      refine lv_icmp_lt (tgt := 44) hx hb dX3_faultOf_37 (by decide) (fun c3 => ?_) (fun c3 => ?_)
      · replace h := h.1 c3
        refine lv_iload hx hb dX3_faultOf_44 (lv_at hl 0 rfl) ?_
        refine lv_if_eq (tgt := 53) hx hb dX3_faultOf_46 (by decide) (fun c2 => ?_) (fun c2 => ?_)
        · replace h := h.1 c2
          refine lv_iconst (v := (-1 : Int32)) hx hb dX3_faultOf_53 (by decide) ?_
          refine lv_aload_n hx hb dX3_faultOf_54 rfl (lv_at hl 1 rfl) ?_
          refine va_get hx hb hts in_X3 hown hK hP 0 rfl rfl 16 (Nat.le_of_ble_eq_true rfl) (hts _ q1234) (fun _ h => h) (v := .int (fd 16)) rfl dX3_faultOf_55 ?_
          refine lv_isub hx hb dX3_faultOf_58 ?_
          exact rt_i F dX3_faultOf_59 rfl () h hP hD hS (Nat.le_refl _) (Nat.le_refl _)
        · replace h := h.2 c2
          refine lv_iconst (v := (0 : Int32)) hx hb dX3_faultOf_49 (by decide) ?_
          refine lv_goto (tgt := 59) hx hb dX3_faultOf_50 (by decide) ?_
          exact rt_i F dX3_faultOf_59 rfl () h hP hD hS (Nat.le_refl _) (Nat.le_refl _)
      · replace h := h.2 c3
        refine lv_iconst (v := (-1 : Int32)) hx hb dX3_faultOf_40 (by decide) ?_
        refine lv_iload_n hx hb dX3_faultOf_41 rfl (lv_at hl 3 rfl) ?_
        refine lv_isub hx hb dX3_faultOf_42 ?_
        exact rt_i F dX3_faultOf_43 rfl () h hP hD hS (Nat.le_refl _) (Nat.le_refl _)
set_option maxHeartbeats 4000000 in
theorem lp_M_faultOf_J1 {p : Program} {l : Launch} {e : Env} {R : Room} {s : State} {m : MethodId} {args : Array Value} {below : List Frame} {meth : Method} {c : Code} {cells slots : Nat} {A : Nat → Prop} {V : evT} {D : va_G} {gI : Nat → ClassId} {o : Nat} {ad : Nat → Nat} {v1 : Int32} {v2 : Int32} {fd : Nat → Int32} {ar : Nat → Nat → Int32} {lw : Nat → Int64} {Q : Int32 → Prop} (F : ct_F p m c meth cX3_faultOf 5 s args RX3 (some .int) A V D vwCl (tyL gI)) (hRf : 1 ≤ R.frames) (hRl : 12 ≤ R.locals) (hC : cells ≤ R.cells) (hSl : slots ≤ R.slots) :
    wp_M_faultOf_J1 v1 v2 fd ar lw Q → ∀ (H : Heap) (locs : List Loc) (ls : Array Slot), va_P D vwCl (wm gI o ad fd ar lw) H → va_D A (wm gI o ad fd ar lw) → va_S A s.heap H locs → lv_has ls 5 [(0, .ref o), (1, .int v1), (2, .int v2)] → W p l e R s m args below meth c H locs cells slots (MQ below (va_Qi (fun (x : Int32) (u : Unit) => Q x) (fun u t => va_P D vwCl (wm gI o ad fd ar lw) t.heap ∧ va_K D vwCl (tyL gI) t ∧ va_D A (wm gI o ad fd ar lw)) A) args s cells slots A) (F0 m 19 ls []) := by
  obtain ⟨⟨hx, hb, hml, hown, hts⟩, hr, hlocks, hA, hK, hE⟩ := id F
  intro  h H locs ls hP hD hS hl
  unfold wp_M_faultOf_J1 at h
  refine lv_iconst (v := (0 : Int32)) hx hb dX3_faultOf_19 (by decide) ?_
  refine lp_M_faultOf_J2 F hRf hRl hC hSl  _ h _ _ _ hP hD hS (lv_sub hl [0, 1, 2] rfl)
set_option maxHeartbeats 4000000 in
theorem ct_M_faultOf {l : Launch} {V : evT} {D : va_G} {gI : Nat → ClassId} {o : Nat} {ad : Nat → Nat} {v1 : Int32} {v2 : Int32} {v3 : Int32} {fd : Nat → Int32} {ar : Nat → Nat → Int32} {lw : Nat → Int64} {Q : Int32 → Prop} (h : wp_M_faultOf v1 v2 v3 fd ar lw Q) : ct_i l V D vwCl (tyL gI) yX3_faultOf cX3_faultOf 5 .int { frames := 1, cells := 0, slots := 0, locals := 12 } [.ref o, .int v1, .int v2, .int v3] (wm gI o ad fd ar lw) (fun u : Unit => (wm gI o ad fd ar lw)) (fun (x : Int32) (u : Unit) => Q x) := by
  refine ct_ofi RX3 rfl (by decide +kernel) (Nat.le_of_ble_eq_true rfl) ?_
  intro p e s m args below meth c A F hP hD ls hl
  obtain ⟨⟨hx, hb, hml, hown, hts⟩, hr, hlocks, hA, hK, hE⟩ := id F
  have hS : va_S A s.heap s.heap [] := va_S.rf
  have hl : lv_has ls 5 [(0, .ref o), (1, .int v1), (2, .int v2), (3, .int v3)] := hl
  have hRf : 1 ≤ ({ frames := 1, cells := 0, slots := 0, locals := 12 } : Room).frames := Nat.le_refl _
  have hRl : 12 ≤ ({ frames := 1, cells := 0, slots := 0, locals := 12 } : Room).locals := Nat.le_refl _
  have hC : 0 ≤ ({ frames := 1, cells := 0, slots := 0, locals := 12 } : Room).cells := Nat.le_refl _
  have hSl : 0 ≤ ({ frames := 1, cells := 0, slots := 0, locals := 12 } : Room).slots := Nat.le_refl _
  unfold wp_M_faultOf at h
  refine lv_iload_n hx hb dX3_faultOf_0 rfl (lv_at hl 3 rfl) ?_
  refine lv_if_eq (tgt := 19) hx hb dX3_faultOf_1 (by decide) (fun c7 => ?_) (fun c7 => ?_)
  · replace h := h.1 c7
    refine lp_M_faultOf_J1 F hRf hRl hC hSl   h _ _ _ hP hD hS (lv_sub hl [0, 1, 2] rfl)
  · replace h := h.2 c7
    refine lv_aload_n hx hb dX3_faultOf_4 rfl (lv_at hl 0 rfl) ?_
    refine va_get hx hb hts in_X3 hown hK hP 0 rfl rfl 16 (Nat.le_of_ble_eq_true rfl) (hts _ q1234) (fun _ h => h) (v := .int (fd 16)) rfl dX3_faultOf_5 ?_
    refine lv_aload_n hx hb dX3_faultOf_8 rfl (lv_at hl 0 rfl) ?_
    refine va_get hx hb hts in_X3 hown hK hP 0 rfl rfl 17 (Nat.le_of_ble_eq_true rfl) (hts _ q1235) (fun _ h => h) (v := .int (fd 17)) rfl dX3_faultOf_9 ?_
    refine lv_icmp_ne (tgt := 19) hx hb dX3_faultOf_12 (by decide) (fun c6 => ?_) (fun c6 => ?_)
    · replace h := h.1 c6
      refine lp_M_faultOf_J1 F hRf hRl hC hSl   h _ _ _ hP hD hS (lv_sub hl [0, 1, 2] rfl)
    · replace h := h.2 c6
      refine lv_iconst (v := (1 : Int32)) hx hb dX3_faultOf_15 (by decide) ?_
      refine lv_goto (tgt := 20) hx hb dX3_faultOf_16 (by decide) ?_
      refine lp_M_faultOf_J2 F hRf hRl hC hSl  _ h _ _ _ hP hD hS (lv_sub hl [0, 1, 2] rfl)
set_option maxHeartbeats 4000000 in
theorem ct_M_codes {l : Launch} {V : evT} {D : va_G} {gI : Nat → ClassId} {o : Nat} {ad : Nat → Nat} {v1 : Int32} {fd : Nat → Int32} {ar : Nat → Nat → Int32} {lw : Nat → Int64} {Q : (Nat → Int32) → (Nat → Nat → Int32) → Prop} (h : wp_M_codes v1 fd ar lw Q) : ct_v l V D vwCl (tyL gI) yX3_codes cX3_codes 2 { frames := 1, cells := 0, slots := 0, locals := 12 } [.ref o, .int v1] (wm gI o ad fd ar lw) (fun u : (Nat → Int32) × (Nat → Nat → Int32) => (wm gI o ad u.1 u.2 lw)) (fun (u : (Nat → Int32) × (Nat → Nat → Int32)) => Q u.1 u.2) := by
  refine ct_ofv RX3 rfl (by decide +kernel) (Nat.le_of_ble_eq_true rfl) ?_
  intro p e s m args below meth c A F _ hP hD ls hl
  obtain ⟨⟨hx, hb, hml, hown, hts⟩, hr, hlocks, hA, hK, hE⟩ := id F
  have hS : va_S A s.heap s.heap [] := va_S.rf
  have hl : lv_has ls 2 [(0, .ref o), (1, .int v1)] := hl
  have hRf : 1 ≤ ({ frames := 1, cells := 0, slots := 0, locals := 12 } : Room).frames := Nat.le_refl _
  have hRl : 12 ≤ ({ frames := 1, cells := 0, slots := 0, locals := 12 } : Room).locals := Nat.le_refl _
  have hC : 0 ≤ ({ frames := 1, cells := 0, slots := 0, locals := 12 } : Room).cells := Nat.le_refl _
  have hSl : 0 ≤ ({ frames := 1, cells := 0, slots := 0, locals := 12 } : Room).slots := Nat.le_refl _
  unfold wp_M_codes at h
  refine lv_aload_n hx hb dX3_codes_0 rfl (lv_at hl 0 rfl) ?_
  refine va_get hx hb hts in_X3 hown hK hP 0 rfl rfl 22 (Nat.le_of_ble_eq_true rfl) (hts _ q1240) (fun _ h => h) (v := .ref (ad 22)) rfl dX3_codes_1 ?_
  refine lv_aload_n hx hb dX3_codes_4 rfl (lv_at hl 0 rfl) ?_
  refine va_get hx hb hts in_X3 hown hK hP 0 rfl rfl 24 (Nat.le_of_ble_eq_true rfl) (hts _ q1242) (fun _ h => h) (v := .int (fd 24)) rfl dX3_codes_5 ?_
  refine lv_iload_n hx hb dX3_codes_8 rfl (lv_at hl 1 rfl) ?_
  refine pt_iast (f := (ar 22)) hx hb hK hP hD hS 13 0 rfl rfl h.1 dX3_codes_9 wmA_22 (fun H locs hP hD hS => ?_)
  replace h := h.2
  refine lv_aload_n hx hb dX3_codes_10 rfl (lv_at hl 0 rfl) ?_
  refine lv_dup hx hb dX3_codes_11 rfl ?_
  refine va_get hx hb hts in_X3 hown hK hP 0 rfl rfl 24 (Nat.le_of_ble_eq_true rfl) (hts _ q1242) (fun _ h => h) (v := .int (fd 24)) rfl dX3_codes_12 ?_
  refine lv_iconst (v := (1 : Int32)) hx hb dX3_codes_15 (by decide) ?_
  refine lv_iadd hx hb dX3_codes_16 ?_
  refine pt_put (v := .int ((fd 24) + (1 : Int32))) hx hb hts in_X3 tyX3 tyX3_ok nmX3 hown hK hP hD hS 0 rfl rfl 24 (Nat.le_of_ble_eq_true rfl) (hts _ q1242) (fun _ h => h) rfl (ty := .int) (by decide +kernel) rfl rfl (Nat.le_of_ble_eq_true rfl) dX3_codes_17 wmF_24 (fun H locs hP hD hS => ?_)
  exact rt_v F dX3_codes_20 ((upd fd 24 ((fd 24) + (1 : Int32))), (va_up ar 22 (upd (ar 22) (fd 24).toNatClampNeg v1))) h hP hD hS (Nat.le_refl _) (Nat.le_refl _)
set_option maxHeartbeats 4000000 in
theorem lp_M_among_L1_i0 {p : Program} {l : Launch} {e : Env} {R : Room} {s : State} {m : MethodId} {args : Array Value} {below : List Frame} {meth : Method} {c : Code} {cells slots : Nat} {A : Nat → Prop} {Qf : State → Prop} {V : evT} {D : va_G} {gI : Nat → ClassId} {o : Nat} {ad : Nat → Nat} {fd : Nat → Int32} {ar : Nat → Nat → Int32} {lw : Nat → Int64} {K46 : Prop} {K38 : (Int32) → Prop} (F : ct_F p m c meth cX3_among 3 s args RX3 (some .int) A V D vwCl (tyL gI)) (hRf : 5 ≤ R.frames) (hRl : 97 ≤ R.locals) (hC : cells ≤ R.cells) (hSl : slots ≤ R.slots)
    (hK46 : K46 → ∀ (H : Heap) (locs : List Loc) (ls : Array Slot), va_P D vwCl (wm gI o ad fd ar lw) H → va_D A (wm gI o ad fd ar lw) → va_S A s.heap H locs → lv_has ls 3 [] → W p l e R s m args below meth c H locs cells slots Qf (F0 m 46 ls []))
    (hK38 : ∀ (v2 : Int32), K38 v2 → ∀ (H : Heap) (locs : List Loc) (ls : Array Slot), va_P D vwCl (wm gI o ad fd ar lw) H → va_D A (wm gI o ad fd ar lw) → va_S A s.heap H locs → lv_has ls 3 [(2, .int v2)] → W p l e R s m args below meth c H locs cells slots Qf (F0 m 38 ls [])) :
    ∀ (n : Nat) (v2 : Int32), wp_M_among_L1 0 fd ar lw K46 K38 n v2 → ∀ (H : Heap) (locs : List Loc) (ls : Array Slot), va_P D vwCl (wm gI o ad fd ar lw) H → va_D A (wm gI o ad fd ar lw) → va_S A s.heap H locs → lv_has ls 3 [(0, .ref o), (1, .ref (V.1 0)), (2, .int v2)] → W p l e R s m args below meth c H locs cells slots Qf (F0 m 2 ls []) := by
  obtain ⟨⟨hx, hb, hml, hown, hts⟩, hr, hlocks, hA, hK, hE⟩ := id F
  intro n
  induction n with
  | zero => intro v2 h; exact h.elim
  | succ n ih =>
    intro v2 h H locs ls hP hD hS hl
    unfold wp_M_among_L1 at h
    refine lv_iload_n hx hb dX3_among_2 rfl (lv_at hl 2 rfl) ?_
    refine lv_aload_n hx hb dX3_among_3 rfl (lv_at hl 1 rfl) ?_
    refine cl_i0 F (va_runV (As := []) (rest := [.int v2]) ⟨hx, hb, hml, hown, hts⟩ (ct_J4_length_i0 h _) (cwV 0 hts (lw_V q1469 q836 q837 q106 q838) rfl rfl rfl (by decide +kernel) ⟨Nat.le_trans (Nat.le_of_ble_eq_true rfl) hRf, Nat.le_trans (Nat.le_of_ble_eq_true rfl) hRl⟩) ⟨ct_blind, vk_recv (N := 1) (i := 0) (hE.2.2.1 0 _ rfl).2 (by decide) hS, ct_at F hS ct_nP ct_nD⟩ rfl rfl hl.1 rfl (lv_room (Nat.le_of_ble_eq_true rfl)) dX3_among_4 ⟨hC, hSl⟩) rfl rfl hP hS ?_
    rintro x1 _ H locs h hP hS
    refine lv_icmp_ge (tgt := 46) hx hb dX3_among_7 (by decide) (fun c5 => ?_) (fun c5 => ?_)
    · replace h := h.1 c5
      exact hK46  h _ _ _ hP hD hS (lv_sub hl [] rfl)
    · replace h := h.2 c5
      refine lv_aload_n hx hb dX3_among_10 rfl (lv_at hl 0 rfl) ?_
      refine va_get hx hb hts in_X3 hown hK hP 0 rfl rfl 16 (Nat.le_of_ble_eq_true rfl) (hts _ q1234) (fun _ h => h) (v := .int (fd 16)) rfl dX3_among_11 ?_
      refine lv_aload_n hx hb dX3_among_14 rfl (lv_at hl 0 rfl) ?_
      refine va_get hx hb hts in_X3 hown hK hP 0 rfl rfl 17 (Nat.le_of_ble_eq_true rfl) (hts _ q1235) (fun _ h => h) (v := .int (fd 17)) rfl dX3_among_15 ?_
      refine lv_icmp_ge (tgt := 46) hx hb dX3_among_18 (by decide) (fun c4 => ?_) (fun c4 => ?_)
      · replace h := h.1 c4
        exact hK46  h _ _ _ hP hD hS (lv_sub hl [] rfl)
      · replace h := h.2 c4
        refine lv_aload_n hx hb dX3_among_21 rfl (lv_at hl 1 rfl) ?_
        refine lv_iload_n hx hb dX3_among_22 rfl (lv_at hl 2 rfl) ?_
        refine cl_i0 F (va_runV (As := [.int v2]) (rest := []) ⟨hx, hb, hml, hown, hts⟩ (ct_J4_charAt_i0 h _) (cwV 1 hts (lw_V q1470 q1471 q1472 q106 q1473) rfl rfl rfl (by decide +kernel) ⟨Nat.le_trans (Nat.le_of_ble_eq_true rfl) hRf, Nat.le_trans (Nat.le_of_ble_eq_true rfl) hRl⟩) ⟨ct_blind, vk_recv (N := 1) (i := 0) (hE.2.2.1 0 _ rfl).2 (by decide) hS, ct_at F hS ct_nP ct_nD⟩ rfl rfl hl.1 rfl (lv_room (Nat.le_of_ble_eq_true rfl)) dX3_among_23 ⟨hC, hSl⟩) rfl rfl hP hS ?_
        rintro x2 _ H locs h hP hS
        refine lv_aload_n hx hb dX3_among_26 rfl (lv_at hl 0 rfl) ?_
        refine va_get hx hb hts in_X3 hown hK hP 0 rfl rfl 14 (Nat.le_of_ble_eq_true rfl) (hts _ q1232) (fun _ h => h) (v := .ref (ad 14)) rfl dX3_among_27 ?_
        refine lv_aload_n hx hb dX3_among_30 rfl (lv_at hl 0 rfl) ?_
        refine va_get hx hb hts in_X3 hown hK hP 0 rfl rfl 16 (Nat.le_of_ble_eq_true rfl) (hts _ q1234) (fun _ h => h) (v := .int (fd 16)) rfl dX3_among_31 ?_
        refine va_iald (f := (ar 14)) hx hb hK hP 10 0 rfl rfl h.1 dX3_among_34 ?_
        replace h := h.2
        refine lv_icmp_ne (tgt := 40) hx hb dX3_among_35 (by decide) (fun c3 => ?_) (fun c3 => ?_)
        · replace h := h.1 c3
          refine lv_iinc (v := (v2 + (1 : Int32))) (lv' := [(2, .int (v2 + (1 : Int32))), (0, .ref o), (1, .ref (V.1 0))]) hx hb dX3_among_40 hl (k := 2) rfl rfl (by decide) rfl (fun ls hl => ?_)
          refine lv_goto (tgt := 2) hx hb dX3_among_43 (by decide) ?_
          exact ih _ h _ _ _ hP hD hS (lv_sub hl [1, 2, 0] rfl)
        · replace h := h.2 c3
          exact hK38 _ h _ _ _ hP hD hS (lv_sub hl [2] rfl)
set_option maxHeartbeats 4000000 in
theorem ct_M_among_i0 {l : Launch} {V : evT} {D : va_G} {gI : Nat → ClassId} {o : Nat} {ad : Nat → Nat} {fd : Nat → Int32} {ar : Nat → Nat → Int32} {lw : Nat → Int64} {Q : Int32 → Prop} (h : wp_M_among 0 fd ar lw Q) : ct_i l V D vwCl (tyL gI) yX3_among cX3_among 3 .int { frames := 5, cells := 0, slots := 0, locals := 97 } [.ref o, .ref (V.1 0)] (wm gI o ad fd ar lw) (fun u : Unit => (wm gI o ad fd ar lw)) (fun (x : Int32) (u : Unit) => Q x) := by
  refine ct_ofi RX3 rfl (by decide +kernel) (Nat.le_of_ble_eq_true rfl) ?_
  intro p e s m args below meth c A F hP hD ls hl
  obtain ⟨⟨hx, hb, hml, hown, hts⟩, hr, hlocks, hA, hK, hE⟩ := id F
  have hS : va_S A s.heap s.heap [] := va_S.rf
  have hl : lv_has ls 3 [(0, .ref o), (1, .ref (V.1 0))] := hl
  have hRf : 5 ≤ ({ frames := 5, cells := 0, slots := 0, locals := 97 } : Room).frames := Nat.le_refl _
  have hRl : 97 ≤ ({ frames := 5, cells := 0, slots := 0, locals := 97 } : Room).locals := Nat.le_refl _
  have hC : 0 ≤ ({ frames := 5, cells := 0, slots := 0, locals := 97 } : Room).cells := Nat.le_refl _
  have hSl : 0 ≤ ({ frames := 5, cells := 0, slots := 0, locals := 97 } : Room).slots := Nat.le_refl _
  unfold wp_M_among at h
  refine lv_iconst (v := (0 : Int32)) hx hb dX3_among_0 (by decide) ?_
  refine lv_istore_n (lv' := [(2, .int (0 : Int32)), (0, .ref o), (1, .ref (V.1 0))]) hx hb dX3_among_1 rfl hl (by decide) rfl (fun ls hl => ?_)
  obtain ⟨k2, h⟩ := h
  refine lp_M_among_L1_i0 F hRf hRl hC hSl ?hk46 ?hk38 k2 _ h _ _ _ hP hD hS (lv_sub hl [1, 2, 0] rfl)
  case hk46 =>
    intro h H locs ls hP hD hS hl
    refine lv_iconst (v := (-1 : Int32)) hx hb dX3_among_46 (by decide) ?_
    exact rt_i F dX3_among_47 rfl () h hP hD hS (Nat.le_refl _) (Nat.le_refl _)
  case hk38 =>
    intro v2_6 h H locs ls hP hD hS hl
    refine lv_iload_n hx hb dX3_among_38 rfl (lv_at hl 0 rfl) ?_
    exact rt_i F dX3_among_39 rfl () h hP hD hS (Nat.le_refl _) (Nat.le_refl _)
set_option maxHeartbeats 4000000 in
theorem lp_M_among_L1_i1 {p : Program} {l : Launch} {e : Env} {R : Room} {s : State} {m : MethodId} {args : Array Value} {below : List Frame} {meth : Method} {c : Code} {cells slots : Nat} {A : Nat → Prop} {Qf : State → Prop} {V : evT} {D : va_G} {gI : Nat → ClassId} {o : Nat} {ad : Nat → Nat} {fd : Nat → Int32} {ar : Nat → Nat → Int32} {lw : Nat → Int64} {K46 : Prop} {K38 : (Int32) → Prop} (F : ct_F p m c meth cX3_among 3 s args RX3 (some .int) A V D vwCl (tyL gI)) (hRf : 5 ≤ R.frames) (hRl : 97 ≤ R.locals) (hC : cells ≤ R.cells) (hSl : slots ≤ R.slots)
    (hK46 : K46 → ∀ (H : Heap) (locs : List Loc) (ls : Array Slot), va_P D vwCl (wm gI o ad fd ar lw) H → va_D A (wm gI o ad fd ar lw) → va_S A s.heap H locs → lv_has ls 3 [] → W p l e R s m args below meth c H locs cells slots Qf (F0 m 46 ls []))
    (hK38 : ∀ (v2 : Int32), K38 v2 → ∀ (H : Heap) (locs : List Loc) (ls : Array Slot), va_P D vwCl (wm gI o ad fd ar lw) H → va_D A (wm gI o ad fd ar lw) → va_S A s.heap H locs → lv_has ls 3 [(2, .int v2)] → W p l e R s m args below meth c H locs cells slots Qf (F0 m 38 ls [])) :
    ∀ (n : Nat) (v2 : Int32), wp_M_among_L1 1 fd ar lw K46 K38 n v2 → ∀ (H : Heap) (locs : List Loc) (ls : Array Slot), va_P D vwCl (wm gI o ad fd ar lw) H → va_D A (wm gI o ad fd ar lw) → va_S A s.heap H locs → lv_has ls 3 [(0, .ref o), (1, .ref (V.1 1)), (2, .int v2)] → W p l e R s m args below meth c H locs cells slots Qf (F0 m 2 ls []) := by
  obtain ⟨⟨hx, hb, hml, hown, hts⟩, hr, hlocks, hA, hK, hE⟩ := id F
  intro n
  induction n with
  | zero => intro v2 h; exact h.elim
  | succ n ih =>
    intro v2 h H locs ls hP hD hS hl
    unfold wp_M_among_L1 at h
    refine lv_iload_n hx hb dX3_among_2 rfl (lv_at hl 2 rfl) ?_
    refine lv_aload_n hx hb dX3_among_3 rfl (lv_at hl 1 rfl) ?_
    refine cl_i0 F (va_runV (As := []) (rest := [.int v2]) ⟨hx, hb, hml, hown, hts⟩ (ct_J4_length_i1 h _) (cwV 0 hts (lw_V q1469 q836 q837 q106 q838) rfl rfl rfl (by decide +kernel) ⟨Nat.le_trans (Nat.le_of_ble_eq_true rfl) hRf, Nat.le_trans (Nat.le_of_ble_eq_true rfl) hRl⟩) ⟨ct_blind, vk_recv (N := 1) (i := 0) (hE.2.2.1 1 _ rfl).2 (by decide) hS, ct_at F hS ct_nP ct_nD⟩ rfl rfl hl.1 rfl (lv_room (Nat.le_of_ble_eq_true rfl)) dX3_among_4 ⟨hC, hSl⟩) rfl rfl hP hS ?_
    rintro x1 _ H locs h hP hS
    refine lv_icmp_ge (tgt := 46) hx hb dX3_among_7 (by decide) (fun c5 => ?_) (fun c5 => ?_)
    · replace h := h.1 c5
      exact hK46  h _ _ _ hP hD hS (lv_sub hl [] rfl)
    · replace h := h.2 c5
      refine lv_aload_n hx hb dX3_among_10 rfl (lv_at hl 0 rfl) ?_
      refine va_get hx hb hts in_X3 hown hK hP 0 rfl rfl 16 (Nat.le_of_ble_eq_true rfl) (hts _ q1234) (fun _ h => h) (v := .int (fd 16)) rfl dX3_among_11 ?_
      refine lv_aload_n hx hb dX3_among_14 rfl (lv_at hl 0 rfl) ?_
      refine va_get hx hb hts in_X3 hown hK hP 0 rfl rfl 17 (Nat.le_of_ble_eq_true rfl) (hts _ q1235) (fun _ h => h) (v := .int (fd 17)) rfl dX3_among_15 ?_
      refine lv_icmp_ge (tgt := 46) hx hb dX3_among_18 (by decide) (fun c4 => ?_) (fun c4 => ?_)
      · replace h := h.1 c4
        exact hK46  h _ _ _ hP hD hS (lv_sub hl [] rfl)
      · replace h := h.2 c4
        refine lv_aload_n hx hb dX3_among_21 rfl (lv_at hl 1 rfl) ?_
        refine lv_iload_n hx hb dX3_among_22 rfl (lv_at hl 2 rfl) ?_
        refine cl_i0 F (va_runV (As := [.int v2]) (rest := []) ⟨hx, hb, hml, hown, hts⟩ (ct_J4_charAt_i1 h _) (cwV 1 hts (lw_V q1470 q1471 q1472 q106 q1473) rfl rfl rfl (by decide +kernel) ⟨Nat.le_trans (Nat.le_of_ble_eq_true rfl) hRf, Nat.le_trans (Nat.le_of_ble_eq_true rfl) hRl⟩) ⟨ct_blind, vk_recv (N := 1) (i := 0) (hE.2.2.1 1 _ rfl).2 (by decide) hS, ct_at F hS ct_nP ct_nD⟩ rfl rfl hl.1 rfl (lv_room (Nat.le_of_ble_eq_true rfl)) dX3_among_23 ⟨hC, hSl⟩) rfl rfl hP hS ?_
        rintro x2 _ H locs h hP hS
        refine lv_aload_n hx hb dX3_among_26 rfl (lv_at hl 0 rfl) ?_
        refine va_get hx hb hts in_X3 hown hK hP 0 rfl rfl 14 (Nat.le_of_ble_eq_true rfl) (hts _ q1232) (fun _ h => h) (v := .ref (ad 14)) rfl dX3_among_27 ?_
        refine lv_aload_n hx hb dX3_among_30 rfl (lv_at hl 0 rfl) ?_
        refine va_get hx hb hts in_X3 hown hK hP 0 rfl rfl 16 (Nat.le_of_ble_eq_true rfl) (hts _ q1234) (fun _ h => h) (v := .int (fd 16)) rfl dX3_among_31 ?_
        refine va_iald (f := (ar 14)) hx hb hK hP 10 0 rfl rfl h.1 dX3_among_34 ?_
        replace h := h.2
        refine lv_icmp_ne (tgt := 40) hx hb dX3_among_35 (by decide) (fun c3 => ?_) (fun c3 => ?_)
        · replace h := h.1 c3
          refine lv_iinc (v := (v2 + (1 : Int32))) (lv' := [(2, .int (v2 + (1 : Int32))), (0, .ref o), (1, .ref (V.1 1))]) hx hb dX3_among_40 hl (k := 2) rfl rfl (by decide) rfl (fun ls hl => ?_)
          refine lv_goto (tgt := 2) hx hb dX3_among_43 (by decide) ?_
          exact ih _ h _ _ _ hP hD hS (lv_sub hl [1, 2, 0] rfl)
        · replace h := h.2 c3
          exact hK38 _ h _ _ _ hP hD hS (lv_sub hl [2] rfl)
set_option maxHeartbeats 4000000 in
theorem ct_M_among_i1 {l : Launch} {V : evT} {D : va_G} {gI : Nat → ClassId} {o : Nat} {ad : Nat → Nat} {fd : Nat → Int32} {ar : Nat → Nat → Int32} {lw : Nat → Int64} {Q : Int32 → Prop} (h : wp_M_among 1 fd ar lw Q) : ct_i l V D vwCl (tyL gI) yX3_among cX3_among 3 .int { frames := 5, cells := 0, slots := 0, locals := 97 } [.ref o, .ref (V.1 1)] (wm gI o ad fd ar lw) (fun u : Unit => (wm gI o ad fd ar lw)) (fun (x : Int32) (u : Unit) => Q x) := by
  refine ct_ofi RX3 rfl (by decide +kernel) (Nat.le_of_ble_eq_true rfl) ?_
  intro p e s m args below meth c A F hP hD ls hl
  obtain ⟨⟨hx, hb, hml, hown, hts⟩, hr, hlocks, hA, hK, hE⟩ := id F
  have hS : va_S A s.heap s.heap [] := va_S.rf
  have hl : lv_has ls 3 [(0, .ref o), (1, .ref (V.1 1))] := hl
  have hRf : 5 ≤ ({ frames := 5, cells := 0, slots := 0, locals := 97 } : Room).frames := Nat.le_refl _
  have hRl : 97 ≤ ({ frames := 5, cells := 0, slots := 0, locals := 97 } : Room).locals := Nat.le_refl _
  have hC : 0 ≤ ({ frames := 5, cells := 0, slots := 0, locals := 97 } : Room).cells := Nat.le_refl _
  have hSl : 0 ≤ ({ frames := 5, cells := 0, slots := 0, locals := 97 } : Room).slots := Nat.le_refl _
  unfold wp_M_among at h
  refine lv_iconst (v := (0 : Int32)) hx hb dX3_among_0 (by decide) ?_
  refine lv_istore_n (lv' := [(2, .int (0 : Int32)), (0, .ref o), (1, .ref (V.1 1))]) hx hb dX3_among_1 rfl hl (by decide) rfl (fun ls hl => ?_)
  obtain ⟨k2, h⟩ := h
  refine lp_M_among_L1_i1 F hRf hRl hC hSl ?hk46 ?hk38 k2 _ h _ _ _ hP hD hS (lv_sub hl [1, 2, 0] rfl)
  case hk46 =>
    intro h H locs ls hP hD hS hl
    refine lv_iconst (v := (-1 : Int32)) hx hb dX3_among_46 (by decide) ?_
    exact rt_i F dX3_among_47 rfl () h hP hD hS (Nat.le_refl _) (Nat.le_refl _)
  case hk38 =>
    intro v2_6 h H locs ls hP hD hS hl
    refine lv_iload_n hx hb dX3_among_38 rfl (lv_at hl 0 rfl) ?_
    exact rt_i F dX3_among_39 rfl () h hP hD hS (Nat.le_refl _) (Nat.le_refl _)
set_option maxHeartbeats 4000000 in
theorem lp_M_among_L1_i2 {p : Program} {l : Launch} {e : Env} {R : Room} {s : State} {m : MethodId} {args : Array Value} {below : List Frame} {meth : Method} {c : Code} {cells slots : Nat} {A : Nat → Prop} {Qf : State → Prop} {V : evT} {D : va_G} {gI : Nat → ClassId} {o : Nat} {ad : Nat → Nat} {fd : Nat → Int32} {ar : Nat → Nat → Int32} {lw : Nat → Int64} {K46 : Prop} {K38 : (Int32) → Prop} (F : ct_F p m c meth cX3_among 3 s args RX3 (some .int) A V D vwCl (tyL gI)) (hRf : 5 ≤ R.frames) (hRl : 97 ≤ R.locals) (hC : cells ≤ R.cells) (hSl : slots ≤ R.slots)
    (hK46 : K46 → ∀ (H : Heap) (locs : List Loc) (ls : Array Slot), va_P D vwCl (wm gI o ad fd ar lw) H → va_D A (wm gI o ad fd ar lw) → va_S A s.heap H locs → lv_has ls 3 [] → W p l e R s m args below meth c H locs cells slots Qf (F0 m 46 ls []))
    (hK38 : ∀ (v2 : Int32), K38 v2 → ∀ (H : Heap) (locs : List Loc) (ls : Array Slot), va_P D vwCl (wm gI o ad fd ar lw) H → va_D A (wm gI o ad fd ar lw) → va_S A s.heap H locs → lv_has ls 3 [(2, .int v2)] → W p l e R s m args below meth c H locs cells slots Qf (F0 m 38 ls [])) :
    ∀ (n : Nat) (v2 : Int32), wp_M_among_L1 2 fd ar lw K46 K38 n v2 → ∀ (H : Heap) (locs : List Loc) (ls : Array Slot), va_P D vwCl (wm gI o ad fd ar lw) H → va_D A (wm gI o ad fd ar lw) → va_S A s.heap H locs → lv_has ls 3 [(0, .ref o), (1, .ref (V.1 2)), (2, .int v2)] → W p l e R s m args below meth c H locs cells slots Qf (F0 m 2 ls []) := by
  obtain ⟨⟨hx, hb, hml, hown, hts⟩, hr, hlocks, hA, hK, hE⟩ := id F
  intro n
  induction n with
  | zero => intro v2 h; exact h.elim
  | succ n ih =>
    intro v2 h H locs ls hP hD hS hl
    unfold wp_M_among_L1 at h
    refine lv_iload_n hx hb dX3_among_2 rfl (lv_at hl 2 rfl) ?_
    refine lv_aload_n hx hb dX3_among_3 rfl (lv_at hl 1 rfl) ?_
    refine cl_i0 F (va_runV (As := []) (rest := [.int v2]) ⟨hx, hb, hml, hown, hts⟩ (ct_J4_length_i2 h _) (cwV 0 hts (lw_V q1469 q836 q837 q106 q838) rfl rfl rfl (by decide +kernel) ⟨Nat.le_trans (Nat.le_of_ble_eq_true rfl) hRf, Nat.le_trans (Nat.le_of_ble_eq_true rfl) hRl⟩) ⟨ct_blind, vk_recv (N := 1) (i := 0) (hE.2.2.1 2 _ rfl).2 (by decide) hS, ct_at F hS ct_nP ct_nD⟩ rfl rfl hl.1 rfl (lv_room (Nat.le_of_ble_eq_true rfl)) dX3_among_4 ⟨hC, hSl⟩) rfl rfl hP hS ?_
    rintro x1 _ H locs h hP hS
    refine lv_icmp_ge (tgt := 46) hx hb dX3_among_7 (by decide) (fun c5 => ?_) (fun c5 => ?_)
    · replace h := h.1 c5
      exact hK46  h _ _ _ hP hD hS (lv_sub hl [] rfl)
    · replace h := h.2 c5
      refine lv_aload_n hx hb dX3_among_10 rfl (lv_at hl 0 rfl) ?_
      refine va_get hx hb hts in_X3 hown hK hP 0 rfl rfl 16 (Nat.le_of_ble_eq_true rfl) (hts _ q1234) (fun _ h => h) (v := .int (fd 16)) rfl dX3_among_11 ?_
      refine lv_aload_n hx hb dX3_among_14 rfl (lv_at hl 0 rfl) ?_
      refine va_get hx hb hts in_X3 hown hK hP 0 rfl rfl 17 (Nat.le_of_ble_eq_true rfl) (hts _ q1235) (fun _ h => h) (v := .int (fd 17)) rfl dX3_among_15 ?_
      refine lv_icmp_ge (tgt := 46) hx hb dX3_among_18 (by decide) (fun c4 => ?_) (fun c4 => ?_)
      · replace h := h.1 c4
        exact hK46  h _ _ _ hP hD hS (lv_sub hl [] rfl)
      · replace h := h.2 c4
        refine lv_aload_n hx hb dX3_among_21 rfl (lv_at hl 1 rfl) ?_
        refine lv_iload_n hx hb dX3_among_22 rfl (lv_at hl 2 rfl) ?_
        refine cl_i0 F (va_runV (As := [.int v2]) (rest := []) ⟨hx, hb, hml, hown, hts⟩ (ct_J4_charAt_i2 h _) (cwV 1 hts (lw_V q1470 q1471 q1472 q106 q1473) rfl rfl rfl (by decide +kernel) ⟨Nat.le_trans (Nat.le_of_ble_eq_true rfl) hRf, Nat.le_trans (Nat.le_of_ble_eq_true rfl) hRl⟩) ⟨ct_blind, vk_recv (N := 1) (i := 0) (hE.2.2.1 2 _ rfl).2 (by decide) hS, ct_at F hS ct_nP ct_nD⟩ rfl rfl hl.1 rfl (lv_room (Nat.le_of_ble_eq_true rfl)) dX3_among_23 ⟨hC, hSl⟩) rfl rfl hP hS ?_
        rintro x2 _ H locs h hP hS
        refine lv_aload_n hx hb dX3_among_26 rfl (lv_at hl 0 rfl) ?_
        refine va_get hx hb hts in_X3 hown hK hP 0 rfl rfl 14 (Nat.le_of_ble_eq_true rfl) (hts _ q1232) (fun _ h => h) (v := .ref (ad 14)) rfl dX3_among_27 ?_
        refine lv_aload_n hx hb dX3_among_30 rfl (lv_at hl 0 rfl) ?_
        refine va_get hx hb hts in_X3 hown hK hP 0 rfl rfl 16 (Nat.le_of_ble_eq_true rfl) (hts _ q1234) (fun _ h => h) (v := .int (fd 16)) rfl dX3_among_31 ?_
        refine va_iald (f := (ar 14)) hx hb hK hP 10 0 rfl rfl h.1 dX3_among_34 ?_
        replace h := h.2
        refine lv_icmp_ne (tgt := 40) hx hb dX3_among_35 (by decide) (fun c3 => ?_) (fun c3 => ?_)
        · replace h := h.1 c3
          refine lv_iinc (v := (v2 + (1 : Int32))) (lv' := [(2, .int (v2 + (1 : Int32))), (0, .ref o), (1, .ref (V.1 2))]) hx hb dX3_among_40 hl (k := 2) rfl rfl (by decide) rfl (fun ls hl => ?_)
          refine lv_goto (tgt := 2) hx hb dX3_among_43 (by decide) ?_
          exact ih _ h _ _ _ hP hD hS (lv_sub hl [1, 2, 0] rfl)
        · replace h := h.2 c3
          exact hK38 _ h _ _ _ hP hD hS (lv_sub hl [2] rfl)
set_option maxHeartbeats 4000000 in
theorem ct_M_among_i2 {l : Launch} {V : evT} {D : va_G} {gI : Nat → ClassId} {o : Nat} {ad : Nat → Nat} {fd : Nat → Int32} {ar : Nat → Nat → Int32} {lw : Nat → Int64} {Q : Int32 → Prop} (h : wp_M_among 2 fd ar lw Q) : ct_i l V D vwCl (tyL gI) yX3_among cX3_among 3 .int { frames := 5, cells := 0, slots := 0, locals := 97 } [.ref o, .ref (V.1 2)] (wm gI o ad fd ar lw) (fun u : Unit => (wm gI o ad fd ar lw)) (fun (x : Int32) (u : Unit) => Q x) := by
  refine ct_ofi RX3 rfl (by decide +kernel) (Nat.le_of_ble_eq_true rfl) ?_
  intro p e s m args below meth c A F hP hD ls hl
  obtain ⟨⟨hx, hb, hml, hown, hts⟩, hr, hlocks, hA, hK, hE⟩ := id F
  have hS : va_S A s.heap s.heap [] := va_S.rf
  have hl : lv_has ls 3 [(0, .ref o), (1, .ref (V.1 2))] := hl
  have hRf : 5 ≤ ({ frames := 5, cells := 0, slots := 0, locals := 97 } : Room).frames := Nat.le_refl _
  have hRl : 97 ≤ ({ frames := 5, cells := 0, slots := 0, locals := 97 } : Room).locals := Nat.le_refl _
  have hC : 0 ≤ ({ frames := 5, cells := 0, slots := 0, locals := 97 } : Room).cells := Nat.le_refl _
  have hSl : 0 ≤ ({ frames := 5, cells := 0, slots := 0, locals := 97 } : Room).slots := Nat.le_refl _
  unfold wp_M_among at h
  refine lv_iconst (v := (0 : Int32)) hx hb dX3_among_0 (by decide) ?_
  refine lv_istore_n (lv' := [(2, .int (0 : Int32)), (0, .ref o), (1, .ref (V.1 2))]) hx hb dX3_among_1 rfl hl (by decide) rfl (fun ls hl => ?_)
  obtain ⟨k2, h⟩ := h
  refine lp_M_among_L1_i2 F hRf hRl hC hSl ?hk46 ?hk38 k2 _ h _ _ _ hP hD hS (lv_sub hl [1, 2, 0] rfl)
  case hk46 =>
    intro h H locs ls hP hD hS hl
    refine lv_iconst (v := (-1 : Int32)) hx hb dX3_among_46 (by decide) ?_
    exact rt_i F dX3_among_47 rfl () h hP hD hS (Nat.le_refl _) (Nat.le_refl _)
  case hk38 =>
    intro v2_6 h H locs ls hP hD hS hl
    refine lv_iload_n hx hb dX3_among_38 rfl (lv_at hl 0 rfl) ?_
    exact rt_i F dX3_among_39 rfl () h hP hD hS (Nat.le_refl _) (Nat.le_refl _)
set_option maxHeartbeats 4000000 in
theorem lp_M_among_L1_i3 {p : Program} {l : Launch} {e : Env} {R : Room} {s : State} {m : MethodId} {args : Array Value} {below : List Frame} {meth : Method} {c : Code} {cells slots : Nat} {A : Nat → Prop} {Qf : State → Prop} {V : evT} {D : va_G} {gI : Nat → ClassId} {o : Nat} {ad : Nat → Nat} {fd : Nat → Int32} {ar : Nat → Nat → Int32} {lw : Nat → Int64} {K46 : Prop} {K38 : (Int32) → Prop} (F : ct_F p m c meth cX3_among 3 s args RX3 (some .int) A V D vwCl (tyL gI)) (hRf : 5 ≤ R.frames) (hRl : 97 ≤ R.locals) (hC : cells ≤ R.cells) (hSl : slots ≤ R.slots)
    (hK46 : K46 → ∀ (H : Heap) (locs : List Loc) (ls : Array Slot), va_P D vwCl (wm gI o ad fd ar lw) H → va_D A (wm gI o ad fd ar lw) → va_S A s.heap H locs → lv_has ls 3 [] → W p l e R s m args below meth c H locs cells slots Qf (F0 m 46 ls []))
    (hK38 : ∀ (v2 : Int32), K38 v2 → ∀ (H : Heap) (locs : List Loc) (ls : Array Slot), va_P D vwCl (wm gI o ad fd ar lw) H → va_D A (wm gI o ad fd ar lw) → va_S A s.heap H locs → lv_has ls 3 [(2, .int v2)] → W p l e R s m args below meth c H locs cells slots Qf (F0 m 38 ls [])) :
    ∀ (n : Nat) (v2 : Int32), wp_M_among_L1 3 fd ar lw K46 K38 n v2 → ∀ (H : Heap) (locs : List Loc) (ls : Array Slot), va_P D vwCl (wm gI o ad fd ar lw) H → va_D A (wm gI o ad fd ar lw) → va_S A s.heap H locs → lv_has ls 3 [(0, .ref o), (1, .ref (V.1 3)), (2, .int v2)] → W p l e R s m args below meth c H locs cells slots Qf (F0 m 2 ls []) := by
  obtain ⟨⟨hx, hb, hml, hown, hts⟩, hr, hlocks, hA, hK, hE⟩ := id F
  intro n
  induction n with
  | zero => intro v2 h; exact h.elim
  | succ n ih =>
    intro v2 h H locs ls hP hD hS hl
    unfold wp_M_among_L1 at h
    refine lv_iload_n hx hb dX3_among_2 rfl (lv_at hl 2 rfl) ?_
    refine lv_aload_n hx hb dX3_among_3 rfl (lv_at hl 1 rfl) ?_
    refine cl_i0 F (va_runV (As := []) (rest := [.int v2]) ⟨hx, hb, hml, hown, hts⟩ (ct_J4_length_i3 h _) (cwV 0 hts (lw_V q1469 q836 q837 q106 q838) rfl rfl rfl (by decide +kernel) ⟨Nat.le_trans (Nat.le_of_ble_eq_true rfl) hRf, Nat.le_trans (Nat.le_of_ble_eq_true rfl) hRl⟩) ⟨ct_blind, vk_recv (N := 1) (i := 0) (hE.2.2.1 3 _ rfl).2 (by decide) hS, ct_at F hS ct_nP ct_nD⟩ rfl rfl hl.1 rfl (lv_room (Nat.le_of_ble_eq_true rfl)) dX3_among_4 ⟨hC, hSl⟩) rfl rfl hP hS ?_
    rintro x1 _ H locs h hP hS
    refine lv_icmp_ge (tgt := 46) hx hb dX3_among_7 (by decide) (fun c5 => ?_) (fun c5 => ?_)
    · replace h := h.1 c5
      exact hK46  h _ _ _ hP hD hS (lv_sub hl [] rfl)
    · replace h := h.2 c5
      refine lv_aload_n hx hb dX3_among_10 rfl (lv_at hl 0 rfl) ?_
      refine va_get hx hb hts in_X3 hown hK hP 0 rfl rfl 16 (Nat.le_of_ble_eq_true rfl) (hts _ q1234) (fun _ h => h) (v := .int (fd 16)) rfl dX3_among_11 ?_
      refine lv_aload_n hx hb dX3_among_14 rfl (lv_at hl 0 rfl) ?_
      refine va_get hx hb hts in_X3 hown hK hP 0 rfl rfl 17 (Nat.le_of_ble_eq_true rfl) (hts _ q1235) (fun _ h => h) (v := .int (fd 17)) rfl dX3_among_15 ?_
      refine lv_icmp_ge (tgt := 46) hx hb dX3_among_18 (by decide) (fun c4 => ?_) (fun c4 => ?_)
      · replace h := h.1 c4
        exact hK46  h _ _ _ hP hD hS (lv_sub hl [] rfl)
      · replace h := h.2 c4
        refine lv_aload_n hx hb dX3_among_21 rfl (lv_at hl 1 rfl) ?_
        refine lv_iload_n hx hb dX3_among_22 rfl (lv_at hl 2 rfl) ?_
        refine cl_i0 F (va_runV (As := [.int v2]) (rest := []) ⟨hx, hb, hml, hown, hts⟩ (ct_J4_charAt_i3 h _) (cwV 1 hts (lw_V q1470 q1471 q1472 q106 q1473) rfl rfl rfl (by decide +kernel) ⟨Nat.le_trans (Nat.le_of_ble_eq_true rfl) hRf, Nat.le_trans (Nat.le_of_ble_eq_true rfl) hRl⟩) ⟨ct_blind, vk_recv (N := 1) (i := 0) (hE.2.2.1 3 _ rfl).2 (by decide) hS, ct_at F hS ct_nP ct_nD⟩ rfl rfl hl.1 rfl (lv_room (Nat.le_of_ble_eq_true rfl)) dX3_among_23 ⟨hC, hSl⟩) rfl rfl hP hS ?_
        rintro x2 _ H locs h hP hS
        refine lv_aload_n hx hb dX3_among_26 rfl (lv_at hl 0 rfl) ?_
        refine va_get hx hb hts in_X3 hown hK hP 0 rfl rfl 14 (Nat.le_of_ble_eq_true rfl) (hts _ q1232) (fun _ h => h) (v := .ref (ad 14)) rfl dX3_among_27 ?_
        refine lv_aload_n hx hb dX3_among_30 rfl (lv_at hl 0 rfl) ?_
        refine va_get hx hb hts in_X3 hown hK hP 0 rfl rfl 16 (Nat.le_of_ble_eq_true rfl) (hts _ q1234) (fun _ h => h) (v := .int (fd 16)) rfl dX3_among_31 ?_
        refine va_iald (f := (ar 14)) hx hb hK hP 10 0 rfl rfl h.1 dX3_among_34 ?_
        replace h := h.2
        refine lv_icmp_ne (tgt := 40) hx hb dX3_among_35 (by decide) (fun c3 => ?_) (fun c3 => ?_)
        · replace h := h.1 c3
          refine lv_iinc (v := (v2 + (1 : Int32))) (lv' := [(2, .int (v2 + (1 : Int32))), (0, .ref o), (1, .ref (V.1 3))]) hx hb dX3_among_40 hl (k := 2) rfl rfl (by decide) rfl (fun ls hl => ?_)
          refine lv_goto (tgt := 2) hx hb dX3_among_43 (by decide) ?_
          exact ih _ h _ _ _ hP hD hS (lv_sub hl [1, 2, 0] rfl)
        · replace h := h.2 c3
          exact hK38 _ h _ _ _ hP hD hS (lv_sub hl [2] rfl)
set_option maxHeartbeats 4000000 in
theorem ct_M_among_i3 {l : Launch} {V : evT} {D : va_G} {gI : Nat → ClassId} {o : Nat} {ad : Nat → Nat} {fd : Nat → Int32} {ar : Nat → Nat → Int32} {lw : Nat → Int64} {Q : Int32 → Prop} (h : wp_M_among 3 fd ar lw Q) : ct_i l V D vwCl (tyL gI) yX3_among cX3_among 3 .int { frames := 5, cells := 0, slots := 0, locals := 97 } [.ref o, .ref (V.1 3)] (wm gI o ad fd ar lw) (fun u : Unit => (wm gI o ad fd ar lw)) (fun (x : Int32) (u : Unit) => Q x) := by
  refine ct_ofi RX3 rfl (by decide +kernel) (Nat.le_of_ble_eq_true rfl) ?_
  intro p e s m args below meth c A F hP hD ls hl
  obtain ⟨⟨hx, hb, hml, hown, hts⟩, hr, hlocks, hA, hK, hE⟩ := id F
  have hS : va_S A s.heap s.heap [] := va_S.rf
  have hl : lv_has ls 3 [(0, .ref o), (1, .ref (V.1 3))] := hl
  have hRf : 5 ≤ ({ frames := 5, cells := 0, slots := 0, locals := 97 } : Room).frames := Nat.le_refl _
  have hRl : 97 ≤ ({ frames := 5, cells := 0, slots := 0, locals := 97 } : Room).locals := Nat.le_refl _
  have hC : 0 ≤ ({ frames := 5, cells := 0, slots := 0, locals := 97 } : Room).cells := Nat.le_refl _
  have hSl : 0 ≤ ({ frames := 5, cells := 0, slots := 0, locals := 97 } : Room).slots := Nat.le_refl _
  unfold wp_M_among at h
  refine lv_iconst (v := (0 : Int32)) hx hb dX3_among_0 (by decide) ?_
  refine lv_istore_n (lv' := [(2, .int (0 : Int32)), (0, .ref o), (1, .ref (V.1 3))]) hx hb dX3_among_1 rfl hl (by decide) rfl (fun ls hl => ?_)
  obtain ⟨k2, h⟩ := h
  refine lp_M_among_L1_i3 F hRf hRl hC hSl ?hk46 ?hk38 k2 _ h _ _ _ hP hD hS (lv_sub hl [1, 2, 0] rfl)
  case hk46 =>
    intro h H locs ls hP hD hS hl
    refine lv_iconst (v := (-1 : Int32)) hx hb dX3_among_46 (by decide) ?_
    exact rt_i F dX3_among_47 rfl () h hP hD hS (Nat.le_refl _) (Nat.le_refl _)
  case hk38 =>
    intro v2_6 h H locs ls hP hD hS hl
    refine lv_iload_n hx hb dX3_among_38 rfl (lv_at hl 0 rfl) ?_
    exact rt_i F dX3_among_39 rfl () h hP hD hS (Nat.le_refl _) (Nat.le_refl _)
set_option maxHeartbeats 4000000 in
theorem lp_M_among_L1_i4 {p : Program} {l : Launch} {e : Env} {R : Room} {s : State} {m : MethodId} {args : Array Value} {below : List Frame} {meth : Method} {c : Code} {cells slots : Nat} {A : Nat → Prop} {Qf : State → Prop} {V : evT} {D : va_G} {gI : Nat → ClassId} {o : Nat} {ad : Nat → Nat} {fd : Nat → Int32} {ar : Nat → Nat → Int32} {lw : Nat → Int64} {K46 : Prop} {K38 : (Int32) → Prop} (F : ct_F p m c meth cX3_among 3 s args RX3 (some .int) A V D vwCl (tyL gI)) (hRf : 5 ≤ R.frames) (hRl : 97 ≤ R.locals) (hC : cells ≤ R.cells) (hSl : slots ≤ R.slots)
    (hK46 : K46 → ∀ (H : Heap) (locs : List Loc) (ls : Array Slot), va_P D vwCl (wm gI o ad fd ar lw) H → va_D A (wm gI o ad fd ar lw) → va_S A s.heap H locs → lv_has ls 3 [] → W p l e R s m args below meth c H locs cells slots Qf (F0 m 46 ls []))
    (hK38 : ∀ (v2 : Int32), K38 v2 → ∀ (H : Heap) (locs : List Loc) (ls : Array Slot), va_P D vwCl (wm gI o ad fd ar lw) H → va_D A (wm gI o ad fd ar lw) → va_S A s.heap H locs → lv_has ls 3 [(2, .int v2)] → W p l e R s m args below meth c H locs cells slots Qf (F0 m 38 ls [])) :
    ∀ (n : Nat) (v2 : Int32), wp_M_among_L1 4 fd ar lw K46 K38 n v2 → ∀ (H : Heap) (locs : List Loc) (ls : Array Slot), va_P D vwCl (wm gI o ad fd ar lw) H → va_D A (wm gI o ad fd ar lw) → va_S A s.heap H locs → lv_has ls 3 [(0, .ref o), (1, .ref (V.1 4)), (2, .int v2)] → W p l e R s m args below meth c H locs cells slots Qf (F0 m 2 ls []) := by
  obtain ⟨⟨hx, hb, hml, hown, hts⟩, hr, hlocks, hA, hK, hE⟩ := id F
  intro n
  induction n with
  | zero => intro v2 h; exact h.elim
  | succ n ih =>
    intro v2 h H locs ls hP hD hS hl
    unfold wp_M_among_L1 at h
    refine lv_iload_n hx hb dX3_among_2 rfl (lv_at hl 2 rfl) ?_
    refine lv_aload_n hx hb dX3_among_3 rfl (lv_at hl 1 rfl) ?_
    refine cl_i0 F (va_runV (As := []) (rest := [.int v2]) ⟨hx, hb, hml, hown, hts⟩ (ct_J4_length_i4 h _) (cwV 0 hts (lw_V q1469 q836 q837 q106 q838) rfl rfl rfl (by decide +kernel) ⟨Nat.le_trans (Nat.le_of_ble_eq_true rfl) hRf, Nat.le_trans (Nat.le_of_ble_eq_true rfl) hRl⟩) ⟨ct_blind, vk_recv (N := 1) (i := 0) (hE.2.2.1 4 _ rfl).2 (by decide) hS, ct_at F hS ct_nP ct_nD⟩ rfl rfl hl.1 rfl (lv_room (Nat.le_of_ble_eq_true rfl)) dX3_among_4 ⟨hC, hSl⟩) rfl rfl hP hS ?_
    rintro x1 _ H locs h hP hS
    refine lv_icmp_ge (tgt := 46) hx hb dX3_among_7 (by decide) (fun c5 => ?_) (fun c5 => ?_)
    · replace h := h.1 c5
      exact hK46  h _ _ _ hP hD hS (lv_sub hl [] rfl)
    · replace h := h.2 c5
      refine lv_aload_n hx hb dX3_among_10 rfl (lv_at hl 0 rfl) ?_
      refine va_get hx hb hts in_X3 hown hK hP 0 rfl rfl 16 (Nat.le_of_ble_eq_true rfl) (hts _ q1234) (fun _ h => h) (v := .int (fd 16)) rfl dX3_among_11 ?_
      refine lv_aload_n hx hb dX3_among_14 rfl (lv_at hl 0 rfl) ?_
      refine va_get hx hb hts in_X3 hown hK hP 0 rfl rfl 17 (Nat.le_of_ble_eq_true rfl) (hts _ q1235) (fun _ h => h) (v := .int (fd 17)) rfl dX3_among_15 ?_
      refine lv_icmp_ge (tgt := 46) hx hb dX3_among_18 (by decide) (fun c4 => ?_) (fun c4 => ?_)
      · replace h := h.1 c4
        exact hK46  h _ _ _ hP hD hS (lv_sub hl [] rfl)
      · replace h := h.2 c4
        refine lv_aload_n hx hb dX3_among_21 rfl (lv_at hl 1 rfl) ?_
        refine lv_iload_n hx hb dX3_among_22 rfl (lv_at hl 2 rfl) ?_
        refine cl_i0 F (va_runV (As := [.int v2]) (rest := []) ⟨hx, hb, hml, hown, hts⟩ (ct_J4_charAt_i4 h _) (cwV 1 hts (lw_V q1470 q1471 q1472 q106 q1473) rfl rfl rfl (by decide +kernel) ⟨Nat.le_trans (Nat.le_of_ble_eq_true rfl) hRf, Nat.le_trans (Nat.le_of_ble_eq_true rfl) hRl⟩) ⟨ct_blind, vk_recv (N := 1) (i := 0) (hE.2.2.1 4 _ rfl).2 (by decide) hS, ct_at F hS ct_nP ct_nD⟩ rfl rfl hl.1 rfl (lv_room (Nat.le_of_ble_eq_true rfl)) dX3_among_23 ⟨hC, hSl⟩) rfl rfl hP hS ?_
        rintro x2 _ H locs h hP hS
        refine lv_aload_n hx hb dX3_among_26 rfl (lv_at hl 0 rfl) ?_
        refine va_get hx hb hts in_X3 hown hK hP 0 rfl rfl 14 (Nat.le_of_ble_eq_true rfl) (hts _ q1232) (fun _ h => h) (v := .ref (ad 14)) rfl dX3_among_27 ?_
        refine lv_aload_n hx hb dX3_among_30 rfl (lv_at hl 0 rfl) ?_
        refine va_get hx hb hts in_X3 hown hK hP 0 rfl rfl 16 (Nat.le_of_ble_eq_true rfl) (hts _ q1234) (fun _ h => h) (v := .int (fd 16)) rfl dX3_among_31 ?_
        refine va_iald (f := (ar 14)) hx hb hK hP 10 0 rfl rfl h.1 dX3_among_34 ?_
        replace h := h.2
        refine lv_icmp_ne (tgt := 40) hx hb dX3_among_35 (by decide) (fun c3 => ?_) (fun c3 => ?_)
        · replace h := h.1 c3
          refine lv_iinc (v := (v2 + (1 : Int32))) (lv' := [(2, .int (v2 + (1 : Int32))), (0, .ref o), (1, .ref (V.1 4))]) hx hb dX3_among_40 hl (k := 2) rfl rfl (by decide) rfl (fun ls hl => ?_)
          refine lv_goto (tgt := 2) hx hb dX3_among_43 (by decide) ?_
          exact ih _ h _ _ _ hP hD hS (lv_sub hl [1, 2, 0] rfl)
        · replace h := h.2 c3
          exact hK38 _ h _ _ _ hP hD hS (lv_sub hl [2] rfl)
set_option maxHeartbeats 4000000 in
theorem ct_M_among_i4 {l : Launch} {V : evT} {D : va_G} {gI : Nat → ClassId} {o : Nat} {ad : Nat → Nat} {fd : Nat → Int32} {ar : Nat → Nat → Int32} {lw : Nat → Int64} {Q : Int32 → Prop} (h : wp_M_among 4 fd ar lw Q) : ct_i l V D vwCl (tyL gI) yX3_among cX3_among 3 .int { frames := 5, cells := 0, slots := 0, locals := 97 } [.ref o, .ref (V.1 4)] (wm gI o ad fd ar lw) (fun u : Unit => (wm gI o ad fd ar lw)) (fun (x : Int32) (u : Unit) => Q x) := by
  refine ct_ofi RX3 rfl (by decide +kernel) (Nat.le_of_ble_eq_true rfl) ?_
  intro p e s m args below meth c A F hP hD ls hl
  obtain ⟨⟨hx, hb, hml, hown, hts⟩, hr, hlocks, hA, hK, hE⟩ := id F
  have hS : va_S A s.heap s.heap [] := va_S.rf
  have hl : lv_has ls 3 [(0, .ref o), (1, .ref (V.1 4))] := hl
  have hRf : 5 ≤ ({ frames := 5, cells := 0, slots := 0, locals := 97 } : Room).frames := Nat.le_refl _
  have hRl : 97 ≤ ({ frames := 5, cells := 0, slots := 0, locals := 97 } : Room).locals := Nat.le_refl _
  have hC : 0 ≤ ({ frames := 5, cells := 0, slots := 0, locals := 97 } : Room).cells := Nat.le_refl _
  have hSl : 0 ≤ ({ frames := 5, cells := 0, slots := 0, locals := 97 } : Room).slots := Nat.le_refl _
  unfold wp_M_among at h
  refine lv_iconst (v := (0 : Int32)) hx hb dX3_among_0 (by decide) ?_
  refine lv_istore_n (lv' := [(2, .int (0 : Int32)), (0, .ref o), (1, .ref (V.1 4))]) hx hb dX3_among_1 rfl hl (by decide) rfl (fun ls hl => ?_)
  obtain ⟨k2, h⟩ := h
  refine lp_M_among_L1_i4 F hRf hRl hC hSl ?hk46 ?hk38 k2 _ h _ _ _ hP hD hS (lv_sub hl [1, 2, 0] rfl)
  case hk46 =>
    intro h H locs ls hP hD hS hl
    refine lv_iconst (v := (-1 : Int32)) hx hb dX3_among_46 (by decide) ?_
    exact rt_i F dX3_among_47 rfl () h hP hD hS (Nat.le_refl _) (Nat.le_refl _)
  case hk38 =>
    intro v2_6 h H locs ls hP hD hS hl
    refine lv_iload_n hx hb dX3_among_38 rfl (lv_at hl 0 rfl) ?_
    exact rt_i F dX3_among_39 rfl () h hP hD hS (Nat.le_refl _) (Nat.le_refl _)
set_option maxHeartbeats 4000000 in
theorem lp_M_among_L1_i5 {p : Program} {l : Launch} {e : Env} {R : Room} {s : State} {m : MethodId} {args : Array Value} {below : List Frame} {meth : Method} {c : Code} {cells slots : Nat} {A : Nat → Prop} {Qf : State → Prop} {V : evT} {D : va_G} {gI : Nat → ClassId} {o : Nat} {ad : Nat → Nat} {fd : Nat → Int32} {ar : Nat → Nat → Int32} {lw : Nat → Int64} {K46 : Prop} {K38 : (Int32) → Prop} (F : ct_F p m c meth cX3_among 3 s args RX3 (some .int) A V D vwCl (tyL gI)) (hRf : 5 ≤ R.frames) (hRl : 97 ≤ R.locals) (hC : cells ≤ R.cells) (hSl : slots ≤ R.slots)
    (hK46 : K46 → ∀ (H : Heap) (locs : List Loc) (ls : Array Slot), va_P D vwCl (wm gI o ad fd ar lw) H → va_D A (wm gI o ad fd ar lw) → va_S A s.heap H locs → lv_has ls 3 [] → W p l e R s m args below meth c H locs cells slots Qf (F0 m 46 ls []))
    (hK38 : ∀ (v2 : Int32), K38 v2 → ∀ (H : Heap) (locs : List Loc) (ls : Array Slot), va_P D vwCl (wm gI o ad fd ar lw) H → va_D A (wm gI o ad fd ar lw) → va_S A s.heap H locs → lv_has ls 3 [(2, .int v2)] → W p l e R s m args below meth c H locs cells slots Qf (F0 m 38 ls [])) :
    ∀ (n : Nat) (v2 : Int32), wp_M_among_L1 5 fd ar lw K46 K38 n v2 → ∀ (H : Heap) (locs : List Loc) (ls : Array Slot), va_P D vwCl (wm gI o ad fd ar lw) H → va_D A (wm gI o ad fd ar lw) → va_S A s.heap H locs → lv_has ls 3 [(0, .ref o), (1, .ref (V.1 5)), (2, .int v2)] → W p l e R s m args below meth c H locs cells slots Qf (F0 m 2 ls []) := by
  obtain ⟨⟨hx, hb, hml, hown, hts⟩, hr, hlocks, hA, hK, hE⟩ := id F
  intro n
  induction n with
  | zero => intro v2 h; exact h.elim
  | succ n ih =>
    intro v2 h H locs ls hP hD hS hl
    unfold wp_M_among_L1 at h
    refine lv_iload_n hx hb dX3_among_2 rfl (lv_at hl 2 rfl) ?_
    refine lv_aload_n hx hb dX3_among_3 rfl (lv_at hl 1 rfl) ?_
    refine cl_i0 F (va_runV (As := []) (rest := [.int v2]) ⟨hx, hb, hml, hown, hts⟩ (ct_J4_length_i5 h _) (cwV 0 hts (lw_V q1469 q836 q837 q106 q838) rfl rfl rfl (by decide +kernel) ⟨Nat.le_trans (Nat.le_of_ble_eq_true rfl) hRf, Nat.le_trans (Nat.le_of_ble_eq_true rfl) hRl⟩) ⟨ct_blind, vk_recv (N := 1) (i := 0) (hE.2.2.1 5 _ rfl).2 (by decide) hS, ct_at F hS ct_nP ct_nD⟩ rfl rfl hl.1 rfl (lv_room (Nat.le_of_ble_eq_true rfl)) dX3_among_4 ⟨hC, hSl⟩) rfl rfl hP hS ?_
    rintro x1 _ H locs h hP hS
    refine lv_icmp_ge (tgt := 46) hx hb dX3_among_7 (by decide) (fun c5 => ?_) (fun c5 => ?_)
    · replace h := h.1 c5
      exact hK46  h _ _ _ hP hD hS (lv_sub hl [] rfl)
    · replace h := h.2 c5
      refine lv_aload_n hx hb dX3_among_10 rfl (lv_at hl 0 rfl) ?_
      refine va_get hx hb hts in_X3 hown hK hP 0 rfl rfl 16 (Nat.le_of_ble_eq_true rfl) (hts _ q1234) (fun _ h => h) (v := .int (fd 16)) rfl dX3_among_11 ?_
      refine lv_aload_n hx hb dX3_among_14 rfl (lv_at hl 0 rfl) ?_
      refine va_get hx hb hts in_X3 hown hK hP 0 rfl rfl 17 (Nat.le_of_ble_eq_true rfl) (hts _ q1235) (fun _ h => h) (v := .int (fd 17)) rfl dX3_among_15 ?_
      refine lv_icmp_ge (tgt := 46) hx hb dX3_among_18 (by decide) (fun c4 => ?_) (fun c4 => ?_)
      · replace h := h.1 c4
        exact hK46  h _ _ _ hP hD hS (lv_sub hl [] rfl)
      · replace h := h.2 c4
        refine lv_aload_n hx hb dX3_among_21 rfl (lv_at hl 1 rfl) ?_
        refine lv_iload_n hx hb dX3_among_22 rfl (lv_at hl 2 rfl) ?_
        refine cl_i0 F (va_runV (As := [.int v2]) (rest := []) ⟨hx, hb, hml, hown, hts⟩ (ct_J4_charAt_i5 h _) (cwV 1 hts (lw_V q1470 q1471 q1472 q106 q1473) rfl rfl rfl (by decide +kernel) ⟨Nat.le_trans (Nat.le_of_ble_eq_true rfl) hRf, Nat.le_trans (Nat.le_of_ble_eq_true rfl) hRl⟩) ⟨ct_blind, vk_recv (N := 1) (i := 0) (hE.2.2.1 5 _ rfl).2 (by decide) hS, ct_at F hS ct_nP ct_nD⟩ rfl rfl hl.1 rfl (lv_room (Nat.le_of_ble_eq_true rfl)) dX3_among_23 ⟨hC, hSl⟩) rfl rfl hP hS ?_
        rintro x2 _ H locs h hP hS
        refine lv_aload_n hx hb dX3_among_26 rfl (lv_at hl 0 rfl) ?_
        refine va_get hx hb hts in_X3 hown hK hP 0 rfl rfl 14 (Nat.le_of_ble_eq_true rfl) (hts _ q1232) (fun _ h => h) (v := .ref (ad 14)) rfl dX3_among_27 ?_
        refine lv_aload_n hx hb dX3_among_30 rfl (lv_at hl 0 rfl) ?_
        refine va_get hx hb hts in_X3 hown hK hP 0 rfl rfl 16 (Nat.le_of_ble_eq_true rfl) (hts _ q1234) (fun _ h => h) (v := .int (fd 16)) rfl dX3_among_31 ?_
        refine va_iald (f := (ar 14)) hx hb hK hP 10 0 rfl rfl h.1 dX3_among_34 ?_
        replace h := h.2
        refine lv_icmp_ne (tgt := 40) hx hb dX3_among_35 (by decide) (fun c3 => ?_) (fun c3 => ?_)
        · replace h := h.1 c3
          refine lv_iinc (v := (v2 + (1 : Int32))) (lv' := [(2, .int (v2 + (1 : Int32))), (0, .ref o), (1, .ref (V.1 5))]) hx hb dX3_among_40 hl (k := 2) rfl rfl (by decide) rfl (fun ls hl => ?_)
          refine lv_goto (tgt := 2) hx hb dX3_among_43 (by decide) ?_
          exact ih _ h _ _ _ hP hD hS (lv_sub hl [1, 2, 0] rfl)
        · replace h := h.2 c3
          exact hK38 _ h _ _ _ hP hD hS (lv_sub hl [2] rfl)
set_option maxHeartbeats 4000000 in
theorem ct_M_among_i5 {l : Launch} {V : evT} {D : va_G} {gI : Nat → ClassId} {o : Nat} {ad : Nat → Nat} {fd : Nat → Int32} {ar : Nat → Nat → Int32} {lw : Nat → Int64} {Q : Int32 → Prop} (h : wp_M_among 5 fd ar lw Q) : ct_i l V D vwCl (tyL gI) yX3_among cX3_among 3 .int { frames := 5, cells := 0, slots := 0, locals := 97 } [.ref o, .ref (V.1 5)] (wm gI o ad fd ar lw) (fun u : Unit => (wm gI o ad fd ar lw)) (fun (x : Int32) (u : Unit) => Q x) := by
  refine ct_ofi RX3 rfl (by decide +kernel) (Nat.le_of_ble_eq_true rfl) ?_
  intro p e s m args below meth c A F hP hD ls hl
  obtain ⟨⟨hx, hb, hml, hown, hts⟩, hr, hlocks, hA, hK, hE⟩ := id F
  have hS : va_S A s.heap s.heap [] := va_S.rf
  have hl : lv_has ls 3 [(0, .ref o), (1, .ref (V.1 5))] := hl
  have hRf : 5 ≤ ({ frames := 5, cells := 0, slots := 0, locals := 97 } : Room).frames := Nat.le_refl _
  have hRl : 97 ≤ ({ frames := 5, cells := 0, slots := 0, locals := 97 } : Room).locals := Nat.le_refl _
  have hC : 0 ≤ ({ frames := 5, cells := 0, slots := 0, locals := 97 } : Room).cells := Nat.le_refl _
  have hSl : 0 ≤ ({ frames := 5, cells := 0, slots := 0, locals := 97 } : Room).slots := Nat.le_refl _
  unfold wp_M_among at h
  refine lv_iconst (v := (0 : Int32)) hx hb dX3_among_0 (by decide) ?_
  refine lv_istore_n (lv' := [(2, .int (0 : Int32)), (0, .ref o), (1, .ref (V.1 5))]) hx hb dX3_among_1 rfl hl (by decide) rfl (fun ls hl => ?_)
  obtain ⟨k2, h⟩ := h
  refine lp_M_among_L1_i5 F hRf hRl hC hSl ?hk46 ?hk38 k2 _ h _ _ _ hP hD hS (lv_sub hl [1, 2, 0] rfl)
  case hk46 =>
    intro h H locs ls hP hD hS hl
    refine lv_iconst (v := (-1 : Int32)) hx hb dX3_among_46 (by decide) ?_
    exact rt_i F dX3_among_47 rfl () h hP hD hS (Nat.le_refl _) (Nat.le_refl _)
  case hk38 =>
    intro v2_6 h H locs ls hP hD hS hl
    refine lv_iload_n hx hb dX3_among_38 rfl (lv_at hl 0 rfl) ?_
    exact rt_i F dX3_among_39 rfl () h hP hD hS (Nat.le_refl _) (Nat.le_refl _)
set_option maxHeartbeats 4000000 in
theorem lp_M_among_L1_i6 {p : Program} {l : Launch} {e : Env} {R : Room} {s : State} {m : MethodId} {args : Array Value} {below : List Frame} {meth : Method} {c : Code} {cells slots : Nat} {A : Nat → Prop} {Qf : State → Prop} {V : evT} {D : va_G} {gI : Nat → ClassId} {o : Nat} {ad : Nat → Nat} {fd : Nat → Int32} {ar : Nat → Nat → Int32} {lw : Nat → Int64} {K46 : Prop} {K38 : (Int32) → Prop} (F : ct_F p m c meth cX3_among 3 s args RX3 (some .int) A V D vwCl (tyL gI)) (hRf : 5 ≤ R.frames) (hRl : 97 ≤ R.locals) (hC : cells ≤ R.cells) (hSl : slots ≤ R.slots)
    (hK46 : K46 → ∀ (H : Heap) (locs : List Loc) (ls : Array Slot), va_P D vwCl (wm gI o ad fd ar lw) H → va_D A (wm gI o ad fd ar lw) → va_S A s.heap H locs → lv_has ls 3 [] → W p l e R s m args below meth c H locs cells slots Qf (F0 m 46 ls []))
    (hK38 : ∀ (v2 : Int32), K38 v2 → ∀ (H : Heap) (locs : List Loc) (ls : Array Slot), va_P D vwCl (wm gI o ad fd ar lw) H → va_D A (wm gI o ad fd ar lw) → va_S A s.heap H locs → lv_has ls 3 [(2, .int v2)] → W p l e R s m args below meth c H locs cells slots Qf (F0 m 38 ls [])) :
    ∀ (n : Nat) (v2 : Int32), wp_M_among_L1 6 fd ar lw K46 K38 n v2 → ∀ (H : Heap) (locs : List Loc) (ls : Array Slot), va_P D vwCl (wm gI o ad fd ar lw) H → va_D A (wm gI o ad fd ar lw) → va_S A s.heap H locs → lv_has ls 3 [(0, .ref o), (1, .ref (V.1 6)), (2, .int v2)] → W p l e R s m args below meth c H locs cells slots Qf (F0 m 2 ls []) := by
  obtain ⟨⟨hx, hb, hml, hown, hts⟩, hr, hlocks, hA, hK, hE⟩ := id F
  intro n
  induction n with
  | zero => intro v2 h; exact h.elim
  | succ n ih =>
    intro v2 h H locs ls hP hD hS hl
    unfold wp_M_among_L1 at h
    refine lv_iload_n hx hb dX3_among_2 rfl (lv_at hl 2 rfl) ?_
    refine lv_aload_n hx hb dX3_among_3 rfl (lv_at hl 1 rfl) ?_
    refine cl_i0 F (va_runV (As := []) (rest := [.int v2]) ⟨hx, hb, hml, hown, hts⟩ (ct_J4_length_i6 h _) (cwV 0 hts (lw_V q1469 q836 q837 q106 q838) rfl rfl rfl (by decide +kernel) ⟨Nat.le_trans (Nat.le_of_ble_eq_true rfl) hRf, Nat.le_trans (Nat.le_of_ble_eq_true rfl) hRl⟩) ⟨ct_blind, vk_recv (N := 1) (i := 0) (hE.2.2.1 6 _ rfl).2 (by decide) hS, ct_at F hS ct_nP ct_nD⟩ rfl rfl hl.1 rfl (lv_room (Nat.le_of_ble_eq_true rfl)) dX3_among_4 ⟨hC, hSl⟩) rfl rfl hP hS ?_
    rintro x1 _ H locs h hP hS
    refine lv_icmp_ge (tgt := 46) hx hb dX3_among_7 (by decide) (fun c5 => ?_) (fun c5 => ?_)
    · replace h := h.1 c5
      exact hK46  h _ _ _ hP hD hS (lv_sub hl [] rfl)
    · replace h := h.2 c5
      refine lv_aload_n hx hb dX3_among_10 rfl (lv_at hl 0 rfl) ?_
      refine va_get hx hb hts in_X3 hown hK hP 0 rfl rfl 16 (Nat.le_of_ble_eq_true rfl) (hts _ q1234) (fun _ h => h) (v := .int (fd 16)) rfl dX3_among_11 ?_
      refine lv_aload_n hx hb dX3_among_14 rfl (lv_at hl 0 rfl) ?_
      refine va_get hx hb hts in_X3 hown hK hP 0 rfl rfl 17 (Nat.le_of_ble_eq_true rfl) (hts _ q1235) (fun _ h => h) (v := .int (fd 17)) rfl dX3_among_15 ?_
      refine lv_icmp_ge (tgt := 46) hx hb dX3_among_18 (by decide) (fun c4 => ?_) (fun c4 => ?_)
      · replace h := h.1 c4
        exact hK46  h _ _ _ hP hD hS (lv_sub hl [] rfl)
      · replace h := h.2 c4
        refine lv_aload_n hx hb dX3_among_21 rfl (lv_at hl 1 rfl) ?_
        refine lv_iload_n hx hb dX3_among_22 rfl (lv_at hl 2 rfl) ?_
        refine cl_i0 F (va_runV (As := [.int v2]) (rest := []) ⟨hx, hb, hml, hown, hts⟩ (ct_J4_charAt_i6 h _) (cwV 1 hts (lw_V q1470 q1471 q1472 q106 q1473) rfl rfl rfl (by decide +kernel) ⟨Nat.le_trans (Nat.le_of_ble_eq_true rfl) hRf, Nat.le_trans (Nat.le_of_ble_eq_true rfl) hRl⟩) ⟨ct_blind, vk_recv (N := 1) (i := 0) (hE.2.2.1 6 _ rfl).2 (by decide) hS, ct_at F hS ct_nP ct_nD⟩ rfl rfl hl.1 rfl (lv_room (Nat.le_of_ble_eq_true rfl)) dX3_among_23 ⟨hC, hSl⟩) rfl rfl hP hS ?_
        rintro x2 _ H locs h hP hS
        refine lv_aload_n hx hb dX3_among_26 rfl (lv_at hl 0 rfl) ?_
        refine va_get hx hb hts in_X3 hown hK hP 0 rfl rfl 14 (Nat.le_of_ble_eq_true rfl) (hts _ q1232) (fun _ h => h) (v := .ref (ad 14)) rfl dX3_among_27 ?_
        refine lv_aload_n hx hb dX3_among_30 rfl (lv_at hl 0 rfl) ?_
        refine va_get hx hb hts in_X3 hown hK hP 0 rfl rfl 16 (Nat.le_of_ble_eq_true rfl) (hts _ q1234) (fun _ h => h) (v := .int (fd 16)) rfl dX3_among_31 ?_
        refine va_iald (f := (ar 14)) hx hb hK hP 10 0 rfl rfl h.1 dX3_among_34 ?_
        replace h := h.2
        refine lv_icmp_ne (tgt := 40) hx hb dX3_among_35 (by decide) (fun c3 => ?_) (fun c3 => ?_)
        · replace h := h.1 c3
          refine lv_iinc (v := (v2 + (1 : Int32))) (lv' := [(2, .int (v2 + (1 : Int32))), (0, .ref o), (1, .ref (V.1 6))]) hx hb dX3_among_40 hl (k := 2) rfl rfl (by decide) rfl (fun ls hl => ?_)
          refine lv_goto (tgt := 2) hx hb dX3_among_43 (by decide) ?_
          exact ih _ h _ _ _ hP hD hS (lv_sub hl [1, 2, 0] rfl)
        · replace h := h.2 c3
          exact hK38 _ h _ _ _ hP hD hS (lv_sub hl [2] rfl)
set_option maxHeartbeats 4000000 in
theorem ct_M_among_i6 {l : Launch} {V : evT} {D : va_G} {gI : Nat → ClassId} {o : Nat} {ad : Nat → Nat} {fd : Nat → Int32} {ar : Nat → Nat → Int32} {lw : Nat → Int64} {Q : Int32 → Prop} (h : wp_M_among 6 fd ar lw Q) : ct_i l V D vwCl (tyL gI) yX3_among cX3_among 3 .int { frames := 5, cells := 0, slots := 0, locals := 97 } [.ref o, .ref (V.1 6)] (wm gI o ad fd ar lw) (fun u : Unit => (wm gI o ad fd ar lw)) (fun (x : Int32) (u : Unit) => Q x) := by
  refine ct_ofi RX3 rfl (by decide +kernel) (Nat.le_of_ble_eq_true rfl) ?_
  intro p e s m args below meth c A F hP hD ls hl
  obtain ⟨⟨hx, hb, hml, hown, hts⟩, hr, hlocks, hA, hK, hE⟩ := id F
  have hS : va_S A s.heap s.heap [] := va_S.rf
  have hl : lv_has ls 3 [(0, .ref o), (1, .ref (V.1 6))] := hl
  have hRf : 5 ≤ ({ frames := 5, cells := 0, slots := 0, locals := 97 } : Room).frames := Nat.le_refl _
  have hRl : 97 ≤ ({ frames := 5, cells := 0, slots := 0, locals := 97 } : Room).locals := Nat.le_refl _
  have hC : 0 ≤ ({ frames := 5, cells := 0, slots := 0, locals := 97 } : Room).cells := Nat.le_refl _
  have hSl : 0 ≤ ({ frames := 5, cells := 0, slots := 0, locals := 97 } : Room).slots := Nat.le_refl _
  unfold wp_M_among at h
  refine lv_iconst (v := (0 : Int32)) hx hb dX3_among_0 (by decide) ?_
  refine lv_istore_n (lv' := [(2, .int (0 : Int32)), (0, .ref o), (1, .ref (V.1 6))]) hx hb dX3_among_1 rfl hl (by decide) rfl (fun ls hl => ?_)
  obtain ⟨k2, h⟩ := h
  refine lp_M_among_L1_i6 F hRf hRl hC hSl ?hk46 ?hk38 k2 _ h _ _ _ hP hD hS (lv_sub hl [1, 2, 0] rfl)
  case hk46 =>
    intro h H locs ls hP hD hS hl
    refine lv_iconst (v := (-1 : Int32)) hx hb dX3_among_46 (by decide) ?_
    exact rt_i F dX3_among_47 rfl () h hP hD hS (Nat.le_refl _) (Nat.le_refl _)
  case hk38 =>
    intro v2_6 h H locs ls hP hD hS hl
    refine lv_iload_n hx hb dX3_among_38 rfl (lv_at hl 0 rfl) ?_
    exact rt_i F dX3_among_39 rfl () h hP hD hS (Nat.le_refl _) (Nat.le_refl _)
set_option maxHeartbeats 4000000 in
theorem lp_M_laysCode_L1_i22 {p : Program} {l : Launch} {e : Env} {R : Room} {s : State} {m : MethodId} {args : Array Value} {below : List Frame} {meth : Method} {c : Code} {cells slots : Nat} {A : Nat → Prop} {Qf : State → Prop} {V : evT} {D : va_G} {gI : Nat → ClassId} {o : Nat} {ad : Nat → Nat} {v2 : Int32} {fd : Nat → Int32} {lw : Nat → Int64} {K27 : (Nat → Nat → Int32) → Prop} (F : ct_F p m c meth cX3_laysCode 4 s args RX3 none A V D vwCl (tyL gI)) (hRf : 1 ≤ R.frames) (hRl : 12 ≤ R.locals) (hC : cells ≤ R.cells) (hSl : slots ≤ R.slots)
    (hK27 : ∀ (ar : Nat → Nat → Int32), K27 ar → ∀ (H : Heap) (locs : List Loc) (ls : Array Slot), va_P D vwCl (wm gI o ad fd ar lw) H → va_D A (wm gI o ad fd ar lw) → va_S A s.heap H locs → lv_has ls 4 [] → W p l e R s m args below meth c H locs cells slots Qf (F0 m 27 ls [])) :
    ∀ (n : Nat) (v3 : Int32) (ar : Nat → Nat → Int32), wp_M_laysCode_L1 22 v2 fd lw K27 n v3 ar → ∀ (H : Heap) (locs : List Loc) (ls : Array Slot), va_P D vwCl (wm gI o ad fd ar lw) H → va_D A (wm gI o ad fd ar lw) → va_S A s.heap H locs → lv_has ls 4 [(0, .ref o), (1, .ref (ad 22)), (2, .int v2), (3, .int v3)] → W p l e R s m args below meth c H locs cells slots Qf (F0 m 7 ls []) := by
  obtain ⟨⟨hx, hb, hml, hown, hts⟩, hr, hlocks, hA, hK, hE⟩ := id F
  intro n
  induction n with
  | zero => intro v3 ar h; exact h.elim
  | succ n ih =>
    intro v3 ar h H locs ls hP hD hS hl
    unfold wp_M_laysCode_L1 at h
    refine lv_iload_n hx hb dX3_laysCode_7 rfl (lv_at hl 3 rfl) ?_
    refine lv_iload_n hx hb dX3_laysCode_8 rfl (lv_at hl 2 rfl) ?_
    refine lv_icmp_ge (tgt := 27) hx hb dX3_laysCode_9 (by decide) (fun c1 => ?_) (fun c1 => ?_)
    · replace h := h.1 c1
      exact hK27 _ h _ _ _ hP hD hS (lv_sub hl [] rfl)
    · replace h := h.2 c1
      refine lv_aload_n hx hb dX3_laysCode_12 rfl (lv_at hl 0 rfl) ?_
      refine va_get hx hb hts in_X3 hown hK hP 0 rfl rfl 21 (Nat.le_of_ble_eq_true rfl) (hts _ q1239) (fun _ h => h) (v := .ref (ad 21)) rfl dX3_laysCode_13 ?_
      refine lv_iload_n hx hb dX3_laysCode_16 rfl (lv_at hl 3 rfl) ?_
      refine lv_aload_n hx hb dX3_laysCode_17 rfl (lv_at hl 1 rfl) ?_
      refine lv_iload_n hx hb dX3_laysCode_18 rfl (lv_at hl 3 rfl) ?_
      refine va_iald (f := (ar 22)) hx hb hK hP 13 0 rfl rfl h.1 dX3_laysCode_19 ?_
      replace h := h.2
      refine pt_iast (f := (ar 21)) hx hb hK hP hD hS 12 0 rfl rfl h.1 dX3_laysCode_20 wmA_21 (fun H locs hP hD hS => ?_)
      replace h := h.2
      refine lv_iinc (v := (v3 + (1 : Int32))) (lv' := [(3, .int (v3 + (1 : Int32))), (0, .ref o), (1, .ref (ad 22)), (2, .int v2)]) hx hb dX3_laysCode_21 hl (k := 3) rfl rfl (by decide) rfl (fun ls hl => ?_)
      refine lv_goto (tgt := 7) hx hb dX3_laysCode_24 (by decide) ?_
      exact ih _ _ h _ _ _ hP hD hS (lv_sub hl [1, 2, 3, 0] rfl)
set_option maxHeartbeats 4000000 in
theorem ct_M_laysCode_i22 {l : Launch} {V : evT} {D : va_G} {gI : Nat → ClassId} {o : Nat} {ad : Nat → Nat} {v2 : Int32} {fd : Nat → Int32} {ar : Nat → Nat → Int32} {lw : Nat → Int64} {Q : (Nat → Int32) → (Nat → Nat → Int32) → Prop} (h : wp_M_laysCode 22 v2 fd ar lw Q) : ct_v l V D vwCl (tyL gI) yX3_laysCode cX3_laysCode 4 { frames := 1, cells := 0, slots := 0, locals := 12 } [.ref o, .ref (ad 22), .int v2] (wm gI o ad fd ar lw) (fun u : (Nat → Int32) × (Nat → Nat → Int32) => (wm gI o ad u.1 u.2 lw)) (fun (u : (Nat → Int32) × (Nat → Nat → Int32)) => Q u.1 u.2) := by
  refine ct_ofv RX3 rfl (by decide +kernel) (Nat.le_of_ble_eq_true rfl) ?_
  intro p e s m args below meth c A F _ hP hD ls hl
  obtain ⟨⟨hx, hb, hml, hown, hts⟩, hr, hlocks, hA, hK, hE⟩ := id F
  have hS : va_S A s.heap s.heap [] := va_S.rf
  have hl : lv_has ls 4 [(0, .ref o), (1, .ref (ad 22)), (2, .int v2)] := hl
  have hRf : 1 ≤ ({ frames := 1, cells := 0, slots := 0, locals := 12 } : Room).frames := Nat.le_refl _
  have hRl : 12 ≤ ({ frames := 1, cells := 0, slots := 0, locals := 12 } : Room).locals := Nat.le_refl _
  have hC : 0 ≤ ({ frames := 1, cells := 0, slots := 0, locals := 12 } : Room).cells := Nat.le_refl _
  have hSl : 0 ≤ ({ frames := 1, cells := 0, slots := 0, locals := 12 } : Room).slots := Nat.le_refl _
  unfold wp_M_laysCode at h
  refine lv_aload_n hx hb dX3_laysCode_0 rfl (lv_at hl 0 rfl) ?_
  refine lv_iload_n hx hb dX3_laysCode_1 rfl (lv_at hl 2 rfl) ?_
  refine pt_put (v := .int v2) hx hb hts in_X3 tyX3 tyX3_ok nmX3 hown hK hP hD hS 0 rfl rfl 23 (Nat.le_of_ble_eq_true rfl) (hts _ q1241) (fun _ h => h) rfl (ty := .int) (by decide +kernel) rfl rfl (Nat.le_of_ble_eq_true rfl) dX3_laysCode_2 wmF_23 (fun H locs hP hD hS => ?_)
  refine lv_iconst (v := (0 : Int32)) hx hb dX3_laysCode_5 (by decide) ?_
  refine lv_istore_n (lv' := [(3, .int (0 : Int32)), (0, .ref o), (1, .ref (ad 22)), (2, .int v2)]) hx hb dX3_laysCode_6 rfl hl (by decide) rfl (fun ls hl => ?_)
  obtain ⟨k7, h⟩ := h
  refine lp_M_laysCode_L1_i22 F hRf hRl hC hSl ?hk27 k7 _ _ h _ _ _ hP hD hS (lv_sub hl [1, 2, 3, 0] rfl)
  case hk27 =>
    intro ar_2 h H locs ls hP hD hS hl
    exact rt_v F dX3_laysCode_27 ((upd fd 23 v2), ar_2) h hP hD hS (Nat.le_refl _) (Nat.le_refl _)
set_option maxHeartbeats 4000000 in
theorem lp_M_laysCode_L1_i41 {p : Program} {l : Launch} {e : Env} {R : Room} {s : State} {m : MethodId} {args : Array Value} {below : List Frame} {meth : Method} {c : Code} {cells slots : Nat} {A : Nat → Prop} {Qf : State → Prop} {V : evT} {D : va_G} {gI : Nat → ClassId} {o : Nat} {ad : Nat → Nat} {v2 : Int32} {fd : Nat → Int32} {lw : Nat → Int64} {K27 : (Nat → Nat → Int32) → Prop} (F : ct_F p m c meth cX3_laysCode 4 s args RX3 none A V D vwCl (tyL gI)) (hRf : 1 ≤ R.frames) (hRl : 12 ≤ R.locals) (hC : cells ≤ R.cells) (hSl : slots ≤ R.slots)
    (hK27 : ∀ (ar : Nat → Nat → Int32), K27 ar → ∀ (H : Heap) (locs : List Loc) (ls : Array Slot), va_P D vwCl (wm gI o ad fd ar lw) H → va_D A (wm gI o ad fd ar lw) → va_S A s.heap H locs → lv_has ls 4 [] → W p l e R s m args below meth c H locs cells slots Qf (F0 m 27 ls [])) :
    ∀ (n : Nat) (v3 : Int32) (ar : Nat → Nat → Int32), wp_M_laysCode_L1 41 v2 fd lw K27 n v3 ar → ∀ (H : Heap) (locs : List Loc) (ls : Array Slot), va_P D vwCl (wm gI o ad fd ar lw) H → va_D A (wm gI o ad fd ar lw) → va_S A s.heap H locs → lv_has ls 4 [(0, .ref o), (1, .ref (ad 41)), (2, .int v2), (3, .int v3)] → W p l e R s m args below meth c H locs cells slots Qf (F0 m 7 ls []) := by
  obtain ⟨⟨hx, hb, hml, hown, hts⟩, hr, hlocks, hA, hK, hE⟩ := id F
  intro n
  induction n with
  | zero => intro v3 ar h; exact h.elim
  | succ n ih =>
    intro v3 ar h H locs ls hP hD hS hl
    unfold wp_M_laysCode_L1 at h
    refine lv_iload_n hx hb dX3_laysCode_7 rfl (lv_at hl 3 rfl) ?_
    refine lv_iload_n hx hb dX3_laysCode_8 rfl (lv_at hl 2 rfl) ?_
    refine lv_icmp_ge (tgt := 27) hx hb dX3_laysCode_9 (by decide) (fun c1 => ?_) (fun c1 => ?_)
    · replace h := h.1 c1
      exact hK27 _ h _ _ _ hP hD hS (lv_sub hl [] rfl)
    · replace h := h.2 c1
      refine lv_aload_n hx hb dX3_laysCode_12 rfl (lv_at hl 0 rfl) ?_
      refine va_get hx hb hts in_X3 hown hK hP 0 rfl rfl 21 (Nat.le_of_ble_eq_true rfl) (hts _ q1239) (fun _ h => h) (v := .ref (ad 21)) rfl dX3_laysCode_13 ?_
      refine lv_iload_n hx hb dX3_laysCode_16 rfl (lv_at hl 3 rfl) ?_
      refine lv_aload_n hx hb dX3_laysCode_17 rfl (lv_at hl 1 rfl) ?_
      refine lv_iload_n hx hb dX3_laysCode_18 rfl (lv_at hl 3 rfl) ?_
      refine va_iald (f := (ar 41)) hx hb hK hP 24 0 rfl rfl h.1 dX3_laysCode_19 ?_
      replace h := h.2
      refine pt_iast (f := (ar 21)) hx hb hK hP hD hS 12 0 rfl rfl h.1 dX3_laysCode_20 wmA_21 (fun H locs hP hD hS => ?_)
      replace h := h.2
      refine lv_iinc (v := (v3 + (1 : Int32))) (lv' := [(3, .int (v3 + (1 : Int32))), (0, .ref o), (1, .ref (ad 41)), (2, .int v2)]) hx hb dX3_laysCode_21 hl (k := 3) rfl rfl (by decide) rfl (fun ls hl => ?_)
      refine lv_goto (tgt := 7) hx hb dX3_laysCode_24 (by decide) ?_
      exact ih _ _ h _ _ _ hP hD hS (lv_sub hl [1, 2, 3, 0] rfl)
set_option maxHeartbeats 4000000 in
theorem ct_M_laysCode_i41 {l : Launch} {V : evT} {D : va_G} {gI : Nat → ClassId} {o : Nat} {ad : Nat → Nat} {v2 : Int32} {fd : Nat → Int32} {ar : Nat → Nat → Int32} {lw : Nat → Int64} {Q : (Nat → Int32) → (Nat → Nat → Int32) → Prop} (h : wp_M_laysCode 41 v2 fd ar lw Q) : ct_v l V D vwCl (tyL gI) yX3_laysCode cX3_laysCode 4 { frames := 1, cells := 0, slots := 0, locals := 12 } [.ref o, .ref (ad 41), .int v2] (wm gI o ad fd ar lw) (fun u : (Nat → Int32) × (Nat → Nat → Int32) => (wm gI o ad u.1 u.2 lw)) (fun (u : (Nat → Int32) × (Nat → Nat → Int32)) => Q u.1 u.2) := by
  refine ct_ofv RX3 rfl (by decide +kernel) (Nat.le_of_ble_eq_true rfl) ?_
  intro p e s m args below meth c A F _ hP hD ls hl
  obtain ⟨⟨hx, hb, hml, hown, hts⟩, hr, hlocks, hA, hK, hE⟩ := id F
  have hS : va_S A s.heap s.heap [] := va_S.rf
  have hl : lv_has ls 4 [(0, .ref o), (1, .ref (ad 41)), (2, .int v2)] := hl
  have hRf : 1 ≤ ({ frames := 1, cells := 0, slots := 0, locals := 12 } : Room).frames := Nat.le_refl _
  have hRl : 12 ≤ ({ frames := 1, cells := 0, slots := 0, locals := 12 } : Room).locals := Nat.le_refl _
  have hC : 0 ≤ ({ frames := 1, cells := 0, slots := 0, locals := 12 } : Room).cells := Nat.le_refl _
  have hSl : 0 ≤ ({ frames := 1, cells := 0, slots := 0, locals := 12 } : Room).slots := Nat.le_refl _
  unfold wp_M_laysCode at h
  refine lv_aload_n hx hb dX3_laysCode_0 rfl (lv_at hl 0 rfl) ?_
  refine lv_iload_n hx hb dX3_laysCode_1 rfl (lv_at hl 2 rfl) ?_
  refine pt_put (v := .int v2) hx hb hts in_X3 tyX3 tyX3_ok nmX3 hown hK hP hD hS 0 rfl rfl 23 (Nat.le_of_ble_eq_true rfl) (hts _ q1241) (fun _ h => h) rfl (ty := .int) (by decide +kernel) rfl rfl (Nat.le_of_ble_eq_true rfl) dX3_laysCode_2 wmF_23 (fun H locs hP hD hS => ?_)
  refine lv_iconst (v := (0 : Int32)) hx hb dX3_laysCode_5 (by decide) ?_
  refine lv_istore_n (lv' := [(3, .int (0 : Int32)), (0, .ref o), (1, .ref (ad 41)), (2, .int v2)]) hx hb dX3_laysCode_6 rfl hl (by decide) rfl (fun ls hl => ?_)
  obtain ⟨k7, h⟩ := h
  refine lp_M_laysCode_L1_i41 F hRf hRl hC hSl ?hk27 k7 _ _ h _ _ _ hP hD hS (lv_sub hl [1, 2, 3, 0] rfl)
  case hk27 =>
    intro ar_2 h H locs ls hP hD hS hl
    exact rt_v F dX3_laysCode_27 ((upd fd 23 v2), ar_2) h hP hD hS (Nat.le_refl _) (Nat.le_refl _)
set_option maxHeartbeats 4000000 in
theorem ct_M_refuse {l : Launch} {V : evT} {D : va_G} {gI : Nat → ClassId} {o : Nat} {ad : Nat → Nat} {fd : Nat → Int32} {ar : Nat → Nat → Int32} {lw : Nat → Int64} {Q : Int32 → (Nat → Int32) → Prop} (h : wp_M_refuse fd ar lw Q) : ct_i l V D vwCl (tyL gI) yX3_refuse cX3_refuse 1 .int { frames := 1, cells := 0, slots := 0, locals := 12 } [.ref o] (wm gI o ad fd ar lw) (fun u : (Nat → Int32) => (wm gI o ad u ar lw)) (fun (x : Int32) (u : (Nat → Int32)) => Q x u) := by
  refine ct_ofi RX3 rfl (by decide +kernel) (Nat.le_of_ble_eq_true rfl) ?_
  intro p e s m args below meth c A F hP hD ls hl
  obtain ⟨⟨hx, hb, hml, hown, hts⟩, hr, hlocks, hA, hK, hE⟩ := id F
  have hS : va_S A s.heap s.heap [] := va_S.rf
  have hl : lv_has ls 1 [(0, .ref o)] := hl
  have hRf : 1 ≤ ({ frames := 1, cells := 0, slots := 0, locals := 12 } : Room).frames := Nat.le_refl _
  have hRl : 12 ≤ ({ frames := 1, cells := 0, slots := 0, locals := 12 } : Room).locals := Nat.le_refl _
  have hC : 0 ≤ ({ frames := 1, cells := 0, slots := 0, locals := 12 } : Room).cells := Nat.le_refl _
  have hSl : 0 ≤ ({ frames := 1, cells := 0, slots := 0, locals := 12 } : Room).slots := Nat.le_refl _
  unfold wp_M_refuse at h
  refine lv_aload_n hx hb dX3_refuse_0 rfl (lv_at hl 0 rfl) ?_
  refine lv_iconst (v := (1 : Int32)) hx hb dX3_refuse_1 (by decide) ?_
  refine pt_put (v := .int (1 : Int32)) hx hb hts in_X3 tyX3 tyX3_ok nmX3 hown hK hP hD hS 0 rfl rfl 0 (Nat.le_of_ble_eq_true rfl) (hts _ q1218) (fun _ h => h) rfl (ty := .int) (by decide +kernel) rfl rfl (Nat.le_of_ble_eq_true rfl) dX3_refuse_2 wmF_0 (fun H locs hP hD hS => ?_)
  refine lv_iconst (v := (0 : Int32)) hx hb dX3_refuse_5 (by decide) ?_
  exact rt_i F dX3_refuse_6 rfl ((upd fd 0 (1 : Int32))) h hP hD hS (Nat.le_refl _) (Nat.le_refl _)
set_option maxHeartbeats 4000000 in
theorem ct_X3_has {l : Launch} {V : evT} {D : va_G} {gI : Nat → ClassId} {v0 : Int32} {v1 : Int32} {Q : Int32 → Prop} (h : wp_X3_has v0 v1  Q) : ct_i l V D vwCl (tyL gI) yX3_has cX3_has 2 .boolean { frames := 1, cells := 0, slots := 0, locals := 12 } [.int v0, .int v1] [] (fun u : Unit => []) (fun (x : Int32) (u : Unit) => Q x) := by
  refine ct_ofi RX3 rfl (by decide +kernel) (Nat.le_of_ble_eq_true rfl) ?_
  intro p e s m args below meth c A F hP hD ls hl
  obtain ⟨⟨hx, hb, hml, hown, hts⟩, hr, hlocks, hA, hK, hE⟩ := id F
  have hS : va_S A s.heap s.heap [] := va_S.rf
  have hl : lv_has ls 2 [(0, .int v0), (1, .int v1)] := hl
  have hRf : 1 ≤ ({ frames := 1, cells := 0, slots := 0, locals := 12 } : Room).frames := Nat.le_refl _
  have hRl : 12 ≤ ({ frames := 1, cells := 0, slots := 0, locals := 12 } : Room).locals := Nat.le_refl _
  have hC : 0 ≤ ({ frames := 1, cells := 0, slots := 0, locals := 12 } : Room).cells := Nat.le_refl _
  have hSl : 0 ≤ ({ frames := 1, cells := 0, slots := 0, locals := 12 } : Room).slots := Nat.le_refl _
  unfold wp_X3_has at h
  refine lv_iload_n hx hb dX3_has_0 rfl (lv_at hl 0 rfl) ?_
  refine lv_iload_n hx hb dX3_has_1 rfl (lv_at hl 1 rfl) ?_
  refine lv_ishr hx hb dX3_has_2 ?_
  refine lv_iconst (v := (1 : Int32)) hx hb dX3_has_3 (by decide) ?_
  refine lv_iand hx hb dX3_has_4 ?_
  refine lv_iconst (v := (1 : Int32)) hx hb dX3_has_5 (by decide) ?_
  refine lv_icmp_ne (tgt := 13) hx hb dX3_has_6 (by decide) (fun c1 => ?_) (fun c1 => ?_)
  · replace h := h.1 c1
    refine lv_iconst (v := (0 : Int32)) hx hb dX3_has_13 (by decide) ?_
    exact rt_i F dX3_has_14 rfl () h hP hD hS (Nat.le_refl _) (Nat.le_refl _)
  · replace h := h.2 c1
    refine lv_iconst (v := (1 : Int32)) hx hb dX3_has_9 (by decide) ?_
    refine lv_goto (tgt := 14) hx hb dX3_has_10 (by decide) ?_
    exact rt_i F dX3_has_14 rfl () h hP hD hS (Nat.le_refl _) (Nat.le_refl _)
set_option maxHeartbeats 4000000 in
theorem ct_M_atOf_i12 {l : Launch} {V : evT} {D : va_G} {gI : Nat → ClassId} {o : Nat} {ad : Nat → Nat} {v1 : Int32} {fd : Nat → Int32} {ar : Nat → Nat → Int32} {lw : Nat → Int64} {Q : Int32 → Prop} (h : wp_M_atOf 12 v1 fd ar lw Q) : ct_i l V D vwCl (tyL gI) yX3_atOf cX3_atOf 2 .int { frames := 1, cells := 0, slots := 0, locals := 12 } [.ref (ad 12), .int v1] (wm gI o ad fd ar lw) (fun u : Unit => (wm gI o ad fd ar lw)) (fun (x : Int32) (u : Unit) => Q x) := by
  refine ct_ofi RX3 rfl (by decide +kernel) (Nat.le_of_ble_eq_true rfl) ?_
  intro p e s m args below meth c A F hP hD ls hl
  obtain ⟨⟨hx, hb, hml, hown, hts⟩, hr, hlocks, hA, hK, hE⟩ := id F
  have hS : va_S A s.heap s.heap [] := va_S.rf
  have hl : lv_has ls 2 [(0, .ref (ad 12)), (1, .int v1)] := hl
  have hRf : 1 ≤ ({ frames := 1, cells := 0, slots := 0, locals := 12 } : Room).frames := Nat.le_refl _
  have hRl : 12 ≤ ({ frames := 1, cells := 0, slots := 0, locals := 12 } : Room).locals := Nat.le_refl _
  have hC : 0 ≤ ({ frames := 1, cells := 0, slots := 0, locals := 12 } : Room).cells := Nat.le_refl _
  have hSl : 0 ≤ ({ frames := 1, cells := 0, slots := 0, locals := 12 } : Room).slots := Nat.le_refl _
  unfold wp_M_atOf at h
  refine lv_aload_n hx hb dX3_atOf_0 rfl (lv_at hl 0 rfl) ?_
  refine lv_bipush (v := (25 : Int32)) hx hb dX3_atOf_1 (by decide) ?_
  refine lv_iconst (v := (2 : Int32)) hx hb dX3_atOf_3 (by decide) ?_
  refine lv_iload_n hx hb dX3_atOf_4 rfl (lv_at hl 1 rfl) ?_
  refine lv_imul hx hb dX3_atOf_5 ?_
  refine lv_iadd hx hb dX3_atOf_6 ?_
  refine lv_iconst (v := (0 : Int32)) hx hb dX3_atOf_7 (by decide) ?_
  refine lv_iadd hx hb dX3_atOf_8 ?_
  refine va_iald (f := (ar 12)) hx hb hK hP 8 0 rfl rfl h.1 dX3_atOf_9 ?_
  replace h := h.2
  exact rt_i F dX3_atOf_10 rfl () h hP hD hS (Nat.le_refl _) (Nat.le_refl _)
set_option maxHeartbeats 4000000 in
theorem ct_M_atOf_i13 {l : Launch} {V : evT} {D : va_G} {gI : Nat → ClassId} {o : Nat} {ad : Nat → Nat} {v1 : Int32} {fd : Nat → Int32} {ar : Nat → Nat → Int32} {lw : Nat → Int64} {Q : Int32 → Prop} (h : wp_M_atOf 13 v1 fd ar lw Q) : ct_i l V D vwCl (tyL gI) yX3_atOf cX3_atOf 2 .int { frames := 1, cells := 0, slots := 0, locals := 12 } [.ref (ad 13), .int v1] (wm gI o ad fd ar lw) (fun u : Unit => (wm gI o ad fd ar lw)) (fun (x : Int32) (u : Unit) => Q x) := by
  refine ct_ofi RX3 rfl (by decide +kernel) (Nat.le_of_ble_eq_true rfl) ?_
  intro p e s m args below meth c A F hP hD ls hl
  obtain ⟨⟨hx, hb, hml, hown, hts⟩, hr, hlocks, hA, hK, hE⟩ := id F
  have hS : va_S A s.heap s.heap [] := va_S.rf
  have hl : lv_has ls 2 [(0, .ref (ad 13)), (1, .int v1)] := hl
  have hRf : 1 ≤ ({ frames := 1, cells := 0, slots := 0, locals := 12 } : Room).frames := Nat.le_refl _
  have hRl : 12 ≤ ({ frames := 1, cells := 0, slots := 0, locals := 12 } : Room).locals := Nat.le_refl _
  have hC : 0 ≤ ({ frames := 1, cells := 0, slots := 0, locals := 12 } : Room).cells := Nat.le_refl _
  have hSl : 0 ≤ ({ frames := 1, cells := 0, slots := 0, locals := 12 } : Room).slots := Nat.le_refl _
  unfold wp_M_atOf at h
  refine lv_aload_n hx hb dX3_atOf_0 rfl (lv_at hl 0 rfl) ?_
  refine lv_bipush (v := (25 : Int32)) hx hb dX3_atOf_1 (by decide) ?_
  refine lv_iconst (v := (2 : Int32)) hx hb dX3_atOf_3 (by decide) ?_
  refine lv_iload_n hx hb dX3_atOf_4 rfl (lv_at hl 1 rfl) ?_
  refine lv_imul hx hb dX3_atOf_5 ?_
  refine lv_iadd hx hb dX3_atOf_6 ?_
  refine lv_iconst (v := (0 : Int32)) hx hb dX3_atOf_7 (by decide) ?_
  refine lv_iadd hx hb dX3_atOf_8 ?_
  refine va_iald (f := (ar 13)) hx hb hK hP 9 0 rfl rfl h.1 dX3_atOf_9 ?_
  replace h := h.2
  exact rt_i F dX3_atOf_10 rfl () h hP hD hS (Nat.le_refl _) (Nat.le_refl _)
set_option maxHeartbeats 4000000 in
theorem ct_M_topOf_i12 {l : Launch} {V : evT} {D : va_G} {gI : Nat → ClassId} {o : Nat} {ad : Nat → Nat} {v2 : Int32} {fd : Nat → Int32} {ar : Nat → Nat → Int32} {lw : Nat → Int64} {Q : Int32 → Prop} (h : wp_M_topOf 12 v2 fd ar lw Q) : ct_i l V D vwCl (tyL gI) yX3_topOf cX3_topOf 3 .int { frames := 1, cells := 0, slots := 0, locals := 12 } [.ref o, .ref (ad 12), .int v2] (wm gI o ad fd ar lw) (fun u : Unit => (wm gI o ad fd ar lw)) (fun (x : Int32) (u : Unit) => Q x) := by
  refine ct_ofi RX3 rfl (by decide +kernel) (Nat.le_of_ble_eq_true rfl) ?_
  intro p e s m args below meth c A F hP hD ls hl
  obtain ⟨⟨hx, hb, hml, hown, hts⟩, hr, hlocks, hA, hK, hE⟩ := id F
  have hS : va_S A s.heap s.heap [] := va_S.rf
  have hl : lv_has ls 3 [(0, .ref o), (1, .ref (ad 12)), (2, .int v2)] := hl
  have hRf : 1 ≤ ({ frames := 1, cells := 0, slots := 0, locals := 12 } : Room).frames := Nat.le_refl _
  have hRl : 12 ≤ ({ frames := 1, cells := 0, slots := 0, locals := 12 } : Room).locals := Nat.le_refl _
  have hC : 0 ≤ ({ frames := 1, cells := 0, slots := 0, locals := 12 } : Room).cells := Nat.le_refl _
  have hSl : 0 ≤ ({ frames := 1, cells := 0, slots := 0, locals := 12 } : Room).slots := Nat.le_refl _
  unfold wp_M_topOf at h
  refine lv_bipush (v := (10 : Int32)) hx hb dX3_topOf_0 (by decide) ?_
  refine lv_aload_n hx hb dX3_topOf_2 rfl (lv_at hl 0 rfl) ?_
  refine va_get hx hb hts in_X3 hown hK hP 0 rfl rfl 6 (Nat.le_of_ble_eq_true rfl) (hts _ q1224) (fun _ h => h) (v := .ref (ad 6)) rfl dX3_topOf_3 ?_
  refine lv_iload_n hx hb dX3_topOf_6 rfl (lv_at hl 2 rfl) ?_
  refine va_iald (f := (ar 6)) hx hb hK hP 2 0 rfl rfl h.1 dX3_topOf_7 ?_
  replace h := h.2
  refine lv_imul hx hb dX3_topOf_8 ?_
  refine lv_aload_n hx hb dX3_topOf_9 rfl (lv_at hl 1 rfl) ?_
  refine lv_iload_n hx hb dX3_topOf_10 rfl (lv_at hl 2 rfl) ?_
  refine va_iald (f := (ar 12)) hx hb hK hP 8 0 rfl rfl h.1 dX3_topOf_11 ?_
  replace h := h.2
  refine lv_iadd hx hb dX3_topOf_12 ?_
  exact rt_i F dX3_topOf_13 rfl () h hP hD hS (Nat.le_refl _) (Nat.le_refl _)
set_option maxHeartbeats 4000000 in
theorem ct_M_topOf_i13 {l : Launch} {V : evT} {D : va_G} {gI : Nat → ClassId} {o : Nat} {ad : Nat → Nat} {v2 : Int32} {fd : Nat → Int32} {ar : Nat → Nat → Int32} {lw : Nat → Int64} {Q : Int32 → Prop} (h : wp_M_topOf 13 v2 fd ar lw Q) : ct_i l V D vwCl (tyL gI) yX3_topOf cX3_topOf 3 .int { frames := 1, cells := 0, slots := 0, locals := 12 } [.ref o, .ref (ad 13), .int v2] (wm gI o ad fd ar lw) (fun u : Unit => (wm gI o ad fd ar lw)) (fun (x : Int32) (u : Unit) => Q x) := by
  refine ct_ofi RX3 rfl (by decide +kernel) (Nat.le_of_ble_eq_true rfl) ?_
  intro p e s m args below meth c A F hP hD ls hl
  obtain ⟨⟨hx, hb, hml, hown, hts⟩, hr, hlocks, hA, hK, hE⟩ := id F
  have hS : va_S A s.heap s.heap [] := va_S.rf
  have hl : lv_has ls 3 [(0, .ref o), (1, .ref (ad 13)), (2, .int v2)] := hl
  have hRf : 1 ≤ ({ frames := 1, cells := 0, slots := 0, locals := 12 } : Room).frames := Nat.le_refl _
  have hRl : 12 ≤ ({ frames := 1, cells := 0, slots := 0, locals := 12 } : Room).locals := Nat.le_refl _
  have hC : 0 ≤ ({ frames := 1, cells := 0, slots := 0, locals := 12 } : Room).cells := Nat.le_refl _
  have hSl : 0 ≤ ({ frames := 1, cells := 0, slots := 0, locals := 12 } : Room).slots := Nat.le_refl _
  unfold wp_M_topOf at h
  refine lv_bipush (v := (10 : Int32)) hx hb dX3_topOf_0 (by decide) ?_
  refine lv_aload_n hx hb dX3_topOf_2 rfl (lv_at hl 0 rfl) ?_
  refine va_get hx hb hts in_X3 hown hK hP 0 rfl rfl 6 (Nat.le_of_ble_eq_true rfl) (hts _ q1224) (fun _ h => h) (v := .ref (ad 6)) rfl dX3_topOf_3 ?_
  refine lv_iload_n hx hb dX3_topOf_6 rfl (lv_at hl 2 rfl) ?_
  refine va_iald (f := (ar 6)) hx hb hK hP 2 0 rfl rfl h.1 dX3_topOf_7 ?_
  replace h := h.2
  refine lv_imul hx hb dX3_topOf_8 ?_
  refine lv_aload_n hx hb dX3_topOf_9 rfl (lv_at hl 1 rfl) ?_
  refine lv_iload_n hx hb dX3_topOf_10 rfl (lv_at hl 2 rfl) ?_
  refine va_iald (f := (ar 13)) hx hb hK hP 9 0 rfl rfl h.1 dX3_topOf_11 ?_
  replace h := h.2
  refine lv_iadd hx hb dX3_topOf_12 ?_
  exact rt_i F dX3_topOf_13 rfl () h hP hD hS (Nat.le_refl _) (Nat.le_refl _)
set_option maxHeartbeats 4000000 in
theorem ct_M_moodOf_i12 {l : Launch} {V : evT} {D : va_G} {gI : Nat → ClassId} {o : Nat} {ad : Nat → Nat} {v1 : Int32} {fd : Nat → Int32} {ar : Nat → Nat → Int32} {lw : Nat → Int64} {Q : Int32 → Prop} (h : wp_M_moodOf 12 v1 fd ar lw Q) : ct_i l V D vwCl (tyL gI) yX3_moodOf cX3_moodOf 2 .int { frames := 1, cells := 0, slots := 0, locals := 12 } [.ref (ad 12), .int v1] (wm gI o ad fd ar lw) (fun u : Unit => (wm gI o ad fd ar lw)) (fun (x : Int32) (u : Unit) => Q x) := by
  refine ct_ofi RX3 rfl (by decide +kernel) (Nat.le_of_ble_eq_true rfl) ?_
  intro p e s m args below meth c A F hP hD ls hl
  obtain ⟨⟨hx, hb, hml, hown, hts⟩, hr, hlocks, hA, hK, hE⟩ := id F
  have hS : va_S A s.heap s.heap [] := va_S.rf
  have hl : lv_has ls 2 [(0, .ref (ad 12)), (1, .int v1)] := hl
  have hRf : 1 ≤ ({ frames := 1, cells := 0, slots := 0, locals := 12 } : Room).frames := Nat.le_refl _
  have hRl : 12 ≤ ({ frames := 1, cells := 0, slots := 0, locals := 12 } : Room).locals := Nat.le_refl _
  have hC : 0 ≤ ({ frames := 1, cells := 0, slots := 0, locals := 12 } : Room).cells := Nat.le_refl _
  have hSl : 0 ≤ ({ frames := 1, cells := 0, slots := 0, locals := 12 } : Room).slots := Nat.le_refl _
  unfold wp_M_moodOf at h
  refine lv_aload_n hx hb dX3_moodOf_0 rfl (lv_at hl 0 rfl) ?_
  refine lv_bipush (v := (25 : Int32)) hx hb dX3_moodOf_1 (by decide) ?_
  refine lv_iconst (v := (2 : Int32)) hx hb dX3_moodOf_3 (by decide) ?_
  refine lv_iload_n hx hb dX3_moodOf_4 rfl (lv_at hl 1 rfl) ?_
  refine lv_imul hx hb dX3_moodOf_5 ?_
  refine lv_iadd hx hb dX3_moodOf_6 ?_
  refine lv_iconst (v := (1 : Int32)) hx hb dX3_moodOf_7 (by decide) ?_
  refine lv_iadd hx hb dX3_moodOf_8 ?_
  refine va_iald (f := (ar 12)) hx hb hK hP 8 0 rfl rfl h.1 dX3_moodOf_9 ?_
  replace h := h.2
  exact rt_i F dX3_moodOf_10 rfl () h hP hD hS (Nat.le_refl _) (Nat.le_refl _)
set_option maxHeartbeats 4000000 in
theorem ct_M_moodOf_i13 {l : Launch} {V : evT} {D : va_G} {gI : Nat → ClassId} {o : Nat} {ad : Nat → Nat} {v1 : Int32} {fd : Nat → Int32} {ar : Nat → Nat → Int32} {lw : Nat → Int64} {Q : Int32 → Prop} (h : wp_M_moodOf 13 v1 fd ar lw Q) : ct_i l V D vwCl (tyL gI) yX3_moodOf cX3_moodOf 2 .int { frames := 1, cells := 0, slots := 0, locals := 12 } [.ref (ad 13), .int v1] (wm gI o ad fd ar lw) (fun u : Unit => (wm gI o ad fd ar lw)) (fun (x : Int32) (u : Unit) => Q x) := by
  refine ct_ofi RX3 rfl (by decide +kernel) (Nat.le_of_ble_eq_true rfl) ?_
  intro p e s m args below meth c A F hP hD ls hl
  obtain ⟨⟨hx, hb, hml, hown, hts⟩, hr, hlocks, hA, hK, hE⟩ := id F
  have hS : va_S A s.heap s.heap [] := va_S.rf
  have hl : lv_has ls 2 [(0, .ref (ad 13)), (1, .int v1)] := hl
  have hRf : 1 ≤ ({ frames := 1, cells := 0, slots := 0, locals := 12 } : Room).frames := Nat.le_refl _
  have hRl : 12 ≤ ({ frames := 1, cells := 0, slots := 0, locals := 12 } : Room).locals := Nat.le_refl _
  have hC : 0 ≤ ({ frames := 1, cells := 0, slots := 0, locals := 12 } : Room).cells := Nat.le_refl _
  have hSl : 0 ≤ ({ frames := 1, cells := 0, slots := 0, locals := 12 } : Room).slots := Nat.le_refl _
  unfold wp_M_moodOf at h
  refine lv_aload_n hx hb dX3_moodOf_0 rfl (lv_at hl 0 rfl) ?_
  refine lv_bipush (v := (25 : Int32)) hx hb dX3_moodOf_1 (by decide) ?_
  refine lv_iconst (v := (2 : Int32)) hx hb dX3_moodOf_3 (by decide) ?_
  refine lv_iload_n hx hb dX3_moodOf_4 rfl (lv_at hl 1 rfl) ?_
  refine lv_imul hx hb dX3_moodOf_5 ?_
  refine lv_iadd hx hb dX3_moodOf_6 ?_
  refine lv_iconst (v := (1 : Int32)) hx hb dX3_moodOf_7 (by decide) ?_
  refine lv_iadd hx hb dX3_moodOf_8 ?_
  refine va_iald (f := (ar 13)) hx hb hK hP 9 0 rfl rfl h.1 dX3_moodOf_9 ?_
  replace h := h.2
  exact rt_i F dX3_moodOf_10 rfl () h hP hD hS (Nat.le_refl _) (Nat.le_refl _)
set_option maxHeartbeats 4000000 in
theorem lp_M_undo_L1 {p : Program} {l : Launch} {e : Env} {R : Room} {s : State} {m : MethodId} {args : Array Value} {below : List Frame} {meth : Method} {c : Code} {cells slots : Nat} {A : Nat → Prop} {Qf : State → Prop} {V : evT} {D : va_G} {gI : Nat → ClassId} {o : Nat} {ad : Nat → Nat} {fd : Nat → Int32} {lw : Nat → Int64} {K58 : (Nat → Nat → Int32) → Prop} (F : ct_F p m c meth cX3_undo 2 s args RX3 (some .int) A V D vwCl (tyL gI)) (hRf : 1 ≤ R.frames) (hRl : 12 ≤ R.locals) (hC : cells ≤ R.cells) (hSl : slots ≤ R.slots)
    (hK58 : ∀ (ar : Nat → Nat → Int32), K58 ar → ∀ (H : Heap) (locs : List Loc) (ls : Array Slot), va_P D vwCl (wm gI o ad fd ar lw) H → va_D A (wm gI o ad fd ar lw) → va_S A s.heap H locs → lv_has ls 2 [(0, .ref o)] → W p l e R s m args below meth c H locs cells slots Qf (F0 m 58 ls [])) :
    ∀ (n : Nat) (v1 : Int32) (ar : Nat → Nat → Int32), wp_M_undo_L1 fd lw K58 n v1 ar → ∀ (H : Heap) (locs : List Loc) (ls : Array Slot), va_P D vwCl (wm gI o ad fd ar lw) H → va_D A (wm gI o ad fd ar lw) → va_S A s.heap H locs → lv_has ls 2 [(0, .ref o), (1, .int v1)] → W p l e R s m args below meth c H locs cells slots Qf (F0 m 26 ls []) := by
  obtain ⟨⟨hx, hb, hml, hown, hts⟩, hr, hlocks, hA, hK, hE⟩ := id F
  intro n
  induction n with
  | zero => intro v1 ar h; exact h.elim
  | succ n ih =>
    intro v1 ar h H locs ls hP hD hS hl
    unfold wp_M_undo_L1 at h
    refine lv_iload_n hx hb dX3_undo_26 rfl (lv_at hl 1 rfl) ?_
    refine lv_bipush (v := (43 : Int32)) hx hb dX3_undo_27 (by decide) ?_
    refine lv_icmp_ge (tgt := 58) hx hb dX3_undo_29 (by decide) (fun c1 => ?_) (fun c1 => ?_)
    · replace h := h.1 c1
      exact hK58 _ h _ _ _ hP hD hS (lv_sub hl [0] rfl)
    · replace h := h.2 c1
      refine lv_aload_n hx hb dX3_undo_32 rfl (lv_at hl 0 rfl) ?_
      refine va_get hx hb hts in_X3 hown hK hP 0 rfl rfl 12 (Nat.le_of_ble_eq_true rfl) (hts _ q1230) (fun _ h => h) (v := .ref (ad 12)) rfl dX3_undo_33 ?_
      refine lv_iload_n hx hb dX3_undo_36 rfl (lv_at hl 1 rfl) ?_
      refine lv_aload_n hx hb dX3_undo_37 rfl (lv_at hl 0 rfl) ?_
      refine va_get hx hb hts in_X3 hown hK hP 0 rfl rfl 28 (Nat.le_of_ble_eq_true rfl) (hts _ q1246) (fun _ h => h) (v := .ref (ad 28)) rfl dX3_undo_38 ?_
      refine lv_bipush (v := (43 : Int32)) hx hb dX3_undo_41 (by decide) ?_
      refine lv_aload_n hx hb dX3_undo_43 rfl (lv_at hl 0 rfl) ?_
      refine va_get hx hb hts in_X3 hown hK hP 0 rfl rfl 27 (Nat.le_of_ble_eq_true rfl) (hts _ q1245) (fun _ h => h) (v := .int (fd 27)) rfl dX3_undo_44 ?_
      refine lv_imul hx hb dX3_undo_47 ?_
      refine lv_iload_n hx hb dX3_undo_48 rfl (lv_at hl 1 rfl) ?_
      refine lv_iadd hx hb dX3_undo_49 ?_
      refine va_iald (f := (ar 28)) hx hb hK hP 16 0 rfl rfl h.1 dX3_undo_50 ?_
      replace h := h.2
      refine pt_iast (f := (ar 12)) hx hb hK hP hD hS 8 0 rfl rfl h.1 dX3_undo_51 wmA_12 (fun H locs hP hD hS => ?_)
      replace h := h.2
      refine lv_iinc (v := (v1 + (1 : Int32))) (lv' := [(1, .int (v1 + (1 : Int32))), (0, .ref o)]) hx hb dX3_undo_52 hl (k := 1) rfl rfl (by decide) rfl (fun ls hl => ?_)
      refine lv_goto (tgt := 26) hx hb dX3_undo_55 (by decide) ?_
      exact ih _ _ h _ _ _ hP hD hS (lv_sub hl [1, 0] rfl)
set_option maxHeartbeats 4000000 in
theorem ct_M_undo {l : Launch} {V : evT} {D : va_G} {gI : Nat → ClassId} {o : Nat} {ad : Nat → Nat} {fd : Nat → Int32} {ar : Nat → Nat → Int32} {lw : Nat → Int64} {Q : Int32 → (Nat → Int32) → (Nat → Nat → Int32) → Prop} (h : wp_M_undo fd ar lw Q) : ct_i l V D vwCl (tyL gI) yX3_undo cX3_undo 2 .int { frames := 1, cells := 0, slots := 0, locals := 12 } [.ref o] (wm gI o ad fd ar lw) (fun u : (Nat → Int32) × (Nat → Nat → Int32) => (wm gI o ad u.1 u.2 lw)) (fun (x : Int32) (u : (Nat → Int32) × (Nat → Nat → Int32)) => Q x u.1 u.2) := by
  refine ct_ofi RX3 rfl (by decide +kernel) (Nat.le_of_ble_eq_true rfl) ?_
  intro p e s m args below meth c A F hP hD ls hl
  obtain ⟨⟨hx, hb, hml, hown, hts⟩, hr, hlocks, hA, hK, hE⟩ := id F
  have hS : va_S A s.heap s.heap [] := va_S.rf
  have hl : lv_has ls 2 [(0, .ref o)] := hl
  have hRf : 1 ≤ ({ frames := 1, cells := 0, slots := 0, locals := 12 } : Room).frames := Nat.le_refl _
  have hRl : 12 ≤ ({ frames := 1, cells := 0, slots := 0, locals := 12 } : Room).locals := Nat.le_refl _
  have hC : 0 ≤ ({ frames := 1, cells := 0, slots := 0, locals := 12 } : Room).cells := Nat.le_refl _
  have hSl : 0 ≤ ({ frames := 1, cells := 0, slots := 0, locals := 12 } : Room).slots := Nat.le_refl _
  unfold wp_M_undo at h
  refine lv_aload_n hx hb dX3_undo_0 rfl (lv_at hl 0 rfl) ?_
  refine lv_iconst (v := (0 : Int32)) hx hb dX3_undo_1 (by decide) ?_
  refine pt_put (v := .int (0 : Int32)) hx hb hts in_X3 tyX3 tyX3_ok nmX3 hown hK hP hD hS 0 rfl rfl 0 (Nat.le_of_ble_eq_true rfl) (hts _ q1218) (fun _ h => h) rfl (ty := .int) (by decide +kernel) rfl rfl (Nat.le_of_ble_eq_true rfl) dX3_undo_2 wmF_0 (fun H locs hP hD hS => ?_)
  refine lv_aload_n hx hb dX3_undo_5 rfl (lv_at hl 0 rfl) ?_
  refine va_get hx hb hts in_X3 hown hK hP 0 rfl rfl 27 (Nat.le_of_ble_eq_true rfl) (hts _ q1245) (fun _ h => h) (v := .int (fd 27)) rfl dX3_undo_6 ?_
  refine lv_if_ne (tgt := 14) hx hb dX3_undo_9 (by decide) (fun c3 => ?_) (fun c3 => ?_)
  · replace h := h.1 c3
    refine lv_aload_n hx hb dX3_undo_14 rfl (lv_at hl 0 rfl) ?_
    refine lv_dup hx hb dX3_undo_15 rfl ?_
    refine va_get hx hb hts in_X3 hown hK hP 0 rfl rfl 27 (Nat.le_of_ble_eq_true rfl) (hts _ q1245) (fun _ h => h) (v := .int (fd 27)) rfl dX3_undo_16 ?_
    refine lv_iconst (v := (1 : Int32)) hx hb dX3_undo_19 (by decide) ?_
    refine lv_isub hx hb dX3_undo_20 ?_
    refine pt_put (v := .int ((fd 27) - (1 : Int32))) hx hb hts in_X3 tyX3 tyX3_ok nmX3 hown hK hP hD hS 0 rfl rfl 27 (Nat.le_of_ble_eq_true rfl) (hts _ q1245) (fun _ h => h) rfl (ty := .int) (by decide +kernel) rfl rfl (Nat.le_of_ble_eq_true rfl) dX3_undo_21 wmF_27 (fun H locs hP hD hS => ?_)
    refine lv_iconst (v := (0 : Int32)) hx hb dX3_undo_24 (by decide) ?_
    refine lv_istore_n (lv' := [(1, .int (0 : Int32)), (0, .ref o)]) hx hb dX3_undo_25 rfl hl (by decide) rfl (fun ls hl => ?_)
    obtain ⟨k26, h⟩ := h
    refine lp_M_undo_L1 F hRf hRl hC hSl ?hk58 k26 _ _ h _ _ _ hP hD hS (lv_sub hl [1, 0] rfl)
    case hk58 =>
      intro ar_2 h H locs ls hP hD hS hl
      refine lv_aload_n hx hb dX3_undo_58 rfl (lv_at hl 0 rfl) ?_
      refine va_get hx hb hts in_X3 hown hK hP 0 rfl rfl 27 (Nat.le_of_ble_eq_true rfl) (hts _ q1245) (fun _ h => h) (v := .int ((fd 27) - (1 : Int32))) rfl dX3_undo_59 ?_
      exact rt_i F dX3_undo_62 rfl ((upd (upd fd 0 (0 : Int32)) 27 ((fd 27) - (1 : Int32))), ar_2) h hP hD hS (Nat.le_refl _) (Nat.le_refl _)
  · replace h := h.2 c3
    refine lv_iconst (v := (-1 : Int32)) hx hb dX3_undo_12 (by decide) ?_
    exact rt_i F dX3_undo_13 rfl ((upd fd 0 (0 : Int32)), ar) h hP hD hS (Nat.le_refl _) (Nat.le_refl _)
set_option maxHeartbeats 4000000 in
theorem lp_M_putsBy_L1 {p : Program} {l : Launch} {e : Env} {R : Room} {s : State} {m : MethodId} {args : Array Value} {below : List Frame} {meth : Method} {c : Code} {cells slots : Nat} {A : Nat → Prop} {Qf : State → Prop} {V : evT} {D : va_G} {gI : Nat → ClassId} {o : Nat} {ad : Nat → Nat} {fd : Nat → Int32} {lw : Nat → Int64} {K34 : (Nat → Nat → Int32) → Prop} (F : ct_F p m c meth cX3_putsBy 2 s args RX3 none A V D vwCl (tyL gI)) (hRf : 1 ≤ R.frames) (hRl : 12 ≤ R.locals) (hC : cells ≤ R.cells) (hSl : slots ≤ R.slots)
    (hK34 : ∀ (ar : Nat → Nat → Int32), K34 ar → ∀ (H : Heap) (locs : List Loc) (ls : Array Slot), va_P D vwCl (wm gI o ad fd ar lw) H → va_D A (wm gI o ad fd ar lw) → va_S A s.heap H locs → lv_has ls 2 [] → W p l e R s m args below meth c H locs cells slots Qf (F0 m 34 ls [])) :
    ∀ (n : Nat) (v1 : Int32) (ar : Nat → Nat → Int32), wp_M_putsBy_L1 fd lw K34 n v1 ar → ∀ (H : Heap) (locs : List Loc) (ls : Array Slot), va_P D vwCl (wm gI o ad fd ar lw) H → va_D A (wm gI o ad fd ar lw) → va_S A s.heap H locs → lv_has ls 2 [(0, .ref o), (1, .int v1)] → W p l e R s m args below meth c H locs cells slots Qf (F0 m 2 ls []) := by
  obtain ⟨⟨hx, hb, hml, hown, hts⟩, hr, hlocks, hA, hK, hE⟩ := id F
  intro n
  induction n with
  | zero => intro v1 ar h; exact h.elim
  | succ n ih =>
    intro v1 ar h H locs ls hP hD hS hl
    unfold wp_M_putsBy_L1 at h
    refine lv_iload_n hx hb dX3_putsBy_2 rfl (lv_at hl 1 rfl) ?_
    refine lv_bipush (v := (43 : Int32)) hx hb dX3_putsBy_3 (by decide) ?_
    refine lv_icmp_ge (tgt := 34) hx hb dX3_putsBy_5 (by decide) (fun c1 => ?_) (fun c1 => ?_)
    · replace h := h.1 c1
      exact hK34 _ h _ _ _ hP hD hS (lv_sub hl [] rfl)
    · replace h := h.2 c1
      refine lv_aload_n hx hb dX3_putsBy_8 rfl (lv_at hl 0 rfl) ?_
      refine va_get hx hb hts in_X3 hown hK hP 0 rfl rfl 28 (Nat.le_of_ble_eq_true rfl) (hts _ q1246) (fun _ h => h) (v := .ref (ad 28)) rfl dX3_putsBy_9 ?_
      refine lv_bipush (v := (43 : Int32)) hx hb dX3_putsBy_12 (by decide) ?_
      refine lv_aload_n hx hb dX3_putsBy_14 rfl (lv_at hl 0 rfl) ?_
      refine va_get hx hb hts in_X3 hown hK hP 0 rfl rfl 27 (Nat.le_of_ble_eq_true rfl) (hts _ q1245) (fun _ h => h) (v := .int (fd 27)) rfl dX3_putsBy_15 ?_
      refine lv_imul hx hb dX3_putsBy_18 ?_
      refine lv_iload_n hx hb dX3_putsBy_19 rfl (lv_at hl 1 rfl) ?_
      refine lv_iadd hx hb dX3_putsBy_20 ?_
      refine lv_aload_n hx hb dX3_putsBy_21 rfl (lv_at hl 0 rfl) ?_
      refine va_get hx hb hts in_X3 hown hK hP 0 rfl rfl 12 (Nat.le_of_ble_eq_true rfl) (hts _ q1230) (fun _ h => h) (v := .ref (ad 12)) rfl dX3_putsBy_22 ?_
      refine lv_iload_n hx hb dX3_putsBy_25 rfl (lv_at hl 1 rfl) ?_
      refine va_iald (f := (ar 12)) hx hb hK hP 8 0 rfl rfl h.1 dX3_putsBy_26 ?_
      replace h := h.2
      refine pt_iast (f := (ar 28)) hx hb hK hP hD hS 16 0 rfl rfl h.1 dX3_putsBy_27 wmA_28 (fun H locs hP hD hS => ?_)
      replace h := h.2
      refine lv_iinc (v := (v1 + (1 : Int32))) (lv' := [(1, .int (v1 + (1 : Int32))), (0, .ref o)]) hx hb dX3_putsBy_28 hl (k := 1) rfl rfl (by decide) rfl (fun ls hl => ?_)
      refine lv_goto (tgt := 2) hx hb dX3_putsBy_31 (by decide) ?_
      exact ih _ _ h _ _ _ hP hD hS (lv_sub hl [1, 0] rfl)
set_option maxHeartbeats 4000000 in
theorem ct_M_putsBy {l : Launch} {V : evT} {D : va_G} {gI : Nat → ClassId} {o : Nat} {ad : Nat → Nat} {fd : Nat → Int32} {ar : Nat → Nat → Int32} {lw : Nat → Int64} {Q : (Nat → Nat → Int32) → Prop} (h : wp_M_putsBy fd ar lw Q) : ct_v l V D vwCl (tyL gI) yX3_putsBy cX3_putsBy 2 { frames := 1, cells := 0, slots := 0, locals := 12 } [.ref o] (wm gI o ad fd ar lw) (fun u : (Nat → Nat → Int32) => (wm gI o ad fd u lw)) (fun (u : (Nat → Nat → Int32)) => Q u) := by
  refine ct_ofv RX3 rfl (by decide +kernel) (Nat.le_of_ble_eq_true rfl) ?_
  intro p e s m args below meth c A F _ hP hD ls hl
  obtain ⟨⟨hx, hb, hml, hown, hts⟩, hr, hlocks, hA, hK, hE⟩ := id F
  have hS : va_S A s.heap s.heap [] := va_S.rf
  have hl : lv_has ls 2 [(0, .ref o)] := hl
  have hRf : 1 ≤ ({ frames := 1, cells := 0, slots := 0, locals := 12 } : Room).frames := Nat.le_refl _
  have hRl : 12 ≤ ({ frames := 1, cells := 0, slots := 0, locals := 12 } : Room).locals := Nat.le_refl _
  have hC : 0 ≤ ({ frames := 1, cells := 0, slots := 0, locals := 12 } : Room).cells := Nat.le_refl _
  have hSl : 0 ≤ ({ frames := 1, cells := 0, slots := 0, locals := 12 } : Room).slots := Nat.le_refl _
  unfold wp_M_putsBy at h
  refine lv_iconst (v := (0 : Int32)) hx hb dX3_putsBy_0 (by decide) ?_
  refine lv_istore_n (lv' := [(1, .int (0 : Int32)), (0, .ref o)]) hx hb dX3_putsBy_1 rfl hl (by decide) rfl (fun ls hl => ?_)
  obtain ⟨k2, h⟩ := h
  refine lp_M_putsBy_L1 F hRf hRl hC hSl ?hk34 k2 _ _ h _ _ _ hP hD hS (lv_sub hl [1, 0] rfl)
  case hk34 =>
    intro ar_2 h H locs ls hP hD hS hl
    exact rt_v F dX3_putsBy_34 (ar_2) h hP hD hS (Nat.le_refl _) (Nat.le_refl _)
set_option maxHeartbeats 4000000 in
theorem lp_M_adds_L1 {p : Program} {l : Launch} {e : Env} {R : Room} {s : State} {m : MethodId} {args : Array Value} {below : List Frame} {meth : Method} {c : Code} {cells slots : Nat} {A : Nat → Prop} {Qf : State → Prop} {V : evT} {D : va_G} {gI : Nat → ClassId} {o : Nat} {ad : Nat → Nat} {v1 : Int32} {fd : Nat → Int32} {lw : Nat → Int64} {K49 : (Nat → Nat → Int32) → Prop} (F : ct_F p m c meth cX3_adds 3 s args RX3 (some .int) A V D vwCl (tyL gI)) (hRf : 1 ≤ R.frames) (hRl : 12 ≤ R.locals) (hC : cells ≤ R.cells) (hSl : slots ≤ R.slots)
    (hK49 : ∀ (ar : Nat → Nat → Int32), K49 ar → ∀ (H : Heap) (locs : List Loc) (ls : Array Slot), va_P D vwCl (wm gI o ad fd ar lw) H → va_D A (wm gI o ad fd ar lw) → va_S A s.heap H locs → lv_has ls 3 [(0, .ref o), (1, .int v1)] → W p l e R s m args below meth c H locs cells slots Qf (F0 m 49 ls [])) :
    ∀ (n : Nat) (v2 : Int32) (ar : Nat → Nat → Int32), wp_M_adds_L1 v1 fd lw K49 n v2 ar → ∀ (H : Heap) (locs : List Loc) (ls : Array Slot), va_P D vwCl (wm gI o ad fd ar lw) H → va_D A (wm gI o ad fd ar lw) → va_S A s.heap H locs → lv_has ls 3 [(0, .ref o), (1, .int v1), (2, .int v2)] → W p l e R s m args below meth c H locs cells slots Qf (F0 m 21 ls []) := by
  obtain ⟨⟨hx, hb, hml, hown, hts⟩, hr, hlocks, hA, hK, hE⟩ := id F
  intro n
  induction n with
  | zero => intro v2 ar h; exact h.elim
  | succ n ih =>
    intro v2 ar h H locs ls hP hD hS hl
    unfold wp_M_adds_L1 at h
    refine lv_iload_n hx hb dX3_adds_21 rfl (lv_at hl 2 rfl) ?_
    refine lv_sipush (v := (645 : Int32)) hx hb dX3_adds_22 (by decide) ?_
    refine lv_icmp_ge (tgt := 49) hx hb dX3_adds_25 (by decide) (fun c1 => ?_) (fun c1 => ?_)
    · replace h := h.1 c1
      exact hK49 _ h _ _ _ hP hD hS (lv_sub hl [0, 1] rfl)
    · replace h := h.2 c1
      refine lv_aload_n hx hb dX3_adds_28 rfl (lv_at hl 0 rfl) ?_
      refine va_get hx hb hts in_X3 hown hK hP 0 rfl rfl 28 (Nat.le_of_ble_eq_true rfl) (hts _ q1246) (fun _ h => h) (v := .ref (ad 28)) rfl dX3_adds_29 ?_
      refine lv_iload_n hx hb dX3_adds_32 rfl (lv_at hl 2 rfl) ?_
      refine lv_aload_n hx hb dX3_adds_33 rfl (lv_at hl 0 rfl) ?_
      refine va_get hx hb hts in_X3 hown hK hP 0 rfl rfl 28 (Nat.le_of_ble_eq_true rfl) (hts _ q1246) (fun _ h => h) (v := .ref (ad 28)) rfl dX3_adds_34 ?_
      refine lv_iload_n hx hb dX3_adds_37 rfl (lv_at hl 2 rfl) ?_
      refine lv_bipush (v := (43 : Int32)) hx hb dX3_adds_38 (by decide) ?_
      refine lv_iadd hx hb dX3_adds_40 ?_
      refine va_iald (f := (ar 28)) hx hb hK hP 16 0 rfl rfl h.1 dX3_adds_41 ?_
      replace h := h.2
      refine pt_iast (f := (ar 28)) hx hb hK hP hD hS 16 0 rfl rfl h.1 dX3_adds_42 wmA_28 (fun H locs hP hD hS => ?_)
      replace h := h.2
      refine lv_iinc (v := (v2 + (1 : Int32))) (lv' := [(2, .int (v2 + (1 : Int32))), (0, .ref o), (1, .int v1)]) hx hb dX3_adds_43 hl (k := 2) rfl rfl (by decide) rfl (fun ls hl => ?_)
      refine lv_goto (tgt := 21) hx hb dX3_adds_46 (by decide) ?_
      exact ih _ _ h _ _ _ hP hD hS (lv_sub hl [1, 2, 0] rfl)
set_option maxHeartbeats 4000000 in
theorem ct_M_adds {l : Launch} {V : evT} {D : va_G} {gI : Nat → ClassId} {o : Nat} {ad : Nat → Nat} {v1 : Int32} {fd : Nat → Int32} {ar : Nat → Nat → Int32} {lw : Nat → Int64} {Q : Int32 → (Nat → Int32) → (Nat → Nat → Int32) → Prop} (h : wp_M_adds v1 fd ar lw Q) : ct_i l V D vwCl (tyL gI) yX3_adds cX3_adds 3 .int { frames := 1, cells := 0, slots := 0, locals := 12 } [.ref o, .int v1] (wm gI o ad fd ar lw) (fun u : (Nat → Int32) × (Nat → Nat → Int32) => (wm gI o ad u.1 u.2 lw)) (fun (x : Int32) (u : (Nat → Int32) × (Nat → Nat → Int32)) => Q x u.1 u.2) := by
  refine ct_ofi RX3 rfl (by decide +kernel) (Nat.le_of_ble_eq_true rfl) ?_
  intro p e s m args below meth c A F hP hD ls hl
  obtain ⟨⟨hx, hb, hml, hown, hts⟩, hr, hlocks, hA, hK, hE⟩ := id F
  have hS : va_S A s.heap s.heap [] := va_S.rf
  have hl : lv_has ls 3 [(0, .ref o), (1, .int v1)] := hl
  have hRf : 1 ≤ ({ frames := 1, cells := 0, slots := 0, locals := 12 } : Room).frames := Nat.le_refl _
  have hRl : 12 ≤ ({ frames := 1, cells := 0, slots := 0, locals := 12 } : Room).locals := Nat.le_refl _
  have hC : 0 ≤ ({ frames := 1, cells := 0, slots := 0, locals := 12 } : Room).cells := Nat.le_refl _
  have hSl : 0 ≤ ({ frames := 1, cells := 0, slots := 0, locals := 12 } : Room).slots := Nat.le_refl _
  unfold wp_M_adds at h
  refine lv_aload_n hx hb dX3_adds_0 rfl (lv_at hl 0 rfl) ?_
  refine lv_dup hx hb dX3_adds_1 rfl ?_
  refine va_get hx hb hts in_X3 hown hK hP 0 rfl rfl 27 (Nat.le_of_ble_eq_true rfl) (hts _ q1245) (fun _ h => h) (v := .int (fd 27)) rfl dX3_adds_2 ?_
  refine lv_iconst (v := (1 : Int32)) hx hb dX3_adds_5 (by decide) ?_
  refine lv_iadd hx hb dX3_adds_6 ?_
  refine pt_put (v := .int ((fd 27) + (1 : Int32))) hx hb hts in_X3 tyX3 tyX3_ok nmX3 hown hK hP hD hS 0 rfl rfl 27 (Nat.le_of_ble_eq_true rfl) (hts _ q1245) (fun _ h => h) rfl (ty := .int) (by decide +kernel) rfl rfl (Nat.le_of_ble_eq_true rfl) dX3_adds_7 wmF_27 (fun H locs hP hD hS => ?_)
  refine lv_aload_n hx hb dX3_adds_10 rfl (lv_at hl 0 rfl) ?_
  refine va_get hx hb hts in_X3 hown hK hP 0 rfl rfl 27 (Nat.le_of_ble_eq_true rfl) (hts _ q1245) (fun _ h => h) (v := .int ((fd 27) + (1 : Int32))) rfl dX3_adds_11 ?_
  refine lv_bipush (v := (15 : Int32)) hx hb dX3_adds_14 (by decide) ?_
  refine lv_icmp_le (tgt := 59) hx hb dX3_adds_16 (by decide) (fun c3 => ?_) (fun c3 => ?_)
  · replace h := h.1 c3
    refine lv_iload_n hx hb dX3_adds_59 rfl (lv_at hl 1 rfl) ?_
    exact rt_i F dX3_adds_60 rfl ((upd fd 27 ((fd 27) + (1 : Int32))), ar) h hP hD hS (Nat.le_refl _) (Nat.le_refl _)
  · replace h := h.2 c3
    refine lv_iconst (v := (0 : Int32)) hx hb dX3_adds_19 (by decide) ?_
    refine lv_istore_n (lv' := [(2, .int (0 : Int32)), (0, .ref o), (1, .int v1)]) hx hb dX3_adds_20 rfl hl (by decide) rfl (fun ls hl => ?_)
    obtain ⟨k21, h⟩ := h
    refine lp_M_adds_L1 F hRf hRl hC hSl ?hk49 k21 _ _ h _ _ _ hP hD hS (lv_sub hl [1, 2, 0] rfl)
    case hk49 =>
      intro ar_2 h H locs ls hP hD hS hl
      refine lv_aload_n hx hb dX3_adds_49 rfl (lv_at hl 0 rfl) ?_
      refine lv_dup hx hb dX3_adds_50 rfl ?_
      refine va_get hx hb hts in_X3 hown hK hP 0 rfl rfl 27 (Nat.le_of_ble_eq_true rfl) (hts _ q1245) (fun _ h => h) (v := .int ((fd 27) + (1 : Int32))) rfl dX3_adds_51 ?_
      refine lv_iconst (v := (1 : Int32)) hx hb dX3_adds_54 (by decide) ?_
      refine lv_isub hx hb dX3_adds_55 ?_
      refine pt_put (v := .int (((fd 27) + (1 : Int32)) - (1 : Int32))) hx hb hts in_X3 tyX3 tyX3_ok nmX3 hown hK hP hD hS 0 rfl rfl 27 (Nat.le_of_ble_eq_true rfl) (hts _ q1245) (fun _ h => h) rfl (ty := .int) (by decide +kernel) rfl rfl (Nat.le_of_ble_eq_true rfl) dX3_adds_56 (wmF_27.trans (wmrF (up_rm0 ..))) (fun H locs hP hD hS => ?_)
      refine lv_iload_n hx hb dX3_adds_59 rfl (lv_at hl 1 rfl) ?_
      exact rt_i F dX3_adds_60 rfl ((upd fd 27 (((fd 27) + (1 : Int32)) - (1 : Int32))), ar_2) h hP hD hS (Nat.le_refl _) (Nat.le_refl _)
set_option maxHeartbeats 4000000 in
theorem lp_M_wallAll_L1_i12 {p : Program} {l : Launch} {e : Env} {R : Room} {s : State} {m : MethodId} {args : Array Value} {below : List Frame} {meth : Method} {c : Code} {cells slots : Nat} {A : Nat → Prop} {Qf : State → Prop} {V : evT} {D : va_G} {gI : Nat → ClassId} {o : Nat} {ad : Nat → Nat} {fd : Nat → Int32} {ar : Nat → Nat → Int32} {lw : Nat → Int64} {K24 : (Int32) → Prop} (F : ct_F p m c meth cX3_wallAll 4 s args RX3 (some .int) A V D vwCl (tyL gI)) (hRf : 1 ≤ R.frames) (hRl : 12 ≤ R.locals) (hC : cells ≤ R.cells) (hSl : slots ≤ R.slots)
    (hK24 : ∀ (v2 : Int32), K24 v2 → ∀ (H : Heap) (locs : List Loc) (ls : Array Slot), va_P D vwCl (wm gI o ad fd ar lw) H → va_D A (wm gI o ad fd ar lw) → va_S A s.heap H locs → lv_has ls 4 [(2, .int v2)] → W p l e R s m args below meth c H locs cells slots Qf (F0 m 24 ls [])) :
    ∀ (n : Nat) (v2 : Int32) (v3 : Int32), wp_M_wallAll_L1 12 fd ar lw K24 n v2 v3 → ∀ (H : Heap) (locs : List Loc) (ls : Array Slot), va_P D vwCl (wm gI o ad fd ar lw) H → va_D A (wm gI o ad fd ar lw) → va_S A s.heap H locs → lv_has ls 4 [(0, .ref o), (1, .ref (ad 12)), (2, .int v2), (3, .int v3)] → W p l e R s m args below meth c H locs cells slots Qf (F0 m 4 ls []) := by
  obtain ⟨⟨hx, hb, hml, hown, hts⟩, hr, hlocks, hA, hK, hE⟩ := id F
  intro n
  induction n with
  | zero => intro v2 v3 h; exact h.elim
  | succ n ih =>
    intro v2 v3 h H locs ls hP hD hS hl
    unfold wp_M_wallAll_L1 at h
    refine lv_iload_n hx hb dX3_wallAll_4 rfl (lv_at hl 3 rfl) ?_
    refine lv_aload_n hx hb dX3_wallAll_5 rfl (lv_at hl 0 rfl) ?_
    refine va_get hx hb hts in_X3 hown hK hP 0 rfl rfl 3 (Nat.le_of_ble_eq_true rfl) (hts _ q1221) (fun _ h => h) (v := .int (fd 3)) rfl dX3_wallAll_6 ?_
    refine lv_icmp_ge (tgt := 24) hx hb dX3_wallAll_9 (by decide) (fun c1 => ?_) (fun c1 => ?_)
    · replace h := h.1 c1
      exact hK24 _ h _ _ _ hP hD hS (lv_sub hl [2] rfl)
    · replace h := h.2 c1
      refine lv_iload_n hx hb dX3_wallAll_12 rfl (lv_at hl 2 rfl) ?_
      refine lv_aload_n hx hb dX3_wallAll_13 rfl (lv_at hl 1 rfl) ?_
      refine lv_iload_n hx hb dX3_wallAll_14 rfl (lv_at hl 3 rfl) ?_
      refine va_iald (f := (ar 12)) hx hb hK hP 8 0 rfl rfl h.1 dX3_wallAll_15 ?_
      replace h := h.2
      refine lv_iadd hx hb dX3_wallAll_16 ?_
      refine lv_istore_n (lv' := [(2, .int (v2 + (ar 12 v3.toNatClampNeg))), (0, .ref o), (1, .ref (ad 12)), (3, .int v3)]) hx hb dX3_wallAll_17 rfl hl (by decide) rfl (fun ls hl => ?_)
      refine lv_iinc (v := (v3 + (1 : Int32))) (lv' := [(3, .int (v3 + (1 : Int32))), (2, .int (v2 + (ar 12 v3.toNatClampNeg))), (0, .ref o), (1, .ref (ad 12))]) hx hb dX3_wallAll_18 hl (k := 3) rfl rfl (by decide) rfl (fun ls hl => ?_)
      refine lv_goto (tgt := 4) hx hb dX3_wallAll_21 (by decide) ?_
      exact ih _ _ h _ _ _ hP hD hS (lv_sub hl [2, 3, 1, 0] rfl)
set_option maxHeartbeats 4000000 in
theorem ct_M_wallAll_i12 {l : Launch} {V : evT} {D : va_G} {gI : Nat → ClassId} {o : Nat} {ad : Nat → Nat} {fd : Nat → Int32} {ar : Nat → Nat → Int32} {lw : Nat → Int64} {Q : Int32 → Prop} (h : wp_M_wallAll 12 fd ar lw Q) : ct_i l V D vwCl (tyL gI) yX3_wallAll cX3_wallAll 4 .int { frames := 1, cells := 0, slots := 0, locals := 12 } [.ref o, .ref (ad 12)] (wm gI o ad fd ar lw) (fun u : Unit => (wm gI o ad fd ar lw)) (fun (x : Int32) (u : Unit) => Q x) := by
  refine ct_ofi RX3 rfl (by decide +kernel) (Nat.le_of_ble_eq_true rfl) ?_
  intro p e s m args below meth c A F hP hD ls hl
  obtain ⟨⟨hx, hb, hml, hown, hts⟩, hr, hlocks, hA, hK, hE⟩ := id F
  have hS : va_S A s.heap s.heap [] := va_S.rf
  have hl : lv_has ls 4 [(0, .ref o), (1, .ref (ad 12))] := hl
  have hRf : 1 ≤ ({ frames := 1, cells := 0, slots := 0, locals := 12 } : Room).frames := Nat.le_refl _
  have hRl : 12 ≤ ({ frames := 1, cells := 0, slots := 0, locals := 12 } : Room).locals := Nat.le_refl _
  have hC : 0 ≤ ({ frames := 1, cells := 0, slots := 0, locals := 12 } : Room).cells := Nat.le_refl _
  have hSl : 0 ≤ ({ frames := 1, cells := 0, slots := 0, locals := 12 } : Room).slots := Nat.le_refl _
  unfold wp_M_wallAll at h
  refine lv_iconst (v := (0 : Int32)) hx hb dX3_wallAll_0 (by decide) ?_
  refine lv_istore_n (lv' := [(2, .int (0 : Int32)), (0, .ref o), (1, .ref (ad 12))]) hx hb dX3_wallAll_1 rfl hl (by decide) rfl (fun ls hl => ?_)
  refine lv_iconst (v := (0 : Int32)) hx hb dX3_wallAll_2 (by decide) ?_
  refine lv_istore_n (lv' := [(3, .int (0 : Int32)), (2, .int (0 : Int32)), (0, .ref o), (1, .ref (ad 12))]) hx hb dX3_wallAll_3 rfl hl (by decide) rfl (fun ls hl => ?_)
  obtain ⟨k4, h⟩ := h
  refine lp_M_wallAll_L1_i12 F hRf hRl hC hSl ?hk24 k4 _ _ h _ _ _ hP hD hS (lv_sub hl [2, 3, 1, 0] rfl)
  case hk24 =>
    intro v2_2 h H locs ls hP hD hS hl
    refine lv_iload_n hx hb dX3_wallAll_24 rfl (lv_at hl 0 rfl) ?_
    exact rt_i F dX3_wallAll_25 rfl () h hP hD hS (Nat.le_refl _) (Nat.le_refl _)
set_option maxHeartbeats 4000000 in
theorem lp_M_wallAll_L1_i13 {p : Program} {l : Launch} {e : Env} {R : Room} {s : State} {m : MethodId} {args : Array Value} {below : List Frame} {meth : Method} {c : Code} {cells slots : Nat} {A : Nat → Prop} {Qf : State → Prop} {V : evT} {D : va_G} {gI : Nat → ClassId} {o : Nat} {ad : Nat → Nat} {fd : Nat → Int32} {ar : Nat → Nat → Int32} {lw : Nat → Int64} {K24 : (Int32) → Prop} (F : ct_F p m c meth cX3_wallAll 4 s args RX3 (some .int) A V D vwCl (tyL gI)) (hRf : 1 ≤ R.frames) (hRl : 12 ≤ R.locals) (hC : cells ≤ R.cells) (hSl : slots ≤ R.slots)
    (hK24 : ∀ (v2 : Int32), K24 v2 → ∀ (H : Heap) (locs : List Loc) (ls : Array Slot), va_P D vwCl (wm gI o ad fd ar lw) H → va_D A (wm gI o ad fd ar lw) → va_S A s.heap H locs → lv_has ls 4 [(2, .int v2)] → W p l e R s m args below meth c H locs cells slots Qf (F0 m 24 ls [])) :
    ∀ (n : Nat) (v2 : Int32) (v3 : Int32), wp_M_wallAll_L1 13 fd ar lw K24 n v2 v3 → ∀ (H : Heap) (locs : List Loc) (ls : Array Slot), va_P D vwCl (wm gI o ad fd ar lw) H → va_D A (wm gI o ad fd ar lw) → va_S A s.heap H locs → lv_has ls 4 [(0, .ref o), (1, .ref (ad 13)), (2, .int v2), (3, .int v3)] → W p l e R s m args below meth c H locs cells slots Qf (F0 m 4 ls []) := by
  obtain ⟨⟨hx, hb, hml, hown, hts⟩, hr, hlocks, hA, hK, hE⟩ := id F
  intro n
  induction n with
  | zero => intro v2 v3 h; exact h.elim
  | succ n ih =>
    intro v2 v3 h H locs ls hP hD hS hl
    unfold wp_M_wallAll_L1 at h
    refine lv_iload_n hx hb dX3_wallAll_4 rfl (lv_at hl 3 rfl) ?_
    refine lv_aload_n hx hb dX3_wallAll_5 rfl (lv_at hl 0 rfl) ?_
    refine va_get hx hb hts in_X3 hown hK hP 0 rfl rfl 3 (Nat.le_of_ble_eq_true rfl) (hts _ q1221) (fun _ h => h) (v := .int (fd 3)) rfl dX3_wallAll_6 ?_
    refine lv_icmp_ge (tgt := 24) hx hb dX3_wallAll_9 (by decide) (fun c1 => ?_) (fun c1 => ?_)
    · replace h := h.1 c1
      exact hK24 _ h _ _ _ hP hD hS (lv_sub hl [2] rfl)
    · replace h := h.2 c1
      refine lv_iload_n hx hb dX3_wallAll_12 rfl (lv_at hl 2 rfl) ?_
      refine lv_aload_n hx hb dX3_wallAll_13 rfl (lv_at hl 1 rfl) ?_
      refine lv_iload_n hx hb dX3_wallAll_14 rfl (lv_at hl 3 rfl) ?_
      refine va_iald (f := (ar 13)) hx hb hK hP 9 0 rfl rfl h.1 dX3_wallAll_15 ?_
      replace h := h.2
      refine lv_iadd hx hb dX3_wallAll_16 ?_
      refine lv_istore_n (lv' := [(2, .int (v2 + (ar 13 v3.toNatClampNeg))), (0, .ref o), (1, .ref (ad 13)), (3, .int v3)]) hx hb dX3_wallAll_17 rfl hl (by decide) rfl (fun ls hl => ?_)
      refine lv_iinc (v := (v3 + (1 : Int32))) (lv' := [(3, .int (v3 + (1 : Int32))), (2, .int (v2 + (ar 13 v3.toNatClampNeg))), (0, .ref o), (1, .ref (ad 13))]) hx hb dX3_wallAll_18 hl (k := 3) rfl rfl (by decide) rfl (fun ls hl => ?_)
      refine lv_goto (tgt := 4) hx hb dX3_wallAll_21 (by decide) ?_
      exact ih _ _ h _ _ _ hP hD hS (lv_sub hl [2, 3, 1, 0] rfl)
set_option maxHeartbeats 4000000 in
theorem ct_M_wallAll_i13 {l : Launch} {V : evT} {D : va_G} {gI : Nat → ClassId} {o : Nat} {ad : Nat → Nat} {fd : Nat → Int32} {ar : Nat → Nat → Int32} {lw : Nat → Int64} {Q : Int32 → Prop} (h : wp_M_wallAll 13 fd ar lw Q) : ct_i l V D vwCl (tyL gI) yX3_wallAll cX3_wallAll 4 .int { frames := 1, cells := 0, slots := 0, locals := 12 } [.ref o, .ref (ad 13)] (wm gI o ad fd ar lw) (fun u : Unit => (wm gI o ad fd ar lw)) (fun (x : Int32) (u : Unit) => Q x) := by
  refine ct_ofi RX3 rfl (by decide +kernel) (Nat.le_of_ble_eq_true rfl) ?_
  intro p e s m args below meth c A F hP hD ls hl
  obtain ⟨⟨hx, hb, hml, hown, hts⟩, hr, hlocks, hA, hK, hE⟩ := id F
  have hS : va_S A s.heap s.heap [] := va_S.rf
  have hl : lv_has ls 4 [(0, .ref o), (1, .ref (ad 13))] := hl
  have hRf : 1 ≤ ({ frames := 1, cells := 0, slots := 0, locals := 12 } : Room).frames := Nat.le_refl _
  have hRl : 12 ≤ ({ frames := 1, cells := 0, slots := 0, locals := 12 } : Room).locals := Nat.le_refl _
  have hC : 0 ≤ ({ frames := 1, cells := 0, slots := 0, locals := 12 } : Room).cells := Nat.le_refl _
  have hSl : 0 ≤ ({ frames := 1, cells := 0, slots := 0, locals := 12 } : Room).slots := Nat.le_refl _
  unfold wp_M_wallAll at h
  refine lv_iconst (v := (0 : Int32)) hx hb dX3_wallAll_0 (by decide) ?_
  refine lv_istore_n (lv' := [(2, .int (0 : Int32)), (0, .ref o), (1, .ref (ad 13))]) hx hb dX3_wallAll_1 rfl hl (by decide) rfl (fun ls hl => ?_)
  refine lv_iconst (v := (0 : Int32)) hx hb dX3_wallAll_2 (by decide) ?_
  refine lv_istore_n (lv' := [(3, .int (0 : Int32)), (2, .int (0 : Int32)), (0, .ref o), (1, .ref (ad 13))]) hx hb dX3_wallAll_3 rfl hl (by decide) rfl (fun ls hl => ?_)
  obtain ⟨k4, h⟩ := h
  refine lp_M_wallAll_L1_i13 F hRf hRl hC hSl ?hk24 k4 _ _ h _ _ _ hP hD hS (lv_sub hl [2, 3, 1, 0] rfl)
  case hk24 =>
    intro v2_2 h H locs ls hP hD hS hl
    refine lv_iload_n hx hb dX3_wallAll_24 rfl (lv_at hl 0 rfl) ?_
    exact rt_i F dX3_wallAll_25 rfl () h hP hD hS (Nat.le_refl _) (Nat.le_refl _)
set_option maxHeartbeats 4000000 in
theorem ct_M_enters {l : Launch} {V : evT} {D : va_G} {gI : Nat → ClassId} {o : Nat} {ad : Nat → Nat} {v1 : Int64} {fd : Nat → Int32} {ar : Nat → Nat → Int32} {lw : Nat → Int64} {Q : (Nat → Int32) → (Nat → Int64) → Prop} (h : wp_M_enters v1 fd ar lw Q) : ct_v l V D vwCl (tyL gI) yX3_enters cX3_enters 3 { frames := 1, cells := 0, slots := 0, locals := 12 } [.ref o, .long v1] (wm gI o ad fd ar lw) (fun u : (Nat → Int32) × (Nat → Int64) => (wm gI o ad u.1 ar u.2)) (fun (u : (Nat → Int32) × (Nat → Int64)) => Q u.1 u.2) := by
  refine ct_ofv RX3 rfl (by decide +kernel) (Nat.le_of_ble_eq_true rfl) ?_
  intro p e s m args below meth c A F _ hP hD ls hl
  obtain ⟨⟨hx, hb, hml, hown, hts⟩, hr, hlocks, hA, hK, hE⟩ := id F
  have hS : va_S A s.heap s.heap [] := va_S.rf
  have hl : lv_has ls 3 [(0, .ref o), (1, .long v1)] := hl
  have hRf : 1 ≤ ({ frames := 1, cells := 0, slots := 0, locals := 12 } : Room).frames := Nat.le_refl _
  have hRl : 12 ≤ ({ frames := 1, cells := 0, slots := 0, locals := 12 } : Room).locals := Nat.le_refl _
  have hC : 0 ≤ ({ frames := 1, cells := 0, slots := 0, locals := 12 } : Room).cells := Nat.le_refl _
  have hSl : 0 ≤ ({ frames := 1, cells := 0, slots := 0, locals := 12 } : Room).slots := Nat.le_refl _
  unfold wp_M_enters at h
  refine lv_aload_n hx hb dX3_enters_0 rfl (lv_at hl 0 rfl) ?_
  refine va_get hx hb hts in_X3 hown hK hP 0 rfl rfl 2 (Nat.le_of_ble_eq_true rfl) (hts _ q1220) (fun _ h => h) (v := .ref (ad 2)) rfl dX3_enters_1 ?_
  refine lv_aload_n hx hb dX3_enters_4 rfl (lv_at hl 0 rfl) ?_
  refine va_get hx hb hts in_X3 hown hK hP 0 rfl rfl 1 (Nat.le_of_ble_eq_true rfl) (hts _ q1219) (fun _ h => h) (v := .int (fd 1)) rfl dX3_enters_5 ?_
  refine lv_lload_n hx hb dX3_enters_8 rfl (lv_at hl 1 rfl) ?_
  refine pt_last (f := lw) hx hb hK hP hD hS 1 1 rfl rfl h.1 dX3_enters_9 wmL (fun H locs hP hD hS => ?_)
  replace h := h.2
  refine lv_aload_n hx hb dX3_enters_10 rfl (lv_at hl 0 rfl) ?_
  refine lv_dup hx hb dX3_enters_11 rfl ?_
  refine va_get hx hb hts in_X3 hown hK hP 0 rfl rfl 1 (Nat.le_of_ble_eq_true rfl) (hts _ q1219) (fun _ h => h) (v := .int (fd 1)) rfl dX3_enters_12 ?_
  refine lv_iconst (v := (1 : Int32)) hx hb dX3_enters_15 (by decide) ?_
  refine lv_iadd hx hb dX3_enters_16 ?_
  refine pt_put (v := .int ((fd 1) + (1 : Int32))) hx hb hts in_X3 tyX3 tyX3_ok nmX3 hown hK hP hD hS 0 rfl rfl 1 (Nat.le_of_ble_eq_true rfl) (hts _ q1219) (fun _ h => h) rfl (ty := .int) (by decide +kernel) rfl rfl (Nat.le_of_ble_eq_true rfl) dX3_enters_17 wmF_1 (fun H locs hP hD hS => ?_)
  exact rt_v F dX3_enters_20 ((upd fd 1 ((fd 1) + (1 : Int32))), (vp_updL lw (fd 1).toNatClampNeg v1)) h hP hD hS (Nat.le_refl _) (Nat.le_refl _)
set_option maxHeartbeats 4000000 in
theorem lp_M_deepAll_L1_i12 {p : Program} {l : Launch} {e : Env} {R : Room} {s : State} {m : MethodId} {args : Array Value} {below : List Frame} {meth : Method} {c : Code} {cells slots : Nat} {A : Nat → Prop} {Qf : State → Prop} {V : evT} {D : va_G} {gI : Nat → ClassId} {o : Nat} {ad : Nat → Nat} {fd : Nat → Int32} {ar : Nat → Nat → Int32} {lw : Nat → Int64} {K27 : (Int32) → Prop} (F : ct_F p m c meth cX3_deepAll 4 s args RX3 (some .int) A V D vwCl (tyL gI)) (hRf : 1 ≤ R.frames) (hRl : 12 ≤ R.locals) (hC : cells ≤ R.cells) (hSl : slots ≤ R.slots)
    (hK27 : ∀ (v2 : Int32), K27 v2 → ∀ (H : Heap) (locs : List Loc) (ls : Array Slot), va_P D vwCl (wm gI o ad fd ar lw) H → va_D A (wm gI o ad fd ar lw) → va_S A s.heap H locs → lv_has ls 4 [(2, .int v2)] → W p l e R s m args below meth c H locs cells slots Qf (F0 m 27 ls [])) :
    ∀ (n : Nat) (v2 : Int32) (v3 : Int32), wp_M_deepAll_L1 12 fd ar lw K27 n v2 v3 → ∀ (H : Heap) (locs : List Loc) (ls : Array Slot), va_P D vwCl (wm gI o ad fd ar lw) H → va_D A (wm gI o ad fd ar lw) → va_S A s.heap H locs → lv_has ls 4 [(0, .ref o), (1, .ref (ad 12)), (2, .int v2), (3, .int v3)] → W p l e R s m args below meth c H locs cells slots Qf (F0 m 4 ls []) := by
  obtain ⟨⟨hx, hb, hml, hown, hts⟩, hr, hlocks, hA, hK, hE⟩ := id F
  intro n
  induction n with
  | zero => intro v2 v3 h; exact h.elim
  | succ n ih =>
    intro v2 v3 h H locs ls hP hD hS hl
    unfold wp_M_deepAll_L1 at h
    refine lv_iload_n hx hb dX3_deepAll_4 rfl (lv_at hl 3 rfl) ?_
    refine lv_aload_n hx hb dX3_deepAll_5 rfl (lv_at hl 0 rfl) ?_
    refine va_get hx hb hts in_X3 hown hK hP 0 rfl rfl 3 (Nat.le_of_ble_eq_true rfl) (hts _ q1221) (fun _ h => h) (v := .int (fd 3)) rfl dX3_deepAll_6 ?_
    refine lv_icmp_ge (tgt := 27) hx hb dX3_deepAll_9 (by decide) (fun c1 => ?_) (fun c1 => ?_)
    · replace h := h.1 c1
      exact hK27 _ h _ _ _ hP hD hS (lv_sub hl [2] rfl)
    · replace h := h.2 c1
      refine lv_iload_n hx hb dX3_deepAll_12 rfl (lv_at hl 2 rfl) ?_
      refine lv_aload_n hx hb dX3_deepAll_13 rfl (lv_at hl 1 rfl) ?_
      refine lv_bipush (v := (13 : Int32)) hx hb dX3_deepAll_14 (by decide) ?_
      refine lv_iload_n hx hb dX3_deepAll_16 rfl (lv_at hl 3 rfl) ?_
      refine lv_iadd hx hb dX3_deepAll_17 ?_
      refine va_iald (f := (ar 12)) hx hb hK hP 8 0 rfl rfl h.1 dX3_deepAll_18 ?_
      replace h := h.2
      refine lv_iadd hx hb dX3_deepAll_19 ?_
      refine lv_istore_n (lv' := [(2, .int (v2 + (ar 12 ((13 : Int32) + v3).toNatClampNeg))), (0, .ref o), (1, .ref (ad 12)), (3, .int v3)]) hx hb dX3_deepAll_20 rfl hl (by decide) rfl (fun ls hl => ?_)
      refine lv_iinc (v := (v3 + (1 : Int32))) (lv' := [(3, .int (v3 + (1 : Int32))), (2, .int (v2 + (ar 12 ((13 : Int32) + v3).toNatClampNeg))), (0, .ref o), (1, .ref (ad 12))]) hx hb dX3_deepAll_21 hl (k := 3) rfl rfl (by decide) rfl (fun ls hl => ?_)
      refine lv_goto (tgt := 4) hx hb dX3_deepAll_24 (by decide) ?_
      exact ih _ _ h _ _ _ hP hD hS (lv_sub hl [2, 3, 1, 0] rfl)
set_option maxHeartbeats 4000000 in
theorem ct_M_deepAll_i12 {l : Launch} {V : evT} {D : va_G} {gI : Nat → ClassId} {o : Nat} {ad : Nat → Nat} {fd : Nat → Int32} {ar : Nat → Nat → Int32} {lw : Nat → Int64} {Q : Int32 → Prop} (h : wp_M_deepAll 12 fd ar lw Q) : ct_i l V D vwCl (tyL gI) yX3_deepAll cX3_deepAll 4 .int { frames := 1, cells := 0, slots := 0, locals := 12 } [.ref o, .ref (ad 12)] (wm gI o ad fd ar lw) (fun u : Unit => (wm gI o ad fd ar lw)) (fun (x : Int32) (u : Unit) => Q x) := by
  refine ct_ofi RX3 rfl (by decide +kernel) (Nat.le_of_ble_eq_true rfl) ?_
  intro p e s m args below meth c A F hP hD ls hl
  obtain ⟨⟨hx, hb, hml, hown, hts⟩, hr, hlocks, hA, hK, hE⟩ := id F
  have hS : va_S A s.heap s.heap [] := va_S.rf
  have hl : lv_has ls 4 [(0, .ref o), (1, .ref (ad 12))] := hl
  have hRf : 1 ≤ ({ frames := 1, cells := 0, slots := 0, locals := 12 } : Room).frames := Nat.le_refl _
  have hRl : 12 ≤ ({ frames := 1, cells := 0, slots := 0, locals := 12 } : Room).locals := Nat.le_refl _
  have hC : 0 ≤ ({ frames := 1, cells := 0, slots := 0, locals := 12 } : Room).cells := Nat.le_refl _
  have hSl : 0 ≤ ({ frames := 1, cells := 0, slots := 0, locals := 12 } : Room).slots := Nat.le_refl _
  unfold wp_M_deepAll at h
  refine lv_iconst (v := (0 : Int32)) hx hb dX3_deepAll_0 (by decide) ?_
  refine lv_istore_n (lv' := [(2, .int (0 : Int32)), (0, .ref o), (1, .ref (ad 12))]) hx hb dX3_deepAll_1 rfl hl (by decide) rfl (fun ls hl => ?_)
  refine lv_iconst (v := (0 : Int32)) hx hb dX3_deepAll_2 (by decide) ?_
  refine lv_istore_n (lv' := [(3, .int (0 : Int32)), (2, .int (0 : Int32)), (0, .ref o), (1, .ref (ad 12))]) hx hb dX3_deepAll_3 rfl hl (by decide) rfl (fun ls hl => ?_)
  obtain ⟨k4, h⟩ := h
  refine lp_M_deepAll_L1_i12 F hRf hRl hC hSl ?hk27 k4 _ _ h _ _ _ hP hD hS (lv_sub hl [2, 3, 1, 0] rfl)
  case hk27 =>
    intro v2_2 h H locs ls hP hD hS hl
    refine lv_iload_n hx hb dX3_deepAll_27 rfl (lv_at hl 0 rfl) ?_
    exact rt_i F dX3_deepAll_28 rfl () h hP hD hS (Nat.le_refl _) (Nat.le_refl _)
set_option maxHeartbeats 4000000 in
theorem lp_M_deepAll_L1_i13 {p : Program} {l : Launch} {e : Env} {R : Room} {s : State} {m : MethodId} {args : Array Value} {below : List Frame} {meth : Method} {c : Code} {cells slots : Nat} {A : Nat → Prop} {Qf : State → Prop} {V : evT} {D : va_G} {gI : Nat → ClassId} {o : Nat} {ad : Nat → Nat} {fd : Nat → Int32} {ar : Nat → Nat → Int32} {lw : Nat → Int64} {K27 : (Int32) → Prop} (F : ct_F p m c meth cX3_deepAll 4 s args RX3 (some .int) A V D vwCl (tyL gI)) (hRf : 1 ≤ R.frames) (hRl : 12 ≤ R.locals) (hC : cells ≤ R.cells) (hSl : slots ≤ R.slots)
    (hK27 : ∀ (v2 : Int32), K27 v2 → ∀ (H : Heap) (locs : List Loc) (ls : Array Slot), va_P D vwCl (wm gI o ad fd ar lw) H → va_D A (wm gI o ad fd ar lw) → va_S A s.heap H locs → lv_has ls 4 [(2, .int v2)] → W p l e R s m args below meth c H locs cells slots Qf (F0 m 27 ls [])) :
    ∀ (n : Nat) (v2 : Int32) (v3 : Int32), wp_M_deepAll_L1 13 fd ar lw K27 n v2 v3 → ∀ (H : Heap) (locs : List Loc) (ls : Array Slot), va_P D vwCl (wm gI o ad fd ar lw) H → va_D A (wm gI o ad fd ar lw) → va_S A s.heap H locs → lv_has ls 4 [(0, .ref o), (1, .ref (ad 13)), (2, .int v2), (3, .int v3)] → W p l e R s m args below meth c H locs cells slots Qf (F0 m 4 ls []) := by
  obtain ⟨⟨hx, hb, hml, hown, hts⟩, hr, hlocks, hA, hK, hE⟩ := id F
  intro n
  induction n with
  | zero => intro v2 v3 h; exact h.elim
  | succ n ih =>
    intro v2 v3 h H locs ls hP hD hS hl
    unfold wp_M_deepAll_L1 at h
    refine lv_iload_n hx hb dX3_deepAll_4 rfl (lv_at hl 3 rfl) ?_
    refine lv_aload_n hx hb dX3_deepAll_5 rfl (lv_at hl 0 rfl) ?_
    refine va_get hx hb hts in_X3 hown hK hP 0 rfl rfl 3 (Nat.le_of_ble_eq_true rfl) (hts _ q1221) (fun _ h => h) (v := .int (fd 3)) rfl dX3_deepAll_6 ?_
    refine lv_icmp_ge (tgt := 27) hx hb dX3_deepAll_9 (by decide) (fun c1 => ?_) (fun c1 => ?_)
    · replace h := h.1 c1
      exact hK27 _ h _ _ _ hP hD hS (lv_sub hl [2] rfl)
    · replace h := h.2 c1
      refine lv_iload_n hx hb dX3_deepAll_12 rfl (lv_at hl 2 rfl) ?_
      refine lv_aload_n hx hb dX3_deepAll_13 rfl (lv_at hl 1 rfl) ?_
      refine lv_bipush (v := (13 : Int32)) hx hb dX3_deepAll_14 (by decide) ?_
      refine lv_iload_n hx hb dX3_deepAll_16 rfl (lv_at hl 3 rfl) ?_
      refine lv_iadd hx hb dX3_deepAll_17 ?_
      refine va_iald (f := (ar 13)) hx hb hK hP 9 0 rfl rfl h.1 dX3_deepAll_18 ?_
      replace h := h.2
      refine lv_iadd hx hb dX3_deepAll_19 ?_
      refine lv_istore_n (lv' := [(2, .int (v2 + (ar 13 ((13 : Int32) + v3).toNatClampNeg))), (0, .ref o), (1, .ref (ad 13)), (3, .int v3)]) hx hb dX3_deepAll_20 rfl hl (by decide) rfl (fun ls hl => ?_)
      refine lv_iinc (v := (v3 + (1 : Int32))) (lv' := [(3, .int (v3 + (1 : Int32))), (2, .int (v2 + (ar 13 ((13 : Int32) + v3).toNatClampNeg))), (0, .ref o), (1, .ref (ad 13))]) hx hb dX3_deepAll_21 hl (k := 3) rfl rfl (by decide) rfl (fun ls hl => ?_)
      refine lv_goto (tgt := 4) hx hb dX3_deepAll_24 (by decide) ?_
      exact ih _ _ h _ _ _ hP hD hS (lv_sub hl [2, 3, 1, 0] rfl)
set_option maxHeartbeats 4000000 in
theorem ct_M_deepAll_i13 {l : Launch} {V : evT} {D : va_G} {gI : Nat → ClassId} {o : Nat} {ad : Nat → Nat} {fd : Nat → Int32} {ar : Nat → Nat → Int32} {lw : Nat → Int64} {Q : Int32 → Prop} (h : wp_M_deepAll 13 fd ar lw Q) : ct_i l V D vwCl (tyL gI) yX3_deepAll cX3_deepAll 4 .int { frames := 1, cells := 0, slots := 0, locals := 12 } [.ref o, .ref (ad 13)] (wm gI o ad fd ar lw) (fun u : Unit => (wm gI o ad fd ar lw)) (fun (x : Int32) (u : Unit) => Q x) := by
  refine ct_ofi RX3 rfl (by decide +kernel) (Nat.le_of_ble_eq_true rfl) ?_
  intro p e s m args below meth c A F hP hD ls hl
  obtain ⟨⟨hx, hb, hml, hown, hts⟩, hr, hlocks, hA, hK, hE⟩ := id F
  have hS : va_S A s.heap s.heap [] := va_S.rf
  have hl : lv_has ls 4 [(0, .ref o), (1, .ref (ad 13))] := hl
  have hRf : 1 ≤ ({ frames := 1, cells := 0, slots := 0, locals := 12 } : Room).frames := Nat.le_refl _
  have hRl : 12 ≤ ({ frames := 1, cells := 0, slots := 0, locals := 12 } : Room).locals := Nat.le_refl _
  have hC : 0 ≤ ({ frames := 1, cells := 0, slots := 0, locals := 12 } : Room).cells := Nat.le_refl _
  have hSl : 0 ≤ ({ frames := 1, cells := 0, slots := 0, locals := 12 } : Room).slots := Nat.le_refl _
  unfold wp_M_deepAll at h
  refine lv_iconst (v := (0 : Int32)) hx hb dX3_deepAll_0 (by decide) ?_
  refine lv_istore_n (lv' := [(2, .int (0 : Int32)), (0, .ref o), (1, .ref (ad 13))]) hx hb dX3_deepAll_1 rfl hl (by decide) rfl (fun ls hl => ?_)
  refine lv_iconst (v := (0 : Int32)) hx hb dX3_deepAll_2 (by decide) ?_
  refine lv_istore_n (lv' := [(3, .int (0 : Int32)), (2, .int (0 : Int32)), (0, .ref o), (1, .ref (ad 13))]) hx hb dX3_deepAll_3 rfl hl (by decide) rfl (fun ls hl => ?_)
  obtain ⟨k4, h⟩ := h
  refine lp_M_deepAll_L1_i13 F hRf hRl hC hSl ?hk27 k4 _ _ h _ _ _ hP hD hS (lv_sub hl [2, 3, 1, 0] rfl)
  case hk27 =>
    intro v2_2 h H locs ls hP hD hS hl
    refine lv_iload_n hx hb dX3_deepAll_27 rfl (lv_at hl 0 rfl) ?_
    exact rt_i F dX3_deepAll_28 rfl () h hP hD hS (Nat.le_refl _) (Nat.le_refl _)
set_option maxHeartbeats 4000000 in
theorem lp_M_waterGoes_J3_i12 {p : Program} {l : Launch} {e : Env} {R : Room} {s : State} {m : MethodId} {args : Array Value} {below : List Frame} {meth : Method} {c : Code} {cells slots : Nat} {A : Nat → Prop} {Qf : State → Prop} {V : evT} {D : va_G} {gI : Nat → ClassId} {o : Nat} {ad : Nat → Nat} {v5 : Int32} {fd : Nat → Int32} {lw : Nat → Int64} {K10 : (Int32) → (Int32) → (Nat → Nat → Int32) → Prop} (F : ct_F p m c meth cX3_waterGoes 7 s args RX3 none A V D vwCl (tyL gI)) (hRf : 1 ≤ R.frames) (hRl : 29 ≤ R.locals) (hC : cells ≤ R.cells) (hSl : slots ≤ R.slots)
    (hK10 : ∀ (v2 : Int32) (v3 : Int32) (ar : Nat → Nat → Int32), K10 v2 v3 ar → ∀ (H : Heap) (locs : List Loc) (ls : Array Slot), va_P D vwCl (wm gI o ad fd ar lw) H → va_D A (wm gI o ad fd ar lw) → va_S A s.heap H locs → lv_has ls 7 [(0, .ref o), (1, .ref (ad 12)), (2, .int v2), (3, .int v3)] → W p l e R s m args below meth c H locs cells slots Qf (F0 m 10 ls [])) :
    ∀ (v2 : Int32) (v3 : Int32) (t0 : Int32) (ar : Nat → Nat → Int32), wp_M_waterGoes_J3 12 v5 fd lw K10 v2 v3 t0 ar → ∀ (H : Heap) (locs : List Loc) (ls : Array Slot), va_P D vwCl (wm gI o ad fd ar lw) H → va_D A (wm gI o ad fd ar lw) → va_S A s.heap H locs → lv_has ls 7 [(0, .ref o), (1, .ref (ad 12)), (2, .int v2), (3, .int v3), (5, .int v5)] → W p l e R s m args below meth c H locs cells slots Qf (F0 m 72 ls [.int t0]) := by
  obtain ⟨⟨hx, hb, hml, hown, hts⟩, hr, hlocks, hA, hK, hE⟩ := id F
  intro v2 v3 t0 ar h H locs ls hP hD hS hl
  unfold wp_M_waterGoes_J3 at h
  refine lv_istore (lv' := [(6, .int t0), (0, .ref o), (1, .ref (ad 12)), (2, .int v2), (3, .int v3), (5, .int v5)]) hx hb dX3_waterGoes_72 hl (by decide) rfl (fun ls hl => ?_)
  refine lv_iload hx hb dX3_waterGoes_74 (lv_at hl 5 rfl) ?_
  refine lv_aload_n hx hb dX3_waterGoes_76 rfl (lv_at hl 2 rfl) ?_
  refine lv_iload hx hb dX3_waterGoes_77 (lv_at hl 0 rfl) ?_
  refine va_iald (f := (ar 12)) hx hb hK hP 8 0 rfl rfl h.1 dX3_waterGoes_79 ?_
  replace h := h.2
  refine lv_icmp_le (tgt := 91) hx hb dX3_waterGoes_80 (by decide) (fun c2 => ?_) (fun c2 => ?_)
  · replace h := h.1 c2
    refine lv_iinc (v := (v3 + (1 : Int32))) (lv' := [(3, .int (v3 + (1 : Int32))), (6, .int t0), (0, .ref o), (1, .ref (ad 12)), (2, .int v2), (5, .int v5)]) hx hb dX3_waterGoes_91 hl (k := 4) rfl rfl (by decide) rfl (fun ls hl => ?_)
    refine lv_goto (tgt := 10) hx hb dX3_waterGoes_94 (by decide) ?_
    exact hK10 _ _ _ h _ _ _ hP hD hS (lv_sub hl [2, 3, 4, 0] rfl)
  · replace h := h.2 c2
    refine lv_aload_n hx hb dX3_waterGoes_83 rfl (lv_at hl 2 rfl) ?_
    refine lv_iload hx hb dX3_waterGoes_84 (lv_at hl 0 rfl) ?_
    refine lv_iload hx hb dX3_waterGoes_86 (lv_at hl 5 rfl) ?_
    refine pt_iast (f := (ar 12)) hx hb hK hP hD hS 8 0 rfl rfl h.1 dX3_waterGoes_88 wmA_12 (fun H locs hP hD hS => ?_)
    replace h := h.2
    refine lv_iconst (v := (1 : Int32)) hx hb dX3_waterGoes_89 (by decide) ?_
    refine lv_istore_n (lv' := [(2, .int (1 : Int32)), (6, .int t0), (0, .ref o), (1, .ref (ad 12)), (3, .int v3), (5, .int v5)]) hx hb dX3_waterGoes_90 rfl hl (by decide) rfl (fun ls hl => ?_)
    refine lv_iinc (v := (v3 + (1 : Int32))) (lv' := [(3, .int (v3 + (1 : Int32))), (2, .int (1 : Int32)), (6, .int t0), (0, .ref o), (1, .ref (ad 12)), (5, .int v5)]) hx hb dX3_waterGoes_91 hl (k := 4) rfl rfl (by decide) rfl (fun ls hl => ?_)
    refine lv_goto (tgt := 10) hx hb dX3_waterGoes_94 (by decide) ?_
    exact hK10 _ _ _ h _ _ _ hP hD hS (lv_sub hl [3, 4, 1, 0] rfl)
set_option maxHeartbeats 4000000 in
theorem lp_M_waterGoes_L2_i12 {p : Program} {l : Launch} {e : Env} {R : Room} {s : State} {m : MethodId} {args : Array Value} {below : List Frame} {meth : Method} {c : Code} {cells slots : Nat} {A : Nat → Prop} {Qf : State → Prop} {V : evT} {D : va_G} {gI : Nat → ClassId} {o : Nat} {ad : Nat → Nat} {fd : Nat → Int32} {lw : Nat → Int64} {K97 : (Int32) → (Nat → Nat → Int32) → Prop} (F : ct_F p m c meth cX3_waterGoes 7 s args RX3 none A V D vwCl (tyL gI)) (hRf : 1 ≤ R.frames) (hRl : 29 ≤ R.locals) (hC : cells ≤ R.cells) (hSl : slots ≤ R.slots)
    (hK97 : ∀ (v2 : Int32) (ar : Nat → Nat → Int32), K97 v2 ar → ∀ (H : Heap) (locs : List Loc) (ls : Array Slot), va_P D vwCl (wm gI o ad fd ar lw) H → va_D A (wm gI o ad fd ar lw) → va_S A s.heap H locs → lv_has ls 7 [(0, .ref o), (1, .ref (ad 12)), (2, .int v2)] → W p l e R s m args below meth c H locs cells slots Qf (F0 m 97 ls [])) :
    ∀ (n : Nat) (v2 : Int32) (v3 : Int32) (ar : Nat → Nat → Int32), wp_M_waterGoes_L2 12 fd lw K97 n v2 v3 ar → ∀ (H : Heap) (locs : List Loc) (ls : Array Slot), va_P D vwCl (wm gI o ad fd ar lw) H → va_D A (wm gI o ad fd ar lw) → va_S A s.heap H locs → lv_has ls 7 [(0, .ref o), (1, .ref (ad 12)), (2, .int v2), (3, .int v3)] → W p l e R s m args below meth c H locs cells slots Qf (F0 m 10 ls []) := by
  obtain ⟨⟨hx, hb, hml, hown, hts⟩, hr, hlocks, hA, hK, hE⟩ := id F
  intro n
  induction n with
  | zero => intro v2 v3 ar h; exact h.elim
  | succ n ih =>
    intro v2 v3 ar h H locs ls hP hD hS hl
    unfold wp_M_waterGoes_L2 at h
    refine lv_iload_n hx hb dX3_waterGoes_10 rfl (lv_at hl 3 rfl) ?_
    refine lv_iconst (v := (1 : Int32)) hx hb dX3_waterGoes_11 (by decide) ?_
    refine lv_iadd hx hb dX3_waterGoes_12 ?_
    refine lv_aload_n hx hb dX3_waterGoes_13 rfl (lv_at hl 0 rfl) ?_
    refine va_get hx hb hts in_X3 hown hK hP 0 rfl rfl 3 (Nat.le_of_ble_eq_true rfl) (hts _ q1221) (fun _ h => h) (v := .int (fd 3)) rfl dX3_waterGoes_14 ?_
    refine lv_icmp_ge (tgt := 97) hx hb dX3_waterGoes_17 (by decide) (fun c10 => ?_) (fun c10 => ?_)
    · replace h := h.1 c10
      exact hK97 _ _ h _ _ _ hP hD hS (lv_sub hl [0, 1, 2] rfl)
    · replace h := h.2 c10
      refine lv_bipush (v := (13 : Int32)) hx hb dX3_waterGoes_20 (by decide) ?_
      refine lv_iload_n hx hb dX3_waterGoes_22 rfl (lv_at hl 3 rfl) ?_
      refine lv_iadd hx hb dX3_waterGoes_23 ?_
      refine lv_istore (lv' := [(4, .int ((13 : Int32) + v3)), (0, .ref o), (1, .ref (ad 12)), (2, .int v2), (3, .int v3)]) hx hb dX3_waterGoes_24 hl (by decide) rfl (fun ls hl => ?_)
      refine lv_aload_n hx hb dX3_waterGoes_26 rfl (lv_at hl 2 rfl) ?_
      refine lv_iload hx hb dX3_waterGoes_27 (lv_at hl 0 rfl) ?_
      refine va_iald (f := (ar 12)) hx hb hK hP 8 0 rfl rfl h.1 dX3_waterGoes_29 ?_
      replace h := h.2
      refine lv_aload_n hx hb dX3_waterGoes_30 rfl (lv_at hl 2 rfl) ?_
      refine lv_iload hx hb dX3_waterGoes_31 (lv_at hl 0 rfl) ?_
      refine lv_iconst (v := (1 : Int32)) hx hb dX3_waterGoes_33 (by decide) ?_
      refine lv_iadd hx hb dX3_waterGoes_34 ?_
      refine va_iald (f := (ar 12)) hx hb hK hP 8 0 rfl rfl h.1 dX3_waterGoes_35 ?_
      replace h := h.2
      refine va_mmax hx hb (hml.trans hl.1.symm) hown (hts _ q1560) (hts _ q636) (hts _ q100) (hts _ q637) (Nat.le_trans (Nat.le_of_ble_eq_true rfl) hRf) (Nat.le_trans (Nat.le_of_ble_eq_true rfl) hRl) hC hSl dX3_waterGoes_36 ?_
      refine lv_aload_n hx hb dX3_waterGoes_39 rfl (lv_at hl 1 rfl) ?_
      refine va_get hx hb hts in_X3 hown hK hP 0 rfl rfl 7 (Nat.le_of_ble_eq_true rfl) (hts _ q1225) (fun _ h => h) (v := .ref (ad 7)) rfl dX3_waterGoes_40 ?_
      refine lv_iload_n hx hb dX3_waterGoes_43 rfl (lv_at hl 4 rfl) ?_
      refine va_iald (f := (ar 7)) hx hb hK hP 3 0 rfl rfl h.1 dX3_waterGoes_44 ?_
      replace h := h.2
      refine lv_isub hx hb dX3_waterGoes_45 ?_
      refine lv_iconst (v := (1 : Int32)) hx hb dX3_waterGoes_46 (by decide) ?_
      refine lv_isub hx hb dX3_waterGoes_47 ?_
      refine lv_topi (fun x1 ex1 => ?_)
      replace h := h x1 ex1
      refine lv_istore (lv' := [(5, .int x1), (4, .int ((13 : Int32) + v3)), (0, .ref o), (1, .ref (ad 12)), (2, .int v2), (3, .int v3)]) hx hb dX3_waterGoes_48 hl (by decide) rfl (fun ls hl => ?_)
      refine lv_aload_n hx hb dX3_waterGoes_50 rfl (lv_at hl 3 rfl) ?_
      refine lv_iload hx hb dX3_waterGoes_51 (lv_at hl 1 rfl) ?_
      refine va_iald (f := (ar 12)) hx hb hK hP 8 0 rfl rfl h.1 dX3_waterGoes_53 ?_
      replace h := h.2
      refine lv_aload_n hx hb dX3_waterGoes_54 rfl (lv_at hl 3 rfl) ?_
      refine lv_iload hx hb dX3_waterGoes_55 (lv_at hl 1 rfl) ?_
      refine lv_iconst (v := (1 : Int32)) hx hb dX3_waterGoes_57 (by decide) ?_
      refine lv_iadd hx hb dX3_waterGoes_58 ?_
      refine va_iald (f := (ar 12)) hx hb hK hP 8 0 rfl rfl h.1 dX3_waterGoes_59 ?_
      replace h := h.2
      refine lv_icmp_ge (tgt := 68) hx hb dX3_waterGoes_60 (by decide) (fun c9 => ?_) (fun c9 => ?_)
      · replace h := h.1 c9
        refine lv_iload hx hb dX3_waterGoes_68 (lv_at hl 1 rfl) ?_
        refine lv_iconst (v := (1 : Int32)) hx hb dX3_waterGoes_70 (by decide) ?_
        refine lv_iadd hx hb dX3_waterGoes_71 ?_
        refine lp_M_waterGoes_J3_i12 F hRf hRl hC hSl ?hk10 _ _ _ _ h _ _ _ hP hD hS (lv_sub hl [2, 3, 4, 5, 0] rfl)
        case hk10 =>
          intro v2_3 v3_4 ar_5 h H locs ls hP hD hS hl
          exact ih _ _ _ h _ _ _ hP hD hS (lv_sub hl [0, 1, 2, 3] rfl)
      · replace h := h.2 c9
        refine lv_iload hx hb dX3_waterGoes_63 (lv_at hl 1 rfl) ?_
        refine lv_goto (tgt := 72) hx hb dX3_waterGoes_65 (by decide) ?_
        refine lp_M_waterGoes_J3_i12 F hRf hRl hC hSl ?hk10 _ _ _ _ h _ _ _ hP hD hS (lv_sub hl [2, 3, 4, 5, 0] rfl)
        case hk10 =>
          intro v2_6 v3_7 ar_8 h H locs ls hP hD hS hl
          exact ih _ _ _ h _ _ _ hP hD hS (lv_sub hl [0, 1, 2, 3] rfl)
set_option maxHeartbeats 4000000 in
theorem lp_M_waterGoes_L1_i12 {p : Program} {l : Launch} {e : Env} {R : Room} {s : State} {m : MethodId} {args : Array Value} {below : List Frame} {meth : Method} {c : Code} {cells slots : Nat} {A : Nat → Prop} {Qf : State → Prop} {V : evT} {D : va_G} {gI : Nat → ClassId} {o : Nat} {ad : Nat → Nat} {fd : Nat → Int32} {lw : Nat → Int64} {K100 : (Nat → Nat → Int32) → Prop} (F : ct_F p m c meth cX3_waterGoes 7 s args RX3 none A V D vwCl (tyL gI)) (hRf : 1 ≤ R.frames) (hRl : 29 ≤ R.locals) (hC : cells ≤ R.cells) (hSl : slots ≤ R.slots)
    (hK100 : ∀ (ar : Nat → Nat → Int32), K100 ar → ∀ (H : Heap) (locs : List Loc) (ls : Array Slot), va_P D vwCl (wm gI o ad fd ar lw) H → va_D A (wm gI o ad fd ar lw) → va_S A s.heap H locs → lv_has ls 7 [] → W p l e R s m args below meth c H locs cells slots Qf (F0 m 100 ls [])) :
    ∀ (n : Nat) (v2 : Int32) (ar : Nat → Nat → Int32), wp_M_waterGoes_L1 12 fd lw K100 n v2 ar → ∀ (H : Heap) (locs : List Loc) (ls : Array Slot), va_P D vwCl (wm gI o ad fd ar lw) H → va_D A (wm gI o ad fd ar lw) → va_S A s.heap H locs → lv_has ls 7 [(0, .ref o), (1, .ref (ad 12)), (2, .int v2)] → W p l e R s m args below meth c H locs cells slots Qf (F0 m 2 ls []) := by
  obtain ⟨⟨hx, hb, hml, hown, hts⟩, hr, hlocks, hA, hK, hE⟩ := id F
  intro n
  induction n with
  | zero => intro v2 ar h; exact h.elim
  | succ n ih =>
    intro v2 ar h H locs ls hP hD hS hl
    unfold wp_M_waterGoes_L1 at h
    refine lv_iload_n hx hb dX3_waterGoes_2 rfl (lv_at hl 2 rfl) ?_
    refine lv_if_eq (tgt := 100) hx hb dX3_waterGoes_3 (by decide) (fun c13 => ?_) (fun c13 => ?_)
    · replace h := h.1 c13
      exact hK100 _ h _ _ _ hP hD hS (lv_sub hl [] rfl)
    · replace h := h.2 c13
      refine lv_iconst (v := (0 : Int32)) hx hb dX3_waterGoes_6 (by decide) ?_
      refine lv_istore_n (lv' := [(2, .int (0 : Int32)), (0, .ref o), (1, .ref (ad 12))]) hx hb dX3_waterGoes_7 rfl hl (by decide) rfl (fun ls hl => ?_)
      refine lv_iconst (v := (0 : Int32)) hx hb dX3_waterGoes_8 (by decide) ?_
      refine lv_istore_n (lv' := [(3, .int (0 : Int32)), (2, .int (0 : Int32)), (0, .ref o), (1, .ref (ad 12))]) hx hb dX3_waterGoes_9 rfl hl (by decide) rfl (fun ls hl => ?_)
      obtain ⟨k10, h⟩ := h
      refine lp_M_waterGoes_L2_i12 F hRf hRl hC hSl ?hk97 k10 _ _ _ h _ _ _ hP hD hS (lv_sub hl [2, 3, 1, 0] rfl)
      case hk97 =>
        intro v2_11 ar_12 h H locs ls hP hD hS hl
        refine lv_goto (tgt := 2) hx hb dX3_waterGoes_97 (by decide) ?_
        exact ih _ _ h _ _ _ hP hD hS (lv_sub hl [0, 1, 2] rfl)
set_option maxHeartbeats 4000000 in
theorem ct_M_waterGoes_i12 {l : Launch} {V : evT} {D : va_G} {gI : Nat → ClassId} {o : Nat} {ad : Nat → Nat} {fd : Nat → Int32} {ar : Nat → Nat → Int32} {lw : Nat → Int64} {Q : (Nat → Nat → Int32) → Prop} (h : wp_M_waterGoes 12 fd ar lw Q) : ct_v l V D vwCl (tyL gI) yX3_waterGoes cX3_waterGoes 7 { frames := 1, cells := 0, slots := 0, locals := 29 } [.ref o, .ref (ad 12)] (wm gI o ad fd ar lw) (fun u : (Nat → Nat → Int32) => (wm gI o ad fd u lw)) (fun (u : (Nat → Nat → Int32)) => Q u) := by
  refine ct_ofv RX3 rfl (by decide +kernel) (Nat.le_of_ble_eq_true rfl) ?_
  intro p e s m args below meth c A F _ hP hD ls hl
  obtain ⟨⟨hx, hb, hml, hown, hts⟩, hr, hlocks, hA, hK, hE⟩ := id F
  have hS : va_S A s.heap s.heap [] := va_S.rf
  have hl : lv_has ls 7 [(0, .ref o), (1, .ref (ad 12))] := hl
  have hRf : 1 ≤ ({ frames := 1, cells := 0, slots := 0, locals := 29 } : Room).frames := Nat.le_refl _
  have hRl : 29 ≤ ({ frames := 1, cells := 0, slots := 0, locals := 29 } : Room).locals := Nat.le_refl _
  have hC : 0 ≤ ({ frames := 1, cells := 0, slots := 0, locals := 29 } : Room).cells := Nat.le_refl _
  have hSl : 0 ≤ ({ frames := 1, cells := 0, slots := 0, locals := 29 } : Room).slots := Nat.le_refl _
  unfold wp_M_waterGoes at h
  refine lv_iconst (v := (1 : Int32)) hx hb dX3_waterGoes_0 (by decide) ?_
  refine lv_istore_n (lv' := [(2, .int (1 : Int32)), (0, .ref o), (1, .ref (ad 12))]) hx hb dX3_waterGoes_1 rfl hl (by decide) rfl (fun ls hl => ?_)
  obtain ⟨k2, h⟩ := h
  refine lp_M_waterGoes_L1_i12 F hRf hRl hC hSl ?hk100 k2 _ _ h _ _ _ hP hD hS (lv_sub hl [1, 2, 0] rfl)
  case hk100 =>
    intro ar_14 h H locs ls hP hD hS hl
    exact rt_v F dX3_waterGoes_100 (ar_14) h hP hD hS (Nat.le_refl _) (Nat.le_refl _)
set_option maxHeartbeats 4000000 in
theorem lp_M_waterGoes_J3_i13 {p : Program} {l : Launch} {e : Env} {R : Room} {s : State} {m : MethodId} {args : Array Value} {below : List Frame} {meth : Method} {c : Code} {cells slots : Nat} {A : Nat → Prop} {Qf : State → Prop} {V : evT} {D : va_G} {gI : Nat → ClassId} {o : Nat} {ad : Nat → Nat} {v5 : Int32} {fd : Nat → Int32} {lw : Nat → Int64} {K10 : (Int32) → (Int32) → (Nat → Nat → Int32) → Prop} (F : ct_F p m c meth cX3_waterGoes 7 s args RX3 none A V D vwCl (tyL gI)) (hRf : 1 ≤ R.frames) (hRl : 29 ≤ R.locals) (hC : cells ≤ R.cells) (hSl : slots ≤ R.slots)
    (hK10 : ∀ (v2 : Int32) (v3 : Int32) (ar : Nat → Nat → Int32), K10 v2 v3 ar → ∀ (H : Heap) (locs : List Loc) (ls : Array Slot), va_P D vwCl (wm gI o ad fd ar lw) H → va_D A (wm gI o ad fd ar lw) → va_S A s.heap H locs → lv_has ls 7 [(0, .ref o), (1, .ref (ad 13)), (2, .int v2), (3, .int v3)] → W p l e R s m args below meth c H locs cells slots Qf (F0 m 10 ls [])) :
    ∀ (v2 : Int32) (v3 : Int32) (t0 : Int32) (ar : Nat → Nat → Int32), wp_M_waterGoes_J3 13 v5 fd lw K10 v2 v3 t0 ar → ∀ (H : Heap) (locs : List Loc) (ls : Array Slot), va_P D vwCl (wm gI o ad fd ar lw) H → va_D A (wm gI o ad fd ar lw) → va_S A s.heap H locs → lv_has ls 7 [(0, .ref o), (1, .ref (ad 13)), (2, .int v2), (3, .int v3), (5, .int v5)] → W p l e R s m args below meth c H locs cells slots Qf (F0 m 72 ls [.int t0]) := by
  obtain ⟨⟨hx, hb, hml, hown, hts⟩, hr, hlocks, hA, hK, hE⟩ := id F
  intro v2 v3 t0 ar h H locs ls hP hD hS hl
  unfold wp_M_waterGoes_J3 at h
  refine lv_istore (lv' := [(6, .int t0), (0, .ref o), (1, .ref (ad 13)), (2, .int v2), (3, .int v3), (5, .int v5)]) hx hb dX3_waterGoes_72 hl (by decide) rfl (fun ls hl => ?_)
  refine lv_iload hx hb dX3_waterGoes_74 (lv_at hl 5 rfl) ?_
  refine lv_aload_n hx hb dX3_waterGoes_76 rfl (lv_at hl 2 rfl) ?_
  refine lv_iload hx hb dX3_waterGoes_77 (lv_at hl 0 rfl) ?_
  refine va_iald (f := (ar 13)) hx hb hK hP 9 0 rfl rfl h.1 dX3_waterGoes_79 ?_
  replace h := h.2
  refine lv_icmp_le (tgt := 91) hx hb dX3_waterGoes_80 (by decide) (fun c2 => ?_) (fun c2 => ?_)
  · replace h := h.1 c2
    refine lv_iinc (v := (v3 + (1 : Int32))) (lv' := [(3, .int (v3 + (1 : Int32))), (6, .int t0), (0, .ref o), (1, .ref (ad 13)), (2, .int v2), (5, .int v5)]) hx hb dX3_waterGoes_91 hl (k := 4) rfl rfl (by decide) rfl (fun ls hl => ?_)
    refine lv_goto (tgt := 10) hx hb dX3_waterGoes_94 (by decide) ?_
    exact hK10 _ _ _ h _ _ _ hP hD hS (lv_sub hl [2, 3, 4, 0] rfl)
  · replace h := h.2 c2
    refine lv_aload_n hx hb dX3_waterGoes_83 rfl (lv_at hl 2 rfl) ?_
    refine lv_iload hx hb dX3_waterGoes_84 (lv_at hl 0 rfl) ?_
    refine lv_iload hx hb dX3_waterGoes_86 (lv_at hl 5 rfl) ?_
    refine pt_iast (f := (ar 13)) hx hb hK hP hD hS 9 0 rfl rfl h.1 dX3_waterGoes_88 wmA_13 (fun H locs hP hD hS => ?_)
    replace h := h.2
    refine lv_iconst (v := (1 : Int32)) hx hb dX3_waterGoes_89 (by decide) ?_
    refine lv_istore_n (lv' := [(2, .int (1 : Int32)), (6, .int t0), (0, .ref o), (1, .ref (ad 13)), (3, .int v3), (5, .int v5)]) hx hb dX3_waterGoes_90 rfl hl (by decide) rfl (fun ls hl => ?_)
    refine lv_iinc (v := (v3 + (1 : Int32))) (lv' := [(3, .int (v3 + (1 : Int32))), (2, .int (1 : Int32)), (6, .int t0), (0, .ref o), (1, .ref (ad 13)), (5, .int v5)]) hx hb dX3_waterGoes_91 hl (k := 4) rfl rfl (by decide) rfl (fun ls hl => ?_)
    refine lv_goto (tgt := 10) hx hb dX3_waterGoes_94 (by decide) ?_
    exact hK10 _ _ _ h _ _ _ hP hD hS (lv_sub hl [3, 4, 1, 0] rfl)
set_option maxHeartbeats 4000000 in
theorem lp_M_waterGoes_L2_i13 {p : Program} {l : Launch} {e : Env} {R : Room} {s : State} {m : MethodId} {args : Array Value} {below : List Frame} {meth : Method} {c : Code} {cells slots : Nat} {A : Nat → Prop} {Qf : State → Prop} {V : evT} {D : va_G} {gI : Nat → ClassId} {o : Nat} {ad : Nat → Nat} {fd : Nat → Int32} {lw : Nat → Int64} {K97 : (Int32) → (Nat → Nat → Int32) → Prop} (F : ct_F p m c meth cX3_waterGoes 7 s args RX3 none A V D vwCl (tyL gI)) (hRf : 1 ≤ R.frames) (hRl : 29 ≤ R.locals) (hC : cells ≤ R.cells) (hSl : slots ≤ R.slots)
    (hK97 : ∀ (v2 : Int32) (ar : Nat → Nat → Int32), K97 v2 ar → ∀ (H : Heap) (locs : List Loc) (ls : Array Slot), va_P D vwCl (wm gI o ad fd ar lw) H → va_D A (wm gI o ad fd ar lw) → va_S A s.heap H locs → lv_has ls 7 [(0, .ref o), (1, .ref (ad 13)), (2, .int v2)] → W p l e R s m args below meth c H locs cells slots Qf (F0 m 97 ls [])) :
    ∀ (n : Nat) (v2 : Int32) (v3 : Int32) (ar : Nat → Nat → Int32), wp_M_waterGoes_L2 13 fd lw K97 n v2 v3 ar → ∀ (H : Heap) (locs : List Loc) (ls : Array Slot), va_P D vwCl (wm gI o ad fd ar lw) H → va_D A (wm gI o ad fd ar lw) → va_S A s.heap H locs → lv_has ls 7 [(0, .ref o), (1, .ref (ad 13)), (2, .int v2), (3, .int v3)] → W p l e R s m args below meth c H locs cells slots Qf (F0 m 10 ls []) := by
  obtain ⟨⟨hx, hb, hml, hown, hts⟩, hr, hlocks, hA, hK, hE⟩ := id F
  intro n
  induction n with
  | zero => intro v2 v3 ar h; exact h.elim
  | succ n ih =>
    intro v2 v3 ar h H locs ls hP hD hS hl
    unfold wp_M_waterGoes_L2 at h
    refine lv_iload_n hx hb dX3_waterGoes_10 rfl (lv_at hl 3 rfl) ?_
    refine lv_iconst (v := (1 : Int32)) hx hb dX3_waterGoes_11 (by decide) ?_
    refine lv_iadd hx hb dX3_waterGoes_12 ?_
    refine lv_aload_n hx hb dX3_waterGoes_13 rfl (lv_at hl 0 rfl) ?_
    refine va_get hx hb hts in_X3 hown hK hP 0 rfl rfl 3 (Nat.le_of_ble_eq_true rfl) (hts _ q1221) (fun _ h => h) (v := .int (fd 3)) rfl dX3_waterGoes_14 ?_
    refine lv_icmp_ge (tgt := 97) hx hb dX3_waterGoes_17 (by decide) (fun c10 => ?_) (fun c10 => ?_)
    · replace h := h.1 c10
      exact hK97 _ _ h _ _ _ hP hD hS (lv_sub hl [0, 1, 2] rfl)
    · replace h := h.2 c10
      refine lv_bipush (v := (13 : Int32)) hx hb dX3_waterGoes_20 (by decide) ?_
      refine lv_iload_n hx hb dX3_waterGoes_22 rfl (lv_at hl 3 rfl) ?_
      refine lv_iadd hx hb dX3_waterGoes_23 ?_
      refine lv_istore (lv' := [(4, .int ((13 : Int32) + v3)), (0, .ref o), (1, .ref (ad 13)), (2, .int v2), (3, .int v3)]) hx hb dX3_waterGoes_24 hl (by decide) rfl (fun ls hl => ?_)
      refine lv_aload_n hx hb dX3_waterGoes_26 rfl (lv_at hl 2 rfl) ?_
      refine lv_iload hx hb dX3_waterGoes_27 (lv_at hl 0 rfl) ?_
      refine va_iald (f := (ar 13)) hx hb hK hP 9 0 rfl rfl h.1 dX3_waterGoes_29 ?_
      replace h := h.2
      refine lv_aload_n hx hb dX3_waterGoes_30 rfl (lv_at hl 2 rfl) ?_
      refine lv_iload hx hb dX3_waterGoes_31 (lv_at hl 0 rfl) ?_
      refine lv_iconst (v := (1 : Int32)) hx hb dX3_waterGoes_33 (by decide) ?_
      refine lv_iadd hx hb dX3_waterGoes_34 ?_
      refine va_iald (f := (ar 13)) hx hb hK hP 9 0 rfl rfl h.1 dX3_waterGoes_35 ?_
      replace h := h.2
      refine va_mmax hx hb (hml.trans hl.1.symm) hown (hts _ q1560) (hts _ q636) (hts _ q100) (hts _ q637) (Nat.le_trans (Nat.le_of_ble_eq_true rfl) hRf) (Nat.le_trans (Nat.le_of_ble_eq_true rfl) hRl) hC hSl dX3_waterGoes_36 ?_
      refine lv_aload_n hx hb dX3_waterGoes_39 rfl (lv_at hl 1 rfl) ?_
      refine va_get hx hb hts in_X3 hown hK hP 0 rfl rfl 7 (Nat.le_of_ble_eq_true rfl) (hts _ q1225) (fun _ h => h) (v := .ref (ad 7)) rfl dX3_waterGoes_40 ?_
      refine lv_iload_n hx hb dX3_waterGoes_43 rfl (lv_at hl 4 rfl) ?_
      refine va_iald (f := (ar 7)) hx hb hK hP 3 0 rfl rfl h.1 dX3_waterGoes_44 ?_
      replace h := h.2
      refine lv_isub hx hb dX3_waterGoes_45 ?_
      refine lv_iconst (v := (1 : Int32)) hx hb dX3_waterGoes_46 (by decide) ?_
      refine lv_isub hx hb dX3_waterGoes_47 ?_
      refine lv_topi (fun x1 ex1 => ?_)
      replace h := h x1 ex1
      refine lv_istore (lv' := [(5, .int x1), (4, .int ((13 : Int32) + v3)), (0, .ref o), (1, .ref (ad 13)), (2, .int v2), (3, .int v3)]) hx hb dX3_waterGoes_48 hl (by decide) rfl (fun ls hl => ?_)
      refine lv_aload_n hx hb dX3_waterGoes_50 rfl (lv_at hl 3 rfl) ?_
      refine lv_iload hx hb dX3_waterGoes_51 (lv_at hl 1 rfl) ?_
      refine va_iald (f := (ar 13)) hx hb hK hP 9 0 rfl rfl h.1 dX3_waterGoes_53 ?_
      replace h := h.2
      refine lv_aload_n hx hb dX3_waterGoes_54 rfl (lv_at hl 3 rfl) ?_
      refine lv_iload hx hb dX3_waterGoes_55 (lv_at hl 1 rfl) ?_
      refine lv_iconst (v := (1 : Int32)) hx hb dX3_waterGoes_57 (by decide) ?_
      refine lv_iadd hx hb dX3_waterGoes_58 ?_
      refine va_iald (f := (ar 13)) hx hb hK hP 9 0 rfl rfl h.1 dX3_waterGoes_59 ?_
      replace h := h.2
      refine lv_icmp_ge (tgt := 68) hx hb dX3_waterGoes_60 (by decide) (fun c9 => ?_) (fun c9 => ?_)
      · replace h := h.1 c9
        refine lv_iload hx hb dX3_waterGoes_68 (lv_at hl 1 rfl) ?_
        refine lv_iconst (v := (1 : Int32)) hx hb dX3_waterGoes_70 (by decide) ?_
        refine lv_iadd hx hb dX3_waterGoes_71 ?_
        refine lp_M_waterGoes_J3_i13 F hRf hRl hC hSl ?hk10 _ _ _ _ h _ _ _ hP hD hS (lv_sub hl [2, 3, 4, 5, 0] rfl)
        case hk10 =>
          intro v2_3 v3_4 ar_5 h H locs ls hP hD hS hl
          exact ih _ _ _ h _ _ _ hP hD hS (lv_sub hl [0, 1, 2, 3] rfl)
      · replace h := h.2 c9
        refine lv_iload hx hb dX3_waterGoes_63 (lv_at hl 1 rfl) ?_
        refine lv_goto (tgt := 72) hx hb dX3_waterGoes_65 (by decide) ?_
        refine lp_M_waterGoes_J3_i13 F hRf hRl hC hSl ?hk10 _ _ _ _ h _ _ _ hP hD hS (lv_sub hl [2, 3, 4, 5, 0] rfl)
        case hk10 =>
          intro v2_6 v3_7 ar_8 h H locs ls hP hD hS hl
          exact ih _ _ _ h _ _ _ hP hD hS (lv_sub hl [0, 1, 2, 3] rfl)
set_option maxHeartbeats 4000000 in
theorem lp_M_waterGoes_L1_i13 {p : Program} {l : Launch} {e : Env} {R : Room} {s : State} {m : MethodId} {args : Array Value} {below : List Frame} {meth : Method} {c : Code} {cells slots : Nat} {A : Nat → Prop} {Qf : State → Prop} {V : evT} {D : va_G} {gI : Nat → ClassId} {o : Nat} {ad : Nat → Nat} {fd : Nat → Int32} {lw : Nat → Int64} {K100 : (Nat → Nat → Int32) → Prop} (F : ct_F p m c meth cX3_waterGoes 7 s args RX3 none A V D vwCl (tyL gI)) (hRf : 1 ≤ R.frames) (hRl : 29 ≤ R.locals) (hC : cells ≤ R.cells) (hSl : slots ≤ R.slots)
    (hK100 : ∀ (ar : Nat → Nat → Int32), K100 ar → ∀ (H : Heap) (locs : List Loc) (ls : Array Slot), va_P D vwCl (wm gI o ad fd ar lw) H → va_D A (wm gI o ad fd ar lw) → va_S A s.heap H locs → lv_has ls 7 [] → W p l e R s m args below meth c H locs cells slots Qf (F0 m 100 ls [])) :
    ∀ (n : Nat) (v2 : Int32) (ar : Nat → Nat → Int32), wp_M_waterGoes_L1 13 fd lw K100 n v2 ar → ∀ (H : Heap) (locs : List Loc) (ls : Array Slot), va_P D vwCl (wm gI o ad fd ar lw) H → va_D A (wm gI o ad fd ar lw) → va_S A s.heap H locs → lv_has ls 7 [(0, .ref o), (1, .ref (ad 13)), (2, .int v2)] → W p l e R s m args below meth c H locs cells slots Qf (F0 m 2 ls []) := by
  obtain ⟨⟨hx, hb, hml, hown, hts⟩, hr, hlocks, hA, hK, hE⟩ := id F
  intro n
  induction n with
  | zero => intro v2 ar h; exact h.elim
  | succ n ih =>
    intro v2 ar h H locs ls hP hD hS hl
    unfold wp_M_waterGoes_L1 at h
    refine lv_iload_n hx hb dX3_waterGoes_2 rfl (lv_at hl 2 rfl) ?_
    refine lv_if_eq (tgt := 100) hx hb dX3_waterGoes_3 (by decide) (fun c13 => ?_) (fun c13 => ?_)
    · replace h := h.1 c13
      exact hK100 _ h _ _ _ hP hD hS (lv_sub hl [] rfl)
    · replace h := h.2 c13
      refine lv_iconst (v := (0 : Int32)) hx hb dX3_waterGoes_6 (by decide) ?_
      refine lv_istore_n (lv' := [(2, .int (0 : Int32)), (0, .ref o), (1, .ref (ad 13))]) hx hb dX3_waterGoes_7 rfl hl (by decide) rfl (fun ls hl => ?_)
      refine lv_iconst (v := (0 : Int32)) hx hb dX3_waterGoes_8 (by decide) ?_
      refine lv_istore_n (lv' := [(3, .int (0 : Int32)), (2, .int (0 : Int32)), (0, .ref o), (1, .ref (ad 13))]) hx hb dX3_waterGoes_9 rfl hl (by decide) rfl (fun ls hl => ?_)
      obtain ⟨k10, h⟩ := h
      refine lp_M_waterGoes_L2_i13 F hRf hRl hC hSl ?hk97 k10 _ _ _ h _ _ _ hP hD hS (lv_sub hl [2, 3, 1, 0] rfl)
      case hk97 =>
        intro v2_11 ar_12 h H locs ls hP hD hS hl
        refine lv_goto (tgt := 2) hx hb dX3_waterGoes_97 (by decide) ?_
        exact ih _ _ h _ _ _ hP hD hS (lv_sub hl [0, 1, 2] rfl)
set_option maxHeartbeats 4000000 in
theorem ct_M_waterGoes_i13 {l : Launch} {V : evT} {D : va_G} {gI : Nat → ClassId} {o : Nat} {ad : Nat → Nat} {fd : Nat → Int32} {ar : Nat → Nat → Int32} {lw : Nat → Int64} {Q : (Nat → Nat → Int32) → Prop} (h : wp_M_waterGoes 13 fd ar lw Q) : ct_v l V D vwCl (tyL gI) yX3_waterGoes cX3_waterGoes 7 { frames := 1, cells := 0, slots := 0, locals := 29 } [.ref o, .ref (ad 13)] (wm gI o ad fd ar lw) (fun u : (Nat → Nat → Int32) => (wm gI o ad fd u lw)) (fun (u : (Nat → Nat → Int32)) => Q u) := by
  refine ct_ofv RX3 rfl (by decide +kernel) (Nat.le_of_ble_eq_true rfl) ?_
  intro p e s m args below meth c A F _ hP hD ls hl
  obtain ⟨⟨hx, hb, hml, hown, hts⟩, hr, hlocks, hA, hK, hE⟩ := id F
  have hS : va_S A s.heap s.heap [] := va_S.rf
  have hl : lv_has ls 7 [(0, .ref o), (1, .ref (ad 13))] := hl
  have hRf : 1 ≤ ({ frames := 1, cells := 0, slots := 0, locals := 29 } : Room).frames := Nat.le_refl _
  have hRl : 29 ≤ ({ frames := 1, cells := 0, slots := 0, locals := 29 } : Room).locals := Nat.le_refl _
  have hC : 0 ≤ ({ frames := 1, cells := 0, slots := 0, locals := 29 } : Room).cells := Nat.le_refl _
  have hSl : 0 ≤ ({ frames := 1, cells := 0, slots := 0, locals := 29 } : Room).slots := Nat.le_refl _
  unfold wp_M_waterGoes at h
  refine lv_iconst (v := (1 : Int32)) hx hb dX3_waterGoes_0 (by decide) ?_
  refine lv_istore_n (lv' := [(2, .int (1 : Int32)), (0, .ref o), (1, .ref (ad 13))]) hx hb dX3_waterGoes_1 rfl hl (by decide) rfl (fun ls hl => ?_)
  obtain ⟨k2, h⟩ := h
  refine lp_M_waterGoes_L1_i13 F hRf hRl hC hSl ?hk100 k2 _ _ h _ _ _ hP hD hS (lv_sub hl [1, 2, 0] rfl)
  case hk100 =>
    intro ar_14 h H locs ls hP hD hS hl
    exact rt_v F dX3_waterGoes_100 (ar_14) h hP hD hS (Nat.le_refl _) (Nat.le_refl _)
