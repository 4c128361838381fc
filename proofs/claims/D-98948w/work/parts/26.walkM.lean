/-! walks of the model (printed by gen/mk.py) -/
set_option maxRecDepth 100000
set_option maxHeartbeats 4000000 in
theorem ct_M_level {l : Launch} {V : evT} {D : va_G} {gI : Nat → ClassId} {o : Nat} {ad : Nat → Nat} {v1 : Int32} {fd : Nat → Int32} {ar : Nat → Nat → Int32} {lw : Nat → Int64} {Q : Int32 → (Nat → Int32) → (Nat → Nat → Int32) → (Nat → Int64) → Prop} (h : wp_M_level v1 fd ar lw Q) : ct_i l V D vwCl (tyL gI) yX3_level cX3_level 3 .int { frames := 5, cells := 0, slots := 0, locals := 99 } [.ref o, .int v1] (wm gI o ad fd ar lw) (fun u : (Nat → Int32) × (Nat → Nat → Int32) × (Nat → Int64) => (wm gI o ad u.1 u.2.1 u.2.2)) (fun (x : Int32) (u : (Nat → Int32) × (Nat → Nat → Int32) × (Nat → Int64)) => Q x u.1 u.2.1 u.2.2) := by
  refine ct_ofi RX3 rfl (by decide +kernel) (Nat.le_of_ble_eq_true rfl) ?_
  intro p e s m args below meth c A F hP hD ls hl
  obtain ⟨⟨hx, hb, hml, hown, hts⟩, hr, hlocks, hA, hK, hE⟩ := id F
  have hS : va_S A s.heap s.heap [] := va_S.rf
  have hl : lv_has ls 3 [(0, .ref o), (1, .int v1)] := hl
  have hRf : 5 ≤ ({ frames := 5, cells := 0, slots := 0, locals := 99 } : Room).frames := Nat.le_refl _
  have hRl : 99 ≤ ({ frames := 5, cells := 0, slots := 0, locals := 99 } : Room).locals := Nat.le_refl _
  have hC : 0 ≤ ({ frames := 5, cells := 0, slots := 0, locals := 99 } : Room).cells := Nat.le_refl _
  have hSl : 0 ≤ ({ frames := 5, cells := 0, slots := 0, locals := 99 } : Room).slots := Nat.le_refl _
  unfold wp_M_level at h
  refine lv_aload_n hx hb dX3_level_0 rfl (lv_at hl 0 rfl) ?_
  refine lv_iconst (v := (0 : Int32)) hx hb dX3_level_1 (by decide) ?_
  refine pt_put (v := .int (0 : Int32)) hx hb hts in_X3 tyX3 tyX3_ok nmX3 hown hK hP hD hS 0 rfl rfl 0 (Nat.le_of_ble_eq_true rfl) (hts _ q1218) (fun _ h => h) rfl (ty := .int) (by decide +kernel) rfl rfl (Nat.le_of_ble_eq_true rfl) dX3_level_2 wmF_0 (fun H locs hP hD hS => ?_)
  refine lv_iload_n hx hb dX3_level_5 rfl (lv_at hl 1 rfl) ?_
  refine lv_i2l (v := (v1.toInt64)) hx hb dX3_level_6 rfl ?_
  refine lv_lconst (v := (0 : Int64)) hx hb dX3_level_7 (by decide) ?_
  refine lv_ldc2 (v := (99 : Int64)) hx hb hown (hts _ q1673) dX3_level_8 ?_
  refine cl_i0 F (va_runS (As := [.long (v1.toInt64), .long (0 : Int64), .long (99 : Int64)]) (rest := []) ⟨hx, hb, hml, hown, hts⟩ (ct_X3_in h _) (va_cwS 3 hts (lw_S q1391 q1392 q97 q1393) rfl rfl rfl (by decide +kernel) ⟨Nat.le_trans (Nat.le_of_ble_eq_true rfl) hRf, Nat.le_trans (Nat.le_of_ble_eq_true rfl) hRl⟩) ⟨ct_blind, ct_at F hS ct_nP ct_nD⟩ rfl rfl hl.1 rfl (lv_room (Nat.le_of_ble_eq_true rfl)) dX3_level_11 ⟨hC, hSl⟩) rfl rfl hP hS ?_
  rintro x1 _ H locs h hP hS
  refine lv_if_ne (tgt := 19) hx hb dX3_level_14 (by decide) (fun c7 => ?_) (fun c7 => ?_)
  · replace h := h.1 c7
    refine lv_aload_n hx hb dX3_level_19 rfl (lv_at hl 0 rfl) ?_
    refine lv_aload_n hx hb dX3_level_20 rfl (lv_at hl 0 rfl) ?_
    refine va_get hx hb hts in_X3 hown hK hP 0 rfl rfl 12 (Nat.le_of_ble_eq_true rfl) (hts _ q1230) (fun _ h => h) (v := .ref (ad 12)) rfl dX3_level_21 ?_
    refine lv_aload_n hx hb dX3_level_24 rfl (lv_at hl 0 rfl) ?_
    refine va_get hx hb hts in_X3 hown hK hP 0 rfl rfl 12 (Nat.le_of_ble_eq_true rfl) (hts _ q1230) (fun _ h => h) (v := .ref (ad 12)) rfl dX3_level_25 ?_
    refine lv_bipush (v := (42 : Int32)) hx hb dX3_level_28 (by decide) ?_
    refine va_iald (f := (ar 12)) hx hb hK hP 8 0 rfl rfl (by unfold vp_in; decide) dX3_level_30 ?_
    refine lv_iload_n hx hb dX3_level_31 rfl (lv_at hl 1 rfl) ?_
    refine lv_iadd hx hb dX3_level_32 ?_
    refine cl_i F (va_runV (As := [.ref (ad 12), .int ((ar 12 (42 : Int32).toNatClampNeg) + v1)]) (rest := []) ⟨hx, hb, hml, hown, hts⟩ (ct_M_levelOf_i12 h _) (cwV 2 hts (lw_V q1650 q1652 qs73 q97 q1653) rfl rfl rfl (by decide +kernel) ⟨Nat.le_trans (Nat.le_of_ble_eq_true rfl) hRf, Nat.le_trans (Nat.le_of_ble_eq_true rfl) hRl⟩) ⟨ct_blind, va_recv hK hP (ci := 2) (q0 := 0) rfl rfl, ct_at F hS hP hD⟩ rfl rfl hl.1 rfl (lv_room (Nat.le_of_ble_eq_true rfl)) dX3_level_33 ⟨hC, hSl⟩) rfl rfl hD hS ?_
    rintro x2 ar3 H locs h hP hD hS
    refine lv_istore_n (lv' := [(2, .int x2), (0, .ref o), (1, .int v1)]) hx hb dX3_level_36 rfl hl (by decide) rfl (fun ls hl => ?_)
    refine lv_aload_n hx hb dX3_level_37 rfl (lv_at hl 1 rfl) ?_
    refine lv_iconst (v := (0 : Int32)) hx hb dX3_level_38 (by decide) ?_
    refine pt_put (v := .int (0 : Int32)) hx hb hts in_X3 tyX3 tyX3_ok nmX3 hown hK hP hD hS 0 rfl rfl 1 (Nat.le_of_ble_eq_true rfl) (hts _ q1219) (fun _ h => h) rfl (ty := .int) (by decide +kernel) rfl rfl (Nat.le_of_ble_eq_true rfl) dX3_level_39 wmF_1 (fun H locs hP hD hS => ?_)
    refine lv_aload_n hx hb dX3_level_42 rfl (lv_at hl 1 rfl) ?_
    refine lv_aload_n hx hb dX3_level_43 rfl (lv_at hl 1 rfl) ?_
    refine lv_aload_n hx hb dX3_level_44 rfl (lv_at hl 1 rfl) ?_
    refine va_get hx hb hts in_X3 hown hK hP 0 rfl rfl 12 (Nat.le_of_ble_eq_true rfl) (hts _ q1230) (fun _ h => h) (v := .ref (ad 12)) rfl dX3_level_45 ?_
    refine lv_iload_n hx hb dX3_level_48 rfl (lv_at hl 0 rfl) ?_
    refine cl_i F (va_runV (As := [.ref (ad 12), .int x2]) (rest := [.ref o]) ⟨hx, hb, hml, hown, hts⟩ (ct_M_lowBy_i12 h _) (cwV 2 hts (lw_V q1661 q1663 qs75 q97 q1664) rfl rfl rfl (by decide +kernel) ⟨Nat.le_trans (Nat.le_of_ble_eq_true rfl) hRf, Nat.le_trans (Nat.le_of_ble_eq_true rfl) hRl⟩) ⟨ct_blind, va_recv hK hP (ci := 2) (q0 := 0) rfl rfl, ct_at F hS hP hD⟩ rfl rfl hl.1 rfl (lv_room (Nat.le_of_ble_eq_true rfl)) dX3_level_49 ⟨hC, hSl⟩) rfl rfl hD hS ?_
    rintro x4 _ H locs h hP hD hS
    refine lv_i2l (v := (x4.toInt64)) hx hb dX3_level_52 rfl ?_
    refine cl_v F (va_runV (As := [.long (x4.toInt64)]) (rest := []) ⟨hx, hb, hml, hown, hts⟩ (ct_M_enters h _) (cwV 1 hts (lw_V q1634 q1636 qs70 q97 q1637) rfl rfl rfl (by decide +kernel) ⟨Nat.le_trans (Nat.le_of_ble_eq_true rfl) hRf, Nat.le_trans (Nat.le_of_ble_eq_true rfl) hRl⟩) ⟨ct_blind, va_recv hK hP (ci := 2) (q0 := 0) rfl rfl, ct_at F hS hP hD⟩ rfl rfl hl.1 rfl (lv_room (Nat.le_of_ble_eq_true rfl)) dX3_level_53 ⟨hC, hSl⟩) rfl rfl hD hS ?_
    rintro ⟨fd5, lw6⟩ H locs h hP hD hS
    refine lv_iload_n hx hb dX3_level_56 rfl (lv_at hl 0 rfl) ?_
    exact rt_i F dX3_level_57 rfl (fd5, ar3, lw6) h hP hD hS (Nat.le_refl _) (Nat.le_refl _)
  · replace h := h.2 c7
    refine lv_iconst (v := (-1 : Int32)) hx hb dX3_level_17 (by decide) ?_
    exact rt_i F dX3_level_18 rfl ((upd fd 0 (0 : Int32)), ar, lw) h hP hD hS (Nat.le_refl _) (Nat.le_refl _)
set_option maxHeartbeats 4000000 in
theorem ct_M_isHigh_i12 {l : Launch} {V : evT} {D : va_G} {gI : Nat → ClassId} {o : Nat} {ad : Nat → Nat} {fd : Nat → Int32} {ar : Nat → Nat → Int32} {lw : Nat → Int64} {Q : Int32 → (Nat → Nat → Int32) → Prop} (h : wp_M_isHigh 12 fd ar lw Q) : ct_i l V D vwCl (tyL gI) yX3_isHigh cX3_isHigh 2 .boolean { frames := 5, cells := 0, slots := 0, locals := 99 } [.ref o, .ref (ad 12)] (wm gI o ad fd ar lw) (fun u : (Nat → Nat → Int32) => (wm gI o ad fd u lw)) (fun (x : Int32) (u : (Nat → Nat → Int32)) => Q x u) := by
  refine ct_ofi RX3 rfl (by decide +kernel) (Nat.le_of_ble_eq_true rfl) ?_
  intro p e s m args below meth c A F hP hD ls hl
  obtain ⟨⟨hx, hb, hml, hown, hts⟩, hr, hlocks, hA, hK, hE⟩ := id F
  have hS : va_S A s.heap s.heap [] := va_S.rf
  have hl : lv_has ls 2 [(0, .ref o), (1, .ref (ad 12))] := hl
  have hRf : 5 ≤ ({ frames := 5, cells := 0, slots := 0, locals := 99 } : Room).frames := Nat.le_refl _
  have hRl : 99 ≤ ({ frames := 5, cells := 0, slots := 0, locals := 99 } : Room).locals := Nat.le_refl _
  have hC : 0 ≤ ({ frames := 5, cells := 0, slots := 0, locals := 99 } : Room).cells := Nat.le_refl _
  have hSl : 0 ≤ ({ frames := 5, cells := 0, slots := 0, locals := 99 } : Room).slots := Nat.le_refl _
  unfold wp_M_isHigh at h
  refine lv_aload_n hx hb dX3_isHigh_0 rfl (lv_at hl 0 rfl) ?_
  refine lv_aload_n hx hb dX3_isHigh_1 rfl (lv_at hl 1 rfl) ?_
  refine lv_aload_n hx hb dX3_isHigh_2 rfl (lv_at hl 0 rfl) ?_
  refine lv_aload_n hx hb dX3_isHigh_3 rfl (lv_at hl 1 rfl) ?_
  refine lv_aload_n hx hb dX3_isHigh_4 rfl (lv_at hl 1 rfl) ?_
  refine lv_bipush (v := (42 : Int32)) hx hb dX3_isHigh_5 (by decide) ?_
  refine va_iald (f := (ar 12)) hx hb hK hP 8 0 rfl rfl (by unfold vp_in; decide) dX3_isHigh_7 ?_
  refine cl_i F (va_runV (As := [.ref (ad 12), .int (ar 12 (42 : Int32).toNatClampNeg)]) (rest := [.ref (ad 12), .ref o]) ⟨hx, hb, hml, hown, hts⟩ (ct_M_levelOf_i12 h _) (cwV 2 hts (lw_V q1650 q1652 qs73 q97 q1653) rfl rfl rfl (by decide +kernel) ⟨Nat.le_trans (Nat.le_of_ble_eq_true rfl) hRf, Nat.le_trans (Nat.le_of_ble_eq_true rfl) hRl⟩) ⟨ct_blind, va_recv hK hP (ci := 2) (q0 := 0) rfl rfl, ct_at F hS hP hD⟩ rfl rfl hl.1 rfl (lv_room (Nat.le_of_ble_eq_true rfl)) dX3_isHigh_8 ⟨hC, hSl⟩) rfl rfl hD hS ?_
  rintro x1 ar2 H locs h hP hD hS
  refine cl_i F (va_runV (As := [.ref (ad 12), .int x1]) (rest := []) ⟨hx, hb, hml, hown, hts⟩ (ct_M_lowBy_i12 h _) (cwV 2 hts (lw_V q1661 q1663 qs75 q97 q1664) rfl rfl rfl (by decide +kernel) ⟨Nat.le_trans (Nat.le_of_ble_eq_true rfl) hRf, Nat.le_trans (Nat.le_of_ble_eq_true rfl) hRl⟩) ⟨ct_blind, va_recv hK hP (ci := 2) (q0 := 0) rfl rfl, ct_at F hS hP hD⟩ rfl rfl hl.1 rfl (lv_room (Nat.le_of_ble_eq_true rfl)) dX3_isHigh_11 ⟨hC, hSl⟩) rfl rfl hD hS ?_
  rintro x3 _ H locs h hP hD hS
  refine lv_if_ne (tgt := 21) hx hb dX3_isHigh_14 (by decide) (fun c4 => ?_) (fun c4 => ?_)
  · replace h := h.1 c4
    refine lv_iconst (v := (0 : Int32)) hx hb dX3_isHigh_21 (by decide) ?_
    exact rt_i F dX3_isHigh_22 rfl (ar2) h hP hD hS (Nat.le_refl _) (Nat.le_refl _)
  · replace h := h.2 c4
    refine lv_iconst (v := (1 : Int32)) hx hb dX3_isHigh_17 (by decide) ?_
    refine lv_goto (tgt := 22) hx hb dX3_isHigh_18 (by decide) ?_
    exact rt_i F dX3_isHigh_22 rfl (ar2) h hP hD hS (Nat.le_refl _) (Nat.le_refl _)
set_option maxHeartbeats 4000000 in
theorem ct_M_isHigh_i13 {l : Launch} {V : evT} {D : va_G} {gI : Nat → ClassId} {o : Nat} {ad : Nat → Nat} {fd : Nat → Int32} {ar : Nat → Nat → Int32} {lw : Nat → Int64} {Q : Int32 → (Nat → Nat → Int32) → Prop} (h : wp_M_isHigh 13 fd ar lw Q) : ct_i l V D vwCl (tyL gI) yX3_isHigh cX3_isHigh 2 .boolean { frames := 5, cells := 0, slots := 0, locals := 99 } [.ref o, .ref (ad 13)] (wm gI o ad fd ar lw) (fun u : (Nat → Nat → Int32) => (wm gI o ad fd u lw)) (fun (x : Int32) (u : (Nat → Nat → Int32)) => Q x u) := by
  refine ct_ofi RX3 rfl (by decide +kernel) (Nat.le_of_ble_eq_true rfl) ?_
  intro p e s m args below meth c A F hP hD ls hl
  obtain ⟨⟨hx, hb, hml, hown, hts⟩, hr, hlocks, hA, hK, hE⟩ := id F
  have hS : va_S A s.heap s.heap [] := va_S.rf
  have hl : lv_has ls 2 [(0, .ref o), (1, .ref (ad 13))] := hl
  have hRf : 5 ≤ ({ frames := 5, cells := 0, slots := 0, locals := 99 } : Room).frames := Nat.le_refl _
  have hRl : 99 ≤ ({ frames := 5, cells := 0, slots := 0, locals := 99 } : Room).locals := Nat.le_refl _
  have hC : 0 ≤ ({ frames := 5, cells := 0, slots := 0, locals := 99 } : Room).cells := Nat.le_refl _
  have hSl : 0 ≤ ({ frames := 5, cells := 0, slots := 0, locals := 99 } : Room).slots := Nat.le_refl _
  unfold wp_M_isHigh at h
  refine lv_aload_n hx hb dX3_isHigh_0 rfl (lv_at hl 0 rfl) ?_
  refine lv_aload_n hx hb dX3_isHigh_1 rfl (lv_at hl 1 rfl) ?_
  refine lv_aload_n hx hb dX3_isHigh_2 rfl (lv_at hl 0 rfl) ?_
  refine lv_aload_n hx hb dX3_isHigh_3 rfl (lv_at hl 1 rfl) ?_
  refine lv_aload_n hx hb dX3_isHigh_4 rfl (lv_at hl 1 rfl) ?_
  refine lv_bipush (v := (42 : Int32)) hx hb dX3_isHigh_5 (by decide) ?_
  refine va_iald (f := (ar 13)) hx hb hK hP 9 0 rfl rfl (by unfold vp_in; decide) dX3_isHigh_7 ?_
  refine cl_i F (va_runV (As := [.ref (ad 13), .int (ar 13 (42 : Int32).toNatClampNeg)]) (rest := [.ref (ad 13), .ref o]) ⟨hx, hb, hml, hown, hts⟩ (ct_M_levelOf_i13 h _) (cwV 2 hts (lw_V q1650 q1652 qs73 q97 q1653) rfl rfl rfl (by decide +kernel) ⟨Nat.le_trans (Nat.le_of_ble_eq_true rfl) hRf, Nat.le_trans (Nat.le_of_ble_eq_true rfl) hRl⟩) ⟨ct_blind, va_recv hK hP (ci := 2) (q0 := 0) rfl rfl, ct_at F hS hP hD⟩ rfl rfl hl.1 rfl (lv_room (Nat.le_of_ble_eq_true rfl)) dX3_isHigh_8 ⟨hC, hSl⟩) rfl rfl hD hS ?_
  rintro x1 ar2 H locs h hP hD hS
  refine cl_i F (va_runV (As := [.ref (ad 13), .int x1]) (rest := []) ⟨hx, hb, hml, hown, hts⟩ (ct_M_lowBy_i13 h _) (cwV 2 hts (lw_V q1661 q1663 qs75 q97 q1664) rfl rfl rfl (by decide +kernel) ⟨Nat.le_trans (Nat.le_of_ble_eq_true rfl) hRf, Nat.le_trans (Nat.le_of_ble_eq_true rfl) hRl⟩) ⟨ct_blind, va_recv hK hP (ci := 2) (q0 := 0) rfl rfl, ct_at F hS hP hD⟩ rfl rfl hl.1 rfl (lv_room (Nat.le_of_ble_eq_true rfl)) dX3_isHigh_11 ⟨hC, hSl⟩) rfl rfl hD hS ?_
  rintro x3 _ H locs h hP hD hS
  refine lv_if_ne (tgt := 21) hx hb dX3_isHigh_14 (by decide) (fun c4 => ?_) (fun c4 => ?_)
  · replace h := h.1 c4
    refine lv_iconst (v := (0 : Int32)) hx hb dX3_isHigh_21 (by decide) ?_
    exact rt_i F dX3_isHigh_22 rfl (ar2) h hP hD hS (Nat.le_refl _) (Nat.le_refl _)
  · replace h := h.2 c4
    refine lv_iconst (v := (1 : Int32)) hx hb dX3_isHigh_17 (by decide) ?_
    refine lv_goto (tgt := 22) hx hb dX3_isHigh_18 (by decide) ?_
    exact rt_i F dX3_isHigh_22 rfl (ar2) h hP hD hS (Nat.le_refl _) (Nat.le_refl _)
set_option maxHeartbeats 4000000 in
theorem lp_M_bucketsAll_L1_i12 {p : Program} {l : Launch} {e : Env} {R : Room} {s : State} {m : MethodId} {args : Array Value} {below : List Frame} {meth : Method} {c : Code} {cells slots : Nat} {A : Nat → Prop} {Qf : State → Prop} {V : evT} {D : va_G} {gI : Nat → ClassId} {o : Nat} {ad : Nat → Nat} {fd : Nat → Int32} {ar : Nat → Nat → Int32} {lw : Nat → Int64} {K27 : (Int32) → Prop} (F : ct_F p m c meth cX3_bucketsAll 4 s args RX3 (some .int) A V D vwCl (tyL gI)) (hRf : 5 ≤ R.frames) (hRl : 103 ≤ R.locals) (hC : cells ≤ R.cells) (hSl : slots ≤ R.slots)
    (hK27 : ∀ (v2 : Int32), K27 v2 → ∀ (H : Heap) (locs : List Loc) (ls : Array Slot), va_P D vwCl (wm gI o ad fd ar lw) H → va_D A (wm gI o ad fd ar lw) → va_S A s.heap H locs → lv_has ls 4 [(2, .int v2)] → W p l e R s m args below meth c H locs cells slots Qf (F0 m 27 ls [])) :
    ∀ (n : Nat) (v2 : Int32) (v3 : Int32), wp_M_bucketsAll_L1 12 fd ar lw K27 n v2 v3 → ∀ (H : Heap) (locs : List Loc) (ls : Array Slot), va_P D vwCl (wm gI o ad fd ar lw) H → va_D A (wm gI o ad fd ar lw) → va_S A s.heap H locs → lv_has ls 4 [(0, .ref o), (1, .ref (ad 12)), (2, .int v2), (3, .int v3)] → W p l e R s m args below meth c H locs cells slots Qf (F0 m 4 ls []) := by
  obtain ⟨⟨hx, hb, hml, hown, hts⟩, hr, hlocks, hA, hK, hE⟩ := id F
  intro n
  induction n with
  | zero => intro v2 v3 h; exact h.elim
  | succ n ih =>
    intro v2 v3 h H locs ls hP hD hS hl
    unfold wp_M_bucketsAll_L1 at h
    refine lv_iload_n hx hb dX3_bucketsAll_4 rfl (lv_at hl 3 rfl) ?_
    refine lv_aload_n hx hb dX3_bucketsAll_5 rfl (lv_at hl 0 rfl) ?_
    refine va_get hx hb hts in_X3 hown hK hP 0 rfl rfl 4 (Nat.le_of_ble_eq_true rfl) (hts _ q1222) (fun _ h => h) (v := .int (fd 4)) rfl dX3_bucketsAll_6 ?_
    refine lv_icmp_ge (tgt := 27) hx hb dX3_bucketsAll_9 (by decide) (fun c2 => ?_) (fun c2 => ?_)
    · replace h := h.1 c2
      exact hK27 _ h _ _ _ hP hD hS (lv_sub hl [2] rfl)
    · replace h := h.2 c2
      refine lv_iload_n hx hb dX3_bucketsAll_12 rfl (lv_at hl 2 rfl) ?_
      refine lv_aload_n hx hb dX3_bucketsAll_13 rfl (lv_at hl 0 rfl) ?_
      refine lv_aload_n hx hb dX3_bucketsAll_14 rfl (lv_at hl 1 rfl) ?_
      refine lv_iload_n hx hb dX3_bucketsAll_15 rfl (lv_at hl 3 rfl) ?_
      refine cl_i F (va_runV (As := [.ref (ad 12), .int v3]) (rest := [.int v2]) ⟨hx, hb, hml, hown, hts⟩ (ct_M_bucketsOf_i12 h _) (cwV 2 hts (lw_V q1535 q1537 qs56 q97 q1538) rfl rfl rfl (by decide +kernel) ⟨Nat.le_trans (Nat.le_of_ble_eq_true rfl) hRf, Nat.le_trans (Nat.le_of_ble_eq_true rfl) hRl⟩) ⟨ct_blind, va_recv hK hP (ci := 2) (q0 := 0) rfl rfl, ct_at F hS hP hD⟩ rfl rfl hl.1 rfl (lv_room (Nat.le_of_ble_eq_true rfl)) dX3_bucketsAll_16 ⟨hC, hSl⟩) rfl rfl hD hS ?_
      rintro x1 _ H locs h hP hD hS
      refine lv_iadd hx hb dX3_bucketsAll_19 ?_
      refine lv_istore_n (lv' := [(2, .int (v2 + x1)), (0, .ref o), (1, .ref (ad 12)), (3, .int v3)]) hx hb dX3_bucketsAll_20 rfl hl (by decide) rfl (fun ls hl => ?_)
      refine lv_iinc (v := (v3 + (1 : Int32))) (lv' := [(3, .int (v3 + (1 : Int32))), (2, .int (v2 + x1)), (0, .ref o), (1, .ref (ad 12))]) hx hb dX3_bucketsAll_21 hl (k := 3) rfl rfl (by decide) rfl (fun ls hl => ?_)
      refine lv_goto (tgt := 4) hx hb dX3_bucketsAll_24 (by decide) ?_
      exact ih _ _ h _ _ _ hP hD hS (lv_sub hl [2, 3, 1, 0] rfl)
set_option maxHeartbeats 4000000 in
theorem ct_M_bucketsAll_i12 {l : Launch} {V : evT} {D : va_G} {gI : Nat → ClassId} {o : Nat} {ad : Nat → Nat} {fd : Nat → Int32} {ar : Nat → Nat → Int32} {lw : Nat → Int64} {Q : Int32 → Prop} (h : wp_M_bucketsAll 12 fd ar lw Q) : ct_i l V D vwCl (tyL gI) yX3_bucketsAll cX3_bucketsAll 4 .int { frames := 5, cells := 0, slots := 0, locals := 103 } [.ref o, .ref (ad 12)] (wm gI o ad fd ar lw) (fun u : Unit => (wm gI o ad fd ar lw)) (fun (x : Int32) (u : Unit) => Q x) := by
  refine ct_ofi RX3 rfl (by decide +kernel) (Nat.le_of_ble_eq_true rfl) ?_
  intro p e s m args below meth c A F hP hD ls hl
  obtain ⟨⟨hx, hb, hml, hown, hts⟩, hr, hlocks, hA, hK, hE⟩ := id F
  have hS : va_S A s.heap s.heap [] := va_S.rf
  have hl : lv_has ls 4 [(0, .ref o), (1, .ref (ad 12))] := hl
  have hRf : 5 ≤ ({ frames := 5, cells := 0, slots := 0, locals := 103 } : Room).frames := Nat.le_refl _
  have hRl : 103 ≤ ({ frames := 5, cells := 0, slots := 0, locals := 103 } : Room).locals := Nat.le_refl _
  have hC : 0 ≤ ({ frames := 5, cells := 0, slots := 0, locals := 103 } : Room).cells := Nat.le_refl _
  have hSl : 0 ≤ ({ frames := 5, cells := 0, slots := 0, locals := 103 } : Room).slots := Nat.le_refl _
  unfold wp_M_bucketsAll at h
  refine lv_iconst (v := (0 : Int32)) hx hb dX3_bucketsAll_0 (by decide) ?_
  refine lv_istore_n (lv' := [(2, .int (0 : Int32)), (0, .ref o), (1, .ref (ad 12))]) hx hb dX3_bucketsAll_1 rfl hl (by decide) rfl (fun ls hl => ?_)
  refine lv_iconst (v := (0 : Int32)) hx hb dX3_bucketsAll_2 (by decide) ?_
  refine lv_istore_n (lv' := [(3, .int (0 : Int32)), (2, .int (0 : Int32)), (0, .ref o), (1, .ref (ad 12))]) hx hb dX3_bucketsAll_3 rfl hl (by decide) rfl (fun ls hl => ?_)
  obtain ⟨k4, h⟩ := h
  refine lp_M_bucketsAll_L1_i12 F hRf hRl hC hSl ?hk27 k4 _ _ h _ _ _ hP hD hS (lv_sub hl [2, 3, 1, 0] rfl)
  case hk27 =>
    intro v2_3 h H locs ls hP hD hS hl
    refine lv_iload_n hx hb dX3_bucketsAll_27 rfl (lv_at hl 0 rfl) ?_
    exact rt_i F dX3_bucketsAll_28 rfl () h hP hD hS (Nat.le_refl _) (Nat.le_refl _)
set_option maxHeartbeats 4000000 in
theorem lp_M_bucketsAll_L1_i13 {p : Program} {l : Launch} {e : Env} {R : Room} {s : State} {m : MethodId} {args : Array Value} {below : List Frame} {meth : Method} {c : Code} {cells slots : Nat} {A : Nat → Prop} {Qf : State → Prop} {V : evT} {D : va_G} {gI : Nat → ClassId} {o : Nat} {ad : Nat → Nat} {fd : Nat → Int32} {ar : Nat → Nat → Int32} {lw : Nat → Int64} {K27 : (Int32) → Prop} (F : ct_F p m c meth cX3_bucketsAll 4 s args RX3 (some .int) A V D vwCl (tyL gI)) (hRf : 5 ≤ R.frames) (hRl : 103 ≤ R.locals) (hC : cells ≤ R.cells) (hSl : slots ≤ R.slots)
    (hK27 : ∀ (v2 : Int32), K27 v2 → ∀ (H : Heap) (locs : List Loc) (ls : Array Slot), va_P D vwCl (wm gI o ad fd ar lw) H → va_D A (wm gI o ad fd ar lw) → va_S A s.heap H locs → lv_has ls 4 [(2, .int v2)] → W p l e R s m args below meth c H locs cells slots Qf (F0 m 27 ls [])) :
    ∀ (n : Nat) (v2 : Int32) (v3 : Int32), wp_M_bucketsAll_L1 13 fd ar lw K27 n v2 v3 → ∀ (H : Heap) (locs : List Loc) (ls : Array Slot), va_P D vwCl (wm gI o ad fd ar lw) H → va_D A (wm gI o ad fd ar lw) → va_S A s.heap H locs → lv_has ls 4 [(0, .ref o), (1, .ref (ad 13)), (2, .int v2), (3, .int v3)] → W p l e R s m args below meth c H locs cells slots Qf (F0 m 4 ls []) := by
  obtain ⟨⟨hx, hb, hml, hown, hts⟩, hr, hlocks, hA, hK, hE⟩ := id F
  intro n
  induction n with
  | zero => intro v2 v3 h; exact h.elim
  | succ n ih =>
    intro v2 v3 h H locs ls hP hD hS hl
    unfold wp_M_bucketsAll_L1 at h
    refine lv_iload_n hx hb dX3_bucketsAll_4 rfl (lv_at hl 3 rfl) ?_
    refine lv_aload_n hx hb dX3_bucketsAll_5 rfl (lv_at hl 0 rfl) ?_
    refine va_get hx hb hts in_X3 hown hK hP 0 rfl rfl 4 (Nat.le_of_ble_eq_true rfl) (hts _ q1222) (fun _ h => h) (v := .int (fd 4)) rfl dX3_bucketsAll_6 ?_
    refine lv_icmp_ge (tgt := 27) hx hb dX3_bucketsAll_9 (by decide) (fun c2 => ?_) (fun c2 => ?_)
    · replace h := h.1 c2
      exact hK27 _ h _ _ _ hP hD hS (lv_sub hl [2] rfl)
    · replace h := h.2 c2
      refine lv_iload_n hx hb dX3_bucketsAll_12 rfl (lv_at hl 2 rfl) ?_
      refine lv_aload_n hx hb dX3_bucketsAll_13 rfl (lv_at hl 0 rfl) ?_
      refine lv_aload_n hx hb dX3_bucketsAll_14 rfl (lv_at hl 1 rfl) ?_
      refine lv_iload_n hx hb dX3_bucketsAll_15 rfl (lv_at hl 3 rfl) ?_
      refine cl_i F (va_runV (As := [.ref (ad 13), .int v3]) (rest := [.int v2]) ⟨hx, hb, hml, hown, hts⟩ (ct_M_bucketsOf_i13 h _) (cwV 2 hts (lw_V q1535 q1537 qs56 q97 q1538) rfl rfl rfl (by decide +kernel) ⟨Nat.le_trans (Nat.le_of_ble_eq_true rfl) hRf, Nat.le_trans (Nat.le_of_ble_eq_true rfl) hRl⟩) ⟨ct_blind, va_recv hK hP (ci := 2) (q0 := 0) rfl rfl, ct_at F hS hP hD⟩ rfl rfl hl.1 rfl (lv_room (Nat.le_of_ble_eq_true rfl)) dX3_bucketsAll_16 ⟨hC, hSl⟩) rfl rfl hD hS ?_
      rintro x1 _ H locs h hP hD hS
      refine lv_iadd hx hb dX3_bucketsAll_19 ?_
      refine lv_istore_n (lv' := [(2, .int (v2 + x1)), (0, .ref o), (1, .ref (ad 13)), (3, .int v3)]) hx hb dX3_bucketsAll_20 rfl hl (by decide) rfl (fun ls hl => ?_)
      refine lv_iinc (v := (v3 + (1 : Int32))) (lv' := [(3, .int (v3 + (1 : Int32))), (2, .int (v2 + x1)), (0, .ref o), (1, .ref (ad 13))]) hx hb dX3_bucketsAll_21 hl (k := 3) rfl rfl (by decide) rfl (fun ls hl => ?_)
      refine lv_goto (tgt := 4) hx hb dX3_bucketsAll_24 (by decide) ?_
      exact ih _ _ h _ _ _ hP hD hS (lv_sub hl [2, 3, 1, 0] rfl)
set_option maxHeartbeats 4000000 in
theorem ct_M_bucketsAll_i13 {l : Launch} {V : evT} {D : va_G} {gI : Nat → ClassId} {o : Nat} {ad : Nat → Nat} {fd : Nat → Int32} {ar : Nat → Nat → Int32} {lw : Nat → Int64} {Q : Int32 → Prop} (h : wp_M_bucketsAll 13 fd ar lw Q) : ct_i l V D vwCl (tyL gI) yX3_bucketsAll cX3_bucketsAll 4 .int { frames := 5, cells := 0, slots := 0, locals := 103 } [.ref o, .ref (ad 13)] (wm gI o ad fd ar lw) (fun u : Unit => (wm gI o ad fd ar lw)) (fun (x : Int32) (u : Unit) => Q x) := by
  refine ct_ofi RX3 rfl (by decide +kernel) (Nat.le_of_ble_eq_true rfl) ?_
  intro p e s m args below meth c A F hP hD ls hl
  obtain ⟨⟨hx, hb, hml, hown, hts⟩, hr, hlocks, hA, hK, hE⟩ := id F
  have hS : va_S A s.heap s.heap [] := va_S.rf
  have hl : lv_has ls 4 [(0, .ref o), (1, .ref (ad 13))] := hl
  have hRf : 5 ≤ ({ frames := 5, cells := 0, slots := 0, locals := 103 } : Room).frames := Nat.le_refl _
  have hRl : 103 ≤ ({ frames := 5, cells := 0, slots := 0, locals := 103 } : Room).locals := Nat.le_refl _
  have hC : 0 ≤ ({ frames := 5, cells := 0, slots := 0, locals := 103 } : Room).cells := Nat.le_refl _
  have hSl : 0 ≤ ({ frames := 5, cells := 0, slots := 0, locals := 103 } : Room).slots := Nat.le_refl _
  unfold wp_M_bucketsAll at h
  refine lv_iconst (v := (0 : Int32)) hx hb dX3_bucketsAll_0 (by decide) ?_
  refine lv_istore_n (lv' := [(2, .int (0 : Int32)), (0, .ref o), (1, .ref (ad 13))]) hx hb dX3_bucketsAll_1 rfl hl (by decide) rfl (fun ls hl => ?_)
  refine lv_iconst (v := (0 : Int32)) hx hb dX3_bucketsAll_2 (by decide) ?_
  refine lv_istore_n (lv' := [(3, .int (0 : Int32)), (2, .int (0 : Int32)), (0, .ref o), (1, .ref (ad 13))]) hx hb dX3_bucketsAll_3 rfl hl (by decide) rfl (fun ls hl => ?_)
  obtain ⟨k4, h⟩ := h
  refine lp_M_bucketsAll_L1_i13 F hRf hRl hC hSl ?hk27 k4 _ _ h _ _ _ hP hD hS (lv_sub hl [2, 3, 1, 0] rfl)
  case hk27 =>
    intro v2_3 h H locs ls hP hD hS hl
    refine lv_iload_n hx hb dX3_bucketsAll_27 rfl (lv_at hl 0 rfl) ?_
    exact rt_i F dX3_bucketsAll_28 rfl () h hP hD hS (Nat.le_refl _) (Nat.le_refl _)
set_option maxHeartbeats 4000000 in
theorem lp_M_children_L2 {p : Program} {l : Launch} {e : Env} {R : Room} {s : State} {m : MethodId} {args : Array Value} {below : List Frame} {meth : Method} {c : Code} {cells slots : Nat} {A : Nat → Prop} {Qf : State → Prop} {V : evT} {D : va_G} {gI : Nat → ClassId} {o : Nat} {ad : Nat → Nat} {v1 : Int32} {lw : Nat → Int64} {K60 : (Int32) → (Nat → Int32) → (Nat → Nat → Int32) → Prop} (F : ct_F p m c meth cX3_children 6 s args RX3 (some .int) A V D vwCl (tyL gI)) (hRf : 6 ≤ R.frames) (hRl : 126 ≤ R.locals) (hC : cells ≤ R.cells) (hSl : slots ≤ R.slots)
    (hK60 : ∀ (v2 : Int32) (fd : Nat → Int32) (ar : Nat → Nat → Int32), K60 v2 fd ar → ∀ (H : Heap) (locs : List Loc) (ls : Array Slot), va_P D vwCl (wm gI o ad fd ar lw) H → va_D A (wm gI o ad fd ar lw) → va_S A s.heap H locs → lv_has ls 6 [(0, .ref o), (1, .int v1), (2, .int v2)] → W p l e R s m args below meth c H locs cells slots Qf (F0 m 60 ls [])) :
    ∀ (n : Nat) (v2 : Int32) (v3 : Int32) (fd : Nat → Int32) (ar : Nat → Nat → Int32), wp_M_children_L2 v1 lw K60 n v2 v3 fd ar → ∀ (H : Heap) (locs : List Loc) (ls : Array Slot), va_P D vwCl (wm gI o ad fd ar lw) H → va_D A (wm gI o ad fd ar lw) → va_S A s.heap H locs → lv_has ls 6 [(0, .ref o), (1, .int v1), (2, .int v2), (3, .int v3)] → W p l e R s m args below meth c H locs cells slots Qf (F0 m 29 ls []) := by
  obtain ⟨⟨hx, hb, hml, hown, hts⟩, hr, hlocks, hA, hK, hE⟩ := id F
  intro n
  induction n with
  | zero => intro v2 v3 fd ar h; exact h.elim
  | succ n ih =>
    intro v2 v3 fd ar h H locs ls hP hD hS hl
    unfold wp_M_children_L2 at h
    refine lv_iload_n hx hb dX3_children_29 rfl (lv_at hl 3 rfl) ?_
    refine lv_if_eq (tgt := 60) hx hb dX3_children_30 (by decide) (fun c10 => ?_) (fun c10 => ?_)
    · replace h := h.1 c10
      exact hK60 _ _ _ h _ _ _ hP hD hS (lv_sub hl [0, 1, 2] rfl)
    · replace h := h.2 c10
      refine lv_aload_n hx hb dX3_children_33 rfl (lv_at hl 0 rfl) ?_
      refine cl_i F (va_runV (As := []) (rest := []) ⟨hx, hb, hml, hown, hts⟩ (ct_M_readsChild h _) (cwV 0 hts (lw_V q1424 q1426 qs40 q97 q1427) rfl rfl rfl (by decide +kernel) ⟨Nat.le_trans (Nat.le_of_ble_eq_true rfl) hRf, Nat.le_trans (Nat.le_of_ble_eq_true rfl) hRl⟩) ⟨ct_blind, va_recv hK hP (ci := 2) (q0 := 0) rfl rfl, ct_at F hS hP hD⟩ rfl rfl hl.1 rfl (lv_room (Nat.le_of_ble_eq_true rfl)) dX3_children_34 ⟨hC, hSl⟩) rfl rfl hD hS ?_
      rintro x3 ⟨fd4, ar5⟩ H locs h hP hD hS
      refine lv_istore_n (lv' := [(2, .int x3), (0, .ref o), (1, .int v1), (3, .int v3)]) hx hb dX3_children_37 rfl hl (by decide) rfl (fun ls hl => ?_)
      refine lv_iload_n hx hb dX3_children_38 rfl (lv_at hl 0 rfl) ?_
      refine lv_if_eq (tgt := 55) hx hb dX3_children_39 (by decide) (fun c9 => ?_) (fun c9 => ?_)
      · replace h := h.1 c9
        refine lv_iconst (v := (0 : Int32)) hx hb dX3_children_55 (by decide) ?_
        refine lv_istore_n (lv' := [(3, .int (0 : Int32)), (2, .int x3), (0, .ref o), (1, .int v1)]) hx hb dX3_children_56 rfl hl (by decide) rfl (fun ls hl => ?_)
        refine lv_goto (tgt := 29) hx hb dX3_children_57 (by decide) ?_
        exact ih _ _ _ _ h _ _ _ hP hD hS (lv_sub hl [2, 3, 1, 0] rfl)
      · replace h := h.2 c9
        refine lv_aload_n hx hb dX3_children_42 rfl (lv_at hl 1 rfl) ?_
        refine lv_bipush (v := (59 : Int32)) hx hb dX3_children_43 (by decide) ?_
        refine cl_i F (va_runV (As := [.int (59 : Int32)]) (rest := []) ⟨hx, hb, hml, hown, hts⟩ (ct_M_takes h _) (cwV 1 hts (lw_V q1403 q1405 qs37 q97 q1406) rfl rfl rfl (by decide +kernel) ⟨Nat.le_trans (Nat.le_of_ble_eq_true rfl) hRf, Nat.le_trans (Nat.le_of_ble_eq_true rfl) hRl⟩) ⟨ct_blind, va_recv hK hP (ci := 2) (q0 := 0) rfl rfl, ct_at F hS hP hD⟩ rfl rfl hl.1 rfl (lv_room (Nat.le_of_ble_eq_true rfl)) dX3_children_45 ⟨hC, hSl⟩) rfl rfl hD hS ?_
        rintro x6 fd7 H locs h hP hD hS
        refine lv_if_eq (tgt := 55) hx hb dX3_children_48 (by decide) (fun c8 => ?_) (fun c8 => ?_)
        · replace h := h.1 c8
          refine lv_iconst (v := (0 : Int32)) hx hb dX3_children_55 (by decide) ?_
          refine lv_istore_n (lv' := [(3, .int (0 : Int32)), (2, .int x3), (0, .ref o), (1, .int v1)]) hx hb dX3_children_56 rfl hl (by decide) rfl (fun ls hl => ?_)
          refine lv_goto (tgt := 29) hx hb dX3_children_57 (by decide) ?_
          exact ih _ _ _ _ h _ _ _ hP hD hS (lv_sub hl [2, 3, 1, 0] rfl)
        · replace h := h.2 c8
          refine lv_iconst (v := (1 : Int32)) hx hb dX3_children_51 (by decide) ?_
          refine lv_goto (tgt := 56) hx hb dX3_children_52 (by decide) ?_
          refine lv_istore_n (lv' := [(3, .int (1 : Int32)), (2, .int x3), (0, .ref o), (1, .int v1)]) hx hb dX3_children_56 rfl hl (by decide) rfl (fun ls hl => ?_)
          refine lv_goto (tgt := 29) hx hb dX3_children_57 (by decide) ?_
          exact ih _ _ _ _ h _ _ _ hP hD hS (lv_sub hl [2, 3, 1, 0] rfl)
set_option maxHeartbeats 4000000 in
theorem lp_M_children_L3 {p : Program} {l : Launch} {e : Env} {R : Room} {s : State} {m : MethodId} {args : Array Value} {below : List Frame} {meth : Method} {c : Code} {cells slots : Nat} {A : Nat → Prop} {Qf : State → Prop} {V : evT} {D : va_G} {gI : Nat → ClassId} {o : Nat} {ad : Nat → Nat} {lw : Nat → Int64} {K198 : (Nat → Int32) → (Nat → Nat → Int32) → Prop} (F : ct_F p m c meth cX3_children 6 s args RX3 (some .int) A V D vwCl (tyL gI)) (hRf : 6 ≤ R.frames) (hRl : 126 ≤ R.locals) (hC : cells ≤ R.cells) (hSl : slots ≤ R.slots)
    (hK198 : ∀ (fd : Nat → Int32) (ar : Nat → Nat → Int32), K198 fd ar → ∀ (H : Heap) (locs : List Loc) (ls : Array Slot), va_P D vwCl (wm gI o ad fd ar lw) H → va_D A (wm gI o ad fd ar lw) → va_S A s.heap H locs → lv_has ls 6 [(0, .ref o)] → W p l e R s m args below meth c H locs cells slots Qf (F0 m 198 ls [])) :
    ∀ (n : Nat) (v5 : Int32) (fd : Nat → Int32) (ar : Nat → Nat → Int32), wp_M_children_L3 lw K198 n v5 fd ar → ∀ (H : Heap) (locs : List Loc) (ls : Array Slot), va_P D vwCl (wm gI o ad fd ar lw) H → va_D A (wm gI o ad fd ar lw) → va_S A s.heap H locs → lv_has ls 6 [(0, .ref o), (5, .int v5)] → W p l e R s m args below meth c H locs cells slots Qf (F0 m 81 ls []) := by
  obtain ⟨⟨hx, hb, hml, hown, hts⟩, hr, hlocks, hA, hK, hE⟩ := id F
  intro n
  induction n with
  | zero => intro v5 fd ar h; exact h.elim
  | succ n ih =>
    intro v5 fd ar h H locs ls hP hD hS hl
    unfold wp_M_children_L3 at h
    refine lv_iload hx hb dX3_children_81 (lv_at hl 1 rfl) ?_
    refine lv_aload_n hx hb dX3_children_83 rfl (lv_at hl 0 rfl) ?_
    refine va_get hx hb hts in_X3 hown hK hP 0 rfl rfl 20 (Nat.le_of_ble_eq_true rfl) (hts _ q1238) (fun _ h => h) (v := .int (fd 20)) rfl dX3_children_84 ?_
    refine lv_icmp_ge (tgt := 198) hx hb dX3_children_87 (by decide) (fun c15 => ?_) (fun c15 => ?_)
    · replace h := h.1 c15
      exact hK198 _ _ h _ _ _ hP hD hS (lv_sub hl [0] rfl)
    · replace h := h.2 c15
      refine lv_aload_n hx hb dX3_children_90 rfl (lv_at hl 0 rfl) ?_
      refine va_get hx hb hts in_X3 hown hK hP 0 rfl rfl 8 (Nat.le_of_ble_eq_true rfl) (hts _ q1226) (fun _ h => h) (v := .ref (ad 8)) rfl dX3_children_91 ?_
      refine lv_aload_n hx hb dX3_children_94 rfl (lv_at hl 0 rfl) ?_
      refine va_get hx hb hts in_X3 hown hK hP 0 rfl rfl 4 (Nat.le_of_ble_eq_true rfl) (hts _ q1222) (fun _ h => h) (v := .int (fd 4)) rfl dX3_children_95 ?_
      refine lv_aload_n hx hb dX3_children_98 rfl (lv_at hl 0 rfl) ?_
      refine va_get hx hb hts in_X3 hown hK hP 0 rfl rfl 19 (Nat.le_of_ble_eq_true rfl) (hts _ q1237) (fun _ h => h) (v := .ref (ad 19)) rfl dX3_children_99 ?_
      refine lv_iconst (v := (3 : Int32)) hx hb dX3_children_102 (by decide) ?_
      refine lv_iload hx hb dX3_children_103 (lv_at hl 1 rfl) ?_
      refine lv_imul hx hb dX3_children_105 ?_
      refine va_iald (f := (ar 19)) hx hb hK hP 11 0 rfl rfl h.1 dX3_children_106 ?_
      replace h := h.2
      refine pt_iast (f := (ar 8)) hx hb hK hP hD hS 4 0 rfl rfl h.1 dX3_children_107 wmA_8 (fun H locs hP hD hS => ?_)
      replace h := h.2
      refine lv_aload_n hx hb dX3_children_108 rfl (lv_at hl 0 rfl) ?_
      refine va_get hx hb hts in_X3 hown hK hP 0 rfl rfl 9 (Nat.le_of_ble_eq_true rfl) (hts _ q1227) (fun _ h => h) (v := .ref (ad 9)) rfl dX3_children_109 ?_
      refine lv_aload_n hx hb dX3_children_112 rfl (lv_at hl 0 rfl) ?_
      refine va_get hx hb hts in_X3 hown hK hP 0 rfl rfl 4 (Nat.le_of_ble_eq_true rfl) (hts _ q1222) (fun _ h => h) (v := .int (fd 4)) rfl dX3_children_113 ?_
      refine lv_aload_n hx hb dX3_children_116 rfl (lv_at hl 0 rfl) ?_
      refine va_get hx hb hts in_X3 hown hK hP 0 rfl rfl 19 (Nat.le_of_ble_eq_true rfl) (hts _ q1237) (fun _ h => h) (v := .ref (ad 19)) rfl dX3_children_117 ?_
      refine lv_iconst (v := (3 : Int32)) hx hb dX3_children_120 (by decide) ?_
      refine lv_iload hx hb dX3_children_121 (lv_at hl 1 rfl) ?_
      refine lv_imul hx hb dX3_children_123 ?_
      refine lv_iconst (v := (1 : Int32)) hx hb dX3_children_124 (by decide) ?_
      refine lv_iadd hx hb dX3_children_125 ?_
      refine va_iald (f := (ar 19)) hx hb hK hP 11 0 rfl rfl h.1 dX3_children_126 ?_
      replace h := h.2
      refine pt_iast (f := (ar 9)) hx hb hK hP hD hS 5 0 rfl rfl h.1 dX3_children_127 wmA_9 (fun H locs hP hD hS => ?_)
      replace h := h.2
      refine lv_aload_n hx hb dX3_children_128 rfl (lv_at hl 0 rfl) ?_
      refine va_get hx hb hts in_X3 hown hK hP 0 rfl rfl 10 (Nat.le_of_ble_eq_true rfl) (hts _ q1228) (fun _ h => h) (v := .ref (ad 10)) rfl dX3_children_129 ?_
      refine lv_aload_n hx hb dX3_children_132 rfl (lv_at hl 0 rfl) ?_
      refine va_get hx hb hts in_X3 hown hK hP 0 rfl rfl 4 (Nat.le_of_ble_eq_true rfl) (hts _ q1222) (fun _ h => h) (v := .int (fd 4)) rfl dX3_children_133 ?_
      refine lv_aload_n hx hb dX3_children_136 rfl (lv_at hl 0 rfl) ?_
      refine va_get hx hb hts in_X3 hown hK hP 0 rfl rfl 19 (Nat.le_of_ble_eq_true rfl) (hts _ q1237) (fun _ h => h) (v := .ref (ad 19)) rfl dX3_children_137 ?_
      refine lv_iconst (v := (3 : Int32)) hx hb dX3_children_140 (by decide) ?_
      refine lv_iload hx hb dX3_children_141 (lv_at hl 1 rfl) ?_
      refine lv_imul hx hb dX3_children_143 ?_
      refine lv_iconst (v := (2 : Int32)) hx hb dX3_children_144 (by decide) ?_
      refine lv_iadd hx hb dX3_children_145 ?_
      refine va_iald (f := (ar 19)) hx hb hK hP 11 0 rfl rfl h.1 dX3_children_146 ?_
      replace h := h.2
      refine pt_iast (f := (ar 10)) hx hb hK hP hD hS 6 0 rfl rfl h.1 dX3_children_147 wmA_10 (fun H locs hP hD hS => ?_)
      replace h := h.2
      refine lv_aload_n hx hb dX3_children_148 rfl (lv_at hl 0 rfl) ?_
      refine va_get hx hb hts in_X3 hown hK hP 0 rfl rfl 12 (Nat.le_of_ble_eq_true rfl) (hts _ q1230) (fun _ h => h) (v := .ref (ad 12)) rfl dX3_children_149 ?_
      refine lv_bipush (v := (25 : Int32)) hx hb dX3_children_152 (by decide) ?_
      refine lv_iconst (v := (2 : Int32)) hx hb dX3_children_154 (by decide) ?_
      refine lv_aload_n hx hb dX3_children_155 rfl (lv_at hl 0 rfl) ?_
      refine va_get hx hb hts in_X3 hown hK hP 0 rfl rfl 4 (Nat.le_of_ble_eq_true rfl) (hts _ q1222) (fun _ h => h) (v := .int (fd 4)) rfl dX3_children_156 ?_
      refine lv_imul hx hb dX3_children_159 ?_
      refine lv_iadd hx hb dX3_children_160 ?_
      refine lv_iconst (v := (0 : Int32)) hx hb dX3_children_161 (by decide) ?_
      refine lv_iadd hx hb dX3_children_162 ?_
      refine lv_iconst (v := (-1 : Int32)) hx hb dX3_children_163 (by decide) ?_
      refine pt_iast (f := (ar 12)) hx hb hK hP hD hS 8 0 rfl rfl h.1 dX3_children_164 wmA_12 (fun H locs hP hD hS => ?_)
      replace h := h.2
      refine lv_aload_n hx hb dX3_children_165 rfl (lv_at hl 0 rfl) ?_
      refine va_get hx hb hts in_X3 hown hK hP 0 rfl rfl 12 (Nat.le_of_ble_eq_true rfl) (hts _ q1230) (fun _ h => h) (v := .ref (ad 12)) rfl dX3_children_166 ?_
      refine lv_bipush (v := (25 : Int32)) hx hb dX3_children_169 (by decide) ?_
      refine lv_iconst (v := (2 : Int32)) hx hb dX3_children_171 (by decide) ?_
      refine lv_aload_n hx hb dX3_children_172 rfl (lv_at hl 0 rfl) ?_
      refine va_get hx hb hts in_X3 hown hK hP 0 rfl rfl 4 (Nat.le_of_ble_eq_true rfl) (hts _ q1222) (fun _ h => h) (v := .int (fd 4)) rfl dX3_children_173 ?_
      refine lv_imul hx hb dX3_children_176 ?_
      refine lv_iadd hx hb dX3_children_177 ?_
      refine lv_iconst (v := (1 : Int32)) hx hb dX3_children_178 (by decide) ?_
      refine lv_iadd hx hb dX3_children_179 ?_
      refine lv_iconst (v := (5 : Int32)) hx hb dX3_children_180 (by decide) ?_
      refine pt_iast (f := (upd (ar 12) (((25 : Int32) + ((2 : Int32) * (fd 4))) + (0 : Int32)).toNatClampNeg (-1 : Int32))) hx hb hK hP hD hS 8 0 rfl rfl h.1 dX3_children_181 (wmA_12.trans (wmrA (va_rm0 ..))) (fun H locs hP hD hS => ?_)
      replace h := h.2
      refine lv_aload_n hx hb dX3_children_182 rfl (lv_at hl 0 rfl) ?_
      refine lv_dup hx hb dX3_children_183 rfl ?_
      refine va_get hx hb hts in_X3 hown hK hP 0 rfl rfl 4 (Nat.le_of_ble_eq_true rfl) (hts _ q1222) (fun _ h => h) (v := .int (fd 4)) rfl dX3_children_184 ?_
      refine lv_iconst (v := (1 : Int32)) hx hb dX3_children_187 (by decide) ?_
      refine lv_iadd hx hb dX3_children_188 ?_
      refine pt_put (v := .int ((fd 4) + (1 : Int32))) hx hb hts in_X3 tyX3 tyX3_ok nmX3 hown hK hP hD hS 0 rfl rfl 4 (Nat.le_of_ble_eq_true rfl) (hts _ q1222) (fun _ h => h) rfl (ty := .int) (by decide +kernel) rfl rfl (Nat.le_of_ble_eq_true rfl) dX3_children_189 wmF_4 (fun H locs hP hD hS => ?_)
      refine lv_iinc (v := (v5 + (1 : Int32))) (lv' := [(5, .int (v5 + (1 : Int32))), (0, .ref o)]) hx hb dX3_children_192 hl (k := 1) rfl rfl (by decide) rfl (fun ls hl => ?_)
      refine lv_goto (tgt := 81) hx hb dX3_children_195 (by decide) ?_
      exact ih _ _ _ h _ _ _ hP hD hS (lv_sub hl [1, 0] rfl)
set_option maxHeartbeats 4000000 in
theorem lp_M_children_J1 {p : Program} {l : Launch} {e : Env} {R : Room} {s : State} {m : MethodId} {args : Array Value} {below : List Frame} {meth : Method} {c : Code} {cells slots : Nat} {A : Nat → Prop} {V : evT} {D : va_G} {gI : Nat → ClassId} {o : Nat} {ad : Nat → Nat} {v1 : Int32} {lw : Nat → Int64} {Q : Int32 → (Nat → Int32) → (Nat → Nat → Int32) → Prop} (F : ct_F p m c meth cX3_children 6 s args RX3 (some .int) A V D vwCl (tyL gI)) (hRf : 6 ≤ R.frames) (hRl : 126 ≤ R.locals) (hC : cells ≤ R.cells) (hSl : slots ≤ R.slots) :
    ∀ (v2 : Int32) (t0 : Int32) (fd : Nat → Int32) (ar : Nat → Nat → Int32), wp_M_children_J1 v1 lw Q v2 t0 fd ar → ∀ (H : Heap) (locs : List Loc) (ls : Array Slot), va_P D vwCl (wm gI o ad fd ar lw) H → va_D A (wm gI o ad fd ar lw) → va_S A s.heap H locs → lv_has ls 6 [(0, .ref o), (1, .int v1), (2, .int v2)] → W p l e R s m args below meth c H locs cells slots (MQ below (va_Qi (fun (x : Int32) (u : (Nat → Int32) × (Nat → Nat → Int32)) => Q x u.1 u.2) (fun u t => va_P D vwCl (wm gI o ad u.1 u.2 lw) t.heap ∧ va_K D vwCl (tyL gI) t ∧ va_D A (wm gI o ad u.1 u.2 lw)) A) args s cells slots A) (F0 m 28 ls [.int t0]) := by
  obtain ⟨⟨hx, hb, hml, hown, hts⟩, hr, hlocks, hA, hK, hE⟩ := id F
  intro v2 t0 fd ar h H locs ls hP hD hS hl
  unfold wp_M_children_J1 at h
  refine lv_istore_n (lv' := [(3, .int t0), (0, .ref o), (1, .int v1), (2, .int v2)]) hx hb dX3_children_28 rfl hl (by decide) rfl (fun ls hl => ?_)
  obtain ⟨k29, h⟩ := h
  refine lp_M_children_L2 F hRf hRl hC hSl ?hk60 k29 _ _ _ _ h _ _ _ hP hD hS (lv_sub hl [1, 2, 3, 0] rfl)
  case hk60 =>
    intro v2_11 fd_12 ar_13 h H locs ls hP hD hS hl
    refine lv_aload_n hx hb dX3_children_60 rfl (lv_at hl 0 rfl) ?_
    refine lv_iload_n hx hb dX3_children_61 rfl (lv_at hl 1 rfl) ?_
    refine lv_bipush (v := (47 : Int32)) hx hb dX3_children_62 (by decide) ?_
    refine lv_iload_n hx hb dX3_children_64 rfl (lv_at hl 2 rfl) ?_
    refine cl_i F (va_runV (As := [.int v1, .int (47 : Int32), .int v2_11]) (rest := []) ⟨hx, hb, hml, hown, hts⟩ (ct_M_faultOf h _) (cwV 3 hts (lw_V q1436 q1438 qs43 q97 q1439) rfl rfl rfl (by decide +kernel) ⟨Nat.le_trans (Nat.le_of_ble_eq_true rfl) hRf, Nat.le_trans (Nat.le_of_ble_eq_true rfl) hRl⟩) ⟨ct_blind, va_recv hK hP (ci := 2) (q0 := 0) rfl rfl, ct_at F hS hP hD⟩ rfl rfl hl.1 rfl (lv_room (Nat.le_of_ble_eq_true rfl)) dX3_children_65 ⟨hC, hSl⟩) rfl rfl hD hS ?_
    rintro x14 _ H locs h hP hD hS
    refine lv_istore (lv' := [(4, .int x14), (0, .ref o), (1, .int v1), (2, .int v2_11)]) hx hb dX3_children_68 hl (by decide) rfl (fun ls hl => ?_)
    refine lv_iload hx hb dX3_children_70 (lv_at hl 0 rfl) ?_
    refine lv_if_ge (tgt := 78) hx hb dX3_children_72 (by decide) (fun c19 => ?_) (fun c19 => ?_)
    · replace h := h.1 c19
      refine lv_iconst (v := (0 : Int32)) hx hb dX3_children_78 (by decide) ?_
      refine lv_istore (lv' := [(5, .int (0 : Int32)), (4, .int x14), (0, .ref o), (1, .int v1), (2, .int v2_11)]) hx hb dX3_children_79 hl (by decide) rfl (fun ls hl => ?_)
      obtain ⟨k81, h⟩ := h
      refine lp_M_children_L3 F hRf hRl hC hSl ?hk198 k81 _ _ _ h _ _ _ hP hD hS (lv_sub hl [2, 0] rfl)
      case hk198 =>
        intro fd_16 ar_17 h H locs ls hP hD hS hl
        refine lv_aload_n hx hb dX3_children_198 rfl (lv_at hl 0 rfl) ?_
        refine va_get hx hb hts in_X3 hown hK hP 0 rfl rfl 20 (Nat.le_of_ble_eq_true rfl) (hts _ q1238) (fun _ h => h) (v := .int (fd_16 20)) rfl dX3_children_199 ?_
        refine lv_if_le (tgt := 220) hx hb dX3_children_202 (by decide) (fun c18 => ?_) (fun c18 => ?_)
        · replace h := h.1 c18
          refine lv_aload_n hx hb dX3_children_220 rfl (lv_at hl 0 rfl) ?_
          refine va_get hx hb hts in_X3 hown hK hP 0 rfl rfl 20 (Nat.le_of_ble_eq_true rfl) (hts _ q1238) (fun _ h => h) (v := .int (fd_16 20)) rfl dX3_children_221 ?_
          exact rt_i F dX3_children_224 rfl (fd_16, ar_17) h hP hD hS (Nat.le_refl _) (Nat.le_refl _)
        · replace h := h.2 c18
          refine lv_aload_n hx hb dX3_children_205 rfl (lv_at hl 0 rfl) ?_
          refine lv_iconst (v := (0 : Int32)) hx hb dX3_children_206 (by decide) ?_
          refine pt_put (v := .int (0 : Int32)) hx hb hts in_X3 tyX3 tyX3_ok nmX3 hown hK hP hD hS 0 rfl rfl 27 (Nat.le_of_ble_eq_true rfl) (hts _ q1245) (fun _ h => h) rfl (ty := .int) (by decide +kernel) rfl rfl (Nat.le_of_ble_eq_true rfl) dX3_children_207 wmF_27 (fun H locs hP hD hS => ?_)
          refine lv_aload_n hx hb dX3_children_210 rfl (lv_at hl 0 rfl) ?_
          refine lv_dup hx hb dX3_children_211 rfl ?_
          refine va_get hx hb hts in_X3 hown hK hP 0 rfl rfl 5 (Nat.le_of_ble_eq_true rfl) (hts _ q1223) (fun _ h => h) (v := .int (fd_16 5)) rfl dX3_children_212 ?_
          refine lv_iconst (v := (1 : Int32)) hx hb dX3_children_215 (by decide) ?_
          refine lv_iadd hx hb dX3_children_216 ?_
          refine pt_put (v := .int ((fd_16 5) + (1 : Int32))) hx hb hts in_X3 tyX3 tyX3_ok nmX3 hown hK hP hD hS 0 rfl rfl 5 (Nat.le_of_ble_eq_true rfl) (hts _ q1223) (fun _ h => h) rfl (ty := .int) (by decide +kernel) rfl rfl (Nat.le_of_ble_eq_true rfl) dX3_children_217 wmF_5 (fun H locs hP hD hS => ?_)
          refine lv_aload_n hx hb dX3_children_220 rfl (lv_at hl 0 rfl) ?_
          refine va_get hx hb hts in_X3 hown hK hP 0 rfl rfl 20 (Nat.le_of_ble_eq_true rfl) (hts _ q1238) (fun _ h => h) (v := .int (fd_16 20)) rfl dX3_children_221 ?_
          exact rt_i F dX3_children_224 rfl ((upd (upd fd_16 27 (0 : Int32)) 5 ((fd_16 5) + (1 : Int32))), ar_17) h hP hD hS (Nat.le_refl _) (Nat.le_refl _)
    · replace h := h.2 c19
      refine lv_iload hx hb dX3_children_75 (lv_at hl 0 rfl) ?_
      exact rt_i F dX3_children_77 rfl (fd_12, ar_13) h hP hD hS (Nat.le_refl _) (Nat.le_refl _)
set_option maxHeartbeats 4000000 in
theorem ct_M_children {l : Launch} {V : evT} {D : va_G} {gI : Nat → ClassId} {o : Nat} {ad : Nat → Nat} {fd : Nat → Int32} {ar : Nat → Nat → Int32} {lw : Nat → Int64} {Q : Int32 → (Nat → Int32) → (Nat → Nat → Int32) → Prop} (h : wp_M_children fd ar lw Q) : ct_i l V D vwCl (tyL gI) yX3_children cX3_children 6 .int { frames := 6, cells := 0, slots := 0, locals := 126 } [.ref o] (wm gI o ad fd ar lw) (fun u : (Nat → Int32) × (Nat → Nat → Int32) => (wm gI o ad u.1 u.2 lw)) (fun (x : Int32) (u : (Nat → Int32) × (Nat → Nat → Int32)) => Q x u.1 u.2) := by
  refine ct_ofi RX3 rfl (by decide +kernel) (Nat.le_of_ble_eq_true rfl) ?_
  intro p e s m args below meth c A F hP hD ls hl
  obtain ⟨⟨hx, hb, hml, hown, hts⟩, hr, hlocks, hA, hK, hE⟩ := id F
  have hS : va_S A s.heap s.heap [] := va_S.rf
  have hl : lv_has ls 6 [(0, .ref o)] := hl
  have hRf : 6 ≤ ({ frames := 6, cells := 0, slots := 0, locals := 126 } : Room).frames := Nat.le_refl _
  have hRl : 126 ≤ ({ frames := 6, cells := 0, slots := 0, locals := 126 } : Room).locals := Nat.le_refl _
  have hC : 0 ≤ ({ frames := 6, cells := 0, slots := 0, locals := 126 } : Room).cells := Nat.le_refl _
  have hSl : 0 ≤ ({ frames := 6, cells := 0, slots := 0, locals := 126 } : Room).slots := Nat.le_refl _
  unfold wp_M_children at h
  refine lv_aload_n hx hb dX3_children_0 rfl (lv_at hl 0 rfl) ?_
  refine lv_iconst (v := (0 : Int32)) hx hb dX3_children_1 (by decide) ?_
  refine pt_put (v := .int (0 : Int32)) hx hb hts in_X3 tyX3 tyX3_ok nmX3 hown hK hP hD hS 0 rfl rfl 0 (Nat.le_of_ble_eq_true rfl) (hts _ q1218) (fun _ h => h) rfl (ty := .int) (by decide +kernel) rfl rfl (Nat.le_of_ble_eq_true rfl) dX3_children_2 wmF_0 (fun H locs hP hD hS => ?_)
  refine lv_aload_n hx hb dX3_children_5 rfl (lv_at hl 0 rfl) ?_
  refine lv_bipush (v := (47 : Int32)) hx hb dX3_children_6 (by decide) ?_
  refine cl_i F (va_runV (As := [.int (47 : Int32)]) (rest := []) ⟨hx, hb, hml, hown, hts⟩ (ct_M_begins h _) (cwV 1 hts (lw_V q1398 q1400 qs36 q97 q1401) rfl rfl rfl (by decide +kernel) ⟨Nat.le_trans (Nat.le_of_ble_eq_true rfl) hRf, Nat.le_trans (Nat.le_of_ble_eq_true rfl) hRl⟩) ⟨ct_blind, va_recv hK hP (ci := 2) (q0 := 0) rfl rfl, ct_at F hS hP hD⟩ rfl rfl hl.1 rfl (lv_room (Nat.le_of_ble_eq_true rfl)) dX3_children_8 ⟨hC, hSl⟩) rfl rfl hD hS ?_
  rintro x1 fd2 H locs h hP hD hS
  refine lv_istore_n (lv' := [(1, .int x1), (0, .ref o)]) hx hb dX3_children_11 rfl hl (by decide) rfl (fun ls hl => ?_)
  refine lv_aload_n hx hb dX3_children_12 rfl (lv_at hl 1 rfl) ?_
  refine lv_iconst (v := (0 : Int32)) hx hb dX3_children_13 (by decide) ?_
  refine pt_put (v := .int (0 : Int32)) hx hb hts in_X3 tyX3 tyX3_ok nmX3 hown hK hP hD hS 0 rfl rfl 20 (Nat.le_of_ble_eq_true rfl) (hts _ q1238) (fun _ h => h) rfl (ty := .int) (by decide +kernel) rfl rfl (Nat.le_of_ble_eq_true rfl) dX3_children_14 wmF_20 (fun H locs hP hD hS => ?_)
  refine lv_iconst (v := (1 : Int32)) hx hb dX3_children_17 (by decide) ?_
  refine lv_istore_n (lv' := [(2, .int (1 : Int32)), (1, .int x1), (0, .ref o)]) hx hb dX3_children_18 rfl hl (by decide) rfl (fun ls hl => ?_)
  refine lv_iload_n hx hb dX3_children_19 rfl (lv_at hl 1 rfl) ?_
  refine lv_if_le (tgt := 27) hx hb dX3_children_20 (by decide) (fun c20 => ?_) (fun c20 => ?_)
  · replace h := h.1 c20
    refine lv_iconst (v := (0 : Int32)) hx hb dX3_children_27 (by decide) ?_
    refine lp_M_children_J1 F hRf hRl hC hSl  _ _ _ _ h _ _ _ hP hD hS (lv_sub hl [2, 1, 0] rfl)
  · replace h := h.2 c20
    refine lv_iconst (v := (1 : Int32)) hx hb dX3_children_23 (by decide) ?_
    refine lv_goto (tgt := 28) hx hb dX3_children_24 (by decide) ?_
    refine lp_M_children_J1 F hRf hRl hC hSl  _ _ _ _ h _ _ _ hP hD hS (lv_sub hl [2, 1, 0] rfl)
set_option maxHeartbeats 4000000 in
theorem lp_M_builds_L1_i12 {p : Program} {l : Launch} {e : Env} {R : Room} {s : State} {m : MethodId} {args : Array Value} {below : List Frame} {meth : Method} {c : Code} {cells slots : Nat} {A : Nat → Prop} {Qf : State → Prop} {V : evT} {D : va_G} {gI : Nat → ClassId} {o : Nat} {ad : Nat → Nat} {v2 : Int32} {lw : Nat → Int64} {K18 : (Nat → Int32) → (Nat → Nat → Int32) → Prop} (F : ct_F p m c meth cX3_builds 4 s args RX3 none A V D vwCl (tyL gI)) (hRf : 6 ≤ R.frames) (hRl : 126 ≤ R.locals) (hC : cells ≤ R.cells) (hSl : slots ≤ R.slots)
    (hK18 : ∀ (fd : Nat → Int32) (ar : Nat → Nat → Int32), K18 fd ar → ∀ (H : Heap) (locs : List Loc) (ls : Array Slot), va_P D vwCl (wm gI o ad fd ar lw) H → va_D A (wm gI o ad fd ar lw) → va_S A s.heap H locs → lv_has ls 4 [] → W p l e R s m args below meth c H locs cells slots Qf (F0 m 18 ls [])) :
    ∀ (n : Nat) (v3 : Int32) (fd : Nat → Int32) (ar : Nat → Nat → Int32), wp_M_builds_L1 12 v2 lw K18 n v3 fd ar → ∀ (H : Heap) (locs : List Loc) (ls : Array Slot), va_P D vwCl (wm gI o ad fd ar lw) H → va_D A (wm gI o ad fd ar lw) → va_S A s.heap H locs → lv_has ls 4 [(0, .ref o), (1, .ref (ad 12)), (2, .int v2), (3, .int v3)] → W p l e R s m args below meth c H locs cells slots Qf (F0 m 2 ls []) := by
  obtain ⟨⟨hx, hb, hml, hown, hts⟩, hr, hlocks, hA, hK, hE⟩ := id F
  intro n
  induction n with
  | zero => intro v3 fd ar h; exact h.elim
  | succ n ih =>
    intro v3 fd ar h H locs ls hP hD hS hl
    unfold wp_M_builds_L1 at h
    refine lv_iload_n hx hb dX3_builds_2 rfl (lv_at hl 3 rfl) ?_
    refine lv_iload_n hx hb dX3_builds_3 rfl (lv_at hl 2 rfl) ?_
    refine lv_icmp_ge (tgt := 18) hx hb dX3_builds_4 (by decide) (fun c3 => ?_) (fun c3 => ?_)
    · replace h := h.1 c3
      exact hK18 _ _ h _ _ _ hP hD hS (lv_sub hl [] rfl)
    · replace h := h.2 c3
      refine lv_aload_n hx hb dX3_builds_7 rfl (lv_at hl 0 rfl) ?_
      refine lv_aload_n hx hb dX3_builds_8 rfl (lv_at hl 1 rfl) ?_
      refine cl_v F (va_runV (As := [.ref (ad 12)]) (rest := []) ⟨hx, hb, hml, hown, hts⟩ (ct_M_spellGoes_i12 h _) (cwV 1 hts (lw_V q1630 q1632 qs69 q97 q1633) rfl rfl rfl (by decide +kernel) ⟨Nat.le_trans (Nat.le_of_ble_eq_true rfl) hRf, Nat.le_trans (Nat.le_of_ble_eq_true rfl) hRl⟩) ⟨ct_blind, va_recv hK hP (ci := 2) (q0 := 0) rfl rfl, ct_at F hS hP hD⟩ rfl rfl hl.1 rfl (lv_room (Nat.le_of_ble_eq_true rfl)) dX3_builds_9 ⟨hC, hSl⟩) rfl rfl hD hS ?_
      rintro ⟨fd1, ar2⟩ H locs h hP hD hS
      refine lv_iinc (v := (v3 + (1 : Int32))) (lv' := [(3, .int (v3 + (1 : Int32))), (0, .ref o), (1, .ref (ad 12)), (2, .int v2)]) hx hb dX3_builds_12 hl (k := 3) rfl rfl (by decide) rfl (fun ls hl => ?_)
      refine lv_goto (tgt := 2) hx hb dX3_builds_15 (by decide) ?_
      exact ih _ _ _ h _ _ _ hP hD hS (lv_sub hl [1, 2, 3, 0] rfl)
set_option maxHeartbeats 4000000 in
theorem ct_M_builds_i12 {l : Launch} {V : evT} {D : va_G} {gI : Nat → ClassId} {o : Nat} {ad : Nat → Nat} {v2 : Int32} {fd : Nat → Int32} {ar : Nat → Nat → Int32} {lw : Nat → Int64} {Q : (Nat → Int32) → (Nat → Nat → Int32) → Prop} (h : wp_M_builds 12 v2 fd ar lw Q) : ct_v l V D vwCl (tyL gI) yX3_builds cX3_builds 4 { frames := 6, cells := 0, slots := 0, locals := 126 } [.ref o, .ref (ad 12), .int v2] (wm gI o ad fd ar lw) (fun u : (Nat → Int32) × (Nat → Nat → Int32) => (wm gI o ad u.1 u.2 lw)) (fun (u : (Nat → Int32) × (Nat → Nat → Int32)) => Q u.1 u.2) := by
  refine ct_ofv RX3 rfl (by decide +kernel) (Nat.le_of_ble_eq_true rfl) ?_
  intro p e s m args below meth c A F _ hP hD ls hl
  obtain ⟨⟨hx, hb, hml, hown, hts⟩, hr, hlocks, hA, hK, hE⟩ := id F
  have hS : va_S A s.heap s.heap [] := va_S.rf
  have hl : lv_has ls 4 [(0, .ref o), (1, .ref (ad 12)), (2, .int v2)] := hl
  have hRf : 6 ≤ ({ frames := 6, cells := 0, slots := 0, locals := 126 } : Room).frames := Nat.le_refl _
  have hRl : 126 ≤ ({ frames := 6, cells := 0, slots := 0, locals := 126 } : Room).locals := Nat.le_refl _
  have hC : 0 ≤ ({ frames := 6, cells := 0, slots := 0, locals := 126 } : Room).cells := Nat.le_refl _
  have hSl : 0 ≤ ({ frames := 6, cells := 0, slots := 0, locals := 126 } : Room).slots := Nat.le_refl _
  unfold wp_M_builds at h
  refine lv_iconst (v := (0 : Int32)) hx hb dX3_builds_0 (by decide) ?_
  refine lv_istore_n (lv' := [(3, .int (0 : Int32)), (0, .ref o), (1, .ref (ad 12)), (2, .int v2)]) hx hb dX3_builds_1 rfl hl (by decide) rfl (fun ls hl => ?_)
  obtain ⟨k2, h⟩ := h
  refine lp_M_builds_L1_i12 F hRf hRl hC hSl ?hk18 k2 _ _ _ h _ _ _ hP hD hS (lv_sub hl [1, 2, 3, 0] rfl)
  case hk18 =>
    intro fd_4 ar_5 h H locs ls hP hD hS hl
    exact rt_v F dX3_builds_18 (fd_4, ar_5) h hP hD hS (Nat.le_refl _) (Nat.le_refl _)
set_option maxHeartbeats 4000000 in
theorem lp_M_builds_L1_i13 {p : Program} {l : Launch} {e : Env} {R : Room} {s : State} {m : MethodId} {args : Array Value} {below : List Frame} {meth : Method} {c : Code} {cells slots : Nat} {A : Nat → Prop} {Qf : State → Prop} {V : evT} {D : va_G} {gI : Nat → ClassId} {o : Nat} {ad : Nat → Nat} {v2 : Int32} {lw : Nat → Int64} {K18 : (Nat → Int32) → (Nat → Nat → Int32) → Prop} (F : ct_F p m c meth cX3_builds 4 s args RX3 none A V D vwCl (tyL gI)) (hRf : 6 ≤ R.frames) (hRl : 126 ≤ R.locals) (hC : cells ≤ R.cells) (hSl : slots ≤ R.slots)
    (hK18 : ∀ (fd : Nat → Int32) (ar : Nat → Nat → Int32), K18 fd ar → ∀ (H : Heap) (locs : List Loc) (ls : Array Slot), va_P D vwCl (wm gI o ad fd ar lw) H → va_D A (wm gI o ad fd ar lw) → va_S A s.heap H locs → lv_has ls 4 [] → W p l e R s m args below meth c H locs cells slots Qf (F0 m 18 ls [])) :
    ∀ (n : Nat) (v3 : Int32) (fd : Nat → Int32) (ar : Nat → Nat → Int32), wp_M_builds_L1 13 v2 lw K18 n v3 fd ar → ∀ (H : Heap) (locs : List Loc) (ls : Array Slot), va_P D vwCl (wm gI o ad fd ar lw) H → va_D A (wm gI o ad fd ar lw) → va_S A s.heap H locs → lv_has ls 4 [(0, .ref o), (1, .ref (ad 13)), (2, .int v2), (3, .int v3)] → W p l e R s m args below meth c H locs cells slots Qf (F0 m 2 ls []) := by
  obtain ⟨⟨hx, hb, hml, hown, hts⟩, hr, hlocks, hA, hK, hE⟩ := id F
  intro n
  induction n with
  | zero => intro v3 fd ar h; exact h.elim
  | succ n ih =>
    intro v3 fd ar h H locs ls hP hD hS hl
    unfold wp_M_builds_L1 at h
    refine lv_iload_n hx hb dX3_builds_2 rfl (lv_at hl 3 rfl) ?_
    refine lv_iload_n hx hb dX3_builds_3 rfl (lv_at hl 2 rfl) ?_
    refine lv_icmp_ge (tgt := 18) hx hb dX3_builds_4 (by decide) (fun c3 => ?_) (fun c3 => ?_)
    · replace h := h.1 c3
      exact hK18 _ _ h _ _ _ hP hD hS (lv_sub hl [] rfl)
    · replace h := h.2 c3
      refine lv_aload_n hx hb dX3_builds_7 rfl (lv_at hl 0 rfl) ?_
      refine lv_aload_n hx hb dX3_builds_8 rfl (lv_at hl 1 rfl) ?_
      refine cl_v F (va_runV (As := [.ref (ad 13)]) (rest := []) ⟨hx, hb, hml, hown, hts⟩ (ct_M_spellGoes_i13 h _) (cwV 1 hts (lw_V q1630 q1632 qs69 q97 q1633) rfl rfl rfl (by decide +kernel) ⟨Nat.le_trans (Nat.le_of_ble_eq_true rfl) hRf, Nat.le_trans (Nat.le_of_ble_eq_true rfl) hRl⟩) ⟨ct_blind, va_recv hK hP (ci := 2) (q0 := 0) rfl rfl, ct_at F hS hP hD⟩ rfl rfl hl.1 rfl (lv_room (Nat.le_of_ble_eq_true rfl)) dX3_builds_9 ⟨hC, hSl⟩) rfl rfl hD hS ?_
      rintro ⟨fd1, ar2⟩ H locs h hP hD hS
      refine lv_iinc (v := (v3 + (1 : Int32))) (lv' := [(3, .int (v3 + (1 : Int32))), (0, .ref o), (1, .ref (ad 13)), (2, .int v2)]) hx hb dX3_builds_12 hl (k := 3) rfl rfl (by decide) rfl (fun ls hl => ?_)
      refine lv_goto (tgt := 2) hx hb dX3_builds_15 (by decide) ?_
      exact ih _ _ _ h _ _ _ hP hD hS (lv_sub hl [1, 2, 3, 0] rfl)
set_option maxHeartbeats 4000000 in
theorem ct_M_builds_i13 {l : Launch} {V : evT} {D : va_G} {gI : Nat → ClassId} {o : Nat} {ad : Nat → Nat} {v2 : Int32} {fd : Nat → Int32} {ar : Nat → Nat → Int32} {lw : Nat → Int64} {Q : (Nat → Int32) → (Nat → Nat → Int32) → Prop} (h : wp_M_builds 13 v2 fd ar lw Q) : ct_v l V D vwCl (tyL gI) yX3_builds cX3_builds 4 { frames := 6, cells := 0, slots := 0, locals := 126 } [.ref o, .ref (ad 13), .int v2] (wm gI o ad fd ar lw) (fun u : (Nat → Int32) × (Nat → Nat → Int32) => (wm gI o ad u.1 u.2 lw)) (fun (u : (Nat → Int32) × (Nat → Nat → Int32)) => Q u.1 u.2) := by
  refine ct_ofv RX3 rfl (by decide +kernel) (Nat.le_of_ble_eq_true rfl) ?_
  intro p e s m args below meth c A F _ hP hD ls hl
  obtain ⟨⟨hx, hb, hml, hown, hts⟩, hr, hlocks, hA, hK, hE⟩ := id F
  have hS : va_S A s.heap s.heap [] := va_S.rf
  have hl : lv_has ls 4 [(0, .ref o), (1, .ref (ad 13)), (2, .int v2)] := hl
  have hRf : 6 ≤ ({ frames := 6, cells := 0, slots := 0, locals := 126 } : Room).frames := Nat.le_refl _
  have hRl : 126 ≤ ({ frames := 6, cells := 0, slots := 0, locals := 126 } : Room).locals := Nat.le_refl _
  have hC : 0 ≤ ({ frames := 6, cells := 0, slots := 0, locals := 126 } : Room).cells := Nat.le_refl _
  have hSl : 0 ≤ ({ frames := 6, cells := 0, slots := 0, locals := 126 } : Room).slots := Nat.le_refl _
  unfold wp_M_builds at h
  refine lv_iconst (v := (0 : Int32)) hx hb dX3_builds_0 (by decide) ?_
  refine lv_istore_n (lv' := [(3, .int (0 : Int32)), (0, .ref o), (1, .ref (ad 13)), (2, .int v2)]) hx hb dX3_builds_1 rfl hl (by decide) rfl (fun ls hl => ?_)
  obtain ⟨k2, h⟩ := h
  refine lp_M_builds_L1_i13 F hRf hRl hC hSl ?hk18 k2 _ _ _ h _ _ _ hP hD hS (lv_sub hl [1, 2, 3, 0] rfl)
  case hk18 =>
    intro fd_4 ar_5 h H locs ls hP hD hS hl
    exact rt_v F dX3_builds_18 (fd_4, ar_5) h hP hD hS (Nat.le_refl _) (Nat.le_refl _)
set_option maxHeartbeats 4000000 in
theorem ct_M_tide {l : Launch} {V : evT} {D : va_G} {gI : Nat → ClassId} {o : Nat} {ad : Nat → Nat} {fd : Nat → Int32} {ar : Nat → Nat → Int32} {lw : Nat → Int64} {Q : Int32 → (Nat → Int32) → (Nat → Nat → Int32) → (Nat → Int64) → Prop} (h : wp_M_tide fd ar lw Q) : ct_i l V D vwCl (tyL gI) yX3_tide cX3_tide 3 .int { frames := 6, cells := 0, slots := 0, locals := 123 } [.ref o] (wm gI o ad fd ar lw) (fun u : (Nat → Int32) × (Nat → Nat → Int32) × (Nat → Int64) => (wm gI o ad u.1 u.2.1 u.2.2)) (fun (x : Int32) (u : (Nat → Int32) × (Nat → Nat → Int32) × (Nat → Int64)) => Q x u.1 u.2.1 u.2.2) := by
  refine ct_ofi RX3 rfl (by decide +kernel) (Nat.le_of_ble_eq_true rfl) ?_
  intro p e s m args below meth c A F hP hD ls hl
  obtain ⟨⟨hx, hb, hml, hown, hts⟩, hr, hlocks, hA, hK, hE⟩ := id F
  have hS : va_S A s.heap s.heap [] := va_S.rf
  have hl : lv_has ls 3 [(0, .ref o)] := hl
  have hRf : 6 ≤ ({ frames := 6, cells := 0, slots := 0, locals := 123 } : Room).frames := Nat.le_refl _
  have hRl : 123 ≤ ({ frames := 6, cells := 0, slots := 0, locals := 123 } : Room).locals := Nat.le_refl _
  have hC : 0 ≤ ({ frames := 6, cells := 0, slots := 0, locals := 123 } : Room).cells := Nat.le_refl _
  have hSl : 0 ≤ ({ frames := 6, cells := 0, slots := 0, locals := 123 } : Room).slots := Nat.le_refl _
  unfold wp_M_tide at h
  refine lv_aload_n hx hb dX3_tide_0 rfl (lv_at hl 0 rfl) ?_
  refine lv_iconst (v := (0 : Int32)) hx hb dX3_tide_1 (by decide) ?_
  refine pt_put (v := .int (0 : Int32)) hx hb hts in_X3 tyX3 tyX3_ok nmX3 hown hK hP hD hS 0 rfl rfl 0 (Nat.le_of_ble_eq_true rfl) (hts _ q1218) (fun _ h => h) rfl (ty := .int) (by decide +kernel) rfl rfl (Nat.le_of_ble_eq_true rfl) dX3_tide_2 wmF_0 (fun H locs hP hD hS => ?_)
  refine lv_aload_n hx hb dX3_tide_5 rfl (lv_at hl 0 rfl) ?_
  refine cl_v F (va_runV (As := []) (rest := []) ⟨hx, hb, hml, hown, hts⟩ (ct_M_putsBy h _) (cwV 0 hts (lw_V q1569 q1571 qs59 q97 q1572) rfl rfl rfl (by decide +kernel) ⟨Nat.le_trans (Nat.le_of_ble_eq_true rfl) hRf, Nat.le_trans (Nat.le_of_ble_eq_true rfl) hRl⟩) ⟨ct_blind, va_recv hK hP (ci := 2) (q0 := 0) rfl rfl, ct_at F hS hP hD⟩ rfl rfl hl.1 rfl (lv_room (Nat.le_of_ble_eq_true rfl)) dX3_tide_6 ⟨hC, hSl⟩) rfl rfl hD hS ?_
  rintro ar1 H locs h hP hD hS
  refine lv_aload_n hx hb dX3_tide_9 rfl (lv_at hl 0 rfl) ?_
  refine lv_aload_n hx hb dX3_tide_10 rfl (lv_at hl 0 rfl) ?_
  refine va_get hx hb hts in_X3 hown hK hP 0 rfl rfl 12 (Nat.le_of_ble_eq_true rfl) (hts _ q1230) (fun _ h => h) (v := .ref (ad 12)) rfl dX3_tide_11 ?_
  refine cl_i F (va_runV (As := [.ref (ad 12)]) (rest := []) ⟨hx, hb, hml, hown, hts⟩ (ct_M_deepAll_i12 h _) (cwV 1 hts (lw_V q1642 q1644 qs71 q97 q1645) rfl rfl rfl (by decide +kernel) ⟨Nat.le_trans (Nat.le_of_ble_eq_true rfl) hRf, Nat.le_trans (Nat.le_of_ble_eq_true rfl) hRl⟩) ⟨ct_blind, va_recv hK hP (ci := 2) (q0 := 0) rfl rfl, ct_at F hS hP hD⟩ rfl rfl hl.1 rfl (lv_room (Nat.le_of_ble_eq_true rfl)) dX3_tide_14 ⟨hC, hSl⟩) rfl rfl hD hS ?_
  rintro x2 _ H locs h hP hD hS
  refine lv_istore_n (lv' := [(1, .int x2), (0, .ref o)]) hx hb dX3_tide_17 rfl hl (by decide) rfl (fun ls hl => ?_)
  refine lv_aload_n hx hb dX3_tide_18 rfl (lv_at hl 1 rfl) ?_
  refine lv_aload_n hx hb dX3_tide_19 rfl (lv_at hl 1 rfl) ?_
  refine va_get hx hb hts in_X3 hown hK hP 0 rfl rfl 12 (Nat.le_of_ble_eq_true rfl) (hts _ q1230) (fun _ h => h) (v := .ref (ad 12)) rfl dX3_tide_20 ?_
  refine cl_i F (va_runV (As := [.ref (ad 12)]) (rest := []) ⟨hx, hb, hml, hown, hts⟩ (ct_M_tideComes_i12 h _) (cwV 1 hts (lw_V q1646 q1648 qs72 q97 q1649) rfl rfl rfl (by decide +kernel) ⟨Nat.le_trans (Nat.le_of_ble_eq_true rfl) hRf, Nat.le_trans (Nat.le_of_ble_eq_true rfl) hRl⟩) ⟨ct_blind, va_recv hK hP (ci := 2) (q0 := 0) rfl rfl, ct_at F hS hP hD⟩ rfl rfl hl.1 rfl (lv_room (Nat.le_of_ble_eq_true rfl)) dX3_tide_23 ⟨hC, hSl⟩) rfl rfl hD hS ?_
  rintro x3 ⟨fd4, ar5⟩ H locs h hP hD hS
  refine lv_istore_n (lv' := [(2, .int x3), (1, .int x2), (0, .ref o)]) hx hb dX3_tide_26 rfl hl (by decide) rfl (fun ls hl => ?_)
  refine lv_aload_n hx hb dX3_tide_27 rfl (lv_at hl 2 rfl) ?_
  refine lv_iconst (v := (0 : Int32)) hx hb dX3_tide_28 (by decide) ?_
  refine pt_put (v := .int (0 : Int32)) hx hb hts in_X3 tyX3 tyX3_ok nmX3 hown hK hP hD hS 0 rfl rfl 1 (Nat.le_of_ble_eq_true rfl) (hts _ q1219) (fun _ h => h) rfl (ty := .int) (by decide +kernel) rfl rfl (Nat.le_of_ble_eq_true rfl) dX3_tide_29 wmF_1 (fun H locs hP hD hS => ?_)
  refine lv_aload_n hx hb dX3_tide_32 rfl (lv_at hl 2 rfl) ?_
  refine lv_aload_n hx hb dX3_tide_33 rfl (lv_at hl 2 rfl) ?_
  refine va_get hx hb hts in_X3 hown hK hP 0 rfl rfl 31 (Nat.le_of_ble_eq_true rfl) (hts _ q1249) (fun _ h => h) (v := .int (fd4 31)) rfl dX3_tide_34 ?_
  refine lv_i2l (v := ((fd4 31).toInt64)) hx hb dX3_tide_37 rfl ?_
  refine cl_v F (va_runV (As := [.long ((fd4 31).toInt64)]) (rest := []) ⟨hx, hb, hml, hown, hts⟩ (ct_M_enters h _) (cwV 1 hts (lw_V q1634 q1636 qs70 q97 q1637) rfl rfl rfl (by decide +kernel) ⟨Nat.le_trans (Nat.le_of_ble_eq_true rfl) hRf, Nat.le_trans (Nat.le_of_ble_eq_true rfl) hRl⟩) ⟨ct_blind, va_recv hK hP (ci := 2) (q0 := 0) rfl rfl, ct_at F hS hP hD⟩ rfl rfl hl.1 rfl (lv_room (Nat.le_of_ble_eq_true rfl)) dX3_tide_38 ⟨hC, hSl⟩) rfl rfl hD hS ?_
  rintro ⟨fd6, lw7⟩ H locs h hP hD hS
  refine lv_aload_n hx hb dX3_tide_41 rfl (lv_at hl 2 rfl) ?_
  refine lv_aload_n hx hb dX3_tide_42 rfl (lv_at hl 2 rfl) ?_
  refine lv_aload_n hx hb dX3_tide_43 rfl (lv_at hl 2 rfl) ?_
  refine va_get hx hb hts in_X3 hown hK hP 0 rfl rfl 12 (Nat.le_of_ble_eq_true rfl) (hts _ q1230) (fun _ h => h) (v := .ref (ad 12)) rfl dX3_tide_44 ?_
  refine cl_i F (va_runV (As := [.ref (ad 12)]) (rest := [.ref o]) ⟨hx, hb, hml, hown, hts⟩ (ct_M_deepAll_i12 h _) (cwV 1 hts (lw_V q1642 q1644 qs71 q97 q1645) rfl rfl rfl (by decide +kernel) ⟨Nat.le_trans (Nat.le_of_ble_eq_true rfl) hRf, Nat.le_trans (Nat.le_of_ble_eq_true rfl) hRl⟩) ⟨ct_blind, va_recv hK hP (ci := 2) (q0 := 0) rfl rfl, ct_at F hS hP hD⟩ rfl rfl hl.1 rfl (lv_room (Nat.le_of_ble_eq_true rfl)) dX3_tide_47 ⟨hC, hSl⟩) rfl rfl hD hS ?_
  rintro x8 _ H locs h hP hD hS
  refine lv_iload_n hx hb dX3_tide_50 rfl (lv_at hl 1 rfl) ?_
  refine lv_isub hx hb dX3_tide_51 ?_
  refine lv_i2l (v := ((x8 - x2).toInt64)) hx hb dX3_tide_52 rfl ?_
  refine cl_v F (va_runV (As := [.long ((x8 - x2).toInt64)]) (rest := []) ⟨hx, hb, hml, hown, hts⟩ (ct_M_enters h _) (cwV 1 hts (lw_V q1634 q1636 qs70 q97 q1637) rfl rfl rfl (by decide +kernel) ⟨Nat.le_trans (Nat.le_of_ble_eq_true rfl) hRf, Nat.le_trans (Nat.le_of_ble_eq_true rfl) hRl⟩) ⟨ct_blind, va_recv hK hP (ci := 2) (q0 := 0) rfl rfl, ct_at F hS hP hD⟩ rfl rfl hl.1 rfl (lv_room (Nat.le_of_ble_eq_true rfl)) dX3_tide_53 ⟨hC, hSl⟩) rfl rfl hD hS ?_
  rintro ⟨fd9, lw10⟩ H locs h hP hD hS
  refine lv_aload_n hx hb dX3_tide_56 rfl (lv_at hl 2 rfl) ?_
  refine lv_iload_n hx hb dX3_tide_57 rfl (lv_at hl 0 rfl) ?_
  refine cl_i F (va_runV (As := [.int x3]) (rest := []) ⟨hx, hb, hml, hown, hts⟩ (ct_M_adds h _) (cwV 1 hts (lw_V q1581 q1583 qs62 q97 q1584) rfl rfl rfl (by decide +kernel) ⟨Nat.le_trans (Nat.le_of_ble_eq_true rfl) hRf, Nat.le_trans (Nat.le_of_ble_eq_true rfl) hRl⟩) ⟨ct_blind, va_recv hK hP (ci := 2) (q0 := 0) rfl rfl, ct_at F hS hP hD⟩ rfl rfl hl.1 rfl (lv_room (Nat.le_of_ble_eq_true rfl)) dX3_tide_58 ⟨hC, hSl⟩) rfl rfl hD hS ?_
  rintro x11 ⟨fd12, ar13⟩ H locs h hP hD hS
  exact rt_i F dX3_tide_61 rfl (fd12, ar13, lw10) h hP hD hS (Nat.le_refl _) (Nat.le_refl _)
set_option maxHeartbeats 4000000 in
theorem lp_M_breaksIn_L1 {p : Program} {l : Launch} {e : Env} {R : Room} {s : State} {m : MethodId} {args : Array Value} {below : List Frame} {meth : Method} {c : Code} {cells slots : Nat} {A : Nat → Prop} {Qf : State → Prop} {V : evT} {D : va_G} {gI : Nat → ClassId} {o : Nat} {ad : Nat → Nat} {lw : Nat → Int64} {K35 : (Nat → Int32) → (Nat → Nat → Int32) → Prop} {K27 : (Int32) → (Nat → Int32) → (Nat → Nat → Int32) → Prop} (F : ct_F p m c meth cX3_breaksIn 2 s args RX3 (some .int) A V D vwCl (tyL gI)) (hRf : 6 ≤ R.frames) (hRl : 123 ≤ R.locals) (hC : cells ≤ R.cells) (hSl : slots ≤ R.slots)
    (hK35 : ∀ (fd : Nat → Int32) (ar : Nat → Nat → Int32), K35 fd ar → ∀ (H : Heap) (locs : List Loc) (ls : Array Slot), va_P D vwCl (wm gI o ad fd ar lw) H → va_D A (wm gI o ad fd ar lw) → va_S A s.heap H locs → lv_has ls 2 [] → W p l e R s m args below meth c H locs cells slots Qf (F0 m 35 ls []))
    (hK27 : ∀ (v1 : Int32) (fd : Nat → Int32) (ar : Nat → Nat → Int32), K27 v1 fd ar → ∀ (H : Heap) (locs : List Loc) (ls : Array Slot), va_P D vwCl (wm gI o ad fd ar lw) H → va_D A (wm gI o ad fd ar lw) → va_S A s.heap H locs → lv_has ls 2 [(1, .int v1)] → W p l e R s m args below meth c H locs cells slots Qf (F0 m 27 ls [])) :
    ∀ (n : Nat) (v1 : Int32) (fd : Nat → Int32) (ar : Nat → Nat → Int32), wp_M_breaksIn_L1 lw K35 K27 n v1 fd ar → ∀ (H : Heap) (locs : List Loc) (ls : Array Slot), va_P D vwCl (wm gI o ad fd ar lw) H → va_D A (wm gI o ad fd ar lw) → va_S A s.heap H locs → lv_has ls 2 [(0, .ref o), (1, .int v1)] → W p l e R s m args below meth c H locs cells slots Qf (F0 m 2 ls []) := by
  obtain ⟨⟨hx, hb, hml, hown, hts⟩, hr, hlocks, hA, hK, hE⟩ := id F
  intro n
  induction n with
  | zero => intro v1 fd ar h; exact h.elim
  | succ n ih =>
    intro v1 fd ar h H locs ls hP hD hS hl
    unfold wp_M_breaksIn_L1 at h
    refine lv_iload_n hx hb dX3_breaksIn_2 rfl (lv_at hl 1 rfl) ?_
    refine lv_bipush (v := (99 : Int32)) hx hb dX3_breaksIn_3 (by decide) ?_
    refine lv_icmp_gt (tgt := 35) hx hb dX3_breaksIn_5 (by decide) (fun c5 => ?_) (fun c5 => ?_)
    · replace h := h.1 c5
      exact hK35 _ _ h _ _ _ hP hD hS (lv_sub hl [] rfl)
    · replace h := h.2 c5
      refine lv_aload_n hx hb dX3_breaksIn_8 rfl (lv_at hl 0 rfl) ?_
      refine lv_aload_n hx hb dX3_breaksIn_9 rfl (lv_at hl 0 rfl) ?_
      refine lv_aload_n hx hb dX3_breaksIn_10 rfl (lv_at hl 0 rfl) ?_
      refine va_get hx hb hts in_X3 hown hK hP 0 rfl rfl 13 (Nat.le_of_ble_eq_true rfl) (hts _ q1231) (fun _ h => h) (v := .ref (ad 13)) rfl dX3_breaksIn_11 ?_
      refine cl_i F (va_runV (As := [.ref (ad 13)]) (rest := [.ref o]) ⟨hx, hb, hml, hown, hts⟩ (ct_M_tideComes_i13 h _) (cwV 1 hts (lw_V q1646 q1648 qs72 q97 q1649) rfl rfl rfl (by decide +kernel) ⟨Nat.le_trans (Nat.le_of_ble_eq_true rfl) hRf, Nat.le_trans (Nat.le_of_ble_eq_true rfl) hRl⟩) ⟨ct_blind, va_recv hK hP (ci := 2) (q0 := 0) rfl rfl, ct_at F hS hP hD⟩ rfl rfl hl.1 rfl (lv_room (Nat.le_of_ble_eq_true rfl)) dX3_breaksIn_14 ⟨hC, hSl⟩) rfl rfl hD hS ?_
      rintro x1 ⟨fd2, ar3⟩ H locs h hP hD hS
      refine pt_put (v := .int x1) hx hb hts in_X3 tyX3 tyX3_ok nmX3 hown hK hP hD hS 0 rfl rfl 36 (Nat.le_of_ble_eq_true rfl) (hts _ q1254) (fun _ h => h) rfl (ty := .int) (by decide +kernel) rfl rfl (Nat.le_of_ble_eq_true rfl) dX3_breaksIn_17 wmF_36 (fun H locs hP hD hS => ?_)
      refine lv_aload_n hx hb dX3_breaksIn_20 rfl (lv_at hl 0 rfl) ?_
      refine va_get hx hb hts in_X3 hown hK hP 0 rfl rfl 36 (Nat.le_of_ble_eq_true rfl) (hts _ q1254) (fun _ h => h) (v := .int x1) rfl dX3_breaksIn_21 ?_
      refine lv_if_eq (tgt := 29) hx hb dX3_breaksIn_24 (by decide) (fun c4 => ?_) (fun c4 => ?_)
      · replace h := h.1 c4
        refine lv_iinc (v := (v1 + (1 : Int32))) (lv' := [(1, .int (v1 + (1 : Int32))), (0, .ref o)]) hx hb dX3_breaksIn_29 hl (k := 1) rfl rfl (by decide) rfl (fun ls hl => ?_)
        refine lv_goto (tgt := 2) hx hb dX3_breaksIn_32 (by decide) ?_
        exact ih _ _ _ h _ _ _ hP hD hS (lv_sub hl [1, 0] rfl)
      · replace h := h.2 c4
        exact hK27 _ _ _ h _ _ _ hP hD hS (lv_sub hl [1] rfl)
set_option maxHeartbeats 4000000 in
theorem ct_M_breaksIn {l : Launch} {V : evT} {D : va_G} {gI : Nat → ClassId} {o : Nat} {ad : Nat → Nat} {fd : Nat → Int32} {ar : Nat → Nat → Int32} {lw : Nat → Int64} {Q : Int32 → (Nat → Int32) → (Nat → Nat → Int32) → Prop} (h : wp_M_breaksIn fd ar lw Q) : ct_i l V D vwCl (tyL gI) yX3_breaksIn cX3_breaksIn 2 .int { frames := 6, cells := 0, slots := 0, locals := 123 } [.ref o] (wm gI o ad fd ar lw) (fun u : (Nat → Int32) × (Nat → Nat → Int32) => (wm gI o ad u.1 u.2 lw)) (fun (x : Int32) (u : (Nat → Int32) × (Nat → Nat → Int32)) => Q x u.1 u.2) := by
  refine ct_ofi RX3 rfl (by decide +kernel) (Nat.le_of_ble_eq_true rfl) ?_
  intro p e s m args below meth c A F hP hD ls hl
  obtain ⟨⟨hx, hb, hml, hown, hts⟩, hr, hlocks, hA, hK, hE⟩ := id F
  have hS : va_S A s.heap s.heap [] := va_S.rf
  have hl : lv_has ls 2 [(0, .ref o)] := hl
  have hRf : 6 ≤ ({ frames := 6, cells := 0, slots := 0, locals := 123 } : Room).frames := Nat.le_refl _
  have hRl : 123 ≤ ({ frames := 6, cells := 0, slots := 0, locals := 123 } : Room).locals := Nat.le_refl _
  have hC : 0 ≤ ({ frames := 6, cells := 0, slots := 0, locals := 123 } : Room).cells := Nat.le_refl _
  have hSl : 0 ≤ ({ frames := 6, cells := 0, slots := 0, locals := 123 } : Room).slots := Nat.le_refl _
  unfold wp_M_breaksIn at h
  refine lv_iconst (v := (1 : Int32)) hx hb dX3_breaksIn_0 (by decide) ?_
  refine lv_istore_n (lv' := [(1, .int (1 : Int32)), (0, .ref o)]) hx hb dX3_breaksIn_1 rfl hl (by decide) rfl (fun ls hl => ?_)
  obtain ⟨k2, h⟩ := h
  refine lp_M_breaksIn_L1 F hRf hRl hC hSl ?hk35 ?hk27 k2 _ _ _ h _ _ _ hP hD hS (lv_sub hl [1, 0] rfl)
  case hk35 =>
    intro fd_6 ar_7 h H locs ls hP hD hS hl
    refine lv_bipush (v := (100 : Int32)) hx hb dX3_breaksIn_35 (by decide) ?_
    exact rt_i F dX3_breaksIn_37 rfl (fd_6, ar_7) h hP hD hS (Nat.le_refl _) (Nat.le_refl _)
  case hk27 =>
    intro v1_8 fd_9 ar_10 h H locs ls hP hD hS hl
    refine lv_iload_n hx hb dX3_breaksIn_27 rfl (lv_at hl 0 rfl) ?_
    exact rt_i F dX3_breaksIn_28 rfl (fd_9, ar_10) h hP hD hS (Nat.le_refl _) (Nat.le_refl _)
set_option maxHeartbeats 4000000 in
theorem lp_M_breakMany_L1 {p : Program} {l : Launch} {e : Env} {R : Room} {s : State} {m : MethodId} {args : Array Value} {below : List Frame} {meth : Method} {c : Code} {cells slots : Nat} {A : Nat → Prop} {Qf : State → Prop} {V : evT} {D : va_G} {gI : Nat → ClassId} {o : Nat} {ad : Nat → Nat} {v1 : Int32} {lw : Nat → Int64} {K41 : (Int32) → (Nat → Int32) → (Nat → Nat → Int32) → Prop} (F : ct_F p m c meth cX3_breakMany 4 s args RX3 (some .int) A V D vwCl (tyL gI)) (hRf : 6 ≤ R.frames) (hRl : 123 ≤ R.locals) (hC : cells ≤ R.cells) (hSl : slots ≤ R.slots)
    (hK41 : ∀ (v2 : Int32) (fd : Nat → Int32) (ar : Nat → Nat → Int32), K41 v2 fd ar → ∀ (H : Heap) (locs : List Loc) (ls : Array Slot), va_P D vwCl (wm gI o ad fd ar lw) H → va_D A (wm gI o ad fd ar lw) → va_S A s.heap H locs → lv_has ls 4 [(2, .int v2)] → W p l e R s m args below meth c H locs cells slots Qf (F0 m 41 ls [])) :
    ∀ (n : Nat) (v2 : Int32) (v3 : Int32) (fd : Nat → Int32) (ar : Nat → Nat → Int32), wp_M_breakMany_L1 v1 lw K41 n v2 v3 fd ar → ∀ (H : Heap) (locs : List Loc) (ls : Array Slot), va_P D vwCl (wm gI o ad fd ar lw) H → va_D A (wm gI o ad fd ar lw) → va_S A s.heap H locs → lv_has ls 4 [(0, .ref o), (1, .int v1), (2, .int v2), (3, .int v3)] → W p l e R s m args below meth c H locs cells slots Qf (F0 m 8 ls []) := by
  obtain ⟨⟨hx, hb, hml, hown, hts⟩, hr, hlocks, hA, hK, hE⟩ := id F
  intro n
  induction n with
  | zero => intro v2 v3 fd ar h; exact h.elim
  | succ n ih =>
    intro v2 v3 fd ar h H locs ls hP hD hS hl
    unfold wp_M_breakMany_L1 at h
    refine lv_iload_n hx hb dX3_breakMany_8 rfl (lv_at hl 3 rfl) ?_
    refine lv_iload_n hx hb dX3_breakMany_9 rfl (lv_at hl 1 rfl) ?_
    refine lv_icmp_ge (tgt := 41) hx hb dX3_breakMany_10 (by decide) (fun c8 => ?_) (fun c8 => ?_)
    · replace h := h.1 c8
      exact hK41 _ _ _ h _ _ _ hP hD hS (lv_sub hl [2] rfl)
    · replace h := h.2 c8
      refine lv_iload_n hx hb dX3_breakMany_13 rfl (lv_at hl 2 rfl) ?_
      refine lv_aload_n hx hb dX3_breakMany_14 rfl (lv_at hl 0 rfl) ?_
      refine lv_aload_n hx hb dX3_breakMany_15 rfl (lv_at hl 0 rfl) ?_
      refine va_get hx hb hts in_X3 hown hK hP 0 rfl rfl 13 (Nat.le_of_ble_eq_true rfl) (hts _ q1231) (fun _ h => h) (v := .ref (ad 13)) rfl dX3_breakMany_16 ?_
      refine cl_i F (va_runV (As := [.ref (ad 13)]) (rest := [.int v2]) ⟨hx, hb, hml, hown, hts⟩ (ct_M_tideComes_i13 h _) (cwV 1 hts (lw_V q1646 q1648 qs72 q97 q1649) rfl rfl rfl (by decide +kernel) ⟨Nat.le_trans (Nat.le_of_ble_eq_true rfl) hRf, Nat.le_trans (Nat.le_of_ble_eq_true rfl) hRl⟩) ⟨ct_blind, va_recv hK hP (ci := 2) (q0 := 0) rfl rfl, ct_at F hS hP hD⟩ rfl rfl hl.1 rfl (lv_room (Nat.le_of_ble_eq_true rfl)) dX3_breakMany_19 ⟨hC, hSl⟩) rfl rfl hD hS ?_
      rintro x2 ⟨fd3, ar4⟩ H locs h hP hD hS
      refine lv_if_eq (tgt := 29) hx hb dX3_breakMany_22 (by decide) (fun c7 => ?_) (fun c7 => ?_)
      · replace h := h.1 c7
        refine lv_iconst (v := (0 : Int32)) hx hb dX3_breakMany_29 (by decide) ?_
        refine cl_i0 F (va_runS (As := [.int (0 : Int32)]) (rest := [.int v2]) ⟨hx, hb, hml, hown, hts⟩ (ct_X3_flag h _) (va_cwS 1 hts (lw_S q1407 q1408 q97 q1409) rfl rfl rfl (by decide +kernel) ⟨Nat.le_trans (Nat.le_of_ble_eq_true rfl) hRf, Nat.le_trans (Nat.le_of_ble_eq_true rfl) hRl⟩) ⟨ct_blind, ct_at F hS ct_nP ct_nD⟩ rfl rfl hl.1 rfl (lv_room (Nat.le_of_ble_eq_true rfl)) dX3_breakMany_30 ⟨hC, hSl⟩) rfl rfl hP hS ?_
        rintro x5 _ H locs h hP hS
        refine lv_iadd hx hb dX3_breakMany_33 ?_
        refine lv_istore_n (lv' := [(2, .int (v2 + x5)), (0, .ref o), (1, .int v1), (3, .int v3)]) hx hb dX3_breakMany_34 rfl hl (by decide) rfl (fun ls hl => ?_)
        refine lv_iinc (v := (v3 + (1 : Int32))) (lv' := [(3, .int (v3 + (1 : Int32))), (2, .int (v2 + x5)), (0, .ref o), (1, .int v1)]) hx hb dX3_breakMany_35 hl (k := 3) rfl rfl (by decide) rfl (fun ls hl => ?_)
        refine lv_goto (tgt := 8) hx hb dX3_breakMany_38 (by decide) ?_
        exact ih _ _ _ _ h _ _ _ hP hD hS (lv_sub hl [2, 3, 1, 0] rfl)
      · replace h := h.2 c7
        refine lv_iconst (v := (1 : Int32)) hx hb dX3_breakMany_25 (by decide) ?_
        refine lv_goto (tgt := 30) hx hb dX3_breakMany_26 (by decide) ?_
        refine cl_i0 F (va_runS (As := [.int (1 : Int32)]) (rest := [.int v2]) ⟨hx, hb, hml, hown, hts⟩ (ct_X3_flag h _) (va_cwS 1 hts (lw_S q1407 q1408 q97 q1409) rfl rfl rfl (by decide +kernel) ⟨Nat.le_trans (Nat.le_of_ble_eq_true rfl) hRf, Nat.le_trans (Nat.le_of_ble_eq_true rfl) hRl⟩) ⟨ct_blind, ct_at F hS ct_nP ct_nD⟩ rfl rfl hl.1 rfl (lv_room (Nat.le_of_ble_eq_true rfl)) dX3_breakMany_30 ⟨hC, hSl⟩) rfl rfl hP hS ?_
        rintro x6 _ H locs h hP hS
        refine lv_iadd hx hb dX3_breakMany_33 ?_
        refine lv_istore_n (lv' := [(2, .int (v2 + x6)), (0, .ref o), (1, .int v1), (3, .int v3)]) hx hb dX3_breakMany_34 rfl hl (by decide) rfl (fun ls hl => ?_)
        refine lv_iinc (v := (v3 + (1 : Int32))) (lv' := [(3, .int (v3 + (1 : Int32))), (2, .int (v2 + x6)), (0, .ref o), (1, .int v1)]) hx hb dX3_breakMany_35 hl (k := 3) rfl rfl (by decide) rfl (fun ls hl => ?_)
        refine lv_goto (tgt := 8) hx hb dX3_breakMany_38 (by decide) ?_
        exact ih _ _ _ _ h _ _ _ hP hD hS (lv_sub hl [2, 3, 1, 0] rfl)
set_option maxHeartbeats 4000000 in
theorem ct_M_breakMany {l : Launch} {V : evT} {D : va_G} {gI : Nat → ClassId} {o : Nat} {ad : Nat → Nat} {v1 : Int32} {fd : Nat → Int32} {ar : Nat → Nat → Int32} {lw : Nat → Int64} {Q : Int32 → (Nat → Int32) → (Nat → Nat → Int32) → Prop} (h : wp_M_breakMany v1 fd ar lw Q) : ct_i l V D vwCl (tyL gI) yX3_breakMany cX3_breakMany 4 .int { frames := 6, cells := 0, slots := 0, locals := 123 } [.ref o, .int v1] (wm gI o ad fd ar lw) (fun u : (Nat → Int32) × (Nat → Nat → Int32) => (wm gI o ad u.1 u.2 lw)) (fun (x : Int32) (u : (Nat → Int32) × (Nat → Nat → Int32)) => Q x u.1 u.2) := by
  refine ct_ofi RX3 rfl (by decide +kernel) (Nat.le_of_ble_eq_true rfl) ?_
  intro p e s m args below meth c A F hP hD ls hl
  obtain ⟨⟨hx, hb, hml, hown, hts⟩, hr, hlocks, hA, hK, hE⟩ := id F
  have hS : va_S A s.heap s.heap [] := va_S.rf
  have hl : lv_has ls 4 [(0, .ref o), (1, .int v1)] := hl
  have hRf : 6 ≤ ({ frames := 6, cells := 0, slots := 0, locals := 123 } : Room).frames := Nat.le_refl _
  have hRl : 123 ≤ ({ frames := 6, cells := 0, slots := 0, locals := 123 } : Room).locals := Nat.le_refl _
  have hC : 0 ≤ ({ frames := 6, cells := 0, slots := 0, locals := 123 } : Room).cells := Nat.le_refl _
  have hSl : 0 ≤ ({ frames := 6, cells := 0, slots := 0, locals := 123 } : Room).slots := Nat.le_refl _
  unfold wp_M_breakMany at h
  refine lv_iconst (v := (0 : Int32)) hx hb dX3_breakMany_0 (by decide) ?_
  refine lv_istore_n (lv' := [(2, .int (0 : Int32)), (0, .ref o), (1, .int v1)]) hx hb dX3_breakMany_1 rfl hl (by decide) rfl (fun ls hl => ?_)
  refine lv_aload_n hx hb dX3_breakMany_2 rfl (lv_at hl 1 rfl) ?_
  refine cl_v F (va_runV (As := []) (rest := []) ⟨hx, hb, hml, hown, hts⟩ (ct_M_puts h _) (cwV 0 hts (lw_V q1701 q1703 qs80 q97 q1704) rfl rfl rfl (by decide +kernel) ⟨Nat.le_trans (Nat.le_of_ble_eq_true rfl) hRf, Nat.le_trans (Nat.le_of_ble_eq_true rfl) hRl⟩) ⟨ct_blind, va_recv hK hP (ci := 2) (q0 := 0) rfl rfl, ct_at F hS hP hD⟩ rfl rfl hl.1 rfl (lv_room (Nat.le_of_ble_eq_true rfl)) dX3_breakMany_3 ⟨hC, hSl⟩) rfl rfl hD hS ?_
  rintro ar1 H locs h hP hD hS
  refine lv_iconst (v := (0 : Int32)) hx hb dX3_breakMany_6 (by decide) ?_
  refine lv_istore_n (lv' := [(3, .int (0 : Int32)), (2, .int (0 : Int32)), (0, .ref o), (1, .int v1)]) hx hb dX3_breakMany_7 rfl hl (by decide) rfl (fun ls hl => ?_)
  obtain ⟨k8, h⟩ := h
  refine lp_M_breakMany_L1 F hRf hRl hC hSl ?hk41 k8 _ _ _ _ h _ _ _ hP hD hS (lv_sub hl [2, 3, 1, 0] rfl)
  case hk41 =>
    intro v2_9 fd_10 ar_11 h H locs ls hP hD hS hl
    refine lv_iload_n hx hb dX3_breakMany_41 rfl (lv_at hl 0 rfl) ?_
    exact rt_i F dX3_breakMany_42 rfl (fd_10, ar_11) h hP hD hS (Nat.le_refl _) (Nat.le_refl _)
set_option maxHeartbeats 4000000 in
theorem lp_M_spells_L1 {p : Program} {l : Launch} {e : Env} {R : Room} {s : State} {m : MethodId} {args : Array Value} {below : List Frame} {meth : Method} {c : Code} {cells slots : Nat} {A : Nat → Prop} {Qf : State → Prop} {V : evT} {D : va_G} {gI : Nat → ClassId} {o : Nat} {ad : Nat → Nat} {lw : Nat → Int64} {K44 : (Nat → Int32) → (Nat → Nat → Int32) → Prop} {K28 : (Int32) → (Nat → Int32) → (Nat → Nat → Int32) → Prop} (F : ct_F p m c meth cX3_spells 2 s args RX3 (some .int) A V D vwCl (tyL gI)) (hRf : 6 ≤ R.frames) (hRl : 126 ≤ R.locals) (hC : cells ≤ R.cells) (hSl : slots ≤ R.slots)
    (hK44 : ∀ (fd : Nat → Int32) (ar : Nat → Nat → Int32), K44 fd ar → ∀ (H : Heap) (locs : List Loc) (ls : Array Slot), va_P D vwCl (wm gI o ad fd ar lw) H → va_D A (wm gI o ad fd ar lw) → va_S A s.heap H locs → lv_has ls 2 [] → W p l e R s m args below meth c H locs cells slots Qf (F0 m 44 ls []))
    (hK28 : ∀ (v1 : Int32) (fd : Nat → Int32) (ar : Nat → Nat → Int32), K28 v1 fd ar → ∀ (H : Heap) (locs : List Loc) (ls : Array Slot), va_P D vwCl (wm gI o ad fd ar lw) H → va_D A (wm gI o ad fd ar lw) → va_S A s.heap H locs → lv_has ls 2 [(1, .int v1)] → W p l e R s m args below meth c H locs cells slots Qf (F0 m 28 ls [])) :
    ∀ (n : Nat) (v1 : Int32) (fd : Nat → Int32) (ar : Nat → Nat → Int32), wp_M_spells_L1 lw K44 K28 n v1 fd ar → ∀ (H : Heap) (locs : List Loc) (ls : Array Slot), va_P D vwCl (wm gI o ad fd ar lw) H → va_D A (wm gI o ad fd ar lw) → va_S A s.heap H locs → lv_has ls 2 [(0, .ref o), (1, .int v1)] → W p l e R s m args below meth c H locs cells slots Qf (F0 m 11 ls []) := by
  obtain ⟨⟨hx, hb, hml, hown, hts⟩, hr, hlocks, hA, hK, hE⟩ := id F
  intro n
  induction n with
  | zero => intro v1 fd ar h; exact h.elim
  | succ n ih =>
    intro v1 fd ar h H locs ls hP hD hS hl
    unfold wp_M_spells_L1 at h
    refine lv_iload_n hx hb dX3_spells_11 rfl (lv_at hl 1 rfl) ?_
    refine lv_bipush (v := (30 : Int32)) hx hb dX3_spells_12 (by decide) ?_
    refine lv_icmp_gt (tgt := 44) hx hb dX3_spells_14 (by decide) (fun c7 => ?_) (fun c7 => ?_)
    · replace h := h.1 c7
      exact hK44 _ _ h _ _ _ hP hD hS (lv_sub hl [] rfl)
    · replace h := h.2 c7
      refine lv_aload_n hx hb dX3_spells_17 rfl (lv_at hl 0 rfl) ?_
      refine lv_aload_n hx hb dX3_spells_18 rfl (lv_at hl 0 rfl) ?_
      refine va_get hx hb hts in_X3 hown hK hP 0 rfl rfl 13 (Nat.le_of_ble_eq_true rfl) (hts _ q1231) (fun _ h => h) (v := .ref (ad 13)) rfl dX3_spells_19 ?_
      refine cl_i F (va_runV (As := [.ref (ad 13)]) (rest := []) ⟨hx, hb, hml, hown, hts⟩ (ct_M_isHigh_i13 h _) (cwV 1 hts (lw_V q1722 q1724 qs83 q97 q1725) rfl rfl rfl (by decide +kernel) ⟨Nat.le_trans (Nat.le_of_ble_eq_true rfl) hRf, Nat.le_trans (Nat.le_of_ble_eq_true rfl) hRl⟩) ⟨ct_blind, va_recv hK hP (ci := 2) (q0 := 0) rfl rfl, ct_at F hS hP hD⟩ rfl rfl hl.1 rfl (lv_room (Nat.le_of_ble_eq_true rfl)) dX3_spells_22 ⟨hC, hSl⟩) rfl rfl hD hS ?_
      rintro x2 ar3 H locs h hP hD hS
      refine lv_if_eq (tgt := 30) hx hb dX3_spells_25 (by decide) (fun c6 => ?_) (fun c6 => ?_)
      · replace h := h.1 c6
        refine lv_aload_n hx hb dX3_spells_30 rfl (lv_at hl 0 rfl) ?_
        refine lv_aload_n hx hb dX3_spells_31 rfl (lv_at hl 0 rfl) ?_
        refine va_get hx hb hts in_X3 hown hK hP 0 rfl rfl 13 (Nat.le_of_ble_eq_true rfl) (hts _ q1231) (fun _ h => h) (v := .ref (ad 13)) rfl dX3_spells_32 ?_
        refine cl_v F (va_runV (As := [.ref (ad 13)]) (rest := []) ⟨hx, hb, hml, hown, hts⟩ (ct_M_spellGoes_i13 h _) (cwV 1 hts (lw_V q1630 q1632 qs69 q97 q1633) rfl rfl rfl (by decide +kernel) ⟨Nat.le_trans (Nat.le_of_ble_eq_true rfl) hRf, Nat.le_trans (Nat.le_of_ble_eq_true rfl) hRl⟩) ⟨ct_blind, va_recv hK hP (ci := 2) (q0 := 0) rfl rfl, ct_at F hS hP hD⟩ rfl rfl hl.1 rfl (lv_room (Nat.le_of_ble_eq_true rfl)) dX3_spells_35 ⟨hC, hSl⟩) rfl rfl hD hS ?_
        rintro ⟨fd4, ar5⟩ H locs h hP hD hS
        refine lv_iinc (v := (v1 + (1 : Int32))) (lv' := [(1, .int (v1 + (1 : Int32))), (0, .ref o)]) hx hb dX3_spells_38 hl (k := 1) rfl rfl (by decide) rfl (fun ls hl => ?_)
        refine lv_goto (tgt := 11) hx hb dX3_spells_41 (by decide) ?_
        exact ih _ _ _ h _ _ _ hP hD hS (lv_sub hl [1, 0] rfl)
      · replace h := h.2 c6
        exact hK28 _ _ _ h _ _ _ hP hD hS (lv_sub hl [1] rfl)
set_option maxHeartbeats 4000000 in
theorem ct_M_spells {l : Launch} {V : evT} {D : va_G} {gI : Nat → ClassId} {o : Nat} {ad : Nat → Nat} {fd : Nat → Int32} {ar : Nat → Nat → Int32} {lw : Nat → Int64} {Q : Int32 → (Nat → Int32) → (Nat → Nat → Int32) → Prop} (h : wp_M_spells fd ar lw Q) : ct_i l V D vwCl (tyL gI) yX3_spells cX3_spells 2 .int { frames := 6, cells := 0, slots := 0, locals := 126 } [.ref o] (wm gI o ad fd ar lw) (fun u : (Nat → Int32) × (Nat → Nat → Int32) => (wm gI o ad u.1 u.2 lw)) (fun (x : Int32) (u : (Nat → Int32) × (Nat → Nat → Int32)) => Q x u.1 u.2) := by
  refine ct_ofi RX3 rfl (by decide +kernel) (Nat.le_of_ble_eq_true rfl) ?_
  intro p e s m args below meth c A F hP hD ls hl
  obtain ⟨⟨hx, hb, hml, hown, hts⟩, hr, hlocks, hA, hK, hE⟩ := id F
  have hS : va_S A s.heap s.heap [] := va_S.rf
  have hl : lv_has ls 2 [(0, .ref o)] := hl
  have hRf : 6 ≤ ({ frames := 6, cells := 0, slots := 0, locals := 126 } : Room).frames := Nat.le_refl _
  have hRl : 126 ≤ ({ frames := 6, cells := 0, slots := 0, locals := 126 } : Room).locals := Nat.le_refl _
  have hC : 0 ≤ ({ frames := 6, cells := 0, slots := 0, locals := 126 } : Room).cells := Nat.le_refl _
  have hSl : 0 ≤ ({ frames := 6, cells := 0, slots := 0, locals := 126 } : Room).slots := Nat.le_refl _
  unfold wp_M_spells at h
  refine lv_aload_n hx hb dX3_spells_0 rfl (lv_at hl 0 rfl) ?_
  refine lv_iconst (v := (0 : Int32)) hx hb dX3_spells_1 (by decide) ?_
  refine pt_put (v := .int (0 : Int32)) hx hb hts in_X3 tyX3 tyX3_ok nmX3 hown hK hP hD hS 0 rfl rfl 0 (Nat.le_of_ble_eq_true rfl) (hts _ q1218) (fun _ h => h) rfl (ty := .int) (by decide +kernel) rfl rfl (Nat.le_of_ble_eq_true rfl) dX3_spells_2 wmF_0 (fun H locs hP hD hS => ?_)
  refine lv_aload_n hx hb dX3_spells_5 rfl (lv_at hl 0 rfl) ?_
  refine cl_v F (va_runV (As := []) (rest := []) ⟨hx, hb, hml, hown, hts⟩ (ct_M_puts h _) (cwV 0 hts (lw_V q1701 q1703 qs80 q97 q1704) rfl rfl rfl (by decide +kernel) ⟨Nat.le_trans (Nat.le_of_ble_eq_true rfl) hRf, Nat.le_trans (Nat.le_of_ble_eq_true rfl) hRl⟩) ⟨ct_blind, va_recv hK hP (ci := 2) (q0 := 0) rfl rfl, ct_at F hS hP hD⟩ rfl rfl hl.1 rfl (lv_room (Nat.le_of_ble_eq_true rfl)) dX3_spells_6 ⟨hC, hSl⟩) rfl rfl hD hS ?_
  rintro ar1 H locs h hP hD hS
  refine lv_iconst (v := (0 : Int32)) hx hb dX3_spells_9 (by decide) ?_
  refine lv_istore_n (lv' := [(1, .int (0 : Int32)), (0, .ref o)]) hx hb dX3_spells_10 rfl hl (by decide) rfl (fun ls hl => ?_)
  obtain ⟨k11, h⟩ := h
  refine lp_M_spells_L1 F hRf hRl hC hSl ?hk44 ?hk28 k11 _ _ _ h _ _ _ hP hD hS (lv_sub hl [1, 0] rfl)
  case hk44 =>
    intro fd_8 ar_9 h H locs ls hP hD hS hl
    refine lv_bipush (v := (-2 : Int32)) hx hb dX3_spells_44 (by decide) ?_
    exact rt_i F dX3_spells_46 rfl (fd_8, ar_9) h hP hD hS (Nat.le_refl _) (Nat.le_refl _)
  case hk28 =>
    intro v1_10 fd_11 ar_12 h H locs ls hP hD hS hl
    refine lv_iload_n hx hb dX3_spells_28 rfl (lv_at hl 0 rfl) ?_
    exact rt_i F dX3_spells_29 rfl (fd_11, ar_12) h hP hD hS (Nat.le_refl _) (Nat.le_refl _)
set_option maxHeartbeats 4000000 in
theorem lp_M_spades_J5 {p : Program} {l : Launch} {e : Env} {R : Room} {s : State} {m : MethodId} {args : Array Value} {below : List Frame} {meth : Method} {c : Code} {cells slots : Nat} {A : Nat → Prop} {Qf : State → Prop} {V : evT} {D : va_G} {gI : Nat → ClassId} {o : Nat} {ad : Nat → Nat} {v4 : Int32} {fd : Nat → Int32} {ar : Nat → Nat → Int32} {lw : Nat → Int64} {K15 : (Int32) → (Int32) → (Int32) → Prop} (F : ct_F p m c meth cX3_spades 6 s args RX3 (some .int) A V D vwCl (tyL gI)) (hRf : 6 ≤ R.frames) (hRl : 126 ≤ R.locals) (hC : cells ≤ R.cells) (hSl : slots ≤ R.slots)
    (hK15 : ∀ (v1 : Int32) (v2 : Int32) (v3 : Int32), K15 v1 v2 v3 → ∀ (H : Heap) (locs : List Loc) (ls : Array Slot), va_P D vwCl (wm gI o ad fd ar lw) H → va_D A (wm gI o ad fd ar lw) → va_S A s.heap H locs → lv_has ls 6 [(0, .ref o), (1, .int v1), (2, .int v2), (3, .int v3)] → W p l e R s m args below meth c H locs cells slots Qf (F0 m 15 ls [])) :
    ∀ (v2 : Int32) (v3 : Int32) (t0 : Int32), wp_M_spades_J5 v4 fd ar lw K15 v2 v3 t0 → ∀ (H : Heap) (locs : List Loc) (ls : Array Slot), va_P D vwCl (wm gI o ad fd ar lw) H → va_D A (wm gI o ad fd ar lw) → va_S A s.heap H locs → lv_has ls 6 [(0, .ref o), (2, .int v2), (3, .int v3), (4, .int v4)] → W p l e R s m args below meth c H locs cells slots Qf (F0 m 100 ls [.int t0]) := by
  obtain ⟨⟨hx, hb, hml, hown, hts⟩, hr, hlocks, hA, hK, hE⟩ := id F
  intro v2 v3 t0 h H locs ls hP hD hS hl
  unfold wp_M_spades_J5 at h
  refine lv_istore_n (lv' := [(1, .int t0), (0, .ref o), (2, .int v2), (3, .int v3), (4, .int v4)]) hx hb dX3_spades_100 rfl hl (by decide) rfl (fun ls hl => ?_)
  refine lv_iload_n hx hb dX3_spades_101 rfl (lv_at hl 2 rfl) ?_
  refine lv_iload hx hb dX3_spades_102 (lv_at hl 4 rfl) ?_
  refine va_mmax hx hb (hml.trans hl.1.symm) hown (hts _ q1560) (hts _ q636) (hts _ q100) (hts _ q637) (Nat.le_trans (Nat.le_of_ble_eq_true rfl) hRf) (Nat.le_trans (Nat.le_of_ble_eq_true rfl) hRl) hC hSl dX3_spades_104 ?_
  refine lv_istore_n (lv' := [(2, .int (mxI v2 v4)), (1, .int t0), (0, .ref o), (3, .int v3), (4, .int v4)]) hx hb dX3_spades_107 rfl hl (by decide) rfl (fun ls hl => ?_)
  refine lv_iinc (v := (v3 + (1 : Int32))) (lv' := [(3, .int (v3 + (1 : Int32))), (2, .int (mxI v2 v4)), (1, .int t0), (0, .ref o), (4, .int v4)]) hx hb dX3_spades_108 hl (k := 3) rfl rfl (by decide) rfl (fun ls hl => ?_)
  refine lv_goto (tgt := 15) hx hb dX3_spades_111 (by decide) ?_
  exact hK15 _ _ _ h _ _ _ hP hD hS (lv_sub hl [3, 2, 1, 0] rfl)
set_option maxHeartbeats 4000000 in
theorem lp_M_spades_J4 {p : Program} {l : Launch} {e : Env} {R : Room} {s : State} {m : MethodId} {args : Array Value} {below : List Frame} {meth : Method} {c : Code} {cells slots : Nat} {A : Nat → Prop} {Qf : State → Prop} {V : evT} {D : va_G} {gI : Nat → ClassId} {o : Nat} {ad : Nat → Nat} {v4 : Int32} {fd : Nat → Int32} {ar : Nat → Nat → Int32} {lw : Nat → Int64} {K15 : (Int32) → (Int32) → (Int32) → Prop} (F : ct_F p m c meth cX3_spades 6 s args RX3 (some .int) A V D vwCl (tyL gI)) (hRf : 6 ≤ R.frames) (hRl : 126 ≤ R.locals) (hC : cells ≤ R.cells) (hSl : slots ≤ R.slots)
    (hK15 : ∀ (v1 : Int32) (v2 : Int32) (v3 : Int32), K15 v1 v2 v3 → ∀ (H : Heap) (locs : List Loc) (ls : Array Slot), va_P D vwCl (wm gI o ad fd ar lw) H → va_D A (wm gI o ad fd ar lw) → va_S A s.heap H locs → lv_has ls 6 [(0, .ref o), (1, .int v1), (2, .int v2), (3, .int v3)] → W p l e R s m args below meth c H locs cells slots Qf (F0 m 15 ls [])) :
    ∀ (v1 : Int32) (v2 : Int32) (v3 : Int32) (t0 : Int32), wp_M_spades_J4 v4 fd ar lw K15 v1 v2 v3 t0 → ∀ (H : Heap) (locs : List Loc) (ls : Array Slot), va_P D vwCl (wm gI o ad fd ar lw) H → va_D A (wm gI o ad fd ar lw) → va_S A s.heap H locs → lv_has ls 6 [(0, .ref o), (1, .int v1), (2, .int v2), (3, .int v3), (4, .int v4)] → W p l e R s m args below meth c H locs cells slots Qf (F0 m 88 ls [.int t0]) := by
  obtain ⟨⟨hx, hb, hml, hown, hts⟩, hr, hlocks, hA, hK, hE⟩ := id F
  intro v1 v2 v3 t0 h H locs ls hP hD hS hl
  unfold wp_M_spades_J4 at h
  refine lv_istore (lv' := [(5, .int t0), (0, .ref o), (1, .int v1), (2, .int v2), (3, .int v3), (4, .int v4)]) hx hb dX3_spades_88 hl (by decide) rfl (fun ls hl => ?_)
  refine lv_iload hx hb dX3_spades_90 (lv_at hl 0 rfl) ?_
  refine lv_if_eq (tgt := 99) hx hb dX3_spades_92 (by decide) (fun c10 => ?_) (fun c10 => ?_)
  · replace h := h.1 c10
    refine lv_iload_n hx hb dX3_spades_99 rfl (lv_at hl 2 rfl) ?_
    refine lp_M_spades_J5 F hRf hRl hC hSl ?hk15 _ _ _ h _ _ _ hP hD hS (lv_sub hl [1, 3, 4, 5] rfl)
    case hk15 =>
      intro v1_4 v2_5 v3_6 h H locs ls hP hD hS hl
      exact hK15 _ _ _ h _ _ _ hP hD hS (lv_sub hl [0, 1, 2, 3] rfl)
  · replace h := h.2 c10
    refine lv_iload_n hx hb dX3_spades_95 rfl (lv_at hl 4 rfl) ?_
    refine lv_goto (tgt := 100) hx hb dX3_spades_96 (by decide) ?_
    refine lp_M_spades_J5 F hRf hRl hC hSl ?hk15 _ _ _ h _ _ _ hP hD hS (lv_sub hl [1, 3, 4, 5] rfl)
    case hk15 =>
      intro v1_7 v2_8 v3_9 h H locs ls hP hD hS hl
      exact hK15 _ _ _ h _ _ _ hP hD hS (lv_sub hl [0, 1, 2, 3] rfl)
set_option maxHeartbeats 4000000 in
theorem lp_M_spades_J3 {p : Program} {l : Launch} {e : Env} {R : Room} {s : State} {m : MethodId} {args : Array Value} {below : List Frame} {meth : Method} {c : Code} {cells slots : Nat} {A : Nat → Prop} {Qf : State → Prop} {V : evT} {D : va_G} {gI : Nat → ClassId} {o : Nat} {ad : Nat → Nat} {v4 : Int32} {fd : Nat → Int32} {ar : Nat → Nat → Int32} {lw : Nat → Int64} {K15 : (Int32) → (Int32) → (Int32) → Prop} (F : ct_F p m c meth cX3_spades 6 s args RX3 (some .int) A V D vwCl (tyL gI)) (hRf : 6 ≤ R.frames) (hRl : 126 ≤ R.locals) (hC : cells ≤ R.cells) (hSl : slots ≤ R.slots)
    (hK15 : ∀ (v1 : Int32) (v2 : Int32) (v3 : Int32), K15 v1 v2 v3 → ∀ (H : Heap) (locs : List Loc) (ls : Array Slot), va_P D vwCl (wm gI o ad fd ar lw) H → va_D A (wm gI o ad fd ar lw) → va_S A s.heap H locs → lv_has ls 6 [(0, .ref o), (1, .int v1), (2, .int v2), (3, .int v3)] → W p l e R s m args below meth c H locs cells slots Qf (F0 m 15 ls [])) :
    ∀ (v1 : Int32) (v2 : Int32) (v3 : Int32), wp_M_spades_J3 v4 fd ar lw K15 v1 v2 v3 → ∀ (H : Heap) (locs : List Loc) (ls : Array Slot), va_P D vwCl (wm gI o ad fd ar lw) H → va_D A (wm gI o ad fd ar lw) → va_S A s.heap H locs → lv_has ls 6 [(0, .ref o), (1, .int v1), (2, .int v2), (3, .int v3), (4, .int v4)] → W p l e R s m args below meth c H locs cells slots Qf (F0 m 83 ls []) := by
  obtain ⟨⟨hx, hb, hml, hown, hts⟩, hr, hlocks, hA, hK, hE⟩ := id F
  intro v1 v2 v3 h H locs ls hP hD hS hl
  unfold wp_M_spades_J3 at h
  refine lv_iconst (v := (1 : Int32)) hx hb dX3_spades_83 (by decide) ?_
  refine lv_goto (tgt := 88) hx hb dX3_spades_84 (by decide) ?_
  refine lp_M_spades_J4 F hRf hRl hC hSl ?hk15 _ _ _ _ h _ _ _ hP hD hS (lv_sub hl [0, 1, 2, 3, 4] rfl)
  case hk15 =>
    intro v1_11 v2_12 v3_13 h H locs ls hP hD hS hl
    exact hK15 _ _ _ h _ _ _ hP hD hS (lv_sub hl [0, 1, 2, 3] rfl)
set_option maxHeartbeats 4000000 in
theorem lp_M_spades_J6 {p : Program} {l : Launch} {e : Env} {R : Room} {s : State} {m : MethodId} {args : Array Value} {below : List Frame} {meth : Method} {c : Code} {cells slots : Nat} {A : Nat → Prop} {Qf : State → Prop} {V : evT} {D : va_G} {gI : Nat → ClassId} {o : Nat} {ad : Nat → Nat} {v4 : Int32} {fd : Nat → Int32} {ar : Nat → Nat → Int32} {lw : Nat → Int64} {K15 : (Int32) → (Int32) → (Int32) → Prop} (F : ct_F p m c meth cX3_spades 6 s args RX3 (some .int) A V D vwCl (tyL gI)) (hRf : 6 ≤ R.frames) (hRl : 126 ≤ R.locals) (hC : cells ≤ R.cells) (hSl : slots ≤ R.slots)
    (hK15 : ∀ (v1 : Int32) (v2 : Int32) (v3 : Int32), K15 v1 v2 v3 → ∀ (H : Heap) (locs : List Loc) (ls : Array Slot), va_P D vwCl (wm gI o ad fd ar lw) H → va_D A (wm gI o ad fd ar lw) → va_S A s.heap H locs → lv_has ls 6 [(0, .ref o), (1, .int v1), (2, .int v2), (3, .int v3)] → W p l e R s m args below meth c H locs cells slots Qf (F0 m 15 ls [])) :
    ∀ (v1 : Int32) (v2 : Int32) (v3 : Int32), wp_M_spades_J6 v4 fd ar lw K15 v1 v2 v3 → ∀ (H : Heap) (locs : List Loc) (ls : Array Slot), va_P D vwCl (wm gI o ad fd ar lw) H → va_D A (wm gI o ad fd ar lw) → va_S A s.heap H locs → lv_has ls 6 [(0, .ref o), (1, .int v1), (2, .int v2), (3, .int v3), (4, .int v4)] → W p l e R s m args below meth c H locs cells slots Qf (F0 m 87 ls []) := by
  obtain ⟨⟨hx, hb, hml, hown, hts⟩, hr, hlocks, hA, hK, hE⟩ := id F
  intro v1 v2 v3 h H locs ls hP hD hS hl
  unfold wp_M_spades_J6 at h
  refine lv_iconst (v := (0 : Int32)) hx hb dX3_spades_87 (by decide) ?_
  refine lp_M_spades_J4 F hRf hRl hC hSl ?hk15 _ _ _ _ h _ _ _ hP hD hS (lv_sub hl [0, 1, 2, 3, 4] rfl)
  case hk15 =>
    intro v1_17 v2_18 v3_19 h H locs ls hP hD hS hl
    exact hK15 _ _ _ h _ _ _ hP hD hS (lv_sub hl [0, 1, 2, 3] rfl)
set_option maxHeartbeats 4000000 in
theorem lp_M_spades_J2 {p : Program} {l : Launch} {e : Env} {R : Room} {s : State} {m : MethodId} {args : Array Value} {below : List Frame} {meth : Method} {c : Code} {cells slots : Nat} {A : Nat → Prop} {Qf : State → Prop} {V : evT} {D : va_G} {gI : Nat → ClassId} {o : Nat} {ad : Nat → Nat} {fd : Nat → Int32} {ar : Nat → Nat → Int32} {lw : Nat → Int64} {K15 : (Int32) → (Int32) → (Int32) → Prop} (F : ct_F p m c meth cX3_spades 6 s args RX3 (some .int) A V D vwCl (tyL gI)) (hRf : 6 ≤ R.frames) (hRl : 126 ≤ R.locals) (hC : cells ≤ R.cells) (hSl : slots ≤ R.slots)
    (hK15 : ∀ (v1 : Int32) (v2 : Int32) (v3 : Int32), K15 v1 v2 v3 → ∀ (H : Heap) (locs : List Loc) (ls : Array Slot), va_P D vwCl (wm gI o ad fd ar lw) H → va_D A (wm gI o ad fd ar lw) → va_S A s.heap H locs → lv_has ls 6 [(0, .ref o), (1, .int v1), (2, .int v2), (3, .int v3)] → W p l e R s m args below meth c H locs cells slots Qf (F0 m 15 ls [])) :
    ∀ (v1 : Int32) (v2 : Int32) (v3 : Int32) (t0 : Int32), wp_M_spades_J2 fd ar lw K15 v1 v2 v3 t0 → ∀ (H : Heap) (locs : List Loc) (ls : Array Slot), va_P D vwCl (wm gI o ad fd ar lw) H → va_D A (wm gI o ad fd ar lw) → va_S A s.heap H locs → lv_has ls 6 [(0, .ref o), (1, .int v1), (2, .int v2), (3, .int v3)] → W p l e R s m args below meth c H locs cells slots Qf (F0 m 58 ls [.int t0]) := by
  obtain ⟨⟨hx, hb, hml, hown, hts⟩, hr, hlocks, hA, hK, hE⟩ := id F
  intro v1 v2 v3 t0 h H locs ls hP hD hS hl
  unfold wp_M_spades_J2 at h
  refine lv_istore (lv' := [(4, .int t0), (0, .ref o), (1, .int v1), (2, .int v2), (3, .int v3)]) hx hb dX3_spades_58 hl (by decide) rfl (fun ls hl => ?_)
  refine lv_iload hx hb dX3_spades_60 (lv_at hl 0 rfl) ?_
  refine lv_iload_n hx hb dX3_spades_62 rfl (lv_at hl 3 rfl) ?_
  refine lv_icmp_gt (tgt := 83) hx hb dX3_spades_63 (by decide) (fun c33 => ?_) (fun c33 => ?_)
  · replace h := h.1 c33
    refine lp_M_spades_J3 F hRf hRl hC hSl ?hk15 _ _ _ h _ _ _ hP hD hS (lv_sub hl [1, 2, 3, 4, 0] rfl)
    case hk15 =>
      intro v1_14 v2_15 v3_16 h H locs ls hP hD hS hl
      exact hK15 _ _ _ h _ _ _ hP hD hS (lv_sub hl [0, 1, 2, 3] rfl)
  · replace h := h.2 c33
    refine lv_iload hx hb dX3_spades_66 (lv_at hl 0 rfl) ?_
    refine lv_iload_n hx hb dX3_spades_68 rfl (lv_at hl 3 rfl) ?_
    refine lv_icmp_ne (tgt := 87) hx hb dX3_spades_69 (by decide) (fun c32 => ?_) (fun c32 => ?_)
    · replace h := h.1 c32
      refine lp_M_spades_J6 F hRf hRl hC hSl ?hk15 _ _ _ h _ _ _ hP hD hS (lv_sub hl [1, 2, 3, 4, 0] rfl)
      case hk15 =>
        intro v1_20 v2_21 v3_22 h H locs ls hP hD hS hl
        exact hK15 _ _ _ h _ _ _ hP hD hS (lv_sub hl [0, 1, 2, 3] rfl)
    · replace h := h.2 c32
      refine lv_iload_n hx hb dX3_spades_72 rfl (lv_at hl 4 rfl) ?_
      refine cl_i0 F (va_runS (As := [.int v3]) (rest := []) ⟨hx, hb, hml, hown, hts⟩ (ct_J10_bitCount h _) (va_cwS 1 hts (lw_S q1552 q586 q112 q587) rfl rfl rfl (by decide +kernel) ⟨Nat.le_trans (Nat.le_of_ble_eq_true rfl) hRf, Nat.le_trans (Nat.le_of_ble_eq_true rfl) hRl⟩) ⟨ct_blind, ct_at F hS ct_nP ct_nD⟩ rfl rfl hl.1 rfl (lv_room (Nat.le_of_ble_eq_true rfl)) dX3_spades_73 ⟨hC, hSl⟩) rfl rfl hP hS ?_
      rintro x23 _ H locs h hP hS
      refine lv_iload_n hx hb dX3_spades_76 rfl (lv_at hl 2 rfl) ?_
      refine cl_i0 F (va_runS (As := [.int v1]) (rest := [.int x23]) ⟨hx, hb, hml, hown, hts⟩ (ct_J10_bitCount h _) (va_cwS 1 hts (lw_S q1552 q586 q112 q587) rfl rfl rfl (by decide +kernel) ⟨Nat.le_trans (Nat.le_of_ble_eq_true rfl) hRf, Nat.le_trans (Nat.le_of_ble_eq_true rfl) hRl⟩) ⟨ct_blind, ct_at F hS ct_nP ct_nD⟩ rfl rfl hl.1 rfl (lv_room (Nat.le_of_ble_eq_true rfl)) dX3_spades_77 ⟨hC, hSl⟩) rfl rfl hP hS ?_
      rintro x24 _ H locs h hP hS
      refine lv_icmp_ge (tgt := 87) hx hb dX3_spades_80 (by decide) (fun c31 => ?_) (fun c31 => ?_)
      · replace h := h.1 c31
        refine lp_M_spades_J6 F hRf hRl hC hSl ?hk15 _ _ _ h _ _ _ hP hD hS (lv_sub hl [1, 2, 3, 4, 0] rfl)
        case hk15 =>
          intro v1_25 v2_26 v3_27 h H locs ls hP hD hS hl
          exact hK15 _ _ _ h _ _ _ hP hD hS (lv_sub hl [0, 1, 2, 3] rfl)
      · replace h := h.2 c31
        refine lp_M_spades_J3 F hRf hRl hC hSl ?hk15 _ _ _ h _ _ _ hP hD hS (lv_sub hl [1, 2, 3, 4, 0] rfl)
        case hk15 =>
          intro v1_28 v2_29 v3_30 h H locs ls hP hD hS hl
          exact hK15 _ _ _ h _ _ _ hP hD hS (lv_sub hl [0, 1, 2, 3] rfl)
set_option maxHeartbeats 4000000 in
theorem lp_M_spades_L1 {p : Program} {l : Launch} {e : Env} {R : Room} {s : State} {m : MethodId} {args : Array Value} {below : List Frame} {meth : Method} {c : Code} {cells slots : Nat} {A : Nat → Prop} {Qf : State → Prop} {V : evT} {D : va_G} {gI : Nat → ClassId} {o : Nat} {ad : Nat → Nat} {fd : Nat → Int32} {lw : Nat → Int64} {K114 : (Int32) → (Int32) → (Nat → Nat → Int32) → Prop} (F : ct_F p m c meth cX3_spades 6 s args RX3 (some .int) A V D vwCl (tyL gI)) (hRf : 6 ≤ R.frames) (hRl : 126 ≤ R.locals) (hC : cells ≤ R.cells) (hSl : slots ≤ R.slots)
    (hK114 : ∀ (v1 : Int32) (v2 : Int32) (ar : Nat → Nat → Int32), K114 v1 v2 ar → ∀ (H : Heap) (locs : List Loc) (ls : Array Slot), va_P D vwCl (wm gI o ad fd ar lw) H → va_D A (wm gI o ad fd ar lw) → va_S A s.heap H locs → lv_has ls 6 [(0, .ref o), (1, .int v1), (2, .int v2)] → W p l e R s m args below meth c H locs cells slots Qf (F0 m 114 ls [])) :
    ∀ (n : Nat) (v1 : Int32) (v2 : Int32) (v3 : Int32) (ar : Nat → Nat → Int32), wp_M_spades_L1 fd lw K114 n v1 v2 v3 ar → ∀ (H : Heap) (locs : List Loc) (ls : Array Slot), va_P D vwCl (wm gI o ad fd ar lw) H → va_D A (wm gI o ad fd ar lw) → va_S A s.heap H locs → lv_has ls 6 [(0, .ref o), (1, .int v1), (2, .int v2), (3, .int v3)] → W p l e R s m args below meth c H locs cells slots Qf (F0 m 15 ls []) := by
  obtain ⟨⟨hx, hb, hml, hown, hts⟩, hr, hlocks, hA, hK, hE⟩ := id F
  intro n
  induction n with
  | zero => intro v1 v2 v3 ar h; exact h.elim
  | succ n ih =>
    intro v1 v2 v3 ar h H locs ls hP hD hS hl
    unfold wp_M_spades_L1 at h
    refine lv_iload_n hx hb dX3_spades_15 rfl (lv_at hl 3 rfl) ?_
    refine lv_iconst (v := (1 : Int32)) hx hb dX3_spades_16 (by decide) ?_
    refine lv_aload_n hx hb dX3_spades_17 rfl (lv_at hl 0 rfl) ?_
    refine va_get hx hb hts in_X3 hown hK hP 0 rfl rfl 4 (Nat.le_of_ble_eq_true rfl) (hts _ q1222) (fun _ h => h) (v := .int (fd 4)) rfl dX3_spades_18 ?_
    refine lv_ishl hx hb dX3_spades_21 ?_
    refine lv_icmp_ge (tgt := 114) hx hb dX3_spades_22 (by decide) (fun c41 => ?_) (fun c41 => ?_)
    · replace h := h.1 c41
      exact hK114 _ _ _ h _ _ _ hP hD hS (lv_sub hl [0, 1, 2] rfl)
    · replace h := h.2 c41
      refine lv_aload_n hx hb dX3_spades_25 rfl (lv_at hl 0 rfl) ?_
      refine va_get hx hb hts in_X3 hown hK hP 0 rfl rfl 13 (Nat.le_of_ble_eq_true rfl) (hts _ q1231) (fun _ h => h) (v := .ref (ad 13)) rfl dX3_spades_26 ?_
      refine lv_bipush (v := (41 : Int32)) hx hb dX3_spades_29 (by decide) ?_
      refine lv_iload_n hx hb dX3_spades_31 rfl (lv_at hl 3 rfl) ?_
      refine pt_iast (f := (ar 13)) hx hb hK hP hD hS 9 0 rfl rfl (by unfold vp_in; decide) dX3_spades_32 wmA_13 (fun H locs hP hD hS => ?_)
      refine lv_iload_n hx hb dX3_spades_33 rfl (lv_at hl 3 rfl) ?_
      refine cl_i0 F (va_runS (As := [.int v3]) (rest := []) ⟨hx, hb, hml, hown, hts⟩ (ct_J10_bitCount h _) (va_cwS 1 hts (lw_S q1552 q586 q112 q587) rfl rfl rfl (by decide +kernel) ⟨Nat.le_trans (Nat.le_of_ble_eq_true rfl) hRf, Nat.le_trans (Nat.le_of_ble_eq_true rfl) hRl⟩) ⟨ct_blind, ct_at F hS ct_nP ct_nD⟩ rfl rfl hl.1 rfl (lv_room (Nat.le_of_ble_eq_true rfl)) dX3_spades_34 ⟨hC, hSl⟩) rfl rfl hP hS ?_
      rintro x2 _ H locs h hP hS
      refine lv_aload_n hx hb dX3_spades_37 rfl (lv_at hl 0 rfl) ?_
      refine va_get hx hb hts in_X3 hown hK hP 0 rfl rfl 11 (Nat.le_of_ble_eq_true rfl) (hts _ q1229) (fun _ h => h) (v := .ref (ad 11)) rfl dX3_spades_38 ?_
      refine lv_iconst (v := (1 : Int32)) hx hb dX3_spades_41 (by decide) ?_
      refine va_iald (f := (ar 11)) hx hb hK hP 7 0 rfl rfl (by unfold vp_in; decide) dX3_spades_42 ?_
      refine lv_icmp_le (tgt := 50) hx hb dX3_spades_43 (by decide) (fun c40 => ?_) (fun c40 => ?_)
      · replace h := h.1 c40
        refine lv_aload_n hx hb dX3_spades_50 rfl (lv_at hl 0 rfl) ?_
        refine lv_aload_n hx hb dX3_spades_51 rfl (lv_at hl 0 rfl) ?_
        refine va_get hx hb hts in_X3 hown hK hP 0 rfl rfl 13 (Nat.le_of_ble_eq_true rfl) (hts _ q1231) (fun _ h => h) (v := .ref (ad 13)) rfl dX3_spades_52 ?_
        refine cl_i F (va_runV (As := [.ref (ad 13)]) (rest := []) ⟨hx, hb, hml, hown, hts⟩ (ct_M_bucketsAll_i13 h _) (cwV 1 hts (lw_V q1770 q1772 qs88 q97 q1773) rfl rfl rfl (by decide +kernel) ⟨Nat.le_trans (Nat.le_of_ble_eq_true rfl) hRf, Nat.le_trans (Nat.le_of_ble_eq_true rfl) hRl⟩) ⟨ct_blind, va_recv hK hP (ci := 2) (q0 := 0) rfl rfl, ct_at F hS hP hD⟩ rfl rfl hl.1 rfl (lv_room (Nat.le_of_ble_eq_true rfl)) dX3_spades_55 ⟨hC, hSl⟩) rfl rfl hD hS ?_
        rintro x3 _ H locs h hP hD hS
        refine lp_M_spades_J2 F hRf hRl hC hSl ?hk15 _ _ _ _ h _ _ _ hP hD hS (lv_sub hl [0, 1, 2, 3] rfl)
        case hk15 =>
          intro v1_34 v2_35 v3_36 h H locs ls hP hD hS hl
          exact ih _ _ _ _ h _ _ _ hP hD hS (lv_sub hl [0, 1, 2, 3] rfl)
      · replace h := h.2 c40
        refine lv_iconst (v := (-1 : Int32)) hx hb dX3_spades_46 (by decide) ?_
        refine lv_goto (tgt := 58) hx hb dX3_spades_47 (by decide) ?_
        refine lp_M_spades_J2 F hRf hRl hC hSl ?hk15 _ _ _ _ h _ _ _ hP hD hS (lv_sub hl [0, 1, 2, 3] rfl)
        case hk15 =>
          intro v1_37 v2_38 v3_39 h H locs ls hP hD hS hl
          exact ih _ _ _ _ h _ _ _ hP hD hS (lv_sub hl [0, 1, 2, 3] rfl)
set_option maxHeartbeats 4000000 in
theorem ct_M_spades {l : Launch} {V : evT} {D : va_G} {gI : Nat → ClassId} {o : Nat} {ad : Nat → Nat} {fd : Nat → Int32} {ar : Nat → Nat → Int32} {lw : Nat → Int64} {Q : Int32 → (Nat → Int32) → (Nat → Nat → Int32) → (Nat → Int64) → Prop} (h : wp_M_spades fd ar lw Q) : ct_i l V D vwCl (tyL gI) yX3_spades cX3_spades 6 .int { frames := 6, cells := 0, slots := 0, locals := 126 } [.ref o] (wm gI o ad fd ar lw) (fun u : (Nat → Int32) × (Nat → Nat → Int32) × (Nat → Int64) => (wm gI o ad u.1 u.2.1 u.2.2)) (fun (x : Int32) (u : (Nat → Int32) × (Nat → Nat → Int32) × (Nat → Int64)) => Q x u.1 u.2.1 u.2.2) := by
  refine ct_ofi RX3 rfl (by decide +kernel) (Nat.le_of_ble_eq_true rfl) ?_
  intro p e s m args below meth c A F hP hD ls hl
  obtain ⟨⟨hx, hb, hml, hown, hts⟩, hr, hlocks, hA, hK, hE⟩ := id F
  have hS : va_S A s.heap s.heap [] := va_S.rf
  have hl : lv_has ls 6 [(0, .ref o)] := hl
  have hRf : 6 ≤ ({ frames := 6, cells := 0, slots := 0, locals := 126 } : Room).frames := Nat.le_refl _
  have hRl : 126 ≤ ({ frames := 6, cells := 0, slots := 0, locals := 126 } : Room).locals := Nat.le_refl _
  have hC : 0 ≤ ({ frames := 6, cells := 0, slots := 0, locals := 126 } : Room).cells := Nat.le_refl _
  have hSl : 0 ≤ ({ frames := 6, cells := 0, slots := 0, locals := 126 } : Room).slots := Nat.le_refl _
  unfold wp_M_spades at h
  refine lv_aload_n hx hb dX3_spades_0 rfl (lv_at hl 0 rfl) ?_
  refine lv_iconst (v := (0 : Int32)) hx hb dX3_spades_1 (by decide) ?_
  refine pt_put (v := .int (0 : Int32)) hx hb hts in_X3 tyX3 tyX3_ok nmX3 hown hK hP hD hS 0 rfl rfl 0 (Nat.le_of_ble_eq_true rfl) (hts _ q1218) (fun _ h => h) rfl (ty := .int) (by decide +kernel) rfl rfl (Nat.le_of_ble_eq_true rfl) dX3_spades_2 wmF_0 (fun H locs hP hD hS => ?_)
  refine lv_aload_n hx hb dX3_spades_5 rfl (lv_at hl 0 rfl) ?_
  refine cl_v F (va_runV (As := []) (rest := []) ⟨hx, hb, hml, hown, hts⟩ (ct_M_puts h _) (cwV 0 hts (lw_V q1701 q1703 qs80 q97 q1704) rfl rfl rfl (by decide +kernel) ⟨Nat.le_trans (Nat.le_of_ble_eq_true rfl) hRf, Nat.le_trans (Nat.le_of_ble_eq_true rfl) hRl⟩) ⟨ct_blind, va_recv hK hP (ci := 2) (q0 := 0) rfl rfl, ct_at F hS hP hD⟩ rfl rfl hl.1 rfl (lv_room (Nat.le_of_ble_eq_true rfl)) dX3_spades_6 ⟨hC, hSl⟩) rfl rfl hD hS ?_
  rintro ar1 H locs h hP hD hS
  refine lv_iconst (v := (0 : Int32)) hx hb dX3_spades_9 (by decide) ?_
  refine lv_istore_n (lv' := [(1, .int (0 : Int32)), (0, .ref o)]) hx hb dX3_spades_10 rfl hl (by decide) rfl (fun ls hl => ?_)
  refine lv_iconst (v := (-1 : Int32)) hx hb dX3_spades_11 (by decide) ?_
  refine lv_istore_n (lv' := [(2, .int (-1 : Int32)), (1, .int (0 : Int32)), (0, .ref o)]) hx hb dX3_spades_12 rfl hl (by decide) rfl (fun ls hl => ?_)
  refine lv_iconst (v := (0 : Int32)) hx hb dX3_spades_13 (by decide) ?_
  refine lv_istore_n (lv' := [(3, .int (0 : Int32)), (2, .int (-1 : Int32)), (1, .int (0 : Int32)), (0, .ref o)]) hx hb dX3_spades_14 rfl hl (by decide) rfl (fun ls hl => ?_)
  obtain ⟨k15, h⟩ := h
  refine lp_M_spades_L1 F hRf hRl hC hSl ?hk114 k15 _ _ _ _ h _ _ _ hP hD hS (lv_sub hl [3, 2, 1, 0] rfl)
  case hk114 =>
    intro v1_42 v2_43 ar_44 h H locs ls hP hD hS hl
    refine lv_aload_n hx hb dX3_spades_114 rfl (lv_at hl 0 rfl) ?_
    refine lv_iconst (v := (0 : Int32)) hx hb dX3_spades_115 (by decide) ?_
    refine pt_put (v := .int (0 : Int32)) hx hb hts in_X3 tyX3 tyX3_ok nmX3 hown hK hP hD hS 0 rfl rfl 1 (Nat.le_of_ble_eq_true rfl) (hts _ q1219) (fun _ h => h) rfl (ty := .int) (by decide +kernel) rfl rfl (Nat.le_of_ble_eq_true rfl) dX3_spades_116 wmF_1 (fun H locs hP hD hS => ?_)
    refine lv_aload_n hx hb dX3_spades_119 rfl (lv_at hl 0 rfl) ?_
    refine lv_iload_n hx hb dX3_spades_120 rfl (lv_at hl 1 rfl) ?_
    refine lv_i2l (v := (v1_42.toInt64)) hx hb dX3_spades_121 rfl ?_
    refine cl_v F (va_runV (As := [.long (v1_42.toInt64)]) (rest := []) ⟨hx, hb, hml, hown, hts⟩ (ct_M_enters h _) (cwV 1 hts (lw_V q1634 q1636 qs70 q97 q1637) rfl rfl rfl (by decide +kernel) ⟨Nat.le_trans (Nat.le_of_ble_eq_true rfl) hRf, Nat.le_trans (Nat.le_of_ble_eq_true rfl) hRl⟩) ⟨ct_blind, va_recv hK hP (ci := 2) (q0 := 0) rfl rfl, ct_at F hS hP hD⟩ rfl rfl hl.1 rfl (lv_room (Nat.le_of_ble_eq_true rfl)) dX3_spades_122 ⟨hC, hSl⟩) rfl rfl hD hS ?_
    rintro ⟨fd45, lw46⟩ H locs h hP hD hS
    refine lv_iload_n hx hb dX3_spades_125 rfl (lv_at hl 2 rfl) ?_
    exact rt_i F dX3_spades_126 rfl (fd45, ar_44, lw46) h hP hD hS (Nat.le_refl _) (Nat.le_refl _)
set_option maxHeartbeats 4000000 in
theorem lp_M_summers_J2 {p : Program} {l : Launch} {e : Env} {R : Room} {s : State} {m : MethodId} {args : Array Value} {below : List Frame} {meth : Method} {c : Code} {cells slots : Nat} {A : Nat → Prop} {Qf : State → Prop} {V : evT} {D : va_G} {gI : Nat → ClassId} {o : Nat} {ad : Nat → Nat} {v2 : Int32} {fd : Nat → Int32} {ar : Nat → Nat → Int32} {lw : Nat → Int64} {K33 : (Int32) → (Int32) → Prop} (F : ct_F p m c meth cX3_summers 7 s args RX3 (some .int) A V D vwCl (tyL gI)) (hRf : 6 ≤ R.frames) (hRl : 126 ≤ R.locals) (hC : cells ≤ R.cells) (hSl : slots ≤ R.slots)
    (hK33 : ∀ (v3 : Int32) (v4 : Int32), K33 v3 v4 → ∀ (H : Heap) (locs : List Loc) (ls : Array Slot), va_P D vwCl (wm gI o ad fd ar lw) H → va_D A (wm gI o ad fd ar lw) → va_S A s.heap H locs → lv_has ls 7 [(0, .ref o), (2, .int v2), (3, .int v3), (4, .int v4)] → W p l e R s m args below meth c H locs cells slots Qf (F0 m 33 ls [])) :
    ∀ (v4 : Int32) (t0 : Int32) (t1 : Int32), wp_M_summers_J2 v2 fd ar lw K33 v4 t0 t1 → ∀ (H : Heap) (locs : List Loc) (ls : Array Slot), va_P D vwCl (wm gI o ad fd ar lw) H → va_D A (wm gI o ad fd ar lw) → va_S A s.heap H locs → lv_has ls 7 [(0, .ref o), (2, .int v2), (4, .int v4)] → W p l e R s m args below meth c H locs cells slots Qf (F0 m 86 ls [.int t0, .int t1]) := by
  obtain ⟨⟨hx, hb, hml, hown, hts⟩, hr, hlocks, hA, hK, hE⟩ := id F
  intro v4 t0 t1 h H locs ls hP hD hS hl
  unfold wp_M_summers_J2 at h
  refine cl_i0 F (va_runS (As := [.int t0]) (rest := [.int t1]) ⟨hx, hb, hml, hown, hts⟩ (ct_X3_flag h _) (va_cwS 1 hts (lw_S q1407 q1408 q97 q1409) rfl rfl rfl (by decide +kernel) ⟨Nat.le_trans (Nat.le_of_ble_eq_true rfl) hRf, Nat.le_trans (Nat.le_of_ble_eq_true rfl) hRl⟩) ⟨ct_blind, ct_at F hS ct_nP ct_nD⟩ rfl rfl hl.1 rfl (lv_room (Nat.le_of_ble_eq_true rfl)) dX3_summers_86 ⟨hC, hSl⟩) rfl rfl hP hS ?_
  rintro x15 _ H locs h hP hS
  refine lv_iadd hx hb dX3_summers_89 ?_
  refine lv_istore_n (lv' := [(3, .int (t1 + x15)), (0, .ref o), (2, .int v2), (4, .int v4)]) hx hb dX3_summers_90 rfl hl (by decide) rfl (fun ls hl => ?_)
  refine lv_goto (tgt := 130) hx hb dX3_summers_91 (by decide) ?_
  refine lv_iinc (v := (v4 + (1 : Int32))) (lv' := [(4, .int (v4 + (1 : Int32))), (3, .int (t1 + x15)), (0, .ref o), (2, .int v2)]) hx hb dX3_summers_130 hl (k := 3) rfl rfl (by decide) rfl (fun ls hl => ?_)
  refine lv_goto (tgt := 33) hx hb dX3_summers_133 (by decide) ?_
  exact hK33 _ _ h _ _ _ hP hD hS (lv_sub hl [2, 3, 1, 0] rfl)
set_option maxHeartbeats 4000000 in
theorem lp_M_summers_L1 {p : Program} {l : Launch} {e : Env} {R : Room} {s : State} {m : MethodId} {args : Array Value} {below : List Frame} {meth : Method} {c : Code} {cells slots : Nat} {A : Nat → Prop} {Qf : State → Prop} {V : evT} {D : va_G} {gI : Nat → ClassId} {o : Nat} {ad : Nat → Nat} {v2 : Int32} {lw : Nat → Int64} {K136 : (Int32) → (Nat → Int32) → (Nat → Nat → Int32) → Prop} (F : ct_F p m c meth cX3_summers 7 s args RX3 (some .int) A V D vwCl (tyL gI)) (hRf : 6 ≤ R.frames) (hRl : 126 ≤ R.locals) (hC : cells ≤ R.cells) (hSl : slots ≤ R.slots)
    (hK136 : ∀ (v3 : Int32) (fd : Nat → Int32) (ar : Nat → Nat → Int32), K136 v3 fd ar → ∀ (H : Heap) (locs : List Loc) (ls : Array Slot), va_P D vwCl (wm gI o ad fd ar lw) H → va_D A (wm gI o ad fd ar lw) → va_S A s.heap H locs → lv_has ls 7 [(0, .ref o), (3, .int v3)] → W p l e R s m args below meth c H locs cells slots Qf (F0 m 136 ls [])) :
    ∀ (n : Nat) (v3 : Int32) (v4 : Int32) (fd : Nat → Int32) (ar : Nat → Nat → Int32), wp_M_summers_L1 v2 lw K136 n v3 v4 fd ar → ∀ (H : Heap) (locs : List Loc) (ls : Array Slot), va_P D vwCl (wm gI o ad fd ar lw) H → va_D A (wm gI o ad fd ar lw) → va_S A s.heap H locs → lv_has ls 7 [(0, .ref o), (2, .int v2), (3, .int v3), (4, .int v4)] → W p l e R s m args below meth c H locs cells slots Qf (F0 m 33 ls []) := by
  obtain ⟨⟨hx, hb, hml, hown, hts⟩, hr, hlocks, hA, hK, hE⟩ := id F
  intro n
  induction n with
  | zero => intro v3 v4 fd ar h; exact h.elim
  | succ n ih =>
    intro v3 v4 fd ar h H locs ls hP hD hS hl
    unfold wp_M_summers_L1 at h
    refine lv_iload hx hb dX3_summers_33 (lv_at hl 3 rfl) ?_
    refine lv_iload_n hx hb dX3_summers_35 rfl (lv_at hl 1 rfl) ?_
    refine lv_icmp_ge (tgt := 136) hx hb dX3_summers_36 (by decide) (fun c25 => ?_) (fun c25 => ?_)
    · replace h := h.1 c25
      exact hK136 _ _ _ h _ _ _ hP hD hS (lv_sub hl [0, 2] rfl)
    · replace h := h.2 c25
      refine lv_aload_n hx hb dX3_summers_39 rfl (lv_at hl 0 rfl) ?_
      refine lv_iconst (v := (4 : Int32)) hx hb dX3_summers_40 (by decide) ?_
      refine cl_i F (va_runV (As := [.int (4 : Int32)]) (rest := []) ⟨hx, hb, hml, hown, hts⟩ (ct_M_draws h _) (cwV 1 hts (lw_V q1840 q1842 qs92 q97 q1843) rfl rfl rfl (by decide +kernel) ⟨Nat.le_trans (Nat.le_of_ble_eq_true rfl) hRf, Nat.le_trans (Nat.le_of_ble_eq_true rfl) hRl⟩) ⟨ct_blind, va_recv hK hP (ci := 2) (q0 := 0) rfl rfl, ct_at F hS hP hD⟩ rfl rfl hl.1 rfl (lv_room (Nat.le_of_ble_eq_true rfl)) dX3_summers_41 ⟨hC, hSl⟩) rfl rfl hD hS ?_
      rintro x3 fd4 H locs h hP hD hS
      refine lv_istore (lv' := [(5, .int x3), (0, .ref o), (2, .int v2), (3, .int v3), (4, .int v4)]) hx hb dX3_summers_44 hl (by decide) rfl (fun ls hl => ?_)
      refine lv_iload hx hb dX3_summers_46 (lv_at hl 0 rfl) ?_
      refine lv_iconst (v := (2 : Int32)) hx hb dX3_summers_48 (by decide) ?_
      refine lv_icmp_ge (tgt := 63) hx hb dX3_summers_49 (by decide) (fun c24 => ?_) (fun c24 => ?_)
      · replace h := h.1 c24
        refine lv_iload hx hb dX3_summers_63 (lv_at hl 0 rfl) ?_
        refine lv_iconst (v := (3 : Int32)) hx hb dX3_summers_65 (by decide) ?_
        refine lv_icmp_ne (tgt := 94) hx hb dX3_summers_66 (by decide) (fun c21 => ?_) (fun c21 => ?_)
        · replace h := h.1 c21
          refine lv_aload_n hx hb dX3_summers_94 rfl (lv_at hl 1 rfl) ?_
          refine va_get hx hb hts in_X3 hown hK hP 0 rfl rfl 4 (Nat.le_of_ble_eq_true rfl) (hts _ q1222) (fun _ h => h) (v := .int (fd4 4)) rfl dX3_summers_95 ?_
          refine lv_if_le (tgt := 130) hx hb dX3_summers_98 (by decide) (fun c11 => ?_) (fun c11 => ?_)
          · replace h := h.1 c11
            refine lv_iinc (v := (v4 + (1 : Int32))) (lv' := [(4, .int (v4 + (1 : Int32))), (5, .int x3), (0, .ref o), (2, .int v2), (3, .int v3)]) hx hb dX3_summers_130 hl (k := 4) rfl rfl (by decide) rfl (fun ls hl => ?_)
            refine lv_goto (tgt := 33) hx hb dX3_summers_133 (by decide) ?_
            exact ih _ _ _ _ h _ _ _ hP hD hS (lv_sub hl [2, 3, 4, 0] rfl)
          · replace h := h.2 c11
            refine lv_aload_n hx hb dX3_summers_101 rfl (lv_at hl 1 rfl) ?_
            refine lv_aload_n hx hb dX3_summers_102 rfl (lv_at hl 1 rfl) ?_
            refine va_get hx hb hts in_X3 hown hK hP 0 rfl rfl 4 (Nat.le_of_ble_eq_true rfl) (hts _ q1222) (fun _ h => h) (v := .int (fd4 4)) rfl dX3_summers_103 ?_
            refine cl_i F (va_runV (As := [.int (fd4 4)]) (rest := []) ⟨hx, hb, hml, hown, hts⟩ (ct_M_draws h _) (cwV 1 hts (lw_V q1840 q1842 qs92 q97 q1843) rfl rfl rfl (by decide +kernel) ⟨Nat.le_trans (Nat.le_of_ble_eq_true rfl) hRf, Nat.le_trans (Nat.le_of_ble_eq_true rfl) hRl⟩) ⟨ct_blind, va_recv hK hP (ci := 2) (q0 := 0) rfl rfl, ct_at F hS hP hD⟩ rfl rfl hl.1 rfl (lv_room (Nat.le_of_ble_eq_true rfl)) dX3_summers_106 ⟨hC, hSl⟩) rfl rfl hD hS ?_
            rintro x5 fd6 H locs h hP hD hS
            refine lv_istore (lv' := [(6, .int x5), (5, .int x3), (0, .ref o), (2, .int v2), (3, .int v3), (4, .int v4)]) hx hb dX3_summers_109 hl (by decide) rfl (fun ls hl => ?_)
            refine lv_aload_n hx hb dX3_summers_111 rfl (lv_at hl 2 rfl) ?_
            refine lv_aload_n hx hb dX3_summers_112 rfl (lv_at hl 2 rfl) ?_
            refine va_get hx hb hts in_X3 hown hK hP 0 rfl rfl 13 (Nat.le_of_ble_eq_true rfl) (hts _ q1231) (fun _ h => h) (v := .ref (ad 13)) rfl dX3_summers_113 ?_
            refine lv_iload hx hb dX3_summers_116 (lv_at hl 0 rfl) ?_
            refine lv_aload_n hx hb dX3_summers_118 rfl (lv_at hl 2 rfl) ?_
            refine lv_aload_n hx hb dX3_summers_119 rfl (lv_at hl 2 rfl) ?_
            refine va_get hx hb hts in_X3 hown hK hP 0 rfl rfl 3 (Nat.le_of_ble_eq_true rfl) (hts _ q1221) (fun _ h => h) (v := .int (fd6 3)) rfl dX3_summers_120 ?_
            refine cl_i F (va_runV (As := [.int (fd6 3)]) (rest := [.int x5, .ref (ad 13), .ref o]) ⟨hx, hb, hml, hown, hts⟩ (ct_M_draws h _) (cwV 1 hts (lw_V q1840 q1842 qs92 q97 q1843) rfl rfl rfl (by decide +kernel) ⟨Nat.le_trans (Nat.le_of_ble_eq_true rfl) hRf, Nat.le_trans (Nat.le_of_ble_eq_true rfl) hRl⟩) ⟨ct_blind, va_recv hK hP (ci := 2) (q0 := 0) rfl rfl, ct_at F hS hP hD⟩ rfl rfl hl.1 rfl (lv_room (Nat.le_of_ble_eq_true rfl)) dX3_summers_123 ⟨hC, hSl⟩) rfl rfl hD hS ?_
            rintro x7 fd8 H locs h hP hD hS
            refine cl_i F (va_runV (As := [.ref (ad 13), .int x5, .int x7]) (rest := []) ⟨hx, hb, hml, hown, hts⟩ (ct_M_goes_i13 h _) (cwV 3 hts (lw_V q1573 q1575 qs60 q97 q1576) rfl rfl rfl (by decide +kernel) ⟨Nat.le_trans (Nat.le_of_ble_eq_true rfl) hRf, Nat.le_trans (Nat.le_of_ble_eq_true rfl) hRl⟩) ⟨ct_blind, va_recv hK hP (ci := 2) (q0 := 0) rfl rfl, ct_at F hS hP hD⟩ rfl rfl hl.1 rfl (lv_room (Nat.le_of_ble_eq_true rfl)) dX3_summers_126 ⟨hC, hSl⟩) rfl rfl hD hS ?_
            rintro x9 ar10 H locs h hP hD hS
            refine lv_pop hx hb dX3_summers_129 rfl ?_
            refine lv_iinc (v := (v4 + (1 : Int32))) (lv' := [(4, .int (v4 + (1 : Int32))), (6, .int x5), (5, .int x3), (0, .ref o), (2, .int v2), (3, .int v3)]) hx hb dX3_summers_130 hl (k := 5) rfl rfl (by decide) rfl (fun ls hl => ?_)
            refine lv_goto (tgt := 33) hx hb dX3_summers_133 (by decide) ?_
            exact ih _ _ _ _ h _ _ _ hP hD hS (lv_sub hl [3, 4, 5, 0] rfl)
        · replace h := h.2 c21
          refine lv_iload_n hx hb dX3_summers_69 rfl (lv_at hl 3 rfl) ?_
          refine lv_aload_n hx hb dX3_summers_70 rfl (lv_at hl 1 rfl) ?_
          refine lv_aload_n hx hb dX3_summers_71 rfl (lv_at hl 1 rfl) ?_
          refine va_get hx hb hts in_X3 hown hK hP 0 rfl rfl 13 (Nat.le_of_ble_eq_true rfl) (hts _ q1231) (fun _ h => h) (v := .ref (ad 13)) rfl dX3_summers_72 ?_
          refine cl_i F (va_runV (As := [.ref (ad 13)]) (rest := [.int v3]) ⟨hx, hb, hml, hown, hts⟩ (ct_M_tideComes_i13 h _) (cwV 1 hts (lw_V q1646 q1648 qs72 q97 q1649) rfl rfl rfl (by decide +kernel) ⟨Nat.le_trans (Nat.le_of_ble_eq_true rfl) hRf, Nat.le_trans (Nat.le_of_ble_eq_true rfl) hRl⟩) ⟨ct_blind, va_recv hK hP (ci := 2) (q0 := 0) rfl rfl, ct_at F hS hP hD⟩ rfl rfl hl.1 rfl (lv_room (Nat.le_of_ble_eq_true rfl)) dX3_summers_75 ⟨hC, hSl⟩) rfl rfl hD hS ?_
          rintro x12 ⟨fd13, ar14⟩ H locs h hP hD hS
          refine lv_if_eq (tgt := 85) hx hb dX3_summers_78 (by decide) (fun c20 => ?_) (fun c20 => ?_)
          · replace h := h.1 c20
            refine lv_iconst (v := (0 : Int32)) hx hb dX3_summers_85 (by decide) ?_
            refine lp_M_summers_J2 F hRf hRl hC hSl ?hk33 _ _ _ h _ _ _ hP hD hS (lv_sub hl [1, 2, 4] rfl)
            case hk33 =>
              intro v3_16 v4_17 h H locs ls hP hD hS hl
              exact ih _ _ _ _ h _ _ _ hP hD hS (lv_sub hl [0, 1, 2, 3] rfl)
          · replace h := h.2 c20
            refine lv_iconst (v := (1 : Int32)) hx hb dX3_summers_81 (by decide) ?_
            refine lv_goto (tgt := 86) hx hb dX3_summers_82 (by decide) ?_
            refine lp_M_summers_J2 F hRf hRl hC hSl ?hk33 _ _ _ h _ _ _ hP hD hS (lv_sub hl [1, 2, 4] rfl)
            case hk33 =>
              intro v3_18 v4_19 h H locs ls hP hD hS hl
              exact ih _ _ _ _ h _ _ _ hP hD hS (lv_sub hl [0, 1, 2, 3] rfl)
      · replace h := h.2 c24
        refine lv_aload_n hx hb dX3_summers_52 rfl (lv_at hl 1 rfl) ?_
        refine lv_aload_n hx hb dX3_summers_53 rfl (lv_at hl 1 rfl) ?_
        refine va_get hx hb hts in_X3 hown hK hP 0 rfl rfl 13 (Nat.le_of_ble_eq_true rfl) (hts _ q1231) (fun _ h => h) (v := .ref (ad 13)) rfl dX3_summers_54 ?_
        refine cl_v F (va_runV (As := [.ref (ad 13)]) (rest := []) ⟨hx, hb, hml, hown, hts⟩ (ct_M_spellGoes_i13 h _) (cwV 1 hts (lw_V q1630 q1632 qs69 q97 q1633) rfl rfl rfl (by decide +kernel) ⟨Nat.le_trans (Nat.le_of_ble_eq_true rfl) hRf, Nat.le_trans (Nat.le_of_ble_eq_true rfl) hRl⟩) ⟨ct_blind, va_recv hK hP (ci := 2) (q0 := 0) rfl rfl, ct_at F hS hP hD⟩ rfl rfl hl.1 rfl (lv_room (Nat.le_of_ble_eq_true rfl)) dX3_summers_57 ⟨hC, hSl⟩) rfl rfl hD hS ?_
        rintro ⟨fd22, ar23⟩ H locs h hP hD hS
        refine lv_goto (tgt := 130) hx hb dX3_summers_60 (by decide) ?_
        refine lv_iinc (v := (v4 + (1 : Int32))) (lv' := [(4, .int (v4 + (1 : Int32))), (5, .int x3), (0, .ref o), (2, .int v2), (3, .int v3)]) hx hb dX3_summers_130 hl (k := 4) rfl rfl (by decide) rfl (fun ls hl => ?_)
        refine lv_goto (tgt := 33) hx hb dX3_summers_133 (by decide) ?_
        exact ih _ _ _ _ h _ _ _ hP hD hS (lv_sub hl [2, 3, 4, 0] rfl)
set_option maxHeartbeats 4000000 in
theorem ct_M_summers {l : Launch} {V : evT} {D : va_G} {gI : Nat → ClassId} {o : Nat} {ad : Nat → Nat} {v1 : Int32} {v2 : Int32} {fd : Nat → Int32} {ar : Nat → Nat → Int32} {lw : Nat → Int64} {Q : Int32 → (Nat → Int32) → (Nat → Nat → Int32) → (Nat → Int64) → Prop} (h : wp_M_summers v1 v2 fd ar lw Q) : ct_i l V D vwCl (tyL gI) yX3_summers cX3_summers 7 .int { frames := 6, cells := 0, slots := 0, locals := 126 } [.ref o, .int v1, .int v2] (wm gI o ad fd ar lw) (fun u : (Nat → Int32) × (Nat → Nat → Int32) × (Nat → Int64) => (wm gI o ad u.1 u.2.1 u.2.2)) (fun (x : Int32) (u : (Nat → Int32) × (Nat → Nat → Int32) × (Nat → Int64)) => Q x u.1 u.2.1 u.2.2) := by
  refine ct_ofi RX3 rfl (by decide +kernel) (Nat.le_of_ble_eq_true rfl) ?_
  intro p e s m args below meth c A F hP hD ls hl
  obtain ⟨⟨hx, hb, hml, hown, hts⟩, hr, hlocks, hA, hK, hE⟩ := id F
  have hS : va_S A s.heap s.heap [] := va_S.rf
  have hl : lv_has ls 7 [(0, .ref o), (1, .int v1), (2, .int v2)] := hl
  have hRf : 6 ≤ ({ frames := 6, cells := 0, slots := 0, locals := 126 } : Room).frames := Nat.le_refl _
  have hRl : 126 ≤ ({ frames := 6, cells := 0, slots := 0, locals := 126 } : Room).locals := Nat.le_refl _
  have hC : 0 ≤ ({ frames := 6, cells := 0, slots := 0, locals := 126 } : Room).cells := Nat.le_refl _
  have hSl : 0 ≤ ({ frames := 6, cells := 0, slots := 0, locals := 126 } : Room).slots := Nat.le_refl _
  unfold wp_M_summers at h
  refine lv_aload_n hx hb dX3_summers_0 rfl (lv_at hl 0 rfl) ?_
  refine lv_iconst (v := (0 : Int32)) hx hb dX3_summers_1 (by decide) ?_
  refine pt_put (v := .int (0 : Int32)) hx hb hts in_X3 tyX3 tyX3_ok nmX3 hown hK hP hD hS 0 rfl rfl 0 (Nat.le_of_ble_eq_true rfl) (hts _ q1218) (fun _ h => h) rfl (ty := .int) (by decide +kernel) rfl rfl (Nat.le_of_ble_eq_true rfl) dX3_summers_2 wmF_0 (fun H locs hP hD hS => ?_)
  refine lv_iload_n hx hb dX3_summers_5 rfl (lv_at hl 2 rfl) ?_
  refine lv_i2l (v := (v2.toInt64)) hx hb dX3_summers_6 rfl ?_
  refine lv_lconst (v := (1 : Int64)) hx hb dX3_summers_7 (by decide) ?_
  refine lv_ldc2 (v := (60 : Int64)) hx hb hown (hts _ q1713) dX3_summers_8 ?_
  refine cl_i0 F (va_runS (As := [.long (v2.toInt64), .long (1 : Int64), .long (60 : Int64)]) (rest := []) ⟨hx, hb, hml, hown, hts⟩ (ct_X3_in h _) (va_cwS 3 hts (lw_S q1391 q1392 q97 q1393) rfl rfl rfl (by decide +kernel) ⟨Nat.le_trans (Nat.le_of_ble_eq_true rfl) hRf, Nat.le_trans (Nat.le_of_ble_eq_true rfl) hRl⟩) ⟨ct_blind, ct_at F hS ct_nP ct_nD⟩ rfl rfl hl.1 rfl (lv_room (Nat.le_of_ble_eq_true rfl)) dX3_summers_11 ⟨hC, hSl⟩) rfl rfl hP hS ?_
  rintro x1 _ H locs h hP hS
  refine lv_if_ne (tgt := 19) hx hb dX3_summers_14 (by decide) (fun c37 => ?_) (fun c37 => ?_)
  · replace h := h.1 c37
    refine lv_aload_n hx hb dX3_summers_19 rfl (lv_at hl 0 rfl) ?_
    refine lv_iload_n hx hb dX3_summers_20 rfl (lv_at hl 1 rfl) ?_
    refine pt_put (v := .int v1) hx hb hts in_X3 tyX3 tyX3_ok nmX3 hown hK hP hD hS 0 rfl rfl 49 (Nat.le_of_ble_eq_true rfl) (hts _ q1267) (fun _ h => h) rfl (ty := .int) (by decide +kernel) rfl rfl (Nat.le_of_ble_eq_true rfl) dX3_summers_21 wmF_49 (fun H locs hP hD hS => ?_)
    refine lv_iconst (v := (0 : Int32)) hx hb dX3_summers_24 (by decide) ?_
    refine lv_istore_n (lv' := [(3, .int (0 : Int32)), (0, .ref o), (1, .int v1), (2, .int v2)]) hx hb dX3_summers_25 rfl hl (by decide) rfl (fun ls hl => ?_)
    refine lv_aload_n hx hb dX3_summers_26 rfl (lv_at hl 1 rfl) ?_
    refine cl_v F (va_runV (As := []) (rest := []) ⟨hx, hb, hml, hown, hts⟩ (ct_M_puts h _) (cwV 0 hts (lw_V q1701 q1703 qs80 q97 q1704) rfl rfl rfl (by decide +kernel) ⟨Nat.le_trans (Nat.le_of_ble_eq_true rfl) hRf, Nat.le_trans (Nat.le_of_ble_eq_true rfl) hRl⟩) ⟨ct_blind, va_recv hK hP (ci := 2) (q0 := 0) rfl rfl, ct_at F hS hP hD⟩ rfl rfl hl.1 rfl (lv_room (Nat.le_of_ble_eq_true rfl)) dX3_summers_27 ⟨hC, hSl⟩) rfl rfl hD hS ?_
    rintro ar2 H locs h hP hD hS
    refine lv_iconst (v := (0 : Int32)) hx hb dX3_summers_30 (by decide) ?_
    refine lv_istore (lv' := [(4, .int (0 : Int32)), (3, .int (0 : Int32)), (0, .ref o), (1, .int v1), (2, .int v2)]) hx hb dX3_summers_31 hl (by decide) rfl (fun ls hl => ?_)
    obtain ⟨k33, h⟩ := h
    refine lp_M_summers_L1 F hRf hRl hC hSl ?hk136 k33 _ _ _ _ h _ _ _ hP hD hS (lv_sub hl [2, 4, 1, 0] rfl)
    case hk136 =>
      intro v3_26 fd_27 ar_28 h H locs ls hP hD hS hl
      refine lv_aload_n hx hb dX3_summers_136 rfl (lv_at hl 0 rfl) ?_
      refine lv_iconst (v := (0 : Int32)) hx hb dX3_summers_137 (by decide) ?_
      refine pt_put (v := .int (0 : Int32)) hx hb hts in_X3 tyX3 tyX3_ok nmX3 hown hK hP hD hS 0 rfl rfl 1 (Nat.le_of_ble_eq_true rfl) (hts _ q1219) (fun _ h => h) rfl (ty := .int) (by decide +kernel) rfl rfl (Nat.le_of_ble_eq_true rfl) dX3_summers_138 wmF_1 (fun H locs hP hD hS => ?_)
      refine lv_aload_n hx hb dX3_summers_141 rfl (lv_at hl 0 rfl) ?_
      refine lv_aload_n hx hb dX3_summers_142 rfl (lv_at hl 0 rfl) ?_
      refine lv_aload_n hx hb dX3_summers_143 rfl (lv_at hl 0 rfl) ?_
      refine va_get hx hb hts in_X3 hown hK hP 0 rfl rfl 13 (Nat.le_of_ble_eq_true rfl) (hts _ q1231) (fun _ h => h) (v := .ref (ad 13)) rfl dX3_summers_144 ?_
      refine cl_i F (va_runV (As := [.ref (ad 13)]) (rest := [.ref o]) ⟨hx, hb, hml, hown, hts⟩ (ct_M_wet_i13 h _) (cwV 1 hts (lw_V q1674 q1676 qs77 q97 q1677) rfl rfl rfl (by decide +kernel) ⟨Nat.le_trans (Nat.le_of_ble_eq_true rfl) hRf, Nat.le_trans (Nat.le_of_ble_eq_true rfl) hRl⟩) ⟨ct_blind, va_recv hK hP (ci := 2) (q0 := 0) rfl rfl, ct_at F hS hP hD⟩ rfl rfl hl.1 rfl (lv_room (Nat.le_of_ble_eq_true rfl)) dX3_summers_147 ⟨hC, hSl⟩) rfl rfl hD hS ?_
      rintro x29 _ H locs h hP hD hS
      refine cl_i0 F (va_runS (As := [.int x29]) (rest := [.ref o]) ⟨hx, hb, hml, hown, hts⟩ (ct_J10_bitCount h _) (va_cwS 1 hts (lw_S q1552 q586 q112 q587) rfl rfl rfl (by decide +kernel) ⟨Nat.le_trans (Nat.le_of_ble_eq_true rfl) hRf, Nat.le_trans (Nat.le_of_ble_eq_true rfl) hRl⟩) ⟨ct_blind, ct_at F hS ct_nP ct_nD⟩ rfl rfl hl.1 rfl (lv_room (Nat.le_of_ble_eq_true rfl)) dX3_summers_150 ⟨hC, hSl⟩) rfl rfl hP hS ?_
      rintro x30 _ H locs h hP hS
      refine lv_i2l (v := (x30.toInt64)) hx hb dX3_summers_153 rfl ?_
      refine cl_v F (va_runV (As := [.long (x30.toInt64)]) (rest := []) ⟨hx, hb, hml, hown, hts⟩ (ct_M_enters h _) (cwV 1 hts (lw_V q1634 q1636 qs70 q97 q1637) rfl rfl rfl (by decide +kernel) ⟨Nat.le_trans (Nat.le_of_ble_eq_true rfl) hRf, Nat.le_trans (Nat.le_of_ble_eq_true rfl) hRl⟩) ⟨ct_blind, va_recv hK hP (ci := 2) (q0 := 0) rfl rfl, ct_at F hS hP hD⟩ rfl rfl hl.1 rfl (lv_room (Nat.le_of_ble_eq_true rfl)) dX3_summers_154 ⟨hC, hSl⟩) rfl rfl hD hS ?_
      rintro ⟨fd31, lw32⟩ H locs h hP hD hS
      refine lv_aload_n hx hb dX3_summers_157 rfl (lv_at hl 0 rfl) ?_
      refine lv_aload_n hx hb dX3_summers_158 rfl (lv_at hl 0 rfl) ?_
      refine lv_aload_n hx hb dX3_summers_159 rfl (lv_at hl 0 rfl) ?_
      refine va_get hx hb hts in_X3 hown hK hP 0 rfl rfl 13 (Nat.le_of_ble_eq_true rfl) (hts _ q1231) (fun _ h => h) (v := .ref (ad 13)) rfl dX3_summers_160 ?_
      refine lv_iconst (v := (-1 : Int32)) hx hb dX3_summers_163 (by decide) ?_
      refine cl_i F (va_runV (As := [.ref (ad 13), .int (-1 : Int32)]) (rest := [.ref o]) ⟨hx, hb, hml, hown, hts⟩ (ct_M_childrenAt_i13 h _) (cwV 2 hts (lw_V q1513 q1515 qs53 q97 q1516) rfl rfl rfl (by decide +kernel) ⟨Nat.le_trans (Nat.le_of_ble_eq_true rfl) hRf, Nat.le_trans (Nat.le_of_ble_eq_true rfl) hRl⟩) ⟨ct_blind, va_recv hK hP (ci := 2) (q0 := 0) rfl rfl, ct_at F hS hP hD⟩ rfl rfl hl.1 rfl (lv_room (Nat.le_of_ble_eq_true rfl)) dX3_summers_164 ⟨hC, hSl⟩) rfl rfl hD hS ?_
      rintro x33 _ H locs h hP hD hS
      refine cl_i0 F (va_runS (As := [.int x33]) (rest := [.ref o]) ⟨hx, hb, hml, hown, hts⟩ (ct_J10_bitCount h _) (va_cwS 1 hts (lw_S q1552 q586 q112 q587) rfl rfl rfl (by decide +kernel) ⟨Nat.le_trans (Nat.le_of_ble_eq_true rfl) hRf, Nat.le_trans (Nat.le_of_ble_eq_true rfl) hRl⟩) ⟨ct_blind, ct_at F hS ct_nP ct_nD⟩ rfl rfl hl.1 rfl (lv_room (Nat.le_of_ble_eq_true rfl)) dX3_summers_167 ⟨hC, hSl⟩) rfl rfl hP hS ?_
      rintro x34 _ H locs h hP hS
      refine lv_i2l (v := (x34.toInt64)) hx hb dX3_summers_170 rfl ?_
      refine cl_v F (va_runV (As := [.long (x34.toInt64)]) (rest := []) ⟨hx, hb, hml, hown, hts⟩ (ct_M_enters h _) (cwV 1 hts (lw_V q1634 q1636 qs70 q97 q1637) rfl rfl rfl (by decide +kernel) ⟨Nat.le_trans (Nat.le_of_ble_eq_true rfl) hRf, Nat.le_trans (Nat.le_of_ble_eq_true rfl) hRl⟩) ⟨ct_blind, va_recv hK hP (ci := 2) (q0 := 0) rfl rfl, ct_at F hS hP hD⟩ rfl rfl hl.1 rfl (lv_room (Nat.le_of_ble_eq_true rfl)) dX3_summers_171 ⟨hC, hSl⟩) rfl rfl hD hS ?_
      rintro ⟨fd35, lw36⟩ H locs h hP hD hS
      refine lv_iload_n hx hb dX3_summers_174 rfl (lv_at hl 1 rfl) ?_
      exact rt_i F dX3_summers_175 rfl (fd35, ar_28, lw36) h hP hD hS (Nat.le_refl _) (Nat.le_refl _)
  · replace h := h.2 c37
    refine lv_iconst (v := (-1 : Int32)) hx hb dX3_summers_17 (by decide) ?_
    exact rt_i F dX3_summers_18 rfl ((upd fd 0 (0 : Int32)), ar, lw) h hP hD hS (Nat.le_refl _) (Nat.le_refl _)
set_option maxHeartbeats 4000000 in
theorem ct_M_build {l : Launch} {V : evT} {D : va_G} {gI : Nat → ClassId} {o : Nat} {ad : Nat → Nat} {v1 : Int32} {fd : Nat → Int32} {ar : Nat → Nat → Int32} {lw : Nat → Int64} {Q : Int32 → (Nat → Int32) → (Nat → Nat → Int32) → (Nat → Int64) → Prop} (h : wp_M_build v1 fd ar lw Q) : ct_i l V D vwCl (tyL gI) yX3_build cX3_build 3 .int { frames := 7, cells := 0, slots := 0, locals := 149 } [.ref o, .int v1] (wm gI o ad fd ar lw) (fun u : (Nat → Int32) × (Nat → Nat → Int32) × (Nat → Int64) => (wm gI o ad u.1 u.2.1 u.2.2)) (fun (x : Int32) (u : (Nat → Int32) × (Nat → Nat → Int32) × (Nat → Int64)) => Q x u.1 u.2.1 u.2.2) := by
  refine ct_ofi RX3 rfl (by decide +kernel) (Nat.le_of_ble_eq_true rfl) ?_
  intro p e s m args below meth c A F hP hD ls hl
  obtain ⟨⟨hx, hb, hml, hown, hts⟩, hr, hlocks, hA, hK, hE⟩ := id F
  have hS : va_S A s.heap s.heap [] := va_S.rf
  have hl : lv_has ls 3 [(0, .ref o), (1, .int v1)] := hl
  have hRf : 7 ≤ ({ frames := 7, cells := 0, slots := 0, locals := 149 } : Room).frames := Nat.le_refl _
  have hRl : 149 ≤ ({ frames := 7, cells := 0, slots := 0, locals := 149 } : Room).locals := Nat.le_refl _
  have hC : 0 ≤ ({ frames := 7, cells := 0, slots := 0, locals := 149 } : Room).cells := Nat.le_refl _
  have hSl : 0 ≤ ({ frames := 7, cells := 0, slots := 0, locals := 149 } : Room).slots := Nat.le_refl _
  unfold wp_M_build at h
  refine lv_aload_n hx hb dX3_build_0 rfl (lv_at hl 0 rfl) ?_
  refine lv_iconst (v := (0 : Int32)) hx hb dX3_build_1 (by decide) ?_
  refine pt_put (v := .int (0 : Int32)) hx hb hts in_X3 tyX3 tyX3_ok nmX3 hown hK hP hD hS 0 rfl rfl 0 (Nat.le_of_ble_eq_true rfl) (hts _ q1218) (fun _ h => h) rfl (ty := .int) (by decide +kernel) rfl rfl (Nat.le_of_ble_eq_true rfl) dX3_build_2 wmF_0 (fun H locs hP hD hS => ?_)
  refine lv_iload_n hx hb dX3_build_5 rfl (lv_at hl 1 rfl) ?_
  refine lv_i2l (v := (v1.toInt64)) hx hb dX3_build_6 rfl ?_
  refine lv_lconst (v := (0 : Int64)) hx hb dX3_build_7 (by decide) ?_
  refine lv_ldc2 (v := (30 : Int64)) hx hb hown (hts _ q1621) dX3_build_8 ?_
  refine cl_i0 F (va_runS (As := [.long (v1.toInt64), .long (0 : Int64), .long (30 : Int64)]) (rest := []) ⟨hx, hb, hml, hown, hts⟩ (ct_X3_in h _) (va_cwS 3 hts (lw_S q1391 q1392 q97 q1393) rfl rfl rfl (by decide +kernel) ⟨Nat.le_trans (Nat.le_of_ble_eq_true rfl) hRf, Nat.le_trans (Nat.le_of_ble_eq_true rfl) hRl⟩) ⟨ct_blind, ct_at F hS ct_nP ct_nD⟩ rfl rfl hl.1 rfl (lv_room (Nat.le_of_ble_eq_true rfl)) dX3_build_11 ⟨hC, hSl⟩) rfl rfl hP hS ?_
  rintro x1 _ H locs h hP hS
  refine lv_if_ne (tgt := 19) hx hb dX3_build_14 (by decide) (fun c12 => ?_) (fun c12 => ?_)
  · replace h := h.1 c12
    refine lv_aload_n hx hb dX3_build_19 rfl (lv_at hl 0 rfl) ?_
    refine cl_v F (va_runV (As := []) (rest := []) ⟨hx, hb, hml, hown, hts⟩ (ct_M_putsBy h _) (cwV 0 hts (lw_V q1569 q1571 qs59 q97 q1572) rfl rfl rfl (by decide +kernel) ⟨Nat.le_trans (Nat.le_of_ble_eq_true rfl) hRf, Nat.le_trans (Nat.le_of_ble_eq_true rfl) hRl⟩) ⟨ct_blind, va_recv hK hP (ci := 2) (q0 := 0) rfl rfl, ct_at F hS hP hD⟩ rfl rfl hl.1 rfl (lv_room (Nat.le_of_ble_eq_true rfl)) dX3_build_20 ⟨hC, hSl⟩) rfl rfl hD hS ?_
    rintro ar2 H locs h hP hD hS
    refine lv_aload_n hx hb dX3_build_23 rfl (lv_at hl 0 rfl) ?_
    refine lv_aload_n hx hb dX3_build_24 rfl (lv_at hl 0 rfl) ?_
    refine va_get hx hb hts in_X3 hown hK hP 0 rfl rfl 12 (Nat.le_of_ble_eq_true rfl) (hts _ q1230) (fun _ h => h) (v := .ref (ad 12)) rfl dX3_build_25 ?_
    refine cl_i F (va_runV (As := [.ref (ad 12)]) (rest := []) ⟨hx, hb, hml, hown, hts⟩ (ct_M_wallAll_i12 h _) (cwV 1 hts (lw_V q1622 q1624 qs67 q97 q1625) rfl rfl rfl (by decide +kernel) ⟨Nat.le_trans (Nat.le_of_ble_eq_true rfl) hRf, Nat.le_trans (Nat.le_of_ble_eq_true rfl) hRl⟩) ⟨ct_blind, va_recv hK hP (ci := 2) (q0 := 0) rfl rfl, ct_at F hS hP hD⟩ rfl rfl hl.1 rfl (lv_room (Nat.le_of_ble_eq_true rfl)) dX3_build_28 ⟨hC, hSl⟩) rfl rfl hD hS ?_
    rintro x3 _ H locs h hP hD hS
    refine lv_istore_n (lv' := [(2, .int x3), (0, .ref o), (1, .int v1)]) hx hb dX3_build_31 rfl hl (by decide) rfl (fun ls hl => ?_)
    refine lv_aload_n hx hb dX3_build_32 rfl (lv_at hl 1 rfl) ?_
    refine lv_iconst (v := (0 : Int32)) hx hb dX3_build_33 (by decide) ?_
    refine pt_put (v := .int (0 : Int32)) hx hb hts in_X3 tyX3 tyX3_ok nmX3 hown hK hP hD hS 0 rfl rfl 29 (Nat.le_of_ble_eq_true rfl) (hts _ q1247) (fun _ h => h) rfl (ty := .int) (by decide +kernel) rfl rfl (Nat.le_of_ble_eq_true rfl) dX3_build_34 wmF_29 (fun H locs hP hD hS => ?_)
    refine lv_aload_n hx hb dX3_build_37 rfl (lv_at hl 1 rfl) ?_
    refine lv_aload_n hx hb dX3_build_38 rfl (lv_at hl 1 rfl) ?_
    refine va_get hx hb hts in_X3 hown hK hP 0 rfl rfl 12 (Nat.le_of_ble_eq_true rfl) (hts _ q1230) (fun _ h => h) (v := .ref (ad 12)) rfl dX3_build_39 ?_
    refine lv_iload_n hx hb dX3_build_42 rfl (lv_at hl 2 rfl) ?_
    refine cl_v F (va_runV (As := [.ref (ad 12), .int v1]) (rest := []) ⟨hx, hb, hml, hown, hts⟩ (ct_M_builds_i12 h _) (cwV 2 hts (lw_V q1626 q1628 qs68 q97 q1629) rfl rfl rfl (by decide +kernel) ⟨Nat.le_trans (Nat.le_of_ble_eq_true rfl) hRf, Nat.le_trans (Nat.le_of_ble_eq_true rfl) hRl⟩) ⟨ct_blind, va_recv hK hP (ci := 2) (q0 := 0) rfl rfl, ct_at F hS hP hD⟩ rfl rfl hl.1 rfl (lv_room (Nat.le_of_ble_eq_true rfl)) dX3_build_43 ⟨hC, hSl⟩) rfl rfl hD hS ?_
    rintro ⟨fd4, ar5⟩ H locs h hP hD hS
    refine lv_aload_n hx hb dX3_build_46 rfl (lv_at hl 1 rfl) ?_
    refine lv_iconst (v := (0 : Int32)) hx hb dX3_build_47 (by decide) ?_
    refine pt_put (v := .int (0 : Int32)) hx hb hts in_X3 tyX3 tyX3_ok nmX3 hown hK hP hD hS 0 rfl rfl 1 (Nat.le_of_ble_eq_true rfl) (hts _ q1219) (fun _ h => h) rfl (ty := .int) (by decide +kernel) rfl rfl (Nat.le_of_ble_eq_true rfl) dX3_build_48 wmF_1 (fun H locs hP hD hS => ?_)
    refine lv_aload_n hx hb dX3_build_51 rfl (lv_at hl 1 rfl) ?_
    refine lv_aload_n hx hb dX3_build_52 rfl (lv_at hl 1 rfl) ?_
    refine va_get hx hb hts in_X3 hown hK hP 0 rfl rfl 29 (Nat.le_of_ble_eq_true rfl) (hts _ q1247) (fun _ h => h) (v := .int (fd4 29)) rfl dX3_build_53 ?_
    refine lv_i2l (v := ((fd4 29).toInt64)) hx hb dX3_build_56 rfl ?_
    refine cl_v F (va_runV (As := [.long ((fd4 29).toInt64)]) (rest := []) ⟨hx, hb, hml, hown, hts⟩ (ct_M_enters h _) (cwV 1 hts (lw_V q1634 q1636 qs70 q97 q1637) rfl rfl rfl (by decide +kernel) ⟨Nat.le_trans (Nat.le_of_ble_eq_true rfl) hRf, Nat.le_trans (Nat.le_of_ble_eq_true rfl) hRl⟩) ⟨ct_blind, va_recv hK hP (ci := 2) (q0 := 0) rfl rfl, ct_at F hS hP hD⟩ rfl rfl hl.1 rfl (lv_room (Nat.le_of_ble_eq_true rfl)) dX3_build_57 ⟨hC, hSl⟩) rfl rfl hD hS ?_
    rintro ⟨fd6, lw7⟩ H locs h hP hD hS
    refine lv_aload_n hx hb dX3_build_60 rfl (lv_at hl 1 rfl) ?_
    refine lv_aload_n hx hb dX3_build_61 rfl (lv_at hl 1 rfl) ?_
    refine lv_aload_n hx hb dX3_build_62 rfl (lv_at hl 1 rfl) ?_
    refine va_get hx hb hts in_X3 hown hK hP 0 rfl rfl 12 (Nat.le_of_ble_eq_true rfl) (hts _ q1230) (fun _ h => h) (v := .ref (ad 12)) rfl dX3_build_63 ?_
    refine cl_i F (va_runV (As := [.ref (ad 12)]) (rest := [.ref o]) ⟨hx, hb, hml, hown, hts⟩ (ct_M_wallAll_i12 h _) (cwV 1 hts (lw_V q1622 q1624 qs67 q97 q1625) rfl rfl rfl (by decide +kernel) ⟨Nat.le_trans (Nat.le_of_ble_eq_true rfl) hRf, Nat.le_trans (Nat.le_of_ble_eq_true rfl) hRl⟩) ⟨ct_blind, va_recv hK hP (ci := 2) (q0 := 0) rfl rfl, ct_at F hS hP hD⟩ rfl rfl hl.1 rfl (lv_room (Nat.le_of_ble_eq_true rfl)) dX3_build_66 ⟨hC, hSl⟩) rfl rfl hD hS ?_
    rintro x8 _ H locs h hP hD hS
    refine lv_iload_n hx hb dX3_build_69 rfl (lv_at hl 0 rfl) ?_
    refine lv_isub hx hb dX3_build_70 ?_
    refine cl_i F (va_runV (As := [.int (x8 - x3)]) (rest := []) ⟨hx, hb, hml, hown, hts⟩ (ct_M_adds h _) (cwV 1 hts (lw_V q1581 q1583 qs62 q97 q1584) rfl rfl rfl (by decide +kernel) ⟨Nat.le_trans (Nat.le_of_ble_eq_true rfl) hRf, Nat.le_trans (Nat.le_of_ble_eq_true rfl) hRl⟩) ⟨ct_blind, va_recv hK hP (ci := 2) (q0 := 0) rfl rfl, ct_at F hS hP hD⟩ rfl rfl hl.1 rfl (lv_room (Nat.le_of_ble_eq_true rfl)) dX3_build_71 ⟨hC, hSl⟩) rfl rfl hD hS ?_
    rintro x9 ⟨fd10, ar11⟩ H locs h hP hD hS
    exact rt_i F dX3_build_74 rfl (fd10, ar11, lw7) h hP hD hS (Nat.le_refl _) (Nat.le_refl _)
  · replace h := h.2 c12
    refine lv_iconst (v := (-1 : Int32)) hx hb dX3_build_17 (by decide) ?_
    exact rt_i F dX3_build_18 rfl ((upd fd 0 (0 : Int32)), ar, lw) h hP hD hS (Nat.le_refl _) (Nat.le_refl _)
set_option maxHeartbeats 4000000 in
theorem ct_M_does {l : Launch} {V : evT} {D : va_G} {gI : Nat → ClassId} {o : Nat} {ad : Nat → Nat} {v1 : Int32} {fd : Nat → Int32} {ar : Nat → Nat → Int32} {lw : Nat → Int64} {Q : Int32 → (Nat → Int32) → (Nat → Nat → Int32) → Prop} (h : wp_M_does v1 fd ar lw Q) : ct_i l V D vwCl (tyL gI) yX3_does cX3_does 3 .boolean { frames := 7, cells := 0, slots := 0, locals := 149 } [.ref o, .int v1] (wm gI o ad fd ar lw) (fun u : (Nat → Int32) × (Nat → Nat → Int32) => (wm gI o ad u.1 u.2 lw)) (fun (x : Int32) (u : (Nat → Int32) × (Nat → Nat → Int32)) => Q x u.1 u.2) := by
  refine ct_ofi RX3 rfl (by decide +kernel) (Nat.le_of_ble_eq_true rfl) ?_
  intro p e s m args below meth c A F hP hD ls hl
  obtain ⟨⟨hx, hb, hml, hown, hts⟩, hr, hlocks, hA, hK, hE⟩ := id F
  have hS : va_S A s.heap s.heap [] := va_S.rf
  have hl : lv_has ls 3 [(0, .ref o), (1, .int v1)] := hl
  have hRf : 7 ≤ ({ frames := 7, cells := 0, slots := 0, locals := 149 } : Room).frames := Nat.le_refl _
  have hRl : 149 ≤ ({ frames := 7, cells := 0, slots := 0, locals := 149 } : Room).locals := Nat.le_refl _
  have hC : 0 ≤ ({ frames := 7, cells := 0, slots := 0, locals := 149 } : Room).cells := Nat.le_refl _
  have hSl : 0 ≤ ({ frames := 7, cells := 0, slots := 0, locals := 149 } : Room).slots := Nat.le_refl _
  unfold wp_M_does at h
  refine lv_aload_n hx hb dX3_does_0 rfl (lv_at hl 0 rfl) ?_
  refine va_get hx hb hts in_X3 hown hK hP 0 rfl rfl 33 (Nat.le_of_ble_eq_true rfl) (hts _ q1251) (fun _ h => h) (v := .ref (ad 33)) rfl dX3_does_1 ?_
  refine lv_iload_n hx hb dX3_does_4 rfl (lv_at hl 1 rfl) ?_
  refine va_iald (f := (ar 33)) hx hb hK hP 19 0 rfl rfl h.1 dX3_does_5 ?_
  replace h := h.2
  refine lv_istore_n (lv' := [(2, .int (ar 33 v1.toNatClampNeg)), (0, .ref o), (1, .int v1)]) hx hb dX3_does_6 rfl hl (by decide) rfl (fun ls hl => ?_)
  refine lv_aload_n hx hb dX3_does_7 rfl (lv_at hl 1 rfl) ?_
  refine va_get hx hb hts in_X3 hown hK hP 0 rfl rfl 32 (Nat.le_of_ble_eq_true rfl) (hts _ q1250) (fun _ h => h) (v := .ref (ad 32)) rfl dX3_does_8 ?_
  refine lv_iload_n hx hb dX3_does_11 rfl (lv_at hl 2 rfl) ?_
  refine va_iald (f := (ar 32)) hx hb hK hP 18 0 rfl rfl h.1 dX3_does_12 ?_
  replace h := h.2
  by_cases c1 : (ar 32 v1.toNatClampNeg) = (0 : Int32)
  · replace h := h.1 c1
    refine lv_tableIn (off := 39) (tgt := 52) hx hb dX3_does_13 (by rw [c1]; decide) (by rw [c1]; decide) (by rw [c1]; rfl) (by decide) ?_
    refine lv_aload_n hx hb dX3_does_52 rfl (lv_at hl 1 rfl) ?_
    refine lv_aload_n hx hb dX3_does_53 rfl (lv_at hl 1 rfl) ?_
    refine va_get hx hb hts in_X3 hown hK hP 0 rfl rfl 12 (Nat.le_of_ble_eq_true rfl) (hts _ q1230) (fun _ h => h) (v := .ref (ad 12)) rfl dX3_does_54 ?_
    refine lv_iload_n hx hb dX3_does_57 rfl (lv_at hl 0 rfl) ?_
    refine lv_aload_n hx hb dX3_does_58 rfl (lv_at hl 1 rfl) ?_
    refine va_get hx hb hts in_X3 hown hK hP 0 rfl rfl 34 (Nat.le_of_ble_eq_true rfl) (hts _ q1252) (fun _ h => h) (v := .ref (ad 34)) rfl dX3_does_59 ?_
    refine lv_iload_n hx hb dX3_does_62 rfl (lv_at hl 2 rfl) ?_
    refine va_iald (f := (ar 34)) hx hb hK hP 20 0 rfl rfl h.1 dX3_does_63 ?_
    replace h := h.2
    refine cl_i F (va_runV (As := [.ref (ad 12), .int (ar 33 v1.toNatClampNeg), .int (ar 34 v1.toNatClampNeg)]) (rest := []) ⟨hx, hb, hml, hown, hts⟩ (ct_M_goes_i12 h _) (cwV 3 hts (lw_V q1573 q1575 qs60 q97 q1576) rfl rfl rfl (by decide +kernel) ⟨Nat.le_trans (Nat.le_of_ble_eq_true rfl) hRf, Nat.le_trans (Nat.le_of_ble_eq_true rfl) hRl⟩) ⟨ct_blind, va_recv hK hP (ci := 2) (q0 := 0) rfl rfl, ct_at F hS hP hD⟩ rfl rfl hl.1 rfl (lv_room (Nat.le_of_ble_eq_true rfl)) dX3_does_64 ⟨hC, hSl⟩) rfl rfl hD hS ?_
    rintro x2 ar3 H locs h hP hD hS
    refine lv_if_lt (tgt := 74) hx hb dX3_does_67 (by decide) (fun c4 => ?_) (fun c4 => ?_)
    · replace h := h.1 c4
      refine lv_iconst (v := (0 : Int32)) hx hb dX3_does_74 (by decide) ?_
      exact rt_i F dX3_does_75 rfl (fd, ar3) h hP hD hS (Nat.le_refl _) (Nat.le_refl _)
    · replace h := h.2 c4
      refine lv_iconst (v := (1 : Int32)) hx hb dX3_does_70 (by decide) ?_
      refine lv_goto (tgt := 75) hx hb dX3_does_71 (by decide) ?_
      exact rt_i F dX3_does_75 rfl (fd, ar3) h hP hD hS (Nat.le_refl _) (Nat.le_refl _)
  replace h := h.2 c1
  by_cases c5 : (ar 32 v1.toNatClampNeg) = (1 : Int32)
  · replace h := h.1 c5
    refine lv_tableIn (off := 63) (tgt := 76) hx hb dX3_does_13 (by rw [c5]; decide) (by rw [c5]; decide) (by rw [c5]; rfl) (by decide) ?_
    refine lv_aload_n hx hb dX3_does_76 rfl (lv_at hl 1 rfl) ?_
    refine lv_iload_n hx hb dX3_does_77 rfl (lv_at hl 0 rfl) ?_
    refine cl_i F (va_runV (As := [.int (ar 33 v1.toNatClampNeg)]) (rest := []) ⟨hx, hb, hml, hown, hts⟩ (ct_M_goesHome h _) (cwV 1 hts (lw_V q1589 q1591 qs63 q97 q1592) rfl rfl rfl (by decide +kernel) ⟨Nat.le_trans (Nat.le_of_ble_eq_true rfl) hRf, Nat.le_trans (Nat.le_of_ble_eq_true rfl) hRl⟩) ⟨ct_blind, va_recv hK hP (ci := 2) (q0 := 0) rfl rfl, ct_at F hS hP hD⟩ rfl rfl hl.1 rfl (lv_room (Nat.le_of_ble_eq_true rfl)) dX3_does_78 ⟨hC, hSl⟩) rfl rfl hD hS ?_
    rintro x6 ar7 H locs h hP hD hS
    refine lv_if_lt (tgt := 88) hx hb dX3_does_81 (by decide) (fun c8 => ?_) (fun c8 => ?_)
    · replace h := h.1 c8
      refine lv_iconst (v := (0 : Int32)) hx hb dX3_does_88 (by decide) ?_
      exact rt_i F dX3_does_89 rfl (fd, ar7) h hP hD hS (Nat.le_refl _) (Nat.le_refl _)
    · replace h := h.2 c8
      refine lv_iconst (v := (1 : Int32)) hx hb dX3_does_84 (by decide) ?_
      refine lv_goto (tgt := 89) hx hb dX3_does_85 (by decide) ?_
      exact rt_i F dX3_does_89 rfl (fd, ar7) h hP hD hS (Nat.le_refl _) (Nat.le_refl _)
  replace h := h.2 c5
  by_cases c9 : (ar 32 v1.toNatClampNeg) = (2 : Int32)
  · replace h := h.1 c9
    refine lv_tableIn (off := 77) (tgt := 90) hx hb dX3_does_13 (by rw [c9]; decide) (by rw [c9]; decide) (by rw [c9]; rfl) (by decide) ?_
    refine lv_aload_n hx hb dX3_does_90 rfl (lv_at hl 1 rfl) ?_
    refine lv_iload_n hx hb dX3_does_91 rfl (lv_at hl 0 rfl) ?_
    refine cl_i F (va_runV (As := [.int (ar 33 v1.toNatClampNeg)]) (rest := []) ⟨hx, hb, hml, hown, hts⟩ (ct_M_spadeFor h _) (cwV 1 hts (lw_V q1597 q1599 qs64 q97 q1600) rfl rfl rfl (by decide +kernel) ⟨Nat.le_trans (Nat.le_of_ble_eq_true rfl) hRf, Nat.le_trans (Nat.le_of_ble_eq_true rfl) hRl⟩) ⟨ct_blind, va_recv hK hP (ci := 2) (q0 := 0) rfl rfl, ct_at F hS hP hD⟩ rfl rfl hl.1 rfl (lv_room (Nat.le_of_ble_eq_true rfl)) dX3_does_92 ⟨hC, hSl⟩) rfl rfl hD hS ?_
    rintro x10 ar11 H locs h hP hD hS
    refine lv_if_lt (tgt := 102) hx hb dX3_does_95 (by decide) (fun c12 => ?_) (fun c12 => ?_)
    · replace h := h.1 c12
      refine lv_iconst (v := (0 : Int32)) hx hb dX3_does_102 (by decide) ?_
      exact rt_i F dX3_does_103 rfl (fd, ar11) h hP hD hS (Nat.le_refl _) (Nat.le_refl _)
    · replace h := h.2 c12
      refine lv_iconst (v := (1 : Int32)) hx hb dX3_does_98 (by decide) ?_
      refine lv_goto (tgt := 103) hx hb dX3_does_99 (by decide) ?_
      exact rt_i F dX3_does_103 rfl (fd, ar11) h hP hD hS (Nat.le_refl _) (Nat.le_refl _)
  replace h := h.2 c9
  by_cases c13 : (ar 32 v1.toNatClampNeg) = (3 : Int32)
  · replace h := h.1 c13
    refine lv_tableIn (off := 91) (tgt := 104) hx hb dX3_does_13 (by rw [c13]; decide) (by rw [c13]; decide) (by rw [c13]; rfl) (by decide) ?_
    refine lv_aload_n hx hb dX3_does_104 rfl (lv_at hl 1 rfl) ?_
    refine lv_iload_n hx hb dX3_does_105 rfl (lv_at hl 0 rfl) ?_
    refine cl_i F (va_runV (As := [.int (ar 33 v1.toNatClampNeg)]) (rest := []) ⟨hx, hb, hml, hown, hts⟩ (ct_M_treatsOne h _) (cwV 1 hts (lw_V q1605 q1607 qs65 q97 q1608) rfl rfl rfl (by decide +kernel) ⟨Nat.le_trans (Nat.le_of_ble_eq_true rfl) hRf, Nat.le_trans (Nat.le_of_ble_eq_true rfl) hRl⟩) ⟨ct_blind, va_recv hK hP (ci := 2) (q0 := 0) rfl rfl, ct_at F hS hP hD⟩ rfl rfl hl.1 rfl (lv_room (Nat.le_of_ble_eq_true rfl)) dX3_does_106 ⟨hC, hSl⟩) rfl rfl hD hS ?_
    rintro x14 ar15 H locs h hP hD hS
    refine lv_if_lt (tgt := 116) hx hb dX3_does_109 (by decide) (fun c16 => ?_) (fun c16 => ?_)
    · replace h := h.1 c16
      refine lv_iconst (v := (0 : Int32)) hx hb dX3_does_116 (by decide) ?_
      exact rt_i F dX3_does_117 rfl (fd, ar15) h hP hD hS (Nat.le_refl _) (Nat.le_refl _)
    · replace h := h.2 c16
      refine lv_iconst (v := (1 : Int32)) hx hb dX3_does_112 (by decide) ?_
      refine lv_goto (tgt := 117) hx hb dX3_does_113 (by decide) ?_
      exact rt_i F dX3_does_117 rfl (fd, ar15) h hP hD hS (Nat.le_refl _) (Nat.le_refl _)
  replace h := h.2 c13
  by_cases c17 : (ar 32 v1.toNatClampNeg) = (4 : Int32)
  · replace h := h.1 c17
    refine lv_tableIn (off := 105) (tgt := 118) hx hb dX3_does_13 (by rw [c17]; decide) (by rw [c17]; decide) (by rw [c17]; rfl) (by decide) ?_
    refine lv_aload_n hx hb dX3_does_118 rfl (lv_at hl 1 rfl) ?_
    refine lv_iload_n hx hb dX3_does_119 rfl (lv_at hl 0 rfl) ?_
    refine cl_i F (va_runV (As := [.int (ar 33 v1.toNatClampNeg)]) (rest := []) ⟨hx, hb, hml, hown, hts⟩ (ct_M_digs h _) (cwV 1 hts (lw_V q1613 q1615 qs66 q97 q1616) rfl rfl rfl (by decide +kernel) ⟨Nat.le_trans (Nat.le_of_ble_eq_true rfl) hRf, Nat.le_trans (Nat.le_of_ble_eq_true rfl) hRl⟩) ⟨ct_blind, va_recv hK hP (ci := 2) (q0 := 0) rfl rfl, ct_at F hS hP hD⟩ rfl rfl hl.1 rfl (lv_room (Nat.le_of_ble_eq_true rfl)) dX3_does_120 ⟨hC, hSl⟩) rfl rfl hD hS ?_
    rintro x18 ar19 H locs h hP hD hS
    refine lv_if_lt (tgt := 130) hx hb dX3_does_123 (by decide) (fun c20 => ?_) (fun c20 => ?_)
    · replace h := h.1 c20
      refine lv_iconst (v := (0 : Int32)) hx hb dX3_does_130 (by decide) ?_
      exact rt_i F dX3_does_131 rfl (fd, ar19) h hP hD hS (Nat.le_refl _) (Nat.le_refl _)
    · replace h := h.2 c20
      refine lv_iconst (v := (1 : Int32)) hx hb dX3_does_126 (by decide) ?_
      refine lv_goto (tgt := 131) hx hb dX3_does_127 (by decide) ?_
      exact rt_i F dX3_does_131 rfl (fd, ar19) h hP hD hS (Nat.le_refl _) (Nat.le_refl _)
  replace h := h.2 c17
  by_cases c21 : (ar 32 v1.toNatClampNeg) = (5 : Int32)
  · replace h := h.1 c21
    refine lv_tableIn (off := 119) (tgt := 132) hx hb dX3_does_13 (by rw [c21]; decide) (by rw [c21]; decide) (by rw [c21]; rfl) (by decide) ?_
    refine lv_aload_n hx hb dX3_does_132 rfl (lv_at hl 1 rfl) ?_
    refine lv_aload_n hx hb dX3_does_133 rfl (lv_at hl 1 rfl) ?_
    refine va_get hx hb hts in_X3 hown hK hP 0 rfl rfl 12 (Nat.le_of_ble_eq_true rfl) (hts _ q1230) (fun _ h => h) (v := .ref (ad 12)) rfl dX3_does_134 ?_
    refine lv_iload_n hx hb dX3_does_137 rfl (lv_at hl 0 rfl) ?_
    refine cl_v F (va_runV (As := [.ref (ad 12), .int (ar 33 v1.toNatClampNeg)]) (rest := []) ⟨hx, hb, hml, hown, hts⟩ (ct_M_builds_i12 h _) (cwV 2 hts (lw_V q1626 q1628 qs68 q97 q1629) rfl rfl rfl (by decide +kernel) ⟨Nat.le_trans (Nat.le_of_ble_eq_true rfl) hRf, Nat.le_trans (Nat.le_of_ble_eq_true rfl) hRl⟩) ⟨ct_blind, va_recv hK hP (ci := 2) (q0 := 0) rfl rfl, ct_at F hS hP hD⟩ rfl rfl hl.1 rfl (lv_room (Nat.le_of_ble_eq_true rfl)) dX3_does_138 ⟨hC, hSl⟩) rfl rfl hD hS ?_
    rintro ⟨fd22, ar23⟩ H locs h hP hD hS
    refine lv_iconst (v := (1 : Int32)) hx hb dX3_does_141 (by decide) ?_
    exact rt_i F dX3_does_142 rfl (fd22, ar23) h hP hD hS (Nat.le_refl _) (Nat.le_refl _)
  replace h := h.2 c21
  have hsw : (ar 32 v1.toNatClampNeg).toInt < (0 : Int) ∨ (5 : Int) < (ar 32 v1.toNatClampNeg).toInt := by
    have := lv_neT (a := 0) c1 (by decide)
    have := lv_neT (a := 1) c5 (by decide)
    have := lv_neT (a := 2) c9 (by decide)
    have := lv_neT (a := 3) c13 (by decide)
    have := lv_neT (a := 4) c17 (by decide)
    have := lv_neT (a := 5) c21 (by decide)
    omega
  refine lv_tableOut (tgt := 143) hx hb dX3_does_13 hsw (by decide) ?_
  refine lv_aload_n hx hb dX3_does_143 rfl (lv_at hl 1 rfl) ?_
  refine lv_aload_n hx hb dX3_does_144 rfl (lv_at hl 1 rfl) ?_
  refine va_get hx hb hts in_X3 hown hK hP 0 rfl rfl 12 (Nat.le_of_ble_eq_true rfl) (hts _ q1230) (fun _ h => h) (v := .ref (ad 12)) rfl dX3_does_145 ?_
  refine cl_i F (va_runV (As := [.ref (ad 12)]) (rest := []) ⟨hx, hb, hml, hown, hts⟩ (ct_M_tideComes_i12 h _) (cwV 1 hts (lw_V q1646 q1648 qs72 q97 q1649) rfl rfl rfl (by decide +kernel) ⟨Nat.le_trans (Nat.le_of_ble_eq_true rfl) hRf, Nat.le_trans (Nat.le_of_ble_eq_true rfl) hRl⟩) ⟨ct_blind, va_recv hK hP (ci := 2) (q0 := 0) rfl rfl, ct_at F hS hP hD⟩ rfl rfl hl.1 rfl (lv_room (Nat.le_of_ble_eq_true rfl)) dX3_does_148 ⟨hC, hSl⟩) rfl rfl hD hS ?_
  rintro x24 ⟨fd25, ar26⟩ H locs h hP hD hS
  refine lv_pop hx hb dX3_does_151 rfl ?_
  refine lv_iconst (v := (1 : Int32)) hx hb dX3_does_152 (by decide) ?_
  exact rt_i F dX3_does_153 rfl (fd25, ar26) h hP hD hS (Nat.le_refl _) (Nat.le_refl _)
