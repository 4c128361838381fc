/-! walks of the model (printed by gen/mk.py) -/
set_option maxRecDepth 100000
set_option maxHeartbeats 4000000 in
theorem ct_M_holds {l : Launch} {V : evT} {D : va_G} {gI : Nat → ClassId} {o : Nat} {ad : Nat → Nat} {fd : Nat → Int32} {ar : Nat → Nat → Int32} {lw : Nat → Int64} {Q : Int32 → (Nat → Int32) → (Nat → Nat → Int32) → (Nat → Int64) → Prop} (h : wp_M_holds fd ar lw Q) : ct_i l V D vwCl (tyL gI) yX3_holds cX3_holds 2 .int { frames := 7, cells := 0, slots := 0, locals := 144 } [.ref o] (wm gI o ad fd ar lw) (fun u : (Nat → Int32) × (Nat → Nat → Int32) × (Nat → Int64) => (wm gI o ad u.1 u.2.1 u.2.2)) (fun (x : Int32) (u : (Nat → Int32) × (Nat → Nat → Int32) × (Nat → Int64)) => Q x u.1 u.2.1 u.2.2) := by
  refine ct_ofi RX3 rfl (by decide +kernel) (Nat.le_of_ble_eq_true rfl) ?_
  intro p e s m args below meth c A F hP hD ls hl
  obtain ⟨⟨hx, hb, hml, hown, hts⟩, hr, hlocks, hA, hK, hE⟩ := id F
  have hS : va_S A s.heap s.heap [] := va_S.rf
  have hl : lv_has ls 2 [(0, .ref o)] := hl
  have hRf : 7 ≤ ({ frames := 7, cells := 0, slots := 0, locals := 144 } : Room).frames := Nat.le_refl _
  have hRl : 144 ≤ ({ frames := 7, cells := 0, slots := 0, locals := 144 } : Room).locals := Nat.le_refl _
  have hC : 0 ≤ ({ frames := 7, cells := 0, slots := 0, locals := 144 } : Room).cells := Nat.le_refl _
  have hSl : 0 ≤ ({ frames := 7, cells := 0, slots := 0, locals := 144 } : Room).slots := Nat.le_refl _
  unfold wp_M_holds at h
  refine lv_aload_n hx hb dX3_holds_0 rfl (lv_at hl 0 rfl) ?_
  refine lv_iconst (v := (0 : Int32)) hx hb dX3_holds_1 (by decide) ?_
  refine pt_put (v := .int (0 : Int32)) hx hb hts in_X3 tyX3 tyX3_ok nmX3 hown hK hP hD hS 0 rfl rfl 0 (Nat.le_of_ble_eq_true rfl) (hts _ q1218) (fun _ h => h) rfl (ty := .int) (by decide +kernel) rfl rfl (Nat.le_of_ble_eq_true rfl) dX3_holds_2 wmF_0 (fun H locs hP hD hS => ?_)
  refine lv_aload_n hx hb dX3_holds_5 rfl (lv_at hl 0 rfl) ?_
  refine cl_v F (va_runV (As := []) (rest := []) ⟨hx, hb, hml, hown, hts⟩ (ct_M_puts h _) (cwV 0 hts (lw_V q1701 q1703 qs80 q97 q1704) rfl rfl rfl (by decide +kernel) ⟨Nat.le_trans (Nat.le_of_ble_eq_true rfl) hRf, Nat.le_trans (Nat.le_of_ble_eq_true rfl) hRl⟩) ⟨ct_blind, va_recv hK hP (ci := 2) (q0 := 0) rfl rfl, ct_at F hS hP hD⟩ rfl rfl hl.1 rfl (lv_room (Nat.le_of_ble_eq_true rfl)) dX3_holds_6 ⟨hC, hSl⟩) rfl rfl hD hS ?_
  rintro ar1 H locs h hP hD hS
  refine lv_aload_n hx hb dX3_holds_9 rfl (lv_at hl 0 rfl) ?_
  refine cl_i F (va_runV (As := []) (rest := []) ⟨hx, hb, hml, hown, hts⟩ (ct_M_breaksIn h _) (cwV 0 hts (lw_V q1705 q1707 qs81 q97 q1708) rfl rfl rfl (by decide +kernel) ⟨Nat.le_trans (Nat.le_of_ble_eq_true rfl) hRf, Nat.le_trans (Nat.le_of_ble_eq_true rfl) hRl⟩) ⟨ct_blind, va_recv hK hP (ci := 2) (q0 := 0) rfl rfl, ct_at F hS hP hD⟩ rfl rfl hl.1 rfl (lv_room (Nat.le_of_ble_eq_true rfl)) dX3_holds_10 ⟨hC, hSl⟩) rfl rfl hD hS ?_
  rintro x2 ⟨fd3, ar4⟩ H locs h hP hD hS
  refine lv_istore_n (lv' := [(1, .int x2), (0, .ref o)]) hx hb dX3_holds_13 rfl hl (by decide) rfl (fun ls hl => ?_)
  refine lv_iload_n hx hb dX3_holds_14 rfl (lv_at hl 0 rfl) ?_
  refine lv_bipush (v := (99 : Int32)) hx hb dX3_holds_15 (by decide) ?_
  refine lv_icmp_le (tgt := 23) hx hb dX3_holds_17 (by decide) (fun c9 => ?_) (fun c9 => ?_)
  · replace h := h.1 c9
    refine lv_aload_n hx hb dX3_holds_23 rfl (lv_at hl 1 rfl) ?_
    refine lv_iconst (v := (0 : Int32)) hx hb dX3_holds_24 (by decide) ?_
    refine pt_put (v := .int (0 : Int32)) hx hb hts in_X3 tyX3 tyX3_ok nmX3 hown hK hP hD hS 0 rfl rfl 1 (Nat.le_of_ble_eq_true rfl) (hts _ q1219) (fun _ h => h) rfl (ty := .int) (by decide +kernel) rfl rfl (Nat.le_of_ble_eq_true rfl) dX3_holds_25 wmF_1 (fun H locs hP hD hS => ?_)
    refine lv_aload_n hx hb dX3_holds_28 rfl (lv_at hl 1 rfl) ?_
    refine lv_aload_n hx hb dX3_holds_29 rfl (lv_at hl 1 rfl) ?_
    refine va_get hx hb hts in_X3 hown hK hP 0 rfl rfl 36 (Nat.le_of_ble_eq_true rfl) (hts _ q1254) (fun _ h => h) (v := .int (fd3 36)) rfl dX3_holds_30 ?_
    refine lv_i2l (v := ((fd3 36).toInt64)) hx hb dX3_holds_33 rfl ?_
    refine cl_v F (va_runV (As := [.long ((fd3 36).toInt64)]) (rest := []) ⟨hx, hb, hml, hown, hts⟩ (ct_M_enters h _) (cwV 1 hts (lw_V q1634 q1636 qs70 q97 q1637) rfl rfl rfl (by decide +kernel) ⟨Nat.le_trans (Nat.le_of_ble_eq_true rfl) hRf, Nat.le_trans (Nat.le_of_ble_eq_true rfl) hRl⟩) ⟨ct_blind, va_recv hK hP (ci := 2) (q0 := 0) rfl rfl, ct_at F hS hP hD⟩ rfl rfl hl.1 rfl (lv_room (Nat.le_of_ble_eq_true rfl)) dX3_holds_34 ⟨hC, hSl⟩) rfl rfl hD hS ?_
    rintro ⟨fd5, lw6⟩ H locs h hP hD hS
    refine lv_aload_n hx hb dX3_holds_37 rfl (lv_at hl 1 rfl) ?_
    refine lv_aload_n hx hb dX3_holds_38 rfl (lv_at hl 1 rfl) ?_
    refine va_get hx hb hts in_X3 hown hK hP 0 rfl rfl 31 (Nat.le_of_ble_eq_true rfl) (hts _ q1249) (fun _ h => h) (v := .int (fd5 31)) rfl dX3_holds_39 ?_
    refine lv_i2l (v := ((fd5 31).toInt64)) hx hb dX3_holds_42 rfl ?_
    refine cl_v F (va_runV (As := [.long ((fd5 31).toInt64)]) (rest := []) ⟨hx, hb, hml, hown, hts⟩ (ct_M_enters h _) (cwV 1 hts (lw_V q1634 q1636 qs70 q97 q1637) rfl rfl rfl (by decide +kernel) ⟨Nat.le_trans (Nat.le_of_ble_eq_true rfl) hRf, Nat.le_trans (Nat.le_of_ble_eq_true rfl) hRl⟩) ⟨ct_blind, va_recv hK hP (ci := 2) (q0 := 0) rfl rfl, ct_at F hS hP hD⟩ rfl rfl hl.1 rfl (lv_room (Nat.le_of_ble_eq_true rfl)) dX3_holds_43 ⟨hC, hSl⟩) rfl rfl hD hS ?_
    rintro ⟨fd7, lw8⟩ H locs h hP hD hS
    refine lv_iload_n hx hb dX3_holds_46 rfl (lv_at hl 0 rfl) ?_
    exact rt_i F dX3_holds_47 rfl (fd7, ar4, lw8) h hP hD hS (Nat.le_refl _) (Nat.le_refl _)
  · replace h := h.2 c9
    refine lv_bipush (v := (-2 : Int32)) hx hb dX3_holds_20 (by decide) ?_
    exact rt_i F dX3_holds_22 rfl (fd3, ar4, lw) h hP hD hS (Nat.le_refl _) (Nat.le_refl _)
set_option maxHeartbeats 4000000 in
theorem ct_M_tides {l : Launch} {V : evT} {D : va_G} {gI : Nat → ClassId} {o : Nat} {ad : Nat → Nat} {v1 : Int32} {fd : Nat → Int32} {ar : Nat → Nat → Int32} {lw : Nat → Int64} {Q : Int32 → (Nat → Int32) → (Nat → Nat → Int32) → (Nat → Int64) → Prop} (h : wp_M_tides v1 fd ar lw Q) : ct_i l V D vwCl (tyL gI) yX3_tides cX3_tides 3 .int { frames := 7, cells := 0, slots := 0, locals := 146 } [.ref o, .int v1] (wm gI o ad fd ar lw) (fun u : (Nat → Int32) × (Nat → Nat → Int32) × (Nat → Int64) => (wm gI o ad u.1 u.2.1 u.2.2)) (fun (x : Int32) (u : (Nat → Int32) × (Nat → Nat → Int32) × (Nat → Int64)) => Q x u.1 u.2.1 u.2.2) := by
  refine ct_ofi RX3 rfl (by decide +kernel) (Nat.le_of_ble_eq_true rfl) ?_
  intro p e s m args below meth c A F hP hD ls hl
  obtain ⟨⟨hx, hb, hml, hown, hts⟩, hr, hlocks, hA, hK, hE⟩ := id F
  have hS : va_S A s.heap s.heap [] := va_S.rf
  have hl : lv_has ls 3 [(0, .ref o), (1, .int v1)] := hl
  have hRf : 7 ≤ ({ frames := 7, cells := 0, slots := 0, locals := 146 } : Room).frames := Nat.le_refl _
  have hRl : 146 ≤ ({ frames := 7, cells := 0, slots := 0, locals := 146 } : Room).locals := Nat.le_refl _
  have hC : 0 ≤ ({ frames := 7, cells := 0, slots := 0, locals := 146 } : Room).cells := Nat.le_refl _
  have hSl : 0 ≤ ({ frames := 7, cells := 0, slots := 0, locals := 146 } : Room).slots := Nat.le_refl _
  unfold wp_M_tides at h
  refine lv_aload_n hx hb dX3_tides_0 rfl (lv_at hl 0 rfl) ?_
  refine lv_iconst (v := (0 : Int32)) hx hb dX3_tides_1 (by decide) ?_
  refine pt_put (v := .int (0 : Int32)) hx hb hts in_X3 tyX3 tyX3_ok nmX3 hown hK hP hD hS 0 rfl rfl 0 (Nat.le_of_ble_eq_true rfl) (hts _ q1218) (fun _ h => h) rfl (ty := .int) (by decide +kernel) rfl rfl (Nat.le_of_ble_eq_true rfl) dX3_tides_2 wmF_0 (fun H locs hP hD hS => ?_)
  refine lv_iload_n hx hb dX3_tides_5 rfl (lv_at hl 1 rfl) ?_
  refine lv_i2l (v := (v1.toInt64)) hx hb dX3_tides_6 rfl ?_
  refine lv_lconst (v := (0 : Int64)) hx hb dX3_tides_7 (by decide) ?_
  refine lv_ldc2 (v := (60 : Int64)) hx hb hown (hts _ q1713) dX3_tides_8 ?_
  refine cl_i0 F (va_runS (As := [.long (v1.toInt64), .long (0 : Int64), .long (60 : Int64)]) (rest := []) ⟨hx, hb, hml, hown, hts⟩ (ct_X3_in h _) (va_cwS 3 hts (lw_S q1391 q1392 q97 q1393) rfl rfl rfl (by decide +kernel) ⟨Nat.le_trans (Nat.le_of_ble_eq_true rfl) hRf, Nat.le_trans (Nat.le_of_ble_eq_true rfl) hRl⟩) ⟨ct_blind, ct_at F hS ct_nP ct_nD⟩ rfl rfl hl.1 rfl (lv_room (Nat.le_of_ble_eq_true rfl)) dX3_tides_11 ⟨hC, hSl⟩) rfl rfl hP hS ?_
  rintro x1 _ H locs h hP hS
  refine lv_if_ne (tgt := 19) hx hb dX3_tides_14 (by decide) (fun c12 => ?_) (fun c12 => ?_)
  · replace h := h.1 c12
    refine lv_aload_n hx hb dX3_tides_19 rfl (lv_at hl 0 rfl) ?_
    refine lv_iload_n hx hb dX3_tides_20 rfl (lv_at hl 1 rfl) ?_
    refine cl_i F (va_runV (As := [.int v1]) (rest := []) ⟨hx, hb, hml, hown, hts⟩ (ct_M_breakMany h _) (cwV 1 hts (lw_V q1714 q1716 qs82 q97 q1717) rfl rfl rfl (by decide +kernel) ⟨Nat.le_trans (Nat.le_of_ble_eq_true rfl) hRf, Nat.le_trans (Nat.le_of_ble_eq_true rfl) hRl⟩) ⟨ct_blind, va_recv hK hP (ci := 2) (q0 := 0) rfl rfl, ct_at F hS hP hD⟩ rfl rfl hl.1 rfl (lv_room (Nat.le_of_ble_eq_true rfl)) dX3_tides_21 ⟨hC, hSl⟩) rfl rfl hD hS ?_
    rintro x2 ⟨fd3, ar4⟩ H locs h hP hD hS
    refine lv_istore_n (lv' := [(2, .int x2), (0, .ref o), (1, .int v1)]) hx hb dX3_tides_24 rfl hl (by decide) rfl (fun ls hl => ?_)
    refine lv_aload_n hx hb dX3_tides_25 rfl (lv_at hl 1 rfl) ?_
    refine lv_iconst (v := (0 : Int32)) hx hb dX3_tides_26 (by decide) ?_
    refine pt_put (v := .int (0 : Int32)) hx hb hts in_X3 tyX3 tyX3_ok nmX3 hown hK hP hD hS 0 rfl rfl 1 (Nat.le_of_ble_eq_true rfl) (hts _ q1219) (fun _ h => h) rfl (ty := .int) (by decide +kernel) rfl rfl (Nat.le_of_ble_eq_true rfl) dX3_tides_27 wmF_1 (fun H locs hP hD hS => ?_)
    refine lv_aload_n hx hb dX3_tides_30 rfl (lv_at hl 1 rfl) ?_
    refine lv_aload_n hx hb dX3_tides_31 rfl (lv_at hl 1 rfl) ?_
    refine lv_aload_n hx hb dX3_tides_32 rfl (lv_at hl 1 rfl) ?_
    refine va_get hx hb hts in_X3 hown hK hP 0 rfl rfl 13 (Nat.le_of_ble_eq_true rfl) (hts _ q1231) (fun _ h => h) (v := .ref (ad 13)) rfl dX3_tides_33 ?_
    refine cl_i F (va_runV (As := [.ref (ad 13)]) (rest := [.ref o]) ⟨hx, hb, hml, hown, hts⟩ (ct_M_wet_i13 h _) (cwV 1 hts (lw_V q1674 q1676 qs77 q97 q1677) rfl rfl rfl (by decide +kernel) ⟨Nat.le_trans (Nat.le_of_ble_eq_true rfl) hRf, Nat.le_trans (Nat.le_of_ble_eq_true rfl) hRl⟩) ⟨ct_blind, va_recv hK hP (ci := 2) (q0 := 0) rfl rfl, ct_at F hS hP hD⟩ rfl rfl hl.1 rfl (lv_room (Nat.le_of_ble_eq_true rfl)) dX3_tides_36 ⟨hC, hSl⟩) rfl rfl hD hS ?_
    rintro x5 _ H locs h hP hD hS
    refine cl_i0 F (va_runS (As := [.int x5]) (rest := [.ref o]) ⟨hx, hb, hml, hown, hts⟩ (ct_J10_bitCount h _) (va_cwS 1 hts (lw_S q1552 q586 q112 q587) rfl rfl rfl (by decide +kernel) ⟨Nat.le_trans (Nat.le_of_ble_eq_true rfl) hRf, Nat.le_trans (Nat.le_of_ble_eq_true rfl) hRl⟩) ⟨ct_blind, ct_at F hS ct_nP ct_nD⟩ rfl rfl hl.1 rfl (lv_room (Nat.le_of_ble_eq_true rfl)) dX3_tides_39 ⟨hC, hSl⟩) rfl rfl hP hS ?_
    rintro x6 _ H locs h hP hS
    refine lv_i2l (v := (x6.toInt64)) hx hb dX3_tides_42 rfl ?_
    refine cl_v F (va_runV (As := [.long (x6.toInt64)]) (rest := []) ⟨hx, hb, hml, hown, hts⟩ (ct_M_enters h _) (cwV 1 hts (lw_V q1634 q1636 qs70 q97 q1637) rfl rfl rfl (by decide +kernel) ⟨Nat.le_trans (Nat.le_of_ble_eq_true rfl) hRf, Nat.le_trans (Nat.le_of_ble_eq_true rfl) hRl⟩) ⟨ct_blind, va_recv hK hP (ci := 2) (q0 := 0) rfl rfl, ct_at F hS hP hD⟩ rfl rfl hl.1 rfl (lv_room (Nat.le_of_ble_eq_true rfl)) dX3_tides_43 ⟨hC, hSl⟩) rfl rfl hD hS ?_
    rintro ⟨fd7, lw8⟩ H locs h hP hD hS
    refine lv_aload_n hx hb dX3_tides_46 rfl (lv_at hl 1 rfl) ?_
    refine lv_aload_n hx hb dX3_tides_47 rfl (lv_at hl 1 rfl) ?_
    refine lv_aload_n hx hb dX3_tides_48 rfl (lv_at hl 1 rfl) ?_
    refine va_get hx hb hts in_X3 hown hK hP 0 rfl rfl 13 (Nat.le_of_ble_eq_true rfl) (hts _ q1231) (fun _ h => h) (v := .ref (ad 13)) rfl dX3_tides_49 ?_
    refine cl_i F (va_runV (As := [.ref (ad 13)]) (rest := [.ref o]) ⟨hx, hb, hml, hown, hts⟩ (ct_M_deepAll_i13 h _) (cwV 1 hts (lw_V q1642 q1644 qs71 q97 q1645) rfl rfl rfl (by decide +kernel) ⟨Nat.le_trans (Nat.le_of_ble_eq_true rfl) hRf, Nat.le_trans (Nat.le_of_ble_eq_true rfl) hRl⟩) ⟨ct_blind, va_recv hK hP (ci := 2) (q0 := 0) rfl rfl, ct_at F hS hP hD⟩ rfl rfl hl.1 rfl (lv_room (Nat.le_of_ble_eq_true rfl)) dX3_tides_52 ⟨hC, hSl⟩) rfl rfl hD hS ?_
    rintro x9 _ H locs h hP hD hS
    refine lv_i2l (v := (x9.toInt64)) hx hb dX3_tides_55 rfl ?_
    refine cl_v F (va_runV (As := [.long (x9.toInt64)]) (rest := []) ⟨hx, hb, hml, hown, hts⟩ (ct_M_enters h _) (cwV 1 hts (lw_V q1634 q1636 qs70 q97 q1637) rfl rfl rfl (by decide +kernel) ⟨Nat.le_trans (Nat.le_of_ble_eq_true rfl) hRf, Nat.le_trans (Nat.le_of_ble_eq_true rfl) hRl⟩) ⟨ct_blind, va_recv hK hP (ci := 2) (q0 := 0) rfl rfl, ct_at F hS hP hD⟩ rfl rfl hl.1 rfl (lv_room (Nat.le_of_ble_eq_true rfl)) dX3_tides_56 ⟨hC, hSl⟩) rfl rfl hD hS ?_
    rintro ⟨fd10, lw11⟩ H locs h hP hD hS
    refine lv_iload_n hx hb dX3_tides_59 rfl (lv_at hl 0 rfl) ?_
    exact rt_i F dX3_tides_60 rfl (fd10, ar4, lw11) h hP hD hS (Nat.le_refl _) (Nat.le_refl _)
  · replace h := h.2 c12
    refine lv_iconst (v := (-1 : Int32)) hx hb dX3_tides_17 (by decide) ?_
    exact rt_i F dX3_tides_18 rfl ((upd fd 0 (0 : Int32)), ar, lw) h hP hD hS (Nat.le_refl _) (Nat.le_refl _)
set_option maxHeartbeats 4000000 in
theorem lp_M_crewHolds_L1 {p : Program} {l : Launch} {e : Env} {R : Room} {s : State} {m : MethodId} {args : Array Value} {below : List Frame} {meth : Method} {c : Code} {cells slots : Nat} {A : Nat → Prop} {Qf : State → Prop} {V : evT} {D : va_G} {gI : Nat → ClassId} {o : Nat} {ad : Nat → Nat} {v1 : Int32} {fd : Nat → Int32} {lw : Nat → Int64} {K39 : (Nat → Nat → Int32) → Prop} (F : ct_F p m c meth cX3_crewHolds 3 s args RX3 (some .boolean) A V D vwCl (tyL gI)) (hRf : 7 ≤ R.frames) (hRl : 149 ≤ R.locals) (hC : cells ≤ R.cells) (hSl : slots ≤ R.slots)
    (hK39 : ∀ (ar : Nat → Nat → Int32), K39 ar → ∀ (H : Heap) (locs : List Loc) (ls : Array Slot), va_P D vwCl (wm gI o ad fd ar lw) H → va_D A (wm gI o ad fd ar lw) → va_S A s.heap H locs → lv_has ls 3 [(0, .ref o), (1, .int v1)] → W p l e R s m args below meth c H locs cells slots Qf (F0 m 39 ls [])) :
    ∀ (n : Nat) (v2 : Int32) (ar : Nat → Nat → Int32), wp_M_crewHolds_L1 v1 fd lw K39 n v2 ar → ∀ (H : Heap) (locs : List Loc) (ls : Array Slot), va_P D vwCl (wm gI o ad fd ar lw) H → va_D A (wm gI o ad fd ar lw) → va_S A s.heap H locs → lv_has ls 3 [(0, .ref o), (1, .int v1), (2, .int v2)] → W p l e R s m args below meth c H locs cells slots Qf (F0 m 6 ls []) := by
  obtain ⟨⟨hx, hb, hml, hown, hts⟩, hr, hlocks, hA, hK, hE⟩ := id F
  intro n
  induction n with
  | zero => intro v2 ar h; exact h.elim
  | succ n ih =>
    intro v2 ar h H locs ls hP hD hS hl
    unfold wp_M_crewHolds_L1 at h
    refine lv_iload_n hx hb dX3_crewHolds_6 rfl (lv_at hl 2 rfl) ?_
    refine lv_aload_n hx hb dX3_crewHolds_7 rfl (lv_at hl 0 rfl) ?_
    refine va_get hx hb hts in_X3 hown hK hP 0 rfl rfl 4 (Nat.le_of_ble_eq_true rfl) (hts _ q1222) (fun _ h => h) (v := .int (fd 4)) rfl dX3_crewHolds_8 ?_
    refine lv_icmp_ge (tgt := 39) hx hb dX3_crewHolds_11 (by decide) (fun c2 => ?_) (fun c2 => ?_)
    · replace h := h.1 c2
      exact hK39 _ h _ _ _ hP hD hS (lv_sub hl [0, 1] rfl)
    · replace h := h.2 c2
      refine lv_aload_n hx hb dX3_crewHolds_14 rfl (lv_at hl 0 rfl) ?_
      refine va_get hx hb hts in_X3 hown hK hP 0 rfl rfl 13 (Nat.le_of_ble_eq_true rfl) (hts _ q1231) (fun _ h => h) (v := .ref (ad 13)) rfl dX3_crewHolds_15 ?_
      refine lv_bipush (v := (25 : Int32)) hx hb dX3_crewHolds_18 (by decide) ?_
      refine lv_iconst (v := (2 : Int32)) hx hb dX3_crewHolds_20 (by decide) ?_
      refine lv_iload_n hx hb dX3_crewHolds_21 rfl (lv_at hl 2 rfl) ?_
      refine lv_imul hx hb dX3_crewHolds_22 ?_
      refine lv_iadd hx hb dX3_crewHolds_23 ?_
      refine lv_iconst (v := (0 : Int32)) hx hb dX3_crewHolds_24 (by decide) ?_
      refine lv_iadd hx hb dX3_crewHolds_25 ?_
      refine lv_aload_n hx hb dX3_crewHolds_26 rfl (lv_at hl 0 rfl) ?_
      refine va_get hx hb hts in_X3 hown hK hP 0 rfl rfl 38 (Nat.le_of_ble_eq_true rfl) (hts _ q1256) (fun _ h => h) (v := .ref (ad 38)) rfl dX3_crewHolds_27 ?_
      refine lv_iload_n hx hb dX3_crewHolds_30 rfl (lv_at hl 2 rfl) ?_
      refine va_iald (f := (ar 38)) hx hb hK hP 22 0 rfl rfl h.1 dX3_crewHolds_31 ?_
      replace h := h.2
      refine pt_iast (f := (ar 13)) hx hb hK hP hD hS 9 0 rfl rfl h.1 dX3_crewHolds_32 wmA_13 (fun H locs hP hD hS => ?_)
      replace h := h.2
      refine lv_iinc (v := (v2 + (1 : Int32))) (lv' := [(2, .int (v2 + (1 : Int32))), (0, .ref o), (1, .int v1)]) hx hb dX3_crewHolds_33 hl (k := 2) rfl rfl (by decide) rfl (fun ls hl => ?_)
      refine lv_goto (tgt := 6) hx hb dX3_crewHolds_36 (by decide) ?_
      exact ih _ _ h _ _ _ hP hD hS (lv_sub hl [1, 2, 0] rfl)
set_option maxHeartbeats 4000000 in
theorem ct_M_crewHolds {l : Launch} {V : evT} {D : va_G} {gI : Nat → ClassId} {o : Nat} {ad : Nat → Nat} {v1 : Int32} {fd : Nat → Int32} {ar : Nat → Nat → Int32} {lw : Nat → Int64} {Q : Int32 → (Nat → Int32) → (Nat → Nat → Int32) → Prop} (h : wp_M_crewHolds v1 fd ar lw Q) : ct_i l V D vwCl (tyL gI) yX3_crewHolds cX3_crewHolds 3 .boolean { frames := 7, cells := 0, slots := 0, locals := 149 } [.ref o, .int v1] (wm gI o ad fd ar lw) (fun u : (Nat → Int32) × (Nat → Nat → Int32) => (wm gI o ad u.1 u.2 lw)) (fun (x : Int32) (u : (Nat → Int32) × (Nat → Nat → Int32)) => Q x u.1 u.2) := by
  refine ct_ofi RX3 rfl (by decide +kernel) (Nat.le_of_ble_eq_true rfl) ?_
  intro p e s m args below meth c A F hP hD ls hl
  obtain ⟨⟨hx, hb, hml, hown, hts⟩, hr, hlocks, hA, hK, hE⟩ := id F
  have hS : va_S A s.heap s.heap [] := va_S.rf
  have hl : lv_has ls 3 [(0, .ref o), (1, .int v1)] := hl
  have hRf : 7 ≤ ({ frames := 7, cells := 0, slots := 0, locals := 149 } : Room).frames := Nat.le_refl _
  have hRl : 149 ≤ ({ frames := 7, cells := 0, slots := 0, locals := 149 } : Room).locals := Nat.le_refl _
  have hC : 0 ≤ ({ frames := 7, cells := 0, slots := 0, locals := 149 } : Room).cells := Nat.le_refl _
  have hSl : 0 ≤ ({ frames := 7, cells := 0, slots := 0, locals := 149 } : Room).slots := Nat.le_refl _
  unfold wp_M_crewHolds at h
  refine lv_aload_n hx hb dX3_crewHolds_0 rfl (lv_at hl 0 rfl) ?_
  refine cl_v F (va_runV (As := []) (rest := []) ⟨hx, hb, hml, hown, hts⟩ (ct_M_puts h _) (cwV 0 hts (lw_V q1701 q1703 qs80 q97 q1704) rfl rfl rfl (by decide +kernel) ⟨Nat.le_trans (Nat.le_of_ble_eq_true rfl) hRf, Nat.le_trans (Nat.le_of_ble_eq_true rfl) hRl⟩) ⟨ct_blind, va_recv hK hP (ci := 2) (q0 := 0) rfl rfl, ct_at F hS hP hD⟩ rfl rfl hl.1 rfl (lv_room (Nat.le_of_ble_eq_true rfl)) dX3_crewHolds_1 ⟨hC, hSl⟩) rfl rfl hD hS ?_
  rintro ar1 H locs h hP hD hS
  refine lv_iconst (v := (0 : Int32)) hx hb dX3_crewHolds_4 (by decide) ?_
  refine lv_istore_n (lv' := [(2, .int (0 : Int32)), (0, .ref o), (1, .int v1)]) hx hb dX3_crewHolds_5 rfl hl (by decide) rfl (fun ls hl => ?_)
  obtain ⟨k6, h⟩ := h
  refine lp_M_crewHolds_L1 F hRf hRl hC hSl ?hk39 k6 _ _ h _ _ _ hP hD hS (lv_sub hl [1, 2, 0] rfl)
  case hk39 =>
    intro ar_3 h H locs ls hP hD hS hl
    refine lv_aload_n hx hb dX3_crewHolds_39 rfl (lv_at hl 0 rfl) ?_
    refine lv_aload_n hx hb dX3_crewHolds_40 rfl (lv_at hl 0 rfl) ?_
    refine va_get hx hb hts in_X3 hown hK hP 0 rfl rfl 13 (Nat.le_of_ble_eq_true rfl) (hts _ q1231) (fun _ h => h) (v := .ref (ad 13)) rfl dX3_crewHolds_41 ?_
    refine lv_iload_n hx hb dX3_crewHolds_44 rfl (lv_at hl 1 rfl) ?_
    refine cl_v F (va_runV (As := [.ref (ad 13), .int v1]) (rest := []) ⟨hx, hb, hml, hown, hts⟩ (ct_M_builds_i13 h _) (cwV 2 hts (lw_V q1626 q1628 qs68 q97 q1629) rfl rfl rfl (by decide +kernel) ⟨Nat.le_trans (Nat.le_of_ble_eq_true rfl) hRf, Nat.le_trans (Nat.le_of_ble_eq_true rfl) hRl⟩) ⟨ct_blind, va_recv hK hP (ci := 2) (q0 := 0) rfl rfl, ct_at F hS hP hD⟩ rfl rfl hl.1 rfl (lv_room (Nat.le_of_ble_eq_true rfl)) dX3_crewHolds_45 ⟨hC, hSl⟩) rfl rfl hD hS ?_
    rintro ⟨fd4, ar5⟩ H locs h hP hD hS
    refine lv_aload_n hx hb dX3_crewHolds_48 rfl (lv_at hl 0 rfl) ?_
    refine lv_aload_n hx hb dX3_crewHolds_49 rfl (lv_at hl 0 rfl) ?_
    refine va_get hx hb hts in_X3 hown hK hP 0 rfl rfl 13 (Nat.le_of_ble_eq_true rfl) (hts _ q1231) (fun _ h => h) (v := .ref (ad 13)) rfl dX3_crewHolds_50 ?_
    refine cl_i F (va_runV (As := [.ref (ad 13)]) (rest := []) ⟨hx, hb, hml, hown, hts⟩ (ct_M_isHigh_i13 h _) (cwV 1 hts (lw_V q1722 q1724 qs83 q97 q1725) rfl rfl rfl (by decide +kernel) ⟨Nat.le_trans (Nat.le_of_ble_eq_true rfl) hRf, Nat.le_trans (Nat.le_of_ble_eq_true rfl) hRl⟩) ⟨ct_blind, va_recv hK hP (ci := 2) (q0 := 0) rfl rfl, ct_at F hS hP hD⟩ rfl rfl hl.1 rfl (lv_room (Nat.le_of_ble_eq_true rfl)) dX3_crewHolds_53 ⟨hC, hSl⟩) rfl rfl hD hS ?_
    rintro x6 ar7 H locs h hP hD hS
    exact rt_i F dX3_crewHolds_56 (by rcases h.1 with e | e <;> rw [e] <;> rfl) (fd4, ar7) h.2 hP hD hS (Nat.le_refl _) (Nat.le_refl _)
set_option maxHeartbeats 4000000 in
theorem lp_M_post_L2 {p : Program} {l : Launch} {e : Env} {R : Room} {s : State} {m : MethodId} {args : Array Value} {below : List Frame} {meth : Method} {c : Code} {cells slots : Nat} {A : Nat → Prop} {Qf : State → Prop} {V : evT} {D : va_G} {gI : Nat → ClassId} {o : Nat} {ad : Nat → Nat} {v1 : Int32} {v2 : Int32} {v3 : Int32} {v4 : Int32} {v5 : Int32} {v6 : Int32} {fd : Nat → Int32} {ar : Nat → Nat → Int32} {lw : Nat → Int64} {K148 : (Int32) → Prop} (F : ct_F p m c meth cX3_post 9 s args RX3 (some .int) A V D vwCl (tyL gI)) (hRf : 7 ≤ R.frames) (hRl : 149 ≤ R.locals) (hC : cells ≤ R.cells) (hSl : slots ≤ R.slots)
    (hK148 : ∀ (v7 : Int32), K148 v7 → ∀ (H : Heap) (locs : List Loc) (ls : Array Slot), va_P D vwCl (wm gI o ad fd ar lw) H → va_D A (wm gI o ad fd ar lw) → va_S A s.heap H locs → lv_has ls 9 [(0, .ref o), (1, .int v1), (2, .int v2), (3, .int v3), (4, .int v4), (5, .int v5), (7, .int v7)] → W p l e R s m args below meth c H locs cells slots Qf (F0 m 148 ls [])) :
    ∀ (n : Nat) (v7 : Int32) (v8 : Int32), wp_M_post_L2 v1 v2 v3 v4 v5 v6 fd ar lw K148 n v7 v8 → ∀ (H : Heap) (locs : List Loc) (ls : Array Slot), va_P D vwCl (wm gI o ad fd ar lw) H → va_D A (wm gI o ad fd ar lw) → va_S A s.heap H locs → lv_has ls 9 [(0, .ref o), (1, .int v1), (2, .int v2), (3, .int v3), (4, .int v4), (5, .int v5), (6, .int v6), (7, .int v7), (8, .int v8)] → W p l e R s m args below meth c H locs cells slots Qf (F0 m 113 ls []) := by
  obtain ⟨⟨hx, hb, hml, hown, hts⟩, hr, hlocks, hA, hK, hE⟩ := id F
  intro n
  induction n with
  | zero => intro v7 v8 h; exact h.elim
  | succ n ih =>
    intro v7 v8 h H locs ls hP hD hS hl
    unfold wp_M_post_L2 at h
    refine lv_iload hx hb dX3_post_113 (lv_at hl 8 rfl) ?_
    refine lv_aload_n hx hb dX3_post_115 rfl (lv_at hl 0 rfl) ?_
    refine va_get hx hb hts in_X3 hown hK hP 0 rfl rfl 3 (Nat.le_of_ble_eq_true rfl) (hts _ q1221) (fun _ h => h) (v := .int (fd 3)) rfl dX3_post_116 ?_
    refine lv_icmp_ge (tgt := 148) hx hb dX3_post_119 (by decide) (fun c10 => ?_) (fun c10 => ?_)
    · replace h := h.1 c10
      exact hK148 _ h _ _ _ hP hD hS (lv_sub hl [0, 1, 2, 3, 4, 5, 7] rfl)
    · replace h := h.2 c10
      refine lv_iload hx hb dX3_post_122 (lv_at hl 7 rfl) ?_
      refine lv_aload_n hx hb dX3_post_124 rfl (lv_at hl 0 rfl) ?_
      refine lv_aload_n hx hb dX3_post_125 rfl (lv_at hl 0 rfl) ?_
      refine va_get hx hb hts in_X3 hown hK hP 0 rfl rfl 13 (Nat.le_of_ble_eq_true rfl) (hts _ q1231) (fun _ h => h) (v := .ref (ad 13)) rfl dX3_post_126 ?_
      refine lv_iload hx hb dX3_post_129 (lv_at hl 8 rfl) ?_
      refine cl_i F (va_runV (As := [.ref (ad 13), .int v8]) (rest := [.int v7]) ⟨hx, hb, hml, hown, hts⟩ (ct_M_topOf_i13 h _) (cwV 2 hts (lw_V q1520 q1522 qs54 q97 q1523) rfl rfl rfl (by decide +kernel) ⟨Nat.le_trans (Nat.le_of_ble_eq_true rfl) hRf, Nat.le_trans (Nat.le_of_ble_eq_true rfl) hRl⟩) ⟨ct_blind, va_recv hK hP (ci := 2) (q0 := 0) rfl rfl, ct_at F hS hP hD⟩ rfl rfl hl.1 rfl (lv_room (Nat.le_of_ble_eq_true rfl)) dX3_post_131 ⟨hC, hSl⟩) rfl rfl hD hS ?_
      rintro x9 _ H locs h hP hD hS
      refine lv_iload hx hb dX3_post_134 (lv_at hl 6 rfl) ?_
      refine lv_isub hx hb dX3_post_136 ?_
      refine va_mmin hx hb (hml.trans hl.1.symm) hown (hts _ q1402) (hts _ q336) (hts _ q100) (hts _ q337) (Nat.le_trans (Nat.le_of_ble_eq_true rfl) hRf) (Nat.le_trans (Nat.le_of_ble_eq_true rfl) hRl) hC hSl dX3_post_137 ?_
      refine lv_istore (lv' := [(7, .int (mnI v7 (x9 - v6))), (0, .ref o), (1, .int v1), (2, .int v2), (3, .int v3), (4, .int v4), (5, .int v5), (6, .int v6), (8, .int v8)]) hx hb dX3_post_140 hl (by decide) rfl (fun ls hl => ?_)
      refine lv_iinc (v := (v8 + (1 : Int32))) (lv' := [(8, .int (v8 + (1 : Int32))), (7, .int (mnI v7 (x9 - v6))), (0, .ref o), (1, .int v1), (2, .int v2), (3, .int v3), (4, .int v4), (5, .int v5), (6, .int v6)]) hx hb dX3_post_142 hl (k := 8) rfl rfl (by decide) rfl (fun ls hl => ?_)
      refine lv_goto (tgt := 113) hx hb dX3_post_145 (by decide) ?_
      exact ih _ _ h _ _ _ hP hD hS (lv_sub hl [2, 3, 4, 5, 6, 7, 8, 1, 0] rfl)
set_option maxHeartbeats 4000000 in
theorem lp_M_post_J3 {p : Program} {l : Launch} {e : Env} {R : Room} {s : State} {m : MethodId} {args : Array Value} {below : List Frame} {meth : Method} {c : Code} {cells slots : Nat} {A : Nat → Prop} {Qf : State → Prop} {V : evT} {D : va_G} {gI : Nat → ClassId} {o : Nat} {ad : Nat → Nat} {v1 : Int32} {v2 : Int32} {v7 : Int32} {fd : Nat → Int32} {ar : Nat → Nat → Int32} {lw : Nat → Int64} {K51 : (Int32) → (Int32) → (Int32) → Prop} (F : ct_F p m c meth cX3_post 9 s args RX3 (some .int) A V D vwCl (tyL gI)) (hRf : 7 ≤ R.frames) (hRl : 149 ≤ R.locals) (hC : cells ≤ R.cells) (hSl : slots ≤ R.slots)
    (hK51 : ∀ (v3 : Int32) (v4 : Int32) (v5 : Int32), K51 v3 v4 v5 → ∀ (H : Heap) (locs : List Loc) (ls : Array Slot), va_P D vwCl (wm gI o ad fd ar lw) H → va_D A (wm gI o ad fd ar lw) → va_S A s.heap H locs → lv_has ls 9 [(0, .ref o), (1, .int v1), (2, .int v2), (3, .int v3), (4, .int v4), (5, .int v5)] → W p l e R s m args below meth c H locs cells slots Qf (F0 m 51 ls [])) :
    ∀ (v4 : Int32) (v5 : Int32) (t0 : Int32), wp_M_post_J3 v1 v2 v7 fd ar lw K51 v4 v5 t0 → ∀ (H : Heap) (locs : List Loc) (ls : Array Slot), va_P D vwCl (wm gI o ad fd ar lw) H → va_D A (wm gI o ad fd ar lw) → va_S A s.heap H locs → lv_has ls 9 [(0, .ref o), (1, .int v1), (2, .int v2), (4, .int v4), (5, .int v5), (7, .int v7)] → W p l e R s m args below meth c H locs cells slots Qf (F0 m 161 ls [.int t0]) := by
  obtain ⟨⟨hx, hb, hml, hown, hts⟩, hr, hlocks, hA, hK, hE⟩ := id F
  intro v4 v5 t0 h H locs ls hP hD hS hl
  unfold wp_M_post_J3 at h
  refine lv_istore_n (lv' := [(3, .int t0), (0, .ref o), (1, .int v1), (2, .int v2), (4, .int v4), (5, .int v5), (7, .int v7)]) hx hb dX3_post_161 rfl hl (by decide) rfl (fun ls hl => ?_)
  refine lv_iload hx hb dX3_post_162 (lv_at hl 4 rfl) ?_
  refine lv_iload hx hb dX3_post_164 (lv_at hl 6 rfl) ?_
  refine va_mmax hx hb (hml.trans hl.1.symm) hown (hts _ q1560) (hts _ q636) (hts _ q100) (hts _ q637) (Nat.le_trans (Nat.le_of_ble_eq_true rfl) hRf) (Nat.le_trans (Nat.le_of_ble_eq_true rfl) hRl) hC hSl dX3_post_166 ?_
  refine lv_istore (lv' := [(4, .int (mxI v4 v7)), (3, .int t0), (0, .ref o), (1, .int v1), (2, .int v2), (5, .int v5), (7, .int v7)]) hx hb dX3_post_169 hl (by decide) rfl (fun ls hl => ?_)
  refine lv_iinc (v := (v5 + (1 : Int32))) (lv' := [(5, .int (v5 + (1 : Int32))), (4, .int (mxI v4 v7)), (3, .int t0), (0, .ref o), (1, .int v1), (2, .int v2), (7, .int v7)]) hx hb dX3_post_171 hl (k := 5) rfl rfl (by decide) rfl (fun ls hl => ?_)
  refine lv_goto (tgt := 51) hx hb dX3_post_174 (by decide) ?_
  exact hK51 _ _ _ h _ _ _ hP hD hS (lv_sub hl [3, 4, 5, 2, 1, 0] rfl)
set_option maxHeartbeats 4000000 in
theorem lp_M_post_L1 {p : Program} {l : Launch} {e : Env} {R : Room} {s : State} {m : MethodId} {args : Array Value} {below : List Frame} {meth : Method} {c : Code} {cells slots : Nat} {A : Nat → Prop} {Qf : State → Prop} {V : evT} {D : va_G} {gI : Nat → ClassId} {o : Nat} {ad : Nat → Nat} {v1 : Int32} {v2 : Int32} {lw : Nat → Int64} {K177 : (Int32) → (Int32) → (Nat → Int32) → (Nat → Nat → Int32) → Prop} (F : ct_F p m c meth cX3_post 9 s args RX3 (some .int) A V D vwCl (tyL gI)) (hRf : 7 ≤ R.frames) (hRl : 149 ≤ R.locals) (hC : cells ≤ R.cells) (hSl : slots ≤ R.slots)
    (hK177 : ∀ (v3 : Int32) (v4 : Int32) (fd : Nat → Int32) (ar : Nat → Nat → Int32), K177 v3 v4 fd ar → ∀ (H : Heap) (locs : List Loc) (ls : Array Slot), va_P D vwCl (wm gI o ad fd ar lw) H → va_D A (wm gI o ad fd ar lw) → va_S A s.heap H locs → lv_has ls 9 [(0, .ref o), (3, .int v3), (4, .int v4)] → W p l e R s m args below meth c H locs cells slots Qf (F0 m 177 ls [])) :
    ∀ (n : Nat) (v3 : Int32) (v4 : Int32) (v5 : Int32) (fd : Nat → Int32) (ar : Nat → Nat → Int32), wp_M_post_L1 v1 v2 lw K177 n v3 v4 v5 fd ar → ∀ (H : Heap) (locs : List Loc) (ls : Array Slot), va_P D vwCl (wm gI o ad fd ar lw) H → va_D A (wm gI o ad fd ar lw) → va_S A s.heap H locs → lv_has ls 9 [(0, .ref o), (1, .int v1), (2, .int v2), (3, .int v3), (4, .int v4), (5, .int v5)] → W p l e R s m args below meth c H locs cells slots Qf (F0 m 51 ls []) := by
  obtain ⟨⟨hx, hb, hml, hown, hts⟩, hr, hlocks, hA, hK, hE⟩ := id F
  intro n
  induction n with
  | zero => intro v3 v4 v5 fd ar h; exact h.elim
  | succ n ih =>
    intro v3 v4 v5 fd ar h H locs ls hP hD hS hl
    unfold wp_M_post_L1 at h
    refine lv_iload hx hb dX3_post_51 (lv_at hl 5 rfl) ?_
    refine lv_aload_n hx hb dX3_post_53 rfl (lv_at hl 0 rfl) ?_
    refine va_get hx hb hts in_X3 hown hK hP 0 rfl rfl 3 (Nat.le_of_ble_eq_true rfl) (hts _ q1221) (fun _ h => h) (v := .int (fd 3)) rfl dX3_post_54 ?_
    refine lv_icmp_ge (tgt := 177) hx hb dX3_post_57 (by decide) (fun c19 => ?_) (fun c19 => ?_)
    · replace h := h.1 c19
      exact hK177 _ _ _ _ h _ _ _ hP hD hS (lv_sub hl [0, 3, 4] rfl)
    · replace h := h.2 c19
      refine lv_aload_n hx hb dX3_post_60 rfl (lv_at hl 0 rfl) ?_
      refine cl_v F (va_runV (As := []) (rest := []) ⟨hx, hb, hml, hown, hts⟩ (ct_M_puts h _) (cwV 0 hts (lw_V q1701 q1703 qs80 q97 q1704) rfl rfl rfl (by decide +kernel) ⟨Nat.le_trans (Nat.le_of_ble_eq_true rfl) hRf, Nat.le_trans (Nat.le_of_ble_eq_true rfl) hRl⟩) ⟨ct_blind, va_recv hK hP (ci := 2) (q0 := 0) rfl rfl, ct_at F hS hP hD⟩ rfl rfl hl.1 rfl (lv_room (Nat.le_of_ble_eq_true rfl)) dX3_post_61 ⟨hC, hSl⟩) rfl rfl hD hS ?_
      rintro ar4 H locs h hP hD hS
      refine lv_aload_n hx hb dX3_post_64 rfl (lv_at hl 0 rfl) ?_
      refine va_get hx hb hts in_X3 hown hK hP 0 rfl rfl 13 (Nat.le_of_ble_eq_true rfl) (hts _ q1231) (fun _ h => h) (v := .ref (ad 13)) rfl dX3_post_65 ?_
      refine lv_bipush (v := (25 : Int32)) hx hb dX3_post_68 (by decide) ?_
      refine lv_iconst (v := (2 : Int32)) hx hb dX3_post_70 (by decide) ?_
      refine lv_iload_n hx hb dX3_post_71 rfl (lv_at hl 1 rfl) ?_
      refine lv_imul hx hb dX3_post_72 ?_
      refine lv_iadd hx hb dX3_post_73 ?_
      refine lv_iconst (v := (0 : Int32)) hx hb dX3_post_74 (by decide) ?_
      refine lv_iadd hx hb dX3_post_75 ?_
      refine lv_iload hx hb dX3_post_76 (lv_at hl 5 rfl) ?_
      refine pt_iast (f := (ar4 13)) hx hb hK hP hD hS 9 0 rfl rfl h.1 dX3_post_78 wmA_13 (fun H locs hP hD hS => ?_)
      replace h := h.2
      refine lv_aload_n hx hb dX3_post_79 rfl (lv_at hl 0 rfl) ?_
      refine lv_aload_n hx hb dX3_post_80 rfl (lv_at hl 0 rfl) ?_
      refine va_get hx hb hts in_X3 hown hK hP 0 rfl rfl 13 (Nat.le_of_ble_eq_true rfl) (hts _ q1231) (fun _ h => h) (v := .ref (ad 13)) rfl dX3_post_81 ?_
      refine lv_iload_n hx hb dX3_post_84 rfl (lv_at hl 2 rfl) ?_
      refine cl_v F (va_runV (As := [.ref (ad 13), .int v2]) (rest := []) ⟨hx, hb, hml, hown, hts⟩ (ct_M_builds_i13 h _) (cwV 2 hts (lw_V q1626 q1628 qs68 q97 q1629) rfl rfl rfl (by decide +kernel) ⟨Nat.le_trans (Nat.le_of_ble_eq_true rfl) hRf, Nat.le_trans (Nat.le_of_ble_eq_true rfl) hRl⟩) ⟨ct_blind, va_recv hK hP (ci := 2) (q0 := 0) rfl rfl, ct_at F hS hP hD⟩ rfl rfl hl.1 rfl (lv_room (Nat.le_of_ble_eq_true rfl)) dX3_post_85 ⟨hC, hSl⟩) rfl rfl hD hS ?_
      rintro ⟨fd5, ar6⟩ H locs h hP hD hS
      refine lv_aload_n hx hb dX3_post_88 rfl (lv_at hl 0 rfl) ?_
      refine lv_aload_n hx hb dX3_post_89 rfl (lv_at hl 0 rfl) ?_
      refine va_get hx hb hts in_X3 hown hK hP 0 rfl rfl 13 (Nat.le_of_ble_eq_true rfl) (hts _ q1231) (fun _ h => h) (v := .ref (ad 13)) rfl dX3_post_90 ?_
      refine lv_aload_n hx hb dX3_post_93 rfl (lv_at hl 0 rfl) ?_
      refine va_get hx hb hts in_X3 hown hK hP 0 rfl rfl 13 (Nat.le_of_ble_eq_true rfl) (hts _ q1231) (fun _ h => h) (v := .ref (ad 13)) rfl dX3_post_94 ?_
      refine lv_bipush (v := (42 : Int32)) hx hb dX3_post_97 (by decide) ?_
      refine va_iald (f := (ar6 13)) hx hb hK hP 9 0 rfl rfl (by unfold vp_in; decide) dX3_post_99 ?_
      refine cl_i F (va_runV (As := [.ref (ad 13), .int (ar6 13 (42 : Int32).toNatClampNeg)]) (rest := []) ⟨hx, hb, hml, hown, hts⟩ (ct_M_levelOf_i13 h _) (cwV 2 hts (lw_V q1650 q1652 qs73 q97 q1653) rfl rfl rfl (by decide +kernel) ⟨Nat.le_trans (Nat.le_of_ble_eq_true rfl) hRf, Nat.le_trans (Nat.le_of_ble_eq_true rfl) hRl⟩) ⟨ct_blind, va_recv hK hP (ci := 2) (q0 := 0) rfl rfl, ct_at F hS hP hD⟩ rfl rfl hl.1 rfl (lv_room (Nat.le_of_ble_eq_true rfl)) dX3_post_100 ⟨hC, hSl⟩) rfl rfl hD hS ?_
      rintro x7 ar8 H locs h hP hD hS
      refine lv_istore (lv' := [(6, .int x7), (0, .ref o), (1, .int v1), (2, .int v2), (3, .int v3), (4, .int v4), (5, .int v5)]) hx hb dX3_post_103 hl (by decide) rfl (fun ls hl => ?_)
      refine lv_ldcw (v := (1000000 : Int32)) hx hb hown (hts _ q1747) dX3_post_105 ?_
      refine lv_istore (lv' := [(7, .int (1000000 : Int32)), (6, .int x7), (0, .ref o), (1, .int v1), (2, .int v2), (3, .int v3), (4, .int v4), (5, .int v5)]) hx hb dX3_post_108 hl (by decide) rfl (fun ls hl => ?_)
      refine lv_iconst (v := (0 : Int32)) hx hb dX3_post_110 (by decide) ?_
      refine lv_istore (lv' := [(8, .int (0 : Int32)), (7, .int (1000000 : Int32)), (6, .int x7), (0, .ref o), (1, .int v1), (2, .int v2), (3, .int v3), (4, .int v4), (5, .int v5)]) hx hb dX3_post_111 hl (by decide) rfl (fun ls hl => ?_)
      obtain ⟨k113, h⟩ := h
      refine lp_M_post_L2 F hRf hRl hC hSl ?hk148 k113 _ _ h _ _ _ hP hD hS (lv_sub hl [3, 4, 5, 6, 7, 8, 2, 1, 0] rfl)
      case hk148 =>
        intro v7_11 h H locs ls hP hD hS hl
        refine lv_iload hx hb dX3_post_148 (lv_at hl 6 rfl) ?_
        refine lv_iload hx hb dX3_post_150 (lv_at hl 4 rfl) ?_
        refine lv_icmp_le (tgt := 160) hx hb dX3_post_152 (by decide) (fun c18 => ?_) (fun c18 => ?_)
        · replace h := h.1 c18
          refine lv_iload_n hx hb dX3_post_160 rfl (lv_at hl 3 rfl) ?_
          refine lp_M_post_J3 F hRf hRl hC hSl ?hk51 _ _ _ h _ _ _ hP hD hS (lv_sub hl [0, 1, 2, 4, 5, 6] rfl)
          case hk51 =>
            intro v3_12 v4_13 v5_14 h H locs ls hP hD hS hl
            exact ih _ _ _ _ _ h _ _ _ hP hD hS (lv_sub hl [0, 1, 2, 3, 4, 5] rfl)
        · replace h := h.2 c18
          refine lv_iload hx hb dX3_post_155 (lv_at hl 5 rfl) ?_
          refine lv_goto (tgt := 161) hx hb dX3_post_157 (by decide) ?_
          refine lp_M_post_J3 F hRf hRl hC hSl ?hk51 _ _ _ h _ _ _ hP hD hS (lv_sub hl [0, 1, 2, 4, 5, 6] rfl)
          case hk51 =>
            intro v3_15 v4_16 v5_17 h H locs ls hP hD hS hl
            exact ih _ _ _ _ _ h _ _ _ hP hD hS (lv_sub hl [0, 1, 2, 3, 4, 5] rfl)
set_option maxHeartbeats 4000000 in
theorem ct_M_post {l : Launch} {V : evT} {D : va_G} {gI : Nat → ClassId} {o : Nat} {ad : Nat → Nat} {v1 : Int32} {v2 : Int32} {fd : Nat → Int32} {ar : Nat → Nat → Int32} {lw : Nat → Int64} {Q : Int32 → (Nat → Int32) → (Nat → Nat → Int32) → (Nat → Int64) → Prop} (h : wp_M_post v1 v2 fd ar lw Q) : ct_i l V D vwCl (tyL gI) yX3_post cX3_post 9 .int { frames := 7, cells := 0, slots := 0, locals := 149 } [.ref o, .int v1, .int v2] (wm gI o ad fd ar lw) (fun u : (Nat → Int32) × (Nat → Nat → Int32) × (Nat → Int64) => (wm gI o ad u.1 u.2.1 u.2.2)) (fun (x : Int32) (u : (Nat → Int32) × (Nat → Nat → Int32) × (Nat → Int64)) => Q x u.1 u.2.1 u.2.2) := by
  refine ct_ofi RX3 rfl (by decide +kernel) (Nat.le_of_ble_eq_true rfl) ?_
  intro p e s m args below meth c A F hP hD ls hl
  obtain ⟨⟨hx, hb, hml, hown, hts⟩, hr, hlocks, hA, hK, hE⟩ := id F
  have hS : va_S A s.heap s.heap [] := va_S.rf
  have hl : lv_has ls 9 [(0, .ref o), (1, .int v1), (2, .int v2)] := hl
  have hRf : 7 ≤ ({ frames := 7, cells := 0, slots := 0, locals := 149 } : Room).frames := Nat.le_refl _
  have hRl : 149 ≤ ({ frames := 7, cells := 0, slots := 0, locals := 149 } : Room).locals := Nat.le_refl _
  have hC : 0 ≤ ({ frames := 7, cells := 0, slots := 0, locals := 149 } : Room).cells := Nat.le_refl _
  have hSl : 0 ≤ ({ frames := 7, cells := 0, slots := 0, locals := 149 } : Room).slots := Nat.le_refl _
  unfold wp_M_post at h
  refine lv_aload_n hx hb dX3_post_0 rfl (lv_at hl 0 rfl) ?_
  refine lv_iconst (v := (0 : Int32)) hx hb dX3_post_1 (by decide) ?_
  refine pt_put (v := .int (0 : Int32)) hx hb hts in_X3 tyX3 tyX3_ok nmX3 hown hK hP hD hS 0 rfl rfl 0 (Nat.le_of_ble_eq_true rfl) (hts _ q1218) (fun _ h => h) rfl (ty := .int) (by decide +kernel) rfl rfl (Nat.le_of_ble_eq_true rfl) dX3_post_2 wmF_0 (fun H locs hP hD hS => ?_)
  refine lv_aload_n hx hb dX3_post_5 rfl (lv_at hl 0 rfl) ?_
  refine lv_iload_n hx hb dX3_post_6 rfl (lv_at hl 1 rfl) ?_
  refine cl_i F (va_runV (As := [.int v1]) (rest := []) ⟨hx, hb, hml, hown, hts⟩ (ct_M_isChild h _) (cwV 1 hts (lw_V q1528 q1530 qs55 q97 q1531) rfl rfl rfl (by decide +kernel) ⟨Nat.le_trans (Nat.le_of_ble_eq_true rfl) hRf, Nat.le_trans (Nat.le_of_ble_eq_true rfl) hRl⟩) ⟨ct_blind, va_recv hK hP (ci := 2) (q0 := 0) rfl rfl, ct_at F hS hP hD⟩ rfl rfl hl.1 rfl (lv_room (Nat.le_of_ble_eq_true rfl)) dX3_post_7 ⟨hC, hSl⟩) rfl rfl hD hS ?_
  rintro x1 _ H locs h hP hD hS
  refine lv_if_eq (tgt := 25) hx hb dX3_post_10 (by decide) (fun c28 => ?_) (fun c28 => ?_)
  · replace h := h.1 c28
    refine lv_iconst (v := (-1 : Int32)) hx hb dX3_post_25 (by decide) ?_
    exact rt_i F dX3_post_26 rfl ((upd fd 0 (0 : Int32)), ar, lw) h hP hD hS (Nat.le_refl _) (Nat.le_refl _)
  · replace h := h.2 c28
    refine lv_iload_n hx hb dX3_post_13 rfl (lv_at hl 2 rfl) ?_
    refine lv_i2l (v := (v2.toInt64)) hx hb dX3_post_14 rfl ?_
    refine lv_lconst (v := (1 : Int64)) hx hb dX3_post_15 (by decide) ?_
    refine lv_ldc2 (v := (9 : Int64)) hx hb hown (hts _ q1554) dX3_post_16 ?_
    refine cl_i0 F (va_runS (As := [.long (v2.toInt64), .long (1 : Int64), .long (9 : Int64)]) (rest := []) ⟨hx, hb, hml, hown, hts⟩ (ct_X3_in h _) (va_cwS 3 hts (lw_S q1391 q1392 q97 q1393) rfl rfl rfl (by decide +kernel) ⟨Nat.le_trans (Nat.le_of_ble_eq_true rfl) hRf, Nat.le_trans (Nat.le_of_ble_eq_true rfl) hRl⟩) ⟨ct_blind, ct_at F hS ct_nP ct_nD⟩ rfl rfl hl.1 rfl (lv_room (Nat.le_of_ble_eq_true rfl)) dX3_post_19 ⟨hC, hSl⟩) rfl rfl hP hS ?_
    rintro x2 _ H locs h hP hS
    refine lv_if_ne (tgt := 27) hx hb dX3_post_22 (by decide) (fun c27 => ?_) (fun c27 => ?_)
    · replace h := h.1 c27
      refine lv_aload_n hx hb dX3_post_27 rfl (lv_at hl 0 rfl) ?_
      refine va_get hx hb hts in_X3 hown hK hP 0 rfl rfl 12 (Nat.le_of_ble_eq_true rfl) (hts _ q1230) (fun _ h => h) (v := .ref (ad 12)) rfl dX3_post_28 ?_
      refine lv_iload_n hx hb dX3_post_31 rfl (lv_at hl 1 rfl) ?_
      refine cl_i F (va_runS (As := [.ref (ad 12), .int v1]) (rest := []) ⟨hx, hb, hml, hown, hts⟩ (ct_M_moodOf_i12 h _) (va_cwS 2 hts (lw_S q1532 q1533 q97 q1534) rfl rfl rfl (by decide +kernel) ⟨Nat.le_trans (Nat.le_of_ble_eq_true rfl) hRf, Nat.le_trans (Nat.le_of_ble_eq_true rfl) hRl⟩) ⟨ct_blind, ct_at F hS hP hD⟩ rfl rfl hl.1 rfl (lv_room (Nat.le_of_ble_eq_true rfl)) dX3_post_32 ⟨hC, hSl⟩) rfl rfl hD hS ?_
      rintro x3 _ H locs h hP hD hS
      refine lv_if_ne (tgt := 41) hx hb dX3_post_35 (by decide) (fun c26 => ?_) (fun c26 => ?_)
      · replace h := h.1 c26
        refine lv_iconst (v := (-1 : Int32)) hx hb dX3_post_41 (by decide) ?_
        refine lv_istore_n (lv' := [(3, .int (-1 : Int32)), (0, .ref o), (1, .int v1), (2, .int v2)]) hx hb dX3_post_42 rfl hl (by decide) rfl (fun ls hl => ?_)
        refine lv_ldcw (v := (-1000000 : Int32)) hx hb hown (hts _ q1760) dX3_post_43 ?_
        refine lv_istore (lv' := [(4, .int (-1000000 : Int32)), (3, .int (-1 : Int32)), (0, .ref o), (1, .int v1), (2, .int v2)]) hx hb dX3_post_46 hl (by decide) rfl (fun ls hl => ?_)
        refine lv_iconst (v := (0 : Int32)) hx hb dX3_post_48 (by decide) ?_
        refine lv_istore (lv' := [(5, .int (0 : Int32)), (4, .int (-1000000 : Int32)), (3, .int (-1 : Int32)), (0, .ref o), (1, .int v1), (2, .int v2)]) hx hb dX3_post_49 hl (by decide) rfl (fun ls hl => ?_)
        obtain ⟨k51, h⟩ := h
        refine lp_M_post_L1 F hRf hRl hC hSl ?hk177 k51 _ _ _ _ _ h _ _ _ hP hD hS (lv_sub hl [3, 4, 5, 2, 1, 0] rfl)
        case hk177 =>
          intro v3_20 v4_21 fd_22 ar_23 h H locs ls hP hD hS hl
          refine lv_aload_n hx hb dX3_post_177 rfl (lv_at hl 0 rfl) ?_
          refine lv_iconst (v := (0 : Int32)) hx hb dX3_post_178 (by decide) ?_
          refine pt_put (v := .int (0 : Int32)) hx hb hts in_X3 tyX3 tyX3_ok nmX3 hown hK hP hD hS 0 rfl rfl 1 (Nat.le_of_ble_eq_true rfl) (hts _ q1219) (fun _ h => h) rfl (ty := .int) (by decide +kernel) rfl rfl (Nat.le_of_ble_eq_true rfl) dX3_post_179 wmF_1 (fun H locs hP hD hS => ?_)
          refine lv_aload_n hx hb dX3_post_182 rfl (lv_at hl 0 rfl) ?_
          refine lv_sipush (v := (1000 : Int32)) hx hb dX3_post_183 (by decide) ?_
          refine lv_iload hx hb dX3_post_186 (lv_at hl 2 rfl) ?_
          refine lv_iadd hx hb dX3_post_188 ?_
          refine lv_i2l (v := (((1000 : Int32) + v4_21).toInt64)) hx hb dX3_post_189 rfl ?_
          refine cl_v F (va_runV (As := [.long (((1000 : Int32) + v4_21).toInt64)]) (rest := []) ⟨hx, hb, hml, hown, hts⟩ (ct_M_enters h _) (cwV 1 hts (lw_V q1634 q1636 qs70 q97 q1637) rfl rfl rfl (by decide +kernel) ⟨Nat.le_trans (Nat.le_of_ble_eq_true rfl) hRf, Nat.le_trans (Nat.le_of_ble_eq_true rfl) hRl⟩) ⟨ct_blind, va_recv hK hP (ci := 2) (q0 := 0) rfl rfl, ct_at F hS hP hD⟩ rfl rfl hl.1 rfl (lv_room (Nat.le_of_ble_eq_true rfl)) dX3_post_190 ⟨hC, hSl⟩) rfl rfl hD hS ?_
          rintro ⟨fd24, lw25⟩ H locs h hP hD hS
          refine lv_iload_n hx hb dX3_post_193 rfl (lv_at hl 1 rfl) ?_
          exact rt_i F dX3_post_194 rfl (fd24, ar_23, lw25) h hP hD hS (Nat.le_refl _) (Nat.le_refl _)
      · replace h := h.2 c26
        refine lv_bipush (v := (-2 : Int32)) hx hb dX3_post_38 (by decide) ?_
        exact rt_i F dX3_post_40 rfl ((upd fd 0 (0 : Int32)), ar, lw) h hP hD hS (Nat.le_refl _) (Nat.le_refl _)
    · replace h := h.2 c27
      refine lv_iconst (v := (-1 : Int32)) hx hb dX3_post_25 (by decide) ?_
      exact rt_i F dX3_post_26 rfl ((upd fd 0 (0 : Int32)), ar, lw) h hP hD hS (Nat.le_refl _) (Nat.le_refl _)
set_option maxHeartbeats 4000000 in
theorem lp_M_moats_J2 {p : Program} {l : Launch} {e : Env} {R : Room} {s : State} {m : MethodId} {args : Array Value} {below : List Frame} {meth : Method} {c : Code} {cells slots : Nat} {A : Nat → Prop} {Qf : State → Prop} {V : evT} {D : va_G} {gI : Nat → ClassId} {o : Nat} {ad : Nat → Nat} {v1 : Int32} {v5 : Int32} {fd : Nat → Int32} {ar : Nat → Nat → Int32} {lw : Nat → Int64} {K37 : (Int32) → (Int32) → (Int32) → Prop} (F : ct_F p m c meth cX3_moats 6 s args RX3 (some .int) A V D vwCl (tyL gI)) (hRf : 7 ≤ R.frames) (hRl : 144 ≤ R.locals) (hC : cells ≤ R.cells) (hSl : slots ≤ R.slots)
    (hK37 : ∀ (v2 : Int32) (v3 : Int32) (v4 : Int32), K37 v2 v3 v4 → ∀ (H : Heap) (locs : List Loc) (ls : Array Slot), va_P D vwCl (wm gI o ad fd ar lw) H → va_D A (wm gI o ad fd ar lw) → va_S A s.heap H locs → lv_has ls 6 [(0, .ref o), (1, .int v1), (2, .int v2), (3, .int v3), (4, .int v4)] → W p l e R s m args below meth c H locs cells slots Qf (F0 m 37 ls [])) :
    ∀ (v3 : Int32) (v4 : Int32) (t0 : Int32), wp_M_moats_J2 v1 v5 fd ar lw K37 v3 v4 t0 → ∀ (H : Heap) (locs : List Loc) (ls : Array Slot), va_P D vwCl (wm gI o ad fd ar lw) H → va_D A (wm gI o ad fd ar lw) → va_S A s.heap H locs → lv_has ls 6 [(0, .ref o), (1, .int v1), (3, .int v3), (4, .int v4), (5, .int v5)] → W p l e R s m args below meth c H locs cells slots Qf (F0 m 88 ls [.int t0]) := by
  obtain ⟨⟨hx, hb, hml, hown, hts⟩, hr, hlocks, hA, hK, hE⟩ := id F
  intro v3 v4 t0 h H locs ls hP hD hS hl
  unfold wp_M_moats_J2 at h
  refine lv_istore_n (lv' := [(2, .int t0), (0, .ref o), (1, .int v1), (3, .int v3), (4, .int v4), (5, .int v5)]) hx hb dX3_moats_88 rfl hl (by decide) rfl (fun ls hl => ?_)
  refine lv_iload_n hx hb dX3_moats_89 rfl (lv_at hl 3 rfl) ?_
  refine lv_iload hx hb dX3_moats_90 (lv_at hl 5 rfl) ?_
  refine va_mmax hx hb (hml.trans hl.1.symm) hown (hts _ q1560) (hts _ q636) (hts _ q100) (hts _ q637) (Nat.le_trans (Nat.le_of_ble_eq_true rfl) hRf) (Nat.le_trans (Nat.le_of_ble_eq_true rfl) hRl) hC hSl dX3_moats_92 ?_
  refine lv_istore_n (lv' := [(3, .int (mxI v3 v5)), (2, .int t0), (0, .ref o), (1, .int v1), (4, .int v4), (5, .int v5)]) hx hb dX3_moats_95 rfl hl (by decide) rfl (fun ls hl => ?_)
  refine lv_iinc (v := (v4 + (1 : Int32))) (lv' := [(4, .int (v4 + (1 : Int32))), (3, .int (mxI v3 v5)), (2, .int t0), (0, .ref o), (1, .int v1), (5, .int v5)]) hx hb dX3_moats_96 hl (k := 4) rfl rfl (by decide) rfl (fun ls hl => ?_)
  refine lv_goto (tgt := 37) hx hb dX3_moats_99 (by decide) ?_
  exact hK37 _ _ _ h _ _ _ hP hD hS (lv_sub hl [3, 4, 2, 1, 0] rfl)
set_option maxHeartbeats 4000000 in
theorem lp_M_moats_L1 {p : Program} {l : Launch} {e : Env} {R : Room} {s : State} {m : MethodId} {args : Array Value} {below : List Frame} {meth : Method} {c : Code} {cells slots : Nat} {A : Nat → Prop} {Qf : State → Prop} {V : evT} {D : va_G} {gI : Nat → ClassId} {o : Nat} {ad : Nat → Nat} {v1 : Int32} {lw : Nat → Int64} {K102 : (Int32) → (Int32) → (Nat → Int32) → (Nat → Nat → Int32) → Prop} (F : ct_F p m c meth cX3_moats 6 s args RX3 (some .int) A V D vwCl (tyL gI)) (hRf : 7 ≤ R.frames) (hRl : 144 ≤ R.locals) (hC : cells ≤ R.cells) (hSl : slots ≤ R.slots)
    (hK102 : ∀ (v2 : Int32) (v3 : Int32) (fd : Nat → Int32) (ar : Nat → Nat → Int32), K102 v2 v3 fd ar → ∀ (H : Heap) (locs : List Loc) (ls : Array Slot), va_P D vwCl (wm gI o ad fd ar lw) H → va_D A (wm gI o ad fd ar lw) → va_S A s.heap H locs → lv_has ls 6 [(0, .ref o), (2, .int v2), (3, .int v3)] → W p l e R s m args below meth c H locs cells slots Qf (F0 m 102 ls [])) :
    ∀ (n : Nat) (v2 : Int32) (v3 : Int32) (v4 : Int32) (fd : Nat → Int32) (ar : Nat → Nat → Int32), wp_M_moats_L1 v1 lw K102 n v2 v3 v4 fd ar → ∀ (H : Heap) (locs : List Loc) (ls : Array Slot), va_P D vwCl (wm gI o ad fd ar lw) H → va_D A (wm gI o ad fd ar lw) → va_S A s.heap H locs → lv_has ls 6 [(0, .ref o), (1, .int v1), (2, .int v2), (3, .int v3), (4, .int v4)] → W p l e R s m args below meth c H locs cells slots Qf (F0 m 37 ls []) := by
  obtain ⟨⟨hx, hb, hml, hown, hts⟩, hr, hlocks, hA, hK, hE⟩ := id F
  intro n
  induction n with
  | zero => intro v2 v3 v4 fd ar h; exact h.elim
  | succ n ih =>
    intro v2 v3 v4 fd ar h H locs ls hP hD hS hl
    unfold wp_M_moats_L1 at h
    refine lv_iload hx hb dX3_moats_37 (lv_at hl 4 rfl) ?_
    refine lv_iconst (v := (1 : Int32)) hx hb dX3_moats_39 (by decide) ?_
    refine lv_aload_n hx hb dX3_moats_40 rfl (lv_at hl 0 rfl) ?_
    refine va_get hx hb hts in_X3 hown hK hP 0 rfl rfl 3 (Nat.le_of_ble_eq_true rfl) (hts _ q1221) (fun _ h => h) (v := .int (fd 3)) rfl dX3_moats_41 ?_
    refine lv_ishl hx hb dX3_moats_44 ?_
    refine lv_icmp_ge (tgt := 102) hx hb dX3_moats_45 (by decide) (fun c15 => ?_) (fun c15 => ?_)
    · replace h := h.1 c15
      exact hK102 _ _ _ _ h _ _ _ hP hD hS (lv_sub hl [0, 2, 3] rfl)
    · replace h := h.2 c15
      refine lv_iload hx hb dX3_moats_48 (lv_at hl 4 rfl) ?_
      refine cl_i0 F (va_runS (As := [.int v4]) (rest := []) ⟨hx, hb, hml, hown, hts⟩ (ct_J10_bitCount h _) (va_cwS 1 hts (lw_S q1552 q586 q112 q587) rfl rfl rfl (by decide +kernel) ⟨Nat.le_trans (Nat.le_of_ble_eq_true rfl) hRf, Nat.le_trans (Nat.le_of_ble_eq_true rfl) hRl⟩) ⟨ct_blind, ct_at F hS ct_nP ct_nD⟩ rfl rfl hl.1 rfl (lv_room (Nat.le_of_ble_eq_true rfl)) dX3_moats_50 ⟨hC, hSl⟩) rfl rfl hP hS ?_
      rintro x2 _ H locs h hP hS
      refine lv_iload_n hx hb dX3_moats_53 rfl (lv_at hl 1 rfl) ?_
      refine lv_icmp_ne (tgt := 96) hx hb dX3_moats_54 (by decide) (fun c14 => ?_) (fun c14 => ?_)
      · replace h := h.1 c14
        refine lv_iinc (v := (v4 + (1 : Int32))) (lv' := [(4, .int (v4 + (1 : Int32))), (0, .ref o), (1, .int v1), (2, .int v2), (3, .int v3)]) hx hb dX3_moats_96 hl (k := 4) rfl rfl (by decide) rfl (fun ls hl => ?_)
        refine lv_goto (tgt := 37) hx hb dX3_moats_99 (by decide) ?_
        exact ih _ _ _ _ _ h _ _ _ hP hD hS (lv_sub hl [1, 2, 3, 4, 0] rfl)
      · replace h := h.2 c14
        refine lv_aload_n hx hb dX3_moats_57 rfl (lv_at hl 0 rfl) ?_
        refine cl_v F (va_runV (As := []) (rest := []) ⟨hx, hb, hml, hown, hts⟩ (ct_M_puts h _) (cwV 0 hts (lw_V q1701 q1703 qs80 q97 q1704) rfl rfl rfl (by decide +kernel) ⟨Nat.le_trans (Nat.le_of_ble_eq_true rfl) hRf, Nat.le_trans (Nat.le_of_ble_eq_true rfl) hRl⟩) ⟨ct_blind, va_recv hK hP (ci := 2) (q0 := 0) rfl rfl, ct_at F hS hP hD⟩ rfl rfl hl.1 rfl (lv_room (Nat.le_of_ble_eq_true rfl)) dX3_moats_58 ⟨hC, hSl⟩) rfl rfl hD hS ?_
        rintro ar3 H locs h hP hD hS
        refine lv_aload_n hx hb dX3_moats_61 rfl (lv_at hl 0 rfl) ?_
        refine va_get hx hb hts in_X3 hown hK hP 0 rfl rfl 13 (Nat.le_of_ble_eq_true rfl) (hts _ q1231) (fun _ h => h) (v := .ref (ad 13)) rfl dX3_moats_62 ?_
        refine lv_bipush (v := (12 : Int32)) hx hb dX3_moats_65 (by decide) ?_
        refine lv_iload hx hb dX3_moats_67 (lv_at hl 4 rfl) ?_
        refine pt_iast (f := (ar3 13)) hx hb hK hP hD hS 9 0 rfl rfl (by unfold vp_in; decide) dX3_moats_69 wmA_13 (fun H locs hP hD hS => ?_)
        refine lv_aload_n hx hb dX3_moats_70 rfl (lv_at hl 0 rfl) ?_
        refine cl_i F (va_runV (As := []) (rest := []) ⟨hx, hb, hml, hown, hts⟩ (ct_M_breaksIn h _) (cwV 0 hts (lw_V q1705 q1707 qs81 q97 q1708) rfl rfl rfl (by decide +kernel) ⟨Nat.le_trans (Nat.le_of_ble_eq_true rfl) hRf, Nat.le_trans (Nat.le_of_ble_eq_true rfl) hRl⟩) ⟨ct_blind, va_recv hK hP (ci := 2) (q0 := 0) rfl rfl, ct_at F hS hP hD⟩ rfl rfl hl.1 rfl (lv_room (Nat.le_of_ble_eq_true rfl)) dX3_moats_71 ⟨hC, hSl⟩) rfl rfl hD hS ?_
        rintro x4 ⟨fd5, ar6⟩ H locs h hP hD hS
        refine lv_istore (lv' := [(5, .int x4), (0, .ref o), (1, .int v1), (2, .int v2), (3, .int v3), (4, .int v4)]) hx hb dX3_moats_74 hl (by decide) rfl (fun ls hl => ?_)
        refine lv_iload hx hb dX3_moats_76 (lv_at hl 0 rfl) ?_
        refine lv_iload_n hx hb dX3_moats_78 rfl (lv_at hl 4 rfl) ?_
        refine lv_icmp_le (tgt := 87) hx hb dX3_moats_79 (by decide) (fun c13 => ?_) (fun c13 => ?_)
        · replace h := h.1 c13
          refine lv_iload_n hx hb dX3_moats_87 rfl (lv_at hl 3 rfl) ?_
          refine lp_M_moats_J2 F hRf hRl hC hSl ?hk37 _ _ _ h _ _ _ hP hD hS (lv_sub hl [1, 2, 4, 5, 0] rfl)
          case hk37 =>
            intro v2_7 v3_8 v4_9 h H locs ls hP hD hS hl
            exact ih _ _ _ _ _ h _ _ _ hP hD hS (lv_sub hl [0, 1, 2, 3, 4] rfl)
        · replace h := h.2 c13
          refine lv_iload hx hb dX3_moats_82 (lv_at hl 5 rfl) ?_
          refine lv_goto (tgt := 88) hx hb dX3_moats_84 (by decide) ?_
          refine lp_M_moats_J2 F hRf hRl hC hSl ?hk37 _ _ _ h _ _ _ hP hD hS (lv_sub hl [1, 2, 4, 5, 0] rfl)
          case hk37 =>
            intro v2_10 v3_11 v4_12 h H locs ls hP hD hS hl
            exact ih _ _ _ _ _ h _ _ _ hP hD hS (lv_sub hl [0, 1, 2, 3, 4] rfl)
set_option maxHeartbeats 4000000 in
theorem ct_M_moats {l : Launch} {V : evT} {D : va_G} {gI : Nat → ClassId} {o : Nat} {ad : Nat → Nat} {v1 : Int32} {fd : Nat → Int32} {ar : Nat → Nat → Int32} {lw : Nat → Int64} {Q : Int32 → (Nat → Int32) → (Nat → Nat → Int32) → (Nat → Int64) → Prop} (h : wp_M_moats v1 fd ar lw Q) : ct_i l V D vwCl (tyL gI) yX3_moats cX3_moats 6 .int { frames := 7, cells := 0, slots := 0, locals := 144 } [.ref o, .int v1] (wm gI o ad fd ar lw) (fun u : (Nat → Int32) × (Nat → Nat → Int32) × (Nat → Int64) => (wm gI o ad u.1 u.2.1 u.2.2)) (fun (x : Int32) (u : (Nat → Int32) × (Nat → Nat → Int32) × (Nat → Int64)) => Q x u.1 u.2.1 u.2.2) := by
  refine ct_ofi RX3 rfl (by decide +kernel) (Nat.le_of_ble_eq_true rfl) ?_
  intro p e s m args below meth c A F hP hD ls hl
  obtain ⟨⟨hx, hb, hml, hown, hts⟩, hr, hlocks, hA, hK, hE⟩ := id F
  have hS : va_S A s.heap s.heap [] := va_S.rf
  have hl : lv_has ls 6 [(0, .ref o), (1, .int v1)] := hl
  have hRf : 7 ≤ ({ frames := 7, cells := 0, slots := 0, locals := 144 } : Room).frames := Nat.le_refl _
  have hRl : 144 ≤ ({ frames := 7, cells := 0, slots := 0, locals := 144 } : Room).locals := Nat.le_refl _
  have hC : 0 ≤ ({ frames := 7, cells := 0, slots := 0, locals := 144 } : Room).cells := Nat.le_refl _
  have hSl : 0 ≤ ({ frames := 7, cells := 0, slots := 0, locals := 144 } : Room).slots := Nat.le_refl _
  unfold wp_M_moats at h
  refine lv_aload_n hx hb dX3_moats_0 rfl (lv_at hl 0 rfl) ?_
  refine lv_iconst (v := (0 : Int32)) hx hb dX3_moats_1 (by decide) ?_
  refine pt_put (v := .int (0 : Int32)) hx hb hts in_X3 tyX3 tyX3_ok nmX3 hown hK hP hD hS 0 rfl rfl 0 (Nat.le_of_ble_eq_true rfl) (hts _ q1218) (fun _ h => h) rfl (ty := .int) (by decide +kernel) rfl rfl (Nat.le_of_ble_eq_true rfl) dX3_moats_2 wmF_0 (fun H locs hP hD hS => ?_)
  refine lv_iload_n hx hb dX3_moats_5 rfl (lv_at hl 1 rfl) ?_
  refine lv_i2l (v := (v1.toInt64)) hx hb dX3_moats_6 rfl ?_
  refine lv_lconst (v := (0 : Int64)) hx hb dX3_moats_7 (by decide) ?_
  refine lv_ldc2 (v := (4 : Int64)) hx hb hown (hts _ q1765) dX3_moats_8 ?_
  refine cl_i0 F (va_runS (As := [.long (v1.toInt64), .long (0 : Int64), .long (4 : Int64)]) (rest := []) ⟨hx, hb, hml, hown, hts⟩ (ct_X3_in h _) (va_cwS 3 hts (lw_S q1391 q1392 q97 q1393) rfl rfl rfl (by decide +kernel) ⟨Nat.le_trans (Nat.le_of_ble_eq_true rfl) hRf, Nat.le_trans (Nat.le_of_ble_eq_true rfl) hRl⟩) ⟨ct_blind, ct_at F hS ct_nP ct_nD⟩ rfl rfl hl.1 rfl (lv_room (Nat.le_of_ble_eq_true rfl)) dX3_moats_11 ⟨hC, hSl⟩) rfl rfl hP hS ?_
  rintro x1 _ H locs h hP hS
  refine lv_if_ne (tgt := 19) hx hb dX3_moats_14 (by decide) (fun c23 => ?_) (fun c23 => ?_)
  · replace h := h.1 c23
    refine lv_iload_n hx hb dX3_moats_19 rfl (lv_at hl 1 rfl) ?_
    refine lv_aload_n hx hb dX3_moats_20 rfl (lv_at hl 0 rfl) ?_
    refine va_get hx hb hts in_X3 hown hK hP 0 rfl rfl 3 (Nat.le_of_ble_eq_true rfl) (hts _ q1221) (fun _ h => h) (v := .int (fd 3)) rfl dX3_moats_21 ?_
    refine lv_icmp_le (tgt := 30) hx hb dX3_moats_24 (by decide) (fun c22 => ?_) (fun c22 => ?_)
    · replace h := h.1 c22
      refine lv_iconst (v := (-1 : Int32)) hx hb dX3_moats_30 (by decide) ?_
      refine lv_istore_n (lv' := [(2, .int (-1 : Int32)), (0, .ref o), (1, .int v1)]) hx hb dX3_moats_31 rfl hl (by decide) rfl (fun ls hl => ?_)
      refine lv_iconst (v := (-1 : Int32)) hx hb dX3_moats_32 (by decide) ?_
      refine lv_istore_n (lv' := [(3, .int (-1 : Int32)), (2, .int (-1 : Int32)), (0, .ref o), (1, .int v1)]) hx hb dX3_moats_33 rfl hl (by decide) rfl (fun ls hl => ?_)
      refine lv_iconst (v := (0 : Int32)) hx hb dX3_moats_34 (by decide) ?_
      refine lv_istore (lv' := [(4, .int (0 : Int32)), (3, .int (-1 : Int32)), (2, .int (-1 : Int32)), (0, .ref o), (1, .int v1)]) hx hb dX3_moats_35 hl (by decide) rfl (fun ls hl => ?_)
      obtain ⟨k37, h⟩ := h
      refine lp_M_moats_L1 F hRf hRl hC hSl ?hk102 k37 _ _ _ _ _ h _ _ _ hP hD hS (lv_sub hl [3, 4, 2, 1, 0] rfl)
      case hk102 =>
        intro v2_16 v3_17 fd_18 ar_19 h H locs ls hP hD hS hl
        refine lv_aload_n hx hb dX3_moats_102 rfl (lv_at hl 0 rfl) ?_
        refine lv_iconst (v := (0 : Int32)) hx hb dX3_moats_103 (by decide) ?_
        refine pt_put (v := .int (0 : Int32)) hx hb hts in_X3 tyX3 tyX3_ok nmX3 hown hK hP hD hS 0 rfl rfl 1 (Nat.le_of_ble_eq_true rfl) (hts _ q1219) (fun _ h => h) rfl (ty := .int) (by decide +kernel) rfl rfl (Nat.le_of_ble_eq_true rfl) dX3_moats_104 wmF_1 (fun H locs hP hD hS => ?_)
        refine lv_aload_n hx hb dX3_moats_107 rfl (lv_at hl 0 rfl) ?_
        refine lv_iload_n hx hb dX3_moats_108 rfl (lv_at hl 1 rfl) ?_
        refine lv_i2l (v := (v2_16.toInt64)) hx hb dX3_moats_109 rfl ?_
        refine cl_v F (va_runV (As := [.long (v2_16.toInt64)]) (rest := []) ⟨hx, hb, hml, hown, hts⟩ (ct_M_enters h _) (cwV 1 hts (lw_V q1634 q1636 qs70 q97 q1637) rfl rfl rfl (by decide +kernel) ⟨Nat.le_trans (Nat.le_of_ble_eq_true rfl) hRf, Nat.le_trans (Nat.le_of_ble_eq_true rfl) hRl⟩) ⟨ct_blind, va_recv hK hP (ci := 2) (q0 := 0) rfl rfl, ct_at F hS hP hD⟩ rfl rfl hl.1 rfl (lv_room (Nat.le_of_ble_eq_true rfl)) dX3_moats_110 ⟨hC, hSl⟩) rfl rfl hD hS ?_
        rintro ⟨fd20, lw21⟩ H locs h hP hD hS
        refine lv_iload_n hx hb dX3_moats_113 rfl (lv_at hl 2 rfl) ?_
        exact rt_i F dX3_moats_114 rfl (fd20, ar_19, lw21) h hP hD hS (Nat.le_refl _) (Nat.le_refl _)
    · replace h := h.2 c22
      refine lv_bipush (v := (-2 : Int32)) hx hb dX3_moats_27 (by decide) ?_
      exact rt_i F dX3_moats_29 rfl ((upd fd 0 (0 : Int32)), ar, lw) h hP hD hS (Nat.le_refl _) (Nat.le_refl _)
  · replace h := h.2 c23
    refine lv_iconst (v := (-1 : Int32)) hx hb dX3_moats_17 (by decide) ?_
    exact rt_i F dX3_moats_18 rfl ((upd fd 0 (0 : Int32)), ar, lw) h hP hD hS (Nat.le_refl _) (Nat.le_refl _)
set_option maxHeartbeats 4000000 in
theorem lp_M_work_L1 {p : Program} {l : Launch} {e : Env} {R : Room} {s : State} {m : MethodId} {args : Array Value} {below : List Frame} {meth : Method} {c : Code} {cells slots : Nat} {A : Nat → Prop} {Qf : State → Prop} {V : evT} {D : va_G} {gI : Nat → ClassId} {o : Nat} {ad : Nat → Nat} {ar : Nat → Nat → Int32} {K71 : (Nat → Int32) → (Nat → Int64) → Prop} (F : ct_F p m c meth cX3_work 3 s args RX3 (some .int) A V D vwCl (tyL gI)) (hRf : 7 ≤ R.frames) (hRl : 149 ≤ R.locals) (hC : cells ≤ R.cells) (hSl : slots ≤ R.slots)
    (hK71 : ∀ (fd : Nat → Int32) (lw : Nat → Int64), K71 fd lw → ∀ (H : Heap) (locs : List Loc) (ls : Array Slot), va_P D vwCl (wm gI o ad fd ar lw) H → va_D A (wm gI o ad fd ar lw) → va_S A s.heap H locs → lv_has ls 3 [(0, .ref o)] → W p l e R s m args below meth c H locs cells slots Qf (F0 m 71 ls [])) :
    ∀ (n : Nat) (v2 : Int32) (fd : Nat → Int32) (lw : Nat → Int64), wp_M_work_L1 ar K71 n v2 fd lw → ∀ (H : Heap) (locs : List Loc) (ls : Array Slot), va_P D vwCl (wm gI o ad fd ar lw) H → va_D A (wm gI o ad fd ar lw) → va_S A s.heap H locs → lv_has ls 3 [(0, .ref o), (2, .int v2)] → W p l e R s m args below meth c H locs cells slots Qf (F0 m 39 ls []) := by
  obtain ⟨⟨hx, hb, hml, hown, hts⟩, hr, hlocks, hA, hK, hE⟩ := id F
  intro n
  induction n with
  | zero => intro v2 fd lw h; exact h.elim
  | succ n ih =>
    intro v2 fd lw h H locs ls hP hD hS hl
    unfold wp_M_work_L1 at h
    refine lv_iload_n hx hb dX3_work_39 rfl (lv_at hl 1 rfl) ?_
    refine lv_aload_n hx hb dX3_work_40 rfl (lv_at hl 0 rfl) ?_
    refine va_get hx hb hts in_X3 hown hK hP 0 rfl rfl 3 (Nat.le_of_ble_eq_true rfl) (hts _ q1221) (fun _ h => h) (v := .int (fd 3)) rfl dX3_work_41 ?_
    refine lv_icmp_ge (tgt := 71) hx hb dX3_work_44 (by decide) (fun c7 => ?_) (fun c7 => ?_)
    · replace h := h.1 c7
      exact hK71 _ _ h _ _ _ hP hD hS (lv_sub hl [0] rfl)
    · replace h := h.2 c7
      refine lv_aload_n hx hb dX3_work_47 rfl (lv_at hl 0 rfl) ?_
      refine lv_aload_n hx hb dX3_work_48 rfl (lv_at hl 0 rfl) ?_
      refine va_get hx hb hts in_X3 hown hK hP 0 rfl rfl 13 (Nat.le_of_ble_eq_true rfl) (hts _ q1231) (fun _ h => h) (v := .ref (ad 13)) rfl dX3_work_49 ?_
      refine lv_iload_n hx hb dX3_work_52 rfl (lv_at hl 1 rfl) ?_
      refine va_iald (f := (ar 13)) hx hb hK hP 9 0 rfl rfl h.1 dX3_work_53 ?_
      replace h := h.2
      refine lv_aload_n hx hb dX3_work_54 rfl (lv_at hl 0 rfl) ?_
      refine va_get hx hb hts in_X3 hown hK hP 0 rfl rfl 12 (Nat.le_of_ble_eq_true rfl) (hts _ q1230) (fun _ h => h) (v := .ref (ad 12)) rfl dX3_work_55 ?_
      refine lv_iload_n hx hb dX3_work_58 rfl (lv_at hl 1 rfl) ?_
      refine va_iald (f := (ar 12)) hx hb hK hP 8 0 rfl rfl h.1 dX3_work_59 ?_
      replace h := h.2
      refine lv_isub hx hb dX3_work_60 ?_
      refine lv_i2l (v := (((ar 13 v2.toNatClampNeg) - (ar 12 v2.toNatClampNeg)).toInt64)) hx hb dX3_work_61 rfl ?_
      refine cl_v F (va_runV (As := [.long (((ar 13 v2.toNatClampNeg) - (ar 12 v2.toNatClampNeg)).toInt64)]) (rest := []) ⟨hx, hb, hml, hown, hts⟩ (ct_M_enters h _) (cwV 1 hts (lw_V q1634 q1636 qs70 q97 q1637) rfl rfl rfl (by decide +kernel) ⟨Nat.le_trans (Nat.le_of_ble_eq_true rfl) hRf, Nat.le_trans (Nat.le_of_ble_eq_true rfl) hRl⟩) ⟨ct_blind, va_recv hK hP (ci := 2) (q0 := 0) rfl rfl, ct_at F hS hP hD⟩ rfl rfl hl.1 rfl (lv_room (Nat.le_of_ble_eq_true rfl)) dX3_work_62 ⟨hC, hSl⟩) rfl rfl hD hS ?_
      rintro ⟨fd5, lw6⟩ H locs h hP hD hS
      refine lv_iinc (v := (v2 + (1 : Int32))) (lv' := [(2, .int (v2 + (1 : Int32))), (0, .ref o)]) hx hb dX3_work_65 hl (k := 1) rfl rfl (by decide) rfl (fun ls hl => ?_)
      refine lv_goto (tgt := 39) hx hb dX3_work_68 (by decide) ?_
      exact ih _ _ _ h _ _ _ hP hD hS (lv_sub hl [1, 0] rfl)
set_option maxHeartbeats 4000000 in
theorem ct_M_work {l : Launch} {V : evT} {D : va_G} {gI : Nat → ClassId} {o : Nat} {ad : Nat → Nat} {v1 : Int32} {fd : Nat → Int32} {ar : Nat → Nat → Int32} {lw : Nat → Int64} {Q : Int32 → (Nat → Int32) → (Nat → Nat → Int32) → (Nat → Int64) → Prop} (h : wp_M_work v1 fd ar lw Q) : ct_i l V D vwCl (tyL gI) yX3_work cX3_work 3 .int { frames := 7, cells := 0, slots := 0, locals := 149 } [.ref o, .int v1] (wm gI o ad fd ar lw) (fun u : (Nat → Int32) × (Nat → Nat → Int32) × (Nat → Int64) => (wm gI o ad u.1 u.2.1 u.2.2)) (fun (x : Int32) (u : (Nat → Int32) × (Nat → Nat → Int32) × (Nat → Int64)) => Q x u.1 u.2.1 u.2.2) := by
  refine ct_ofi RX3 rfl (by decide +kernel) (Nat.le_of_ble_eq_true rfl) ?_
  intro p e s m args below meth c A F hP hD ls hl
  obtain ⟨⟨hx, hb, hml, hown, hts⟩, hr, hlocks, hA, hK, hE⟩ := id F
  have hS : va_S A s.heap s.heap [] := va_S.rf
  have hl : lv_has ls 3 [(0, .ref o), (1, .int v1)] := hl
  have hRf : 7 ≤ ({ frames := 7, cells := 0, slots := 0, locals := 149 } : Room).frames := Nat.le_refl _
  have hRl : 149 ≤ ({ frames := 7, cells := 0, slots := 0, locals := 149 } : Room).locals := Nat.le_refl _
  have hC : 0 ≤ ({ frames := 7, cells := 0, slots := 0, locals := 149 } : Room).cells := Nat.le_refl _
  have hSl : 0 ≤ ({ frames := 7, cells := 0, slots := 0, locals := 149 } : Room).slots := Nat.le_refl _
  unfold wp_M_work at h
  refine lv_aload_n hx hb dX3_work_0 rfl (lv_at hl 0 rfl) ?_
  refine lv_iconst (v := (0 : Int32)) hx hb dX3_work_1 (by decide) ?_
  refine pt_put (v := .int (0 : Int32)) hx hb hts in_X3 tyX3 tyX3_ok nmX3 hown hK hP hD hS 0 rfl rfl 0 (Nat.le_of_ble_eq_true rfl) (hts _ q1218) (fun _ h => h) rfl (ty := .int) (by decide +kernel) rfl rfl (Nat.le_of_ble_eq_true rfl) dX3_work_2 wmF_0 (fun H locs hP hD hS => ?_)
  refine lv_iload_n hx hb dX3_work_5 rfl (lv_at hl 1 rfl) ?_
  refine lv_i2l (v := (v1.toInt64)) hx hb dX3_work_6 rfl ?_
  refine lv_lconst (v := (0 : Int64)) hx hb dX3_work_7 (by decide) ?_
  refine lv_ldc2 (v := (30 : Int64)) hx hb hown (hts _ q1621) dX3_work_8 ?_
  refine cl_i0 F (va_runS (As := [.long (v1.toInt64), .long (0 : Int64), .long (30 : Int64)]) (rest := []) ⟨hx, hb, hml, hown, hts⟩ (ct_X3_in h _) (va_cwS 3 hts (lw_S q1391 q1392 q97 q1393) rfl rfl rfl (by decide +kernel) ⟨Nat.le_trans (Nat.le_of_ble_eq_true rfl) hRf, Nat.le_trans (Nat.le_of_ble_eq_true rfl) hRl⟩) ⟨ct_blind, ct_at F hS ct_nP ct_nD⟩ rfl rfl hl.1 rfl (lv_room (Nat.le_of_ble_eq_true rfl)) dX3_work_11 ⟨hC, hSl⟩) rfl rfl hP hS ?_
  rintro x1 _ H locs h hP hS
  refine lv_if_ne (tgt := 19) hx hb dX3_work_14 (by decide) (fun c12 => ?_) (fun c12 => ?_)
  · replace h := h.1 c12
    refine lv_aload_n hx hb dX3_work_19 rfl (lv_at hl 0 rfl) ?_
    refine cl_v F (va_runV (As := []) (rest := []) ⟨hx, hb, hml, hown, hts⟩ (ct_M_puts h _) (cwV 0 hts (lw_V q1701 q1703 qs80 q97 q1704) rfl rfl rfl (by decide +kernel) ⟨Nat.le_trans (Nat.le_of_ble_eq_true rfl) hRf, Nat.le_trans (Nat.le_of_ble_eq_true rfl) hRl⟩) ⟨ct_blind, va_recv hK hP (ci := 2) (q0 := 0) rfl rfl, ct_at F hS hP hD⟩ rfl rfl hl.1 rfl (lv_room (Nat.le_of_ble_eq_true rfl)) dX3_work_20 ⟨hC, hSl⟩) rfl rfl hD hS ?_
    rintro ar2 H locs h hP hD hS
    refine lv_aload_n hx hb dX3_work_23 rfl (lv_at hl 0 rfl) ?_
    refine lv_aload_n hx hb dX3_work_24 rfl (lv_at hl 0 rfl) ?_
    refine va_get hx hb hts in_X3 hown hK hP 0 rfl rfl 13 (Nat.le_of_ble_eq_true rfl) (hts _ q1231) (fun _ h => h) (v := .ref (ad 13)) rfl dX3_work_25 ?_
    refine lv_iload_n hx hb dX3_work_28 rfl (lv_at hl 1 rfl) ?_
    refine cl_v F (va_runV (As := [.ref (ad 13), .int v1]) (rest := []) ⟨hx, hb, hml, hown, hts⟩ (ct_M_builds_i13 h _) (cwV 2 hts (lw_V q1626 q1628 qs68 q97 q1629) rfl rfl rfl (by decide +kernel) ⟨Nat.le_trans (Nat.le_of_ble_eq_true rfl) hRf, Nat.le_trans (Nat.le_of_ble_eq_true rfl) hRl⟩) ⟨ct_blind, va_recv hK hP (ci := 2) (q0 := 0) rfl rfl, ct_at F hS hP hD⟩ rfl rfl hl.1 rfl (lv_room (Nat.le_of_ble_eq_true rfl)) dX3_work_29 ⟨hC, hSl⟩) rfl rfl hD hS ?_
    rintro ⟨fd3, ar4⟩ H locs h hP hD hS
    refine lv_aload_n hx hb dX3_work_32 rfl (lv_at hl 0 rfl) ?_
    refine lv_iconst (v := (0 : Int32)) hx hb dX3_work_33 (by decide) ?_
    refine pt_put (v := .int (0 : Int32)) hx hb hts in_X3 tyX3 tyX3_ok nmX3 hown hK hP hD hS 0 rfl rfl 1 (Nat.le_of_ble_eq_true rfl) (hts _ q1219) (fun _ h => h) rfl (ty := .int) (by decide +kernel) rfl rfl (Nat.le_of_ble_eq_true rfl) dX3_work_34 wmF_1 (fun H locs hP hD hS => ?_)
    refine lv_iconst (v := (0 : Int32)) hx hb dX3_work_37 (by decide) ?_
    refine lv_istore_n (lv' := [(2, .int (0 : Int32)), (0, .ref o), (1, .int v1)]) hx hb dX3_work_38 rfl hl (by decide) rfl (fun ls hl => ?_)
    obtain ⟨k39, h⟩ := h
    refine lp_M_work_L1 F hRf hRl hC hSl ?hk71 k39 _ _ _ h _ _ _ hP hD hS (lv_sub hl [1, 0] rfl)
    case hk71 =>
      intro fd_8 lw_9 h H locs ls hP hD hS hl
      refine lv_aload_n hx hb dX3_work_71 rfl (lv_at hl 0 rfl) ?_
      refine lv_aload_n hx hb dX3_work_72 rfl (lv_at hl 0 rfl) ?_
      refine va_get hx hb hts in_X3 hown hK hP 0 rfl rfl 13 (Nat.le_of_ble_eq_true rfl) (hts _ q1231) (fun _ h => h) (v := .ref (ad 13)) rfl dX3_work_73 ?_
      refine cl_i F (va_runV (As := [.ref (ad 13)]) (rest := []) ⟨hx, hb, hml, hown, hts⟩ (ct_M_wallAll_i13 h _) (cwV 1 hts (lw_V q1622 q1624 qs67 q97 q1625) rfl rfl rfl (by decide +kernel) ⟨Nat.le_trans (Nat.le_of_ble_eq_true rfl) hRf, Nat.le_trans (Nat.le_of_ble_eq_true rfl) hRl⟩) ⟨ct_blind, va_recv hK hP (ci := 2) (q0 := 0) rfl rfl, ct_at F hS hP hD⟩ rfl rfl hl.1 rfl (lv_room (Nat.le_of_ble_eq_true rfl)) dX3_work_76 ⟨hC, hSl⟩) rfl rfl hD hS ?_
      rintro x10 _ H locs h hP hD hS
      refine lv_aload_n hx hb dX3_work_79 rfl (lv_at hl 0 rfl) ?_
      refine lv_aload_n hx hb dX3_work_80 rfl (lv_at hl 0 rfl) ?_
      refine va_get hx hb hts in_X3 hown hK hP 0 rfl rfl 12 (Nat.le_of_ble_eq_true rfl) (hts _ q1230) (fun _ h => h) (v := .ref (ad 12)) rfl dX3_work_81 ?_
      refine cl_i F (va_runV (As := [.ref (ad 12)]) (rest := [.int x10]) ⟨hx, hb, hml, hown, hts⟩ (ct_M_wallAll_i12 h _) (cwV 1 hts (lw_V q1622 q1624 qs67 q97 q1625) rfl rfl rfl (by decide +kernel) ⟨Nat.le_trans (Nat.le_of_ble_eq_true rfl) hRf, Nat.le_trans (Nat.le_of_ble_eq_true rfl) hRl⟩) ⟨ct_blind, va_recv hK hP (ci := 2) (q0 := 0) rfl rfl, ct_at F hS hP hD⟩ rfl rfl hl.1 rfl (lv_room (Nat.le_of_ble_eq_true rfl)) dX3_work_84 ⟨hC, hSl⟩) rfl rfl hD hS ?_
      rintro x11 _ H locs h hP hD hS
      refine lv_isub hx hb dX3_work_87 ?_
      exact rt_i F dX3_work_88 rfl (fd_8, ar4, lw_9) h hP hD hS (Nat.le_refl _) (Nat.le_refl _)
  · replace h := h.2 c12
    refine lv_iconst (v := (-1 : Int32)) hx hb dX3_work_17 (by decide) ?_
    exact rt_i F dX3_work_18 rfl ((upd fd 0 (0 : Int32)), ar, lw) h hP hD hS (Nat.le_refl _) (Nat.le_refl _)
set_option maxHeartbeats 4000000 in
theorem lp_M_summer_L1 {p : Program} {l : Launch} {e : Env} {R : Room} {s : State} {m : MethodId} {args : Array Value} {below : List Frame} {meth : Method} {c : Code} {cells slots : Nat} {A : Nat → Prop} {Qf : State → Prop} {V : evT} {D : va_G} {gI : Nat → ClassId} {o : Nat} {ad : Nat → Nat} {v1 : Int32} {lw : Nat → Int64} {K42 : (Int32) → (Nat → Int32) → (Nat → Nat → Int32) → Prop} (F : ct_F p m c meth cX3_summer 5 s args RX3 (some .int) A V D vwCl (tyL gI)) (hRf : 8 ≤ R.frames) (hRl : 171 ≤ R.locals) (hC : cells ≤ R.cells) (hSl : slots ≤ R.slots)
    (hK42 : ∀ (v2 : Int32) (fd : Nat → Int32) (ar : Nat → Nat → Int32), K42 v2 fd ar → ∀ (H : Heap) (locs : List Loc) (ls : Array Slot), va_P D vwCl (wm gI o ad fd ar lw) H → va_D A (wm gI o ad fd ar lw) → va_S A s.heap H locs → lv_has ls 5 [(0, .ref o), (1, .int v1), (2, .int v2)] → W p l e R s m args below meth c H locs cells slots Qf (F0 m 42 ls [])) :
    ∀ (n : Nat) (v2 : Int32) (fd : Nat → Int32) (ar : Nat → Nat → Int32), wp_M_summer_L1 v1 lw K42 n v2 fd ar → ∀ (H : Heap) (locs : List Loc) (ls : Array Slot), va_P D vwCl (wm gI o ad fd ar lw) H → va_D A (wm gI o ad fd ar lw) → va_S A s.heap H locs → lv_has ls 5 [(0, .ref o), (1, .int v1), (2, .int v2)] → W p l e R s m args below meth c H locs cells slots Qf (F0 m 19 ls []) := by
  obtain ⟨⟨hx, hb, hml, hown, hts⟩, hr, hlocks, hA, hK, hE⟩ := id F
  intro n
  induction n with
  | zero => intro v2 fd ar h; exact h.elim
  | succ n ih =>
    intro v2 fd ar h H locs ls hP hD hS hl
    unfold wp_M_summer_L1 at h
    refine lv_iload_n hx hb dX3_summer_19 rfl (lv_at hl 2 rfl) ?_
    refine lv_if_eq (tgt := 42) hx hb dX3_summer_20 (by decide) (fun c7 => ?_) (fun c7 => ?_)
    · replace h := h.1 c7
      exact hK42 _ _ _ h _ _ _ hP hD hS (lv_sub hl [0, 1, 2] rfl)
    · replace h := h.2 c7
      refine lv_aload_n hx hb dX3_summer_23 rfl (lv_at hl 0 rfl) ?_
      refine va_get hx hb hts in_X3 hown hK hP 0 rfl rfl 16 (Nat.le_of_ble_eq_true rfl) (hts _ q1234) (fun _ h => h) (v := .int (fd 16)) rfl dX3_summer_24 ?_
      refine lv_aload_n hx hb dX3_summer_27 rfl (lv_at hl 0 rfl) ?_
      refine va_get hx hb hts in_X3 hown hK hP 0 rfl rfl 17 (Nat.le_of_ble_eq_true rfl) (hts _ q1235) (fun _ h => h) (v := .int (fd 17)) rfl dX3_summer_28 ?_
      refine lv_icmp_ge (tgt := 42) hx hb dX3_summer_31 (by decide) (fun c6 => ?_) (fun c6 => ?_)
      · replace h := h.1 c6
        exact hK42 _ _ _ h _ _ _ hP hD hS (lv_sub hl [0, 1, 2] rfl)
      · replace h := h.2 c6
        refine lv_aload_n hx hb dX3_summer_34 rfl (lv_at hl 0 rfl) ?_
        refine cl_i F (va_runV (As := []) (rest := []) ⟨hx, hb, hml, hown, hts⟩ (ct_M_readsAct h _) (cwV 0 hts (lw_V q1682 q1684 qs78 q97 q1685) rfl rfl rfl (by decide +kernel) ⟨Nat.le_trans (Nat.le_of_ble_eq_true rfl) hRf, Nat.le_trans (Nat.le_of_ble_eq_true rfl) hRl⟩) ⟨ct_blind, va_recv hK hP (ci := 2) (q0 := 0) rfl rfl, ct_at F hS hP hD⟩ rfl rfl hl.1 rfl (lv_room (Nat.le_of_ble_eq_true rfl)) dX3_summer_35 ⟨hC, hSl⟩) rfl rfl hD hS ?_
        rintro x3 ⟨fd4, ar5⟩ H locs h hP hD hS
        refine lv_istore_n (lv' := [(2, .int x3), (0, .ref o), (1, .int v1)]) hx hb dX3_summer_38 rfl hl (by decide) rfl (fun ls hl => ?_)
        refine lv_goto (tgt := 19) hx hb dX3_summer_39 (by decide) ?_
        exact ih _ _ _ h _ _ _ hP hD hS (lv_sub hl [1, 2, 0] rfl)
set_option maxHeartbeats 4000000 in
theorem lp_M_summer_L3 {p : Program} {l : Launch} {e : Env} {R : Room} {s : State} {m : MethodId} {args : Array Value} {below : List Frame} {meth : Method} {c : Code} {cells slots : Nat} {A : Nat → Prop} {Qf : State → Prop} {V : evT} {D : va_G} {gI : Nat → ClassId} {o : Nat} {ad : Nat → Nat} {lw : Nat → Int64} {K88 : (Int32) → (Nat → Int32) → (Nat → Nat → Int32) → Prop} (F : ct_F p m c meth cX3_summer 5 s args RX3 (some .int) A V D vwCl (tyL gI)) (hRf : 8 ≤ R.frames) (hRl : 171 ≤ R.locals) (hC : cells ≤ R.cells) (hSl : slots ≤ R.slots)
    (hK88 : ∀ (v4 : Int32) (fd : Nat → Int32) (ar : Nat → Nat → Int32), K88 v4 fd ar → ∀ (H : Heap) (locs : List Loc) (ls : Array Slot), va_P D vwCl (wm gI o ad fd ar lw) H → va_D A (wm gI o ad fd ar lw) → va_S A s.heap H locs → lv_has ls 5 [(0, .ref o), (4, .int v4)] → W p l e R s m args below meth c H locs cells slots Qf (F0 m 88 ls [])) :
    ∀ (n : Nat) (v4 : Int32) (fd : Nat → Int32) (ar : Nat → Nat → Int32), wp_M_summer_L3 lw K88 n v4 fd ar → ∀ (H : Heap) (locs : List Loc) (ls : Array Slot), va_P D vwCl (wm gI o ad fd ar lw) H → va_D A (wm gI o ad fd ar lw) → va_S A s.heap H locs → lv_has ls 5 [(0, .ref o), (4, .int v4)] → W p l e R s m args below meth c H locs cells slots Qf (F0 m 64 ls []) := by
  obtain ⟨⟨hx, hb, hml, hown, hts⟩, hr, hlocks, hA, hK, hE⟩ := id F
  intro n
  induction n with
  | zero => intro v4 fd ar h; exact h.elim
  | succ n ih =>
    intro v4 fd ar h H locs ls hP hD hS hl
    unfold wp_M_summer_L3 at h
    refine lv_iload hx hb dX3_summer_64 (lv_at hl 1 rfl) ?_
    refine lv_aload_n hx hb dX3_summer_66 rfl (lv_at hl 0 rfl) ?_
    refine va_get hx hb hts in_X3 hown hK hP 0 rfl rfl 35 (Nat.le_of_ble_eq_true rfl) (hts _ q1253) (fun _ h => h) (v := .int (fd 35)) rfl dX3_summer_67 ?_
    refine lv_icmp_ge (tgt := 88) hx hb dX3_summer_70 (by decide) (fun c17 => ?_) (fun c17 => ?_)
    · replace h := h.1 c17
      exact hK88 _ _ _ h _ _ _ hP hD hS (lv_sub hl [0, 1] rfl)
    · replace h := h.2 c17
      refine lv_aload_n hx hb dX3_summer_73 rfl (lv_at hl 0 rfl) ?_
      refine lv_iload hx hb dX3_summer_74 (lv_at hl 1 rfl) ?_
      refine cl_i F (va_runV (As := [.int v4]) (rest := []) ⟨hx, hb, hml, hown, hts⟩ (ct_M_does h _) (cwV 1 hts (lw_V q1689 q1691 qs79 q97 q1692) rfl rfl rfl (by decide +kernel) ⟨Nat.le_trans (Nat.le_of_ble_eq_true rfl) hRf, Nat.le_trans (Nat.le_of_ble_eq_true rfl) hRl⟩) ⟨ct_blind, va_recv hK hP (ci := 2) (q0 := 0) rfl rfl, ct_at F hS hP hD⟩ rfl rfl hl.1 rfl (lv_room (Nat.le_of_ble_eq_true rfl)) dX3_summer_76 ⟨hC, hSl⟩) rfl rfl hD hS ?_
      rintro x13 ⟨fd14, ar15⟩ H locs h hP hD hS
      refine lv_if_eq (tgt := 88) hx hb dX3_summer_79 (by decide) (fun c16 => ?_) (fun c16 => ?_)
      · replace h := h.1 c16
        exact hK88 _ _ _ h _ _ _ hP hD hS (lv_sub hl [0, 1] rfl)
      · replace h := h.2 c16
        refine lv_iinc (v := (v4 + (1 : Int32))) (lv' := [(4, .int (v4 + (1 : Int32))), (0, .ref o)]) hx hb dX3_summer_82 hl (k := 1) rfl rfl (by decide) rfl (fun ls hl => ?_)
        refine lv_goto (tgt := 64) hx hb dX3_summer_85 (by decide) ?_
        exact ih _ _ _ h _ _ _ hP hD hS (lv_sub hl [1, 0] rfl)
set_option maxHeartbeats 4000000 in
theorem lp_M_summer_J5 {p : Program} {l : Launch} {e : Env} {R : Room} {s : State} {m : MethodId} {args : Array Value} {below : List Frame} {meth : Method} {c : Code} {cells slots : Nat} {A : Nat → Prop} {V : evT} {D : va_G} {gI : Nat → ClassId} {o : Nat} {ad : Nat → Nat} {v4 : Int32} {Q : Int32 → (Nat → Int32) → (Nat → Nat → Int32) → (Nat → Int64) → Prop} (F : ct_F p m c meth cX3_summer 5 s args RX3 (some .int) A V D vwCl (tyL gI)) (hRf : 8 ≤ R.frames) (hRl : 171 ≤ R.locals) (hC : cells ≤ R.cells) (hSl : slots ≤ R.slots) :
    ∀ (t0 : Int32) (fd : Nat → Int32) (ar : Nat → Nat → Int32) (lw : Nat → Int64), wp_M_summer_J5 v4 Q t0 fd ar lw → ∀ (H : Heap) (locs : List Loc) (ls : Array Slot), va_P D vwCl (wm gI o ad fd ar lw) H → va_D A (wm gI o ad fd ar lw) → va_S A s.heap H locs → lv_has ls 5 [(0, .ref o), (4, .int v4)] → W p l e R s m args below meth c H locs cells slots (MQ below (va_Qi (fun (x : Int32) (u : (Nat → Int32) × (Nat → Nat → Int32) × (Nat → Int64)) => Q x u.1 u.2.1 u.2.2) (fun u t => va_P D vwCl (wm gI o ad u.1 u.2.1 u.2.2) t.heap ∧ va_K D vwCl (tyL gI) t ∧ va_D A (wm gI o ad u.1 u.2.1 u.2.2)) A) args s cells slots A) (F0 m 108 ls [.int t0, .ref o]) := by
  obtain ⟨⟨hx, hb, hml, hown, hts⟩, hr, hlocks, hA, hK, hE⟩ := id F
  intro t0 fd ar lw h H locs ls hP hD hS hl
  unfold wp_M_summer_J5 at h
  refine cl_i0 F (va_runS (As := [.int t0]) (rest := [.ref o]) ⟨hx, hb, hml, hown, hts⟩ (ct_X3_flag h _) (va_cwS 1 hts (lw_S q1407 q1408 q97 q1409) rfl rfl rfl (by decide +kernel) ⟨Nat.le_trans (Nat.le_of_ble_eq_true rfl) hRf, Nat.le_trans (Nat.le_of_ble_eq_true rfl) hRl⟩) ⟨ct_blind, ct_at F hS ct_nP ct_nD⟩ rfl rfl hl.1 rfl (lv_room (Nat.le_of_ble_eq_true rfl)) dX3_summer_108 ⟨hC, hSl⟩) rfl rfl hP hS ?_
  rintro x21 _ H locs h hP hS
  refine lv_i2l (v := (x21.toInt64)) hx hb dX3_summer_111 rfl ?_
  refine cl_v F (va_runV (As := [.long (x21.toInt64)]) (rest := []) ⟨hx, hb, hml, hown, hts⟩ (ct_M_enters h _) (cwV 1 hts (lw_V q1634 q1636 qs70 q97 q1637) rfl rfl rfl (by decide +kernel) ⟨Nat.le_trans (Nat.le_of_ble_eq_true rfl) hRf, Nat.le_trans (Nat.le_of_ble_eq_true rfl) hRl⟩) ⟨ct_blind, va_recv hK hP (ci := 2) (q0 := 0) rfl rfl, ct_at F hS hP hD⟩ rfl rfl hl.1 rfl (lv_room (Nat.le_of_ble_eq_true rfl)) dX3_summer_112 ⟨hC, hSl⟩) rfl rfl hD hS ?_
  rintro ⟨fd22, lw23⟩ H locs h hP hD hS
  refine lv_aload_n hx hb dX3_summer_115 rfl (lv_at hl 0 rfl) ?_
  refine lv_aload_n hx hb dX3_summer_116 rfl (lv_at hl 0 rfl) ?_
  refine lv_aload_n hx hb dX3_summer_117 rfl (lv_at hl 0 rfl) ?_
  refine va_get hx hb hts in_X3 hown hK hP 0 rfl rfl 12 (Nat.le_of_ble_eq_true rfl) (hts _ q1230) (fun _ h => h) (v := .ref (ad 12)) rfl dX3_summer_118 ?_
  refine cl_i F (va_runV (As := [.ref (ad 12)]) (rest := [.ref o]) ⟨hx, hb, hml, hown, hts⟩ (ct_M_wet_i12 h _) (cwV 1 hts (lw_V q1674 q1676 qs77 q97 q1677) rfl rfl rfl (by decide +kernel) ⟨Nat.le_trans (Nat.le_of_ble_eq_true rfl) hRf, Nat.le_trans (Nat.le_of_ble_eq_true rfl) hRl⟩) ⟨ct_blind, va_recv hK hP (ci := 2) (q0 := 0) rfl rfl, ct_at F hS hP hD⟩ rfl rfl hl.1 rfl (lv_room (Nat.le_of_ble_eq_true rfl)) dX3_summer_121 ⟨hC, hSl⟩) rfl rfl hD hS ?_
  rintro x24 _ H locs h hP hD hS
  refine cl_i0 F (va_runS (As := [.int x24]) (rest := [.ref o]) ⟨hx, hb, hml, hown, hts⟩ (ct_J10_bitCount h _) (va_cwS 1 hts (lw_S q1552 q586 q112 q587) rfl rfl rfl (by decide +kernel) ⟨Nat.le_trans (Nat.le_of_ble_eq_true rfl) hRf, Nat.le_trans (Nat.le_of_ble_eq_true rfl) hRl⟩) ⟨ct_blind, ct_at F hS ct_nP ct_nD⟩ rfl rfl hl.1 rfl (lv_room (Nat.le_of_ble_eq_true rfl)) dX3_summer_124 ⟨hC, hSl⟩) rfl rfl hP hS ?_
  rintro x25 _ H locs h hP hS
  refine lv_i2l (v := (x25.toInt64)) hx hb dX3_summer_127 rfl ?_
  refine cl_v F (va_runV (As := [.long (x25.toInt64)]) (rest := []) ⟨hx, hb, hml, hown, hts⟩ (ct_M_enters h _) (cwV 1 hts (lw_V q1634 q1636 qs70 q97 q1637) rfl rfl rfl (by decide +kernel) ⟨Nat.le_trans (Nat.le_of_ble_eq_true rfl) hRf, Nat.le_trans (Nat.le_of_ble_eq_true rfl) hRl⟩) ⟨ct_blind, va_recv hK hP (ci := 2) (q0 := 0) rfl rfl, ct_at F hS hP hD⟩ rfl rfl hl.1 rfl (lv_room (Nat.le_of_ble_eq_true rfl)) dX3_summer_128 ⟨hC, hSl⟩) rfl rfl hD hS ?_
  rintro ⟨fd26, lw27⟩ H locs h hP hD hS
  refine lv_iload hx hb dX3_summer_131 (lv_at hl 1 rfl) ?_
  refine lv_if_le (tgt := 145) hx hb dX3_summer_133 (by decide) (fun c31 => ?_) (fun c31 => ?_)
  · replace h := h.1 c31
    refine lv_iconst (v := (0 : Int32)) hx hb dX3_summer_145 (by decide) ?_
    exact rt_i F dX3_summer_146 rfl (fd26, ar, lw27) h hP hD hS (Nat.le_refl _) (Nat.le_refl _)
  · replace h := h.2 c31
    refine lv_aload_n hx hb dX3_summer_136 rfl (lv_at hl 0 rfl) ?_
    refine lv_iload hx hb dX3_summer_137 (lv_at hl 1 rfl) ?_
    refine cl_i F (va_runV (As := [.int v4]) (rest := []) ⟨hx, hb, hml, hown, hts⟩ (ct_M_adds h _) (cwV 1 hts (lw_V q1581 q1583 qs62 q97 q1584) rfl rfl rfl (by decide +kernel) ⟨Nat.le_trans (Nat.le_of_ble_eq_true rfl) hRf, Nat.le_trans (Nat.le_of_ble_eq_true rfl) hRl⟩) ⟨ct_blind, va_recv hK hP (ci := 2) (q0 := 0) rfl rfl, ct_at F hS hP hD⟩ rfl rfl hl.1 rfl (lv_room (Nat.le_of_ble_eq_true rfl)) dX3_summer_139 ⟨hC, hSl⟩) rfl rfl hD hS ?_
    rintro x28 ⟨fd29, ar30⟩ H locs h hP hD hS
    refine lv_goto (tgt := 146) hx hb dX3_summer_142 (by decide) ?_
    exact rt_i F dX3_summer_146 rfl (fd29, ar30, lw27) h hP hD hS (Nat.le_refl _) (Nat.le_refl _)
set_option maxHeartbeats 4000000 in
theorem lp_M_summer_J4 {p : Program} {l : Launch} {e : Env} {R : Room} {s : State} {m : MethodId} {args : Array Value} {below : List Frame} {meth : Method} {c : Code} {cells slots : Nat} {A : Nat → Prop} {V : evT} {D : va_G} {gI : Nat → ClassId} {o : Nat} {ad : Nat → Nat} {v4 : Int32} {Q : Int32 → (Nat → Int32) → (Nat → Nat → Int32) → (Nat → Int64) → Prop} (F : ct_F p m c meth cX3_summer 5 s args RX3 (some .int) A V D vwCl (tyL gI)) (hRf : 8 ≤ R.frames) (hRl : 171 ≤ R.locals) (hC : cells ≤ R.cells) (hSl : slots ≤ R.slots) :
    ∀ (fd : Nat → Int32) (ar : Nat → Nat → Int32) (lw : Nat → Int64), wp_M_summer_J4 v4 Q fd ar lw → ∀ (H : Heap) (locs : List Loc) (ls : Array Slot), va_P D vwCl (wm gI o ad fd ar lw) H → va_D A (wm gI o ad fd ar lw) → va_S A s.heap H locs → lv_has ls 5 [(0, .ref o), (4, .int v4)] → W p l e R s m args below meth c H locs cells slots (MQ below (va_Qi (fun (x : Int32) (u : (Nat → Int32) × (Nat → Nat → Int32) × (Nat → Int64)) => Q x u.1 u.2.1 u.2.2) (fun u t => va_P D vwCl (wm gI o ad u.1 u.2.1 u.2.2) t.heap ∧ va_K D vwCl (tyL gI) t ∧ va_D A (wm gI o ad u.1 u.2.1 u.2.2)) A) args s cells slots A) (F0 m 88 ls []) := by
  obtain ⟨⟨hx, hb, hml, hown, hts⟩, hr, hlocks, hA, hK, hE⟩ := id F
  intro fd ar lw h H locs ls hP hD hS hl
  unfold wp_M_summer_J4 at h
  refine lv_aload_n hx hb dX3_summer_88 rfl (lv_at hl 0 rfl) ?_
  refine lv_iconst (v := (0 : Int32)) hx hb dX3_summer_89 (by decide) ?_
  refine pt_put (v := .int (0 : Int32)) hx hb hts in_X3 tyX3 tyX3_ok nmX3 hown hK hP hD hS 0 rfl rfl 1 (Nat.le_of_ble_eq_true rfl) (hts _ q1219) (fun _ h => h) rfl (ty := .int) (by decide +kernel) rfl rfl (Nat.le_of_ble_eq_true rfl) dX3_summer_90 wmF_1 (fun H locs hP hD hS => ?_)
  refine lv_aload_n hx hb dX3_summer_93 rfl (lv_at hl 0 rfl) ?_
  refine lv_iload hx hb dX3_summer_94 (lv_at hl 1 rfl) ?_
  refine lv_aload_n hx hb dX3_summer_96 rfl (lv_at hl 0 rfl) ?_
  refine va_get hx hb hts in_X3 hown hK hP 0 rfl rfl 35 (Nat.le_of_ble_eq_true rfl) (hts _ q1253) (fun _ h => h) (v := .int (fd 35)) rfl dX3_summer_97 ?_
  refine lv_icmp_ge (tgt := 107) hx hb dX3_summer_100 (by decide) (fun c32 => ?_) (fun c32 => ?_)
  · replace h := h.1 c32
    refine lv_iconst (v := (0 : Int32)) hx hb dX3_summer_107 (by decide) ?_
    refine lp_M_summer_J5 F hRf hRl hC hSl  _ _ _ _ h _ _ _ hP hD hS (lv_sub hl [0, 1] rfl)
  · replace h := h.2 c32
    refine lv_iconst (v := (1 : Int32)) hx hb dX3_summer_103 (by decide) ?_
    refine lv_goto (tgt := 108) hx hb dX3_summer_104 (by decide) ?_
    refine lp_M_summer_J5 F hRf hRl hC hSl  _ _ _ _ h _ _ _ hP hD hS (lv_sub hl [0, 1] rfl)
set_option maxHeartbeats 4000000 in
theorem lp_M_summer_J2 {p : Program} {l : Launch} {e : Env} {R : Room} {s : State} {m : MethodId} {args : Array Value} {below : List Frame} {meth : Method} {c : Code} {cells slots : Nat} {A : Nat → Prop} {V : evT} {D : va_G} {gI : Nat → ClassId} {o : Nat} {ad : Nat → Nat} {v1 : Int32} {v2 : Int32} {Q : Int32 → (Nat → Int32) → (Nat → Nat → Int32) → (Nat → Int64) → Prop} (F : ct_F p m c meth cX3_summer 5 s args RX3 (some .int) A V D vwCl (tyL gI)) (hRf : 8 ≤ R.frames) (hRl : 171 ≤ R.locals) (hC : cells ≤ R.cells) (hSl : slots ≤ R.slots) :
    ∀ (fd : Nat → Int32) (ar : Nat → Nat → Int32) (lw : Nat → Int64), wp_M_summer_J2 v1 v2 Q fd ar lw → ∀ (H : Heap) (locs : List Loc) (ls : Array Slot), va_P D vwCl (wm gI o ad fd ar lw) H → va_D A (wm gI o ad fd ar lw) → va_S A s.heap H locs → lv_has ls 5 [(0, .ref o), (1, .int v1), (2, .int v2)] → W p l e R s m args below meth c H locs cells slots (MQ below (va_Qi (fun (x : Int32) (u : (Nat → Int32) × (Nat → Nat → Int32) × (Nat → Int64)) => Q x u.1 u.2.1 u.2.2) (fun u t => va_P D vwCl (wm gI o ad u.1 u.2.1 u.2.2) t.heap ∧ va_K D vwCl (tyL gI) t ∧ va_D A (wm gI o ad u.1 u.2.1 u.2.2)) A) args s cells slots A) (F0 m 42 ls []) := by
  obtain ⟨⟨hx, hb, hml, hown, hts⟩, hr, hlocks, hA, hK, hE⟩ := id F
  intro fd ar lw h H locs ls hP hD hS hl
  unfold wp_M_summer_J2 at h
  refine lv_aload_n hx hb dX3_summer_42 rfl (lv_at hl 0 rfl) ?_
  refine lv_iload_n hx hb dX3_summer_43 rfl (lv_at hl 1 rfl) ?_
  refine lv_bipush (v := (60 : Int32)) hx hb dX3_summer_44 (by decide) ?_
  refine lv_iload_n hx hb dX3_summer_46 rfl (lv_at hl 2 rfl) ?_
  refine cl_i F (va_runV (As := [.int v1, .int (60 : Int32), .int v2]) (rest := []) ⟨hx, hb, hml, hown, hts⟩ (ct_M_faultOf h _) (cwV 3 hts (lw_V q1436 q1438 qs43 q97 q1439) rfl rfl rfl (by decide +kernel) ⟨Nat.le_trans (Nat.le_of_ble_eq_true rfl) hRf, Nat.le_trans (Nat.le_of_ble_eq_true rfl) hRl⟩) ⟨ct_blind, va_recv hK hP (ci := 2) (q0 := 0) rfl rfl, ct_at F hS hP hD⟩ rfl rfl hl.1 rfl (lv_room (Nat.le_of_ble_eq_true rfl)) dX3_summer_47 ⟨hC, hSl⟩) rfl rfl hD hS ?_
  rintro x11 _ H locs h hP hD hS
  refine lv_istore_n (lv' := [(3, .int x11), (0, .ref o), (1, .int v1), (2, .int v2)]) hx hb dX3_summer_50 rfl hl (by decide) rfl (fun ls hl => ?_)
  refine lv_iload_n hx hb dX3_summer_51 rfl (lv_at hl 0 rfl) ?_
  refine lv_if_ge (tgt := 57) hx hb dX3_summer_52 (by decide) (fun c33 => ?_) (fun c33 => ?_)
  · replace h := h.1 c33
    refine lv_aload_n hx hb dX3_summer_57 rfl (lv_at hl 1 rfl) ?_
    refine cl_v F (va_runV (As := []) (rest := []) ⟨hx, hb, hml, hown, hts⟩ (ct_M_putsBy h _) (cwV 0 hts (lw_V q1569 q1571 qs59 q97 q1572) rfl rfl rfl (by decide +kernel) ⟨Nat.le_trans (Nat.le_of_ble_eq_true rfl) hRf, Nat.le_trans (Nat.le_of_ble_eq_true rfl) hRl⟩) ⟨ct_blind, va_recv hK hP (ci := 2) (q0 := 0) rfl rfl, ct_at F hS hP hD⟩ rfl rfl hl.1 rfl (lv_room (Nat.le_of_ble_eq_true rfl)) dX3_summer_58 ⟨hC, hSl⟩) rfl rfl hD hS ?_
    rintro ar12 H locs h hP hD hS
    refine lv_iconst (v := (0 : Int32)) hx hb dX3_summer_61 (by decide) ?_
    refine lv_istore (lv' := [(4, .int (0 : Int32)), (3, .int x11), (0, .ref o), (1, .int v1), (2, .int v2)]) hx hb dX3_summer_62 hl (by decide) rfl (fun ls hl => ?_)
    obtain ⟨k64, h⟩ := h
    refine lp_M_summer_L3 F hRf hRl hC hSl ?hk88 k64 _ _ _ h _ _ _ hP hD hS (lv_sub hl [2, 0] rfl)
    case hk88 =>
      intro v4_18 fd_19 ar_20 h H locs ls hP hD hS hl
      refine lp_M_summer_J4 F hRf hRl hC hSl  _ _ _ h _ _ _ hP hD hS (lv_sub hl [0, 1] rfl)
  · replace h := h.2 c33
    refine lv_iload_n hx hb dX3_summer_55 rfl (lv_at hl 0 rfl) ?_
    exact rt_i F dX3_summer_56 rfl (fd, ar, lw) h hP hD hS (Nat.le_refl _) (Nat.le_refl _)
set_option maxHeartbeats 4000000 in
theorem ct_M_summer {l : Launch} {V : evT} {D : va_G} {gI : Nat → ClassId} {o : Nat} {ad : Nat → Nat} {fd : Nat → Int32} {ar : Nat → Nat → Int32} {lw : Nat → Int64} {Q : Int32 → (Nat → Int32) → (Nat → Nat → Int32) → (Nat → Int64) → Prop} (h : wp_M_summer fd ar lw Q) : ct_i l V D vwCl (tyL gI) yX3_summer cX3_summer 5 .int { frames := 8, cells := 0, slots := 0, locals := 171 } [.ref o] (wm gI o ad fd ar lw) (fun u : (Nat → Int32) × (Nat → Nat → Int32) × (Nat → Int64) => (wm gI o ad u.1 u.2.1 u.2.2)) (fun (x : Int32) (u : (Nat → Int32) × (Nat → Nat → Int32) × (Nat → Int64)) => Q x u.1 u.2.1 u.2.2) := by
  refine ct_ofi RX3 rfl (by decide +kernel) (Nat.le_of_ble_eq_true rfl) ?_
  intro p e s m args below meth c A F hP hD ls hl
  obtain ⟨⟨hx, hb, hml, hown, hts⟩, hr, hlocks, hA, hK, hE⟩ := id F
  have hS : va_S A s.heap s.heap [] := va_S.rf
  have hl : lv_has ls 5 [(0, .ref o)] := hl
  have hRf : 8 ≤ ({ frames := 8, cells := 0, slots := 0, locals := 171 } : Room).frames := Nat.le_refl _
  have hRl : 171 ≤ ({ frames := 8, cells := 0, slots := 0, locals := 171 } : Room).locals := Nat.le_refl _
  have hC : 0 ≤ ({ frames := 8, cells := 0, slots := 0, locals := 171 } : Room).cells := Nat.le_refl _
  have hSl : 0 ≤ ({ frames := 8, cells := 0, slots := 0, locals := 171 } : Room).slots := Nat.le_refl _
  unfold wp_M_summer at h
  refine lv_aload_n hx hb dX3_summer_0 rfl (lv_at hl 0 rfl) ?_
  refine lv_iconst (v := (0 : Int32)) hx hb dX3_summer_1 (by decide) ?_
  refine pt_put (v := .int (0 : Int32)) hx hb hts in_X3 tyX3 tyX3_ok nmX3 hown hK hP hD hS 0 rfl rfl 0 (Nat.le_of_ble_eq_true rfl) (hts _ q1218) (fun _ h => h) rfl (ty := .int) (by decide +kernel) rfl rfl (Nat.le_of_ble_eq_true rfl) dX3_summer_2 wmF_0 (fun H locs hP hD hS => ?_)
  refine lv_aload_n hx hb dX3_summer_5 rfl (lv_at hl 0 rfl) ?_
  refine lv_bipush (v := (60 : Int32)) hx hb dX3_summer_6 (by decide) ?_
  refine cl_i F (va_runV (As := [.int (60 : Int32)]) (rest := []) ⟨hx, hb, hml, hown, hts⟩ (ct_M_begins h _) (cwV 1 hts (lw_V q1398 q1400 qs36 q97 q1401) rfl rfl rfl (by decide +kernel) ⟨Nat.le_trans (Nat.le_of_ble_eq_true rfl) hRf, Nat.le_trans (Nat.le_of_ble_eq_true rfl) hRl⟩) ⟨ct_blind, va_recv hK hP (ci := 2) (q0 := 0) rfl rfl, ct_at F hS hP hD⟩ rfl rfl hl.1 rfl (lv_room (Nat.le_of_ble_eq_true rfl)) dX3_summer_8 ⟨hC, hSl⟩) rfl rfl hD hS ?_
  rintro x1 fd2 H locs h hP hD hS
  refine lv_istore_n (lv' := [(1, .int x1), (0, .ref o)]) hx hb dX3_summer_11 rfl hl (by decide) rfl (fun ls hl => ?_)
  refine lv_aload_n hx hb dX3_summer_12 rfl (lv_at hl 1 rfl) ?_
  refine lv_iconst (v := (0 : Int32)) hx hb dX3_summer_13 (by decide) ?_
  refine pt_put (v := .int (0 : Int32)) hx hb hts in_X3 tyX3 tyX3_ok nmX3 hown hK hP hD hS 0 rfl rfl 35 (Nat.le_of_ble_eq_true rfl) (hts _ q1253) (fun _ h => h) rfl (ty := .int) (by decide +kernel) rfl rfl (Nat.le_of_ble_eq_true rfl) dX3_summer_14 wmF_35 (fun H locs hP hD hS => ?_)
  refine lv_iconst (v := (1 : Int32)) hx hb dX3_summer_17 (by decide) ?_
  refine lv_istore_n (lv' := [(2, .int (1 : Int32)), (1, .int x1), (0, .ref o)]) hx hb dX3_summer_18 rfl hl (by decide) rfl (fun ls hl => ?_)
  obtain ⟨k19, h⟩ := h
  refine lp_M_summer_L1 F hRf hRl hC hSl ?hk42 k19 _ _ _ h _ _ _ hP hD hS (lv_sub hl [2, 1, 0] rfl)
  case hk42 =>
    intro v2_8 fd_9 ar_10 h H locs ls hP hD hS hl
    refine lp_M_summer_J2 F hRf hRl hC hSl  _ _ _ h _ _ _ hP hD hS (lv_sub hl [0, 1, 2] rfl)
set_option maxHeartbeats 4000000 in
theorem ctg_X3_common {l : Launch} {V : evT} {D : va_G} {gI : Nat → ClassId} : ∀ d : Nat, (∀ {v0 : Int64} {v2 : Int64} {Q : Int64 → Prop}, wp_X3_common d v0 v2 Q → ct_l l V D vwCl (tyL gI) yX3_common cX3_common 4 { frames := 1 + d, cells := 0, slots := 0, locals := 29 + d * 23 } [.long v0, .long v2] [] (fun u : Unit => []) (fun (x : Int64) (u : Unit) => Q x)) := by
  intro d
  induction d with
  | zero => exact fun h => False.elim h
  | succ d ih =>
    have hrec0 := @ih
    intro v0 v2 Q h
    refine ct_ofl RX3 rfl (by decide +kernel) (Nat.le_of_ble_eq_true rfl) ?_
    intro p e s m args below meth c A F hP hD ls hl
    obtain ⟨⟨hx, hb, hml, hown, hts⟩, hr, hlocks, hA, hK, hE⟩ := id F
    have hS : va_S A s.heap s.heap [] := va_S.rf
    have hl : lv_has ls 4 [(0, .long v0), (2, .long v2)] := hl
    have hRf : 1 + (d + 1) ≤ ({ frames := 1 + (d + 1), cells := 0, slots := 0, locals := 29 + (d + 1) * 23 } : Room).frames := Nat.le_refl _
    have hRl : 29 + (d + 1) * 23 ≤ ({ frames := 1 + (d + 1), cells := 0, slots := 0, locals := 29 + (d + 1) * 23 } : Room).locals := Nat.le_refl _
    have hC : 0 ≤ ({ frames := 1 + (d + 1), cells := 0, slots := 0, locals := 29 + (d + 1) * 23 } : Room).cells := Nat.zero_le _
    have hSl : 0 ≤ ({ frames := 1 + (d + 1), cells := 0, slots := 0, locals := 29 + (d + 1) * 23 } : Room).slots := Nat.zero_le _
    unfold wp_X3_common at h
    refine lv_lload_n hx hb dX3_common_0 rfl (lv_at hl 1 rfl) ?_
    refine lv_lconst (v := (0 : Int64)) hx hb dX3_common_1 (by decide) ?_
    refine W.lcmp hx hb dX3_common_2 ?_
    refine lv_if_ne (tgt := 10) hx hb dX3_common_3 (by decide) (fun c2 => ?_) (fun c2 => ?_)
    · replace h := h.1 c2
      refine lv_lload_n hx hb dX3_common_10 rfl (lv_at hl 1 rfl) ?_
      refine lv_lload_n hx hb dX3_common_11 rfl (lv_at hl 0 rfl) ?_
      refine lv_lload_n hx hb dX3_common_12 rfl (lv_at hl 1 rfl) ?_
      refine lv_lrem hx hb dX3_common_13 h.1 ?_
      replace h := h.2
      refine cl_l0 F (va_runS (As := [.long v2, .long (v0 - v0 / v2 * v2)]) (rest := []) ⟨hx, hb, hml, hown, hts⟩ (hrec0 h _) (va_cwS 2 hts (lw_S q1823 q1824 q97 q1825) rfl rfl rfl (by decide +kernel) ⟨hRf, by have hh := hRl; show 8 + (_ + 11) + (29 + d * 23) ≤ _; omega⟩) ⟨ct_blind, ct_at F hS ct_nP ct_nD⟩ rfl rfl hl.1 rfl (lv_room (Nat.le_of_ble_eq_true rfl)) dX3_common_14 ⟨hC, hSl⟩) rfl rfl hP hS ?_
      rintro x1 _ H locs h hP hS
      exact rt_l F dX3_common_17 () h hP hD hS (Nat.le_refl _) (Nat.le_refl _)
    · replace h := h.2 c2
      refine lv_lload_n hx hb dX3_common_6 rfl (lv_at hl 0 rfl) ?_
      refine lv_goto (tgt := 17) hx hb dX3_common_7 (by decide) ?_
      exact rt_l F dX3_common_17 () h hP hD hS (Nat.le_refl _) (Nat.le_refl _)
theorem ct_X3_common {l : Launch} {V : evT} {D : va_G} {gI : Nat → ClassId} : ∀ {v0 : Int64} {v2 : Int64} {Q : Int64 → Prop}, wp_X3_common 100 v0 v2 Q → ct_l l V D vwCl (tyL gI) yX3_common cX3_common 4 { frames := 101, cells := 0, slots := 0, locals := 2329 } [.long v0, .long v2] [] (fun u : Unit => []) (fun (x : Int64) (u : Unit) => Q x) := fun h => (ctg_X3_common 100) h
set_option maxHeartbeats 4000000 in
theorem lp_M_crewsFrom_L1 {p : Program} {l : Launch} {e : Env} {R : Room} {s : State} {m : MethodId} {args : Array Value} {below : List Frame} {meth : Method} {c : Code} {cells slots : Nat} {A : Nat → Prop} {Qf : State → Prop} {V : evT} {D : va_G} {gI : Nat → ClassId} {o : Nat} {ad : Nat → Nat} {v1 : Int32} {v2 : Int32} {v3 : Int32} {v4 : Int32} {lw : Nat → Int64} {d : Nat} {rec : Int32 → Int32 → Int32 → Int32 → (Nat → Int32) → (Nat → Nat → Int32) → (Nat → Int64) → ((Nat → Int32) → (Nat → Nat → Int32) → Prop) → Prop} {K140 : (Nat → Int32) → (Nat → Nat → Int32) → Prop} (F : ct_F p m c meth cX3_crewsFrom 6 s args RX3 none A V D vwCl (tyL gI)) (hRf : 8 + (d + 1) ≤ R.frames) (hRl : 171 + (d + 1) * 25 ≤ R.locals) (hC : cells ≤ R.cells) (hSl : slots ≤ R.slots)
    (hrec0 : ∀ {v1 : Int32} {v2 : Int32} {v3 : Int32} {v4 : Int32} {fd : Nat → Int32} {ar : Nat → Nat → Int32} {lw : Nat → Int64} {Q : (Nat → Int32) → (Nat → Nat → Int32) → Prop}, rec v1 v2 v3 v4 fd ar lw Q → ct_v l V D vwCl (tyL gI) yX3_crewsFrom cX3_crewsFrom 6 { frames := 8 + d, cells := 0, slots := 0, locals := 171 + d * 25 } [.ref o, .int v1, .int v2, .int v3, .int v4] (wm gI o ad fd ar lw) (fun u : (Nat → Int32) × (Nat → Nat → Int32) => (wm gI o ad u.1 u.2 lw)) (fun (u : (Nat → Int32) × (Nat → Nat → Int32)) => Q u.1 u.2))
    (hK140 : ∀ (fd : Nat → Int32) (ar : Nat → Nat → Int32), K140 fd ar → ∀ (H : Heap) (locs : List Loc) (ls : Array Slot), va_P D vwCl (wm gI o ad fd ar lw) H → va_D A (wm gI o ad fd ar lw) → va_S A s.heap H locs → lv_has ls 6 [] → W p l e R s m args below meth c H locs cells slots Qf (F0 m 140 ls [])) :
    ∀ (n : Nat) (v5 : Int32) (fd : Nat → Int32) (ar : Nat → Nat → Int32), wp_M_crewsFrom_L1 rec v1 v2 v3 v4 lw K140 n v5 fd ar → ∀ (H : Heap) (locs : List Loc) (ls : Array Slot), va_P D vwCl (wm gI o ad fd ar lw) H → va_D A (wm gI o ad fd ar lw) → va_S A s.heap H locs → lv_has ls 6 [(0, .ref o), (1, .int v1), (2, .int v2), (3, .int v3), (4, .int v4), (5, .int v5)] → W p l e R s m args below meth c H locs cells slots Qf (F0 m 85 ls []) := by
  obtain ⟨⟨hx, hb, hml, hown, hts⟩, hr, hlocks, hA, hK, hE⟩ := id F
  intro n
  induction n with
  | zero => intro v5 fd ar h; exact h.elim
  | succ n ih =>
    intro v5 fd ar h H locs ls hP hD hS hl
    unfold wp_M_crewsFrom_L1 at h
    refine lv_iload hx hb dX3_crewsFrom_85 (lv_at hl 5 rfl) ?_
    refine lv_aload_n hx hb dX3_crewsFrom_87 rfl (lv_at hl 0 rfl) ?_
    refine va_get hx hb hts in_X3 hown hK hP 0 rfl rfl 3 (Nat.le_of_ble_eq_true rfl) (hts _ q1221) (fun _ h => h) (v := .int (fd 3)) rfl dX3_crewsFrom_88 ?_
    refine lv_icmp_ge (tgt := 140) hx hb dX3_crewsFrom_91 (by decide) (fun c9 => ?_) (fun c9 => ?_)
    · replace h := h.1 c9
      exact hK140 _ _ h _ _ _ hP hD hS (lv_sub hl [] rfl)
    · replace h := h.2 c9
      refine lv_iload_n hx hb dX3_crewsFrom_94 rfl (lv_at hl 2 rfl) ?_
      refine lv_iload_n hx hb dX3_crewsFrom_95 rfl (lv_at hl 1 rfl) ?_
      refine cl_i0 F (va_runS (As := [.int v2, .int v1]) (rest := []) ⟨hx, hb, hml, hown, hts⟩ (ct_X3_has h _) (va_cwS 2 hts (lw_S q1510 q1511 q97 q1512) rfl rfl rfl (by decide +kernel) ⟨Nat.le_trans (Nat.le_of_ble_eq_true rfl) (Nat.le_trans (Nat.le_add_right 8 _) hRf), Nat.le_trans (Nat.le_of_ble_eq_true rfl) (Nat.le_trans (Nat.le_add_right 171 _) hRl)⟩) ⟨ct_blind, ct_at F hS ct_nP ct_nD⟩ rfl rfl hl.1 rfl (lv_room (Nat.le_of_ble_eq_true rfl)) dX3_crewsFrom_96 ⟨hC, hSl⟩) rfl rfl hP hS ?_
      rintro x3 _ H locs h hP hS
      refine lv_if_eq (tgt := 140) hx hb dX3_crewsFrom_99 (by decide) (fun c8 => ?_) (fun c8 => ?_)
      · replace h := h.1 c8
        exact hK140 _ _ h _ _ _ hP hD hS (lv_sub hl [] rfl)
      · replace h := h.2 c8
        refine lv_aload_n hx hb dX3_crewsFrom_102 rfl (lv_at hl 0 rfl) ?_
        refine va_get hx hb hts in_X3 hown hK hP 0 rfl rfl 12 (Nat.le_of_ble_eq_true rfl) (hts _ q1230) (fun _ h => h) (v := .ref (ad 12)) rfl dX3_crewsFrom_103 ?_
        refine lv_iload_n hx hb dX3_crewsFrom_106 rfl (lv_at hl 1 rfl) ?_
        refine cl_i F (va_runS (As := [.ref (ad 12), .int v1]) (rest := []) ⟨hx, hb, hml, hown, hts⟩ (ct_M_moodOf_i12 h _) (va_cwS 2 hts (lw_S q1532 q1533 q97 q1534) rfl rfl rfl (by decide +kernel) ⟨Nat.le_trans (Nat.le_of_ble_eq_true rfl) (Nat.le_trans (Nat.le_add_right 8 _) hRf), Nat.le_trans (Nat.le_of_ble_eq_true rfl) (Nat.le_trans (Nat.le_add_right 171 _) hRl)⟩) ⟨ct_blind, ct_at F hS hP hD⟩ rfl rfl hl.1 rfl (lv_room (Nat.le_of_ble_eq_true rfl)) dX3_crewsFrom_107 ⟨hC, hSl⟩) rfl rfl hD hS ?_
        rintro x4 _ H locs h hP hD hS
        refine lv_if_le (tgt := 140) hx hb dX3_crewsFrom_110 (by decide) (fun c7 => ?_) (fun c7 => ?_)
        · replace h := h.1 c7
          exact hK140 _ _ h _ _ _ hP hD hS (lv_sub hl [] rfl)
        · replace h := h.2 c7
          refine lv_aload_n hx hb dX3_crewsFrom_113 rfl (lv_at hl 0 rfl) ?_
          refine va_get hx hb hts in_X3 hown hK hP 0 rfl rfl 38 (Nat.le_of_ble_eq_true rfl) (hts _ q1256) (fun _ h => h) (v := .ref (ad 38)) rfl dX3_crewsFrom_114 ?_
          refine lv_iload_n hx hb dX3_crewsFrom_117 rfl (lv_at hl 1 rfl) ?_
          refine lv_iload hx hb dX3_crewsFrom_118 (lv_at hl 5 rfl) ?_
          refine pt_iast (f := (ar 38)) hx hb hK hP hD hS 22 0 rfl rfl h.1 dX3_crewsFrom_120 wmA_38 (fun H locs hP hD hS => ?_)
          replace h := h.2
          refine lv_aload_n hx hb dX3_crewsFrom_121 rfl (lv_at hl 0 rfl) ?_
          refine lv_iload_n hx hb dX3_crewsFrom_122 rfl (lv_at hl 1 rfl) ?_
          refine lv_iconst (v := (1 : Int32)) hx hb dX3_crewsFrom_123 (by decide) ?_
          refine lv_iadd hx hb dX3_crewsFrom_124 ?_
          refine lv_iload_n hx hb dX3_crewsFrom_125 rfl (lv_at hl 2 rfl) ?_
          refine lv_iload_n hx hb dX3_crewsFrom_126 rfl (lv_at hl 3 rfl) ?_
          refine lv_iconst (v := (1 : Int32)) hx hb dX3_crewsFrom_127 (by decide) ?_
          refine lv_iadd hx hb dX3_crewsFrom_128 ?_
          refine lv_iload hx hb dX3_crewsFrom_129 (lv_at hl 4 rfl) ?_
          refine cl_v F (va_runV (As := [.int (v1 + (1 : Int32)), .int v2, .int (v3 + (1 : Int32)), .int v4]) (rest := []) ⟨hx, hb, hml, hown, hts⟩ (hrec0 h _) (cwV 4 hts (lw_V q1748 q1750 qs86 q97 q1751) rfl rfl rfl (by decide +kernel) ⟨hRf, by have hh := hRl; show 8 + (_ + 11) + (171 + d * 25) ≤ _; omega⟩) ⟨ct_blind, va_recv hK hP (ci := 2) (q0 := 0) rfl rfl, ct_at F hS hP hD⟩ rfl rfl hl.1 rfl (lv_room (Nat.le_of_ble_eq_true rfl)) dX3_crewsFrom_131 ⟨hC, hSl⟩) rfl rfl hD hS ?_
          rintro ⟨fd5, ar6⟩ H locs h hP hD hS
          refine lv_iinc (v := (v5 + (1 : Int32))) (lv' := [(5, .int (v5 + (1 : Int32))), (0, .ref o), (1, .int v1), (2, .int v2), (3, .int v3), (4, .int v4)]) hx hb dX3_crewsFrom_134 hl (k := 5) rfl rfl (by decide) rfl (fun ls hl => ?_)
          refine lv_goto (tgt := 85) hx hb dX3_crewsFrom_137 (by decide) ?_
          exact ih _ _ _ h _ _ _ hP hD hS (lv_sub hl [1, 2, 3, 4, 5, 0] rfl)
set_option maxHeartbeats 4000000 in
theorem lp_M_crewsFrom_L2 {p : Program} {l : Launch} {e : Env} {R : Room} {s : State} {m : MethodId} {args : Array Value} {below : List Frame} {meth : Method} {c : Code} {cells slots : Nat} {A : Nat → Prop} {Qf : State → Prop} {V : evT} {D : va_G} {gI : Nat → ClassId} {o : Nat} {ad : Nat → Nat} {fd : Nat → Int32} {lw : Nat → Int64} {d : Nat} {rec : Int32 → Int32 → Int32 → Int32 → (Nat → Int32) → (Nat → Nat → Int32) → (Nat → Int64) → ((Nat → Int32) → (Nat → Nat → Int32) → Prop) → Prop} {K63 : (Nat → Nat → Int32) → Prop} (F : ct_F p m c meth cX3_crewsFrom 6 s args RX3 none A V D vwCl (tyL gI)) (hRf : 8 + (d + 1) ≤ R.frames) (hRl : 171 + (d + 1) * 25 ≤ R.locals) (hC : cells ≤ R.cells) (hSl : slots ≤ R.slots)
    (hrec0 : ∀ {v1 : Int32} {v2 : Int32} {v3 : Int32} {v4 : Int32} {fd : Nat → Int32} {ar : Nat → Nat → Int32} {lw : Nat → Int64} {Q : (Nat → Int32) → (Nat → Nat → Int32) → Prop}, rec v1 v2 v3 v4 fd ar lw Q → ct_v l V D vwCl (tyL gI) yX3_crewsFrom cX3_crewsFrom 6 { frames := 8 + d, cells := 0, slots := 0, locals := 171 + d * 25 } [.ref o, .int v1, .int v2, .int v3, .int v4] (wm gI o ad fd ar lw) (fun u : (Nat → Int32) × (Nat → Nat → Int32) => (wm gI o ad u.1 u.2 lw)) (fun (u : (Nat → Int32) × (Nat → Nat → Int32)) => Q u.1 u.2))
    (hK63 : ∀ (ar : Nat → Nat → Int32), K63 ar → ∀ (H : Heap) (locs : List Loc) (ls : Array Slot), va_P D vwCl (wm gI o ad fd ar lw) H → va_D A (wm gI o ad fd ar lw) → va_S A s.heap H locs → lv_has ls 6 [] → W p l e R s m args below meth c H locs cells slots Qf (F0 m 63 ls [])) :
    ∀ (n : Nat) (v5 : Int32) (ar : Nat → Nat → Int32), wp_M_crewsFrom_L2 rec fd lw K63 n v5 ar → ∀ (H : Heap) (locs : List Loc) (ls : Array Slot), va_P D vwCl (wm gI o ad fd ar lw) H → va_D A (wm gI o ad fd ar lw) → va_S A s.heap H locs → lv_has ls 6 [(0, .ref o), (5, .int v5)] → W p l e R s m args below meth c H locs cells slots Qf (F0 m 34 ls []) := by
  obtain ⟨⟨hx, hb, hml, hown, hts⟩, hr, hlocks, hA, hK, hE⟩ := id F
  intro n
  induction n with
  | zero => intro v5 ar h; exact h.elim
  | succ n ih =>
    intro v5 ar h H locs ls hP hD hS hl
    unfold wp_M_crewsFrom_L2 at h
    refine lv_iload hx hb dX3_crewsFrom_34 (lv_at hl 1 rfl) ?_
    refine lv_aload_n hx hb dX3_crewsFrom_36 rfl (lv_at hl 0 rfl) ?_
    refine va_get hx hb hts in_X3 hown hK hP 0 rfl rfl 4 (Nat.le_of_ble_eq_true rfl) (hts _ q1222) (fun _ h => h) (v := .int (fd 4)) rfl dX3_crewsFrom_37 ?_
    refine lv_icmp_ge (tgt := 63) hx hb dX3_crewsFrom_40 (by decide) (fun c15 => ?_) (fun c15 => ?_)
    · replace h := h.1 c15
      exact hK63 _ h _ _ _ hP hD hS (lv_sub hl [] rfl)
    · replace h := h.2 c15
      refine lv_aload_n hx hb dX3_crewsFrom_43 rfl (lv_at hl 0 rfl) ?_
      refine va_get hx hb hts in_X3 hown hK hP 0 rfl rfl 39 (Nat.le_of_ble_eq_true rfl) (hts _ q1257) (fun _ h => h) (v := .ref (ad 39)) rfl dX3_crewsFrom_44 ?_
      refine lv_iload hx hb dX3_crewsFrom_47 (lv_at hl 1 rfl) ?_
      refine lv_aload_n hx hb dX3_crewsFrom_49 rfl (lv_at hl 0 rfl) ?_
      refine va_get hx hb hts in_X3 hown hK hP 0 rfl rfl 38 (Nat.le_of_ble_eq_true rfl) (hts _ q1256) (fun _ h => h) (v := .ref (ad 38)) rfl dX3_crewsFrom_50 ?_
      refine lv_iload hx hb dX3_crewsFrom_53 (lv_at hl 1 rfl) ?_
      refine va_iald (f := (ar 38)) hx hb hK hP 22 0 rfl rfl h.1 dX3_crewsFrom_55 ?_
      replace h := h.2
      refine pt_iast (f := (ar 39)) hx hb hK hP hD hS 23 0 rfl rfl h.1 dX3_crewsFrom_56 wmA_39 (fun H locs hP hD hS => ?_)
      replace h := h.2
      refine lv_iinc (v := (v5 + (1 : Int32))) (lv' := [(5, .int (v5 + (1 : Int32))), (0, .ref o)]) hx hb dX3_crewsFrom_57 hl (k := 1) rfl rfl (by decide) rfl (fun ls hl => ?_)
      refine lv_goto (tgt := 34) hx hb dX3_crewsFrom_60 (by decide) ?_
      exact ih _ _ h _ _ _ hP hD hS (lv_sub hl [1, 0] rfl)
set_option maxHeartbeats 4000000 in
theorem ctg_M_crewsFrom {l : Launch} {V : evT} {D : va_G} {gI : Nat → ClassId} {o : Nat} {ad : Nat → Nat} : ∀ d : Nat, (∀ {v1 : Int32} {v2 : Int32} {v3 : Int32} {v4 : Int32} {fd : Nat → Int32} {ar : Nat → Nat → Int32} {lw : Nat → Int64} {Q : (Nat → Int32) → (Nat → Nat → Int32) → Prop}, wp_M_crewsFrom d v1 v2 v3 v4 fd ar lw Q → ct_v l V D vwCl (tyL gI) yX3_crewsFrom cX3_crewsFrom 6 { frames := 8 + d, cells := 0, slots := 0, locals := 171 + d * 25 } [.ref o, .int v1, .int v2, .int v3, .int v4] (wm gI o ad fd ar lw) (fun u : (Nat → Int32) × (Nat → Nat → Int32) => (wm gI o ad u.1 u.2 lw)) (fun (u : (Nat → Int32) × (Nat → Nat → Int32)) => Q u.1 u.2)) := by
  intro d
  induction d with
  | zero => exact fun h => False.elim h
  | succ d ih =>
    have hrec0 := @ih
    intro v1 v2 v3 v4 fd ar lw Q h
    refine ct_ofv RX3 rfl (by decide +kernel) (Nat.le_of_ble_eq_true rfl) ?_
    intro p e s m args below meth c A F _ hP hD ls hl
    obtain ⟨⟨hx, hb, hml, hown, hts⟩, hr, hlocks, hA, hK, hE⟩ := id F
    have hS : va_S A s.heap s.heap [] := va_S.rf
    have hl : lv_has ls 6 [(0, .ref o), (1, .int v1), (2, .int v2), (3, .int v3), (4, .int v4)] := hl
    have hRf : 8 + (d + 1) ≤ ({ frames := 8 + (d + 1), cells := 0, slots := 0, locals := 171 + (d + 1) * 25 } : Room).frames := Nat.le_refl _
    have hRl : 171 + (d + 1) * 25 ≤ ({ frames := 8 + (d + 1), cells := 0, slots := 0, locals := 171 + (d + 1) * 25 } : Room).locals := Nat.le_refl _
    have hC : 0 ≤ ({ frames := 8 + (d + 1), cells := 0, slots := 0, locals := 171 + (d + 1) * 25 } : Room).cells := Nat.zero_le _
    have hSl : 0 ≤ ({ frames := 8 + (d + 1), cells := 0, slots := 0, locals := 171 + (d + 1) * 25 } : Room).slots := Nat.zero_le _
    unfold wp_M_crewsFrom at h
    refine lv_iload_n hx hb dX3_crewsFrom_0 rfl (lv_at hl 3 rfl) ?_
    refine lv_aload_n hx hb dX3_crewsFrom_1 rfl (lv_at hl 0 rfl) ?_
    refine va_get hx hb hts in_X3 hown hK hP 0 rfl rfl 40 (Nat.le_of_ble_eq_true rfl) (hts _ q1258) (fun _ h => h) (v := .int (fd 40)) rfl dX3_crewsFrom_2 ?_
    refine lv_icmp_lt (tgt := 9) hx hb dX3_crewsFrom_5 (by decide) (fun c19 => ?_) (fun c19 => ?_)
    · replace h := h.1 c19
      refine lv_iload_n hx hb dX3_crewsFrom_9 rfl (lv_at hl 1 rfl) ?_
      refine lv_aload_n hx hb dX3_crewsFrom_10 rfl (lv_at hl 0 rfl) ?_
      refine va_get hx hb hts in_X3 hown hK hP 0 rfl rfl 4 (Nat.le_of_ble_eq_true rfl) (hts _ q1222) (fun _ h => h) (v := .int (fd 4)) rfl dX3_crewsFrom_11 ?_
      refine lv_icmp_ne (tgt := 64) hx hb dX3_crewsFrom_14 (by decide) (fun c18 => ?_) (fun c18 => ?_)
      · replace h := h.1 c18
        refine lv_aload_n hx hb dX3_crewsFrom_64 rfl (lv_at hl 0 rfl) ?_
        refine va_get hx hb hts in_X3 hown hK hP 0 rfl rfl 38 (Nat.le_of_ble_eq_true rfl) (hts _ q1256) (fun _ h => h) (v := .ref (ad 38)) rfl dX3_crewsFrom_65 ?_
        refine lv_iload_n hx hb dX3_crewsFrom_68 rfl (lv_at hl 1 rfl) ?_
        refine lv_iconst (v := (-1 : Int32)) hx hb dX3_crewsFrom_69 (by decide) ?_
        refine pt_iast (f := (ar 38)) hx hb hK hP hD hS 22 0 rfl rfl h.1 dX3_crewsFrom_70 wmA_38 (fun H locs hP hD hS => ?_)
        replace h := h.2
        refine lv_aload_n hx hb dX3_crewsFrom_71 rfl (lv_at hl 0 rfl) ?_
        refine lv_iload_n hx hb dX3_crewsFrom_72 rfl (lv_at hl 1 rfl) ?_
        refine lv_iconst (v := (1 : Int32)) hx hb dX3_crewsFrom_73 (by decide) ?_
        refine lv_iadd hx hb dX3_crewsFrom_74 ?_
        refine lv_iload_n hx hb dX3_crewsFrom_75 rfl (lv_at hl 2 rfl) ?_
        refine lv_iload_n hx hb dX3_crewsFrom_76 rfl (lv_at hl 3 rfl) ?_
        refine lv_iload hx hb dX3_crewsFrom_77 (lv_at hl 4 rfl) ?_
        refine cl_v F (va_runV (As := [.int (v1 + (1 : Int32)), .int v2, .int v3, .int v4]) (rest := []) ⟨hx, hb, hml, hown, hts⟩ (hrec0 h _) (cwV 4 hts (lw_V q1748 q1750 qs86 q97 q1751) rfl rfl rfl (by decide +kernel) ⟨hRf, by have hh := hRl; show 8 + (_ + 11) + (171 + d * 25) ≤ _; omega⟩) ⟨ct_blind, va_recv hK hP (ci := 2) (q0 := 0) rfl rfl, ct_at F hS hP hD⟩ rfl rfl hl.1 rfl (lv_room (Nat.le_of_ble_eq_true rfl)) dX3_crewsFrom_79 ⟨hC, hSl⟩) rfl rfl hD hS ?_
        rintro ⟨fd1, ar2⟩ H locs h hP hD hS
        refine lv_iconst (v := (0 : Int32)) hx hb dX3_crewsFrom_82 (by decide) ?_
        refine lv_istore (lv' := [(5, .int (0 : Int32)), (0, .ref o), (1, .int v1), (2, .int v2), (3, .int v3), (4, .int v4)]) hx hb dX3_crewsFrom_83 hl (by decide) rfl (fun ls hl => ?_)
        obtain ⟨k85, h⟩ := h
        refine lp_M_crewsFrom_L1 F hRf hRl hC hSl hrec0 ?hk140 k85 _ _ _ h _ _ _ hP hD hS (lv_sub hl [1, 2, 3, 4, 5, 0] rfl)
        case hk140 =>
          intro fd_10 ar_11 h H locs ls hP hD hS hl
          exact rt_v F dX3_crewsFrom_140 (fd_10, ar_11) h hP hD hS (Nat.le_refl _) (Nat.le_refl _)
      · replace h := h.2 c18
        refine lv_aload_n hx hb dX3_crewsFrom_17 rfl (lv_at hl 0 rfl) ?_
        refine lv_iload hx hb dX3_crewsFrom_18 (lv_at hl 4 rfl) ?_
        refine cl_i F (va_runV (As := [.int v4]) (rest := []) ⟨hx, hb, hml, hown, hts⟩ (ct_M_crewHolds h _) (cwV 1 hts (lw_V q1752 q1754 qs87 q97 q1755) rfl rfl rfl (by decide +kernel) ⟨Nat.le_trans (Nat.le_of_ble_eq_true rfl) (Nat.le_trans (Nat.le_add_right 8 _) hRf), Nat.le_trans (Nat.le_of_ble_eq_true rfl) (Nat.le_trans (Nat.le_add_right 171 _) hRl)⟩) ⟨ct_blind, va_recv hK hP (ci := 2) (q0 := 0) rfl rfl, ct_at F hS hP hD⟩ rfl rfl hl.1 rfl (lv_room (Nat.le_of_ble_eq_true rfl)) dX3_crewsFrom_20 ⟨hC, hSl⟩) rfl rfl hD hS ?_
        rintro x12 ⟨fd13, ar14⟩ H locs h hP hD hS
        refine lv_if_eq (tgt := 63) hx hb dX3_crewsFrom_23 (by decide) (fun c17 => ?_) (fun c17 => ?_)
        · replace h := h.1 c17
          exact rt_v F dX3_crewsFrom_63 (fd13, ar14) h hP hD hS (Nat.le_refl _) (Nat.le_refl _)
        · replace h := h.2 c17
          refine lv_aload_n hx hb dX3_crewsFrom_26 rfl (lv_at hl 0 rfl) ?_
          refine lv_iload_n hx hb dX3_crewsFrom_27 rfl (lv_at hl 3 rfl) ?_
          refine pt_put (v := .int v3) hx hb hts in_X3 tyX3 tyX3_ok nmX3 hown hK hP hD hS 0 rfl rfl 40 (Nat.le_of_ble_eq_true rfl) (hts _ q1258) (fun _ h => h) rfl (ty := .int) (by decide +kernel) rfl rfl (Nat.le_of_ble_eq_true rfl) dX3_crewsFrom_28 wmF_40 (fun H locs hP hD hS => ?_)
          refine lv_iconst (v := (0 : Int32)) hx hb dX3_crewsFrom_31 (by decide) ?_
          refine lv_istore (lv' := [(5, .int (0 : Int32)), (0, .ref o), (1, .int v1), (2, .int v2), (3, .int v3), (4, .int v4)]) hx hb dX3_crewsFrom_32 hl (by decide) rfl (fun ls hl => ?_)
          obtain ⟨k34, h⟩ := h
          refine lp_M_crewsFrom_L2 F hRf hRl hC hSl hrec0 ?hk63 k34 _ _ h _ _ _ hP hD hS (lv_sub hl [1, 0] rfl)
          case hk63 =>
            intro ar_16 h H locs ls hP hD hS hl
            exact rt_v F dX3_crewsFrom_63 ((upd fd13 40 v3), ar_16) h hP hD hS (Nat.le_refl _) (Nat.le_refl _)
    · replace h := h.2 c19
      exact rt_v F dX3_crewsFrom_8 (fd, ar) h hP hD hS (Nat.le_refl _) (Nat.le_refl _)
theorem ct_M_crewsFrom {l : Launch} {V : evT} {D : va_G} {gI : Nat → ClassId} {o : Nat} {ad : Nat → Nat} : ∀ {v1 : Int32} {v2 : Int32} {v3 : Int32} {v4 : Int32} {fd : Nat → Int32} {ar : Nat → Nat → Int32} {lw : Nat → Int64} {Q : (Nat → Int32) → (Nat → Nat → Int32) → Prop}, wp_M_crewsFrom 10 v1 v2 v3 v4 fd ar lw Q → ct_v l V D vwCl (tyL gI) yX3_crewsFrom cX3_crewsFrom 6 { frames := 18, cells := 0, slots := 0, locals := 421 } [.ref o, .int v1, .int v2, .int v3, .int v4] (wm gI o ad fd ar lw) (fun u : (Nat → Int32) × (Nat → Nat → Int32) => (wm gI o ad u.1 u.2 lw)) (fun (u : (Nat → Int32) × (Nat → Nat → Int32)) => Q u.1 u.2) := fun h => (ctg_M_crewsFrom 10) h
set_option maxHeartbeats 4000000 in
theorem lp_M_placesFrom_L1 {p : Program} {l : Launch} {e : Env} {R : Room} {s : State} {m : MethodId} {args : Array Value} {below : List Frame} {meth : Method} {c : Code} {cells slots : Nat} {A : Nat → Prop} {Qf : State → Prop} {V : evT} {D : va_G} {gI : Nat → ClassId} {o : Nat} {ad : Nat → Nat} {v1 : Int32} {lw : Nat → Int64} {d : Nat} {rec : Int32 → (Nat → Int32) → (Nat → Nat → Int32) → (Nat → Int64) → ((Nat → Int32) → (Nat → Nat → Int32) → Prop) → Prop} {K196 : (Nat → Int32) → (Nat → Nat → Int32) → Prop} (F : ct_F p m c meth cX3_placesFrom 3 s args RX3 none A V D vwCl (tyL gI)) (hRf : 3 + (d + 1) ≤ R.frames) (hRl : 55 + (d + 1) * 22 ≤ R.locals) (hC : cells ≤ R.cells) (hSl : slots ≤ R.slots)
    (hrec0 : ∀ {v1 : Int32} {fd : Nat → Int32} {ar : Nat → Nat → Int32} {lw : Nat → Int64} {Q : (Nat → Int32) → (Nat → Nat → Int32) → Prop}, rec v1 fd ar lw Q → ct_v l V D vwCl (tyL gI) yX3_placesFrom cX3_placesFrom 3 { frames := 3 + d, cells := 0, slots := 0, locals := 55 + d * 22 } [.ref o, .int v1] (wm gI o ad fd ar lw) (fun u : (Nat → Int32) × (Nat → Nat → Int32) => (wm gI o ad u.1 u.2 lw)) (fun (u : (Nat → Int32) × (Nat → Nat → Int32)) => Q u.1 u.2))
    (hK196 : ∀ (fd : Nat → Int32) (ar : Nat → Nat → Int32), K196 fd ar → ∀ (H : Heap) (locs : List Loc) (ls : Array Slot), va_P D vwCl (wm gI o ad fd ar lw) H → va_D A (wm gI o ad fd ar lw) → va_S A s.heap H locs → lv_has ls 3 [] → W p l e R s m args below meth c H locs cells slots Qf (F0 m 196 ls [])) :
    ∀ (n : Nat) (v2 : Int32) (fd : Nat → Int32) (ar : Nat → Nat → Int32), wp_M_placesFrom_L1 rec v1 lw K196 n v2 fd ar → ∀ (H : Heap) (locs : List Loc) (ls : Array Slot), va_P D vwCl (wm gI o ad fd ar lw) H → va_D A (wm gI o ad fd ar lw) → va_S A s.heap H locs → lv_has ls 3 [(0, .ref o), (1, .int v1), (2, .int v2)] → W p l e R s m args below meth c H locs cells slots Qf (F0 m 105 ls []) := by
  obtain ⟨⟨hx, hb, hml, hown, hts⟩, hr, hlocks, hA, hK, hE⟩ := id F
  intro n
  induction n with
  | zero => intro v2 fd ar h; exact h.elim
  | succ n ih =>
    intro v2 fd ar h H locs ls hP hD hS hl
    unfold wp_M_placesFrom_L1 at h
    refine lv_iload_n hx hb dX3_placesFrom_105 rfl (lv_at hl 2 rfl) ?_
    refine lv_aload_n hx hb dX3_placesFrom_106 rfl (lv_at hl 0 rfl) ?_
    refine va_get hx hb hts in_X3 hown hK hP 0 rfl rfl 3 (Nat.le_of_ble_eq_true rfl) (hts _ q1221) (fun _ h => h) (v := .int (fd 3)) rfl dX3_placesFrom_107 ?_
    refine lv_icmp_ge (tgt := 196) hx hb dX3_placesFrom_110 (by decide) (fun c8 => ?_) (fun c8 => ?_)
    · replace h := h.1 c8
      exact hK196 _ _ h _ _ _ hP hD hS (lv_sub hl [] rfl)
    · replace h := h.2 c8
      refine lv_aload_n hx hb dX3_placesFrom_113 rfl (lv_at hl 0 rfl) ?_
      refine va_get hx hb hts in_X3 hown hK hP 0 rfl rfl 42 (Nat.le_of_ble_eq_true rfl) (hts _ q1260) (fun _ h => h) (v := .int (fd 42)) rfl dX3_placesFrom_114 ?_
      refine lv_iload_n hx hb dX3_placesFrom_117 rfl (lv_at hl 2 rfl) ?_
      refine cl_i0 F (va_runS (As := [.int (fd 42), .int v2]) (rest := []) ⟨hx, hb, hml, hown, hts⟩ (ct_X3_has h _) (va_cwS 2 hts (lw_S q1510 q1511 q97 q1512) rfl rfl rfl (by decide +kernel) ⟨Nat.le_trans (Nat.le_of_ble_eq_true rfl) (Nat.le_trans (Nat.le_add_right 3 _) hRf), Nat.le_trans (Nat.le_of_ble_eq_true rfl) (Nat.le_trans (Nat.le_add_right 55 _) hRl)⟩) ⟨ct_blind, ct_at F hS ct_nP ct_nD⟩ rfl rfl hl.1 rfl (lv_room (Nat.le_of_ble_eq_true rfl)) dX3_placesFrom_118 ⟨hC, hSl⟩) rfl rfl hP hS ?_
      rintro x3 _ H locs h hP hS
      refine lv_if_eq (tgt := 190) hx hb dX3_placesFrom_121 (by decide) (fun c7 => ?_) (fun c7 => ?_)
      · replace h := h.1 c7
        refine lv_iinc (v := (v2 + (1 : Int32))) (lv' := [(2, .int (v2 + (1 : Int32))), (0, .ref o), (1, .int v1)]) hx hb dX3_placesFrom_190 hl (k := 2) rfl rfl (by decide) rfl (fun ls hl => ?_)
        refine lv_goto (tgt := 105) hx hb dX3_placesFrom_193 (by decide) ?_
        exact ih _ _ _ h _ _ _ hP hD hS (lv_sub hl [1, 2, 0] rfl)
      · replace h := h.2 c7
        refine lv_aload_n hx hb dX3_placesFrom_124 rfl (lv_at hl 0 rfl) ?_
        refine va_get hx hb hts in_X3 hown hK hP 0 rfl rfl 44 (Nat.le_of_ble_eq_true rfl) (hts _ q1262) (fun _ h => h) (v := .ref (ad 44)) rfl dX3_placesFrom_125 ?_
        refine lv_iload_n hx hb dX3_placesFrom_128 rfl (lv_at hl 2 rfl) ?_
        refine va_iald (f := (ar 44)) hx hb hK hP 26 0 rfl rfl h.1 dX3_placesFrom_129 ?_
        replace h := h.2
        refine lv_aload_n hx hb dX3_placesFrom_130 rfl (lv_at hl 0 rfl) ?_
        refine va_get hx hb hts in_X3 hown hK hP 0 rfl rfl 9 (Nat.le_of_ble_eq_true rfl) (hts _ q1227) (fun _ h => h) (v := .ref (ad 9)) rfl dX3_placesFrom_131 ?_
        refine lv_iload_n hx hb dX3_placesFrom_134 rfl (lv_at hl 1 rfl) ?_
        refine va_iald (f := (ar 9)) hx hb hK hP 5 0 rfl rfl h.1 dX3_placesFrom_135 ?_
        replace h := h.2
        refine lv_iadd hx hb dX3_placesFrom_136 ?_
        refine lv_aload_n hx hb dX3_placesFrom_137 rfl (lv_at hl 0 rfl) ?_
        refine va_get hx hb hts in_X3 hown hK hP 0 rfl rfl 43 (Nat.le_of_ble_eq_true rfl) (hts _ q1261) (fun _ h => h) (v := .ref (ad 43)) rfl dX3_placesFrom_138 ?_
        refine lv_iload_n hx hb dX3_placesFrom_141 rfl (lv_at hl 2 rfl) ?_
        refine va_iald (f := (ar 43)) hx hb hK hP 25 0 rfl rfl h.1 dX3_placesFrom_142 ?_
        replace h := h.2
        refine lv_icmp_gt (tgt := 190) hx hb dX3_placesFrom_143 (by decide) (fun c6 => ?_) (fun c6 => ?_)
        · replace h := h.1 c6
          refine lv_iinc (v := (v2 + (1 : Int32))) (lv' := [(2, .int (v2 + (1 : Int32))), (0, .ref o), (1, .int v1)]) hx hb dX3_placesFrom_190 hl (k := 2) rfl rfl (by decide) rfl (fun ls hl => ?_)
          refine lv_goto (tgt := 105) hx hb dX3_placesFrom_193 (by decide) ?_
          exact ih _ _ _ h _ _ _ hP hD hS (lv_sub hl [1, 2, 0] rfl)
        · replace h := h.2 c6
          refine lv_aload_n hx hb dX3_placesFrom_146 rfl (lv_at hl 0 rfl) ?_
          refine va_get hx hb hts in_X3 hown hK hP 0 rfl rfl 45 (Nat.le_of_ble_eq_true rfl) (hts _ q1263) (fun _ h => h) (v := .ref (ad 45)) rfl dX3_placesFrom_147 ?_
          refine lv_iload_n hx hb dX3_placesFrom_150 rfl (lv_at hl 1 rfl) ?_
          refine lv_iload_n hx hb dX3_placesFrom_151 rfl (lv_at hl 2 rfl) ?_
          refine pt_iast (f := (ar 45)) hx hb hK hP hD hS 27 0 rfl rfl h.1 dX3_placesFrom_152 wmA_45 (fun H locs hP hD hS => ?_)
          replace h := h.2
          refine lv_aload_n hx hb dX3_placesFrom_153 rfl (lv_at hl 0 rfl) ?_
          refine va_get hx hb hts in_X3 hown hK hP 0 rfl rfl 44 (Nat.le_of_ble_eq_true rfl) (hts _ q1262) (fun _ h => h) (v := .ref (ad 44)) rfl dX3_placesFrom_154 ?_
          refine lv_iload_n hx hb dX3_placesFrom_157 rfl (lv_at hl 2 rfl) ?_
          refine lv_dup2_11 hx hb dX3_placesFrom_158 rfl rfl ?_
          refine va_iald (f := (ar 44)) hx hb hK hP 26 0 rfl rfl h.1 dX3_placesFrom_159 ?_
          replace h := h.2
          refine lv_aload_n hx hb dX3_placesFrom_160 rfl (lv_at hl 0 rfl) ?_
          refine va_get hx hb hts in_X3 hown hK hP 0 rfl rfl 9 (Nat.le_of_ble_eq_true rfl) (hts _ q1227) (fun _ h => h) (v := .ref (ad 9)) rfl dX3_placesFrom_161 ?_
          refine lv_iload_n hx hb dX3_placesFrom_164 rfl (lv_at hl 1 rfl) ?_
          refine va_iald (f := (ar 9)) hx hb hK hP 5 0 rfl rfl h.1 dX3_placesFrom_165 ?_
          replace h := h.2
          refine lv_iadd hx hb dX3_placesFrom_166 ?_
          refine pt_iast (f := (ar 44)) hx hb hK hP hD hS 26 0 rfl rfl h.1 dX3_placesFrom_167 wmA_44 (fun H locs hP hD hS => ?_)
          replace h := h.2
          refine lv_aload_n hx hb dX3_placesFrom_168 rfl (lv_at hl 0 rfl) ?_
          refine lv_iload_n hx hb dX3_placesFrom_169 rfl (lv_at hl 1 rfl) ?_
          refine lv_iconst (v := (1 : Int32)) hx hb dX3_placesFrom_170 (by decide) ?_
          refine lv_iadd hx hb dX3_placesFrom_171 ?_
          refine cl_v F (va_runV (As := [.int (v1 + (1 : Int32))]) (rest := []) ⟨hx, hb, hml, hown, hts⟩ (hrec0 h _) (cwV 1 hts (lw_V q1802 q1804 qs90 q97 q1805) rfl rfl rfl (by decide +kernel) ⟨hRf, by have hh := hRl; show 8 + (_ + 11) + (55 + d * 22) ≤ _; omega⟩) ⟨ct_blind, va_recv hK hP (ci := 2) (q0 := 0) rfl rfl, ct_at F hS hP hD⟩ rfl rfl hl.1 rfl (lv_room (Nat.le_of_ble_eq_true rfl)) dX3_placesFrom_172 ⟨hC, hSl⟩) rfl rfl hD hS ?_
          rintro ⟨fd4, ar5⟩ H locs h hP hD hS
          refine lv_aload_n hx hb dX3_placesFrom_175 rfl (lv_at hl 0 rfl) ?_
          refine va_get hx hb hts in_X3 hown hK hP 0 rfl rfl 44 (Nat.le_of_ble_eq_true rfl) (hts _ q1262) (fun _ h => h) (v := .ref (ad 44)) rfl dX3_placesFrom_176 ?_
          refine lv_iload_n hx hb dX3_placesFrom_179 rfl (lv_at hl 2 rfl) ?_
          refine lv_dup2_11 hx hb dX3_placesFrom_180 rfl rfl ?_
          refine va_iald (f := (ar5 44)) hx hb hK hP 26 0 rfl rfl h.1 dX3_placesFrom_181 ?_
          replace h := h.2
          refine lv_aload_n hx hb dX3_placesFrom_182 rfl (lv_at hl 0 rfl) ?_
          refine va_get hx hb hts in_X3 hown hK hP 0 rfl rfl 9 (Nat.le_of_ble_eq_true rfl) (hts _ q1227) (fun _ h => h) (v := .ref (ad 9)) rfl dX3_placesFrom_183 ?_
          refine lv_iload_n hx hb dX3_placesFrom_186 rfl (lv_at hl 1 rfl) ?_
          refine va_iald (f := (ar5 9)) hx hb hK hP 5 0 rfl rfl h.1 dX3_placesFrom_187 ?_
          replace h := h.2
          refine lv_isub hx hb dX3_placesFrom_188 ?_
          refine pt_iast (f := (ar5 44)) hx hb hK hP hD hS 26 0 rfl rfl h.1 dX3_placesFrom_189 wmA_44 (fun H locs hP hD hS => ?_)
          replace h := h.2
          refine lv_iinc (v := (v2 + (1 : Int32))) (lv' := [(2, .int (v2 + (1 : Int32))), (0, .ref o), (1, .int v1)]) hx hb dX3_placesFrom_190 hl (k := 2) rfl rfl (by decide) rfl (fun ls hl => ?_)
          refine lv_goto (tgt := 105) hx hb dX3_placesFrom_193 (by decide) ?_
          exact ih _ _ _ h _ _ _ hP hD hS (lv_sub hl [1, 2, 0] rfl)
set_option maxHeartbeats 4000000 in
theorem lp_M_placesFrom_J3 {p : Program} {l : Launch} {e : Env} {R : Room} {s : State} {m : MethodId} {args : Array Value} {below : List Frame} {meth : Method} {c : Code} {cells slots : Nat} {A : Nat → Prop} {Qf : State → Prop} {V : evT} {D : va_G} {gI : Nat → ClassId} {o : Nat} {ad : Nat → Nat} {fd : Nat → Int32} {lw : Nat → Int64} {d : Nat} {rec : Int32 → (Nat → Int32) → (Nat → Nat → Int32) → (Nat → Int64) → ((Nat → Int32) → (Nat → Nat → Int32) → Prop) → Prop} {K17 : (Int32) → (Nat → Nat → Int32) → Prop} (F : ct_F p m c meth cX3_placesFrom 3 s args RX3 none A V D vwCl (tyL gI)) (hRf : 3 + (d + 1) ≤ R.frames) (hRl : 55 + (d + 1) * 22 ≤ R.locals) (hC : cells ≤ R.cells) (hSl : slots ≤ R.slots)
    (hrec0 : ∀ {v1 : Int32} {fd : Nat → Int32} {ar : Nat → Nat → Int32} {lw : Nat → Int64} {Q : (Nat → Int32) → (Nat → Nat → Int32) → Prop}, rec v1 fd ar lw Q → ct_v l V D vwCl (tyL gI) yX3_placesFrom cX3_placesFrom 3 { frames := 3 + d, cells := 0, slots := 0, locals := 55 + d * 22 } [.ref o, .int v1] (wm gI o ad fd ar lw) (fun u : (Nat → Int32) × (Nat → Nat → Int32) => (wm gI o ad u.1 u.2 lw)) (fun (u : (Nat → Int32) × (Nat → Nat → Int32)) => Q u.1 u.2))
    (hK17 : ∀ (v2 : Int32) (ar : Nat → Nat → Int32), K17 v2 ar → ∀ (H : Heap) (locs : List Loc) (ls : Array Slot), va_P D vwCl (wm gI o ad fd ar lw) H → va_D A (wm gI o ad fd ar lw) → va_S A s.heap H locs → lv_has ls 3 [(0, .ref o), (2, .int v2)] → W p l e R s m args below meth c H locs cells slots Qf (F0 m 17 ls [])) :
    ∀ (v2 : Int32) (t0 : Int32) (t1 : Int32) (ar : Nat → Nat → Int32), wp_M_placesFrom_J3 rec fd lw K17 v2 t0 t1 ar → ∀ (H : Heap) (locs : List Loc) (ls : Array Slot), va_P D vwCl (wm gI o ad fd ar lw) H → va_D A (wm gI o ad fd ar lw) → va_S A s.heap H locs → lv_has ls 3 [(0, .ref o), (2, .int v2)] → W p l e R s m args below meth c H locs cells slots Qf (F0 m 52 ls [.int t0, .int t1, .ref (ad 46)]) := by
  obtain ⟨⟨hx, hb, hml, hown, hts⟩, hr, hlocks, hA, hK, hE⟩ := id F
  intro v2 t0 t1 ar h H locs ls hP hD hS hl
  unfold wp_M_placesFrom_J3 at h
  refine pt_iast (f := (ar 46)) hx hb hK hP hD hS 28 0 rfl rfl h.1 dX3_placesFrom_52 wmA_46 (fun H locs hP hD hS => ?_)
  replace h := h.2
  refine lv_aload_n hx hb dX3_placesFrom_53 rfl (lv_at hl 0 rfl) ?_
  refine va_get hx hb hts in_X3 hown hK hP 0 rfl rfl 47 (Nat.le_of_ble_eq_true rfl) (hts _ q1265) (fun _ h => h) (v := .ref (ad 47)) rfl dX3_placesFrom_54 ?_
  refine lv_iload_n hx hb dX3_placesFrom_57 rfl (lv_at hl 1 rfl) ?_
  refine lv_dup2_11 hx hb dX3_placesFrom_58 rfl rfl ?_
  refine va_iald (f := (ar 47)) hx hb hK hP 29 0 rfl rfl h.1 dX3_placesFrom_59 ?_
  replace h := h.2
  refine lv_iconst (v := (1 : Int32)) hx hb dX3_placesFrom_60 (by decide) ?_
  refine lv_aload_n hx hb dX3_placesFrom_61 rfl (lv_at hl 0 rfl) ?_
  refine va_get hx hb hts in_X3 hown hK hP 0 rfl rfl 45 (Nat.le_of_ble_eq_true rfl) (hts _ q1263) (fun _ h => h) (v := .ref (ad 45)) rfl dX3_placesFrom_62 ?_
  refine lv_iload_n hx hb dX3_placesFrom_65 rfl (lv_at hl 1 rfl) ?_
  refine va_iald (f := (ar 45)) hx hb hK hP 27 0 rfl rfl h.1 dX3_placesFrom_66 ?_
  replace h := h.2
  refine lv_iconst (v := (1 : Int32)) hx hb dX3_placesFrom_67 (by decide) ?_
  refine lv_iadd hx hb dX3_placesFrom_68 ?_
  refine lv_ishl hx hb dX3_placesFrom_69 ?_
  refine lv_ior hx hb dX3_placesFrom_70 ?_
  refine pt_iast (f := (ar 47)) hx hb hK hP hD hS 29 0 rfl rfl h.1 dX3_placesFrom_71 wmA_47 (fun H locs hP hD hS => ?_)
  replace h := h.2
  refine lv_iinc (v := (v2 + (1 : Int32))) (lv' := [(2, .int (v2 + (1 : Int32))), (0, .ref o)]) hx hb dX3_placesFrom_72 hl (k := 1) rfl rfl (by decide) rfl (fun ls hl => ?_)
  refine lv_goto (tgt := 17) hx hb dX3_placesFrom_75 (by decide) ?_
  exact hK17 _ _ h _ _ _ hP hD hS (lv_sub hl [1, 0] rfl)
set_option maxHeartbeats 4000000 in
theorem lp_M_placesFrom_L2 {p : Program} {l : Launch} {e : Env} {R : Room} {s : State} {m : MethodId} {args : Array Value} {below : List Frame} {meth : Method} {c : Code} {cells slots : Nat} {A : Nat → Prop} {Qf : State → Prop} {V : evT} {D : va_G} {gI : Nat → ClassId} {o : Nat} {ad : Nat → Nat} {fd : Nat → Int32} {lw : Nat → Int64} {d : Nat} {rec : Int32 → (Nat → Int32) → (Nat → Nat → Int32) → (Nat → Int64) → ((Nat → Int32) → (Nat → Nat → Int32) → Prop) → Prop} {K78 : (Nat → Nat → Int32) → Prop} (F : ct_F p m c meth cX3_placesFrom 3 s args RX3 none A V D vwCl (tyL gI)) (hRf : 3 + (d + 1) ≤ R.frames) (hRl : 55 + (d + 1) * 22 ≤ R.locals) (hC : cells ≤ R.cells) (hSl : slots ≤ R.slots)
    (hrec0 : ∀ {v1 : Int32} {fd : Nat → Int32} {ar : Nat → Nat → Int32} {lw : Nat → Int64} {Q : (Nat → Int32) → (Nat → Nat → Int32) → Prop}, rec v1 fd ar lw Q → ct_v l V D vwCl (tyL gI) yX3_placesFrom cX3_placesFrom 3 { frames := 3 + d, cells := 0, slots := 0, locals := 55 + d * 22 } [.ref o, .int v1] (wm gI o ad fd ar lw) (fun u : (Nat → Int32) × (Nat → Nat → Int32) => (wm gI o ad u.1 u.2 lw)) (fun (u : (Nat → Int32) × (Nat → Nat → Int32)) => Q u.1 u.2))
    (hK78 : ∀ (ar : Nat → Nat → Int32), K78 ar → ∀ (H : Heap) (locs : List Loc) (ls : Array Slot), va_P D vwCl (wm gI o ad fd ar lw) H → va_D A (wm gI o ad fd ar lw) → va_S A s.heap H locs → lv_has ls 3 [(0, .ref o)] → W p l e R s m args below meth c H locs cells slots Qf (F0 m 78 ls [])) :
    ∀ (n : Nat) (v2 : Int32) (ar : Nat → Nat → Int32), wp_M_placesFrom_L2 rec fd lw K78 n v2 ar → ∀ (H : Heap) (locs : List Loc) (ls : Array Slot), va_P D vwCl (wm gI o ad fd ar lw) H → va_D A (wm gI o ad fd ar lw) → va_S A s.heap H locs → lv_has ls 3 [(0, .ref o), (2, .int v2)] → W p l e R s m args below meth c H locs cells slots Qf (F0 m 17 ls []) := by
  obtain ⟨⟨hx, hb, hml, hown, hts⟩, hr, hlocks, hA, hK, hE⟩ := id F
  intro n
  induction n with
  | zero => intro v2 ar h; exact h.elim
  | succ n ih =>
    intro v2 ar h H locs ls hP hD hS hl
    unfold wp_M_placesFrom_L2 at h
    refine lv_iload_n hx hb dX3_placesFrom_17 rfl (lv_at hl 1 rfl) ?_
    refine lv_aload_n hx hb dX3_placesFrom_18 rfl (lv_at hl 0 rfl) ?_
    refine va_get hx hb hts in_X3 hown hK hP 0 rfl rfl 4 (Nat.le_of_ble_eq_true rfl) (hts _ q1222) (fun _ h => h) (v := .int (fd 4)) rfl dX3_placesFrom_19 ?_
    refine lv_icmp_ge (tgt := 78) hx hb dX3_placesFrom_22 (by decide) (fun c17 => ?_) (fun c17 => ?_)
    · replace h := h.1 c17
      exact hK78 _ h _ _ _ hP hD hS (lv_sub hl [0] rfl)
    · replace h := h.2 c17
      refine lv_aload_n hx hb dX3_placesFrom_25 rfl (lv_at hl 0 rfl) ?_
      refine va_get hx hb hts in_X3 hown hK hP 0 rfl rfl 46 (Nat.le_of_ble_eq_true rfl) (hts _ q1264) (fun _ h => h) (v := .ref (ad 46)) rfl dX3_placesFrom_26 ?_
      refine lv_iload_n hx hb dX3_placesFrom_29 rfl (lv_at hl 1 rfl) ?_
      refine lv_aload_n hx hb dX3_placesFrom_30 rfl (lv_at hl 0 rfl) ?_
      refine va_get hx hb hts in_X3 hown hK hP 0 rfl rfl 48 (Nat.le_of_ble_eq_true rfl) (hts _ q1266) (fun _ h => h) (v := .int (fd 48)) rfl dX3_placesFrom_31 ?_
      refine lv_if_ne (tgt := 46) hx hb dX3_placesFrom_34 (by decide) (fun c16 => ?_) (fun c16 => ?_)
      · replace h := h.1 c16
        refine lv_aload_n hx hb dX3_placesFrom_46 rfl (lv_at hl 0 rfl) ?_
        refine va_get hx hb hts in_X3 hown hK hP 0 rfl rfl 46 (Nat.le_of_ble_eq_true rfl) (hts _ q1264) (fun _ h => h) (v := .ref (ad 46)) rfl dX3_placesFrom_47 ?_
        refine lv_iload_n hx hb dX3_placesFrom_50 rfl (lv_at hl 1 rfl) ?_
        refine va_iald (f := (ar 46)) hx hb hK hP 28 0 rfl rfl h.1 dX3_placesFrom_51 ?_
        replace h := h.2
        refine lp_M_placesFrom_J3 F hRf hRl hC hSl hrec0 ?hk17 _ _ _ _ h _ _ _ hP hD hS (lv_sub hl [0, 1] rfl)
        case hk17 =>
          intro v2_12 ar_13 h H locs ls hP hD hS hl
          exact ih _ _ h _ _ _ hP hD hS (lv_sub hl [0, 1] rfl)
      · replace h := h.2 c16
        refine lv_aload_n hx hb dX3_placesFrom_37 rfl (lv_at hl 0 rfl) ?_
        refine va_get hx hb hts in_X3 hown hK hP 0 rfl rfl 45 (Nat.le_of_ble_eq_true rfl) (hts _ q1263) (fun _ h => h) (v := .ref (ad 45)) rfl dX3_placesFrom_38 ?_
        refine lv_iload_n hx hb dX3_placesFrom_41 rfl (lv_at hl 1 rfl) ?_
        refine va_iald (f := (ar 45)) hx hb hK hP 27 0 rfl rfl h.1 dX3_placesFrom_42 ?_
        replace h := h.2
        refine lv_goto (tgt := 52) hx hb dX3_placesFrom_43 (by decide) ?_
        refine lp_M_placesFrom_J3 F hRf hRl hC hSl hrec0 ?hk17 _ _ _ _ h _ _ _ hP hD hS (lv_sub hl [0, 1] rfl)
        case hk17 =>
          intro v2_14 ar_15 h H locs ls hP hD hS hl
          exact ih _ _ h _ _ _ hP hD hS (lv_sub hl [0, 1] rfl)
set_option maxHeartbeats 4000000 in
theorem ctg_M_placesFrom {l : Launch} {V : evT} {D : va_G} {gI : Nat → ClassId} {o : Nat} {ad : Nat → Nat} : ∀ d : Nat, (∀ {v1 : Int32} {fd : Nat → Int32} {ar : Nat → Nat → Int32} {lw : Nat → Int64} {Q : (Nat → Int32) → (Nat → Nat → Int32) → Prop}, wp_M_placesFrom d v1 fd ar lw Q → ct_v l V D vwCl (tyL gI) yX3_placesFrom cX3_placesFrom 3 { frames := 3 + d, cells := 0, slots := 0, locals := 55 + d * 22 } [.ref o, .int v1] (wm gI o ad fd ar lw) (fun u : (Nat → Int32) × (Nat → Nat → Int32) => (wm gI o ad u.1 u.2 lw)) (fun (u : (Nat → Int32) × (Nat → Nat → Int32)) => Q u.1 u.2)) := by
  intro d
  induction d with
  | zero => exact fun h => False.elim h
  | succ d ih =>
    have hrec0 := @ih
    intro v1 fd ar lw Q h
    refine ct_ofv RX3 rfl (by decide +kernel) (Nat.le_of_ble_eq_true rfl) ?_
    intro p e s m args below meth c A F _ hP hD ls hl
    obtain ⟨⟨hx, hb, hml, hown, hts⟩, hr, hlocks, hA, hK, hE⟩ := id F
    have hS : va_S A s.heap s.heap [] := va_S.rf
    have hl : lv_has ls 3 [(0, .ref o), (1, .int v1)] := hl
    have hRf : 3 + (d + 1) ≤ ({ frames := 3 + (d + 1), cells := 0, slots := 0, locals := 55 + (d + 1) * 22 } : Room).frames := Nat.le_refl _
    have hRl : 55 + (d + 1) * 22 ≤ ({ frames := 3 + (d + 1), cells := 0, slots := 0, locals := 55 + (d + 1) * 22 } : Room).locals := Nat.le_refl _
    have hC : 0 ≤ ({ frames := 3 + (d + 1), cells := 0, slots := 0, locals := 55 + (d + 1) * 22 } : Room).cells := Nat.zero_le _
    have hSl : 0 ≤ ({ frames := 3 + (d + 1), cells := 0, slots := 0, locals := 55 + (d + 1) * 22 } : Room).slots := Nat.zero_le _
    unfold wp_M_placesFrom at h
    refine lv_iload_n hx hb dX3_placesFrom_0 rfl (lv_at hl 1 rfl) ?_
    refine lv_aload_n hx hb dX3_placesFrom_1 rfl (lv_at hl 0 rfl) ?_
    refine va_get hx hb hts in_X3 hown hK hP 0 rfl rfl 4 (Nat.le_of_ble_eq_true rfl) (hts _ q1222) (fun _ h => h) (v := .int (fd 4)) rfl dX3_placesFrom_2 ?_
    refine lv_icmp_ne (tgt := 89) hx hb dX3_placesFrom_5 (by decide) (fun c20 => ?_) (fun c20 => ?_)
    · replace h := h.1 c20
      refine lv_aload_n hx hb dX3_placesFrom_89 rfl (lv_at hl 0 rfl) ?_
      refine va_get hx hb hts in_X3 hown hK hP 0 rfl rfl 45 (Nat.le_of_ble_eq_true rfl) (hts _ q1263) (fun _ h => h) (v := .ref (ad 45)) rfl dX3_placesFrom_90 ?_
      refine lv_iload_n hx hb dX3_placesFrom_93 rfl (lv_at hl 1 rfl) ?_
      refine lv_iconst (v := (-1 : Int32)) hx hb dX3_placesFrom_94 (by decide) ?_
      refine pt_iast (f := (ar 45)) hx hb hK hP hD hS 27 0 rfl rfl h.1 dX3_placesFrom_95 wmA_45 (fun H locs hP hD hS => ?_)
      replace h := h.2
      refine lv_aload_n hx hb dX3_placesFrom_96 rfl (lv_at hl 0 rfl) ?_
      refine lv_iload_n hx hb dX3_placesFrom_97 rfl (lv_at hl 1 rfl) ?_
      refine lv_iconst (v := (1 : Int32)) hx hb dX3_placesFrom_98 (by decide) ?_
      refine lv_iadd hx hb dX3_placesFrom_99 ?_
      refine cl_v F (va_runV (As := [.int (v1 + (1 : Int32))]) (rest := []) ⟨hx, hb, hml, hown, hts⟩ (hrec0 h _) (cwV 1 hts (lw_V q1802 q1804 qs90 q97 q1805) rfl rfl rfl (by decide +kernel) ⟨hRf, by have hh := hRl; show 8 + (_ + 11) + (55 + d * 22) ≤ _; omega⟩) ⟨ct_blind, va_recv hK hP (ci := 2) (q0 := 0) rfl rfl, ct_at F hS hP hD⟩ rfl rfl hl.1 rfl (lv_room (Nat.le_of_ble_eq_true rfl)) dX3_placesFrom_100 ⟨hC, hSl⟩) rfl rfl hD hS ?_
      rintro ⟨fd1, ar2⟩ H locs h hP hD hS
      refine lv_iconst (v := (0 : Int32)) hx hb dX3_placesFrom_103 (by decide) ?_
      refine lv_istore_n (lv' := [(2, .int (0 : Int32)), (0, .ref o), (1, .int v1)]) hx hb dX3_placesFrom_104 rfl hl (by decide) rfl (fun ls hl => ?_)
      obtain ⟨k105, h⟩ := h
      refine lp_M_placesFrom_L1 F hRf hRl hC hSl hrec0 ?hk196 k105 _ _ _ h _ _ _ hP hD hS (lv_sub hl [1, 2, 0] rfl)
      case hk196 =>
        intro fd_9 ar_10 h H locs ls hP hD hS hl
        exact rt_v F dX3_placesFrom_196 (fd_9, ar_10) h hP hD hS (Nat.le_refl _) (Nat.le_refl _)
    · replace h := h.2 c20
      refine lv_aload_n hx hb dX3_placesFrom_8 rfl (lv_at hl 0 rfl) ?_
      refine cl_i F (va_runV (As := []) (rest := []) ⟨hx, hb, hml, hown, hts⟩ (ct_M_isAsSeen h _) (cwV 0 hts (lw_V q1806 q1808 qs91 q97 q1809) rfl rfl rfl (by decide +kernel) ⟨Nat.le_trans (Nat.le_of_ble_eq_true rfl) (Nat.le_trans (Nat.le_add_right 3 _) hRf), Nat.le_trans (Nat.le_of_ble_eq_true rfl) (Nat.le_trans (Nat.le_add_right 55 _) hRl)⟩) ⟨ct_blind, va_recv hK hP (ci := 2) (q0 := 0) rfl rfl, ct_at F hS hP hD⟩ rfl rfl hl.1 rfl (lv_room (Nat.le_of_ble_eq_true rfl)) dX3_placesFrom_9 ⟨hC, hSl⟩) rfl rfl hD hS ?_
      rintro x11 _ H locs h hP hD hS
      refine lv_if_eq (tgt := 88) hx hb dX3_placesFrom_12 (by decide) (fun c19 => ?_) (fun c19 => ?_)
      · replace h := h.1 c19
        exact rt_v F dX3_placesFrom_88 (fd, ar) h hP hD hS (Nat.le_refl _) (Nat.le_refl _)
      · replace h := h.2 c19
        refine lv_iconst (v := (0 : Int32)) hx hb dX3_placesFrom_15 (by decide) ?_
        refine lv_istore_n (lv' := [(2, .int (0 : Int32)), (0, .ref o), (1, .int v1)]) hx hb dX3_placesFrom_16 rfl hl (by decide) rfl (fun ls hl => ?_)
        obtain ⟨k17, h⟩ := h
        refine lp_M_placesFrom_L2 F hRf hRl hC hSl hrec0 ?hk78 k17 _ _ h _ _ _ hP hD hS (lv_sub hl [1, 0] rfl)
        case hk78 =>
          intro ar_18 h H locs ls hP hD hS hl
          refine lv_aload_n hx hb dX3_placesFrom_78 rfl (lv_at hl 0 rfl) ?_
          refine lv_dup hx hb dX3_placesFrom_79 rfl ?_
          refine va_get hx hb hts in_X3 hown hK hP 0 rfl rfl 48 (Nat.le_of_ble_eq_true rfl) (hts _ q1266) (fun _ h => h) (v := .int (fd 48)) rfl dX3_placesFrom_80 ?_
          refine lv_iconst (v := (1 : Int32)) hx hb dX3_placesFrom_83 (by decide) ?_
          refine lv_iadd hx hb dX3_placesFrom_84 ?_
          refine pt_put (v := .int ((fd 48) + (1 : Int32))) hx hb hts in_X3 tyX3 tyX3_ok nmX3 hown hK hP hD hS 0 rfl rfl 48 (Nat.le_of_ble_eq_true rfl) (hts _ q1266) (fun _ h => h) rfl (ty := .int) (by decide +kernel) rfl rfl (Nat.le_of_ble_eq_true rfl) dX3_placesFrom_85 wmF_48 (fun H locs hP hD hS => ?_)
          exact rt_v F dX3_placesFrom_88 ((upd fd 48 ((fd 48) + (1 : Int32))), ar_18) h hP hD hS (Nat.le_refl _) (Nat.le_refl _)
theorem ct_M_placesFrom {l : Launch} {V : evT} {D : va_G} {gI : Nat → ClassId} {o : Nat} {ad : Nat → Nat} : ∀ {v1 : Int32} {fd : Nat → Int32} {ar : Nat → Nat → Int32} {lw : Nat → Int64} {Q : (Nat → Int32) → (Nat → Nat → Int32) → Prop}, wp_M_placesFrom 10 v1 fd ar lw Q → ct_v l V D vwCl (tyL gI) yX3_placesFrom cX3_placesFrom 3 { frames := 13, cells := 0, slots := 0, locals := 275 } [.ref o, .int v1] (wm gI o ad fd ar lw) (fun u : (Nat → Int32) × (Nat → Nat → Int32) => (wm gI o ad u.1 u.2 lw)) (fun (u : (Nat → Int32) × (Nat → Nat → Int32)) => Q u.1 u.2) := fun h => (ctg_M_placesFrom 10) h
set_option maxHeartbeats 4000000 in
theorem lp_M_readsRank_L1 {p : Program} {l : Launch} {e : Env} {R : Room} {s : State} {m : MethodId} {args : Array Value} {below : List Frame} {meth : Method} {c : Code} {cells slots : Nat} {A : Nat → Prop} {Qf : State → Prop} {V : evT} {D : va_G} {gI : Nat → ClassId} {o : Nat} {ad : Nat → Nat} {v1 : Int32} {lw : Nat → Int64} {d : Nat} {rec : Nat → Int32 → (Nat → Int32) → (Nat → Nat → Int32) → (Nat → Int64) → (Int32 → (Nat → Int32) → (Nat → Nat → Int32) → Prop) → Prop} {K113 : (Nat → Int32) → (Nat → Nat → Int32) → Prop} {K58 : (Nat → Int32) → (Nat → Nat → Int32) → Prop} {K70 : (Nat → Int32) → (Nat → Nat → Int32) → Prop} (F : ct_F p m c meth cX3_readsRank 4 s args RX3 (some .boolean) A V D vwCl (tyL gI)) (hRf : 7 + (d + 1) ≤ R.frames) (hRl : 141 + (d + 1) * 23 ≤ R.locals) (hC : cells ≤ R.cells) (hSl : slots ≤ R.slots)
    (hrec0 : ∀ {fd : Nat → Int32} {ar : Nat → Nat → Int32} {lw : Nat → Int64} {Q : Int32 → (Nat → Int32) → (Nat → Nat → Int32) → Prop}, rec 0 0 fd ar lw Q → ct_i l V D vwCl (tyL gI) yX3_readsThing cX3_readsThing 2 .boolean { frames := 7 + d, cells := 0, slots := 0, locals := 141 + d * 23 } [.ref o] (wm gI o ad fd ar lw) (fun u : (Nat → Int32) × (Nat → Nat → Int32) => (wm gI o ad u.1 u.2 lw)) (fun (x : Int32) (u : (Nat → Int32) × (Nat → Nat → Int32)) => Q x u.1 u.2))
    (hrec1 : ∀ {v1 : Int32} {fd : Nat → Int32} {ar : Nat → Nat → Int32} {lw : Nat → Int64} {Q : Int32 → (Nat → Int32) → (Nat → Nat → Int32) → Prop}, rec 1 v1 fd ar lw Q → ct_i l V D vwCl (tyL gI) yX3_readsRank cX3_readsRank 4 .boolean { frames := 7 + d, cells := 0, slots := 0, locals := 141 + d * 23 } [.ref o, .int v1] (wm gI o ad fd ar lw) (fun u : (Nat → Int32) × (Nat → Nat → Int32) => (wm gI o ad u.1 u.2 lw)) (fun (x : Int32) (u : (Nat → Int32) × (Nat → Nat → Int32)) => Q x u.1 u.2))
    (hK113 : ∀ (fd : Nat → Int32) (ar : Nat → Nat → Int32), K113 fd ar → ∀ (H : Heap) (locs : List Loc) (ls : Array Slot), va_P D vwCl (wm gI o ad fd ar lw) H → va_D A (wm gI o ad fd ar lw) → va_S A s.heap H locs → lv_has ls 4 [] → W p l e R s m args below meth c H locs cells slots Qf (F0 m 113 ls []))
    (hK58 : ∀ (fd : Nat → Int32) (ar : Nat → Nat → Int32), K58 fd ar → ∀ (H : Heap) (locs : List Loc) (ls : Array Slot), va_P D vwCl (wm gI o ad fd ar lw) H → va_D A (wm gI o ad fd ar lw) → va_S A s.heap H locs → lv_has ls 4 [] → W p l e R s m args below meth c H locs cells slots Qf (F0 m 58 ls []))
    (hK70 : ∀ (fd : Nat → Int32) (ar : Nat → Nat → Int32), K70 fd ar → ∀ (H : Heap) (locs : List Loc) (ls : Array Slot), va_P D vwCl (wm gI o ad fd ar lw) H → va_D A (wm gI o ad fd ar lw) → va_S A s.heap H locs → lv_has ls 4 [] → W p l e R s m args below meth c H locs cells slots Qf (F0 m 70 ls [])) :
    ∀ (n : Nat) (v2 : Int32) (fd : Nat → Int32) (ar : Nat → Nat → Int32), wp_M_readsRank_L1 rec v1 lw K113 K58 K70 n v2 fd ar → ∀ (H : Heap) (locs : List Loc) (ls : Array Slot), va_P D vwCl (wm gI o ad fd ar lw) H → va_D A (wm gI o ad fd ar lw) → va_S A s.heap H locs → lv_has ls 4 [(0, .ref o), (1, .int v1), (2, .int v2)] → W p l e R s m args below meth c H locs cells slots Qf (F0 m 24 ls []) := by
  obtain ⟨⟨hx, hb, hml, hown, hts⟩, hr, hlocks, hA, hK, hE⟩ := id F
  intro n
  induction n with
  | zero => intro v2 fd ar h; exact h.elim
  | succ n ih =>
    intro v2 fd ar h H locs ls hP hD hS hl
    unfold wp_M_readsRank_L1 at h
    refine lv_iload_n hx hb dX3_readsRank_24 rfl (lv_at hl 2 rfl) ?_
    refine lv_if_eq (tgt := 113) hx hb dX3_readsRank_25 (by decide) (fun c60 => ?_) (fun c60 => ?_)
    · replace h := h.1 c60
      exact hK113 _ _ h _ _ _ hP hD hS (lv_sub hl [] rfl)
    · replace h := h.2 c60
      refine lv_aload_n hx hb dX3_readsRank_28 rfl (lv_at hl 0 rfl) ?_
      refine lv_iload_n hx hb dX3_readsRank_29 rfl (lv_at hl 1 rfl) ?_
      refine lv_if_ne (tgt := 38) hx hb dX3_readsRank_30 (by decide) (fun c59 => ?_) (fun c59 => ?_)
      · replace h := h.1 c59
        refine lv_iload_n hx hb dX3_readsRank_38 rfl (lv_at hl 1 rfl) ?_
        refine lv_iconst (v := (1 : Int32)) hx hb dX3_readsRank_39 (by decide) ?_
        refine lv_icmp_ne (tgt := 48) hx hb dX3_readsRank_40 (by decide) (fun c40 => ?_) (fun c40 => ?_)
        · replace h := h.1 c40
          refine va_ldcS hx hb hown (hE.2.2.1 3 _ rfl).1 dX3_readsRank_48 ?_
          refine cl_i F (va_runV (As := [.ref (V.1 3)]) (rest := []) ⟨hx, hb, hml, hown, hts⟩ (ct_M_takesOf_i3 h _) (cwV 1 hts (lw_V q1461 q1463 qs48 q97 q1464) rfl rfl rfl (by decide +kernel) ⟨Nat.le_trans (Nat.le_of_ble_eq_true rfl) (Nat.le_trans (Nat.le_add_right 7 _) hRf), Nat.le_trans (Nat.le_of_ble_eq_true rfl) (Nat.le_trans (Nat.le_add_right 141 _) hRl)⟩) ⟨ct_blind, va_recv hK hP (ci := 2) (q0 := 0) rfl rfl, ct_at F hS hP hD⟩ rfl rfl hl.1 rfl (lv_room (Nat.le_of_ble_eq_true rfl)) dX3_readsRank_50 ⟨hC, hSl⟩) rfl rfl hD hS ?_
          rintro x4 fd5 H locs h hP hD hS
          refine lv_istore_n (lv' := [(3, .int x4), (0, .ref o), (1, .int v1), (2, .int v2)]) hx hb dX3_readsRank_53 rfl hl (by decide) rfl (fun ls hl => ?_)
          refine lv_iload_n hx hb dX3_readsRank_54 rfl (lv_at hl 0 rfl) ?_
          refine lv_if_ge (tgt := 60) hx hb dX3_readsRank_55 (by decide) (fun c21 => ?_) (fun c21 => ?_)
          · replace h := h.1 c21
            refine lv_aload_n hx hb dX3_readsRank_60 rfl (lv_at hl 1 rfl) ?_
            refine lv_iload_n hx hb dX3_readsRank_61 rfl (lv_at hl 2 rfl) ?_
            refine lv_iconst (v := (1 : Int32)) hx hb dX3_readsRank_62 (by decide) ?_
            refine lv_iadd hx hb dX3_readsRank_63 ?_
            refine cl_i F (va_runV (As := [.int (v1 + (1 : Int32))]) (rest := []) ⟨hx, hb, hml, hown, hts⟩ (hrec1 h _) (cwV 1 hts (lw_V q1448 q1450 qs45 q97 q1451) rfl rfl rfl (by decide +kernel) ⟨hRf, by have hh := hRl; show 8 + (_ + 11) + (141 + d * 23) ≤ _; omega⟩) ⟨ct_blind, va_recv hK hP (ci := 2) (q0 := 0) rfl rfl, ct_at F hS hP hD⟩ rfl rfl hl.1 rfl (lv_room (Nat.le_of_ble_eq_true rfl)) dX3_readsRank_64 ⟨hC, hSl⟩) rfl rfl hD hS ?_
            rintro x6 ⟨fd7, ar8⟩ H locs h hP hD hS
            refine lv_if_ne (tgt := 72) hx hb dX3_readsRank_67 (by decide) (fun c20 => ?_) (fun c20 => ?_)
            · replace h := h.1 c20
              refine lv_aload_n hx hb dX3_readsRank_72 rfl (lv_at hl 1 rfl) ?_
              refine lv_sipush (v := (2000 : Int32)) hx hb dX3_readsRank_73 (by decide) ?_
              refine lv_iload_n hx hb dX3_readsRank_76 rfl (lv_at hl 0 rfl) ?_
              refine lv_iadd hx hb dX3_readsRank_77 ?_
              refine lv_iload_n hx hb dX3_readsRank_78 rfl (lv_at hl 2 rfl) ?_
              refine lv_if_ne (tgt := 86) hx hb dX3_readsRank_79 (by decide) (fun c19 => ?_) (fun c19 => ?_)
              · replace h := h.1 c19
                refine lv_iload_n hx hb dX3_readsRank_86 rfl (lv_at hl 2 rfl) ?_
                refine lv_iconst (v := (1 : Int32)) hx hb dX3_readsRank_87 (by decide) ?_
                refine lv_icmp_ne (tgt := 95) hx hb dX3_readsRank_88 (by decide) (fun c15 => ?_) (fun c15 => ?_)
                · replace h := h.1 c15
                  refine lv_iconst (v := (5 : Int32)) hx hb dX3_readsRank_95 (by decide) ?_
                  refine lv_iadd hx hb dX3_readsRank_96 ?_
                  refine cl_v F (va_runV (As := [.int (((2000 : Int32) + x4) + (5 : Int32))]) (rest := []) ⟨hx, hb, hml, hown, hts⟩ (ct_M_codes h _) (cwV 1 hts (lw_V q1456 q1458 qs47 q97 q1459) rfl rfl rfl (by decide +kernel) ⟨Nat.le_trans (Nat.le_of_ble_eq_true rfl) (Nat.le_trans (Nat.le_add_right 7 _) hRf), Nat.le_trans (Nat.le_of_ble_eq_true rfl) (Nat.le_trans (Nat.le_add_right 141 _) hRl)⟩) ⟨ct_blind, va_recv hK hP (ci := 2) (q0 := 0) rfl rfl, ct_at F hS hP hD⟩ rfl rfl hl.1 rfl (lv_room (Nat.le_of_ble_eq_true rfl)) dX3_readsRank_97 ⟨hC, hSl⟩) rfl rfl hD hS ?_
                  rintro ⟨fd9, ar10⟩ H locs h hP hD hS
                  refine lv_iload_n hx hb dX3_readsRank_100 rfl (lv_at hl 2 rfl) ?_
                  refine lv_if_le (tgt := 108) hx hb dX3_readsRank_101 (by decide) (fun c11 => ?_) (fun c11 => ?_)
                  · replace h := h.1 c11
                    refine lv_iconst (v := (0 : Int32)) hx hb dX3_readsRank_108 (by decide) ?_
                    refine lv_istore_n (lv' := [(2, .int (0 : Int32)), (3, .int x4), (0, .ref o), (1, .int v1)]) hx hb dX3_readsRank_109 rfl hl (by decide) rfl (fun ls hl => ?_)
                    refine lv_goto (tgt := 24) hx hb dX3_readsRank_110 (by decide) ?_
                    exact ih _ _ _ h _ _ _ hP hD hS (lv_sub hl [2, 3, 0] rfl)
                  · replace h := h.2 c11
                    refine lv_iconst (v := (1 : Int32)) hx hb dX3_readsRank_104 (by decide) ?_
                    refine lv_goto (tgt := 109) hx hb dX3_readsRank_105 (by decide) ?_
                    refine lv_istore_n (lv' := [(2, .int (1 : Int32)), (3, .int x4), (0, .ref o), (1, .int v1)]) hx hb dX3_readsRank_109 rfl hl (by decide) rfl (fun ls hl => ?_)
                    refine lv_goto (tgt := 24) hx hb dX3_readsRank_110 (by decide) ?_
                    exact ih _ _ _ h _ _ _ hP hD hS (lv_sub hl [2, 3, 0] rfl)
                · replace h := h.2 c15
                  refine lv_iconst (v := (3 : Int32)) hx hb dX3_readsRank_91 (by decide) ?_
                  refine lv_goto (tgt := 96) hx hb dX3_readsRank_92 (by decide) ?_
                  refine lv_iadd hx hb dX3_readsRank_96 ?_
                  refine cl_v F (va_runV (As := [.int (((2000 : Int32) + x4) + (3 : Int32))]) (rest := []) ⟨hx, hb, hml, hown, hts⟩ (ct_M_codes h _) (cwV 1 hts (lw_V q1456 q1458 qs47 q97 q1459) rfl rfl rfl (by decide +kernel) ⟨Nat.le_trans (Nat.le_of_ble_eq_true rfl) (Nat.le_trans (Nat.le_add_right 7 _) hRf), Nat.le_trans (Nat.le_of_ble_eq_true rfl) (Nat.le_trans (Nat.le_add_right 141 _) hRl)⟩) ⟨ct_blind, va_recv hK hP (ci := 2) (q0 := 0) rfl rfl, ct_at F hS hP hD⟩ rfl rfl hl.1 rfl (lv_room (Nat.le_of_ble_eq_true rfl)) dX3_readsRank_97 ⟨hC, hSl⟩) rfl rfl hD hS ?_
                  rintro ⟨fd12, ar13⟩ H locs h hP hD hS
                  refine lv_iload_n hx hb dX3_readsRank_100 rfl (lv_at hl 2 rfl) ?_
                  refine lv_if_le (tgt := 108) hx hb dX3_readsRank_101 (by decide) (fun c14 => ?_) (fun c14 => ?_)
                  · replace h := h.1 c14
                    refine lv_iconst (v := (0 : Int32)) hx hb dX3_readsRank_108 (by decide) ?_
                    refine lv_istore_n (lv' := [(2, .int (0 : Int32)), (3, .int x4), (0, .ref o), (1, .int v1)]) hx hb dX3_readsRank_109 rfl hl (by decide) rfl (fun ls hl => ?_)
                    refine lv_goto (tgt := 24) hx hb dX3_readsRank_110 (by decide) ?_
                    exact ih _ _ _ h _ _ _ hP hD hS (lv_sub hl [2, 3, 0] rfl)
                  · replace h := h.2 c14
                    refine lv_iconst (v := (1 : Int32)) hx hb dX3_readsRank_104 (by decide) ?_
                    refine lv_goto (tgt := 109) hx hb dX3_readsRank_105 (by decide) ?_
                    refine lv_istore_n (lv' := [(2, .int (1 : Int32)), (3, .int x4), (0, .ref o), (1, .int v1)]) hx hb dX3_readsRank_109 rfl hl (by decide) rfl (fun ls hl => ?_)
                    refine lv_goto (tgt := 24) hx hb dX3_readsRank_110 (by decide) ?_
                    exact ih _ _ _ h _ _ _ hP hD hS (lv_sub hl [2, 3, 0] rfl)
              · replace h := h.2 c19
                refine lv_iconst (v := (0 : Int32)) hx hb dX3_readsRank_82 (by decide) ?_
                refine lv_goto (tgt := 96) hx hb dX3_readsRank_83 (by decide) ?_
                refine lv_iadd hx hb dX3_readsRank_96 ?_
                refine cl_v F (va_runV (As := [.int (((2000 : Int32) + x4) + (0 : Int32))]) (rest := []) ⟨hx, hb, hml, hown, hts⟩ (ct_M_codes h _) (cwV 1 hts (lw_V q1456 q1458 qs47 q97 q1459) rfl rfl rfl (by decide +kernel) ⟨Nat.le_trans (Nat.le_of_ble_eq_true rfl) (Nat.le_trans (Nat.le_add_right 7 _) hRf), Nat.le_trans (Nat.le_of_ble_eq_true rfl) (Nat.le_trans (Nat.le_add_right 141 _) hRl)⟩) ⟨ct_blind, va_recv hK hP (ci := 2) (q0 := 0) rfl rfl, ct_at F hS hP hD⟩ rfl rfl hl.1 rfl (lv_room (Nat.le_of_ble_eq_true rfl)) dX3_readsRank_97 ⟨hC, hSl⟩) rfl rfl hD hS ?_
                rintro ⟨fd16, ar17⟩ H locs h hP hD hS
                refine lv_iload_n hx hb dX3_readsRank_100 rfl (lv_at hl 2 rfl) ?_
                refine lv_if_le (tgt := 108) hx hb dX3_readsRank_101 (by decide) (fun c18 => ?_) (fun c18 => ?_)
                · replace h := h.1 c18
                  refine lv_iconst (v := (0 : Int32)) hx hb dX3_readsRank_108 (by decide) ?_
                  refine lv_istore_n (lv' := [(2, .int (0 : Int32)), (3, .int x4), (0, .ref o), (1, .int v1)]) hx hb dX3_readsRank_109 rfl hl (by decide) rfl (fun ls hl => ?_)
                  refine lv_goto (tgt := 24) hx hb dX3_readsRank_110 (by decide) ?_
                  exact ih _ _ _ h _ _ _ hP hD hS (lv_sub hl [2, 3, 0] rfl)
                · replace h := h.2 c18
                  refine lv_iconst (v := (1 : Int32)) hx hb dX3_readsRank_104 (by decide) ?_
                  refine lv_goto (tgt := 109) hx hb dX3_readsRank_105 (by decide) ?_
                  refine lv_istore_n (lv' := [(2, .int (1 : Int32)), (3, .int x4), (0, .ref o), (1, .int v1)]) hx hb dX3_readsRank_109 rfl hl (by decide) rfl (fun ls hl => ?_)
                  refine lv_goto (tgt := 24) hx hb dX3_readsRank_110 (by decide) ?_
                  exact ih _ _ _ h _ _ _ hP hD hS (lv_sub hl [2, 3, 0] rfl)
            · replace h := h.2 c20
              exact hK70 _ _ h _ _ _ hP hD hS (lv_sub hl [] rfl)
          · replace h := h.2 c21
            exact hK58 _ _ h _ _ _ hP hD hS (lv_sub hl [] rfl)
        · replace h := h.2 c40
          refine va_ldcS hx hb hown (hE.2.2.1 2 _ rfl).1 dX3_readsRank_43 ?_
          refine lv_goto (tgt := 50) hx hb dX3_readsRank_45 (by decide) ?_
          refine cl_i F (va_runV (As := [.ref (V.1 2)]) (rest := []) ⟨hx, hb, hml, hown, hts⟩ (ct_M_takesOf_i2 h _) (cwV 1 hts (lw_V q1461 q1463 qs48 q97 q1464) rfl rfl rfl (by decide +kernel) ⟨Nat.le_trans (Nat.le_of_ble_eq_true rfl) (Nat.le_trans (Nat.le_add_right 7 _) hRf), Nat.le_trans (Nat.le_of_ble_eq_true rfl) (Nat.le_trans (Nat.le_add_right 141 _) hRl)⟩) ⟨ct_blind, va_recv hK hP (ci := 2) (q0 := 0) rfl rfl, ct_at F hS hP hD⟩ rfl rfl hl.1 rfl (lv_room (Nat.le_of_ble_eq_true rfl)) dX3_readsRank_50 ⟨hC, hSl⟩) rfl rfl hD hS ?_
          rintro x22 fd23 H locs h hP hD hS
          refine lv_istore_n (lv' := [(3, .int x22), (0, .ref o), (1, .int v1), (2, .int v2)]) hx hb dX3_readsRank_53 rfl hl (by decide) rfl (fun ls hl => ?_)
          refine lv_iload_n hx hb dX3_readsRank_54 rfl (lv_at hl 0 rfl) ?_
          refine lv_if_ge (tgt := 60) hx hb dX3_readsRank_55 (by decide) (fun c39 => ?_) (fun c39 => ?_)
          · replace h := h.1 c39
            refine lv_aload_n hx hb dX3_readsRank_60 rfl (lv_at hl 1 rfl) ?_
            refine lv_iload_n hx hb dX3_readsRank_61 rfl (lv_at hl 2 rfl) ?_
            refine lv_iconst (v := (1 : Int32)) hx hb dX3_readsRank_62 (by decide) ?_
            refine lv_iadd hx hb dX3_readsRank_63 ?_
            refine cl_i F (va_runV (As := [.int (v1 + (1 : Int32))]) (rest := []) ⟨hx, hb, hml, hown, hts⟩ (hrec1 h _) (cwV 1 hts (lw_V q1448 q1450 qs45 q97 q1451) rfl rfl rfl (by decide +kernel) ⟨hRf, by have hh := hRl; show 8 + (_ + 11) + (141 + d * 23) ≤ _; omega⟩) ⟨ct_blind, va_recv hK hP (ci := 2) (q0 := 0) rfl rfl, ct_at F hS hP hD⟩ rfl rfl hl.1 rfl (lv_room (Nat.le_of_ble_eq_true rfl)) dX3_readsRank_64 ⟨hC, hSl⟩) rfl rfl hD hS ?_
            rintro x24 ⟨fd25, ar26⟩ H locs h hP hD hS
            refine lv_if_ne (tgt := 72) hx hb dX3_readsRank_67 (by decide) (fun c38 => ?_) (fun c38 => ?_)
            · replace h := h.1 c38
              refine lv_aload_n hx hb dX3_readsRank_72 rfl (lv_at hl 1 rfl) ?_
              refine lv_sipush (v := (2000 : Int32)) hx hb dX3_readsRank_73 (by decide) ?_
              refine lv_iload_n hx hb dX3_readsRank_76 rfl (lv_at hl 0 rfl) ?_
              refine lv_iadd hx hb dX3_readsRank_77 ?_
              refine lv_iload_n hx hb dX3_readsRank_78 rfl (lv_at hl 2 rfl) ?_
              refine lv_if_ne (tgt := 86) hx hb dX3_readsRank_79 (by decide) (fun c37 => ?_) (fun c37 => ?_)
              · replace h := h.1 c37
                refine lv_iload_n hx hb dX3_readsRank_86 rfl (lv_at hl 2 rfl) ?_
                refine lv_iconst (v := (1 : Int32)) hx hb dX3_readsRank_87 (by decide) ?_
                refine lv_icmp_ne (tgt := 95) hx hb dX3_readsRank_88 (by decide) (fun c33 => ?_) (fun c33 => ?_)
                · replace h := h.1 c33
                  refine lv_iconst (v := (5 : Int32)) hx hb dX3_readsRank_95 (by decide) ?_
                  refine lv_iadd hx hb dX3_readsRank_96 ?_
                  refine cl_v F (va_runV (As := [.int (((2000 : Int32) + x22) + (5 : Int32))]) (rest := []) ⟨hx, hb, hml, hown, hts⟩ (ct_M_codes h _) (cwV 1 hts (lw_V q1456 q1458 qs47 q97 q1459) rfl rfl rfl (by decide +kernel) ⟨Nat.le_trans (Nat.le_of_ble_eq_true rfl) (Nat.le_trans (Nat.le_add_right 7 _) hRf), Nat.le_trans (Nat.le_of_ble_eq_true rfl) (Nat.le_trans (Nat.le_add_right 141 _) hRl)⟩) ⟨ct_blind, va_recv hK hP (ci := 2) (q0 := 0) rfl rfl, ct_at F hS hP hD⟩ rfl rfl hl.1 rfl (lv_room (Nat.le_of_ble_eq_true rfl)) dX3_readsRank_97 ⟨hC, hSl⟩) rfl rfl hD hS ?_
                  rintro ⟨fd27, ar28⟩ H locs h hP hD hS
                  refine lv_iload_n hx hb dX3_readsRank_100 rfl (lv_at hl 2 rfl) ?_
                  refine lv_if_le (tgt := 108) hx hb dX3_readsRank_101 (by decide) (fun c29 => ?_) (fun c29 => ?_)
                  · replace h := h.1 c29
                    refine lv_iconst (v := (0 : Int32)) hx hb dX3_readsRank_108 (by decide) ?_
                    refine lv_istore_n (lv' := [(2, .int (0 : Int32)), (3, .int x22), (0, .ref o), (1, .int v1)]) hx hb dX3_readsRank_109 rfl hl (by decide) rfl (fun ls hl => ?_)
                    refine lv_goto (tgt := 24) hx hb dX3_readsRank_110 (by decide) ?_
                    exact ih _ _ _ h _ _ _ hP hD hS (lv_sub hl [2, 3, 0] rfl)
                  · replace h := h.2 c29
                    refine lv_iconst (v := (1 : Int32)) hx hb dX3_readsRank_104 (by decide) ?_
                    refine lv_goto (tgt := 109) hx hb dX3_readsRank_105 (by decide) ?_
                    refine lv_istore_n (lv' := [(2, .int (1 : Int32)), (3, .int x22), (0, .ref o), (1, .int v1)]) hx hb dX3_readsRank_109 rfl hl (by decide) rfl (fun ls hl => ?_)
                    refine lv_goto (tgt := 24) hx hb dX3_readsRank_110 (by decide) ?_
                    exact ih _ _ _ h _ _ _ hP hD hS (lv_sub hl [2, 3, 0] rfl)
                · replace h := h.2 c33
                  refine lv_iconst (v := (3 : Int32)) hx hb dX3_readsRank_91 (by decide) ?_
                  refine lv_goto (tgt := 96) hx hb dX3_readsRank_92 (by decide) ?_
                  refine lv_iadd hx hb dX3_readsRank_96 ?_
                  refine cl_v F (va_runV (As := [.int (((2000 : Int32) + x22) + (3 : Int32))]) (rest := []) ⟨hx, hb, hml, hown, hts⟩ (ct_M_codes h _) (cwV 1 hts (lw_V q1456 q1458 qs47 q97 q1459) rfl rfl rfl (by decide +kernel) ⟨Nat.le_trans (Nat.le_of_ble_eq_true rfl) (Nat.le_trans (Nat.le_add_right 7 _) hRf), Nat.le_trans (Nat.le_of_ble_eq_true rfl) (Nat.le_trans (Nat.le_add_right 141 _) hRl)⟩) ⟨ct_blind, va_recv hK hP (ci := 2) (q0 := 0) rfl rfl, ct_at F hS hP hD⟩ rfl rfl hl.1 rfl (lv_room (Nat.le_of_ble_eq_true rfl)) dX3_readsRank_97 ⟨hC, hSl⟩) rfl rfl hD hS ?_
                  rintro ⟨fd30, ar31⟩ H locs h hP hD hS
                  refine lv_iload_n hx hb dX3_readsRank_100 rfl (lv_at hl 2 rfl) ?_
                  refine lv_if_le (tgt := 108) hx hb dX3_readsRank_101 (by decide) (fun c32 => ?_) (fun c32 => ?_)
                  · replace h := h.1 c32
                    refine lv_iconst (v := (0 : Int32)) hx hb dX3_readsRank_108 (by decide) ?_
                    refine lv_istore_n (lv' := [(2, .int (0 : Int32)), (3, .int x22), (0, .ref o), (1, .int v1)]) hx hb dX3_readsRank_109 rfl hl (by decide) rfl (fun ls hl => ?_)
                    refine lv_goto (tgt := 24) hx hb dX3_readsRank_110 (by decide) ?_
                    exact ih _ _ _ h _ _ _ hP hD hS (lv_sub hl [2, 3, 0] rfl)
                  · replace h := h.2 c32
                    refine lv_iconst (v := (1 : Int32)) hx hb dX3_readsRank_104 (by decide) ?_
                    refine lv_goto (tgt := 109) hx hb dX3_readsRank_105 (by decide) ?_
                    refine lv_istore_n (lv' := [(2, .int (1 : Int32)), (3, .int x22), (0, .ref o), (1, .int v1)]) hx hb dX3_readsRank_109 rfl hl (by decide) rfl (fun ls hl => ?_)
                    refine lv_goto (tgt := 24) hx hb dX3_readsRank_110 (by decide) ?_
                    exact ih _ _ _ h _ _ _ hP hD hS (lv_sub hl [2, 3, 0] rfl)
              · replace h := h.2 c37
                refine lv_iconst (v := (0 : Int32)) hx hb dX3_readsRank_82 (by decide) ?_
                refine lv_goto (tgt := 96) hx hb dX3_readsRank_83 (by decide) ?_
                refine lv_iadd hx hb dX3_readsRank_96 ?_
                refine cl_v F (va_runV (As := [.int (((2000 : Int32) + x22) + (0 : Int32))]) (rest := []) ⟨hx, hb, hml, hown, hts⟩ (ct_M_codes h _) (cwV 1 hts (lw_V q1456 q1458 qs47 q97 q1459) rfl rfl rfl (by decide +kernel) ⟨Nat.le_trans (Nat.le_of_ble_eq_true rfl) (Nat.le_trans (Nat.le_add_right 7 _) hRf), Nat.le_trans (Nat.le_of_ble_eq_true rfl) (Nat.le_trans (Nat.le_add_right 141 _) hRl)⟩) ⟨ct_blind, va_recv hK hP (ci := 2) (q0 := 0) rfl rfl, ct_at F hS hP hD⟩ rfl rfl hl.1 rfl (lv_room (Nat.le_of_ble_eq_true rfl)) dX3_readsRank_97 ⟨hC, hSl⟩) rfl rfl hD hS ?_
                rintro ⟨fd34, ar35⟩ H locs h hP hD hS
                refine lv_iload_n hx hb dX3_readsRank_100 rfl (lv_at hl 2 rfl) ?_
                refine lv_if_le (tgt := 108) hx hb dX3_readsRank_101 (by decide) (fun c36 => ?_) (fun c36 => ?_)
                · replace h := h.1 c36
                  refine lv_iconst (v := (0 : Int32)) hx hb dX3_readsRank_108 (by decide) ?_
                  refine lv_istore_n (lv' := [(2, .int (0 : Int32)), (3, .int x22), (0, .ref o), (1, .int v1)]) hx hb dX3_readsRank_109 rfl hl (by decide) rfl (fun ls hl => ?_)
                  refine lv_goto (tgt := 24) hx hb dX3_readsRank_110 (by decide) ?_
                  exact ih _ _ _ h _ _ _ hP hD hS (lv_sub hl [2, 3, 0] rfl)
                · replace h := h.2 c36
                  refine lv_iconst (v := (1 : Int32)) hx hb dX3_readsRank_104 (by decide) ?_
                  refine lv_goto (tgt := 109) hx hb dX3_readsRank_105 (by decide) ?_
                  refine lv_istore_n (lv' := [(2, .int (1 : Int32)), (3, .int x22), (0, .ref o), (1, .int v1)]) hx hb dX3_readsRank_109 rfl hl (by decide) rfl (fun ls hl => ?_)
                  refine lv_goto (tgt := 24) hx hb dX3_readsRank_110 (by decide) ?_
                  exact ih _ _ _ h _ _ _ hP hD hS (lv_sub hl [2, 3, 0] rfl)
            · replace h := h.2 c38
              exact hK70 _ _ h _ _ _ hP hD hS (lv_sub hl [] rfl)
          · replace h := h.2 c39
            exact hK58 _ _ h _ _ _ hP hD hS (lv_sub hl [] rfl)
      · replace h := h.2 c59
        refine va_ldcS hx hb hown (hE.2.2.1 1 _ rfl).1 dX3_readsRank_33 ?_
        refine lv_goto (tgt := 50) hx hb dX3_readsRank_35 (by decide) ?_
        refine cl_i F (va_runV (As := [.ref (V.1 1)]) (rest := []) ⟨hx, hb, hml, hown, hts⟩ (ct_M_takesOf_i1 h _) (cwV 1 hts (lw_V q1461 q1463 qs48 q97 q1464) rfl rfl rfl (by decide +kernel) ⟨Nat.le_trans (Nat.le_of_ble_eq_true rfl) (Nat.le_trans (Nat.le_add_right 7 _) hRf), Nat.le_trans (Nat.le_of_ble_eq_true rfl) (Nat.le_trans (Nat.le_add_right 141 _) hRl)⟩) ⟨ct_blind, va_recv hK hP (ci := 2) (q0 := 0) rfl rfl, ct_at F hS hP hD⟩ rfl rfl hl.1 rfl (lv_room (Nat.le_of_ble_eq_true rfl)) dX3_readsRank_50 ⟨hC, hSl⟩) rfl rfl hD hS ?_
        rintro x41 fd42 H locs h hP hD hS
        refine lv_istore_n (lv' := [(3, .int x41), (0, .ref o), (1, .int v1), (2, .int v2)]) hx hb dX3_readsRank_53 rfl hl (by decide) rfl (fun ls hl => ?_)
        refine lv_iload_n hx hb dX3_readsRank_54 rfl (lv_at hl 0 rfl) ?_
        refine lv_if_ge (tgt := 60) hx hb dX3_readsRank_55 (by decide) (fun c58 => ?_) (fun c58 => ?_)
        · replace h := h.1 c58
          refine lv_aload_n hx hb dX3_readsRank_60 rfl (lv_at hl 1 rfl) ?_
          refine lv_iload_n hx hb dX3_readsRank_61 rfl (lv_at hl 2 rfl) ?_
          refine lv_iconst (v := (1 : Int32)) hx hb dX3_readsRank_62 (by decide) ?_
          refine lv_iadd hx hb dX3_readsRank_63 ?_
          refine cl_i F (va_runV (As := [.int (v1 + (1 : Int32))]) (rest := []) ⟨hx, hb, hml, hown, hts⟩ (hrec1 h _) (cwV 1 hts (lw_V q1448 q1450 qs45 q97 q1451) rfl rfl rfl (by decide +kernel) ⟨hRf, by have hh := hRl; show 8 + (_ + 11) + (141 + d * 23) ≤ _; omega⟩) ⟨ct_blind, va_recv hK hP (ci := 2) (q0 := 0) rfl rfl, ct_at F hS hP hD⟩ rfl rfl hl.1 rfl (lv_room (Nat.le_of_ble_eq_true rfl)) dX3_readsRank_64 ⟨hC, hSl⟩) rfl rfl hD hS ?_
          rintro x43 ⟨fd44, ar45⟩ H locs h hP hD hS
          refine lv_if_ne (tgt := 72) hx hb dX3_readsRank_67 (by decide) (fun c57 => ?_) (fun c57 => ?_)
          · replace h := h.1 c57
            refine lv_aload_n hx hb dX3_readsRank_72 rfl (lv_at hl 1 rfl) ?_
            refine lv_sipush (v := (2000 : Int32)) hx hb dX3_readsRank_73 (by decide) ?_
            refine lv_iload_n hx hb dX3_readsRank_76 rfl (lv_at hl 0 rfl) ?_
            refine lv_iadd hx hb dX3_readsRank_77 ?_
            refine lv_iload_n hx hb dX3_readsRank_78 rfl (lv_at hl 2 rfl) ?_
            refine lv_if_ne (tgt := 86) hx hb dX3_readsRank_79 (by decide) (fun c56 => ?_) (fun c56 => ?_)
            · replace h := h.1 c56
              refine lv_iload_n hx hb dX3_readsRank_86 rfl (lv_at hl 2 rfl) ?_
              refine lv_iconst (v := (1 : Int32)) hx hb dX3_readsRank_87 (by decide) ?_
              refine lv_icmp_ne (tgt := 95) hx hb dX3_readsRank_88 (by decide) (fun c52 => ?_) (fun c52 => ?_)
              · replace h := h.1 c52
                refine lv_iconst (v := (5 : Int32)) hx hb dX3_readsRank_95 (by decide) ?_
                refine lv_iadd hx hb dX3_readsRank_96 ?_
                refine cl_v F (va_runV (As := [.int (((2000 : Int32) + x41) + (5 : Int32))]) (rest := []) ⟨hx, hb, hml, hown, hts⟩ (ct_M_codes h _) (cwV 1 hts (lw_V q1456 q1458 qs47 q97 q1459) rfl rfl rfl (by decide +kernel) ⟨Nat.le_trans (Nat.le_of_ble_eq_true rfl) (Nat.le_trans (Nat.le_add_right 7 _) hRf), Nat.le_trans (Nat.le_of_ble_eq_true rfl) (Nat.le_trans (Nat.le_add_right 141 _) hRl)⟩) ⟨ct_blind, va_recv hK hP (ci := 2) (q0 := 0) rfl rfl, ct_at F hS hP hD⟩ rfl rfl hl.1 rfl (lv_room (Nat.le_of_ble_eq_true rfl)) dX3_readsRank_97 ⟨hC, hSl⟩) rfl rfl hD hS ?_
                rintro ⟨fd46, ar47⟩ H locs h hP hD hS
                refine lv_iload_n hx hb dX3_readsRank_100 rfl (lv_at hl 2 rfl) ?_
                refine lv_if_le (tgt := 108) hx hb dX3_readsRank_101 (by decide) (fun c48 => ?_) (fun c48 => ?_)
                · replace h := h.1 c48
                  refine lv_iconst (v := (0 : Int32)) hx hb dX3_readsRank_108 (by decide) ?_
                  refine lv_istore_n (lv' := [(2, .int (0 : Int32)), (3, .int x41), (0, .ref o), (1, .int v1)]) hx hb dX3_readsRank_109 rfl hl (by decide) rfl (fun ls hl => ?_)
                  refine lv_goto (tgt := 24) hx hb dX3_readsRank_110 (by decide) ?_
                  exact ih _ _ _ h _ _ _ hP hD hS (lv_sub hl [2, 3, 0] rfl)
                · replace h := h.2 c48
                  refine lv_iconst (v := (1 : Int32)) hx hb dX3_readsRank_104 (by decide) ?_
                  refine lv_goto (tgt := 109) hx hb dX3_readsRank_105 (by decide) ?_
                  refine lv_istore_n (lv' := [(2, .int (1 : Int32)), (3, .int x41), (0, .ref o), (1, .int v1)]) hx hb dX3_readsRank_109 rfl hl (by decide) rfl (fun ls hl => ?_)
                  refine lv_goto (tgt := 24) hx hb dX3_readsRank_110 (by decide) ?_
                  exact ih _ _ _ h _ _ _ hP hD hS (lv_sub hl [2, 3, 0] rfl)
              · replace h := h.2 c52
                refine lv_iconst (v := (3 : Int32)) hx hb dX3_readsRank_91 (by decide) ?_
                refine lv_goto (tgt := 96) hx hb dX3_readsRank_92 (by decide) ?_
                refine lv_iadd hx hb dX3_readsRank_96 ?_
                refine cl_v F (va_runV (As := [.int (((2000 : Int32) + x41) + (3 : Int32))]) (rest := []) ⟨hx, hb, hml, hown, hts⟩ (ct_M_codes h _) (cwV 1 hts (lw_V q1456 q1458 qs47 q97 q1459) rfl rfl rfl (by decide +kernel) ⟨Nat.le_trans (Nat.le_of_ble_eq_true rfl) (Nat.le_trans (Nat.le_add_right 7 _) hRf), Nat.le_trans (Nat.le_of_ble_eq_true rfl) (Nat.le_trans (Nat.le_add_right 141 _) hRl)⟩) ⟨ct_blind, va_recv hK hP (ci := 2) (q0 := 0) rfl rfl, ct_at F hS hP hD⟩ rfl rfl hl.1 rfl (lv_room (Nat.le_of_ble_eq_true rfl)) dX3_readsRank_97 ⟨hC, hSl⟩) rfl rfl hD hS ?_
                rintro ⟨fd49, ar50⟩ H locs h hP hD hS
                refine lv_iload_n hx hb dX3_readsRank_100 rfl (lv_at hl 2 rfl) ?_
                refine lv_if_le (tgt := 108) hx hb dX3_readsRank_101 (by decide) (fun c51 => ?_) (fun c51 => ?_)
                · replace h := h.1 c51
                  refine lv_iconst (v := (0 : Int32)) hx hb dX3_readsRank_108 (by decide) ?_
                  refine lv_istore_n (lv' := [(2, .int (0 : Int32)), (3, .int x41), (0, .ref o), (1, .int v1)]) hx hb dX3_readsRank_109 rfl hl (by decide) rfl (fun ls hl => ?_)
                  refine lv_goto (tgt := 24) hx hb dX3_readsRank_110 (by decide) ?_
                  exact ih _ _ _ h _ _ _ hP hD hS (lv_sub hl [2, 3, 0] rfl)
                · replace h := h.2 c51
                  refine lv_iconst (v := (1 : Int32)) hx hb dX3_readsRank_104 (by decide) ?_
                  refine lv_goto (tgt := 109) hx hb dX3_readsRank_105 (by decide) ?_
                  refine lv_istore_n (lv' := [(2, .int (1 : Int32)), (3, .int x41), (0, .ref o), (1, .int v1)]) hx hb dX3_readsRank_109 rfl hl (by decide) rfl (fun ls hl => ?_)
                  refine lv_goto (tgt := 24) hx hb dX3_readsRank_110 (by decide) ?_
                  exact ih _ _ _ h _ _ _ hP hD hS (lv_sub hl [2, 3, 0] rfl)
            · replace h := h.2 c56
              refine lv_iconst (v := (0 : Int32)) hx hb dX3_readsRank_82 (by decide) ?_
              refine lv_goto (tgt := 96) hx hb dX3_readsRank_83 (by decide) ?_
              refine lv_iadd hx hb dX3_readsRank_96 ?_
              refine cl_v F (va_runV (As := [.int (((2000 : Int32) + x41) + (0 : Int32))]) (rest := []) ⟨hx, hb, hml, hown, hts⟩ (ct_M_codes h _) (cwV 1 hts (lw_V q1456 q1458 qs47 q97 q1459) rfl rfl rfl (by decide +kernel) ⟨Nat.le_trans (Nat.le_of_ble_eq_true rfl) (Nat.le_trans (Nat.le_add_right 7 _) hRf), Nat.le_trans (Nat.le_of_ble_eq_true rfl) (Nat.le_trans (Nat.le_add_right 141 _) hRl)⟩) ⟨ct_blind, va_recv hK hP (ci := 2) (q0 := 0) rfl rfl, ct_at F hS hP hD⟩ rfl rfl hl.1 rfl (lv_room (Nat.le_of_ble_eq_true rfl)) dX3_readsRank_97 ⟨hC, hSl⟩) rfl rfl hD hS ?_
              rintro ⟨fd53, ar54⟩ H locs h hP hD hS
              refine lv_iload_n hx hb dX3_readsRank_100 rfl (lv_at hl 2 rfl) ?_
              refine lv_if_le (tgt := 108) hx hb dX3_readsRank_101 (by decide) (fun c55 => ?_) (fun c55 => ?_)
              · replace h := h.1 c55
                refine lv_iconst (v := (0 : Int32)) hx hb dX3_readsRank_108 (by decide) ?_
                refine lv_istore_n (lv' := [(2, .int (0 : Int32)), (3, .int x41), (0, .ref o), (1, .int v1)]) hx hb dX3_readsRank_109 rfl hl (by decide) rfl (fun ls hl => ?_)
                refine lv_goto (tgt := 24) hx hb dX3_readsRank_110 (by decide) ?_
                exact ih _ _ _ h _ _ _ hP hD hS (lv_sub hl [2, 3, 0] rfl)
              · replace h := h.2 c55
                refine lv_iconst (v := (1 : Int32)) hx hb dX3_readsRank_104 (by decide) ?_
                refine lv_goto (tgt := 109) hx hb dX3_readsRank_105 (by decide) ?_
                refine lv_istore_n (lv' := [(2, .int (1 : Int32)), (3, .int x41), (0, .ref o), (1, .int v1)]) hx hb dX3_readsRank_109 rfl hl (by decide) rfl (fun ls hl => ?_)
                refine lv_goto (tgt := 24) hx hb dX3_readsRank_110 (by decide) ?_
                exact ih _ _ _ h _ _ _ hP hD hS (lv_sub hl [2, 3, 0] rfl)
          · replace h := h.2 c57
            exact hK70 _ _ h _ _ _ hP hD hS (lv_sub hl [] rfl)
        · replace h := h.2 c58
          exact hK58 _ _ h _ _ _ hP hD hS (lv_sub hl [] rfl)
set_option maxHeartbeats 4000000 in
theorem ctg_M_reads {l : Launch} {V : evT} {D : va_G} {gI : Nat → ClassId} {o : Nat} {ad : Nat → Nat} : ∀ d : Nat, (∀ {fd : Nat → Int32} {ar : Nat → Nat → Int32} {lw : Nat → Int64} {Q : Int32 → (Nat → Int32) → (Nat → Nat → Int32) → Prop}, wp_M_reads d 0 0 fd ar lw Q → ct_i l V D vwCl (tyL gI) yX3_readsThing cX3_readsThing 2 .boolean { frames := 7 + d, cells := 0, slots := 0, locals := 141 + d * 23 } [.ref o] (wm gI o ad fd ar lw) (fun u : (Nat → Int32) × (Nat → Nat → Int32) => (wm gI o ad u.1 u.2 lw)) (fun (x : Int32) (u : (Nat → Int32) × (Nat → Nat → Int32)) => Q x u.1 u.2)) ∧
    (∀ {v1 : Int32} {fd : Nat → Int32} {ar : Nat → Nat → Int32} {lw : Nat → Int64} {Q : Int32 → (Nat → Int32) → (Nat → Nat → Int32) → Prop}, wp_M_reads d 1 v1 fd ar lw Q → ct_i l V D vwCl (tyL gI) yX3_readsRank cX3_readsRank 4 .boolean { frames := 7 + d, cells := 0, slots := 0, locals := 141 + d * 23 } [.ref o, .int v1] (wm gI o ad fd ar lw) (fun u : (Nat → Int32) × (Nat → Nat → Int32) => (wm gI o ad u.1 u.2 lw)) (fun (x : Int32) (u : (Nat → Int32) × (Nat → Nat → Int32)) => Q x u.1 u.2)) := by
  intro d
  induction d with
  | zero => exact ⟨fun h => False.elim h, fun h => False.elim h⟩
  | succ d ih =>
    obtain ⟨hrec0, hrec1⟩ := ih
    constructor
    · intro fd ar lw Q h
      refine ct_ofi RX3 rfl (by decide +kernel) (Nat.le_of_ble_eq_true rfl) ?_
      intro p e s m args below meth c A F hP hD ls hl
      obtain ⟨⟨hx, hb, hml, hown, hts⟩, hr, hlocks, hA, hK, hE⟩ := id F
      have hS : va_S A s.heap s.heap [] := va_S.rf
      have hl : lv_has ls 2 [(0, .ref o)] := hl
      have hRf : 7 + (d + 1) ≤ ({ frames := 7 + (d + 1), cells := 0, slots := 0, locals := 141 + (d + 1) * 23 } : Room).frames := Nat.le_refl _
      have hRl : 141 + (d + 1) * 23 ≤ ({ frames := 7 + (d + 1), cells := 0, slots := 0, locals := 141 + (d + 1) * 23 } : Room).locals := Nat.le_refl _
      have hC : 0 ≤ ({ frames := 7 + (d + 1), cells := 0, slots := 0, locals := 141 + (d + 1) * 23 } : Room).cells := Nat.zero_le _
      have hSl : 0 ≤ ({ frames := 7 + (d + 1), cells := 0, slots := 0, locals := 141 + (d + 1) * 23 } : Room).slots := Nat.zero_le _
      unfold wp_M_reads at h
      replace h := h.1 rfl
      refine lv_aload_n hx hb dX3_readsThing_0 rfl (lv_at hl 0 rfl) ?_
      refine lv_bipush (v := (45 : Int32)) hx hb dX3_readsThing_1 (by decide) ?_
      refine cl_i F (va_runV (As := [.int (45 : Int32)]) (rest := []) ⟨hx, hb, hml, hown, hts⟩ (ct_M_takes h _) (cwV 1 hts (lw_V q1403 q1405 qs37 q97 q1406) rfl rfl rfl (by decide +kernel) ⟨Nat.le_trans (Nat.le_of_ble_eq_true rfl) (Nat.le_trans (Nat.le_add_right 7 _) hRf), Nat.le_trans (Nat.le_of_ble_eq_true rfl) (Nat.le_trans (Nat.le_add_right 141 _) hRl)⟩) ⟨ct_blind, va_recv hK hP (ci := 2) (q0 := 0) rfl rfl, ct_at F hS hP hD⟩ rfl rfl hl.1 rfl (lv_room (Nat.le_of_ble_eq_true rfl)) dX3_readsThing_3 ⟨hC, hSl⟩) rfl rfl hD hS ?_
      rintro x1 fd2 H locs h hP hD hS
      refine lv_if_eq (tgt := 23) hx hb dX3_readsThing_6 (by decide) (fun c30 => ?_) (fun c30 => ?_)
      · replace h := h.1 c30
        refine lv_aload_n hx hb dX3_readsThing_23 rfl (lv_at hl 0 rfl) ?_
        refine cl_i F (va_runV (As := []) (rest := []) ⟨hx, hb, hml, hown, hts⟩ (ct_M_isDigit h _) (cwV 0 hts (lw_V q1414 q1416 qs39 q97 q1417) rfl rfl rfl (by decide +kernel) ⟨Nat.le_trans (Nat.le_of_ble_eq_true rfl) (Nat.le_trans (Nat.le_add_right 7 _) hRf), Nat.le_trans (Nat.le_of_ble_eq_true rfl) (Nat.le_trans (Nat.le_add_right 141 _) hRl)⟩) ⟨ct_blind, va_recv hK hP (ci := 2) (q0 := 0) rfl rfl, ct_at F hS hP hD⟩ rfl rfl hl.1 rfl (lv_room (Nat.le_of_ble_eq_true rfl)) dX3_readsThing_24 ⟨hC, hSl⟩) rfl rfl hD hS ?_
        rintro x3 _ H locs h hP hD hS
        refine lv_if_eq (tgt := 41) hx hb dX3_readsThing_27 (by decide) (fun c24 => ?_) (fun c24 => ?_)
        · replace h := h.1 c24
          refine lv_aload_n hx hb dX3_readsThing_41 rfl (lv_at hl 0 rfl) ?_
          refine va_ldcS hx hb hown (hE.2.2.1 0 _ rfl).1 dX3_readsThing_42 ?_
          refine cl_i F (va_runV (As := [.ref (V.1 0)]) (rest := []) ⟨hx, hb, hml, hown, hts⟩ (ct_M_takesOf_i0 h _) (cwV 1 hts (lw_V q1461 q1463 qs48 q97 q1464) rfl rfl rfl (by decide +kernel) ⟨Nat.le_trans (Nat.le_of_ble_eq_true rfl) (Nat.le_trans (Nat.le_add_right 7 _) hRf), Nat.le_trans (Nat.le_of_ble_eq_true rfl) (Nat.le_trans (Nat.le_add_right 141 _) hRl)⟩) ⟨ct_blind, va_recv hK hP (ci := 2) (q0 := 0) rfl rfl, ct_at F hS hP hD⟩ rfl rfl hl.1 rfl (lv_room (Nat.le_of_ble_eq_true rfl)) dX3_readsThing_44 ⟨hC, hSl⟩) rfl rfl hD hS ?_
          rintro x4 fd5 H locs h hP hD hS
          refine lv_istore_n (lv' := [(1, .int x4), (0, .ref o)]) hx hb dX3_readsThing_47 rfl hl (by decide) rfl (fun ls hl => ?_)
          refine lv_iload_n hx hb dX3_readsThing_48 rfl (lv_at hl 0 rfl) ?_
          refine lv_if_lt (tgt := 63) hx hb dX3_readsThing_49 (by decide) (fun c19 => ?_) (fun c19 => ?_)
          · replace h := h.1 c19
            refine lv_aload_n hx hb dX3_readsThing_63 rfl (lv_at hl 1 rfl) ?_
            refine va_get hx hb hts in_X3 hown hK hP 0 rfl rfl 18 (Nat.le_of_ble_eq_true rfl) (hts _ q1236) (fun _ h => h) (v := .int (fd5 18)) rfl dX3_readsThing_64 ?_
            refine lv_iconst (v := (4 : Int32)) hx hb dX3_readsThing_67 (by decide) ?_
            refine lv_icmp_eq (tgt := 80) hx hb dX3_readsThing_68 (by decide) (fun c16 => ?_) (fun c16 => ?_)
            · replace h := h.1 c16
              refine lv_iconst (v := (0 : Int32)) hx hb dX3_readsThing_80 (by decide) ?_
              exact rt_i F dX3_readsThing_81 rfl (fd5, ar) h hP hD hS (Nat.le_refl _) (Nat.le_refl _)
            · replace h := h.2 c16
              refine lv_aload_n hx hb dX3_readsThing_71 rfl (lv_at hl 1 rfl) ?_
              refine lv_bipush (v := (40 : Int32)) hx hb dX3_readsThing_72 (by decide) ?_
              refine cl_i F (va_runV (As := [.int (40 : Int32)]) (rest := []) ⟨hx, hb, hml, hown, hts⟩ (ct_M_takes h _) (cwV 1 hts (lw_V q1403 q1405 qs37 q97 q1406) rfl rfl rfl (by decide +kernel) ⟨Nat.le_trans (Nat.le_of_ble_eq_true rfl) (Nat.le_trans (Nat.le_add_right 7 _) hRf), Nat.le_trans (Nat.le_of_ble_eq_true rfl) (Nat.le_trans (Nat.le_add_right 141 _) hRl)⟩) ⟨ct_blind, va_recv hK hP (ci := 2) (q0 := 0) rfl rfl, ct_at F hS hP hD⟩ rfl rfl hl.1 rfl (lv_room (Nat.le_of_ble_eq_true rfl)) dX3_readsThing_74 ⟨hC, hSl⟩) rfl rfl hD hS ?_
              rintro x6 fd7 H locs h hP hD hS
              refine lv_if_ne (tgt := 82) hx hb dX3_readsThing_77 (by decide) (fun c15 => ?_) (fun c15 => ?_)
              · replace h := h.1 c15
                refine lv_aload_n hx hb dX3_readsThing_82 rfl (lv_at hl 1 rfl) ?_
                refine lv_dup hx hb dX3_readsThing_83 rfl ?_
                refine va_get hx hb hts in_X3 hown hK hP 0 rfl rfl 18 (Nat.le_of_ble_eq_true rfl) (hts _ q1236) (fun _ h => h) (v := .int (fd7 18)) rfl dX3_readsThing_84 ?_
                refine lv_iconst (v := (1 : Int32)) hx hb dX3_readsThing_87 (by decide) ?_
                refine lv_iadd hx hb dX3_readsThing_88 ?_
                refine pt_put (v := .int ((fd7 18) + (1 : Int32))) hx hb hts in_X3 tyX3 tyX3_ok nmX3 hown hK hP hD hS 0 rfl rfl 18 (Nat.le_of_ble_eq_true rfl) (hts _ q1236) (fun _ h => h) rfl (ty := .int) (by decide +kernel) rfl rfl (Nat.le_of_ble_eq_true rfl) dX3_readsThing_89 wmF_18 (fun H locs hP hD hS => ?_)
                refine lv_aload_n hx hb dX3_readsThing_92 rfl (lv_at hl 1 rfl) ?_
                refine lv_iconst (v := (0 : Int32)) hx hb dX3_readsThing_93 (by decide) ?_
                refine cl_i F (va_runV (As := [.int (0 : Int32)]) (rest := []) ⟨hx, hb, hml, hown, hts⟩ (hrec1 h _) (cwV 1 hts (lw_V q1448 q1450 qs45 q97 q1451) rfl rfl rfl (by decide +kernel) ⟨hRf, by have hh := hRl; show 8 + (_ + 11) + (141 + d * 23) ≤ _; omega⟩) ⟨ct_blind, va_recv hK hP (ci := 2) (q0 := 0) rfl rfl, ct_at F hS hP hD⟩ rfl rfl hl.1 rfl (lv_room (Nat.le_of_ble_eq_true rfl)) dX3_readsThing_94 ⟨hC, hSl⟩) rfl rfl hD hS ?_
                rintro x8 ⟨fd9, ar10⟩ H locs h hP hD hS
                refine lv_if_eq (tgt := 109) hx hb dX3_readsThing_97 (by decide) (fun c14 => ?_) (fun c14 => ?_)
                · replace h := h.1 c14
                  refine lv_iconst (v := (0 : Int32)) hx hb dX3_readsThing_109 (by decide) ?_
                  exact rt_i F dX3_readsThing_110 rfl (fd9, ar10) h hP hD hS (Nat.le_refl _) (Nat.le_refl _)
                · replace h := h.2 c14
                  refine lv_aload_n hx hb dX3_readsThing_100 rfl (lv_at hl 1 rfl) ?_
                  refine lv_bipush (v := (41 : Int32)) hx hb dX3_readsThing_101 (by decide) ?_
                  refine cl_i F (va_runV (As := [.int (41 : Int32)]) (rest := []) ⟨hx, hb, hml, hown, hts⟩ (ct_M_takes h _) (cwV 1 hts (lw_V q1403 q1405 qs37 q97 q1406) rfl rfl rfl (by decide +kernel) ⟨Nat.le_trans (Nat.le_of_ble_eq_true rfl) (Nat.le_trans (Nat.le_add_right 7 _) hRf), Nat.le_trans (Nat.le_of_ble_eq_true rfl) (Nat.le_trans (Nat.le_add_right 141 _) hRl)⟩) ⟨ct_blind, va_recv hK hP (ci := 2) (q0 := 0) rfl rfl, ct_at F hS hP hD⟩ rfl rfl hl.1 rfl (lv_room (Nat.le_of_ble_eq_true rfl)) dX3_readsThing_103 ⟨hC, hSl⟩) rfl rfl hD hS ?_
                  rintro x11 fd12 H locs h hP hD hS
                  refine lv_if_ne (tgt := 111) hx hb dX3_readsThing_106 (by decide) (fun c13 => ?_) (fun c13 => ?_)
                  · replace h := h.1 c13
                    refine lv_aload_n hx hb dX3_readsThing_111 rfl (lv_at hl 1 rfl) ?_
                    refine lv_dup hx hb dX3_readsThing_112 rfl ?_
                    refine va_get hx hb hts in_X3 hown hK hP 0 rfl rfl 18 (Nat.le_of_ble_eq_true rfl) (hts _ q1236) (fun _ h => h) (v := .int (fd12 18)) rfl dX3_readsThing_113 ?_
                    refine lv_iconst (v := (1 : Int32)) hx hb dX3_readsThing_116 (by decide) ?_
                    refine lv_isub hx hb dX3_readsThing_117 ?_
                    refine pt_put (v := .int ((fd12 18) - (1 : Int32))) hx hb hts in_X3 tyX3 tyX3_ok nmX3 hown hK hP hD hS 0 rfl rfl 18 (Nat.le_of_ble_eq_true rfl) (hts _ q1236) (fun _ h => h) rfl (ty := .int) (by decide +kernel) rfl rfl (Nat.le_of_ble_eq_true rfl) dX3_readsThing_118 wmF_18 (fun H locs hP hD hS => ?_)
                    refine lv_iconst (v := (1 : Int32)) hx hb dX3_readsThing_121 (by decide) ?_
                    exact rt_i F dX3_readsThing_122 rfl ((upd fd12 18 ((fd12 18) - (1 : Int32))), ar10) h hP hD hS (Nat.le_refl _) (Nat.le_refl _)
                  · replace h := h.2 c13
                    refine lv_iconst (v := (0 : Int32)) hx hb dX3_readsThing_109 (by decide) ?_
                    exact rt_i F dX3_readsThing_110 rfl (fd12, ar10) h hP hD hS (Nat.le_refl _) (Nat.le_refl _)
              · replace h := h.2 c15
                refine lv_iconst (v := (0 : Int32)) hx hb dX3_readsThing_80 (by decide) ?_
                exact rt_i F dX3_readsThing_81 rfl (fd7, ar) h hP hD hS (Nat.le_refl _) (Nat.le_refl _)
          · replace h := h.2 c19
            refine lv_aload_n hx hb dX3_readsThing_52 rfl (lv_at hl 1 rfl) ?_
            refine lv_sipush (v := (1000 : Int32)) hx hb dX3_readsThing_53 (by decide) ?_
            refine lv_iload_n hx hb dX3_readsThing_56 rfl (lv_at hl 0 rfl) ?_
            refine lv_iadd hx hb dX3_readsThing_57 ?_
            refine cl_v F (va_runV (As := [.int ((1000 : Int32) + x4)]) (rest := []) ⟨hx, hb, hml, hown, hts⟩ (ct_M_codes h _) (cwV 1 hts (lw_V q1456 q1458 qs47 q97 q1459) rfl rfl rfl (by decide +kernel) ⟨Nat.le_trans (Nat.le_of_ble_eq_true rfl) (Nat.le_trans (Nat.le_add_right 7 _) hRf), Nat.le_trans (Nat.le_of_ble_eq_true rfl) (Nat.le_trans (Nat.le_add_right 141 _) hRl)⟩) ⟨ct_blind, va_recv hK hP (ci := 2) (q0 := 0) rfl rfl, ct_at F hS hP hD⟩ rfl rfl hl.1 rfl (lv_room (Nat.le_of_ble_eq_true rfl)) dX3_readsThing_58 ⟨hC, hSl⟩) rfl rfl hD hS ?_
            rintro ⟨fd17, ar18⟩ H locs h hP hD hS
            refine lv_iconst (v := (1 : Int32)) hx hb dX3_readsThing_61 (by decide) ?_
            exact rt_i F dX3_readsThing_62 rfl (fd17, ar18) h hP hD hS (Nat.le_refl _) (Nat.le_refl _)
        · replace h := h.2 c24
          refine lv_aload_n hx hb dX3_readsThing_30 rfl (lv_at hl 0 rfl) ?_
          refine lv_aload_n hx hb dX3_readsThing_31 rfl (lv_at hl 0 rfl) ?_
          refine lv_iconst (v := (3 : Int32)) hx hb dX3_readsThing_32 (by decide) ?_
          refine cl_i F (va_runV (As := [.int (3 : Int32)]) (rest := [.ref o]) ⟨hx, hb, hml, hown, hts⟩ (ct_M_number h _) (cwV 1 hts (lw_V q1410 q1412 qs38 q97 q1413) rfl rfl rfl (by decide +kernel) ⟨Nat.le_trans (Nat.le_of_ble_eq_true rfl) (Nat.le_trans (Nat.le_add_right 7 _) hRf), Nat.le_trans (Nat.le_of_ble_eq_true rfl) (Nat.le_trans (Nat.le_add_right 141 _) hRl)⟩) ⟨ct_blind, va_recv hK hP (ci := 2) (q0 := 0) rfl rfl, ct_at F hS hP hD⟩ rfl rfl hl.1 rfl (lv_room (Nat.le_of_ble_eq_true rfl)) dX3_readsThing_33 ⟨hC, hSl⟩) rfl rfl hD hS ?_
          rintro x20 fd21 H locs h hP hD hS
          refine cl_v F (va_runV (As := [.int x20]) (rest := []) ⟨hx, hb, hml, hown, hts⟩ (ct_M_codes h _) (cwV 1 hts (lw_V q1456 q1458 qs47 q97 q1459) rfl rfl rfl (by decide +kernel) ⟨Nat.le_trans (Nat.le_of_ble_eq_true rfl) (Nat.le_trans (Nat.le_add_right 7 _) hRf), Nat.le_trans (Nat.le_of_ble_eq_true rfl) (Nat.le_trans (Nat.le_add_right 141 _) hRl)⟩) ⟨ct_blind, va_recv hK hP (ci := 2) (q0 := 0) rfl rfl, ct_at F hS hP hD⟩ rfl rfl hl.1 rfl (lv_room (Nat.le_of_ble_eq_true rfl)) dX3_readsThing_36 ⟨hC, hSl⟩) rfl rfl hD hS ?_
          rintro ⟨fd22, ar23⟩ H locs h hP hD hS
          refine lv_iconst (v := (1 : Int32)) hx hb dX3_readsThing_39 (by decide) ?_
          exact rt_i F dX3_readsThing_40 rfl (fd22, ar23) h hP hD hS (Nat.le_refl _) (Nat.le_refl _)
      · replace h := h.2 c30
        refine lv_aload_n hx hb dX3_readsThing_9 rfl (lv_at hl 0 rfl) ?_
        refine cl_i F (va_runV (As := []) (rest := []) ⟨hx, hb, hml, hown, hts⟩ (hrec0 h _) (cwV 0 hts (lw_V q1452 q1454 qs46 q97 q1455) rfl rfl rfl (by decide +kernel) ⟨hRf, by have hh := hRl; show 8 + (_ + 11) + (141 + d * 23) ≤ _; omega⟩) ⟨ct_blind, va_recv hK hP (ci := 2) (q0 := 0) rfl rfl, ct_at F hS hP hD⟩ rfl rfl hl.1 rfl (lv_room (Nat.le_of_ble_eq_true rfl)) dX3_readsThing_10 ⟨hC, hSl⟩) rfl rfl hD hS ?_
        rintro x25 ⟨fd26, ar27⟩ H locs h hP hD hS
        refine lv_istore_n (lv' := [(1, .int x25), (0, .ref o)]) hx hb dX3_readsThing_13 rfl hl (by decide) rfl (fun ls hl => ?_)
        refine lv_aload_n hx hb dX3_readsThing_14 rfl (lv_at hl 1 rfl) ?_
        refine lv_sipush (v := (3000 : Int32)) hx hb dX3_readsThing_15 (by decide) ?_
        refine cl_v F (va_runV (As := [.int (3000 : Int32)]) (rest := []) ⟨hx, hb, hml, hown, hts⟩ (ct_M_codes h _) (cwV 1 hts (lw_V q1456 q1458 qs47 q97 q1459) rfl rfl rfl (by decide +kernel) ⟨Nat.le_trans (Nat.le_of_ble_eq_true rfl) (Nat.le_trans (Nat.le_add_right 7 _) hRf), Nat.le_trans (Nat.le_of_ble_eq_true rfl) (Nat.le_trans (Nat.le_add_right 141 _) hRl)⟩) ⟨ct_blind, va_recv hK hP (ci := 2) (q0 := 0) rfl rfl, ct_at F hS hP hD⟩ rfl rfl hl.1 rfl (lv_room (Nat.le_of_ble_eq_true rfl)) dX3_readsThing_18 ⟨hC, hSl⟩) rfl rfl hD hS ?_
        rintro ⟨fd28, ar29⟩ H locs h hP hD hS
        refine lv_iload_n hx hb dX3_readsThing_21 rfl (lv_at hl 0 rfl) ?_
        exact rt_i F dX3_readsThing_22 (by rcases h.1 with e | e <;> rw [e] <;> rfl) (fd28, ar29) h.2 hP hD hS (Nat.le_refl _) (Nat.le_refl _)
    · intro v1 fd ar lw Q h
      refine ct_ofi RX3 rfl (by decide +kernel) (Nat.le_of_ble_eq_true rfl) ?_
      intro p e s m args below meth c A F hP hD ls hl
      obtain ⟨⟨hx, hb, hml, hown, hts⟩, hr, hlocks, hA, hK, hE⟩ := id F
      have hS : va_S A s.heap s.heap [] := va_S.rf
      have hl : lv_has ls 4 [(0, .ref o), (1, .int v1)] := hl
      have hRf : 7 + (d + 1) ≤ ({ frames := 7 + (d + 1), cells := 0, slots := 0, locals := 141 + (d + 1) * 23 } : Room).frames := Nat.le_refl _
      have hRl : 141 + (d + 1) * 23 ≤ ({ frames := 7 + (d + 1), cells := 0, slots := 0, locals := 141 + (d + 1) * 23 } : Room).locals := Nat.le_refl _
      have hC : 0 ≤ ({ frames := 7 + (d + 1), cells := 0, slots := 0, locals := 141 + (d + 1) * 23 } : Room).cells := Nat.zero_le _
      have hSl : 0 ≤ ({ frames := 7 + (d + 1), cells := 0, slots := 0, locals := 141 + (d + 1) * 23 } : Room).slots := Nat.zero_le _
      unfold wp_M_reads at h
      replace h := h.2 rfl
      refine lv_iload_n hx hb dX3_readsRank_0 rfl (lv_at hl 1 rfl) ?_
      refine lv_iconst (v := (3 : Int32)) hx hb dX3_readsRank_1 (by decide) ?_
      refine lv_icmp_ne (tgt := 10) hx hb dX3_readsRank_2 (by decide) (fun c71 => ?_) (fun c71 => ?_)
      · replace h := h.1 c71
        refine lv_aload_n hx hb dX3_readsRank_10 rfl (lv_at hl 0 rfl) ?_
        refine lv_iload_n hx hb dX3_readsRank_11 rfl (lv_at hl 1 rfl) ?_
        refine lv_iconst (v := (1 : Int32)) hx hb dX3_readsRank_12 (by decide) ?_
        refine lv_iadd hx hb dX3_readsRank_13 ?_
        refine cl_i F (va_runV (As := [.int (v1 + (1 : Int32))]) (rest := []) ⟨hx, hb, hml, hown, hts⟩ (hrec1 h _) (cwV 1 hts (lw_V q1448 q1450 qs45 q97 q1451) rfl rfl rfl (by decide +kernel) ⟨hRf, by have hh := hRl; show 8 + (_ + 11) + (141 + d * 23) ≤ _; omega⟩) ⟨ct_blind, va_recv hK hP (ci := 2) (q0 := 0) rfl rfl, ct_at F hS hP hD⟩ rfl rfl hl.1 rfl (lv_room (Nat.le_of_ble_eq_true rfl)) dX3_readsRank_14 ⟨hC, hSl⟩) rfl rfl hD hS ?_
        rintro x1 ⟨fd2, ar3⟩ H locs h hP hD hS
        refine lv_if_ne (tgt := 22) hx hb dX3_readsRank_17 (by decide) (fun c67 => ?_) (fun c67 => ?_)
        · replace h := h.1 c67
          refine lv_iconst (v := (1 : Int32)) hx hb dX3_readsRank_22 (by decide) ?_
          refine lv_istore_n (lv' := [(2, .int (1 : Int32)), (0, .ref o), (1, .int v1)]) hx hb dX3_readsRank_23 rfl hl (by decide) rfl (fun ls hl => ?_)
          obtain ⟨k24, h⟩ := h
          refine lp_M_readsRank_L1 F hRf hRl hC hSl hrec0 hrec1 ?hk113 ?hk58 ?hk70 k24 _ _ _ h _ _ _ hP hD hS (lv_sub hl [1, 2, 0] rfl)
          case hk113 =>
            intro fd_61 ar_62 h H locs ls hP hD hS hl
            refine lv_iconst (v := (1 : Int32)) hx hb dX3_readsRank_113 (by decide) ?_
            exact rt_i F dX3_readsRank_114 rfl (fd_61, ar_62) h hP hD hS (Nat.le_refl _) (Nat.le_refl _)
          case hk58 =>
            intro fd_63 ar_64 h H locs ls hP hD hS hl
            refine lv_iconst (v := (1 : Int32)) hx hb dX3_readsRank_58 (by decide) ?_
            exact rt_i F dX3_readsRank_59 rfl (fd_63, ar_64) h hP hD hS (Nat.le_refl _) (Nat.le_refl _)
          case hk70 =>
            intro fd_65 ar_66 h H locs ls hP hD hS hl
            refine lv_iconst (v := (0 : Int32)) hx hb dX3_readsRank_70 (by decide) ?_
            exact rt_i F dX3_readsRank_71 rfl (fd_65, ar_66) h hP hD hS (Nat.le_refl _) (Nat.le_refl _)
        · replace h := h.2 c67
          refine lv_iconst (v := (0 : Int32)) hx hb dX3_readsRank_20 (by decide) ?_
          exact rt_i F dX3_readsRank_21 rfl (fd2, ar3) h hP hD hS (Nat.le_refl _) (Nat.le_refl _)
      · replace h := h.2 c71
        refine lv_aload_n hx hb dX3_readsRank_5 rfl (lv_at hl 0 rfl) ?_
        refine cl_i F (va_runV (As := []) (rest := []) ⟨hx, hb, hml, hown, hts⟩ (hrec0 h _) (cwV 0 hts (lw_V q1452 q1454 qs46 q97 q1455) rfl rfl rfl (by decide +kernel) ⟨hRf, by have hh := hRl; show 8 + (_ + 11) + (141 + d * 23) ≤ _; omega⟩) ⟨ct_blind, va_recv hK hP (ci := 2) (q0 := 0) rfl rfl, ct_at F hS hP hD⟩ rfl rfl hl.1 rfl (lv_room (Nat.le_of_ble_eq_true rfl)) dX3_readsRank_6 ⟨hC, hSl⟩) rfl rfl hD hS ?_
        rintro x68 ⟨fd69, ar70⟩ H locs h hP hD hS
        exact rt_i F dX3_readsRank_9 (by rcases h.1 with e | e <;> rw [e] <;> rfl) (fd69, ar70) h.2 hP hD hS (Nat.le_refl _) (Nat.le_refl _)
theorem ct_M_readsThing {l : Launch} {V : evT} {D : va_G} {gI : Nat → ClassId} {o : Nat} {ad : Nat → Nat} : ∀ {fd : Nat → Int32} {ar : Nat → Nat → Int32} {lw : Nat → Int64} {Q : Int32 → (Nat → Int32) → (Nat → Nat → Int32) → Prop}, wp_M_reads 200 0 0 fd ar lw Q → ct_i l V D vwCl (tyL gI) yX3_readsThing cX3_readsThing 2 .boolean { frames := 207, cells := 0, slots := 0, locals := 4741 } [.ref o] (wm gI o ad fd ar lw) (fun u : (Nat → Int32) × (Nat → Nat → Int32) => (wm gI o ad u.1 u.2 lw)) (fun (x : Int32) (u : (Nat → Int32) × (Nat → Nat → Int32)) => Q x u.1 u.2) := fun h => (ctg_M_reads 200).1 h
theorem ct_M_readsRank {l : Launch} {V : evT} {D : va_G} {gI : Nat → ClassId} {o : Nat} {ad : Nat → Nat} : ∀ {v1 : Int32} {fd : Nat → Int32} {ar : Nat → Nat → Int32} {lw : Nat → Int64} {Q : Int32 → (Nat → Int32) → (Nat → Nat → Int32) → Prop}, wp_M_reads 200 1 v1 fd ar lw Q → ct_i l V D vwCl (tyL gI) yX3_readsRank cX3_readsRank 4 .boolean { frames := 207, cells := 0, slots := 0, locals := 4741 } [.ref o, .int v1] (wm gI o ad fd ar lw) (fun u : (Nat → Int32) × (Nat → Nat → Int32) => (wm gI o ad u.1 u.2 lw)) (fun (x : Int32) (u : (Nat → Int32) × (Nat → Nat → Int32)) => Q x u.1 u.2) := fun h => (ctg_M_reads 200).2 h
