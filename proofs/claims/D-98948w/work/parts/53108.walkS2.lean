/-! X1_tides -/
set_option maxRecDepth 100000
set_option maxHeartbeats 4000000 in
theorem cz_S_tides {l : Launch} {V : evT} {D : va_G} {gI : Nat → ClassId} {o : Nat} {ax : Nat → Nat} {tl : va_W} (hlt : l.stackTraces = false) {v1 : Int32} {fd : Nat → Int32} {ar : Nat → Nat → Int32} {lw : Nat → Int64} {hh : HT} {rn : Option (Nat × Nat)} {Q : Int32 → (Nat → Int32) → (Nat → Nat → Int32) → (Nat → Int64) → Prop} (h : wp_S_tides v1 fd ar lw hh rn Q) : cz_i l V D (tyL gI) yX1_tides cX1_tides 3 .int { frames := 214, cells := 1, slots := 7, locals := 5085 } [.ref o, .int v1] (wX gI o ax rn tl fd ar lw hh) (fun u : (Nat → Int32) × (Nat → Nat → Int32) × (Nat → Int64) => (wX gI o ax rn tl u.1 u.2.1 u.2.2 hh)) (fun (x : Int32) (u : (Nat → Int32) × (Nat → Nat → Int32) × (Nat → Int64)) => Q x u.1 u.2.1 u.2.2) := by
  refine cz_ofi RX1 rfl (by decide +kernel) (Nat.le_of_ble_eq_true rfl) ?_
  intro p e s m args below meth c A F hP hD ls hl
  obtain ⟨⟨hx, hb, hml, hown, hts⟩, hr, hlocks, hA, hK, hE⟩ := id F
  have hS : va_S A s.heap s.heap [] := va_S.rf
  have hl : lv_has ls 3 [(0, .ref o), (1, .int v1)] := hl
  have hRf : 214 ≤ ({ frames := 214, cells := 1, slots := 7, locals := 5085 } : Room).frames := Nat.le_refl _
  have hC1 : 1 ≤ ({ frames := 214, cells := 1, slots := 7, locals := 5085 } : Room).cells := Nat.le_refl _
  have hS7 : 7 ≤ ({ frames := 214, cells := 1, slots := 7, locals := 5085 } : Room).slots := Nat.le_refl _
  have hRl : 5085 ≤ ({ frames := 214, cells := 1, slots := 7, locals := 5085 } : Room).locals := Nat.le_refl _
  have hC : 0 ≤ ({ frames := 214, cells := 1, slots := 7, locals := 5085 } : Room).cells := Nat.zero_le _
  have hSl : 0 ≤ ({ frames := 214, cells := 1, slots := 7, locals := 5085 } : Room).slots := Nat.zero_le _
  unfold wp_S_tides at h
  refine lv_iload_n hx hb dX1_tides_0 rfl (lv_at hl 1 rfl) ?_
  refine lv_i2l (v := (v1.toInt64)) hx hb dX1_tides_1 rfl ?_
  refine lv_lconst (v := (0 : Int64)) hx hb dX1_tides_2 (by decide) ?_
  refine lv_ldc2 (v := (60 : Int64)) hx hb hown (hts _ q937) dX1_tides_3 ?_
  refine cl_i0 F (va_runS (As := [.long (v1.toInt64), .long (0 : Int64), .long (60 : Int64)]) (rest := []) ⟨hx, hb, hml, hown, hts⟩ (ct_X1_in h _) (va_cwS 3 hts (lw_S q298 q299 q94 q300) rfl rfl rfl (by decide +kernel) ⟨Nat.le_trans (Nat.le_of_ble_eq_true rfl) hRf, Nat.le_trans (Nat.le_of_ble_eq_true rfl) hRl⟩) ⟨ct_blind, ct_at F hS ct_nP ct_nD⟩ rfl rfl hl.1 rfl (lv_room (Nat.le_of_ble_eq_true rfl)) dX1_tides_6 ⟨hC, hSl⟩) rfl rfl hP hS ?_
  rintro x1 _ H locs h hP hS
  refine lv_if_ne (tgt := 14) hx hb dX1_tides_9 (by decide) (fun c19 => ?_) (fun c19 => ?_)
  · replace h := h.1 c19
    refine lv_aload_n hx hb dX1_tides_14 rfl (lv_at hl 0 rfl) ?_
    refine va_get hx hb hts in_X1 hown hK hP 0 rfl rfl 2 (Nat.le_of_ble_eq_true rfl) (hts _ q186) (fun _ h => h) (v := .ref (ax 2)) rfl dX1_tides_15 ?_
    refine lv_aload_n hx hb dX1_tides_18 rfl (lv_at hl 0 rfl) ?_
    refine va_get hx hb hts in_X1 hown hK hP 0 rfl rfl 0 (Nat.le_of_ble_eq_true rfl) (hts _ q180) (fun _ h => h) (v := .ref (ax 0)) rfl dX1_tides_19 ?_
    refine cl_vL F (va_runV (As := [.ref (ax 0)]) (rest := []) ⟨hx, hb, hml, hown, hts⟩ (ct_B_be (o := (ax 2)) (ab := axb ax 2) (o2 := (ax 0)) (ab2 := axb ax 0) h _) (cwV 1 hts (lw_V q659 q660 q661 q95 q662) rfl rfl rfl (by decide +kernel) ⟨Nat.le_trans (Nat.le_of_ble_eq_true rfl) hRf, Nat.le_trans (Nat.le_of_ble_eq_true rfl) hRl⟩) ⟨ct_blind, va_recv hK hP (ci := 1) (q0 := 24) rfl rfl, ct_at F hS (putL_P hP (ps := [24, 25, 26, 27, 28, 14, 15, 16, 17, 18]) rfl) (hD.sub ([24, 25, 26, 27, 28, 14, 15, 16, 17, 18]) (by decide) rfl)⟩ rfl rfl hl.1 rfl (lv_room (Nat.le_of_ble_eq_true rfl)) dX1_tides_22 ⟨hC, hSl⟩) rfl rfl hP hD hS (ps := [24, 25, 26, 27, 28, 14, 15, 16, 17, 18]) rfl (fun _ => rfl) (fun _ => wXPP_2_0) ?_
    rintro ⟨wl2, dp3, aa4, md5, mo6, sp7, ti8⟩ H locs h hP hD hS
    refine lv_aload_n hx hb dX1_tides_25 rfl (lv_at hl 0 rfl) ?_
    refine lv_iload_n hx hb dX1_tides_26 rfl (lv_at hl 1 rfl) ?_
    refine clz_i F (vx_runV (As := [.int v1]) (rest := []) ⟨hx, hb, hml, hown, hts⟩ (cz_S_breaks hlt h _) (cwV 1 hts (lw_V q938 q940 qs28 q94 q941) rfl rfl rfl (by decide +kernel) ⟨Nat.le_trans (Nat.le_of_ble_eq_true rfl) hRf, Nat.le_trans (Nat.le_of_ble_eq_true rfl) hRl⟩) ⟨ct_blind, va_recv hK hP (ci := 0) (q0 := 0) rfl rfl, ct_at F hS hP hD⟩ rfl rfl hl.1 rfl (lv_room (Nat.le_of_ble_eq_true rfl)) dX1_tides_27 ⟨hC1, hS7⟩) hD hS ?_
    rintro x9 ⟨fd10, ar11⟩ H locs h hP hD hS
    refine lv_istore_n (lv' := [(2, .int x9), (0, .ref o), (1, .int v1)]) hx hb dX1_tides_30 rfl hl (by decide) rfl (fun ls hl => ?_)
    refine lv_aload_n hx hb dX1_tides_31 rfl (lv_at hl 1 rfl) ?_
    refine lv_iconst (v := (0 : Int32)) hx hb dX1_tides_32 (by decide) ?_
    refine pt_put (v := .int (0 : Int32)) hx hb hts in_X1 tyX1 tyX1_ok nmX1 hown hK hP hD hS 0 rfl rfl 18 (Nat.le_of_ble_eq_true rfl) (hts _ q209) (fun _ h => h) rfl (ty := .int) (by decide +kernel) rfl rfl (Nat.le_of_ble_eq_true rfl) dX1_tides_33 wXF_18 (fun H locs hP hD hS => ?_)
    refine lv_aload_n hx hb dX1_tides_36 rfl (lv_at hl 1 rfl) ?_
    refine lv_aload_n hx hb dX1_tides_37 rfl (lv_at hl 1 rfl) ?_
    refine va_get hx hb hts in_X1 hown hK hP 0 rfl rfl 2 (Nat.le_of_ble_eq_true rfl) (hts _ q186) (fun _ h => h) (v := .ref (ax 2)) rfl dX1_tides_38 ?_
    refine lv_aload_n hx hb dX1_tides_41 rfl (lv_at hl 1 rfl) ?_
    refine va_get hx hb hts in_X1 hown hK hP 0 rfl rfl 9 (Nat.le_of_ble_eq_true rfl) (hts _ q195) (fun _ h => h) (v := .int (fd10 9)) rfl dX1_tides_42 ?_
    refine cl_iL F (va_runV (As := [.int (fd10 9)]) (rest := [.ref o]) ⟨hx, hb, hml, hown, hts⟩ (ct_B_wet (o := (ax 2)) (ab := axb ax 2) h _) (cwV 1 hts (lw_V q773 q774 q775 q95 q776) rfl rfl rfl (by decide +kernel) ⟨Nat.le_trans (Nat.le_of_ble_eq_true rfl) hRf, Nat.le_trans (Nat.le_of_ble_eq_true rfl) hRl⟩) ⟨ct_blind, va_recv hK hP (ci := 1) (q0 := 24) rfl rfl, ct_at F hS (putL_P hP (ps := [24, 25, 26, 27, 28]) rfl) (hD.sub ([24, 25, 26, 27, 28]) (by decide) rfl)⟩ rfl rfl hl.1 rfl (lv_room (Nat.le_of_ble_eq_true rfl)) dX1_tides_45 ⟨hC, hSl⟩) rfl rfl hP hD hS (ps := [24, 25, 26, 27, 28]) rfl (fun _ => rfl) (fun _ => wXP_2_none) ?_
    rintro x12 _ H locs h hP hD hS
    refine cl_i0 F (va_runS (As := [.int x12]) (rest := [.ref o]) ⟨hx, hb, hml, hown, hts⟩ (ct_J10_bitCount h _) (va_cwS 1 hts (lw_S q585 q586 q112 q587) rfl rfl rfl (by decide +kernel) ⟨Nat.le_trans (Nat.le_of_ble_eq_true rfl) hRf, Nat.le_trans (Nat.le_of_ble_eq_true rfl) hRl⟩) ⟨ct_blind, ct_at F hS ct_nP ct_nD⟩ rfl rfl hl.1 rfl (lv_room (Nat.le_of_ble_eq_true rfl)) dX1_tides_48 ⟨hC, hSl⟩) rfl rfl hP hS ?_
    rintro x13 _ H locs h hP hS
    refine lv_i2l (v := (x13.toInt64)) hx hb dX1_tides_51 rfl ?_
    refine cl_v F (va_runV (As := [.long (x13.toInt64)]) (rest := []) ⟨hx, hb, hml, hown, hts⟩ (ct_S_tell h _) (cwV 1 hts (lw_V q728 q730 qs19 q94 q731) rfl rfl rfl (by decide +kernel) ⟨Nat.le_trans (Nat.le_of_ble_eq_true rfl) hRf, Nat.le_trans (Nat.le_of_ble_eq_true rfl) hRl⟩) ⟨ct_blind, va_recv hK hP (ci := 0) (q0 := 0) rfl rfl, ct_at F hS hP hD⟩ rfl rfl hl.1 rfl (lv_room (Nat.le_of_ble_eq_true rfl)) dX1_tides_52 ⟨hC, hSl⟩) rfl rfl hD hS ?_
    rintro ⟨fd14, lw15⟩ H locs h hP hD hS
    refine lv_aload_n hx hb dX1_tides_55 rfl (lv_at hl 1 rfl) ?_
    refine lv_aload_n hx hb dX1_tides_56 rfl (lv_at hl 1 rfl) ?_
    refine va_get hx hb hts in_X1 hown hK hP 0 rfl rfl 2 (Nat.le_of_ble_eq_true rfl) (hts _ q186) (fun _ h => h) (v := .ref (ax 2)) rfl dX1_tides_57 ?_
    refine va_get hx hb hts in_X2 hown hK hP 24 rfl rfl 1 (Nat.le_of_ble_eq_true rfl) (hts _ q137) (fun _ h => h) (v := .ref (ax 49)) rfl dX1_tides_60 ?_
    refine cl_iL F (va_runS (As := [.ref (ax 49)]) (rest := [.ref o]) ⟨hx, hb, hml, hown, hts⟩ (ct_A_sum  h _) (va_cwS 1 hts (lw_S q745 q746 q95 q747) rfl rfl rfl (by decide +kernel) ⟨Nat.le_trans (Nat.le_of_ble_eq_true rfl) hRf, Nat.le_trans (Nat.le_of_ble_eq_true rfl) hRl⟩) ⟨ct_blind, ct_at F hS (putL_P hP (ps := [26]) rfl) (hD.sub ([26]) (by decide) rfl)⟩ rfl rfl hl.1 rfl (lv_room (Nat.le_of_ble_eq_true rfl)) dX1_tides_63 ⟨hC, hSl⟩) rfl rfl hP hD hS (ps := [26]) rfl (fun _ => rfl) (fun _ => wXI_49) ?_
    rintro x16 _ H locs h hP hD hS
    refine lv_i2l (v := (x16.toInt64)) hx hb dX1_tides_66 rfl ?_
    refine cl_v F (va_runV (As := [.long (x16.toInt64)]) (rest := []) ⟨hx, hb, hml, hown, hts⟩ (ct_S_tell h _) (cwV 1 hts (lw_V q728 q730 qs19 q94 q731) rfl rfl rfl (by decide +kernel) ⟨Nat.le_trans (Nat.le_of_ble_eq_true rfl) hRf, Nat.le_trans (Nat.le_of_ble_eq_true rfl) hRl⟩) ⟨ct_blind, va_recv hK hP (ci := 0) (q0 := 0) rfl rfl, ct_at F hS hP hD⟩ rfl rfl hl.1 rfl (lv_room (Nat.le_of_ble_eq_true rfl)) dX1_tides_67 ⟨hC, hSl⟩) rfl rfl hD hS ?_
    rintro ⟨fd17, lw18⟩ H locs h hP hD hS
    refine lv_iload_n hx hb dX1_tides_70 rfl (lv_at hl 0 rfl) ?_
    exact vx_ret (rt_i F dX1_tides_71 rfl (fd17, ar11, lw18) h hP hD hS (Nat.le_refl _) (Nat.le_refl _))
  · replace h := h.2 c19
    refine lv_iconst (v := (-1 : Int32)) hx hb dX1_tides_12 (by decide) ?_
    exact vx_ret (rt_i F dX1_tides_13 rfl (fd, ar, lw) h hP hD hS (Nat.le_refl _) (Nat.le_refl _))
