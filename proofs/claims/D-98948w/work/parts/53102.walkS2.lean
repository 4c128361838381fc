/-! X1_tide -/
set_option maxRecDepth 100000
set_option maxHeartbeats 4000000 in
theorem cz_S_tide {l : Launch} {V : evT} {D : va_G} {gI : Nat → ClassId} {o : Nat} {ax : Nat → Nat} {tl : va_W} (hlt : l.stackTraces = false) {fd : Nat → Int32} {ar : Nat → Nat → Int32} {lw : Nat → Int64} {hh : HT} {rn : Option (Nat × Nat)} {Q : Int32 → (Nat → Int32) → (Nat → Nat → Int32) → (Nat → Int64) → (HT) → Prop} (h : wp_S_tide fd ar lw hh rn Q) : cz_i l V D (tyL gI) yX1_tide cX1_tide 4 .int { frames := 213, cells := 1, slots := 7, locals := 5062 } [.ref o] (wX gI o ax rn tl fd ar lw hh) (fun u : (Nat → Int32) × (Nat → Nat → Int32) × (Nat → Int64) × (HT) => (wX gI o ax rn tl u.1 u.2.1 u.2.2.1 u.2.2.2)) (fun (x : Int32) (u : (Nat → Int32) × (Nat → Nat → Int32) × (Nat → Int64) × (HT)) => Q x u.1 u.2.1 u.2.2.1 u.2.2.2) := by
  refine cz_ofi RX1 rfl (by decide +kernel) (Nat.le_of_ble_eq_true rfl) ?_
  intro p e s m args below meth c A F hP hD ls hl
  obtain ⟨⟨hx, hb, hml, hown, hts⟩, hr, hlocks, hA, hK, hE⟩ := id F
  have hS : va_S A s.heap s.heap [] := va_S.rf
  have hl : lv_has ls 4 [(0, .ref o)] := hl
  have hRf : 213 ≤ ({ frames := 213, cells := 1, slots := 7, locals := 5062 } : Room).frames := Nat.le_refl _
  have hC1 : 1 ≤ ({ frames := 213, cells := 1, slots := 7, locals := 5062 } : Room).cells := Nat.le_refl _
  have hS7 : 7 ≤ ({ frames := 213, cells := 1, slots := 7, locals := 5062 } : Room).slots := Nat.le_refl _
  have hRl : 5062 ≤ ({ frames := 213, cells := 1, slots := 7, locals := 5062 } : Room).locals := Nat.le_refl _
  have hC : 0 ≤ ({ frames := 213, cells := 1, slots := 7, locals := 5062 } : Room).cells := Nat.zero_le _
  have hSl : 0 ≤ ({ frames := 213, cells := 1, slots := 7, locals := 5062 } : Room).slots := Nat.zero_le _
  unfold wp_S_tide at h
  refine lv_aload_n hx hb dX1_tide_0 rfl (lv_at hl 0 rfl) ?_
  refine lv_aload_n hx hb dX1_tide_1 rfl (lv_at hl 0 rfl) ?_
  refine va_get hx hb hts in_X1 hown hK hP 0 rfl rfl 0 (Nat.le_of_ble_eq_true rfl) (hts _ q180) (fun _ h => h) (v := .ref (ax 0)) rfl dX1_tide_2 ?_
  refine cl_v F (va_runV (As := [.ref (ax 0)]) (rest := []) ⟨hx, hb, hml, hown, hts⟩ (ct_S_remember_i0 h _) (cwV 1 hts (lw_V q655 q657 qs10 q94 q658) rfl rfl rfl (by decide +kernel) ⟨Nat.le_trans (Nat.le_of_ble_eq_true rfl) hRf, Nat.le_trans (Nat.le_of_ble_eq_true rfl) hRl⟩) ⟨ct_blind, va_recv hK hP (ci := 0) (q0 := 0) rfl rfl, ct_at F hS hP hD⟩ rfl rfl hl.1 rfl (lv_room (Nat.le_of_ble_eq_true rfl)) dX1_tide_5 ⟨hC, hSl⟩) rfl rfl hD hS ?_
  rintro ⟨fd1, hh2⟩ H locs h hP hD hS
  refine lv_aload_n hx hb dX1_tide_8 rfl (lv_at hl 0 rfl) ?_
  refine lv_aload_n hx hb dX1_tide_9 rfl (lv_at hl 0 rfl) ?_
  refine va_get hx hb hts in_X1 hown hK hP 0 rfl rfl 0 (Nat.le_of_ble_eq_true rfl) (hts _ q180) (fun _ h => h) (v := .ref (ax 0)) rfl dX1_tide_10 ?_
  refine lv_aload_n hx hb dX1_tide_13 rfl (lv_at hl 0 rfl) ?_
  refine va_get hx hb hts in_X1 hown hK hP 0 rfl rfl 0 (Nat.le_of_ble_eq_true rfl) (hts _ q180) (fun _ h => h) (v := .ref (ax 0)) rfl dX1_tide_14 ?_
  refine va_get hx hb hts in_X2 hown hK hP 14 rfl rfl 6 (Nat.le_of_ble_eq_true rfl) (hts _ q151) (fun _ h => h) (v := .int (fd1 62)) rfl dX1_tide_17 ?_
  refine clz_i F (vx_runV (As := [.ref (ax 0), .int (fd1 62)]) (rest := []) ⟨hx, hb, hml, hown, hts⟩ (cz_S_levelOf_i0 hlt h _) (cwV 2 hts (lw_V q736 q738 qs20 q94 q739) rfl rfl rfl (by decide +kernel) ⟨Nat.le_trans (Nat.le_of_ble_eq_true rfl) hRf, Nat.le_trans (Nat.le_of_ble_eq_true rfl) hRl⟩) ⟨ct_blind, va_recv hK hP (ci := 0) (q0 := 0) rfl rfl, ct_at F hS hP hD⟩ rfl rfl hl.1 rfl (lv_room (Nat.le_of_ble_eq_true rfl)) dX1_tide_20 ⟨hC1, hS7⟩) hD hS ?_
  rintro x3 fd4 H locs h hP hD hS
  refine lv_istore_n (lv' := [(1, .int x3), (0, .ref o)]) hx hb dX1_tide_23 rfl hl (by decide) rfl (fun ls hl => ?_)
  refine lv_aload_n hx hb dX1_tide_24 rfl (lv_at hl 1 rfl) ?_
  refine va_get hx hb hts in_X1 hown hK hP 0 rfl rfl 0 (Nat.le_of_ble_eq_true rfl) (hts _ q180) (fun _ h => h) (v := .ref (ax 0)) rfl dX1_tide_25 ?_
  refine va_get hx hb hts in_X2 hown hK hP 14 rfl rfl 1 (Nat.le_of_ble_eq_true rfl) (hts _ q137) (fun _ h => h) (v := .ref (ax 41)) rfl dX1_tide_28 ?_
  refine cl_iL F (va_runS (As := [.ref (ax 41)]) (rest := []) ⟨hx, hb, hml, hown, hts⟩ (ct_A_sum  h _) (va_cwS 1 hts (lw_S q745 q746 q95 q747) rfl rfl rfl (by decide +kernel) ⟨Nat.le_trans (Nat.le_of_ble_eq_true rfl) hRf, Nat.le_trans (Nat.le_of_ble_eq_true rfl) hRl⟩) ⟨ct_blind, ct_at F hS (putL_P hP (ps := [16]) rfl) (hD.sub ([16]) (by decide) rfl)⟩ rfl rfl hl.1 rfl (lv_room (Nat.le_of_ble_eq_true rfl)) dX1_tide_31 ⟨hC, hSl⟩) rfl rfl hP hD hS (ps := [16]) rfl (fun _ => rfl) (fun _ => wXI_41) ?_
  rintro x5 _ H locs h hP hD hS
  refine lv_istore_n (lv' := [(2, .int x5), (1, .int x3), (0, .ref o)]) hx hb dX1_tide_34 rfl hl (by decide) rfl (fun ls hl => ?_)
  refine lv_aload_n hx hb dX1_tide_35 rfl (lv_at hl 2 rfl) ?_
  refine lv_aload_n hx hb dX1_tide_36 rfl (lv_at hl 2 rfl) ?_
  refine va_get hx hb hts in_X1 hown hK hP 0 rfl rfl 0 (Nat.le_of_ble_eq_true rfl) (hts _ q180) (fun _ h => h) (v := .ref (ax 0)) rfl dX1_tide_37 ?_
  refine clz_i F (vx_runV (As := [.ref (ax 0)]) (rest := []) ⟨hx, hb, hml, hown, hts⟩ (cz_S_goTide_i0 hlt h _) (cwV 1 hts (lw_V q748 q750 qs21 q94 q751) rfl rfl rfl (by decide +kernel) ⟨Nat.le_trans (Nat.le_of_ble_eq_true rfl) hRf, Nat.le_trans (Nat.le_of_ble_eq_true rfl) hRl⟩) ⟨ct_blind, va_recv hK hP (ci := 0) (q0 := 0) rfl rfl, ct_at F hS hP hD⟩ rfl rfl hl.1 rfl (lv_room (Nat.le_of_ble_eq_true rfl)) dX1_tide_40 ⟨hC1, hS7⟩) hD hS ?_
  rintro x6 ⟨fd7, ar8⟩ H locs h hP hD hS
  refine lv_istore_n (lv' := [(3, .int x6), (2, .int x5), (1, .int x3), (0, .ref o)]) hx hb dX1_tide_43 rfl hl (by decide) rfl (fun ls hl => ?_)
  refine lv_aload_n hx hb dX1_tide_44 rfl (lv_at hl 3 rfl) ?_
  refine lv_iconst (v := (0 : Int32)) hx hb dX1_tide_45 (by decide) ?_
  refine pt_put (v := .int (0 : Int32)) hx hb hts in_X1 tyX1 tyX1_ok nmX1 hown hK hP hD hS 0 rfl rfl 18 (Nat.le_of_ble_eq_true rfl) (hts _ q209) (fun _ h => h) rfl (ty := .int) (by decide +kernel) rfl rfl (Nat.le_of_ble_eq_true rfl) dX1_tide_46 wXF_18 (fun H locs hP hD hS => ?_)
  refine lv_aload_n hx hb dX1_tide_49 rfl (lv_at hl 3 rfl) ?_
  refine lv_iload_n hx hb dX1_tide_50 rfl (lv_at hl 2 rfl) ?_
  refine lv_i2l (v := (x3.toInt64)) hx hb dX1_tide_51 rfl ?_
  refine cl_v F (va_runV (As := [.long (x3.toInt64)]) (rest := []) ⟨hx, hb, hml, hown, hts⟩ (ct_S_tell h _) (cwV 1 hts (lw_V q728 q730 qs19 q94 q731) rfl rfl rfl (by decide +kernel) ⟨Nat.le_trans (Nat.le_of_ble_eq_true rfl) hRf, Nat.le_trans (Nat.le_of_ble_eq_true rfl) hRl⟩) ⟨ct_blind, va_recv hK hP (ci := 0) (q0 := 0) rfl rfl, ct_at F hS hP hD⟩ rfl rfl hl.1 rfl (lv_room (Nat.le_of_ble_eq_true rfl)) dX1_tide_52 ⟨hC, hSl⟩) rfl rfl hD hS ?_
  rintro ⟨fd9, lw10⟩ H locs h hP hD hS
  refine lv_aload_n hx hb dX1_tide_55 rfl (lv_at hl 3 rfl) ?_
  refine lv_aload_n hx hb dX1_tide_56 rfl (lv_at hl 3 rfl) ?_
  refine va_get hx hb hts in_X1 hown hK hP 0 rfl rfl 0 (Nat.le_of_ble_eq_true rfl) (hts _ q180) (fun _ h => h) (v := .ref (ax 0)) rfl dX1_tide_57 ?_
  refine va_get hx hb hts in_X2 hown hK hP 14 rfl rfl 1 (Nat.le_of_ble_eq_true rfl) (hts _ q137) (fun _ h => h) (v := .ref (ax 41)) rfl dX1_tide_60 ?_
  refine cl_iL F (va_runS (As := [.ref (ax 41)]) (rest := [.ref o]) ⟨hx, hb, hml, hown, hts⟩ (ct_A_sum  h _) (va_cwS 1 hts (lw_S q745 q746 q95 q747) rfl rfl rfl (by decide +kernel) ⟨Nat.le_trans (Nat.le_of_ble_eq_true rfl) hRf, Nat.le_trans (Nat.le_of_ble_eq_true rfl) hRl⟩) ⟨ct_blind, ct_at F hS (putL_P hP (ps := [16]) rfl) (hD.sub ([16]) (by decide) rfl)⟩ rfl rfl hl.1 rfl (lv_room (Nat.le_of_ble_eq_true rfl)) dX1_tide_63 ⟨hC, hSl⟩) rfl rfl hP hD hS (ps := [16]) rfl (fun _ => rfl) (fun _ => wXI_41) ?_
  rintro x11 _ H locs h hP hD hS
  refine lv_iload_n hx hb dX1_tide_66 rfl (lv_at hl 1 rfl) ?_
  refine lv_isub hx hb dX1_tide_67 ?_
  refine lv_i2l (v := ((x11 - x5).toInt64)) hx hb dX1_tide_68 rfl ?_
  refine cl_v F (va_runV (As := [.long ((x11 - x5).toInt64)]) (rest := []) ⟨hx, hb, hml, hown, hts⟩ (ct_S_tell h _) (cwV 1 hts (lw_V q728 q730 qs19 q94 q731) rfl rfl rfl (by decide +kernel) ⟨Nat.le_trans (Nat.le_of_ble_eq_true rfl) hRf, Nat.le_trans (Nat.le_of_ble_eq_true rfl) hRl⟩) ⟨ct_blind, va_recv hK hP (ci := 0) (q0 := 0) rfl rfl, ct_at F hS hP hD⟩ rfl rfl hl.1 rfl (lv_room (Nat.le_of_ble_eq_true rfl)) dX1_tide_69 ⟨hC, hSl⟩) rfl rfl hD hS ?_
  rintro ⟨fd12, lw13⟩ H locs h hP hD hS
  refine lv_iload_n hx hb dX1_tide_72 rfl (lv_at hl 0 rfl) ?_
  exact vx_ret (rt_i F dX1_tide_73 rfl (fd12, ar8, lw13, hh2) h hP hD hS (Nat.le_refl _) (Nat.le_refl _))
