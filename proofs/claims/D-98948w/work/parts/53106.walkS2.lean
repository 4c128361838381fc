/-! X1_holds -/
set_option maxRecDepth 100000
set_option maxHeartbeats 4000000 in
theorem cz_S_holds {l : Launch} {V : evT} {D : va_G} {gI : Nat → ClassId} {o : Nat} {ax : Nat → Nat} {tl : va_W} (hlt : l.stackTraces = false) {fd : Nat → Int32} {ar : Nat → Nat → Int32} {lw : Nat → Int64} {hh : HT} {rn : Option (Nat × Nat)} {Q : Int32 → (Nat → Int32) → (Nat → Nat → Int32) → (Nat → Int64) → Prop} (h : wp_S_holds fd ar lw hh rn Q) : cz_i l V D (tyL gI) yX1_holds cX1_holds 2 .int { frames := 214, cells := 1, slots := 7, locals := 5083 } [.ref o] (wX gI o ax rn tl fd ar lw hh) (fun u : (Nat → Int32) × (Nat → Nat → Int32) × (Nat → Int64) => (wX gI o ax rn tl u.1 u.2.1 u.2.2 hh)) (fun (x : Int32) (u : (Nat → Int32) × (Nat → Nat → Int32) × (Nat → Int64)) => Q x u.1 u.2.1 u.2.2) := by
  refine cz_ofi RX1 rfl (by decide +kernel) (Nat.le_of_ble_eq_true rfl) ?_
  intro p e s m args below meth c A F hP hD ls hl
  obtain ⟨⟨hx, hb, hml, hown, hts⟩, hr, hlocks, hA, hK, hE⟩ := id F
  have hS : va_S A s.heap s.heap [] := va_S.rf
  have hl : lv_has ls 2 [(0, .ref o)] := hl
  have hRf : 214 ≤ ({ frames := 214, cells := 1, slots := 7, locals := 5083 } : Room).frames := Nat.le_refl _
  have hC1 : 1 ≤ ({ frames := 214, cells := 1, slots := 7, locals := 5083 } : Room).cells := Nat.le_refl _
  have hS7 : 7 ≤ ({ frames := 214, cells := 1, slots := 7, locals := 5083 } : Room).slots := Nat.le_refl _
  have hRl : 5083 ≤ ({ frames := 214, cells := 1, slots := 7, locals := 5083 } : Room).locals := Nat.le_refl _
  have hC : 0 ≤ ({ frames := 214, cells := 1, slots := 7, locals := 5083 } : Room).cells := Nat.zero_le _
  have hSl : 0 ≤ ({ frames := 214, cells := 1, slots := 7, locals := 5083 } : Room).slots := Nat.zero_le _
  unfold wp_S_holds at h
  refine lv_aload_n hx hb dX1_holds_0 rfl (lv_at hl 0 rfl) ?_
  refine va_get hx hb hts in_X1 hown hK hP 0 rfl rfl 2 (Nat.le_of_ble_eq_true rfl) (hts _ q186) (fun _ h => h) (v := .ref (ax 2)) rfl dX1_holds_1 ?_
  refine lv_aload_n hx hb dX1_holds_4 rfl (lv_at hl 0 rfl) ?_
  refine va_get hx hb hts in_X1 hown hK hP 0 rfl rfl 0 (Nat.le_of_ble_eq_true rfl) (hts _ q180) (fun _ h => h) (v := .ref (ax 0)) rfl dX1_holds_5 ?_
  refine cl_vL F (va_runV (As := [.ref (ax 0)]) (rest := []) ⟨hx, hb, hml, hown, hts⟩ (ct_B_be (o := (ax 2)) (ab := axb ax 2) (o2 := (ax 0)) (ab2 := axb ax 0) h _) (cwV 1 hts (lw_V q659 q660 q661 q95 q662) rfl rfl rfl (by decide +kernel) ⟨Nat.le_trans (Nat.le_of_ble_eq_true rfl) hRf, Nat.le_trans (Nat.le_of_ble_eq_true rfl) hRl⟩) ⟨ct_blind, va_recv hK hP (ci := 1) (q0 := 24) rfl rfl, ct_at F hS (putL_P hP (ps := [24, 25, 26, 27, 28, 14, 15, 16, 17, 18]) rfl) (hD.sub ([24, 25, 26, 27, 28, 14, 15, 16, 17, 18]) (by decide) rfl)⟩ rfl rfl hl.1 rfl (lv_room (Nat.le_of_ble_eq_true rfl)) dX1_holds_8 ⟨hC, hSl⟩) rfl rfl hP hD hS (ps := [24, 25, 26, 27, 28, 14, 15, 16, 17, 18]) rfl (fun _ => rfl) (fun _ => wXPP_2_0) ?_
  rintro ⟨wl1, dp2, aa3, md4, mo5, sp6, ti7⟩ H locs h hP hD hS
  refine lv_aload_n hx hb dX1_holds_11 rfl (lv_at hl 0 rfl) ?_
  refine clz_i F (vx_runV (As := []) (rest := []) ⟨hx, hb, hml, hown, hts⟩ (cz_S_holdsOn hlt h _) (cwV 0 hts (lw_V q929 q931 qs27 q94 q932) rfl rfl rfl (by decide +kernel) ⟨Nat.le_trans (Nat.le_of_ble_eq_true rfl) hRf, Nat.le_trans (Nat.le_of_ble_eq_true rfl) hRl⟩) ⟨ct_blind, va_recv hK hP (ci := 0) (q0 := 0) rfl rfl, ct_at F hS hP hD⟩ rfl rfl hl.1 rfl (lv_room (Nat.le_of_ble_eq_true rfl)) dX1_holds_12 ⟨hC1, hS7⟩) hD hS ?_
  rintro x8 ⟨fd9, ar10⟩ H locs h hP hD hS
  refine lv_istore_n (lv' := [(1, .int x8), (0, .ref o)]) hx hb dX1_holds_15 rfl hl (by decide) rfl (fun ls hl => ?_)
  refine lv_iload_n hx hb dX1_holds_16 rfl (lv_at hl 0 rfl) ?_
  refine lv_bipush (v := (99 : Int32)) hx hb dX1_holds_17 (by decide) ?_
  refine lv_icmp_le (tgt := 25) hx hb dX1_holds_19 (by decide) (fun c15 => ?_) (fun c15 => ?_)
  · replace h := h.1 c15
    refine lv_aload_n hx hb dX1_holds_25 rfl (lv_at hl 1 rfl) ?_
    refine lv_iconst (v := (0 : Int32)) hx hb dX1_holds_26 (by decide) ?_
    refine pt_put (v := .int (0 : Int32)) hx hb hts in_X1 tyX1 tyX1_ok nmX1 hown hK hP hD hS 0 rfl rfl 18 (Nat.le_of_ble_eq_true rfl) (hts _ q209) (fun _ h => h) rfl (ty := .int) (by decide +kernel) rfl rfl (Nat.le_of_ble_eq_true rfl) dX1_holds_27 wXF_18 (fun H locs hP hD hS => ?_)
    refine lv_aload_n hx hb dX1_holds_30 rfl (lv_at hl 1 rfl) ?_
    refine lv_aload_n hx hb dX1_holds_31 rfl (lv_at hl 1 rfl) ?_
    refine va_get hx hb hts in_X1 hown hK hP 0 rfl rfl 22 (Nat.le_of_ble_eq_true rfl) (hts _ q213) (fun _ h => h) (v := .int (fd9 22)) rfl dX1_holds_32 ?_
    refine lv_i2l (v := ((fd9 22).toInt64)) hx hb dX1_holds_35 rfl ?_
    refine cl_v F (va_runV (As := [.long ((fd9 22).toInt64)]) (rest := []) ⟨hx, hb, hml, hown, hts⟩ (ct_S_tell h _) (cwV 1 hts (lw_V q728 q730 qs19 q94 q731) rfl rfl rfl (by decide +kernel) ⟨Nat.le_trans (Nat.le_of_ble_eq_true rfl) hRf, Nat.le_trans (Nat.le_of_ble_eq_true rfl) hRl⟩) ⟨ct_blind, va_recv hK hP (ci := 0) (q0 := 0) rfl rfl, ct_at F hS hP hD⟩ rfl rfl hl.1 rfl (lv_room (Nat.le_of_ble_eq_true rfl)) dX1_holds_36 ⟨hC, hSl⟩) rfl rfl hD hS ?_
    rintro ⟨fd11, lw12⟩ H locs h hP hD hS
    refine lv_aload_n hx hb dX1_holds_39 rfl (lv_at hl 1 rfl) ?_
    refine lv_aload_n hx hb dX1_holds_40 rfl (lv_at hl 1 rfl) ?_
    refine va_get hx hb hts in_X1 hown hK hP 0 rfl rfl 21 (Nat.le_of_ble_eq_true rfl) (hts _ q212) (fun _ h => h) (v := .int (fd11 21)) rfl dX1_holds_41 ?_
    refine lv_i2l (v := ((fd11 21).toInt64)) hx hb dX1_holds_44 rfl ?_
    refine cl_v F (va_runV (As := [.long ((fd11 21).toInt64)]) (rest := []) ⟨hx, hb, hml, hown, hts⟩ (ct_S_tell h _) (cwV 1 hts (lw_V q728 q730 qs19 q94 q731) rfl rfl rfl (by decide +kernel) ⟨Nat.le_trans (Nat.le_of_ble_eq_true rfl) hRf, Nat.le_trans (Nat.le_of_ble_eq_true rfl) hRl⟩) ⟨ct_blind, va_recv hK hP (ci := 0) (q0 := 0) rfl rfl, ct_at F hS hP hD⟩ rfl rfl hl.1 rfl (lv_room (Nat.le_of_ble_eq_true rfl)) dX1_holds_45 ⟨hC, hSl⟩) rfl rfl hD hS ?_
    rintro ⟨fd13, lw14⟩ H locs h hP hD hS
    refine lv_iload_n hx hb dX1_holds_48 rfl (lv_at hl 0 rfl) ?_
    exact vx_ret (rt_i F dX1_holds_49 rfl (fd13, ar10, lw14) h hP hD hS (Nat.le_refl _) (Nat.le_refl _))
  · replace h := h.2 c15
    refine lv_bipush (v := (-2 : Int32)) hx hb dX1_holds_22 (by decide) ?_
    exact vx_ret (rt_i F dX1_holds_24 rfl (fd9, ar10, lw) h hP hD hS (Nat.le_refl _) (Nat.le_refl _))
