/-! X1_level -/
set_option maxRecDepth 100000
set_option maxHeartbeats 4000000 in
theorem cz_S_level {l : Launch} {V : evT} {D : va_G} {gI : Nat → ClassId} {o : Nat} {ax : Nat → Nat} {tl : va_W} (hlt : l.stackTraces = false) {v1 : Int32} {fd : Nat → Int32} {ar : Nat → Nat → Int32} {lw : Nat → Int64} {hh : HT} {rn : Option (Nat × Nat)} {Q : Int32 → (Nat → Int32) → (Nat → Int64) → Prop} (h : wp_S_level v1 fd ar lw hh rn Q) : cz_i l V D (tyL gI) yX1_level cX1_level 3 .int { frames := 212, cells := 1, slots := 7, locals := 5037 } [.ref o, .int v1] (wX gI o ax rn tl fd ar lw hh) (fun u : (Nat → Int32) × (Nat → Int64) => (wX gI o ax rn tl u.1 ar u.2 hh)) (fun (x : Int32) (u : (Nat → Int32) × (Nat → Int64)) => Q x u.1 u.2) := by
  refine cz_ofi RX1 rfl (by decide +kernel) (Nat.le_of_ble_eq_true rfl) ?_
  intro p e s m args below meth c A F hP hD ls hl
  obtain ⟨⟨hx, hb, hml, hown, hts⟩, hr, hlocks, hA, hK, hE⟩ := id F
  have hS : va_S A s.heap s.heap [] := va_S.rf
  have hl : lv_has ls 3 [(0, .ref o), (1, .int v1)] := hl
  have hRf : 212 ≤ ({ frames := 212, cells := 1, slots := 7, locals := 5037 } : Room).frames := Nat.le_refl _
  have hC1 : 1 ≤ ({ frames := 212, cells := 1, slots := 7, locals := 5037 } : Room).cells := Nat.le_refl _
  have hS7 : 7 ≤ ({ frames := 212, cells := 1, slots := 7, locals := 5037 } : Room).slots := Nat.le_refl _
  have hRl : 5037 ≤ ({ frames := 212, cells := 1, slots := 7, locals := 5037 } : Room).locals := Nat.le_refl _
  have hC : 0 ≤ ({ frames := 212, cells := 1, slots := 7, locals := 5037 } : Room).cells := Nat.zero_le _
  have hSl : 0 ≤ ({ frames := 212, cells := 1, slots := 7, locals := 5037 } : Room).slots := Nat.zero_le _
  unfold wp_S_level at h
  refine lv_iload_n hx hb dX1_level_0 rfl (lv_at hl 1 rfl) ?_
  refine lv_i2l (v := (v1.toInt64)) hx hb dX1_level_1 rfl ?_
  refine lv_lconst (v := (0 : Int64)) hx hb dX1_level_2 (by decide) ?_
  refine lv_ldc2 (v := (99 : Int64)) hx hb hown (hts _ q772) dX1_level_3 ?_
  refine cl_i0 F (va_runS (As := [.long (v1.toInt64), .long (0 : Int64), .long (99 : Int64)]) (rest := []) ⟨hx, hb, hml, hown, hts⟩ (ct_X1_in h _) (va_cwS 3 hts (lw_S q298 q299 q94 q300) rfl rfl rfl (by decide +kernel) ⟨Nat.le_trans (Nat.le_of_ble_eq_true rfl) hRf, Nat.le_trans (Nat.le_of_ble_eq_true rfl) hRl⟩) ⟨ct_blind, ct_at F hS ct_nP ct_nD⟩ rfl rfl hl.1 rfl (lv_room (Nat.le_of_ble_eq_true rfl)) dX1_level_6 ⟨hC, hSl⟩) rfl rfl hP hS ?_
  rintro x1 _ H locs h hP hS
  refine lv_if_ne (tgt := 14) hx hb dX1_level_9 (by decide) (fun c7 => ?_) (fun c7 => ?_)
  · replace h := h.1 c7
    refine lv_aload_n hx hb dX1_level_14 rfl (lv_at hl 0 rfl) ?_
    refine lv_aload_n hx hb dX1_level_15 rfl (lv_at hl 0 rfl) ?_
    refine va_get hx hb hts in_X1 hown hK hP 0 rfl rfl 0 (Nat.le_of_ble_eq_true rfl) (hts _ q180) (fun _ h => h) (v := .ref (ax 0)) rfl dX1_level_16 ?_
    refine lv_aload_n hx hb dX1_level_19 rfl (lv_at hl 0 rfl) ?_
    refine va_get hx hb hts in_X1 hown hK hP 0 rfl rfl 0 (Nat.le_of_ble_eq_true rfl) (hts _ q180) (fun _ h => h) (v := .ref (ax 0)) rfl dX1_level_20 ?_
    refine va_get hx hb hts in_X2 hown hK hP 14 rfl rfl 6 (Nat.le_of_ble_eq_true rfl) (hts _ q151) (fun _ h => h) (v := .int (fd 62)) rfl dX1_level_23 ?_
    refine lv_iload_n hx hb dX1_level_26 rfl (lv_at hl 1 rfl) ?_
    refine lv_iadd hx hb dX1_level_27 ?_
    refine clz_i F (vx_runV (As := [.ref (ax 0), .int ((fd 62) + v1)]) (rest := []) ⟨hx, hb, hml, hown, hts⟩ (cz_S_levelOf_i0 hlt h _) (cwV 2 hts (lw_V q736 q738 qs20 q94 q739) rfl rfl rfl (by decide +kernel) ⟨Nat.le_trans (Nat.le_of_ble_eq_true rfl) hRf, Nat.le_trans (Nat.le_of_ble_eq_true rfl) hRl⟩) ⟨ct_blind, va_recv hK hP (ci := 0) (q0 := 0) rfl rfl, ct_at F hS hP hD⟩ rfl rfl hl.1 rfl (lv_room (Nat.le_of_ble_eq_true rfl)) dX1_level_28 ⟨hC1, hS7⟩) hD hS ?_
    rintro x2 fd3 H locs h hP hD hS
    refine lv_istore_n (lv' := [(2, .int x2), (0, .ref o), (1, .int v1)]) hx hb dX1_level_31 rfl hl (by decide) rfl (fun ls hl => ?_)
    refine lv_aload_n hx hb dX1_level_32 rfl (lv_at hl 1 rfl) ?_
    refine lv_iconst (v := (0 : Int32)) hx hb dX1_level_33 (by decide) ?_
    refine pt_put (v := .int (0 : Int32)) hx hb hts in_X1 tyX1 tyX1_ok nmX1 hown hK hP hD hS 0 rfl rfl 18 (Nat.le_of_ble_eq_true rfl) (hts _ q209) (fun _ h => h) rfl (ty := .int) (by decide +kernel) rfl rfl (Nat.le_of_ble_eq_true rfl) dX1_level_34 wXF_18 (fun H locs hP hD hS => ?_)
    refine lv_aload_n hx hb dX1_level_37 rfl (lv_at hl 1 rfl) ?_
    refine lv_aload_n hx hb dX1_level_38 rfl (lv_at hl 1 rfl) ?_
    refine lv_aload_n hx hb dX1_level_39 rfl (lv_at hl 1 rfl) ?_
    refine va_get hx hb hts in_X1 hown hK hP 0 rfl rfl 0 (Nat.le_of_ble_eq_true rfl) (hts _ q180) (fun _ h => h) (v := .ref (ax 0)) rfl dX1_level_40 ?_
    refine lv_iload_n hx hb dX1_level_43 rfl (lv_at hl 0 rfl) ?_
    refine cl_i F (va_runV (As := [.ref (ax 0), .int x2]) (rest := [.ref o]) ⟨hx, hb, hml, hown, hts⟩ (ct_S_below_i0 h _) (cwV 2 hts (lw_V q752 q754 qs22 q94 q755) rfl rfl rfl (by decide +kernel) ⟨Nat.le_trans (Nat.le_of_ble_eq_true rfl) hRf, Nat.le_trans (Nat.le_of_ble_eq_true rfl) hRl⟩) ⟨ct_blind, va_recv hK hP (ci := 0) (q0 := 0) rfl rfl, ct_at F hS hP hD⟩ rfl rfl hl.1 rfl (lv_room (Nat.le_of_ble_eq_true rfl)) dX1_level_44 ⟨hC, hSl⟩) rfl rfl hD hS ?_
    rintro x4 _ H locs h hP hD hS
    refine lv_i2l (v := (x4.toInt64)) hx hb dX1_level_47 rfl ?_
    refine cl_v F (va_runV (As := [.long (x4.toInt64)]) (rest := []) ⟨hx, hb, hml, hown, hts⟩ (ct_S_tell h _) (cwV 1 hts (lw_V q728 q730 qs19 q94 q731) rfl rfl rfl (by decide +kernel) ⟨Nat.le_trans (Nat.le_of_ble_eq_true rfl) hRf, Nat.le_trans (Nat.le_of_ble_eq_true rfl) hRl⟩) ⟨ct_blind, va_recv hK hP (ci := 0) (q0 := 0) rfl rfl, ct_at F hS hP hD⟩ rfl rfl hl.1 rfl (lv_room (Nat.le_of_ble_eq_true rfl)) dX1_level_48 ⟨hC, hSl⟩) rfl rfl hD hS ?_
    rintro ⟨fd5, lw6⟩ H locs h hP hD hS
    refine lv_iload_n hx hb dX1_level_51 rfl (lv_at hl 0 rfl) ?_
    exact vx_ret (rt_i F dX1_level_52 rfl (fd5, lw6) h hP hD hS (Nat.le_refl _) (Nat.le_refl _))
  · replace h := h.2 c7
    refine lv_iconst (v := (-1 : Int32)) hx hb dX1_level_12 (by decide) ?_
    exact vx_ret (rt_i F dX1_level_13 rfl (fd, lw) h hP hD hS (Nat.le_refl _) (Nat.le_refl _))
