/-! X1_post -/
set_option maxRecDepth 100000
set_option maxHeartbeats 8000000 in
theorem ct_S_post {l : Launch} {V : evT} {D : va_G} {gI : Nat → ClassId} {o : Nat} {ax : Nat → Nat} {tl : va_W} (hlt : l.stackTraces = false) {v1 : Int32} {v2 : Int32} {fd : Nat → Int32} {ar : Nat → Nat → Int32} {lw : Nat → Int64} {hh : HT} {rn : Option (Nat × Nat)} {Q : Int32 → (Nat → Int32) → (Nat → Nat → Int32) → (Nat → Int64) → Prop} (h : wp_S_post v1 v2 fd ar lw hh rn Q) : ct_i l V D vwCl (tyL gI) yX1_post cX1_post 5 .int { frames := 214, cells := 2, slots := 12, locals := 5084 } [.ref o, .int v1, .int v2] (wX gI o ax rn tl fd ar lw hh) (fun u : (Nat → Int32) × (Nat → Nat → Int32) × (Nat → Int64) => (wX gI o ax rn tl u.1 u.2.1 u.2.2 hh)) (fun (x : Int32) (u : (Nat → Int32) × (Nat → Nat → Int32) × (Nat → Int64)) => Q x u.1 u.2.1 u.2.2) := by
  refine ct_ofi RX1 rfl (by decide +kernel) (Nat.le_of_ble_eq_true rfl) ?_
  intro p e s m args below meth c A F hP hD ls hl
  obtain ⟨⟨hx, hb, hml, hown, hts⟩, hr, hlocks, hA, hK, hE⟩ := id F
  have hS : va_S A s.heap s.heap [] := va_S.rf
  have hl : lv_has ls 5 [(0, .ref o), (1, .int v1), (2, .int v2)] := hl
  have hRf : 214 ≤ ({ frames := 214, cells := 2, slots := 12, locals := 5084 } : Room).frames := Nat.le_refl _
  have hC : 0 ≤ ({ frames := 214, cells := 2, slots := 12, locals := 5084 } : Room).cells := Nat.le_of_ble_eq_true rfl
  have hSl : 0 ≤ ({ frames := 214, cells := 2, slots := 12, locals := 5084 } : Room).slots := Nat.le_of_ble_eq_true rfl
  have hC1 : 0 + 1 ≤ ({ frames := 214, cells := 2, slots := 12, locals := 5084 } : Room).cells := Nat.le_of_ble_eq_true rfl
  have hS7 : 0 + 7 ≤ ({ frames := 214, cells := 2, slots := 12, locals := 5084 } : Room).slots := Nat.le_of_ble_eq_true rfl
  have hM : 0 + 1 ≤ 2 := Nat.le_of_ble_eq_true rfl
  have hMs : 0 + 7 ≤ 12 := Nat.le_of_ble_eq_true rfl
  have hRl : 5084 ≤ ({ frames := 214, cells := 2, slots := 12, locals := 5084 } : Room).locals := Nat.le_refl _
  unfold wp_S_post at h
  refine lv_aload_n hx hb dX1_post_0 rfl (lv_at hl 0 rfl) ?_
  refine lv_iload_n hx hb dX1_post_1 rfl (lv_at hl 1 rfl) ?_
  refine cl_i F (va_runV (As := [.int v1]) (rest := []) ⟨hx, hb, hml, hown, hts⟩ (ct_S_isKid h _) (cwV 1 hts (lw_V q647 q649 qs8 q94 q650) rfl rfl rfl (by decide +kernel) ⟨Nat.le_trans (Nat.le_of_ble_eq_true rfl) hRf, Nat.le_trans (Nat.le_of_ble_eq_true rfl) hRl⟩) ⟨ct_blind, va_recv hK hP (ci := 0) (q0 := 0) rfl rfl, ct_at F hS hP hD⟩ rfl rfl hl.1 rfl (lv_room (Nat.le_of_ble_eq_true rfl)) dX1_post_2 ⟨hC, hSl⟩) rfl rfl hD hS ?_
  rintro x1 _ H locs h hP hD hS
  refine lv_if_eq (tgt := 20) hx hb dX1_post_5 (by decide) (fun c12 => ?_) (fun c12 => ?_)
  · replace h := h.1 c12
    refine lv_iconst (v := (-1 : Int32)) hx hb dX1_post_20 (by decide) ?_
    exact rt_i F dX1_post_21 rfl (fd, ar, lw) h hP hD hS (Nat.le_of_ble_eq_true rfl) (Nat.le_of_ble_eq_true rfl)
  · replace h := h.2 c12
    refine lv_iload_n hx hb dX1_post_8 rfl (lv_at hl 2 rfl) ?_
    refine lv_i2l (v := (v2.toInt64)) hx hb dX1_post_9 rfl ?_
    refine lv_lconst (v := (1 : Int64)) hx hb dX1_post_10 (by decide) ?_
    refine lv_ldc2 (v := (9 : Int64)) hx hb hown (hts _ q584) dX1_post_11 ?_
    refine cl_i0 F (va_runS (As := [.long (v2.toInt64), .long (1 : Int64), .long (9 : Int64)]) (rest := []) ⟨hx, hb, hml, hown, hts⟩ (ct_X1_in h _) (va_cwS 3 hts (lw_S q298 q299 q94 q300) rfl rfl rfl (by decide +kernel) ⟨Nat.le_trans (Nat.le_of_ble_eq_true rfl) hRf, Nat.le_trans (Nat.le_of_ble_eq_true rfl) hRl⟩) ⟨ct_blind, ct_at F hS ct_nP ct_nD⟩ rfl rfl hl.1 rfl (lv_room (Nat.le_of_ble_eq_true rfl)) dX1_post_14 ⟨hC, hSl⟩) rfl rfl hP hS ?_
    rintro x2 _ H locs h hP hS
    refine lv_if_ne (tgt := 22) hx hb dX1_post_17 (by decide) (fun c11 => ?_) (fun c11 => ?_)
    · replace h := h.1 c11
      refine lv_aload_n hx hb dX1_post_22 rfl (lv_at hl 0 rfl) ?_
      refine va_get hx hb hts in_X1 hown hK hP 0 rfl rfl 0 (Nat.le_of_ble_eq_true rfl) (hts _ q180) (fun _ h => h) (v := .ref (ax 0)) rfl dX1_post_23 ?_
      refine va_get hx hb hts in_X2 hown hK hP 14 rfl rfl 3 (Nat.le_of_ble_eq_true rfl) (hts _ q144) (fun _ h => h) (v := .ref (ax 43)) rfl dX1_post_26 ?_
      refine lv_iload_n hx hb dX1_post_29 rfl (lv_at hl 1 rfl) ?_
      refine va_iald (f := (ar 43)) hx hb hK hP 18 0 rfl rfl h.1 dX1_post_30 ?_
      replace h := h.2
      refine lv_if_ne (tgt := 37) hx hb dX1_post_31 (by decide) (fun c10 => ?_) (fun c10 => ?_)
      · replace h := h.1 c10
        refine va_new (ci := 8) (fs := [.int (0 : Int32), .null, .int (0 : Int32), .int (0 : Int32), .null]) (C := RX11) (T := TX11) (N := 5) hx hb hts in_X11 tyX11 tyX11_ok hown (hts _ q1026) (hts _ q1027) (hts _ q118) hK hP hD hS hA rfl (fun j hj => by rcases (show j = 0 ∨ j = 1 ∨ j = 2 ∨ j = 3 ∨ j = 4 by omega) with rfl | rfl | rfl | rfl | rfl <;> rfl) (Nat.le_of_ble_eq_true rfl) (Nat.le_of_ble_eq_true rfl) dX1_post_37 (fun q3 H hP hD hS => ?_)
        replace hP : va_P D vwCl (wX gI o ax rn ([(q3, .inr (8, [.int (0 : Int32), .null, .int (0 : Int32), .int (0 : Int32), .null]))] ++ tl) fd ar lw hh) _ := frw_inP (nw := [(q3, .inr (8, [.int (0 : Int32), .null, .int (0 : Int32), .int (0 : Int32), .null]))]) hP
        replace hD : va_D A (wX gI o ax rn ([(q3, .inr (8, [.int (0 : Int32), .null, .int (0 : Int32), .int (0 : Int32), .null]))] ++ tl) fd ar lw hh) := frw_inD (nw := [(q3, .inr (8, [.int (0 : Int32), .null, .int (0 : Int32), .int (0 : Int32), .null]))]) hD
        replace hC : 1 ≤ ({ frames := 214, cells := 2, slots := 12, locals := 5084 } : Room).cells := Nat.le_of_ble_eq_true rfl
        replace hSl : 5 ≤ ({ frames := 214, cells := 2, slots := 12, locals := 5084 } : Room).slots := Nat.le_of_ble_eq_true rfl
        replace hC1 : 1 + 1 ≤ ({ frames := 214, cells := 2, slots := 12, locals := 5084 } : Room).cells := Nat.le_of_ble_eq_true rfl
        replace hS7 : 5 + 7 ≤ ({ frames := 214, cells := 2, slots := 12, locals := 5084 } : Room).slots := Nat.le_of_ble_eq_true rfl
        replace hM : 1 + 1 ≤ 2 := Nat.le_of_ble_eq_true rfl
        replace hMs : 5 + 7 ≤ 12 := Nat.le_of_ble_eq_true rfl
        refine lv_dup hx hb dX1_post_40 rfl ?_
        refine lv_aload_n hx hb dX1_post_41 rfl (lv_at hl 0 rfl) ?_
        refine lv_iload_n hx hb dX1_post_42 rfl (lv_at hl 1 rfl) ?_
        refine lv_iload_n hx hb dX1_post_43 rfl (lv_at hl 2 rfl) ?_
        replace hP := fr_outP (xs := [(q3, .inr (8, [.int (0 : Int32), .null, .int (0 : Int32), .int (0 : Int32), .null]))]) hP
        replace hD := fr_outD (xs := [(q3, .inr (8, [.int (0 : Int32), .null, .int (0 : Int32), .int (0 : Int32), .null]))]) hD
        refine cl_vL F (va_runI (As := [.ref o, .int v1, .int v2]) (rest := [.ref q3]) ⟨hx, hb, hml, hown, hts⟩ (ct_K_X11_init (o := q3) (ox := o) (v2 := v1) (v3 := v2) _) (cwI 3 hts (lw_meth q1030) rfl rfl rfl (hts _ q118) (hts _ q1028) (hts _ q1029) rfl (by decide +kernel) ⟨Nat.le_trans (Nat.le_of_ble_eq_true rfl) hRf, Nat.le_trans (Nat.le_of_ble_eq_true rfl) hRl⟩) ⟨ct_blind, ct_at F hS (putL_P hP (ps := [0]) rfl) (hD.sub ([0]) (by decide) rfl)⟩ rfl rfl hl.1 rfl (lv_room (Nat.le_of_ble_eq_true rfl)) dX1_post_44 ⟨Nat.le_of_ble_eq_true rfl, Nat.le_of_ble_eq_true rfl⟩) rfl rfl hP hD hS (ps := [0]) rfl (fun _ => rfl) (fun _ => rfl) ?_
        rintro _ H locs _ hP hD hS
        replace hP := fr_inP (xs := [(q3, .inr (8, [.int v2, .ref o, .int v1, .int (-100000 : Int32), .ref o]))]) hP
        replace hD := fr_inD (xs := [(q3, .inr (8, [.int v2, .ref o, .int v1, .int (-100000 : Int32), .ref o]))]) hD
        refine lv_astore_n (lv' := [(3, .ref q3), (0, .ref o), (1, .int v1), (2, .int v2)]) hx hb dX1_post_47 rfl hl (by decide) rfl (fun ls hl => ?_)
        refine lv_aload_n hx hb dX1_post_48 rfl (lv_at hl 0 rfl) ?_
        refine clz_i F (vx_runV (As := []) (rest := []) ⟨hx, hb, hml, hown, hts⟩ (cz_P_best hlt h _) (cwV 0 hts (lw_V q1046 q1047 q1048 q118 q1049) rfl rfl rfl (by decide +kernel) ⟨Nat.le_trans (Nat.le_of_ble_eq_true rfl) hRf, Nat.le_trans (Nat.le_of_ble_eq_true rfl) hRl⟩) ⟨ct_blind, va_recv hK (fr_outP (xs := [(q3, .inr (8, [.int v2, .ref o, .int v1, .int (-100000 : Int32), .ref o]))]) hP) (ci := 8) (q0 := 0) rfl rfl, ct_at F hS hP hD⟩ rfl rfl hl.1 rfl (lv_room (Nat.le_of_ble_eq_true rfl)) dX1_post_49 ⟨hC1, hS7⟩) hD hS ?_
        rintro x4 ⟨fd5, ar6, mst7⟩ H locs h hP hD hS
        refine lv_istore (lv' := [(4, .int x4), (3, .ref q3), (0, .ref o), (1, .int v1), (2, .int v2)]) hx hb dX1_post_52 hl (by decide) rfl (fun ls hl => ?_)
        refine lv_aload_n hx hb dX1_post_54 rfl (lv_at hl 2 rfl) ?_
        refine lv_iconst (v := (0 : Int32)) hx hb dX1_post_55 (by decide) ?_
        refine pt_put (v := .int (0 : Int32)) hx hb hts in_X1 tyX1 tyX1_ok nmX1 hown hK hP hD hS 0 rfl rfl 18 (Nat.le_of_ble_eq_true rfl) (hts _ q209) (fun _ h => h) rfl (ty := .int) (by decide +kernel) rfl rfl (Nat.le_of_ble_eq_true rfl) dX1_post_56 wXF_18 (fun H locs hP hD hS => ?_)
        refine lv_aload_n hx hb dX1_post_59 rfl (lv_at hl 2 rfl) ?_
        refine lv_sipush (v := (1000 : Int32)) hx hb dX1_post_60 (by decide) ?_
        refine lv_aload_n hx hb dX1_post_63 rfl (lv_at hl 1 rfl) ?_
        refine va_get hx hb hts in_X11 hown hK (fr_outP (xs := [(q3, .inr (8, [.int v2, .ref o, .int v1, .int mst7, .ref o]))]) hP) 0 rfl rfl 3 (Nat.le_of_ble_eq_true rfl) (hts _ q1035) (fun _ h => h) (v := .int mst7) rfl dX1_post_64 ?_
        refine lv_iadd hx hb dX1_post_67 ?_
        refine lv_i2l (v := (((1000 : Int32) + mst7).toInt64)) hx hb dX1_post_68 rfl ?_
        refine cl_v F (va_runV (As := [.long (((1000 : Int32) + mst7).toInt64)]) (rest := []) ⟨hx, hb, hml, hown, hts⟩ (ct_S_tell h _) (cwV 1 hts (lw_V q728 q730 qs19 q94 q731) rfl rfl rfl (by decide +kernel) ⟨Nat.le_trans (Nat.le_of_ble_eq_true rfl) hRf, Nat.le_trans (Nat.le_of_ble_eq_true rfl) hRl⟩) ⟨ct_blind, va_recv hK hP (ci := 0) (q0 := 0) rfl rfl, ct_at F hS hP hD⟩ rfl rfl hl.1 rfl (lv_room (Nat.le_of_ble_eq_true rfl)) dX1_post_69 ⟨hC, hSl⟩) rfl rfl hD hS ?_
        rintro ⟨fd8, lw9⟩ H locs h hP hD hS
        refine lv_iload hx hb dX1_post_72 (lv_at hl 0 rfl) ?_
        replace hP := fr_dropP (xs := [(q3, .inr (8, [.int v2, .ref o, .int v1, .int mst7, .ref o]))]) (tl := tl) hP
        replace hD := fr_dropD (xs := [(q3, .inr (8, [.int v2, .ref o, .int v1, .int mst7, .ref o]))]) (tl := tl) hD
        exact rt_i F dX1_post_74 rfl (fd8, ar6, lw9) h hP hD hS (Nat.le_of_ble_eq_true rfl) (Nat.le_of_ble_eq_true rfl)
      · replace h := h.2 c10
        refine lv_bipush (v := (-2 : Int32)) hx hb dX1_post_34 (by decide) ?_
        exact rt_i F dX1_post_36 rfl (fd, ar, lw) h hP hD hS (Nat.le_of_ble_eq_true rfl) (Nat.le_of_ble_eq_true rfl)
    · replace h := h.2 c11
      refine lv_iconst (v := (-1 : Int32)) hx hb dX1_post_20 (by decide) ?_
      exact rt_i F dX1_post_21 rfl (fd, ar, lw) h hP hD hS (Nat.le_of_ble_eq_true rfl) (Nat.le_of_ble_eq_true rfl)
