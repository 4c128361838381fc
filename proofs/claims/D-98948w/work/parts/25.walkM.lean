/-! walks of the model (printed by gen/mk.py) -/
set_option maxRecDepth 100000
set_option maxHeartbeats 4000000 in
theorem ct_M_treat {l : Launch} {V : evT} {D : va_G} {gI : Nat → ClassId} {o : Nat} {ad : Nat → Nat} {v1 : Int32} {fd : Nat → Int32} {ar : Nat → Nat → Int32} {lw : Nat → Int64} {Q : Int32 → (Nat → Int32) → (Nat → Nat → Int32) → Prop} (h : wp_M_treat v1 fd ar lw Q) : ct_i l V D vwCl (tyL gI) yX3_treat cX3_treat 2 .int { frames := 4, cells := 0, slots := 0, locals := 79 } [.ref o, .int v1] (wm gI o ad fd ar lw) (fun u : (Nat → Int32) × (Nat → Nat → Int32) => (wm gI o ad u.1 u.2 lw)) (fun (x : Int32) (u : (Nat → Int32) × (Nat → Nat → Int32)) => Q x u.1 u.2) := by
  refine ct_ofi RX3 rfl (by decide +kernel) (Nat.le_of_ble_eq_true rfl) ?_
  intro p e s m args below meth c A F hP hD ls hl
  obtain ⟨⟨hx, hb, hml, hown, hts⟩, hr, hlocks, hA, hK, hE⟩ := id F
  have hS : va_S A s.heap s.heap [] := va_S.rf
  have hl : lv_has ls 2 [(0, .ref o), (1, .int v1)] := hl
  have hRf : 4 ≤ ({ frames := 4, cells := 0, slots := 0, locals := 79 } : Room).frames := Nat.le_refl _
  have hRl : 79 ≤ ({ frames := 4, cells := 0, slots := 0, locals := 79 } : Room).locals := Nat.le_refl _
  have hC : 0 ≤ ({ frames := 4, cells := 0, slots := 0, locals := 79 } : Room).cells := Nat.le_refl _
  have hSl : 0 ≤ ({ frames := 4, cells := 0, slots := 0, locals := 79 } : Room).slots := Nat.le_refl _
  unfold wp_M_treat at h
  refine lv_aload_n hx hb dX3_treat_0 rfl (lv_at hl 0 rfl) ?_
  refine lv_iconst (v := (0 : Int32)) hx hb dX3_treat_1 (by decide) ?_
  refine pt_put (v := .int (0 : Int32)) hx hb hts in_X3 tyX3 tyX3_ok nmX3 hown hK hP hD hS 0 rfl rfl 0 (Nat.le_of_ble_eq_true rfl) (hts _ q1218) (fun _ h => h) rfl (ty := .int) (by decide +kernel) rfl rfl (Nat.le_of_ble_eq_true rfl) dX3_treat_2 wmF_0 (fun H locs hP hD hS => ?_)
  refine lv_aload_n hx hb dX3_treat_5 rfl (lv_at hl 0 rfl) ?_
  refine cl_v F (va_runV (As := []) (rest := []) ⟨hx, hb, hml, hown, hts⟩ (ct_M_putsBy h _) (cwV 0 hts (lw_V q1569 q1571 qs59 q97 q1572) rfl rfl rfl (by decide +kernel) ⟨Nat.le_trans (Nat.le_of_ble_eq_true rfl) hRf, Nat.le_trans (Nat.le_of_ble_eq_true rfl) hRl⟩) ⟨ct_blind, va_recv hK hP (ci := 2) (q0 := 0) rfl rfl, ct_at F hS hP hD⟩ rfl rfl hl.1 rfl (lv_room (Nat.le_of_ble_eq_true rfl)) dX3_treat_6 ⟨hC, hSl⟩) rfl rfl hD hS ?_
  rintro ar1 H locs h hP hD hS
  refine lv_aload_n hx hb dX3_treat_9 rfl (lv_at hl 0 rfl) ?_
  refine lv_aload_n hx hb dX3_treat_10 rfl (lv_at hl 0 rfl) ?_
  refine lv_iload_n hx hb dX3_treat_11 rfl (lv_at hl 1 rfl) ?_
  refine cl_i F (va_runV (As := [.int v1]) (rest := [.ref o]) ⟨hx, hb, hml, hown, hts⟩ (ct_M_treatsOne h _) (cwV 1 hts (lw_V q1605 q1607 qs65 q97 q1608) rfl rfl rfl (by decide +kernel) ⟨Nat.le_trans (Nat.le_of_ble_eq_true rfl) hRf, Nat.le_trans (Nat.le_of_ble_eq_true rfl) hRl⟩) ⟨ct_blind, va_recv hK hP (ci := 2) (q0 := 0) rfl rfl, ct_at F hS hP hD⟩ rfl rfl hl.1 rfl (lv_room (Nat.le_of_ble_eq_true rfl)) dX3_treat_12 ⟨hC, hSl⟩) rfl rfl hD hS ?_
  rintro x2 ar3 H locs h hP hD hS
  refine cl_i F (va_runV (As := [.int x2]) (rest := []) ⟨hx, hb, hml, hown, hts⟩ (ct_M_counts h _) (cwV 1 hts (lw_V q1577 q1579 qs61 q97 q1580) rfl rfl rfl (by decide +kernel) ⟨Nat.le_trans (Nat.le_of_ble_eq_true rfl) hRf, Nat.le_trans (Nat.le_of_ble_eq_true rfl) hRl⟩) ⟨ct_blind, va_recv hK hP (ci := 2) (q0 := 0) rfl rfl, ct_at F hS hP hD⟩ rfl rfl hl.1 rfl (lv_room (Nat.le_of_ble_eq_true rfl)) dX3_treat_15 ⟨hC, hSl⟩) rfl rfl hD hS ?_
  rintro x4 ⟨fd5, ar6⟩ H locs h hP hD hS
  exact rt_i F dX3_treat_18 rfl (fd5, ar6) h hP hD hS (Nat.le_refl _) (Nat.le_refl _)
set_option maxHeartbeats 4000000 in
theorem ct_M_moat {l : Launch} {V : evT} {D : va_G} {gI : Nat → ClassId} {o : Nat} {ad : Nat → Nat} {v1 : Int32} {fd : Nat → Int32} {ar : Nat → Nat → Int32} {lw : Nat → Int64} {Q : Int32 → (Nat → Int32) → (Nat → Nat → Int32) → Prop} (h : wp_M_moat v1 fd ar lw Q) : ct_i l V D vwCl (tyL gI) yX3_moat cX3_moat 2 .int { frames := 4, cells := 0, slots := 0, locals := 79 } [.ref o, .int v1] (wm gI o ad fd ar lw) (fun u : (Nat → Int32) × (Nat → Nat → Int32) => (wm gI o ad u.1 u.2 lw)) (fun (x : Int32) (u : (Nat → Int32) × (Nat → Nat → Int32)) => Q x u.1 u.2) := by
  refine ct_ofi RX3 rfl (by decide +kernel) (Nat.le_of_ble_eq_true rfl) ?_
  intro p e s m args below meth c A F hP hD ls hl
  obtain ⟨⟨hx, hb, hml, hown, hts⟩, hr, hlocks, hA, hK, hE⟩ := id F
  have hS : va_S A s.heap s.heap [] := va_S.rf
  have hl : lv_has ls 2 [(0, .ref o), (1, .int v1)] := hl
  have hRf : 4 ≤ ({ frames := 4, cells := 0, slots := 0, locals := 79 } : Room).frames := Nat.le_refl _
  have hRl : 79 ≤ ({ frames := 4, cells := 0, slots := 0, locals := 79 } : Room).locals := Nat.le_refl _
  have hC : 0 ≤ ({ frames := 4, cells := 0, slots := 0, locals := 79 } : Room).cells := Nat.le_refl _
  have hSl : 0 ≤ ({ frames := 4, cells := 0, slots := 0, locals := 79 } : Room).slots := Nat.le_refl _
  unfold wp_M_moat at h
  refine lv_aload_n hx hb dX3_moat_0 rfl (lv_at hl 0 rfl) ?_
  refine lv_iconst (v := (0 : Int32)) hx hb dX3_moat_1 (by decide) ?_
  refine pt_put (v := .int (0 : Int32)) hx hb hts in_X3 tyX3 tyX3_ok nmX3 hown hK hP hD hS 0 rfl rfl 0 (Nat.le_of_ble_eq_true rfl) (hts _ q1218) (fun _ h => h) rfl (ty := .int) (by decide +kernel) rfl rfl (Nat.le_of_ble_eq_true rfl) dX3_moat_2 wmF_0 (fun H locs hP hD hS => ?_)
  refine lv_aload_n hx hb dX3_moat_5 rfl (lv_at hl 0 rfl) ?_
  refine cl_v F (va_runV (As := []) (rest := []) ⟨hx, hb, hml, hown, hts⟩ (ct_M_putsBy h _) (cwV 0 hts (lw_V q1569 q1571 qs59 q97 q1572) rfl rfl rfl (by decide +kernel) ⟨Nat.le_trans (Nat.le_of_ble_eq_true rfl) hRf, Nat.le_trans (Nat.le_of_ble_eq_true rfl) hRl⟩) ⟨ct_blind, va_recv hK hP (ci := 2) (q0 := 0) rfl rfl, ct_at F hS hP hD⟩ rfl rfl hl.1 rfl (lv_room (Nat.le_of_ble_eq_true rfl)) dX3_moat_6 ⟨hC, hSl⟩) rfl rfl hD hS ?_
  rintro ar1 H locs h hP hD hS
  refine lv_aload_n hx hb dX3_moat_9 rfl (lv_at hl 0 rfl) ?_
  refine lv_aload_n hx hb dX3_moat_10 rfl (lv_at hl 0 rfl) ?_
  refine lv_iload_n hx hb dX3_moat_11 rfl (lv_at hl 1 rfl) ?_
  refine cl_i F (va_runV (As := [.int v1]) (rest := [.ref o]) ⟨hx, hb, hml, hown, hts⟩ (ct_M_digs h _) (cwV 1 hts (lw_V q1613 q1615 qs66 q97 q1616) rfl rfl rfl (by decide +kernel) ⟨Nat.le_trans (Nat.le_of_ble_eq_true rfl) hRf, Nat.le_trans (Nat.le_of_ble_eq_true rfl) hRl⟩) ⟨ct_blind, va_recv hK hP (ci := 2) (q0 := 0) rfl rfl, ct_at F hS hP hD⟩ rfl rfl hl.1 rfl (lv_room (Nat.le_of_ble_eq_true rfl)) dX3_moat_12 ⟨hC, hSl⟩) rfl rfl hD hS ?_
  rintro x2 ar3 H locs h hP hD hS
  refine cl_i F (va_runV (As := [.int x2]) (rest := []) ⟨hx, hb, hml, hown, hts⟩ (ct_M_counts h _) (cwV 1 hts (lw_V q1577 q1579 qs61 q97 q1580) rfl rfl rfl (by decide +kernel) ⟨Nat.le_trans (Nat.le_of_ble_eq_true rfl) hRf, Nat.le_trans (Nat.le_of_ble_eq_true rfl) hRl⟩) ⟨ct_blind, va_recv hK hP (ci := 2) (q0 := 0) rfl rfl, ct_at F hS hP hD⟩ rfl rfl hl.1 rfl (lv_room (Nat.le_of_ble_eq_true rfl)) dX3_moat_15 ⟨hC, hSl⟩) rfl rfl hD hS ?_
  rintro x4 ⟨fd5, ar6⟩ H locs h hP hD hS
  exact rt_i F dX3_moat_18 rfl (fd5, ar6) h hP hD hS (Nat.le_refl _) (Nat.le_refl _)
set_option maxHeartbeats 4000000 in
theorem ct_M_levelOf_i12 {l : Launch} {V : evT} {D : va_G} {gI : Nat → ClassId} {o : Nat} {ad : Nat → Nat} {v2 : Int32} {fd : Nat → Int32} {ar : Nat → Nat → Int32} {lw : Nat → Int64} {Q : Int32 → (Nat → Nat → Int32) → Prop} (h : wp_M_levelOf 12 v2 fd ar lw Q) : ct_i l V D vwCl (tyL gI) yX3_levelOf cX3_levelOf 3 .int { frames := 4, cells := 0, slots := 0, locals := 77 } [.ref o, .ref (ad 12), .int v2] (wm gI o ad fd ar lw) (fun u : (Nat → Nat → Int32) => (wm gI o ad fd u lw)) (fun (x : Int32) (u : (Nat → Nat → Int32)) => Q x u) := by
  refine ct_ofi RX3 rfl (by decide +kernel) (Nat.le_of_ble_eq_true rfl) ?_
  intro p e s m args below meth c A F hP hD ls hl
  obtain ⟨⟨hx, hb, hml, hown, hts⟩, hr, hlocks, hA, hK, hE⟩ := id F
  have hS : va_S A s.heap s.heap [] := va_S.rf
  have hl : lv_has ls 3 [(0, .ref o), (1, .ref (ad 12)), (2, .int v2)] := hl
  have hRf : 4 ≤ ({ frames := 4, cells := 0, slots := 0, locals := 77 } : Room).frames := Nat.le_refl _
  have hRl : 77 ≤ ({ frames := 4, cells := 0, slots := 0, locals := 77 } : Room).locals := Nat.le_refl _
  have hC : 0 ≤ ({ frames := 4, cells := 0, slots := 0, locals := 77 } : Room).cells := Nat.le_refl _
  have hSl : 0 ≤ ({ frames := 4, cells := 0, slots := 0, locals := 77 } : Room).slots := Nat.le_refl _
  unfold wp_M_levelOf at h
  refine lv_aload_n hx hb dX3_levelOf_0 rfl (lv_at hl 0 rfl) ?_
  refine va_get hx hb hts in_X3 hown hK hP 0 rfl rfl 26 (Nat.le_of_ble_eq_true rfl) (hts _ q1244) (fun _ h => h) (v := .ref (ad 26)) rfl dX3_levelOf_1 ?_
  refine lv_iconst (v := (0 : Int32)) hx hb dX3_levelOf_4 (by decide) ?_
  refine lv_iload_n hx hb dX3_levelOf_5 rfl (lv_at hl 2 rfl) ?_
  refine lv_bipush (v := (8 : Int32)) hx hb dX3_levelOf_6 (by decide) ?_
  refine lv_irem hx hb dX3_levelOf_8 (by decide) ?_
  refine pt_iast (f := (ar 26)) hx hb hK hP hD hS 15 0 rfl rfl (by unfold vp_in; decide) dX3_levelOf_9 wmA_26 (fun H locs hP hD hS => ?_)
  refine lv_aload_n hx hb dX3_levelOf_10 rfl (lv_at hl 0 rfl) ?_
  refine va_get hx hb hts in_X3 hown hK hP 0 rfl rfl 26 (Nat.le_of_ble_eq_true rfl) (hts _ q1244) (fun _ h => h) (v := .ref (ad 26)) rfl dX3_levelOf_11 ?_
  refine lv_iconst (v := (1 : Int32)) hx hb dX3_levelOf_14 (by decide) ?_
  refine lv_aload_n hx hb dX3_levelOf_15 rfl (lv_at hl 0 rfl) ?_
  refine va_get hx hb hts in_X3 hown hK hP 0 rfl rfl 11 (Nat.le_of_ble_eq_true rfl) (hts _ q1229) (fun _ h => h) (v := .ref (ad 11)) rfl dX3_levelOf_16 ?_
  refine lv_iconst (v := (0 : Int32)) hx hb dX3_levelOf_19 (by decide) ?_
  refine va_iald (f := (ar 11)) hx hb hK hP 7 0 rfl rfl (by unfold vp_in; decide) dX3_levelOf_20 ?_
  refine pt_iast (f := (upd (ar 26) (0 : Int32).toNatClampNeg (v2 - v2 / (8 : Int32) * (8 : Int32)))) hx hb hK hP hD hS 15 0 rfl rfl (by unfold vp_in; decide) dX3_levelOf_21 (wmA_26.trans (wmrA (va_rm0 ..))) (fun H locs hP hD hS => ?_)
  refine lv_aload_n hx hb dX3_levelOf_22 rfl (lv_at hl 0 rfl) ?_
  refine va_get hx hb hts in_X3 hown hK hP 0 rfl rfl 26 (Nat.le_of_ble_eq_true rfl) (hts _ q1244) (fun _ h => h) (v := .ref (ad 26)) rfl dX3_levelOf_23 ?_
  refine lv_iconst (v := (2 : Int32)) hx hb dX3_levelOf_26 (by decide) ?_
  refine lv_aload_n hx hb dX3_levelOf_27 rfl (lv_at hl 0 rfl) ?_
  refine va_get hx hb hts in_X3 hown hK hP 0 rfl rfl 3 (Nat.le_of_ble_eq_true rfl) (hts _ q1221) (fun _ h => h) (v := .int (fd 3)) rfl dX3_levelOf_28 ?_
  refine pt_iast (f := (upd (upd (ar 26) (0 : Int32).toNatClampNeg (v2 - v2 / (8 : Int32) * (8 : Int32))) (1 : Int32).toNatClampNeg (ar 11 (0 : Int32).toNatClampNeg))) hx hb hK hP hD hS 15 0 rfl rfl (by unfold vp_in; decide) dX3_levelOf_31 (wmA_26.trans (wmrA (va_rm0 ..))) (fun H locs hP hD hS => ?_)
  refine lv_aload_n hx hb dX3_levelOf_32 rfl (lv_at hl 0 rfl) ?_
  refine va_get hx hb hts in_X3 hown hK hP 0 rfl rfl 26 (Nat.le_of_ble_eq_true rfl) (hts _ q1244) (fun _ h => h) (v := .ref (ad 26)) rfl dX3_levelOf_33 ?_
  refine lv_iconst (v := (3 : Int32)) hx hb dX3_levelOf_36 (by decide) ?_
  refine lv_aload_n hx hb dX3_levelOf_37 rfl (lv_at hl 1 rfl) ?_
  refine lv_bipush (v := (12 : Int32)) hx hb dX3_levelOf_38 (by decide) ?_
  refine va_iald (f := (ar 12)) hx hb hK hP 8 0 rfl rfl (by unfold vp_in; decide) dX3_levelOf_40 ?_
  refine cl_i0 F (va_runS (As := [.int (ar 12 (12 : Int32).toNatClampNeg)]) (rest := [.int (3 : Int32), .ref (ad 26)]) ⟨hx, hb, hml, hown, hts⟩ (ct_J10_bitCount h _) (va_cwS 1 hts (lw_S q1552 q586 q112 q587) rfl rfl rfl (by decide +kernel) ⟨Nat.le_trans (Nat.le_of_ble_eq_true rfl) hRf, Nat.le_trans (Nat.le_of_ble_eq_true rfl) hRl⟩) ⟨ct_blind, ct_at F hS ct_nP ct_nD⟩ rfl rfl hl.1 rfl (lv_room (Nat.le_of_ble_eq_true rfl)) dX3_levelOf_41 ⟨hC, hSl⟩) rfl rfl hP hS ?_
  rintro x1 _ H locs h hP hS
  refine pt_iast (f := (upd (upd (upd (ar 26) (0 : Int32).toNatClampNeg (v2 - v2 / (8 : Int32) * (8 : Int32))) (1 : Int32).toNatClampNeg (ar 11 (0 : Int32).toNatClampNeg)) (2 : Int32).toNatClampNeg (fd 3))) hx hb hK hP hD hS 15 0 rfl rfl (by unfold vp_in; decide) dX3_levelOf_44 (wmA_26.trans (wmrA (va_rm0 ..))) (fun H locs hP hD hS => ?_)
  refine lv_iconst (v := (0 : Int32)) hx hb dX3_levelOf_45 (by decide) ?_
  refine lv_sipush (v := (999 : Int32)) hx hb dX3_levelOf_46 (by decide) ?_
  refine lv_aload_n hx hb dX3_levelOf_49 rfl (lv_at hl 0 rfl) ?_
  refine cl_i F (va_runV (As := []) (rest := [.int (999 : Int32), .int (0 : Int32)]) ⟨hx, hb, hml, hown, hts⟩ (ct_M_ruled h _) (cwV 0 hts (lw_V q1654 q1656 qs74 q97 q1657) rfl rfl rfl (by decide +kernel) ⟨Nat.le_trans (Nat.le_of_ble_eq_true rfl) hRf, Nat.le_trans (Nat.le_of_ble_eq_true rfl) hRl⟩) ⟨ct_blind, va_recv hK hP (ci := 2) (q0 := 0) rfl rfl, ct_at F hS hP hD⟩ rfl rfl hl.1 rfl (lv_room (Nat.le_of_ble_eq_true rfl)) dX3_levelOf_50 ⟨hC, hSl⟩) rfl rfl hD hS ?_
  rintro x2 ar3 H locs h hP hD hS
  refine va_mmin hx hb (hml.trans hl.1.symm) hown (hts _ q1402) (hts _ q336) (hts _ q100) (hts _ q337) (Nat.le_trans (Nat.le_of_ble_eq_true rfl) hRf) (Nat.le_trans (Nat.le_of_ble_eq_true rfl) hRl) hC hSl dX3_levelOf_53 ?_
  refine va_mmax hx hb (hml.trans hl.1.symm) hown (hts _ q1560) (hts _ q636) (hts _ q100) (hts _ q637) (Nat.le_trans (Nat.le_of_ble_eq_true rfl) hRf) (Nat.le_trans (Nat.le_of_ble_eq_true rfl) hRl) hC hSl dX3_levelOf_56 ?_
  exact rt_i F dX3_levelOf_59 rfl (ar3) h hP hD hS (Nat.le_refl _) (Nat.le_refl _)
set_option maxHeartbeats 4000000 in
theorem ct_M_levelOf_i13 {l : Launch} {V : evT} {D : va_G} {gI : Nat → ClassId} {o : Nat} {ad : Nat → Nat} {v2 : Int32} {fd : Nat → Int32} {ar : Nat → Nat → Int32} {lw : Nat → Int64} {Q : Int32 → (Nat → Nat → Int32) → Prop} (h : wp_M_levelOf 13 v2 fd ar lw Q) : ct_i l V D vwCl (tyL gI) yX3_levelOf cX3_levelOf 3 .int { frames := 4, cells := 0, slots := 0, locals := 77 } [.ref o, .ref (ad 13), .int v2] (wm gI o ad fd ar lw) (fun u : (Nat → Nat → Int32) => (wm gI o ad fd u lw)) (fun (x : Int32) (u : (Nat → Nat → Int32)) => Q x u) := by
  refine ct_ofi RX3 rfl (by decide +kernel) (Nat.le_of_ble_eq_true rfl) ?_
  intro p e s m args below meth c A F hP hD ls hl
  obtain ⟨⟨hx, hb, hml, hown, hts⟩, hr, hlocks, hA, hK, hE⟩ := id F
  have hS : va_S A s.heap s.heap [] := va_S.rf
  have hl : lv_has ls 3 [(0, .ref o), (1, .ref (ad 13)), (2, .int v2)] := hl
  have hRf : 4 ≤ ({ frames := 4, cells := 0, slots := 0, locals := 77 } : Room).frames := Nat.le_refl _
  have hRl : 77 ≤ ({ frames := 4, cells := 0, slots := 0, locals := 77 } : Room).locals := Nat.le_refl _
  have hC : 0 ≤ ({ frames := 4, cells := 0, slots := 0, locals := 77 } : Room).cells := Nat.le_refl _
  have hSl : 0 ≤ ({ frames := 4, cells := 0, slots := 0, locals := 77 } : Room).slots := Nat.le_refl _
  unfold wp_M_levelOf at h
  refine lv_aload_n hx hb dX3_levelOf_0 rfl (lv_at hl 0 rfl) ?_
  refine va_get hx hb hts in_X3 hown hK hP 0 rfl rfl 26 (Nat.le_of_ble_eq_true rfl) (hts _ q1244) (fun _ h => h) (v := .ref (ad 26)) rfl dX3_levelOf_1 ?_
  refine lv_iconst (v := (0 : Int32)) hx hb dX3_levelOf_4 (by decide) ?_
  refine lv_iload_n hx hb dX3_levelOf_5 rfl (lv_at hl 2 rfl) ?_
  refine lv_bipush (v := (8 : Int32)) hx hb dX3_levelOf_6 (by decide) ?_
  refine lv_irem hx hb dX3_levelOf_8 (by decide) ?_
  refine pt_iast (f := (ar 26)) hx hb hK hP hD hS 15 0 rfl rfl (by unfold vp_in; decide) dX3_levelOf_9 wmA_26 (fun H locs hP hD hS => ?_)
  refine lv_aload_n hx hb dX3_levelOf_10 rfl (lv_at hl 0 rfl) ?_
  refine va_get hx hb hts in_X3 hown hK hP 0 rfl rfl 26 (Nat.le_of_ble_eq_true rfl) (hts _ q1244) (fun _ h => h) (v := .ref (ad 26)) rfl dX3_levelOf_11 ?_
  refine lv_iconst (v := (1 : Int32)) hx hb dX3_levelOf_14 (by decide) ?_
  refine lv_aload_n hx hb dX3_levelOf_15 rfl (lv_at hl 0 rfl) ?_
  refine va_get hx hb hts in_X3 hown hK hP 0 rfl rfl 11 (Nat.le_of_ble_eq_true rfl) (hts _ q1229) (fun _ h => h) (v := .ref (ad 11)) rfl dX3_levelOf_16 ?_
  refine lv_iconst (v := (0 : Int32)) hx hb dX3_levelOf_19 (by decide) ?_
  refine va_iald (f := (ar 11)) hx hb hK hP 7 0 rfl rfl (by unfold vp_in; decide) dX3_levelOf_20 ?_
  refine pt_iast (f := (upd (ar 26) (0 : Int32).toNatClampNeg (v2 - v2 / (8 : Int32) * (8 : Int32)))) hx hb hK hP hD hS 15 0 rfl rfl (by unfold vp_in; decide) dX3_levelOf_21 (wmA_26.trans (wmrA (va_rm0 ..))) (fun H locs hP hD hS => ?_)
  refine lv_aload_n hx hb dX3_levelOf_22 rfl (lv_at hl 0 rfl) ?_
  refine va_get hx hb hts in_X3 hown hK hP 0 rfl rfl 26 (Nat.le_of_ble_eq_true rfl) (hts _ q1244) (fun _ h => h) (v := .ref (ad 26)) rfl dX3_levelOf_23 ?_
  refine lv_iconst (v := (2 : Int32)) hx hb dX3_levelOf_26 (by decide) ?_
  refine lv_aload_n hx hb dX3_levelOf_27 rfl (lv_at hl 0 rfl) ?_
  refine va_get hx hb hts in_X3 hown hK hP 0 rfl rfl 3 (Nat.le_of_ble_eq_true rfl) (hts _ q1221) (fun _ h => h) (v := .int (fd 3)) rfl dX3_levelOf_28 ?_
  refine pt_iast (f := (upd (upd (ar 26) (0 : Int32).toNatClampNeg (v2 - v2 / (8 : Int32) * (8 : Int32))) (1 : Int32).toNatClampNeg (ar 11 (0 : Int32).toNatClampNeg))) hx hb hK hP hD hS 15 0 rfl rfl (by unfold vp_in; decide) dX3_levelOf_31 (wmA_26.trans (wmrA (va_rm0 ..))) (fun H locs hP hD hS => ?_)
  refine lv_aload_n hx hb dX3_levelOf_32 rfl (lv_at hl 0 rfl) ?_
  refine va_get hx hb hts in_X3 hown hK hP 0 rfl rfl 26 (Nat.le_of_ble_eq_true rfl) (hts _ q1244) (fun _ h => h) (v := .ref (ad 26)) rfl dX3_levelOf_33 ?_
  refine lv_iconst (v := (3 : Int32)) hx hb dX3_levelOf_36 (by decide) ?_
  refine lv_aload_n hx hb dX3_levelOf_37 rfl (lv_at hl 1 rfl) ?_
  refine lv_bipush (v := (12 : Int32)) hx hb dX3_levelOf_38 (by decide) ?_
  refine va_iald (f := (ar 13)) hx hb hK hP 9 0 rfl rfl (by unfold vp_in; decide) dX3_levelOf_40 ?_
  refine cl_i0 F (va_runS (As := [.int (ar 13 (12 : Int32).toNatClampNeg)]) (rest := [.int (3 : Int32), .ref (ad 26)]) ⟨hx, hb, hml, hown, hts⟩ (ct_J10_bitCount h _) (va_cwS 1 hts (lw_S q1552 q586 q112 q587) rfl rfl rfl (by decide +kernel) ⟨Nat.le_trans (Nat.le_of_ble_eq_true rfl) hRf, Nat.le_trans (Nat.le_of_ble_eq_true rfl) hRl⟩) ⟨ct_blind, ct_at F hS ct_nP ct_nD⟩ rfl rfl hl.1 rfl (lv_room (Nat.le_of_ble_eq_true rfl)) dX3_levelOf_41 ⟨hC, hSl⟩) rfl rfl hP hS ?_
  rintro x1 _ H locs h hP hS
  refine pt_iast (f := (upd (upd (upd (ar 26) (0 : Int32).toNatClampNeg (v2 - v2 / (8 : Int32) * (8 : Int32))) (1 : Int32).toNatClampNeg (ar 11 (0 : Int32).toNatClampNeg)) (2 : Int32).toNatClampNeg (fd 3))) hx hb hK hP hD hS 15 0 rfl rfl (by unfold vp_in; decide) dX3_levelOf_44 (wmA_26.trans (wmrA (va_rm0 ..))) (fun H locs hP hD hS => ?_)
  refine lv_iconst (v := (0 : Int32)) hx hb dX3_levelOf_45 (by decide) ?_
  refine lv_sipush (v := (999 : Int32)) hx hb dX3_levelOf_46 (by decide) ?_
  refine lv_aload_n hx hb dX3_levelOf_49 rfl (lv_at hl 0 rfl) ?_
  refine cl_i F (va_runV (As := []) (rest := [.int (999 : Int32), .int (0 : Int32)]) ⟨hx, hb, hml, hown, hts⟩ (ct_M_ruled h _) (cwV 0 hts (lw_V q1654 q1656 qs74 q97 q1657) rfl rfl rfl (by decide +kernel) ⟨Nat.le_trans (Nat.le_of_ble_eq_true rfl) hRf, Nat.le_trans (Nat.le_of_ble_eq_true rfl) hRl⟩) ⟨ct_blind, va_recv hK hP (ci := 2) (q0 := 0) rfl rfl, ct_at F hS hP hD⟩ rfl rfl hl.1 rfl (lv_room (Nat.le_of_ble_eq_true rfl)) dX3_levelOf_50 ⟨hC, hSl⟩) rfl rfl hD hS ?_
  rintro x2 ar3 H locs h hP hD hS
  refine va_mmin hx hb (hml.trans hl.1.symm) hown (hts _ q1402) (hts _ q336) (hts _ q100) (hts _ q337) (Nat.le_trans (Nat.le_of_ble_eq_true rfl) hRf) (Nat.le_trans (Nat.le_of_ble_eq_true rfl) hRl) hC hSl dX3_levelOf_53 ?_
  refine va_mmax hx hb (hml.trans hl.1.symm) hown (hts _ q1560) (hts _ q636) (hts _ q100) (hts _ q637) (Nat.le_trans (Nat.le_of_ble_eq_true rfl) hRf) (Nat.le_trans (Nat.le_of_ble_eq_true rfl) hRl) hC hSl dX3_levelOf_56 ?_
  exact rt_i F dX3_levelOf_59 rfl (ar3) h hP hD hS (Nat.le_refl _) (Nat.le_refl _)
set_option maxHeartbeats 4000000 in
theorem lp_M_readsAct_J1 {p : Program} {l : Launch} {e : Env} {R : Room} {s : State} {m : MethodId} {args : Array Value} {below : List Frame} {meth : Method} {c : Code} {cells slots : Nat} {A : Nat → Prop} {V : evT} {D : va_G} {gI : Nat → ClassId} {o : Nat} {ad : Nat → Nat} {v1 : Int32} {lw : Nat → Int64} {Q : Int32 → (Nat → Int32) → (Nat → Nat → Int32) → Prop} (F : ct_F p m c meth cX3_readsAct 2 s args RX3 (some .boolean) A V D vwCl (tyL gI)) (hRf : 7 ≤ R.frames) (hRl : 141 ≤ R.locals) (hC : cells ≤ R.cells) (hSl : slots ≤ R.slots) :
    ∀ (t0 : Int32) (t1 : Int32) (fd : Nat → Int32) (ar : Nat → Nat → Int32), wp_M_readsAct_J1 v1 lw Q t0 t1 fd ar → ∀ (H : Heap) (locs : List Loc) (ls : Array Slot), va_P D vwCl (wm gI o ad fd ar lw) H → va_D A (wm gI o ad fd ar lw) → va_S A s.heap H locs → lv_has ls 2 [(0, .ref o), (1, .int v1)] → W p l e R s m args below meth c H locs cells slots (MQ below (va_Qi (fun (x : Int32) (u : (Nat → Int32) × (Nat → Nat → Int32)) => Q x u.1 u.2) (fun u t => va_P D vwCl (wm gI o ad u.1 u.2 lw) t.heap ∧ va_K D vwCl (tyL gI) t ∧ va_D A (wm gI o ad u.1 u.2 lw)) A) args s cells slots A) (F0 m 113 ls [.int t0, .int t1, .ref (ad 33)]) := by
  obtain ⟨⟨hx, hb, hml, hown, hts⟩, hr, hlocks, hA, hK, hE⟩ := id F
  intro t0 t1 fd ar h H locs ls hP hD hS hl
  unfold wp_M_readsAct_J1 at h
  refine pt_iast (f := (ar 33)) hx hb hK hP hD hS 19 0 rfl rfl h.1 dX3_readsAct_113 wmA_33 (fun H locs hP hD hS => ?_)
  replace h := h.2
  refine lv_aload_n hx hb dX3_readsAct_114 rfl (lv_at hl 0 rfl) ?_
  refine va_get hx hb hts in_X3 hown hK hP 0 rfl rfl 33 (Nat.le_of_ble_eq_true rfl) (hts _ q1251) (fun _ h => h) (v := .ref (ad 33)) rfl dX3_readsAct_115 ?_
  refine lv_iload_n hx hb dX3_readsAct_118 rfl (lv_at hl 1 rfl) ?_
  refine va_iald (f := (upd (ar 33) t1.toNatClampNeg t0)) hx hb hK hP 19 0 rfl rfl h.1 dX3_readsAct_119 ?_
  replace h := h.2
  refine lv_if_lt (tgt := 132) hx hb dX3_readsAct_120 (by decide) (fun c12 => ?_) (fun c12 => ?_)
  · replace h := h.1 c12
    refine lv_aload_n hx hb dX3_readsAct_132 rfl (lv_at hl 0 rfl) ?_
    refine va_get hx hb hts in_X3 hown hK hP 0 rfl rfl 33 (Nat.le_of_ble_eq_true rfl) (hts _ q1251) (fun _ h => h) (v := .ref (ad 33)) rfl dX3_readsAct_133 ?_
    refine lv_iload_n hx hb dX3_readsAct_136 rfl (lv_at hl 1 rfl) ?_
    refine va_iald (f := (upd (ar 33) t1.toNatClampNeg t0)) hx hb hK hP 19 0 rfl rfl h.1 dX3_readsAct_137 ?_
    replace h := h.2
    refine lv_if_lt (tgt := 145) hx hb dX3_readsAct_138 (by decide) (fun c6 => ?_) (fun c6 => ?_)
    · replace h := h.1 c6
      refine lv_iconst (v := (0 : Int32)) hx hb dX3_readsAct_145 (by decide) ?_
      exact rt_i F dX3_readsAct_146 rfl (fd, (va_up ar 33 (upd (ar 33) t1.toNatClampNeg t0))) h hP hD hS (Nat.le_refl _) (Nat.le_refl _)
    · replace h := h.2 c6
      refine lv_iconst (v := (1 : Int32)) hx hb dX3_readsAct_141 (by decide) ?_
      refine lv_goto (tgt := 146) hx hb dX3_readsAct_142 (by decide) ?_
      exact rt_i F dX3_readsAct_146 rfl (fd, (va_up ar 33 (upd (ar 33) t1.toNatClampNeg t0))) h hP hD hS (Nat.le_refl _) (Nat.le_refl _)
  · replace h := h.2 c12
    refine lv_aload_n hx hb dX3_readsAct_123 rfl (lv_at hl 0 rfl) ?_
    refine va_get hx hb hts in_X3 hown hK hP 0 rfl rfl 32 (Nat.le_of_ble_eq_true rfl) (hts _ q1250) (fun _ h => h) (v := .ref (ad 32)) rfl dX3_readsAct_124 ?_
    refine lv_iload_n hx hb dX3_readsAct_127 rfl (lv_at hl 1 rfl) ?_
    refine va_iald (f := (ar 32)) hx hb hK hP 18 0 rfl rfl h.1 dX3_readsAct_128 ?_
    replace h := h.2
    refine lv_if_eq (tgt := 147) hx hb dX3_readsAct_129 (by decide) (fun c11 => ?_) (fun c11 => ?_)
    · replace h := h.1 c11
      refine lv_aload_n hx hb dX3_readsAct_147 rfl (lv_at hl 0 rfl) ?_
      refine va_get hx hb hts in_X3 hown hK hP 0 rfl rfl 34 (Nat.le_of_ble_eq_true rfl) (hts _ q1252) (fun _ h => h) (v := .ref (ad 34)) rfl dX3_readsAct_148 ?_
      refine lv_iload_n hx hb dX3_readsAct_151 rfl (lv_at hl 1 rfl) ?_
      refine lv_aload_n hx hb dX3_readsAct_152 rfl (lv_at hl 0 rfl) ?_
      refine pt_ldcwS hx hb hown (hE.2.2.1 6 _ rfl).1 dX3_readsAct_153 ?_
      refine cl_i F (va_runV (As := [.ref (V.1 6)]) (rest := [.int v1, .ref (ad 34)]) ⟨hx, hb, hml, hown, hts⟩ (ct_M_takesOf_i6 h _) (cwV 1 hts (lw_V q1461 q1463 qs48 q97 q1464) rfl rfl rfl (by decide +kernel) ⟨Nat.le_trans (Nat.le_of_ble_eq_true rfl) hRf, Nat.le_trans (Nat.le_of_ble_eq_true rfl) hRl⟩) ⟨ct_blind, va_recv hK hP (ci := 2) (q0 := 0) rfl rfl, ct_at F hS hP hD⟩ rfl rfl hl.1 rfl (lv_room (Nat.le_of_ble_eq_true rfl)) dX3_readsAct_156 ⟨hC, hSl⟩) rfl rfl hD hS ?_
      rintro x7 fd8 H locs h hP hD hS
      refine pt_iast (f := (ar 34)) hx hb hK hP hD hS 20 0 rfl rfl h.1 dX3_readsAct_159 wmA_34 (fun H locs hP hD hS => ?_)
      replace h := h.2
      refine lv_aload_n hx hb dX3_readsAct_160 rfl (lv_at hl 0 rfl) ?_
      refine va_get hx hb hts in_X3 hown hK hP 0 rfl rfl 34 (Nat.le_of_ble_eq_true rfl) (hts _ q1252) (fun _ h => h) (v := .ref (ad 34)) rfl dX3_readsAct_161 ?_
      refine lv_iload_n hx hb dX3_readsAct_164 rfl (lv_at hl 1 rfl) ?_
      refine va_iald (f := (upd (ar 34) v1.toNatClampNeg x7)) hx hb hK hP 20 0 rfl rfl h.1 dX3_readsAct_165 ?_
      replace h := h.2
      refine lv_if_lt (tgt := 173) hx hb dX3_readsAct_166 (by decide) (fun c9 => ?_) (fun c9 => ?_)
      · replace h := h.1 c9
        refine lv_iconst (v := (0 : Int32)) hx hb dX3_readsAct_173 (by decide) ?_
        exact rt_i F dX3_readsAct_174 rfl (fd8, (va_up (va_up ar 33 (upd (ar 33) t1.toNatClampNeg t0)) 34 (upd (ar 34) v1.toNatClampNeg x7))) h hP hD hS (Nat.le_refl _) (Nat.le_refl _)
      · replace h := h.2 c9
        refine lv_iconst (v := (1 : Int32)) hx hb dX3_readsAct_169 (by decide) ?_
        refine lv_goto (tgt := 174) hx hb dX3_readsAct_170 (by decide) ?_
        exact rt_i F dX3_readsAct_174 rfl (fd8, (va_up (va_up ar 33 (upd (ar 33) t1.toNatClampNeg t0)) 34 (upd (ar 34) v1.toNatClampNeg x7))) h hP hD hS (Nat.le_refl _) (Nat.le_refl _)
    · replace h := h.2 c11
      refine lv_aload_n hx hb dX3_readsAct_132 rfl (lv_at hl 0 rfl) ?_
      refine va_get hx hb hts in_X3 hown hK hP 0 rfl rfl 33 (Nat.le_of_ble_eq_true rfl) (hts _ q1251) (fun _ h => h) (v := .ref (ad 33)) rfl dX3_readsAct_133 ?_
      refine lv_iload_n hx hb dX3_readsAct_136 rfl (lv_at hl 1 rfl) ?_
      refine va_iald (f := (upd (ar 33) t1.toNatClampNeg t0)) hx hb hK hP 19 0 rfl rfl h.1 dX3_readsAct_137 ?_
      replace h := h.2
      refine lv_if_lt (tgt := 145) hx hb dX3_readsAct_138 (by decide) (fun c10 => ?_) (fun c10 => ?_)
      · replace h := h.1 c10
        refine lv_iconst (v := (0 : Int32)) hx hb dX3_readsAct_145 (by decide) ?_
        exact rt_i F dX3_readsAct_146 rfl (fd, (va_up ar 33 (upd (ar 33) t1.toNatClampNeg t0))) h hP hD hS (Nat.le_refl _) (Nat.le_refl _)
      · replace h := h.2 c10
        refine lv_iconst (v := (1 : Int32)) hx hb dX3_readsAct_141 (by decide) ?_
        refine lv_goto (tgt := 146) hx hb dX3_readsAct_142 (by decide) ?_
        exact rt_i F dX3_readsAct_146 rfl (fd, (va_up ar 33 (upd (ar 33) t1.toNatClampNeg t0))) h hP hD hS (Nat.le_refl _) (Nat.le_refl _)
set_option maxHeartbeats 4000000 in
theorem ct_M_readsAct {l : Launch} {V : evT} {D : va_G} {gI : Nat → ClassId} {o : Nat} {ad : Nat → Nat} {fd : Nat → Int32} {ar : Nat → Nat → Int32} {lw : Nat → Int64} {Q : Int32 → (Nat → Int32) → (Nat → Nat → Int32) → Prop} (h : wp_M_readsAct fd ar lw Q) : ct_i l V D vwCl (tyL gI) yX3_readsAct cX3_readsAct 2 .boolean { frames := 7, cells := 0, slots := 0, locals := 141 } [.ref o] (wm gI o ad fd ar lw) (fun u : (Nat → Int32) × (Nat → Nat → Int32) => (wm gI o ad u.1 u.2 lw)) (fun (x : Int32) (u : (Nat → Int32) × (Nat → Nat → Int32)) => Q x u.1 u.2) := by
  refine ct_ofi RX3 rfl (by decide +kernel) (Nat.le_of_ble_eq_true rfl) ?_
  intro p e s m args below meth c A F hP hD ls hl
  obtain ⟨⟨hx, hb, hml, hown, hts⟩, hr, hlocks, hA, hK, hE⟩ := id F
  have hS : va_S A s.heap s.heap [] := va_S.rf
  have hl : lv_has ls 2 [(0, .ref o)] := hl
  have hRf : 7 ≤ ({ frames := 7, cells := 0, slots := 0, locals := 141 } : Room).frames := Nat.le_refl _
  have hRl : 141 ≤ ({ frames := 7, cells := 0, slots := 0, locals := 141 } : Room).locals := Nat.le_refl _
  have hC : 0 ≤ ({ frames := 7, cells := 0, slots := 0, locals := 141 } : Room).cells := Nat.le_refl _
  have hSl : 0 ≤ ({ frames := 7, cells := 0, slots := 0, locals := 141 } : Room).slots := Nat.le_refl _
  unfold wp_M_readsAct at h
  refine lv_aload_n hx hb dX3_readsAct_0 rfl (lv_at hl 0 rfl) ?_
  refine va_get hx hb hts in_X3 hown hK hP 0 rfl rfl 35 (Nat.le_of_ble_eq_true rfl) (hts _ q1253) (fun _ h => h) (v := .int (fd 35)) rfl dX3_readsAct_1 ?_
  refine lv_istore_n (lv' := [(1, .int (fd 35)), (0, .ref o)]) hx hb dX3_readsAct_4 rfl hl (by decide) rfl (fun ls hl => ?_)
  refine lv_aload_n hx hb dX3_readsAct_5 rfl (lv_at hl 1 rfl) ?_
  refine va_get hx hb hts in_X3 hown hK hP 0 rfl rfl 32 (Nat.le_of_ble_eq_true rfl) (hts _ q1250) (fun _ h => h) (v := .ref (ad 32)) rfl dX3_readsAct_6 ?_
  refine lv_iload_n hx hb dX3_readsAct_9 rfl (lv_at hl 0 rfl) ?_
  refine lv_aload_n hx hb dX3_readsAct_10 rfl (lv_at hl 1 rfl) ?_
  refine pt_ldcwS hx hb hown (hE.2.2.1 4 _ rfl).1 dX3_readsAct_11 ?_
  refine cl_i F (va_runV (As := [.ref (V.1 4)]) (rest := [.int (fd 35), .ref (ad 32)]) ⟨hx, hb, hml, hown, hts⟩ (ct_M_takesOf_i4 h _) (cwV 1 hts (lw_V q1461 q1463 qs48 q97 q1464) rfl rfl rfl (by decide +kernel) ⟨Nat.le_trans (Nat.le_of_ble_eq_true rfl) hRf, Nat.le_trans (Nat.le_of_ble_eq_true rfl) hRl⟩) ⟨ct_blind, va_recv hK hP (ci := 2) (q0 := 0) rfl rfl, ct_at F hS hP hD⟩ rfl rfl hl.1 rfl (lv_room (Nat.le_of_ble_eq_true rfl)) dX3_readsAct_14 ⟨hC, hSl⟩) rfl rfl hD hS ?_
  rintro x1 fd2 H locs h hP hD hS
  refine pt_iast (f := (ar 32)) hx hb hK hP hD hS 18 0 rfl rfl h.1 dX3_readsAct_17 wmA_32 (fun H locs hP hD hS => ?_)
  replace h := h.2
  refine lv_aload_n hx hb dX3_readsAct_18 rfl (lv_at hl 1 rfl) ?_
  refine lv_dup hx hb dX3_readsAct_19 rfl ?_
  refine va_get hx hb hts in_X3 hown hK hP 0 rfl rfl 35 (Nat.le_of_ble_eq_true rfl) (hts _ q1253) (fun _ h => h) (v := .int (fd2 35)) rfl dX3_readsAct_20 ?_
  refine lv_iconst (v := (1 : Int32)) hx hb dX3_readsAct_23 (by decide) ?_
  refine lv_iadd hx hb dX3_readsAct_24 ?_
  refine pt_put (v := .int ((fd2 35) + (1 : Int32))) hx hb hts in_X3 tyX3 tyX3_ok nmX3 hown hK hP hD hS 0 rfl rfl 35 (Nat.le_of_ble_eq_true rfl) (hts _ q1253) (fun _ h => h) rfl (ty := .int) (by decide +kernel) rfl rfl (Nat.le_of_ble_eq_true rfl) dX3_readsAct_25 wmF_35 (fun H locs hP hD hS => ?_)
  refine lv_aload_n hx hb dX3_readsAct_28 rfl (lv_at hl 1 rfl) ?_
  refine va_get hx hb hts in_X3 hown hK hP 0 rfl rfl 32 (Nat.le_of_ble_eq_true rfl) (hts _ q1250) (fun _ h => h) (v := .ref (ad 32)) rfl dX3_readsAct_29 ?_
  refine lv_iload_n hx hb dX3_readsAct_32 rfl (lv_at hl 0 rfl) ?_
  refine va_iald (f := (upd (ar 32) (fd 35).toNatClampNeg x1)) hx hb hK hP 18 0 rfl rfl h.1 dX3_readsAct_33 ?_
  replace h := h.2
  refine lv_if_lt (tgt := 48) hx hb dX3_readsAct_34 (by decide) (fun c21 => ?_) (fun c21 => ?_)
  · replace h := h.1 c21
    refine lv_aload_n hx hb dX3_readsAct_48 rfl (lv_at hl 1 rfl) ?_
    refine va_get hx hb hts in_X3 hown hK hP 0 rfl rfl 32 (Nat.le_of_ble_eq_true rfl) (hts _ q1250) (fun _ h => h) (v := .ref (ad 32)) rfl dX3_readsAct_49 ?_
    refine lv_iload_n hx hb dX3_readsAct_52 rfl (lv_at hl 0 rfl) ?_
    refine va_iald (f := (upd (ar 32) (fd 35).toNatClampNeg x1)) hx hb hK hP 18 0 rfl rfl h.1 dX3_readsAct_53 ?_
    replace h := h.2
    refine lv_if_lt (tgt := 61) hx hb dX3_readsAct_54 (by decide) (fun c3 => ?_) (fun c3 => ?_)
    · replace h := h.1 c3
      refine lv_iconst (v := (0 : Int32)) hx hb dX3_readsAct_61 (by decide) ?_
      exact rt_i F dX3_readsAct_62 rfl ((upd fd2 35 ((fd2 35) + (1 : Int32))), (va_up ar 32 (upd (ar 32) (fd 35).toNatClampNeg x1))) h hP hD hS (Nat.le_refl _) (Nat.le_refl _)
    · replace h := h.2 c3
      refine lv_iconst (v := (1 : Int32)) hx hb dX3_readsAct_57 (by decide) ?_
      refine lv_goto (tgt := 62) hx hb dX3_readsAct_58 (by decide) ?_
      exact rt_i F dX3_readsAct_62 rfl ((upd fd2 35 ((fd2 35) + (1 : Int32))), (va_up ar 32 (upd (ar 32) (fd 35).toNatClampNeg x1))) h hP hD hS (Nat.le_refl _) (Nat.le_refl _)
  · replace h := h.2 c21
    refine lv_aload_n hx hb dX3_readsAct_37 rfl (lv_at hl 1 rfl) ?_
    refine va_get hx hb hts in_X3 hown hK hP 0 rfl rfl 32 (Nat.le_of_ble_eq_true rfl) (hts _ q1250) (fun _ h => h) (v := .ref (ad 32)) rfl dX3_readsAct_38 ?_
    refine lv_iload_n hx hb dX3_readsAct_41 rfl (lv_at hl 0 rfl) ?_
    refine va_iald (f := (upd (ar 32) (fd 35).toNatClampNeg x1)) hx hb hK hP 18 0 rfl rfl h.1 dX3_readsAct_42 ?_
    replace h := h.2
    refine lv_bipush (v := (6 : Int32)) hx hb dX3_readsAct_43 (by decide) ?_
    refine lv_icmp_ne (tgt := 63) hx hb dX3_readsAct_45 (by decide) (fun c20 => ?_) (fun c20 => ?_)
    · replace h := h.1 c20
      refine lv_aload_n hx hb dX3_readsAct_63 rfl (lv_at hl 1 rfl) ?_
      refine va_get hx hb hts in_X3 hown hK hP 0 rfl rfl 33 (Nat.le_of_ble_eq_true rfl) (hts _ q1251) (fun _ h => h) (v := .ref (ad 33)) rfl dX3_readsAct_64 ?_
      refine lv_iload_n hx hb dX3_readsAct_67 rfl (lv_at hl 0 rfl) ?_
      refine lv_aload_n hx hb dX3_readsAct_68 rfl (lv_at hl 1 rfl) ?_
      refine va_get hx hb hts in_X3 hown hK hP 0 rfl rfl 32 (Nat.le_of_ble_eq_true rfl) (hts _ q1250) (fun _ h => h) (v := .ref (ad 32)) rfl dX3_readsAct_69 ?_
      refine lv_iload_n hx hb dX3_readsAct_72 rfl (lv_at hl 0 rfl) ?_
      refine va_iald (f := (upd (ar 32) (fd 35).toNatClampNeg x1)) hx hb hK hP 18 0 rfl rfl h.1 dX3_readsAct_73 ?_
      replace h := h.2
      refine lv_iconst (v := (4 : Int32)) hx hb dX3_readsAct_74 (by decide) ?_
      refine lv_icmp_ge (tgt := 88) hx hb dX3_readsAct_75 (by decide) (fun c18 => ?_) (fun c18 => ?_)
      · replace h := h.1 c18
        refine lv_aload_n hx hb dX3_readsAct_88 rfl (lv_at hl 1 rfl) ?_
        refine va_get hx hb hts in_X3 hown hK hP 0 rfl rfl 32 (Nat.le_of_ble_eq_true rfl) (hts _ q1250) (fun _ h => h) (v := .ref (ad 32)) rfl dX3_readsAct_89 ?_
        refine lv_iload_n hx hb dX3_readsAct_92 rfl (lv_at hl 0 rfl) ?_
        refine va_iald (f := (upd (ar 32) (fd 35).toNatClampNeg x1)) hx hb hK hP 18 0 rfl rfl h.1 dX3_readsAct_93 ?_
        replace h := h.2
        refine lv_iconst (v := (4 : Int32)) hx hb dX3_readsAct_94 (by decide) ?_
        refine lv_icmp_ne (tgt := 108) hx hb dX3_readsAct_95 (by decide) (fun c15 => ?_) (fun c15 => ?_)
        · replace h := h.1 c15
          refine lv_aload_n hx hb dX3_readsAct_108 rfl (lv_at hl 1 rfl) ?_
          refine lv_iconst (v := (1 : Int32)) hx hb dX3_readsAct_109 (by decide) ?_
          refine cl_i F (va_runV (As := [.int (1 : Int32)]) (rest := [.int (fd 35), .ref (ad 33)]) ⟨hx, hb, hml, hown, hts⟩ (ct_M_number h _) (cwV 1 hts (lw_V q1410 q1412 qs38 q97 q1413) rfl rfl rfl (by decide +kernel) ⟨Nat.le_trans (Nat.le_of_ble_eq_true rfl) hRf, Nat.le_trans (Nat.le_of_ble_eq_true rfl) hRl⟩) ⟨ct_blind, va_recv hK hP (ci := 2) (q0 := 0) rfl rfl, ct_at F hS hP hD⟩ rfl rfl hl.1 rfl (lv_room (Nat.le_of_ble_eq_true rfl)) dX3_readsAct_110 ⟨hC, hSl⟩) rfl rfl hD hS ?_
          rintro x4 fd5 H locs h hP hD hS
          refine lp_M_readsAct_J1 F hRf hRl hC hSl  _ _ _ _ h _ _ _ hP hD hS (lv_sub hl [1, 0] rfl)
        · replace h := h.2 c15
          refine lv_aload_n hx hb dX3_readsAct_98 rfl (lv_at hl 1 rfl) ?_
          refine pt_ldcwS hx hb hown (hE.2.2.1 6 _ rfl).1 dX3_readsAct_99 ?_
          refine cl_i F (va_runV (As := [.ref (V.1 6)]) (rest := [.int (fd 35), .ref (ad 33)]) ⟨hx, hb, hml, hown, hts⟩ (ct_M_takesOf_i6 h _) (cwV 1 hts (lw_V q1461 q1463 qs48 q97 q1464) rfl rfl rfl (by decide +kernel) ⟨Nat.le_trans (Nat.le_of_ble_eq_true rfl) hRf, Nat.le_trans (Nat.le_of_ble_eq_true rfl) hRl⟩) ⟨ct_blind, va_recv hK hP (ci := 2) (q0 := 0) rfl rfl, ct_at F hS hP hD⟩ rfl rfl hl.1 rfl (lv_room (Nat.le_of_ble_eq_true rfl)) dX3_readsAct_102 ⟨hC, hSl⟩) rfl rfl hD hS ?_
          rintro x13 fd14 H locs h hP hD hS
          refine lv_goto (tgt := 113) hx hb dX3_readsAct_105 (by decide) ?_
          refine lp_M_readsAct_J1 F hRf hRl hC hSl  _ _ _ _ h _ _ _ hP hD hS (lv_sub hl [1, 0] rfl)
      · replace h := h.2 c18
        refine lv_aload_n hx hb dX3_readsAct_78 rfl (lv_at hl 1 rfl) ?_
        refine pt_ldcwS hx hb hown (hE.2.2.1 5 _ rfl).1 dX3_readsAct_79 ?_
        refine cl_i F (va_runV (As := [.ref (V.1 5)]) (rest := [.int (fd 35), .ref (ad 33)]) ⟨hx, hb, hml, hown, hts⟩ (ct_M_takesOf_i5 h _) (cwV 1 hts (lw_V q1461 q1463 qs48 q97 q1464) rfl rfl rfl (by decide +kernel) ⟨Nat.le_trans (Nat.le_of_ble_eq_true rfl) hRf, Nat.le_trans (Nat.le_of_ble_eq_true rfl) hRl⟩) ⟨ct_blind, va_recv hK hP (ci := 2) (q0 := 0) rfl rfl, ct_at F hS hP hD⟩ rfl rfl hl.1 rfl (lv_room (Nat.le_of_ble_eq_true rfl)) dX3_readsAct_82 ⟨hC, hSl⟩) rfl rfl hD hS ?_
        rintro x16 fd17 H locs h hP hD hS
        refine lv_goto (tgt := 113) hx hb dX3_readsAct_85 (by decide) ?_
        refine lp_M_readsAct_J1 F hRf hRl hC hSl  _ _ _ _ h _ _ _ hP hD hS (lv_sub hl [1, 0] rfl)
    · replace h := h.2 c20
      refine lv_aload_n hx hb dX3_readsAct_48 rfl (lv_at hl 1 rfl) ?_
      refine va_get hx hb hts in_X3 hown hK hP 0 rfl rfl 32 (Nat.le_of_ble_eq_true rfl) (hts _ q1250) (fun _ h => h) (v := .ref (ad 32)) rfl dX3_readsAct_49 ?_
      refine lv_iload_n hx hb dX3_readsAct_52 rfl (lv_at hl 0 rfl) ?_
      refine va_iald (f := (upd (ar 32) (fd 35).toNatClampNeg x1)) hx hb hK hP 18 0 rfl rfl h.1 dX3_readsAct_53 ?_
      replace h := h.2
      refine lv_if_lt (tgt := 61) hx hb dX3_readsAct_54 (by decide) (fun c19 => ?_) (fun c19 => ?_)
      · replace h := h.1 c19
        refine lv_iconst (v := (0 : Int32)) hx hb dX3_readsAct_61 (by decide) ?_
        exact rt_i F dX3_readsAct_62 rfl ((upd fd2 35 ((fd2 35) + (1 : Int32))), (va_up ar 32 (upd (ar 32) (fd 35).toNatClampNeg x1))) h hP hD hS (Nat.le_refl _) (Nat.le_refl _)
      · replace h := h.2 c19
        refine lv_iconst (v := (1 : Int32)) hx hb dX3_readsAct_57 (by decide) ?_
        refine lv_goto (tgt := 62) hx hb dX3_readsAct_58 (by decide) ?_
        exact rt_i F dX3_readsAct_62 rfl ((upd fd2 35 ((fd2 35) + (1 : Int32))), (va_up ar 32 (upd (ar 32) (fd 35).toNatClampNeg x1))) h hP hD hS (Nat.le_refl _) (Nat.le_refl _)
set_option maxHeartbeats 4000000 in
theorem ct_M_floods {l : Launch} {V : evT} {D : va_G} {gI : Nat → ClassId} {o : Nat} {ad : Nat → Nat} {v1 : Int32} {v2 : Int32} {fd : Nat → Int32} {ar : Nat → Nat → Int32} {lw : Nat → Int64} {Q : Int32 → (Nat → Int32) → (Nat → Nat → Int32) → (Nat → Int64) → Prop} (h : wp_M_floods v1 v2 fd ar lw Q) : ct_i l V D vwCl (tyL gI) yX3_floods cX3_floods 3 .int { frames := 4, cells := 0, slots := 0, locals := 80 } [.ref o, .int v1, .int v2] (wm gI o ad fd ar lw) (fun u : (Nat → Int32) × (Nat → Nat → Int32) × (Nat → Int64) => (wm gI o ad u.1 u.2.1 u.2.2)) (fun (x : Int32) (u : (Nat → Int32) × (Nat → Nat → Int32) × (Nat → Int64)) => Q x u.1 u.2.1 u.2.2) := by
  refine ct_ofi RX3 rfl (by decide +kernel) (Nat.le_of_ble_eq_true rfl) ?_
  intro p e s m args below meth c A F hP hD ls hl
  obtain ⟨⟨hx, hb, hml, hown, hts⟩, hr, hlocks, hA, hK, hE⟩ := id F
  have hS : va_S A s.heap s.heap [] := va_S.rf
  have hl : lv_has ls 3 [(0, .ref o), (1, .int v1), (2, .int v2)] := hl
  have hRf : 4 ≤ ({ frames := 4, cells := 0, slots := 0, locals := 80 } : Room).frames := Nat.le_refl _
  have hRl : 80 ≤ ({ frames := 4, cells := 0, slots := 0, locals := 80 } : Room).locals := Nat.le_refl _
  have hC : 0 ≤ ({ frames := 4, cells := 0, slots := 0, locals := 80 } : Room).cells := Nat.le_refl _
  have hSl : 0 ≤ ({ frames := 4, cells := 0, slots := 0, locals := 80 } : Room).slots := Nat.le_refl _
  unfold wp_M_floods at h
  refine lv_aload_n hx hb dX3_floods_0 rfl (lv_at hl 0 rfl) ?_
  refine lv_iconst (v := (0 : Int32)) hx hb dX3_floods_1 (by decide) ?_
  refine pt_put (v := .int (0 : Int32)) hx hb hts in_X3 tyX3 tyX3_ok nmX3 hown hK hP hD hS 0 rfl rfl 0 (Nat.le_of_ble_eq_true rfl) (hts _ q1218) (fun _ h => h) rfl (ty := .int) (by decide +kernel) rfl rfl (Nat.le_of_ble_eq_true rfl) dX3_floods_2 wmF_0 (fun H locs hP hD hS => ?_)
  refine lv_aload_n hx hb dX3_floods_5 rfl (lv_at hl 0 rfl) ?_
  refine lv_iload_n hx hb dX3_floods_6 rfl (lv_at hl 1 rfl) ?_
  refine lv_iload_n hx hb dX3_floods_7 rfl (lv_at hl 2 rfl) ?_
  refine cl_i F (va_runV (As := [.int v1, .int v2]) (rest := []) ⟨hx, hb, hml, hown, hts⟩ (ct_M_canFlood h _) (cwV 2 hts (lw_V q1730 q1732 qs84 q97 q1733) rfl rfl rfl (by decide +kernel) ⟨Nat.le_trans (Nat.le_of_ble_eq_true rfl) hRf, Nat.le_trans (Nat.le_of_ble_eq_true rfl) hRl⟩) ⟨ct_blind, va_recv hK hP (ci := 2) (q0 := 0) rfl rfl, ct_at F hS hP hD⟩ rfl rfl hl.1 rfl (lv_room (Nat.le_of_ble_eq_true rfl)) dX3_floods_8 ⟨hC, hSl⟩) rfl rfl hD hS ?_
  rintro x1 _ H locs h hP hD hS
  refine lv_if_ne (tgt := 16) hx hb dX3_floods_11 (by decide) (fun c11 => ?_) (fun c11 => ?_)
  · replace h := h.1 c11
    refine lv_aload_n hx hb dX3_floods_16 rfl (lv_at hl 0 rfl) ?_
    refine lv_iload_n hx hb dX3_floods_17 rfl (lv_at hl 1 rfl) ?_
    refine lv_iload_n hx hb dX3_floods_18 rfl (lv_at hl 2 rfl) ?_
    refine cl_v F (va_runV (As := [.int v1, .int v2]) (rest := []) ⟨hx, hb, hml, hown, hts⟩ (ct_M_floodsFrom h _) (cwV 2 hts (lw_V q1735 q1737 qs85 q97 q1738) rfl rfl rfl (by decide +kernel) ⟨Nat.le_trans (Nat.le_of_ble_eq_true rfl) hRf, Nat.le_trans (Nat.le_of_ble_eq_true rfl) hRl⟩) ⟨ct_blind, va_recv hK hP (ci := 2) (q0 := 0) rfl rfl, ct_at F hS hP hD⟩ rfl rfl hl.1 rfl (lv_room (Nat.le_of_ble_eq_true rfl)) dX3_floods_19 ⟨hC, hSl⟩) rfl rfl hD hS ?_
    rintro ar2 H locs h hP hD hS
    refine lv_aload_n hx hb dX3_floods_22 rfl (lv_at hl 0 rfl) ?_
    refine lv_iconst (v := (0 : Int32)) hx hb dX3_floods_23 (by decide) ?_
    refine pt_put (v := .int (0 : Int32)) hx hb hts in_X3 tyX3 tyX3_ok nmX3 hown hK hP hD hS 0 rfl rfl 1 (Nat.le_of_ble_eq_true rfl) (hts _ q1219) (fun _ h => h) rfl (ty := .int) (by decide +kernel) rfl rfl (Nat.le_of_ble_eq_true rfl) dX3_floods_24 wmF_1 (fun H locs hP hD hS => ?_)
    refine lv_aload_n hx hb dX3_floods_27 rfl (lv_at hl 0 rfl) ?_
    refine lv_aload_n hx hb dX3_floods_28 rfl (lv_at hl 0 rfl) ?_
    refine lv_aload_n hx hb dX3_floods_29 rfl (lv_at hl 0 rfl) ?_
    refine va_get hx hb hts in_X3 hown hK hP 0 rfl rfl 13 (Nat.le_of_ble_eq_true rfl) (hts _ q1231) (fun _ h => h) (v := .ref (ad 13)) rfl dX3_floods_30 ?_
    refine cl_i F (va_runV (As := [.ref (ad 13)]) (rest := [.ref o]) ⟨hx, hb, hml, hown, hts⟩ (ct_M_wet_i13 h _) (cwV 1 hts (lw_V q1674 q1676 qs77 q97 q1677) rfl rfl rfl (by decide +kernel) ⟨Nat.le_trans (Nat.le_of_ble_eq_true rfl) hRf, Nat.le_trans (Nat.le_of_ble_eq_true rfl) hRl⟩) ⟨ct_blind, va_recv hK hP (ci := 2) (q0 := 0) rfl rfl, ct_at F hS hP hD⟩ rfl rfl hl.1 rfl (lv_room (Nat.le_of_ble_eq_true rfl)) dX3_floods_33 ⟨hC, hSl⟩) rfl rfl hD hS ?_
    rintro x3 _ H locs h hP hD hS
    refine cl_i0 F (va_runS (As := [.int x3]) (rest := [.ref o]) ⟨hx, hb, hml, hown, hts⟩ (ct_J10_bitCount h _) (va_cwS 1 hts (lw_S q1552 q586 q112 q587) rfl rfl rfl (by decide +kernel) ⟨Nat.le_trans (Nat.le_of_ble_eq_true rfl) hRf, Nat.le_trans (Nat.le_of_ble_eq_true rfl) hRl⟩) ⟨ct_blind, ct_at F hS ct_nP ct_nD⟩ rfl rfl hl.1 rfl (lv_room (Nat.le_of_ble_eq_true rfl)) dX3_floods_36 ⟨hC, hSl⟩) rfl rfl hP hS ?_
    rintro x4 _ H locs h hP hS
    refine lv_i2l (v := (x4.toInt64)) hx hb dX3_floods_39 rfl ?_
    refine cl_v F (va_runV (As := [.long (x4.toInt64)]) (rest := []) ⟨hx, hb, hml, hown, hts⟩ (ct_M_enters h _) (cwV 1 hts (lw_V q1634 q1636 qs70 q97 q1637) rfl rfl rfl (by decide +kernel) ⟨Nat.le_trans (Nat.le_of_ble_eq_true rfl) hRf, Nat.le_trans (Nat.le_of_ble_eq_true rfl) hRl⟩) ⟨ct_blind, va_recv hK hP (ci := 2) (q0 := 0) rfl rfl, ct_at F hS hP hD⟩ rfl rfl hl.1 rfl (lv_room (Nat.le_of_ble_eq_true rfl)) dX3_floods_40 ⟨hC, hSl⟩) rfl rfl hD hS ?_
    rintro ⟨fd5, lw6⟩ H locs h hP hD hS
    refine lv_aload_n hx hb dX3_floods_43 rfl (lv_at hl 0 rfl) ?_
    refine lv_aload_n hx hb dX3_floods_44 rfl (lv_at hl 0 rfl) ?_
    refine lv_aload_n hx hb dX3_floods_45 rfl (lv_at hl 0 rfl) ?_
    refine va_get hx hb hts in_X3 hown hK hP 0 rfl rfl 13 (Nat.le_of_ble_eq_true rfl) (hts _ q1231) (fun _ h => h) (v := .ref (ad 13)) rfl dX3_floods_46 ?_
    refine cl_i F (va_runV (As := [.ref (ad 13)]) (rest := [.ref o]) ⟨hx, hb, hml, hown, hts⟩ (ct_M_deepAll_i13 h _) (cwV 1 hts (lw_V q1642 q1644 qs71 q97 q1645) rfl rfl rfl (by decide +kernel) ⟨Nat.le_trans (Nat.le_of_ble_eq_true rfl) hRf, Nat.le_trans (Nat.le_of_ble_eq_true rfl) hRl⟩) ⟨ct_blind, va_recv hK hP (ci := 2) (q0 := 0) rfl rfl, ct_at F hS hP hD⟩ rfl rfl hl.1 rfl (lv_room (Nat.le_of_ble_eq_true rfl)) dX3_floods_49 ⟨hC, hSl⟩) rfl rfl hD hS ?_
    rintro x7 _ H locs h hP hD hS
    refine lv_i2l (v := (x7.toInt64)) hx hb dX3_floods_52 rfl ?_
    refine cl_v F (va_runV (As := [.long (x7.toInt64)]) (rest := []) ⟨hx, hb, hml, hown, hts⟩ (ct_M_enters h _) (cwV 1 hts (lw_V q1634 q1636 qs70 q97 q1637) rfl rfl rfl (by decide +kernel) ⟨Nat.le_trans (Nat.le_of_ble_eq_true rfl) hRf, Nat.le_trans (Nat.le_of_ble_eq_true rfl) hRl⟩) ⟨ct_blind, va_recv hK hP (ci := 2) (q0 := 0) rfl rfl, ct_at F hS hP hD⟩ rfl rfl hl.1 rfl (lv_room (Nat.le_of_ble_eq_true rfl)) dX3_floods_53 ⟨hC, hSl⟩) rfl rfl hD hS ?_
    rintro ⟨fd8, lw9⟩ H locs h hP hD hS
    refine lv_aload_n hx hb dX3_floods_56 rfl (lv_at hl 0 rfl) ?_
    refine lv_aload_n hx hb dX3_floods_57 rfl (lv_at hl 0 rfl) ?_
    refine va_get hx hb hts in_X3 hown hK hP 0 rfl rfl 13 (Nat.le_of_ble_eq_true rfl) (hts _ q1231) (fun _ h => h) (v := .ref (ad 13)) rfl dX3_floods_58 ?_
    refine cl_i F (va_runV (As := [.ref (ad 13)]) (rest := []) ⟨hx, hb, hml, hown, hts⟩ (ct_M_wet_i13 h _) (cwV 1 hts (lw_V q1674 q1676 qs77 q97 q1677) rfl rfl rfl (by decide +kernel) ⟨Nat.le_trans (Nat.le_of_ble_eq_true rfl) hRf, Nat.le_trans (Nat.le_of_ble_eq_true rfl) hRl⟩) ⟨ct_blind, va_recv hK hP (ci := 2) (q0 := 0) rfl rfl, ct_at F hS hP hD⟩ rfl rfl hl.1 rfl (lv_room (Nat.le_of_ble_eq_true rfl)) dX3_floods_61 ⟨hC, hSl⟩) rfl rfl hD hS ?_
    rintro x10 _ H locs h hP hD hS
    exact rt_i F dX3_floods_64 rfl (fd8, ar2, lw9) h hP hD hS (Nat.le_refl _) (Nat.le_refl _)
  · replace h := h.2 c11
    refine lv_iconst (v := (-1 : Int32)) hx hb dX3_floods_14 (by decide) ?_
    exact rt_i F dX3_floods_15 rfl ((upd fd 0 (0 : Int32)), ar, lw) h hP hD hS (Nat.le_refl _) (Nat.le_refl _)
set_option maxHeartbeats 4000000 in
theorem lp_M_raise_L1 {p : Program} {l : Launch} {e : Env} {R : Room} {s : State} {m : MethodId} {args : Array Value} {below : List Frame} {meth : Method} {c : Code} {cells slots : Nat} {A : Nat → Prop} {Qf : State → Prop} {V : evT} {D : va_G} {gI : Nat → ClassId} {o : Nat} {ad : Nat → Nat} {v1 : Int32} {v2 : Int32} {fd : Nat → Int32} {lw : Nat → Int64} {K42 : (Nat → Nat → Int32) → Prop} (F : ct_F p m c meth cX3_raise 6 s args RX3 (some .int) A V D vwCl (tyL gI)) (hRf : 4 ≤ R.frames) (hRl : 80 ≤ R.locals) (hC : cells ≤ R.cells) (hSl : slots ≤ R.slots)
    (hK42 : ∀ (ar : Nat → Nat → Int32), K42 ar → ∀ (H : Heap) (locs : List Loc) (ls : Array Slot), va_P D vwCl (wm gI o ad fd ar lw) H → va_D A (wm gI o ad fd ar lw) → va_S A s.heap H locs → lv_has ls 6 [(0, .ref o), (1, .int v1), (2, .int v2)] → W p l e R s m args below meth c H locs cells slots Qf (F0 m 42 ls [])) :
    ∀ (n : Nat) (v3 : Int32) (ar : Nat → Nat → Int32), wp_M_raise_L1 v1 v2 fd lw K42 n v3 ar → ∀ (H : Heap) (locs : List Loc) (ls : Array Slot), va_P D vwCl (wm gI o ad fd ar lw) H → va_D A (wm gI o ad fd ar lw) → va_S A s.heap H locs → lv_has ls 6 [(0, .ref o), (1, .int v1), (2, .int v2), (3, .int v3)] → W p l e R s m args below meth c H locs cells slots Qf (F0 m 18 ls []) := by
  obtain ⟨⟨hx, hb, hml, hown, hts⟩, hr, hlocks, hA, hK, hE⟩ := id F
  intro n
  induction n with
  | zero => intro v3 ar h; exact h.elim
  | succ n ih =>
    intro v3 ar h H locs ls hP hD hS hl
    unfold wp_M_raise_L1 at h
    refine lv_iload_n hx hb dX3_raise_18 rfl (lv_at hl 3 rfl) ?_
    refine lv_bipush (v := (12 : Int32)) hx hb dX3_raise_19 (by decide) ?_
    refine lv_icmp_ge (tgt := 42) hx hb dX3_raise_21 (by decide) (fun c2 => ?_) (fun c2 => ?_)
    · replace h := h.1 c2
      exact hK42 _ h _ _ _ hP hD hS (lv_sub hl [0, 1, 2] rfl)
    · replace h := h.2 c2
      refine lv_aload_n hx hb dX3_raise_24 rfl (lv_at hl 0 rfl) ?_
      refine va_get hx hb hts in_X3 hown hK hP 0 rfl rfl 37 (Nat.le_of_ble_eq_true rfl) (hts _ q1255) (fun _ h => h) (v := .ref (ad 37)) rfl dX3_raise_25 ?_
      refine lv_iload_n hx hb dX3_raise_28 rfl (lv_at hl 3 rfl) ?_
      refine lv_aload_n hx hb dX3_raise_29 rfl (lv_at hl 0 rfl) ?_
      refine va_get hx hb hts in_X3 hown hK hP 0 rfl rfl 7 (Nat.le_of_ble_eq_true rfl) (hts _ q1225) (fun _ h => h) (v := .ref (ad 7)) rfl dX3_raise_30 ?_
      refine lv_iload_n hx hb dX3_raise_33 rfl (lv_at hl 3 rfl) ?_
      refine va_iald (f := (ar 7)) hx hb hK hP 3 0 rfl rfl h.1 dX3_raise_34 ?_
      replace h := h.2
      refine pt_iast (f := (ar 37)) hx hb hK hP hD hS 21 0 rfl rfl h.1 dX3_raise_35 wmA_37 (fun H locs hP hD hS => ?_)
      replace h := h.2
      refine lv_iinc (v := (v3 + (1 : Int32))) (lv' := [(3, .int (v3 + (1 : Int32))), (0, .ref o), (1, .int v1), (2, .int v2)]) hx hb dX3_raise_36 hl (k := 3) rfl rfl (by decide) rfl (fun ls hl => ?_)
      refine lv_goto (tgt := 18) hx hb dX3_raise_39 (by decide) ?_
      exact ih _ _ h _ _ _ hP hD hS (lv_sub hl [1, 2, 3, 0] rfl)
set_option maxHeartbeats 4000000 in
theorem lp_M_raise_L4 {p : Program} {l : Launch} {e : Env} {R : Room} {s : State} {m : MethodId} {args : Array Value} {below : List Frame} {meth : Method} {c : Code} {cells slots : Nat} {A : Nat → Prop} {Qf : State → Prop} {V : evT} {D : va_G} {gI : Nat → ClassId} {o : Nat} {ad : Nat → Nat} {v1 : Int32} {v2 : Int32} {v3 : Int32} {v4 : Int32} {fd : Nat → Int32} {lw : Nat → Int64} {K125 : (Nat → Nat → Int32) → Prop} (F : ct_F p m c meth cX3_raise 6 s args RX3 (some .int) A V D vwCl (tyL gI)) (hRf : 4 ≤ R.frames) (hRl : 80 ≤ R.locals) (hC : cells ≤ R.cells) (hSl : slots ≤ R.slots)
    (hK125 : ∀ (ar : Nat → Nat → Int32), K125 ar → ∀ (H : Heap) (locs : List Loc) (ls : Array Slot), va_P D vwCl (wm gI o ad fd ar lw) H → va_D A (wm gI o ad fd ar lw) → va_S A s.heap H locs → lv_has ls 6 [(0, .ref o), (1, .int v1), (2, .int v2), (3, .int v3), (4, .int v4)] → W p l e R s m args below meth c H locs cells slots Qf (F0 m 125 ls [])) :
    ∀ (n : Nat) (v5 : Int32) (ar : Nat → Nat → Int32), wp_M_raise_L4 v1 v2 v3 v4 fd lw K125 n v5 ar → ∀ (H : Heap) (locs : List Loc) (ls : Array Slot), va_P D vwCl (wm gI o ad fd ar lw) H → va_D A (wm gI o ad fd ar lw) → va_S A s.heap H locs → lv_has ls 6 [(0, .ref o), (1, .int v1), (2, .int v2), (3, .int v3), (4, .int v4), (5, .int v5)] → W p l e R s m args below meth c H locs cells slots Qf (F0 m 79 ls []) := by
  obtain ⟨⟨hx, hb, hml, hown, hts⟩, hr, hlocks, hA, hK, hE⟩ := id F
  intro n
  induction n with
  | zero => intro v5 ar h; exact h.elim
  | succ n ih =>
    intro v5 ar h H locs ls hP hD hS hl
    unfold wp_M_raise_L4 at h
    refine lv_iload hx hb dX3_raise_79 (lv_at hl 5 rfl) ?_
    refine lv_aload_n hx hb dX3_raise_81 rfl (lv_at hl 0 rfl) ?_
    refine va_get hx hb hts in_X3 hown hK hP 0 rfl rfl 3 (Nat.le_of_ble_eq_true rfl) (hts _ q1221) (fun _ h => h) (v := .int (fd 3)) rfl dX3_raise_82 ?_
    refine lv_iconst (v := (1 : Int32)) hx hb dX3_raise_85 (by decide) ?_
    refine lv_isub hx hb dX3_raise_86 ?_
    refine lv_icmp_ge (tgt := 125) hx hb dX3_raise_87 (by decide) (fun c6 => ?_) (fun c6 => ?_)
    · replace h := h.1 c6
      exact hK125 _ h _ _ _ hP hD hS (lv_sub hl [0, 1, 2, 3, 4] rfl)
    · replace h := h.2 c6
      refine lv_aload_n hx hb dX3_raise_90 rfl (lv_at hl 0 rfl) ?_
      refine va_get hx hb hts in_X3 hown hK hP 0 rfl rfl 7 (Nat.le_of_ble_eq_true rfl) (hts _ q1225) (fun _ h => h) (v := .ref (ad 7)) rfl dX3_raise_91 ?_
      refine lv_iload hx hb dX3_raise_94 (lv_at hl 5 rfl) ?_
      refine lv_iload hx hb dX3_raise_96 (lv_at hl 4 rfl) ?_
      refine lv_iload hx hb dX3_raise_98 (lv_at hl 5 rfl) ?_
      refine cl_i0 F (va_runS (As := [.int v4, .int v5]) (rest := [.int v5, .ref (ad 7)]) ⟨hx, hb, hml, hown, hts⟩ (ct_X3_has h _) (va_cwS 2 hts (lw_S q1510 q1511 q97 q1512) rfl rfl rfl (by decide +kernel) ⟨Nat.le_trans (Nat.le_of_ble_eq_true rfl) hRf, Nat.le_trans (Nat.le_of_ble_eq_true rfl) hRl⟩) ⟨ct_blind, ct_at F hS ct_nP ct_nD⟩ rfl rfl hl.1 rfl (lv_room (Nat.le_of_ble_eq_true rfl)) dX3_raise_100 ⟨hC, hSl⟩) rfl rfl hP hS ?_
      rintro x4 _ H locs h hP hS
      refine lv_if_eq (tgt := 111) hx hb dX3_raise_103 (by decide) (fun c5 => ?_) (fun c5 => ?_)
      · replace h := h.1 c5
        refine lv_aload_n hx hb dX3_raise_111 rfl (lv_at hl 0 rfl) ?_
        refine va_get hx hb hts in_X3 hown hK hP 0 rfl rfl 37 (Nat.le_of_ble_eq_true rfl) (hts _ q1255) (fun _ h => h) (v := .ref (ad 37)) rfl dX3_raise_112 ?_
        refine lv_iload hx hb dX3_raise_115 (lv_at hl 5 rfl) ?_
        refine va_iald (f := (ar 37)) hx hb hK hP 21 0 rfl rfl h.1 dX3_raise_117 ?_
        replace h := h.2
        refine pt_iast (f := (ar 7)) hx hb hK hP hD hS 3 0 rfl rfl h.1 dX3_raise_118 wmA_7 (fun H locs hP hD hS => ?_)
        replace h := h.2
        refine lv_iinc (v := (v5 + (1 : Int32))) (lv' := [(5, .int (v5 + (1 : Int32))), (0, .ref o), (1, .int v1), (2, .int v2), (3, .int v3), (4, .int v4)]) hx hb dX3_raise_119 hl (k := 5) rfl rfl (by decide) rfl (fun ls hl => ?_)
        refine lv_goto (tgt := 79) hx hb dX3_raise_122 (by decide) ?_
        exact ih _ _ h _ _ _ hP hD hS (lv_sub hl [1, 2, 3, 4, 5, 0] rfl)
      · replace h := h.2 c5
        refine lv_bipush (v := (9 : Int32)) hx hb dX3_raise_106 (by decide) ?_
        refine lv_goto (tgt := 118) hx hb dX3_raise_108 (by decide) ?_
        refine pt_iast (f := (ar 7)) hx hb hK hP hD hS 3 0 rfl rfl h.1 dX3_raise_118 wmA_7 (fun H locs hP hD hS => ?_)
        replace h := h.2
        refine lv_iinc (v := (v5 + (1 : Int32))) (lv' := [(5, .int (v5 + (1 : Int32))), (0, .ref o), (1, .int v1), (2, .int v2), (3, .int v3), (4, .int v4)]) hx hb dX3_raise_119 hl (k := 5) rfl rfl (by decide) rfl (fun ls hl => ?_)
        refine lv_goto (tgt := 79) hx hb dX3_raise_122 (by decide) ?_
        exact ih _ _ h _ _ _ hP hD hS (lv_sub hl [1, 2, 3, 4, 5, 0] rfl)
set_option maxHeartbeats 4000000 in
theorem lp_M_raise_J3 {p : Program} {l : Launch} {e : Env} {R : Room} {s : State} {m : MethodId} {args : Array Value} {below : List Frame} {meth : Method} {c : Code} {cells slots : Nat} {A : Nat → Prop} {Qf : State → Prop} {V : evT} {D : va_G} {gI : Nat → ClassId} {o : Nat} {ad : Nat → Nat} {v1 : Int32} {v2 : Int32} {fd : Nat → Int32} {lw : Nat → Int64} {K47 : (Int32) → (Int32) → (Nat → Nat → Int32) → Prop} (F : ct_F p m c meth cX3_raise 6 s args RX3 (some .int) A V D vwCl (tyL gI)) (hRf : 4 ≤ R.frames) (hRl : 80 ≤ R.locals) (hC : cells ≤ R.cells) (hSl : slots ≤ R.slots)
    (hK47 : ∀ (v3 : Int32) (v4 : Int32) (ar : Nat → Nat → Int32), K47 v3 v4 ar → ∀ (H : Heap) (locs : List Loc) (ls : Array Slot), va_P D vwCl (wm gI o ad fd ar lw) H → va_D A (wm gI o ad fd ar lw) → va_S A s.heap H locs → lv_has ls 6 [(0, .ref o), (1, .int v1), (2, .int v2), (3, .int v3), (4, .int v4)] → W p l e R s m args below meth c H locs cells slots Qf (F0 m 47 ls [])) :
    ∀ (v3 : Int32) (v4 : Int32) (ar : Nat → Nat → Int32), wp_M_raise_J3 v1 v2 fd lw K47 v3 v4 ar → ∀ (H : Heap) (locs : List Loc) (ls : Array Slot), va_P D vwCl (wm gI o ad fd ar lw) H → va_D A (wm gI o ad fd ar lw) → va_S A s.heap H locs → lv_has ls 6 [(0, .ref o), (1, .int v1), (2, .int v2), (3, .int v3), (4, .int v4)] → W p l e R s m args below meth c H locs cells slots Qf (F0 m 76 ls []) := by
  obtain ⟨⟨hx, hb, hml, hown, hts⟩, hr, hlocks, hA, hK, hE⟩ := id F
  intro v3 v4 ar h H locs ls hP hD hS hl
  unfold wp_M_raise_J3 at h
  refine lv_iconst (v := (0 : Int32)) hx hb dX3_raise_76 (by decide) ?_
  refine lv_istore (lv' := [(5, .int (0 : Int32)), (0, .ref o), (1, .int v1), (2, .int v2), (3, .int v3), (4, .int v4)]) hx hb dX3_raise_77 hl (by decide) rfl (fun ls hl => ?_)
  obtain ⟨k79, h⟩ := h
  refine lp_M_raise_L4 F hRf hRl hC hSl ?hk125 k79 _ _ h _ _ _ hP hD hS (lv_sub hl [1, 2, 3, 4, 5, 0] rfl)
  case hk125 =>
    intro ar_7 h H locs ls hP hD hS hl
    refine lv_aload_n hx hb dX3_raise_125 rfl (lv_at hl 0 rfl) ?_
    refine lv_iload_n hx hb dX3_raise_126 rfl (lv_at hl 1 rfl) ?_
    refine lv_iload_n hx hb dX3_raise_127 rfl (lv_at hl 2 rfl) ?_
    refine cl_v F (va_runV (As := [.int v1, .int v2]) (rest := []) ⟨hx, hb, hml, hown, hts⟩ (ct_M_floodsFrom h _) (cwV 2 hts (lw_V q1735 q1737 qs85 q97 q1738) rfl rfl rfl (by decide +kernel) ⟨Nat.le_trans (Nat.le_of_ble_eq_true rfl) hRf, Nat.le_trans (Nat.le_of_ble_eq_true rfl) hRl⟩) ⟨ct_blind, va_recv hK hP (ci := 2) (q0 := 0) rfl rfl, ct_at F hS hP hD⟩ rfl rfl hl.1 rfl (lv_room (Nat.le_of_ble_eq_true rfl)) dX3_raise_128 ⟨hC, hSl⟩) rfl rfl hD hS ?_
    rintro ar8 H locs h hP hD hS
    refine lv_aload_n hx hb dX3_raise_131 rfl (lv_at hl 0 rfl) ?_
    refine lv_aload_n hx hb dX3_raise_132 rfl (lv_at hl 0 rfl) ?_
    refine va_get hx hb hts in_X3 hown hK hP 0 rfl rfl 13 (Nat.le_of_ble_eq_true rfl) (hts _ q1231) (fun _ h => h) (v := .ref (ad 13)) rfl dX3_raise_133 ?_
    refine cl_i F (va_runV (As := [.ref (ad 13)]) (rest := []) ⟨hx, hb, hml, hown, hts⟩ (ct_M_wet_i13 h _) (cwV 1 hts (lw_V q1674 q1676 qs77 q97 q1677) rfl rfl rfl (by decide +kernel) ⟨Nat.le_trans (Nat.le_of_ble_eq_true rfl) hRf, Nat.le_trans (Nat.le_of_ble_eq_true rfl) hRl⟩) ⟨ct_blind, va_recv hK hP (ci := 2) (q0 := 0) rfl rfl, ct_at F hS hP hD⟩ rfl rfl hl.1 rfl (lv_room (Nat.le_of_ble_eq_true rfl)) dX3_raise_136 ⟨hC, hSl⟩) rfl rfl hD hS ?_
    rintro x9 _ H locs h hP hD hS
    refine lv_iconst (v := (1 : Int32)) hx hb dX3_raise_139 (by decide) ?_
    refine lv_iload_n hx hb dX3_raise_140 rfl (lv_at hl 1 rfl) ?_
    refine lv_ishl hx hb dX3_raise_141 ?_
    refine lv_icmp_ne (tgt := 150) hx hb dX3_raise_142 (by decide) (fun c10 => ?_) (fun c10 => ?_)
    · replace h := h.1 c10
      refine lv_iload_n hx hb dX3_raise_150 rfl (lv_at hl 3 rfl) ?_
      refine lv_istore_n (lv' := [(3, .int v3), (0, .ref o), (1, .int v1), (2, .int v2), (4, .int v4)]) hx hb dX3_raise_151 rfl hl (by decide) rfl (fun ls hl => ?_)
      refine lv_iinc (v := (v4 + (1 : Int32))) (lv' := [(4, .int (v4 + (1 : Int32))), (3, .int v3), (0, .ref o), (1, .int v1), (2, .int v2)]) hx hb dX3_raise_152 hl (k := 4) rfl rfl (by decide) rfl (fun ls hl => ?_)
      refine lv_goto (tgt := 47) hx hb dX3_raise_155 (by decide) ?_
      exact hK47 _ _ _ h _ _ _ hP hD hS (lv_sub hl [2, 3, 4, 1, 0] rfl)
    · replace h := h.2 c10
      refine lv_iload hx hb dX3_raise_145 (lv_at hl 4 rfl) ?_
      refine lv_goto (tgt := 151) hx hb dX3_raise_147 (by decide) ?_
      refine lv_istore_n (lv' := [(3, .int v4), (0, .ref o), (1, .int v1), (2, .int v2), (4, .int v4)]) hx hb dX3_raise_151 rfl hl (by decide) rfl (fun ls hl => ?_)
      refine lv_iinc (v := (v4 + (1 : Int32))) (lv' := [(4, .int (v4 + (1 : Int32))), (3, .int v4), (0, .ref o), (1, .int v1), (2, .int v2)]) hx hb dX3_raise_152 hl (k := 4) rfl rfl (by decide) rfl (fun ls hl => ?_)
      refine lv_goto (tgt := 47) hx hb dX3_raise_155 (by decide) ?_
      exact hK47 _ _ _ h _ _ _ hP hD hS (lv_sub hl [2, 3, 4, 1, 0] rfl)
set_option maxHeartbeats 4000000 in
theorem lp_M_raise_L2 {p : Program} {l : Launch} {e : Env} {R : Room} {s : State} {m : MethodId} {args : Array Value} {below : List Frame} {meth : Method} {c : Code} {cells slots : Nat} {A : Nat → Prop} {Qf : State → Prop} {V : evT} {D : va_G} {gI : Nat → ClassId} {o : Nat} {ad : Nat → Nat} {v1 : Int32} {v2 : Int32} {fd : Nat → Int32} {lw : Nat → Int64} {K158 : (Int32) → (Nat → Nat → Int32) → Prop} (F : ct_F p m c meth cX3_raise 6 s args RX3 (some .int) A V D vwCl (tyL gI)) (hRf : 4 ≤ R.frames) (hRl : 80 ≤ R.locals) (hC : cells ≤ R.cells) (hSl : slots ≤ R.slots)
    (hK158 : ∀ (v3 : Int32) (ar : Nat → Nat → Int32), K158 v3 ar → ∀ (H : Heap) (locs : List Loc) (ls : Array Slot), va_P D vwCl (wm gI o ad fd ar lw) H → va_D A (wm gI o ad fd ar lw) → va_S A s.heap H locs → lv_has ls 6 [(0, .ref o), (3, .int v3)] → W p l e R s m args below meth c H locs cells slots Qf (F0 m 158 ls [])) :
    ∀ (n : Nat) (v3 : Int32) (v4 : Int32) (ar : Nat → Nat → Int32), wp_M_raise_L2 v1 v2 fd lw K158 n v3 v4 ar → ∀ (H : Heap) (locs : List Loc) (ls : Array Slot), va_P D vwCl (wm gI o ad fd ar lw) H → va_D A (wm gI o ad fd ar lw) → va_S A s.heap H locs → lv_has ls 6 [(0, .ref o), (1, .int v1), (2, .int v2), (3, .int v3), (4, .int v4)] → W p l e R s m args below meth c H locs cells slots Qf (F0 m 47 ls []) := by
  obtain ⟨⟨hx, hb, hml, hown, hts⟩, hr, hlocks, hA, hK, hE⟩ := id F
  intro n
  induction n with
  | zero => intro v3 v4 ar h; exact h.elim
  | succ n ih =>
    intro v3 v4 ar h H locs ls hP hD hS hl
    unfold wp_M_raise_L2 at h
    refine lv_iload hx hb dX3_raise_47 (lv_at hl 4 rfl) ?_
    refine lv_iconst (v := (1 : Int32)) hx hb dX3_raise_49 (by decide) ?_
    refine lv_aload_n hx hb dX3_raise_50 rfl (lv_at hl 0 rfl) ?_
    refine va_get hx hb hts in_X3 hown hK hP 0 rfl rfl 3 (Nat.le_of_ble_eq_true rfl) (hts _ q1221) (fun _ h => h) (v := .int (fd 3)) rfl dX3_raise_51 ?_
    refine lv_iconst (v := (1 : Int32)) hx hb dX3_raise_54 (by decide) ?_
    refine lv_isub hx hb dX3_raise_55 ?_
    refine lv_ishl hx hb dX3_raise_56 ?_
    refine lv_icmp_ge (tgt := 158) hx hb dX3_raise_57 (by decide) (fun c21 => ?_) (fun c21 => ?_)
    · replace h := h.1 c21
      exact hK158 _ _ h _ _ _ hP hD hS (lv_sub hl [0, 3] rfl)
    · replace h := h.2 c21
      refine lv_iload_n hx hb dX3_raise_60 rfl (lv_at hl 3 rfl) ?_
      refine lv_if_lt (tgt := 76) hx hb dX3_raise_61 (by decide) (fun c20 => ?_) (fun c20 => ?_)
      · replace h := h.1 c20
        refine lp_M_raise_J3 F hRf hRl hC hSl ?hk47 _ _ _ h _ _ _ hP hD hS (lv_sub hl [0, 1, 2, 3, 4] rfl)
        case hk47 =>
          intro v3_11 v4_12 ar_13 h H locs ls hP hD hS hl
          exact ih _ _ _ h _ _ _ hP hD hS (lv_sub hl [0, 1, 2, 3, 4] rfl)
      · replace h := h.2 c20
        refine lv_iload hx hb dX3_raise_64 (lv_at hl 4 rfl) ?_
        refine cl_i0 F (va_runS (As := [.int v4]) (rest := []) ⟨hx, hb, hml, hown, hts⟩ (ct_J10_bitCount h _) (va_cwS 1 hts (lw_S q1552 q586 q112 q587) rfl rfl rfl (by decide +kernel) ⟨Nat.le_trans (Nat.le_of_ble_eq_true rfl) hRf, Nat.le_trans (Nat.le_of_ble_eq_true rfl) hRl⟩) ⟨ct_blind, ct_at F hS ct_nP ct_nD⟩ rfl rfl hl.1 rfl (lv_room (Nat.le_of_ble_eq_true rfl)) dX3_raise_66 ⟨hC, hSl⟩) rfl rfl hP hS ?_
        rintro x14 _ H locs h hP hS
        refine lv_iload_n hx hb dX3_raise_69 rfl (lv_at hl 3 rfl) ?_
        refine cl_i0 F (va_runS (As := [.int v3]) (rest := [.int x14]) ⟨hx, hb, hml, hown, hts⟩ (ct_J10_bitCount h _) (va_cwS 1 hts (lw_S q1552 q586 q112 q587) rfl rfl rfl (by decide +kernel) ⟨Nat.le_trans (Nat.le_of_ble_eq_true rfl) hRf, Nat.le_trans (Nat.le_of_ble_eq_true rfl) hRl⟩) ⟨ct_blind, ct_at F hS ct_nP ct_nD⟩ rfl rfl hl.1 rfl (lv_room (Nat.le_of_ble_eq_true rfl)) dX3_raise_70 ⟨hC, hSl⟩) rfl rfl hP hS ?_
        rintro x15 _ H locs h hP hS
        refine lv_icmp_ge (tgt := 152) hx hb dX3_raise_73 (by decide) (fun c19 => ?_) (fun c19 => ?_)
        · replace h := h.1 c19
          refine lv_iinc (v := (v4 + (1 : Int32))) (lv' := [(4, .int (v4 + (1 : Int32))), (0, .ref o), (1, .int v1), (2, .int v2), (3, .int v3)]) hx hb dX3_raise_152 hl (k := 4) rfl rfl (by decide) rfl (fun ls hl => ?_)
          refine lv_goto (tgt := 47) hx hb dX3_raise_155 (by decide) ?_
          exact ih _ _ _ h _ _ _ hP hD hS (lv_sub hl [1, 2, 3, 4, 0] rfl)
        · replace h := h.2 c19
          refine lp_M_raise_J3 F hRf hRl hC hSl ?hk47 _ _ _ h _ _ _ hP hD hS (lv_sub hl [0, 1, 2, 3, 4] rfl)
          case hk47 =>
            intro v3_16 v4_17 ar_18 h H locs ls hP hD hS hl
            exact ih _ _ _ h _ _ _ hP hD hS (lv_sub hl [0, 1, 2, 3, 4] rfl)
set_option maxHeartbeats 4000000 in
theorem lp_M_raise_L5 {p : Program} {l : Launch} {e : Env} {R : Room} {s : State} {m : MethodId} {args : Array Value} {below : List Frame} {meth : Method} {c : Code} {cells slots : Nat} {A : Nat → Prop} {Qf : State → Prop} {V : evT} {D : va_G} {gI : Nat → ClassId} {o : Nat} {ad : Nat → Nat} {v3 : Int32} {fd : Nat → Int32} {lw : Nat → Int64} {K188 : (Nat → Nat → Int32) → Prop} (F : ct_F p m c meth cX3_raise 6 s args RX3 (some .int) A V D vwCl (tyL gI)) (hRf : 4 ≤ R.frames) (hRl : 80 ≤ R.locals) (hC : cells ≤ R.cells) (hSl : slots ≤ R.slots)
    (hK188 : ∀ (ar : Nat → Nat → Int32), K188 ar → ∀ (H : Heap) (locs : List Loc) (ls : Array Slot), va_P D vwCl (wm gI o ad fd ar lw) H → va_D A (wm gI o ad fd ar lw) → va_S A s.heap H locs → lv_has ls 6 [(0, .ref o), (3, .int v3)] → W p l e R s m args below meth c H locs cells slots Qf (F0 m 188 ls [])) :
    ∀ (n : Nat) (v4 : Int32) (ar : Nat → Nat → Int32), wp_M_raise_L5 v3 fd lw K188 n v4 ar → ∀ (H : Heap) (locs : List Loc) (ls : Array Slot), va_P D vwCl (wm gI o ad fd ar lw) H → va_D A (wm gI o ad fd ar lw) → va_S A s.heap H locs → lv_has ls 6 [(0, .ref o), (3, .int v3), (4, .int v4)] → W p l e R s m args below meth c H locs cells slots Qf (F0 m 161 ls []) := by
  obtain ⟨⟨hx, hb, hml, hown, hts⟩, hr, hlocks, hA, hK, hE⟩ := id F
  intro n
  induction n with
  | zero => intro v4 ar h; exact h.elim
  | succ n ih =>
    intro v4 ar h H locs ls hP hD hS hl
    unfold wp_M_raise_L5 at h
    refine lv_iload hx hb dX3_raise_161 (lv_at hl 2 rfl) ?_
    refine lv_bipush (v := (12 : Int32)) hx hb dX3_raise_163 (by decide) ?_
    refine lv_icmp_ge (tgt := 188) hx hb dX3_raise_165 (by decide) (fun c24 => ?_) (fun c24 => ?_)
    · replace h := h.1 c24
      exact hK188 _ h _ _ _ hP hD hS (lv_sub hl [0, 1] rfl)
    · replace h := h.2 c24
      refine lv_aload_n hx hb dX3_raise_168 rfl (lv_at hl 0 rfl) ?_
      refine va_get hx hb hts in_X3 hown hK hP 0 rfl rfl 7 (Nat.le_of_ble_eq_true rfl) (hts _ q1225) (fun _ h => h) (v := .ref (ad 7)) rfl dX3_raise_169 ?_
      refine lv_iload hx hb dX3_raise_172 (lv_at hl 2 rfl) ?_
      refine lv_aload_n hx hb dX3_raise_174 rfl (lv_at hl 0 rfl) ?_
      refine va_get hx hb hts in_X3 hown hK hP 0 rfl rfl 37 (Nat.le_of_ble_eq_true rfl) (hts _ q1255) (fun _ h => h) (v := .ref (ad 37)) rfl dX3_raise_175 ?_
      refine lv_iload hx hb dX3_raise_178 (lv_at hl 2 rfl) ?_
      refine va_iald (f := (ar 37)) hx hb hK hP 21 0 rfl rfl h.1 dX3_raise_180 ?_
      replace h := h.2
      refine pt_iast (f := (ar 7)) hx hb hK hP hD hS 3 0 rfl rfl h.1 dX3_raise_181 wmA_7 (fun H locs hP hD hS => ?_)
      replace h := h.2
      refine lv_iinc (v := (v4 + (1 : Int32))) (lv' := [(4, .int (v4 + (1 : Int32))), (0, .ref o), (3, .int v3)]) hx hb dX3_raise_182 hl (k := 2) rfl rfl (by decide) rfl (fun ls hl => ?_)
      refine lv_goto (tgt := 161) hx hb dX3_raise_185 (by decide) ?_
      exact ih _ _ h _ _ _ hP hD hS (lv_sub hl [1, 2, 0] rfl)
set_option maxHeartbeats 4000000 in
theorem ct_M_raise {l : Launch} {V : evT} {D : va_G} {gI : Nat → ClassId} {o : Nat} {ad : Nat → Nat} {v1 : Int32} {v2 : Int32} {fd : Nat → Int32} {ar : Nat → Nat → Int32} {lw : Nat → Int64} {Q : Int32 → (Nat → Int32) → (Nat → Nat → Int32) → (Nat → Int64) → Prop} (h : wp_M_raise v1 v2 fd ar lw Q) : ct_i l V D vwCl (tyL gI) yX3_raise cX3_raise 6 .int { frames := 4, cells := 0, slots := 0, locals := 80 } [.ref o, .int v1, .int v2] (wm gI o ad fd ar lw) (fun u : (Nat → Int32) × (Nat → Nat → Int32) × (Nat → Int64) => (wm gI o ad u.1 u.2.1 u.2.2)) (fun (x : Int32) (u : (Nat → Int32) × (Nat → Nat → Int32) × (Nat → Int64)) => Q x u.1 u.2.1 u.2.2) := by
  refine ct_ofi RX3 rfl (by decide +kernel) (Nat.le_of_ble_eq_true rfl) ?_
  intro p e s m args below meth c A F hP hD ls hl
  obtain ⟨⟨hx, hb, hml, hown, hts⟩, hr, hlocks, hA, hK, hE⟩ := id F
  have hS : va_S A s.heap s.heap [] := va_S.rf
  have hl : lv_has ls 6 [(0, .ref o), (1, .int v1), (2, .int v2)] := hl
  have hRf : 4 ≤ ({ frames := 4, cells := 0, slots := 0, locals := 80 } : Room).frames := Nat.le_refl _
  have hRl : 80 ≤ ({ frames := 4, cells := 0, slots := 0, locals := 80 } : Room).locals := Nat.le_refl _
  have hC : 0 ≤ ({ frames := 4, cells := 0, slots := 0, locals := 80 } : Room).cells := Nat.le_refl _
  have hSl : 0 ≤ ({ frames := 4, cells := 0, slots := 0, locals := 80 } : Room).slots := Nat.le_refl _
  unfold wp_M_raise at h
  refine lv_aload_n hx hb dX3_raise_0 rfl (lv_at hl 0 rfl) ?_
  refine lv_iconst (v := (0 : Int32)) hx hb dX3_raise_1 (by decide) ?_
  refine pt_put (v := .int (0 : Int32)) hx hb hts in_X3 tyX3 tyX3_ok nmX3 hown hK hP hD hS 0 rfl rfl 0 (Nat.le_of_ble_eq_true rfl) (hts _ q1218) (fun _ h => h) rfl (ty := .int) (by decide +kernel) rfl rfl (Nat.le_of_ble_eq_true rfl) dX3_raise_2 wmF_0 (fun H locs hP hD hS => ?_)
  refine lv_aload_n hx hb dX3_raise_5 rfl (lv_at hl 0 rfl) ?_
  refine lv_iload_n hx hb dX3_raise_6 rfl (lv_at hl 1 rfl) ?_
  refine lv_iload_n hx hb dX3_raise_7 rfl (lv_at hl 2 rfl) ?_
  refine cl_i F (va_runV (As := [.int v1, .int v2]) (rest := []) ⟨hx, hb, hml, hown, hts⟩ (ct_M_canFlood h _) (cwV 2 hts (lw_V q1730 q1732 qs84 q97 q1733) rfl rfl rfl (by decide +kernel) ⟨Nat.le_trans (Nat.le_of_ble_eq_true rfl) hRf, Nat.le_trans (Nat.le_of_ble_eq_true rfl) hRl⟩) ⟨ct_blind, va_recv hK hP (ci := 2) (q0 := 0) rfl rfl, ct_at F hS hP hD⟩ rfl rfl hl.1 rfl (lv_room (Nat.le_of_ble_eq_true rfl)) dX3_raise_8 ⟨hC, hSl⟩) rfl rfl hD hS ?_
  rintro x1 _ H locs h hP hD hS
  refine lv_if_ne (tgt := 16) hx hb dX3_raise_11 (by decide) (fun c30 => ?_) (fun c30 => ?_)
  · replace h := h.1 c30
    refine lv_iconst (v := (0 : Int32)) hx hb dX3_raise_16 (by decide) ?_
    refine lv_istore_n (lv' := [(3, .int (0 : Int32)), (0, .ref o), (1, .int v1), (2, .int v2)]) hx hb dX3_raise_17 rfl hl (by decide) rfl (fun ls hl => ?_)
    obtain ⟨k18, h⟩ := h
    refine lp_M_raise_L1 F hRf hRl hC hSl ?hk42 k18 _ _ h _ _ _ hP hD hS (lv_sub hl [1, 2, 3, 0] rfl)
    case hk42 =>
      intro ar_3 h H locs ls hP hD hS hl
      refine lv_iconst (v := (-1 : Int32)) hx hb dX3_raise_42 (by decide) ?_
      refine lv_istore_n (lv' := [(3, .int (-1 : Int32)), (0, .ref o), (1, .int v1), (2, .int v2)]) hx hb dX3_raise_43 rfl hl (by decide) rfl (fun ls hl => ?_)
      refine lv_iconst (v := (0 : Int32)) hx hb dX3_raise_44 (by decide) ?_
      refine lv_istore (lv' := [(4, .int (0 : Int32)), (3, .int (-1 : Int32)), (0, .ref o), (1, .int v1), (2, .int v2)]) hx hb dX3_raise_45 hl (by decide) rfl (fun ls hl => ?_)
      obtain ⟨k47, h⟩ := h
      refine lp_M_raise_L2 F hRf hRl hC hSl ?hk158 k47 _ _ _ h _ _ _ hP hD hS (lv_sub hl [2, 3, 4, 1, 0] rfl)
      case hk158 =>
        intro v3_22 ar_23 h H locs ls hP hD hS hl
        refine lv_iconst (v := (0 : Int32)) hx hb dX3_raise_158 (by decide) ?_
        refine lv_istore (lv' := [(4, .int (0 : Int32)), (0, .ref o), (3, .int v3_22)]) hx hb dX3_raise_159 hl (by decide) rfl (fun ls hl => ?_)
        obtain ⟨k161, h⟩ := h
        refine lp_M_raise_L5 F hRf hRl hC hSl ?hk188 k161 _ _ h _ _ _ hP hD hS (lv_sub hl [1, 2, 0] rfl)
        case hk188 =>
          intro ar_25 h H locs ls hP hD hS hl
          refine lv_iload_n hx hb dX3_raise_188 rfl (lv_at hl 1 rfl) ?_
          refine lv_if_ge (tgt := 195) hx hb dX3_raise_189 (by decide) (fun c29 => ?_) (fun c29 => ?_)
          · replace h := h.1 c29
            refine lv_aload_n hx hb dX3_raise_195 rfl (lv_at hl 0 rfl) ?_
            refine lv_iconst (v := (0 : Int32)) hx hb dX3_raise_196 (by decide) ?_
            refine pt_put (v := .int (0 : Int32)) hx hb hts in_X3 tyX3 tyX3_ok nmX3 hown hK hP hD hS 0 rfl rfl 1 (Nat.le_of_ble_eq_true rfl) (hts _ q1219) (fun _ h => h) rfl (ty := .int) (by decide +kernel) rfl rfl (Nat.le_of_ble_eq_true rfl) dX3_raise_197 wmF_1 (fun H locs hP hD hS => ?_)
            refine lv_aload_n hx hb dX3_raise_200 rfl (lv_at hl 0 rfl) ?_
            refine lv_iload_n hx hb dX3_raise_201 rfl (lv_at hl 1 rfl) ?_
            refine lv_i2l (v := (v3_22.toInt64)) hx hb dX3_raise_202 rfl ?_
            refine cl_v F (va_runV (As := [.long (v3_22.toInt64)]) (rest := []) ⟨hx, hb, hml, hown, hts⟩ (ct_M_enters h _) (cwV 1 hts (lw_V q1634 q1636 qs70 q97 q1637) rfl rfl rfl (by decide +kernel) ⟨Nat.le_trans (Nat.le_of_ble_eq_true rfl) hRf, Nat.le_trans (Nat.le_of_ble_eq_true rfl) hRl⟩) ⟨ct_blind, va_recv hK hP (ci := 2) (q0 := 0) rfl rfl, ct_at F hS hP hD⟩ rfl rfl hl.1 rfl (lv_room (Nat.le_of_ble_eq_true rfl)) dX3_raise_203 ⟨hC, hSl⟩) rfl rfl hD hS ?_
            rintro ⟨fd26, lw27⟩ H locs h hP hD hS
            refine lv_iload_n hx hb dX3_raise_206 rfl (lv_at hl 1 rfl) ?_
            refine cl_i0 F (va_runS (As := [.int v3_22]) (rest := []) ⟨hx, hb, hml, hown, hts⟩ (ct_J10_bitCount h _) (va_cwS 1 hts (lw_S q1552 q586 q112 q587) rfl rfl rfl (by decide +kernel) ⟨Nat.le_trans (Nat.le_of_ble_eq_true rfl) hRf, Nat.le_trans (Nat.le_of_ble_eq_true rfl) hRl⟩) ⟨ct_blind, ct_at F hS ct_nP ct_nD⟩ rfl rfl hl.1 rfl (lv_room (Nat.le_of_ble_eq_true rfl)) dX3_raise_207 ⟨hC, hSl⟩) rfl rfl hP hS ?_
            rintro x28 _ H locs h hP hS
            exact rt_i F dX3_raise_210 rfl (fd26, ar_25, lw27) h hP hD hS (Nat.le_refl _) (Nat.le_refl _)
          · replace h := h.2 c29
            refine lv_bipush (v := (-2 : Int32)) hx hb dX3_raise_192 (by decide) ?_
            exact rt_i F dX3_raise_194 rfl ((upd fd 0 (0 : Int32)), ar_25, lw) h hP hD hS (Nat.le_refl _) (Nat.le_refl _)
  · replace h := h.2 c30
    refine lv_iconst (v := (-1 : Int32)) hx hb dX3_raise_14 (by decide) ?_
    exact rt_i F dX3_raise_15 rfl ((upd fd 0 (0 : Int32)), ar, lw) h hP hD hS (Nat.le_refl _) (Nat.le_refl _)
set_option maxHeartbeats 4000000 in
theorem lp_M_readsChild_J1 {p : Program} {l : Launch} {e : Env} {R : Room} {s : State} {m : MethodId} {args : Array Value} {below : List Frame} {meth : Method} {c : Code} {cells slots : Nat} {A : Nat → Prop} {V : evT} {D : va_G} {gI : Nat → ClassId} {o : Nat} {ad : Nat → Nat} {v1 : Int32} {v2 : Int32} {lw : Nat → Int64} {Q : Int32 → (Nat → Int32) → (Nat → Nat → Int32) → Prop} (F : ct_F p m c meth cX3_readsChild 3 s args RX3 (some .boolean) A V D vwCl (tyL gI)) (hRf : 5 ≤ R.frames) (hRl : 104 ≤ R.locals) (hC : cells ≤ R.cells) (hSl : slots ≤ R.slots) :
    ∀ (t0 : Int32) (t1 : Int32) (fd : Nat → Int32) (ar : Nat → Nat → Int32), wp_M_readsChild_J1 v1 v2 lw Q t0 t1 fd ar → ∀ (H : Heap) (locs : List Loc) (ls : Array Slot), va_P D vwCl (wm gI o ad fd ar lw) H → va_D A (wm gI o ad fd ar lw) → va_S A s.heap H locs → lv_has ls 3 [(0, .ref o), (1, .int v1), (2, .int v2)] → W p l e R s m args below meth c H locs cells slots (MQ below (va_Qi (fun (x : Int32) (u : (Nat → Int32) × (Nat → Nat → Int32)) => Q x u.1 u.2) (fun u t => va_P D vwCl (wm gI o ad u.1 u.2 lw) t.heap ∧ va_K D vwCl (tyL gI) t ∧ va_D A (wm gI o ad u.1 u.2 lw)) A) args s cells slots A) (F0 m 127 ls [.int t0, .int t1, .ref (ad 19)]) := by
  obtain ⟨⟨hx, hb, hml, hown, hts⟩, hr, hlocks, hA, hK, hE⟩ := id F
  intro t0 t1 fd ar h H locs ls hP hD hS hl
  unfold wp_M_readsChild_J1 at h
  refine pt_iast (f := (ar 19)) hx hb hK hP hD hS 11 0 rfl rfl h.1 dX3_readsChild_127 wmA_19 (fun H locs hP hD hS => ?_)
  replace h := h.2
  refine lv_aload_n hx hb dX3_readsChild_128 rfl (lv_at hl 0 rfl) ?_
  refine lv_dup hx hb dX3_readsChild_129 rfl ?_
  refine va_get hx hb hts in_X3 hown hK hP 0 rfl rfl 20 (Nat.le_of_ble_eq_true rfl) (hts _ q1238) (fun _ h => h) (v := .int (fd 20)) rfl dX3_readsChild_130 ?_
  refine lv_iconst (v := (1 : Int32)) hx hb dX3_readsChild_133 (by decide) ?_
  refine lv_iadd hx hb dX3_readsChild_134 ?_
  refine pt_put (v := .int ((fd 20) + (1 : Int32))) hx hb hts in_X3 tyX3 tyX3_ok nmX3 hown hK hP hD hS 0 rfl rfl 20 (Nat.le_of_ble_eq_true rfl) (hts _ q1238) (fun _ h => h) rfl (ty := .int) (by decide +kernel) rfl rfl (Nat.le_of_ble_eq_true rfl) dX3_readsChild_135 wmF_20 (fun H locs hP hD hS => ?_)
  refine lv_iload_n hx hb dX3_readsChild_138 rfl (lv_at hl 2 rfl) ?_
  refine lv_if_ne (tgt := 153) hx hb dX3_readsChild_139 (by decide) (fun c12 => ?_) (fun c12 => ?_)
  · replace h := h.1 c12
    refine lv_iconst (v := (1 : Int32)) hx hb dX3_readsChild_153 (by decide) ?_
    refine lv_goto (tgt := 158) hx hb dX3_readsChild_154 (by decide) ?_
    exact rt_i F dX3_readsChild_158 rfl ((upd fd 20 ((fd 20) + (1 : Int32))), (va_up ar 19 (upd (ar 19) t1.toNatClampNeg t0))) h hP hD hS (Nat.le_refl _) (Nat.le_refl _)
  · replace h := h.2 c12
    refine lv_aload_n hx hb dX3_readsChild_142 rfl (lv_at hl 0 rfl) ?_
    refine va_get hx hb hts in_X3 hown hK hP 0 rfl rfl 19 (Nat.le_of_ble_eq_true rfl) (hts _ q1237) (fun _ h => h) (v := .ref (ad 19)) rfl dX3_readsChild_143 ?_
    refine lv_iload_n hx hb dX3_readsChild_146 rfl (lv_at hl 1 rfl) ?_
    refine lv_iconst (v := (2 : Int32)) hx hb dX3_readsChild_147 (by decide) ?_
    refine lv_iadd hx hb dX3_readsChild_148 ?_
    refine va_iald (f := (upd (ar 19) t1.toNatClampNeg t0)) hx hb hK hP 11 0 rfl rfl h.1 dX3_readsChild_149 ?_
    replace h := h.2
    refine lv_if_lt (tgt := 157) hx hb dX3_readsChild_150 (by decide) (fun c11 => ?_) (fun c11 => ?_)
    · replace h := h.1 c11
      refine lv_iconst (v := (0 : Int32)) hx hb dX3_readsChild_157 (by decide) ?_
      exact rt_i F dX3_readsChild_158 rfl ((upd fd 20 ((fd 20) + (1 : Int32))), (va_up ar 19 (upd (ar 19) t1.toNatClampNeg t0))) h hP hD hS (Nat.le_refl _) (Nat.le_refl _)
    · replace h := h.2 c11
      refine lv_iconst (v := (1 : Int32)) hx hb dX3_readsChild_153 (by decide) ?_
      refine lv_goto (tgt := 158) hx hb dX3_readsChild_154 (by decide) ?_
      exact rt_i F dX3_readsChild_158 rfl ((upd fd 20 ((fd 20) + (1 : Int32))), (va_up ar 19 (upd (ar 19) t1.toNatClampNeg t0))) h hP hD hS (Nat.le_refl _) (Nat.le_refl _)
set_option maxHeartbeats 4000000 in
theorem ct_M_readsChild {l : Launch} {V : evT} {D : va_G} {gI : Nat → ClassId} {o : Nat} {ad : Nat → Nat} {fd : Nat → Int32} {ar : Nat → Nat → Int32} {lw : Nat → Int64} {Q : Int32 → (Nat → Int32) → (Nat → Nat → Int32) → Prop} (h : wp_M_readsChild fd ar lw Q) : ct_i l V D vwCl (tyL gI) yX3_readsChild cX3_readsChild 3 .boolean { frames := 5, cells := 0, slots := 0, locals := 104 } [.ref o] (wm gI o ad fd ar lw) (fun u : (Nat → Int32) × (Nat → Nat → Int32) => (wm gI o ad u.1 u.2 lw)) (fun (x : Int32) (u : (Nat → Int32) × (Nat → Nat → Int32)) => Q x u.1 u.2) := by
  refine ct_ofi RX3 rfl (by decide +kernel) (Nat.le_of_ble_eq_true rfl) ?_
  intro p e s m args below meth c A F hP hD ls hl
  obtain ⟨⟨hx, hb, hml, hown, hts⟩, hr, hlocks, hA, hK, hE⟩ := id F
  have hS : va_S A s.heap s.heap [] := va_S.rf
  have hl : lv_has ls 3 [(0, .ref o)] := hl
  have hRf : 5 ≤ ({ frames := 5, cells := 0, slots := 0, locals := 104 } : Room).frames := Nat.le_refl _
  have hRl : 104 ≤ ({ frames := 5, cells := 0, slots := 0, locals := 104 } : Room).locals := Nat.le_refl _
  have hC : 0 ≤ ({ frames := 5, cells := 0, slots := 0, locals := 104 } : Room).cells := Nat.le_refl _
  have hSl : 0 ≤ ({ frames := 5, cells := 0, slots := 0, locals := 104 } : Room).slots := Nat.le_refl _
  unfold wp_M_readsChild at h
  refine lv_aload_n hx hb dX3_readsChild_0 rfl (lv_at hl 0 rfl) ?_
  refine va_get hx hb hts in_X3 hown hK hP 0 rfl rfl 4 (Nat.le_of_ble_eq_true rfl) (hts _ q1222) (fun _ h => h) (v := .int (fd 4)) rfl dX3_readsChild_1 ?_
  refine lv_aload_n hx hb dX3_readsChild_4 rfl (lv_at hl 0 rfl) ?_
  refine va_get hx hb hts in_X3 hown hK hP 0 rfl rfl 20 (Nat.le_of_ble_eq_true rfl) (hts _ q1238) (fun _ h => h) (v := .int (fd 20)) rfl dX3_readsChild_5 ?_
  refine lv_iadd hx hb dX3_readsChild_8 ?_
  refine lv_bipush (v := (8 : Int32)) hx hb dX3_readsChild_9 (by decide) ?_
  refine lv_icmp_ne (tgt := 16) hx hb dX3_readsChild_11 (by decide) (fun c17 => ?_) (fun c17 => ?_)
  · replace h := h.1 c17
    refine lv_iconst (v := (3 : Int32)) hx hb dX3_readsChild_16 (by decide) ?_
    refine lv_aload_n hx hb dX3_readsChild_17 rfl (lv_at hl 0 rfl) ?_
    refine va_get hx hb hts in_X3 hown hK hP 0 rfl rfl 20 (Nat.le_of_ble_eq_true rfl) (hts _ q1238) (fun _ h => h) (v := .int (fd 20)) rfl dX3_readsChild_18 ?_
    refine lv_imul hx hb dX3_readsChild_21 ?_
    refine lv_istore_n (lv' := [(1, .int ((3 : Int32) * (fd 20))), (0, .ref o)]) hx hb dX3_readsChild_22 rfl hl (by decide) rfl (fun ls hl => ?_)
    refine lv_aload_n hx hb dX3_readsChild_23 rfl (lv_at hl 1 rfl) ?_
    refine va_get hx hb hts in_X3 hown hK hP 0 rfl rfl 19 (Nat.le_of_ble_eq_true rfl) (hts _ q1237) (fun _ h => h) (v := .ref (ad 19)) rfl dX3_readsChild_24 ?_
    refine lv_iload_n hx hb dX3_readsChild_27 rfl (lv_at hl 0 rfl) ?_
    refine lv_aload_n hx hb dX3_readsChild_28 rfl (lv_at hl 1 rfl) ?_
    refine lv_iconst (v := (2 : Int32)) hx hb dX3_readsChild_29 (by decide) ?_
    refine lv_iconst (v := (4 : Int32)) hx hb dX3_readsChild_30 (by decide) ?_
    refine lv_bipush (v := (13 : Int32)) hx hb dX3_readsChild_31 (by decide) ?_
    refine cl_i F (va_runV (As := [.int (2 : Int32), .int (4 : Int32), .int (13 : Int32)]) (rest := [.int ((3 : Int32) * (fd 20)), .ref (ad 19)]) ⟨hx, hb, hml, hown, hts⟩ (ct_M_numberIn h _) (cwV 3 hts (lw_V q1428 q1430 qs41 q97 q1431) rfl rfl rfl (by decide +kernel) ⟨Nat.le_trans (Nat.le_of_ble_eq_true rfl) hRf, Nat.le_trans (Nat.le_of_ble_eq_true rfl) hRl⟩) ⟨ct_blind, va_recv hK hP (ci := 2) (q0 := 0) rfl rfl, ct_at F hS hP hD⟩ rfl rfl hl.1 rfl (lv_room (Nat.le_of_ble_eq_true rfl)) dX3_readsChild_33 ⟨hC, hSl⟩) rfl rfl hD hS ?_
    rintro x1 fd2 H locs h hP hD hS
    refine pt_iast (f := (ar 19)) hx hb hK hP hD hS 11 0 rfl rfl h.1 dX3_readsChild_36 wmA_19 (fun H locs hP hD hS => ?_)
    replace h := h.2
    refine lv_aload_n hx hb dX3_readsChild_37 rfl (lv_at hl 1 rfl) ?_
    refine va_get hx hb hts in_X3 hown hK hP 0 rfl rfl 19 (Nat.le_of_ble_eq_true rfl) (hts _ q1237) (fun _ h => h) (v := .ref (ad 19)) rfl dX3_readsChild_38 ?_
    refine lv_iload_n hx hb dX3_readsChild_41 rfl (lv_at hl 0 rfl) ?_
    refine va_iald (f := (upd (ar 19) ((3 : Int32) * (fd 20)).toNatClampNeg x1)) hx hb hK hP 11 0 rfl rfl h.1 dX3_readsChild_42 ?_
    replace h := h.2
    refine lv_if_lt (tgt := 55) hx hb dX3_readsChild_43 (by decide) (fun c16 => ?_) (fun c16 => ?_)
    · replace h := h.1 c16
      refine lv_iconst (v := (0 : Int32)) hx hb dX3_readsChild_55 (by decide) ?_
      exact rt_i F dX3_readsChild_56 rfl (fd2, (va_up ar 19 (upd (ar 19) ((3 : Int32) * (fd 20)).toNatClampNeg x1))) h hP hD hS (Nat.le_refl _) (Nat.le_refl _)
    · replace h := h.2 c16
      refine lv_aload_n hx hb dX3_readsChild_46 rfl (lv_at hl 1 rfl) ?_
      refine lv_bipush (v := (44 : Int32)) hx hb dX3_readsChild_47 (by decide) ?_
      refine cl_i F (va_runV (As := [.int (44 : Int32)]) (rest := []) ⟨hx, hb, hml, hown, hts⟩ (ct_M_takes h _) (cwV 1 hts (lw_V q1403 q1405 qs37 q97 q1406) rfl rfl rfl (by decide +kernel) ⟨Nat.le_trans (Nat.le_of_ble_eq_true rfl) hRf, Nat.le_trans (Nat.le_of_ble_eq_true rfl) hRl⟩) ⟨ct_blind, va_recv hK hP (ci := 2) (q0 := 0) rfl rfl, ct_at F hS hP hD⟩ rfl rfl hl.1 rfl (lv_room (Nat.le_of_ble_eq_true rfl)) dX3_readsChild_49 ⟨hC, hSl⟩) rfl rfl hD hS ?_
      rintro x3 fd4 H locs h hP hD hS
      refine lv_if_ne (tgt := 57) hx hb dX3_readsChild_52 (by decide) (fun c15 => ?_) (fun c15 => ?_)
      · replace h := h.1 c15
        refine lv_aload_n hx hb dX3_readsChild_57 rfl (lv_at hl 1 rfl) ?_
        refine va_get hx hb hts in_X3 hown hK hP 0 rfl rfl 19 (Nat.le_of_ble_eq_true rfl) (hts _ q1237) (fun _ h => h) (v := .ref (ad 19)) rfl dX3_readsChild_58 ?_
        refine lv_iload_n hx hb dX3_readsChild_61 rfl (lv_at hl 0 rfl) ?_
        refine lv_iconst (v := (1 : Int32)) hx hb dX3_readsChild_62 (by decide) ?_
        refine lv_iadd hx hb dX3_readsChild_63 ?_
        refine lv_aload_n hx hb dX3_readsChild_64 rfl (lv_at hl 1 rfl) ?_
        refine lv_bipush (v := (48 : Int32)) hx hb dX3_readsChild_65 (by decide) ?_
        refine lv_iconst (v := (1 : Int32)) hx hb dX3_readsChild_67 (by decide) ?_
        refine lv_bipush (v := (9 : Int32)) hx hb dX3_readsChild_68 (by decide) ?_
        refine cl_i F (va_runV (As := [.int (48 : Int32), .int (1 : Int32), .int (9 : Int32)]) (rest := [.int (((3 : Int32) * (fd 20)) + (1 : Int32)), .ref (ad 19)]) ⟨hx, hb, hml, hown, hts⟩ (ct_M_signIn h _) (cwV 3 hts (lw_V q1432 q1434 qs42 q97 q1435) rfl rfl rfl (by decide +kernel) ⟨Nat.le_trans (Nat.le_of_ble_eq_true rfl) hRf, Nat.le_trans (Nat.le_of_ble_eq_true rfl) hRl⟩) ⟨ct_blind, va_recv hK hP (ci := 2) (q0 := 0) rfl rfl, ct_at F hS hP hD⟩ rfl rfl hl.1 rfl (lv_room (Nat.le_of_ble_eq_true rfl)) dX3_readsChild_70 ⟨hC, hSl⟩) rfl rfl hD hS ?_
        rintro x5 fd6 H locs h hP hD hS
        refine pt_iast (f := (upd (ar 19) ((3 : Int32) * (fd 20)).toNatClampNeg x1)) hx hb hK hP hD hS 11 0 rfl rfl h.1 dX3_readsChild_73 (wmA_19.trans (wmrA (va_rm0 ..))) (fun H locs hP hD hS => ?_)
        replace h := h.2
        refine lv_aload_n hx hb dX3_readsChild_74 rfl (lv_at hl 1 rfl) ?_
        refine va_get hx hb hts in_X3 hown hK hP 0 rfl rfl 19 (Nat.le_of_ble_eq_true rfl) (hts _ q1237) (fun _ h => h) (v := .ref (ad 19)) rfl dX3_readsChild_75 ?_
        refine lv_iload_n hx hb dX3_readsChild_78 rfl (lv_at hl 0 rfl) ?_
        refine lv_iconst (v := (1 : Int32)) hx hb dX3_readsChild_79 (by decide) ?_
        refine lv_iadd hx hb dX3_readsChild_80 ?_
        refine va_iald (f := (upd (upd (ar 19) ((3 : Int32) * (fd 20)).toNatClampNeg x1) (((3 : Int32) * (fd 20)) + (1 : Int32)).toNatClampNeg x5)) hx hb hK hP 11 0 rfl rfl h.1 dX3_readsChild_81 ?_
        replace h := h.2
        refine lv_if_ge (tgt := 87) hx hb dX3_readsChild_82 (by decide) (fun c14 => ?_) (fun c14 => ?_)
        · replace h := h.1 c14
          refine lv_aload_n hx hb dX3_readsChild_87 rfl (lv_at hl 1 rfl) ?_
          refine lv_bipush (v := (45 : Int32)) hx hb dX3_readsChild_88 (by decide) ?_
          refine cl_i F (va_runV (As := [.int (45 : Int32)]) (rest := []) ⟨hx, hb, hml, hown, hts⟩ (ct_M_takes h _) (cwV 1 hts (lw_V q1403 q1405 qs37 q97 q1406) rfl rfl rfl (by decide +kernel) ⟨Nat.le_trans (Nat.le_of_ble_eq_true rfl) hRf, Nat.le_trans (Nat.le_of_ble_eq_true rfl) hRl⟩) ⟨ct_blind, va_recv hK hP (ci := 2) (q0 := 0) rfl rfl, ct_at F hS hP hD⟩ rfl rfl hl.1 rfl (lv_room (Nat.le_of_ble_eq_true rfl)) dX3_readsChild_90 ⟨hC, hSl⟩) rfl rfl hD hS ?_
          rintro x7 fd8 H locs h hP hD hS
          refine lv_istore_n (lv' := [(2, .int x7), (1, .int ((3 : Int32) * (fd 20))), (0, .ref o)]) hx hb dX3_readsChild_93 rfl hl (by decide) rfl (fun ls hl => ?_)
          refine lv_aload_n hx hb dX3_readsChild_94 rfl (lv_at hl 2 rfl) ?_
          refine va_get hx hb hts in_X3 hown hK hP 0 rfl rfl 19 (Nat.le_of_ble_eq_true rfl) (hts _ q1237) (fun _ h => h) (v := .ref (ad 19)) rfl dX3_readsChild_95 ?_
          refine lv_iload_n hx hb dX3_readsChild_98 rfl (lv_at hl 1 rfl) ?_
          refine lv_iconst (v := (2 : Int32)) hx hb dX3_readsChild_99 (by decide) ?_
          refine lv_iadd hx hb dX3_readsChild_100 ?_
          refine lv_iload_n hx hb dX3_readsChild_101 rfl (lv_at hl 0 rfl) ?_
          refine lv_if_eq (tgt := 109) hx hb dX3_readsChild_102 (by decide) (fun c13 => ?_) (fun c13 => ?_)
          · replace h := h.1 c13
            refine lv_aload_n hx hb dX3_readsChild_109 rfl (lv_at hl 2 rfl) ?_
            refine lv_bipush (v := (97 : Int32)) hx hb dX3_readsChild_110 (by decide) ?_
            refine lv_iconst (v := (0 : Int32)) hx hb dX3_readsChild_112 (by decide) ?_
            refine lv_aload_n hx hb dX3_readsChild_113 rfl (lv_at hl 2 rfl) ?_
            refine va_get hx hb hts in_X3 hown hK hP 0 rfl rfl 4 (Nat.le_of_ble_eq_true rfl) (hts _ q1222) (fun _ h => h) (v := .int (fd8 4)) rfl dX3_readsChild_114 ?_
            refine lv_aload_n hx hb dX3_readsChild_117 rfl (lv_at hl 2 rfl) ?_
            refine va_get hx hb hts in_X3 hown hK hP 0 rfl rfl 20 (Nat.le_of_ble_eq_true rfl) (hts _ q1238) (fun _ h => h) (v := .int (fd8 20)) rfl dX3_readsChild_118 ?_
            refine lv_iadd hx hb dX3_readsChild_121 ?_
            refine lv_iconst (v := (1 : Int32)) hx hb dX3_readsChild_122 (by decide) ?_
            refine lv_isub hx hb dX3_readsChild_123 ?_
            refine cl_i F (va_runV (As := [.int (97 : Int32), .int (0 : Int32), .int (((fd8 4) + (fd8 20)) - (1 : Int32))]) (rest := [.int (((3 : Int32) * (fd 20)) + (2 : Int32)), .ref (ad 19)]) ⟨hx, hb, hml, hown, hts⟩ (ct_M_signIn h _) (cwV 3 hts (lw_V q1432 q1434 qs42 q97 q1435) rfl rfl rfl (by decide +kernel) ⟨Nat.le_trans (Nat.le_of_ble_eq_true rfl) hRf, Nat.le_trans (Nat.le_of_ble_eq_true rfl) hRl⟩) ⟨ct_blind, va_recv hK hP (ci := 2) (q0 := 0) rfl rfl, ct_at F hS hP hD⟩ rfl rfl hl.1 rfl (lv_room (Nat.le_of_ble_eq_true rfl)) dX3_readsChild_124 ⟨hC, hSl⟩) rfl rfl hD hS ?_
            rintro x9 fd10 H locs h hP hD hS
            refine lp_M_readsChild_J1 F hRf hRl hC hSl  _ _ _ _ h _ _ _ hP hD hS (lv_sub hl [2, 1, 0] rfl)
          · replace h := h.2 c13
            refine lv_iconst (v := (-1 : Int32)) hx hb dX3_readsChild_105 (by decide) ?_
            refine lv_goto (tgt := 127) hx hb dX3_readsChild_106 (by decide) ?_
            refine lp_M_readsChild_J1 F hRf hRl hC hSl  _ _ _ _ h _ _ _ hP hD hS (lv_sub hl [2, 1, 0] rfl)
        · replace h := h.2 c14
          refine lv_iconst (v := (0 : Int32)) hx hb dX3_readsChild_85 (by decide) ?_
          exact rt_i F dX3_readsChild_86 rfl (fd6, (va_up ar 19 (upd (upd (ar 19) ((3 : Int32) * (fd 20)).toNatClampNeg x1) (((3 : Int32) * (fd 20)) + (1 : Int32)).toNatClampNeg x5))) h hP hD hS (Nat.le_refl _) (Nat.le_refl _)
      · replace h := h.2 c15
        refine lv_iconst (v := (0 : Int32)) hx hb dX3_readsChild_55 (by decide) ?_
        exact rt_i F dX3_readsChild_56 rfl (fd4, (va_up ar 19 (upd (ar 19) ((3 : Int32) * (fd 20)).toNatClampNeg x1))) h hP hD hS (Nat.le_refl _) (Nat.le_refl _)
  · replace h := h.2 c17
    refine lv_iconst (v := (0 : Int32)) hx hb dX3_readsChild_14 (by decide) ?_
    exact rt_i F dX3_readsChild_15 rfl (fd, ar) h hP hD hS (Nat.le_refl _) (Nat.le_refl _)
set_option maxHeartbeats 4000000 in
theorem ct_M_child {l : Launch} {V : evT} {D : va_G} {gI : Nat → ClassId} {o : Nat} {ad : Nat → Nat} {v1 : Int32} {v2 : Int32} {fd : Nat → Int32} {ar : Nat → Nat → Int32} {lw : Nat → Int64} {Q : Int32 → (Nat → Int32) → Prop} (h : wp_M_child v1 v2 fd ar lw Q) : ct_i l V D vwCl (tyL gI) yX3_child cX3_child 3 .int { frames := 5, cells := 0, slots := 0, locals := 103 } [.ref o, .int v1, .int v2] (wm gI o ad fd ar lw) (fun u : (Nat → Int32) => (wm gI o ad u ar lw)) (fun (x : Int32) (u : (Nat → Int32)) => Q x u) := by
  refine ct_ofi RX3 rfl (by decide +kernel) (Nat.le_of_ble_eq_true rfl) ?_
  intro p e s m args below meth c A F hP hD ls hl
  obtain ⟨⟨hx, hb, hml, hown, hts⟩, hr, hlocks, hA, hK, hE⟩ := id F
  have hS : va_S A s.heap s.heap [] := va_S.rf
  have hl : lv_has ls 3 [(0, .ref o), (1, .int v1), (2, .int v2)] := hl
  have hRf : 5 ≤ ({ frames := 5, cells := 0, slots := 0, locals := 103 } : Room).frames := Nat.le_refl _
  have hRl : 103 ≤ ({ frames := 5, cells := 0, slots := 0, locals := 103 } : Room).locals := Nat.le_refl _
  have hC : 0 ≤ ({ frames := 5, cells := 0, slots := 0, locals := 103 } : Room).cells := Nat.le_refl _
  have hSl : 0 ≤ ({ frames := 5, cells := 0, slots := 0, locals := 103 } : Room).slots := Nat.le_refl _
  unfold wp_M_child at h
  refine lv_aload_n hx hb dX3_child_0 rfl (lv_at hl 0 rfl) ?_
  refine lv_iconst (v := (0 : Int32)) hx hb dX3_child_1 (by decide) ?_
  refine pt_put (v := .int (0 : Int32)) hx hb hts in_X3 tyX3 tyX3_ok nmX3 hown hK hP hD hS 0 rfl rfl 0 (Nat.le_of_ble_eq_true rfl) (hts _ q1218) (fun _ h => h) rfl (ty := .int) (by decide +kernel) rfl rfl (Nat.le_of_ble_eq_true rfl) dX3_child_2 wmF_0 (fun H locs hP hD hS => ?_)
  refine lv_aload_n hx hb dX3_child_5 rfl (lv_at hl 0 rfl) ?_
  refine lv_iload_n hx hb dX3_child_6 rfl (lv_at hl 1 rfl) ?_
  refine cl_i F (va_runV (As := [.int v1]) (rest := []) ⟨hx, hb, hml, hown, hts⟩ (ct_M_isChild h _) (cwV 1 hts (lw_V q1528 q1530 qs55 q97 q1531) rfl rfl rfl (by decide +kernel) ⟨Nat.le_trans (Nat.le_of_ble_eq_true rfl) hRf, Nat.le_trans (Nat.le_of_ble_eq_true rfl) hRl⟩) ⟨ct_blind, va_recv hK hP (ci := 2) (q0 := 0) rfl rfl, ct_at F hS hP hD⟩ rfl rfl hl.1 rfl (lv_room (Nat.le_of_ble_eq_true rfl)) dX3_child_7 ⟨hC, hSl⟩) rfl rfl hD hS ?_
  rintro x1 _ H locs h hP hD hS
  refine lv_if_eq (tgt := 25) hx hb dX3_child_10 (by decide) (fun c19 => ?_) (fun c19 => ?_)
  · replace h := h.1 c19
    refine lv_aload_n hx hb dX3_child_25 rfl (lv_at hl 0 rfl) ?_
    refine cl_i F (va_runV (As := []) (rest := []) ⟨hx, hb, hml, hown, hts⟩ (ct_M_refuse h _) (cwV 0 hts (lw_V q1506 q1508 qs52 q97 q1509) rfl rfl rfl (by decide +kernel) ⟨Nat.le_trans (Nat.le_of_ble_eq_true rfl) hRf, Nat.le_trans (Nat.le_of_ble_eq_true rfl) hRl⟩) ⟨ct_blind, va_recv hK hP (ci := 2) (q0 := 0) rfl rfl, ct_at F hS hP hD⟩ rfl rfl hl.1 rfl (lv_room (Nat.le_of_ble_eq_true rfl)) dX3_child_26 ⟨hC, hSl⟩) rfl rfl hD hS ?_
    rintro x2 fd3 H locs h hP hD hS
    exact rt_i F dX3_child_29 rfl (fd3) h hP hD hS (Nat.le_refl _) (Nat.le_refl _)
  · replace h := h.2 c19
    refine lv_iload_n hx hb dX3_child_13 rfl (lv_at hl 2 rfl) ?_
    refine lv_i2l (v := (v2.toInt64)) hx hb dX3_child_14 rfl ?_
    refine lv_lconst (v := (0 : Int64)) hx hb dX3_child_15 (by decide) ?_
    refine lv_ldc2 (v := (6 : Int64)) hx hb hown (hts _ q1505) dX3_child_16 ?_
    refine cl_i0 F (va_runS (As := [.long (v2.toInt64), .long (0 : Int64), .long (6 : Int64)]) (rest := []) ⟨hx, hb, hml, hown, hts⟩ (ct_X3_in h _) (va_cwS 3 hts (lw_S q1391 q1392 q97 q1393) rfl rfl rfl (by decide +kernel) ⟨Nat.le_trans (Nat.le_of_ble_eq_true rfl) hRf, Nat.le_trans (Nat.le_of_ble_eq_true rfl) hRl⟩) ⟨ct_blind, ct_at F hS ct_nP ct_nD⟩ rfl rfl hl.1 rfl (lv_room (Nat.le_of_ble_eq_true rfl)) dX3_child_19 ⟨hC, hSl⟩) rfl rfl hP hS ?_
    rintro x4 _ H locs h hP hS
    refine lv_if_ne (tgt := 30) hx hb dX3_child_22 (by decide) (fun c18 => ?_) (fun c18 => ?_)
    · replace h := h.1 c18
      refine lv_iload_n hx hb dX3_child_30 rfl (lv_at hl 2 rfl) ?_
      by_cases c5 : v2 = (0 : Int32)
      · replace h := h.1 c5
        refine lv_tableIn (off := 37) (tgt := 68) hx hb dX3_child_31 (by rw [c5]; decide) (by rw [c5]; decide) (by rw [c5]; rfl) (by decide) ?_
        refine lv_aload_n hx hb dX3_child_68 rfl (lv_at hl 0 rfl) ?_
        refine va_get hx hb hts in_X3 hown hK hP 0 rfl rfl 8 (Nat.le_of_ble_eq_true rfl) (hts _ q1226) (fun _ h => h) (v := .ref (ad 8)) rfl dX3_child_69 ?_
        refine lv_iload_n hx hb dX3_child_72 rfl (lv_at hl 1 rfl) ?_
        refine va_iald (f := (ar 8)) hx hb hK hP 4 0 rfl rfl h.1 dX3_child_73 ?_
        replace h := h.2
        exact rt_i F dX3_child_74 rfl ((upd fd 0 (0 : Int32))) h hP hD hS (Nat.le_refl _) (Nat.le_refl _)
      replace h := h.2 c5
      by_cases c6 : v2 = (1 : Int32)
      · replace h := h.1 c6
        refine lv_tableIn (off := 44) (tgt := 75) hx hb dX3_child_31 (by rw [c6]; decide) (by rw [c6]; decide) (by rw [c6]; rfl) (by decide) ?_
        refine lv_aload_n hx hb dX3_child_75 rfl (lv_at hl 0 rfl) ?_
        refine va_get hx hb hts in_X3 hown hK hP 0 rfl rfl 9 (Nat.le_of_ble_eq_true rfl) (hts _ q1227) (fun _ h => h) (v := .ref (ad 9)) rfl dX3_child_76 ?_
        refine lv_iload_n hx hb dX3_child_79 rfl (lv_at hl 1 rfl) ?_
        refine va_iald (f := (ar 9)) hx hb hK hP 5 0 rfl rfl h.1 dX3_child_80 ?_
        replace h := h.2
        exact rt_i F dX3_child_81 rfl ((upd fd 0 (0 : Int32))) h hP hD hS (Nat.le_refl _) (Nat.le_refl _)
      replace h := h.2 c6
      by_cases c7 : v2 = (2 : Int32)
      · replace h := h.1 c7
        refine lv_tableIn (off := 51) (tgt := 82) hx hb dX3_child_31 (by rw [c7]; decide) (by rw [c7]; decide) (by rw [c7]; rfl) (by decide) ?_
        refine lv_aload_n hx hb dX3_child_82 rfl (lv_at hl 0 rfl) ?_
        refine va_get hx hb hts in_X3 hown hK hP 0 rfl rfl 10 (Nat.le_of_ble_eq_true rfl) (hts _ q1228) (fun _ h => h) (v := .ref (ad 10)) rfl dX3_child_83 ?_
        refine lv_iload_n hx hb dX3_child_86 rfl (lv_at hl 1 rfl) ?_
        refine va_iald (f := (ar 10)) hx hb hK hP 6 0 rfl rfl h.1 dX3_child_87 ?_
        replace h := h.2
        exact rt_i F dX3_child_88 rfl ((upd fd 0 (0 : Int32))) h hP hD hS (Nat.le_refl _) (Nat.le_refl _)
      replace h := h.2 c7
      by_cases c8 : v2 = (3 : Int32)
      · replace h := h.1 c8
        refine lv_tableIn (off := 58) (tgt := 89) hx hb dX3_child_31 (by rw [c8]; decide) (by rw [c8]; decide) (by rw [c8]; rfl) (by decide) ?_
        refine lv_aload_n hx hb dX3_child_89 rfl (lv_at hl 0 rfl) ?_
        refine va_get hx hb hts in_X3 hown hK hP 0 rfl rfl 12 (Nat.le_of_ble_eq_true rfl) (hts _ q1230) (fun _ h => h) (v := .ref (ad 12)) rfl dX3_child_90 ?_
        refine lv_iload_n hx hb dX3_child_93 rfl (lv_at hl 1 rfl) ?_
        refine cl_i F (va_runS (As := [.ref (ad 12), .int v1]) (rest := []) ⟨hx, hb, hml, hown, hts⟩ (ct_M_moodOf_i12 h _) (va_cwS 2 hts (lw_S q1532 q1533 q97 q1534) rfl rfl rfl (by decide +kernel) ⟨Nat.le_trans (Nat.le_of_ble_eq_true rfl) hRf, Nat.le_trans (Nat.le_of_ble_eq_true rfl) hRl⟩) ⟨ct_blind, ct_at F hS hP hD⟩ rfl rfl hl.1 rfl (lv_room (Nat.le_of_ble_eq_true rfl)) dX3_child_94 ⟨hC, hSl⟩) rfl rfl hD hS ?_
        rintro x9 _ H locs h hP hD hS
        exact rt_i F dX3_child_97 rfl ((upd fd 0 (0 : Int32))) h hP hD hS (Nat.le_refl _) (Nat.le_refl _)
      replace h := h.2 c8
      by_cases c10 : v2 = (4 : Int32)
      · replace h := h.1 c10
        refine lv_tableIn (off := 67) (tgt := 98) hx hb dX3_child_31 (by rw [c10]; decide) (by rw [c10]; decide) (by rw [c10]; rfl) (by decide) ?_
        refine lv_aload_n hx hb dX3_child_98 rfl (lv_at hl 0 rfl) ?_
        refine va_get hx hb hts in_X3 hown hK hP 0 rfl rfl 12 (Nat.le_of_ble_eq_true rfl) (hts _ q1230) (fun _ h => h) (v := .ref (ad 12)) rfl dX3_child_99 ?_
        refine lv_bipush (v := (41 : Int32)) hx hb dX3_child_102 (by decide) ?_
        refine va_iald (f := (ar 12)) hx hb hK hP 8 0 rfl rfl (by unfold vp_in; decide) dX3_child_104 ?_
        refine lv_iload_n hx hb dX3_child_105 rfl (lv_at hl 1 rfl) ?_
        refine cl_i0 F (va_runS (As := [.int (ar 12 (41 : Int32).toNatClampNeg), .int v1]) (rest := []) ⟨hx, hb, hml, hown, hts⟩ (ct_X3_has h _) (va_cwS 2 hts (lw_S q1510 q1511 q97 q1512) rfl rfl rfl (by decide +kernel) ⟨Nat.le_trans (Nat.le_of_ble_eq_true rfl) hRf, Nat.le_trans (Nat.le_of_ble_eq_true rfl) hRl⟩) ⟨ct_blind, ct_at F hS ct_nP ct_nD⟩ rfl rfl hl.1 rfl (lv_room (Nat.le_of_ble_eq_true rfl)) dX3_child_106 ⟨hC, hSl⟩) rfl rfl hP hS ?_
        rintro x11 _ H locs h hP hS
        refine cl_i0 F (va_runS (As := [.int x11]) (rest := []) ⟨hx, hb, hml, hown, hts⟩ (ct_X3_flag h _) (va_cwS 1 hts (lw_S q1407 q1408 q97 q1409) rfl rfl rfl (by decide +kernel) ⟨Nat.le_trans (Nat.le_of_ble_eq_true rfl) hRf, Nat.le_trans (Nat.le_of_ble_eq_true rfl) hRl⟩) ⟨ct_blind, ct_at F hS ct_nP ct_nD⟩ rfl rfl hl.1 rfl (lv_room (Nat.le_of_ble_eq_true rfl)) dX3_child_109 ⟨hC, hSl⟩) rfl rfl hP hS ?_
        rintro x12 _ H locs h hP hS
        exact rt_i F dX3_child_112 rfl ((upd fd 0 (0 : Int32))) h hP hD hS (Nat.le_refl _) (Nat.le_refl _)
      replace h := h.2 c10
      by_cases c13 : v2 = (5 : Int32)
      · replace h := h.1 c13
        refine lv_tableIn (off := 82) (tgt := 113) hx hb dX3_child_31 (by rw [c13]; decide) (by rw [c13]; decide) (by rw [c13]; rfl) (by decide) ?_
        refine lv_aload_n hx hb dX3_child_113 rfl (lv_at hl 0 rfl) ?_
        refine va_get hx hb hts in_X3 hown hK hP 0 rfl rfl 12 (Nat.le_of_ble_eq_true rfl) (hts _ q1230) (fun _ h => h) (v := .ref (ad 12)) rfl dX3_child_114 ?_
        refine lv_iload_n hx hb dX3_child_117 rfl (lv_at hl 1 rfl) ?_
        refine cl_i F (va_runS (As := [.ref (ad 12), .int v1]) (rest := []) ⟨hx, hb, hml, hown, hts⟩ (ct_M_atOf_i12 h _) (va_cwS 2 hts (lw_S q1517 q1518 q97 q1519) rfl rfl rfl (by decide +kernel) ⟨Nat.le_trans (Nat.le_of_ble_eq_true rfl) hRf, Nat.le_trans (Nat.le_of_ble_eq_true rfl) hRl⟩) ⟨ct_blind, ct_at F hS hP hD⟩ rfl rfl hl.1 rfl (lv_room (Nat.le_of_ble_eq_true rfl)) dX3_child_118 ⟨hC, hSl⟩) rfl rfl hD hS ?_
        rintro x14 _ H locs h hP hD hS
        exact rt_i F dX3_child_121 rfl ((upd fd 0 (0 : Int32))) h hP hD hS (Nat.le_refl _) (Nat.le_refl _)
      replace h := h.2 c13
      have hsw : v2.toInt < (0 : Int) ∨ (5 : Int) < v2.toInt := by
        have := lv_neT (a := 0) c5 (by decide)
        have := lv_neT (a := 1) c6 (by decide)
        have := lv_neT (a := 2) c7 (by decide)
        have := lv_neT (a := 3) c8 (by decide)
        have := lv_neT (a := 4) c10 (by decide)
        have := lv_neT (a := 5) c13 (by decide)
        omega
      refine lv_tableOut (tgt := 122) hx hb dX3_child_31 hsw (by decide) ?_
      refine lv_aload_n hx hb dX3_child_122 rfl (lv_at hl 0 rfl) ?_
      refine lv_aload_n hx hb dX3_child_123 rfl (lv_at hl 0 rfl) ?_
      refine va_get hx hb hts in_X3 hown hK hP 0 rfl rfl 12 (Nat.le_of_ble_eq_true rfl) (hts _ q1230) (fun _ h => h) (v := .ref (ad 12)) rfl dX3_child_124 ?_
      refine lv_iload_n hx hb dX3_child_127 rfl (lv_at hl 1 rfl) ?_
      refine cl_i F (va_runV (As := [.ref (ad 12), .int v1]) (rest := []) ⟨hx, hb, hml, hown, hts⟩ (ct_M_bucketsOf_i12 h _) (cwV 2 hts (lw_V q1535 q1537 qs56 q97 q1538) rfl rfl rfl (by decide +kernel) ⟨Nat.le_trans (Nat.le_of_ble_eq_true rfl) hRf, Nat.le_trans (Nat.le_of_ble_eq_true rfl) hRl⟩) ⟨ct_blind, va_recv hK hP (ci := 2) (q0 := 0) rfl rfl, ct_at F hS hP hD⟩ rfl rfl hl.1 rfl (lv_room (Nat.le_of_ble_eq_true rfl)) dX3_child_128 ⟨hC, hSl⟩) rfl rfl hD hS ?_
      rintro x15 _ H locs h hP hD hS
      exact rt_i F dX3_child_131 rfl ((upd fd 0 (0 : Int32))) h hP hD hS (Nat.le_refl _) (Nat.le_refl _)
    · replace h := h.2 c18
      refine lv_aload_n hx hb dX3_child_25 rfl (lv_at hl 0 rfl) ?_
      refine cl_i F (va_runV (As := []) (rest := []) ⟨hx, hb, hml, hown, hts⟩ (ct_M_refuse h _) (cwV 0 hts (lw_V q1506 q1508 qs52 q97 q1509) rfl rfl rfl (by decide +kernel) ⟨Nat.le_trans (Nat.le_of_ble_eq_true rfl) hRf, Nat.le_trans (Nat.le_of_ble_eq_true rfl) hRl⟩) ⟨ct_blind, va_recv hK hP (ci := 2) (q0 := 0) rfl rfl, ct_at F hS hP hD⟩ rfl rfl hl.1 rfl (lv_room (Nat.le_of_ble_eq_true rfl)) dX3_child_26 ⟨hC, hSl⟩) rfl rfl hD hS ?_
      rintro x16 fd17 H locs h hP hD hS
      exact rt_i F dX3_child_29 rfl (fd17) h hP hD hS (Nat.le_refl _) (Nat.le_refl _)
set_option maxHeartbeats 4000000 in
theorem lp_M_spellGoes_L1_i12 {p : Program} {l : Launch} {e : Env} {R : Room} {s : State} {m : MethodId} {args : Array Value} {below : List Frame} {meth : Method} {c : Code} {cells slots : Nat} {A : Nat → Prop} {Qf : State → Prop} {V : evT} {D : va_G} {gI : Nat → ClassId} {o : Nat} {ad : Nat → Nat} {fd : Nat → Int32} {lw : Nat → Int64} {K23 : (Nat → Nat → Int32) → Prop} (F : ct_F p m c meth cX3_spellGoes 4 s args RX3 none A V D vwCl (tyL gI)) (hRf : 5 ≤ R.frames) (hRl : 103 ≤ R.locals) (hC : cells ≤ R.cells) (hSl : slots ≤ R.slots)
    (hK23 : ∀ (ar : Nat → Nat → Int32), K23 ar → ∀ (H : Heap) (locs : List Loc) (ls : Array Slot), va_P D vwCl (wm gI o ad fd ar lw) H → va_D A (wm gI o ad fd ar lw) → va_S A s.heap H locs → lv_has ls 4 [(0, .ref o), (1, .ref (ad 12))] → W p l e R s m args below meth c H locs cells slots Qf (F0 m 23 ls [])) :
    ∀ (n : Nat) (v2 : Int32) (ar : Nat → Nat → Int32), wp_M_spellGoes_L1 12 fd lw K23 n v2 ar → ∀ (H : Heap) (locs : List Loc) (ls : Array Slot), va_P D vwCl (wm gI o ad fd ar lw) H → va_D A (wm gI o ad fd ar lw) → va_S A s.heap H locs → lv_has ls 4 [(0, .ref o), (1, .ref (ad 12)), (2, .int v2)] → W p l e R s m args below meth c H locs cells slots Qf (F0 m 2 ls []) := by
  obtain ⟨⟨hx, hb, hml, hown, hts⟩, hr, hlocks, hA, hK, hE⟩ := id F
  intro n
  induction n with
  | zero => intro v2 ar h; exact h.elim
  | succ n ih =>
    intro v2 ar h H locs ls hP hD hS hl
    unfold wp_M_spellGoes_L1 at h
    refine lv_iload_n hx hb dX3_spellGoes_2 rfl (lv_at hl 2 rfl) ?_
    refine lv_aload_n hx hb dX3_spellGoes_3 rfl (lv_at hl 0 rfl) ?_
    refine va_get hx hb hts in_X3 hown hK hP 0 rfl rfl 3 (Nat.le_of_ble_eq_true rfl) (hts _ q1221) (fun _ h => h) (v := .int (fd 3)) rfl dX3_spellGoes_4 ?_
    refine lv_icmp_ge (tgt := 23) hx hb dX3_spellGoes_7 (by decide) (fun c1 => ?_) (fun c1 => ?_)
    · replace h := h.1 c1
      exact hK23 _ h _ _ _ hP hD hS (lv_sub hl [0, 1] rfl)
    · replace h := h.2 c1
      refine lv_aload_n hx hb dX3_spellGoes_10 rfl (lv_at hl 0 rfl) ?_
      refine va_get hx hb hts in_X3 hown hK hP 0 rfl rfl 30 (Nat.le_of_ble_eq_true rfl) (hts _ q1248) (fun _ h => h) (v := .ref (ad 30)) rfl dX3_spellGoes_11 ?_
      refine lv_iload_n hx hb dX3_spellGoes_14 rfl (lv_at hl 2 rfl) ?_
      refine lv_iconst (v := (0 : Int32)) hx hb dX3_spellGoes_15 (by decide) ?_
      refine pt_iast (f := (ar 30)) hx hb hK hP hD hS 17 0 rfl rfl h.1 dX3_spellGoes_16 wmA_30 (fun H locs hP hD hS => ?_)
      replace h := h.2
      refine lv_iinc (v := (v2 + (1 : Int32))) (lv' := [(2, .int (v2 + (1 : Int32))), (0, .ref o), (1, .ref (ad 12))]) hx hb dX3_spellGoes_17 hl (k := 2) rfl rfl (by decide) rfl (fun ls hl => ?_)
      refine lv_goto (tgt := 2) hx hb dX3_spellGoes_20 (by decide) ?_
      exact ih _ _ h _ _ _ hP hD hS (lv_sub hl [1, 2, 0] rfl)
set_option maxHeartbeats 4000000 in
theorem lp_M_spellGoes_L2_i12 {p : Program} {l : Launch} {e : Env} {R : Room} {s : State} {m : MethodId} {args : Array Value} {below : List Frame} {meth : Method} {c : Code} {cells slots : Nat} {A : Nat → Prop} {Qf : State → Prop} {V : evT} {D : va_G} {gI : Nat → ClassId} {o : Nat} {ad : Nat → Nat} {fd : Nat → Int32} {lw : Nat → Int64} {K66 : (Nat → Nat → Int32) → Prop} (F : ct_F p m c meth cX3_spellGoes 4 s args RX3 none A V D vwCl (tyL gI)) (hRf : 5 ≤ R.frames) (hRl : 103 ≤ R.locals) (hC : cells ≤ R.cells) (hSl : slots ≤ R.slots)
    (hK66 : ∀ (ar : Nat → Nat → Int32), K66 ar → ∀ (H : Heap) (locs : List Loc) (ls : Array Slot), va_P D vwCl (wm gI o ad fd ar lw) H → va_D A (wm gI o ad fd ar lw) → va_S A s.heap H locs → lv_has ls 4 [(0, .ref o), (1, .ref (ad 12))] → W p l e R s m args below meth c H locs cells slots Qf (F0 m 66 ls [])) :
    ∀ (n : Nat) (v2 : Int32) (ar : Nat → Nat → Int32), wp_M_spellGoes_L2 12 fd lw K66 n v2 ar → ∀ (H : Heap) (locs : List Loc) (ls : Array Slot), va_P D vwCl (wm gI o ad fd ar lw) H → va_D A (wm gI o ad fd ar lw) → va_S A s.heap H locs → lv_has ls 4 [(0, .ref o), (1, .ref (ad 12)), (2, .int v2)] → W p l e R s m args below meth c H locs cells slots Qf (F0 m 25 ls []) := by
  obtain ⟨⟨hx, hb, hml, hown, hts⟩, hr, hlocks, hA, hK, hE⟩ := id F
  intro n
  induction n with
  | zero => intro v2 ar h; exact h.elim
  | succ n ih =>
    intro v2 ar h H locs ls hP hD hS hl
    unfold wp_M_spellGoes_L2 at h
    refine lv_iload_n hx hb dX3_spellGoes_25 rfl (lv_at hl 2 rfl) ?_
    refine lv_aload_n hx hb dX3_spellGoes_26 rfl (lv_at hl 0 rfl) ?_
    refine va_get hx hb hts in_X3 hown hK hP 0 rfl rfl 4 (Nat.le_of_ble_eq_true rfl) (hts _ q1222) (fun _ h => h) (v := .int (fd 4)) rfl dX3_spellGoes_27 ?_
    refine lv_icmp_ge (tgt := 66) hx hb dX3_spellGoes_30 (by decide) (fun c7 => ?_) (fun c7 => ?_)
    · replace h := h.1 c7
      exact hK66 _ h _ _ _ hP hD hS (lv_sub hl [0, 1] rfl)
    · replace h := h.2 c7
      refine lv_aload_n hx hb dX3_spellGoes_33 rfl (lv_at hl 1 rfl) ?_
      refine lv_iload_n hx hb dX3_spellGoes_34 rfl (lv_at hl 2 rfl) ?_
      refine cl_i F (va_runS (As := [.ref (ad 12), .int v2]) (rest := []) ⟨hx, hb, hml, hown, hts⟩ (ct_M_atOf_i12 h _) (va_cwS 2 hts (lw_S q1517 q1518 q97 q1519) rfl rfl rfl (by decide +kernel) ⟨Nat.le_trans (Nat.le_of_ble_eq_true rfl) hRf, Nat.le_trans (Nat.le_of_ble_eq_true rfl) hRl⟩) ⟨ct_blind, ct_at F hS hP hD⟩ rfl rfl hl.1 rfl (lv_room (Nat.le_of_ble_eq_true rfl)) dX3_spellGoes_35 ⟨hC, hSl⟩) rfl rfl hD hS ?_
      rintro x3 _ H locs h hP hD hS
      refine lv_if_lt (tgt := 60) hx hb dX3_spellGoes_38 (by decide) (fun c6 => ?_) (fun c6 => ?_)
      · replace h := h.1 c6
        refine lv_iinc (v := (v2 + (1 : Int32))) (lv' := [(2, .int (v2 + (1 : Int32))), (0, .ref o), (1, .ref (ad 12))]) hx hb dX3_spellGoes_60 hl (k := 2) rfl rfl (by decide) rfl (fun ls hl => ?_)
        refine lv_goto (tgt := 25) hx hb dX3_spellGoes_63 (by decide) ?_
        exact ih _ _ h _ _ _ hP hD hS (lv_sub hl [1, 2, 0] rfl)
      · replace h := h.2 c6
        refine lv_aload_n hx hb dX3_spellGoes_41 rfl (lv_at hl 0 rfl) ?_
        refine va_get hx hb hts in_X3 hown hK hP 0 rfl rfl 30 (Nat.le_of_ble_eq_true rfl) (hts _ q1248) (fun _ h => h) (v := .ref (ad 30)) rfl dX3_spellGoes_42 ?_
        refine lv_aload_n hx hb dX3_spellGoes_45 rfl (lv_at hl 1 rfl) ?_
        refine lv_iload_n hx hb dX3_spellGoes_46 rfl (lv_at hl 2 rfl) ?_
        refine cl_i F (va_runS (As := [.ref (ad 12), .int v2]) (rest := [.ref (ad 30)]) ⟨hx, hb, hml, hown, hts⟩ (ct_M_atOf_i12 h _) (va_cwS 2 hts (lw_S q1517 q1518 q97 q1519) rfl rfl rfl (by decide +kernel) ⟨Nat.le_trans (Nat.le_of_ble_eq_true rfl) hRf, Nat.le_trans (Nat.le_of_ble_eq_true rfl) hRl⟩) ⟨ct_blind, ct_at F hS hP hD⟩ rfl rfl hl.1 rfl (lv_room (Nat.le_of_ble_eq_true rfl)) dX3_spellGoes_47 ⟨hC, hSl⟩) rfl rfl hD hS ?_
        rintro x4 _ H locs h hP hD hS
        refine lv_dup2_11 hx hb dX3_spellGoes_50 rfl rfl ?_
        refine va_iald (f := (ar 30)) hx hb hK hP 17 0 rfl rfl h.1 dX3_spellGoes_51 ?_
        replace h := h.2
        refine lv_aload_n hx hb dX3_spellGoes_52 rfl (lv_at hl 0 rfl) ?_
        refine lv_aload_n hx hb dX3_spellGoes_53 rfl (lv_at hl 1 rfl) ?_
        refine lv_iload_n hx hb dX3_spellGoes_54 rfl (lv_at hl 2 rfl) ?_
        refine cl_i F (va_runV (As := [.ref (ad 12), .int v2]) (rest := [.int (ar 30 x4.toNatClampNeg), .int x4, .ref (ad 30)]) ⟨hx, hb, hml, hown, hts⟩ (ct_M_bucketsOf_i12 h _) (cwV 2 hts (lw_V q1535 q1537 qs56 q97 q1538) rfl rfl rfl (by decide +kernel) ⟨Nat.le_trans (Nat.le_of_ble_eq_true rfl) hRf, Nat.le_trans (Nat.le_of_ble_eq_true rfl) hRl⟩) ⟨ct_blind, va_recv hK hP (ci := 2) (q0 := 0) rfl rfl, ct_at F hS hP hD⟩ rfl rfl hl.1 rfl (lv_room (Nat.le_of_ble_eq_true rfl)) dX3_spellGoes_55 ⟨hC, hSl⟩) rfl rfl hD hS ?_
        rintro x5 _ H locs h hP hD hS
        refine lv_iadd hx hb dX3_spellGoes_58 ?_
        refine pt_iast (f := (ar 30)) hx hb hK hP hD hS 17 0 rfl rfl h.1 dX3_spellGoes_59 wmA_30 (fun H locs hP hD hS => ?_)
        replace h := h.2
        refine lv_iinc (v := (v2 + (1 : Int32))) (lv' := [(2, .int (v2 + (1 : Int32))), (0, .ref o), (1, .ref (ad 12))]) hx hb dX3_spellGoes_60 hl (k := 2) rfl rfl (by decide) rfl (fun ls hl => ?_)
        refine lv_goto (tgt := 25) hx hb dX3_spellGoes_63 (by decide) ?_
        exact ih _ _ h _ _ _ hP hD hS (lv_sub hl [1, 2, 0] rfl)
set_option maxHeartbeats 4000000 in
theorem lp_M_spellGoes_L3_i12 {p : Program} {l : Launch} {e : Env} {R : Room} {s : State} {m : MethodId} {args : Array Value} {below : List Frame} {meth : Method} {c : Code} {cells slots : Nat} {A : Nat → Prop} {Qf : State → Prop} {V : evT} {D : va_G} {gI : Nat → ClassId} {o : Nat} {ad : Nat → Nat} {fd : Nat → Int32} {lw : Nat → Int64} {K101 : (Nat → Nat → Int32) → Prop} (F : ct_F p m c meth cX3_spellGoes 4 s args RX3 none A V D vwCl (tyL gI)) (hRf : 5 ≤ R.frames) (hRl : 103 ≤ R.locals) (hC : cells ≤ R.cells) (hSl : slots ≤ R.slots)
    (hK101 : ∀ (ar : Nat → Nat → Int32), K101 ar → ∀ (H : Heap) (locs : List Loc) (ls : Array Slot), va_P D vwCl (wm gI o ad fd ar lw) H → va_D A (wm gI o ad fd ar lw) → va_S A s.heap H locs → lv_has ls 4 [(0, .ref o), (1, .ref (ad 12))] → W p l e R s m args below meth c H locs cells slots Qf (F0 m 101 ls [])) :
    ∀ (n : Nat) (v2 : Int32) (ar : Nat → Nat → Int32), wp_M_spellGoes_L3 12 fd lw K101 n v2 ar → ∀ (H : Heap) (locs : List Loc) (ls : Array Slot), va_P D vwCl (wm gI o ad fd ar lw) H → va_D A (wm gI o ad fd ar lw) → va_S A s.heap H locs → lv_has ls 4 [(0, .ref o), (1, .ref (ad 12)), (2, .int v2)] → W p l e R s m args below meth c H locs cells slots Qf (F0 m 68 ls []) := by
  obtain ⟨⟨hx, hb, hml, hown, hts⟩, hr, hlocks, hA, hK, hE⟩ := id F
  intro n
  induction n with
  | zero => intro v2 ar h; exact h.elim
  | succ n ih =>
    intro v2 ar h H locs ls hP hD hS hl
    unfold wp_M_spellGoes_L3 at h
    refine lv_iload_n hx hb dX3_spellGoes_68 rfl (lv_at hl 2 rfl) ?_
    refine lv_aload_n hx hb dX3_spellGoes_69 rfl (lv_at hl 0 rfl) ?_
    refine va_get hx hb hts in_X3 hown hK hP 0 rfl rfl 3 (Nat.le_of_ble_eq_true rfl) (hts _ q1221) (fun _ h => h) (v := .int (fd 3)) rfl dX3_spellGoes_70 ?_
    refine lv_icmp_ge (tgt := 101) hx hb dX3_spellGoes_73 (by decide) (fun c9 => ?_) (fun c9 => ?_)
    · replace h := h.1 c9
      exact hK101 _ h _ _ _ hP hD hS (lv_sub hl [0, 1] rfl)
    · replace h := h.2 c9
      refine lv_aload_n hx hb dX3_spellGoes_76 rfl (lv_at hl 1 rfl) ?_
      refine lv_iload_n hx hb dX3_spellGoes_77 rfl (lv_at hl 2 rfl) ?_
      refine lv_sipush (v := (999 : Int32)) hx hb dX3_spellGoes_78 (by decide) ?_
      refine lv_aload_n hx hb dX3_spellGoes_81 rfl (lv_at hl 1 rfl) ?_
      refine lv_iload_n hx hb dX3_spellGoes_82 rfl (lv_at hl 2 rfl) ?_
      refine va_iald (f := (ar 12)) hx hb hK hP 8 0 rfl rfl h.1 dX3_spellGoes_83 ?_
      replace h := h.2
      refine lv_aload_n hx hb dX3_spellGoes_84 rfl (lv_at hl 0 rfl) ?_
      refine va_get hx hb hts in_X3 hown hK hP 0 rfl rfl 30 (Nat.le_of_ble_eq_true rfl) (hts _ q1248) (fun _ h => h) (v := .ref (ad 30)) rfl dX3_spellGoes_85 ?_
      refine lv_iload_n hx hb dX3_spellGoes_88 rfl (lv_at hl 2 rfl) ?_
      refine va_iald (f := (ar 30)) hx hb hK hP 17 0 rfl rfl h.1 dX3_spellGoes_89 ?_
      replace h := h.2
      refine lv_iadd hx hb dX3_spellGoes_90 ?_
      refine va_mmin hx hb (hml.trans hl.1.symm) hown (hts _ q1402) (hts _ q336) (hts _ q100) (hts _ q337) (Nat.le_trans (Nat.le_of_ble_eq_true rfl) hRf) (Nat.le_trans (Nat.le_of_ble_eq_true rfl) hRl) hC hSl dX3_spellGoes_91 ?_
      refine pt_iast (f := (ar 12)) hx hb hK hP hD hS 8 0 rfl rfl h.1 dX3_spellGoes_94 wmA_12 (fun H locs hP hD hS => ?_)
      replace h := h.2
      refine lv_iinc (v := (v2 + (1 : Int32))) (lv' := [(2, .int (v2 + (1 : Int32))), (0, .ref o), (1, .ref (ad 12))]) hx hb dX3_spellGoes_95 hl (k := 2) rfl rfl (by decide) rfl (fun ls hl => ?_)
      refine lv_goto (tgt := 68) hx hb dX3_spellGoes_98 (by decide) ?_
      exact ih _ _ h _ _ _ hP hD hS (lv_sub hl [1, 2, 0] rfl)
set_option maxHeartbeats 4000000 in
theorem lp_M_spellGoes_L4_i12 {p : Program} {l : Launch} {e : Env} {R : Room} {s : State} {m : MethodId} {args : Array Value} {below : List Frame} {meth : Method} {c : Code} {cells slots : Nat} {A : Nat → Prop} {Qf : State → Prop} {V : evT} {D : va_G} {gI : Nat → ClassId} {o : Nat} {ad : Nat → Nat} {lw : Nat → Int64} {K174 : (Nat → Int32) → (Nat → Nat → Int32) → Prop} (F : ct_F p m c meth cX3_spellGoes 4 s args RX3 none A V D vwCl (tyL gI)) (hRf : 5 ≤ R.frames) (hRl : 103 ≤ R.locals) (hC : cells ≤ R.cells) (hSl : slots ≤ R.slots)
    (hK174 : ∀ (fd : Nat → Int32) (ar : Nat → Nat → Int32), K174 fd ar → ∀ (H : Heap) (locs : List Loc) (ls : Array Slot), va_P D vwCl (wm gI o ad fd ar lw) H → va_D A (wm gI o ad fd ar lw) → va_S A s.heap H locs → lv_has ls 4 [] → W p l e R s m args below meth c H locs cells slots Qf (F0 m 174 ls [])) :
    ∀ (n : Nat) (v2 : Int32) (fd : Nat → Int32) (ar : Nat → Nat → Int32), wp_M_spellGoes_L4 12 lw K174 n v2 fd ar → ∀ (H : Heap) (locs : List Loc) (ls : Array Slot), va_P D vwCl (wm gI o ad fd ar lw) H → va_D A (wm gI o ad fd ar lw) → va_S A s.heap H locs → lv_has ls 4 [(0, .ref o), (1, .ref (ad 12)), (2, .int v2)] → W p l e R s m args below meth c H locs cells slots Qf (F0 m 103 ls []) := by
  obtain ⟨⟨hx, hb, hml, hown, hts⟩, hr, hlocks, hA, hK, hE⟩ := id F
  intro n
  induction n with
  | zero => intro v2 fd ar h; exact h.elim
  | succ n ih =>
    intro v2 fd ar h H locs ls hP hD hS hl
    unfold wp_M_spellGoes_L4 at h
    refine lv_iload_n hx hb dX3_spellGoes_103 rfl (lv_at hl 2 rfl) ?_
    refine lv_aload_n hx hb dX3_spellGoes_104 rfl (lv_at hl 0 rfl) ?_
    refine va_get hx hb hts in_X3 hown hK hP 0 rfl rfl 4 (Nat.le_of_ble_eq_true rfl) (hts _ q1222) (fun _ h => h) (v := .int (fd 4)) rfl dX3_spellGoes_105 ?_
    refine lv_icmp_ge (tgt := 174) hx hb dX3_spellGoes_108 (by decide) (fun c13 => ?_) (fun c13 => ?_)
    · replace h := h.1 c13
      exact hK174 _ _ h _ _ _ hP hD hS (lv_sub hl [] rfl)
    · replace h := h.2 c13
      refine lv_bipush (v := (25 : Int32)) hx hb dX3_spellGoes_111 (by decide) ?_
      refine lv_iconst (v := (2 : Int32)) hx hb dX3_spellGoes_113 (by decide) ?_
      refine lv_iload_n hx hb dX3_spellGoes_114 rfl (lv_at hl 2 rfl) ?_
      refine lv_imul hx hb dX3_spellGoes_115 ?_
      refine lv_iadd hx hb dX3_spellGoes_116 ?_
      refine lv_istore_n (lv' := [(3, .int ((25 : Int32) + ((2 : Int32) * v2))), (0, .ref o), (1, .ref (ad 12)), (2, .int v2)]) hx hb dX3_spellGoes_117 rfl hl (by decide) rfl (fun ls hl => ?_)
      refine lv_aload_n hx hb dX3_spellGoes_118 rfl (lv_at hl 2 rfl) ?_
      refine lv_iload_n hx hb dX3_spellGoes_119 rfl (lv_at hl 0 rfl) ?_
      refine lv_iconst (v := (0 : Int32)) hx hb dX3_spellGoes_120 (by decide) ?_
      refine lv_iadd hx hb dX3_spellGoes_121 ?_
      refine va_iald (f := (ar 12)) hx hb hK hP 8 0 rfl rfl h.1 dX3_spellGoes_122 ?_
      replace h := h.2
      refine lv_if_lt (tgt := 168) hx hb dX3_spellGoes_123 (by decide) (fun c12 => ?_) (fun c12 => ?_)
      · replace h := h.1 c12
        refine lv_iinc (v := (v2 + (1 : Int32))) (lv' := [(2, .int (v2 + (1 : Int32))), (3, .int ((25 : Int32) + ((2 : Int32) * v2))), (0, .ref o), (1, .ref (ad 12))]) hx hb dX3_spellGoes_168 hl (k := 3) rfl rfl (by decide) rfl (fun ls hl => ?_)
        refine lv_goto (tgt := 103) hx hb dX3_spellGoes_171 (by decide) ?_
        exact ih _ _ _ h _ _ _ hP hD hS (lv_sub hl [2, 3, 0] rfl)
      · replace h := h.2 c12
        refine lv_aload_n hx hb dX3_spellGoes_126 rfl (lv_at hl 2 rfl) ?_
        refine lv_iload_n hx hb dX3_spellGoes_127 rfl (lv_at hl 0 rfl) ?_
        refine lv_iconst (v := (1 : Int32)) hx hb dX3_spellGoes_128 (by decide) ?_
        refine lv_iadd hx hb dX3_spellGoes_129 ?_
        refine lv_iconst (v := (0 : Int32)) hx hb dX3_spellGoes_130 (by decide) ?_
        refine lv_aload_n hx hb dX3_spellGoes_131 rfl (lv_at hl 2 rfl) ?_
        refine lv_iload_n hx hb dX3_spellGoes_132 rfl (lv_at hl 0 rfl) ?_
        refine lv_iconst (v := (1 : Int32)) hx hb dX3_spellGoes_133 (by decide) ?_
        refine lv_iadd hx hb dX3_spellGoes_134 ?_
        refine va_iald (f := (ar 12)) hx hb hK hP 8 0 rfl rfl h.1 dX3_spellGoes_135 ?_
        replace h := h.2
        refine lv_iconst (v := (1 : Int32)) hx hb dX3_spellGoes_136 (by decide) ?_
        refine lv_isub hx hb dX3_spellGoes_137 ?_
        refine va_mmax hx hb (hml.trans hl.1.symm) hown (hts _ q1560) (hts _ q636) (hts _ q100) (hts _ q637) (Nat.le_trans (Nat.le_of_ble_eq_true rfl) hRf) (Nat.le_trans (Nat.le_of_ble_eq_true rfl) hRl) hC hSl dX3_spellGoes_138 ?_
        refine pt_iast (f := (ar 12)) hx hb hK hP hD hS 8 0 rfl rfl h.1 dX3_spellGoes_141 wmA_12 (fun H locs hP hD hS => ?_)
        replace h := h.2
        refine lv_aload_n hx hb dX3_spellGoes_142 rfl (lv_at hl 2 rfl) ?_
        refine lv_iload_n hx hb dX3_spellGoes_143 rfl (lv_at hl 0 rfl) ?_
        refine lv_iconst (v := (1 : Int32)) hx hb dX3_spellGoes_144 (by decide) ?_
        refine lv_iadd hx hb dX3_spellGoes_145 ?_
        refine va_iald (f := (upd (ar 12) (((25 : Int32) + ((2 : Int32) * v2)) + (1 : Int32)).toNatClampNeg (mxI (0 : Int32) ((ar 12 (((25 : Int32) + ((2 : Int32) * v2)) + (1 : Int32)).toNatClampNeg) - (1 : Int32))))) hx hb hK hP 8 0 rfl rfl h.1 dX3_spellGoes_146 ?_
        replace h := h.2
        refine lv_if_ne (tgt := 168) hx hb dX3_spellGoes_147 (by decide) (fun c11 => ?_) (fun c11 => ?_)
        · replace h := h.1 c11
          refine lv_iinc (v := (v2 + (1 : Int32))) (lv' := [(2, .int (v2 + (1 : Int32))), (3, .int ((25 : Int32) + ((2 : Int32) * v2))), (0, .ref o), (1, .ref (ad 12))]) hx hb dX3_spellGoes_168 hl (k := 3) rfl rfl (by decide) rfl (fun ls hl => ?_)
          refine lv_goto (tgt := 103) hx hb dX3_spellGoes_171 (by decide) ?_
          exact ih _ _ _ h _ _ _ hP hD hS (lv_sub hl [2, 3, 0] rfl)
        · replace h := h.2 c11
          refine lv_aload_n hx hb dX3_spellGoes_150 rfl (lv_at hl 1 rfl) ?_
          refine lv_dup hx hb dX3_spellGoes_151 rfl ?_
          refine va_get hx hb hts in_X3 hown hK hP 0 rfl rfl 29 (Nat.le_of_ble_eq_true rfl) (hts _ q1247) (fun _ h => h) (v := .int (fd 29)) rfl dX3_spellGoes_152 ?_
          refine lv_iconst (v := (1 : Int32)) hx hb dX3_spellGoes_155 (by decide) ?_
          refine lv_iload_n hx hb dX3_spellGoes_156 rfl (lv_at hl 3 rfl) ?_
          refine lv_ishl hx hb dX3_spellGoes_157 ?_
          refine lv_ior hx hb dX3_spellGoes_158 ?_
          refine pt_put (v := .int ((fd 29) ||| ((1 : Int32) <<< (v2 &&& 31)))) hx hb hts in_X3 tyX3 tyX3_ok nmX3 hown hK hP hD hS 0 rfl rfl 29 (Nat.le_of_ble_eq_true rfl) (hts _ q1247) (fun _ h => h) rfl (ty := .int) (by decide +kernel) rfl rfl (Nat.le_of_ble_eq_true rfl) dX3_spellGoes_159 wmF_29 (fun H locs hP hD hS => ?_)
          refine lv_aload_n hx hb dX3_spellGoes_162 rfl (lv_at hl 2 rfl) ?_
          refine lv_iload_n hx hb dX3_spellGoes_163 rfl (lv_at hl 0 rfl) ?_
          refine lv_iconst (v := (0 : Int32)) hx hb dX3_spellGoes_164 (by decide) ?_
          refine lv_iadd hx hb dX3_spellGoes_165 ?_
          refine lv_iconst (v := (-1 : Int32)) hx hb dX3_spellGoes_166 (by decide) ?_
          refine pt_iast (f := (upd (ar 12) (((25 : Int32) + ((2 : Int32) * v2)) + (1 : Int32)).toNatClampNeg (mxI (0 : Int32) ((ar 12 (((25 : Int32) + ((2 : Int32) * v2)) + (1 : Int32)).toNatClampNeg) - (1 : Int32))))) hx hb hK hP hD hS 8 0 rfl rfl h.1 dX3_spellGoes_167 (wmA_12.trans (wmrA (va_rm0 ..))) (fun H locs hP hD hS => ?_)
          replace h := h.2
          refine lv_iinc (v := (v2 + (1 : Int32))) (lv' := [(2, .int (v2 + (1 : Int32))), (3, .int ((25 : Int32) + ((2 : Int32) * v2))), (0, .ref o), (1, .ref (ad 12))]) hx hb dX3_spellGoes_168 hl (k := 3) rfl rfl (by decide) rfl (fun ls hl => ?_)
          refine lv_goto (tgt := 103) hx hb dX3_spellGoes_171 (by decide) ?_
          exact ih _ _ _ h _ _ _ hP hD hS (lv_sub hl [2, 3, 0] rfl)
set_option maxHeartbeats 4000000 in
theorem ct_M_spellGoes_i12 {l : Launch} {V : evT} {D : va_G} {gI : Nat → ClassId} {o : Nat} {ad : Nat → Nat} {fd : Nat → Int32} {ar : Nat → Nat → Int32} {lw : Nat → Int64} {Q : (Nat → Int32) → (Nat → Nat → Int32) → Prop} (h : wp_M_spellGoes 12 fd ar lw Q) : ct_v l V D vwCl (tyL gI) yX3_spellGoes cX3_spellGoes 4 { frames := 5, cells := 0, slots := 0, locals := 103 } [.ref o, .ref (ad 12)] (wm gI o ad fd ar lw) (fun u : (Nat → Int32) × (Nat → Nat → Int32) => (wm gI o ad u.1 u.2 lw)) (fun (u : (Nat → Int32) × (Nat → Nat → Int32)) => Q u.1 u.2) := by
  refine ct_ofv RX3 rfl (by decide +kernel) (Nat.le_of_ble_eq_true rfl) ?_
  intro p e s m args below meth c A F _ hP hD ls hl
  obtain ⟨⟨hx, hb, hml, hown, hts⟩, hr, hlocks, hA, hK, hE⟩ := id F
  have hS : va_S A s.heap s.heap [] := va_S.rf
  have hl : lv_has ls 4 [(0, .ref o), (1, .ref (ad 12))] := hl
  have hRf : 5 ≤ ({ frames := 5, cells := 0, slots := 0, locals := 103 } : Room).frames := Nat.le_refl _
  have hRl : 103 ≤ ({ frames := 5, cells := 0, slots := 0, locals := 103 } : Room).locals := Nat.le_refl _
  have hC : 0 ≤ ({ frames := 5, cells := 0, slots := 0, locals := 103 } : Room).cells := Nat.le_refl _
  have hSl : 0 ≤ ({ frames := 5, cells := 0, slots := 0, locals := 103 } : Room).slots := Nat.le_refl _
  unfold wp_M_spellGoes at h
  refine lv_iconst (v := (0 : Int32)) hx hb dX3_spellGoes_0 (by decide) ?_
  refine lv_istore_n (lv' := [(2, .int (0 : Int32)), (0, .ref o), (1, .ref (ad 12))]) hx hb dX3_spellGoes_1 rfl hl (by decide) rfl (fun ls hl => ?_)
  obtain ⟨k2, h⟩ := h
  refine lp_M_spellGoes_L1_i12 F hRf hRl hC hSl ?hk23 k2 _ _ h _ _ _ hP hD hS (lv_sub hl [1, 2, 0] rfl)
  case hk23 =>
    intro ar_2 h H locs ls hP hD hS hl
    refine lv_iconst (v := (0 : Int32)) hx hb dX3_spellGoes_23 (by decide) ?_
    refine lv_istore_n (lv' := [(2, .int (0 : Int32)), (0, .ref o), (1, .ref (ad 12))]) hx hb dX3_spellGoes_24 rfl hl (by decide) rfl (fun ls hl => ?_)
    obtain ⟨k25, h⟩ := h
    refine lp_M_spellGoes_L2_i12 F hRf hRl hC hSl ?hk66 k25 _ _ h _ _ _ hP hD hS (lv_sub hl [1, 2, 0] rfl)
    case hk66 =>
      intro ar_8 h H locs ls hP hD hS hl
      refine lv_iconst (v := (0 : Int32)) hx hb dX3_spellGoes_66 (by decide) ?_
      refine lv_istore_n (lv' := [(2, .int (0 : Int32)), (0, .ref o), (1, .ref (ad 12))]) hx hb dX3_spellGoes_67 rfl hl (by decide) rfl (fun ls hl => ?_)
      obtain ⟨k68, h⟩ := h
      refine lp_M_spellGoes_L3_i12 F hRf hRl hC hSl ?hk101 k68 _ _ h _ _ _ hP hD hS (lv_sub hl [1, 2, 0] rfl)
      case hk101 =>
        intro ar_10 h H locs ls hP hD hS hl
        refine lv_iconst (v := (0 : Int32)) hx hb dX3_spellGoes_101 (by decide) ?_
        refine lv_istore_n (lv' := [(2, .int (0 : Int32)), (0, .ref o), (1, .ref (ad 12))]) hx hb dX3_spellGoes_102 rfl hl (by decide) rfl (fun ls hl => ?_)
        obtain ⟨k103, h⟩ := h
        refine lp_M_spellGoes_L4_i12 F hRf hRl hC hSl ?hk174 k103 _ _ _ h _ _ _ hP hD hS (lv_sub hl [1, 2, 0] rfl)
        case hk174 =>
          intro fd_14 ar_15 h H locs ls hP hD hS hl
          exact rt_v F dX3_spellGoes_174 (fd_14, ar_15) h hP hD hS (Nat.le_refl _) (Nat.le_refl _)
set_option maxHeartbeats 4000000 in
theorem lp_M_spellGoes_L1_i13 {p : Program} {l : Launch} {e : Env} {R : Room} {s : State} {m : MethodId} {args : Array Value} {below : List Frame} {meth : Method} {c : Code} {cells slots : Nat} {A : Nat → Prop} {Qf : State → Prop} {V : evT} {D : va_G} {gI : Nat → ClassId} {o : Nat} {ad : Nat → Nat} {fd : Nat → Int32} {lw : Nat → Int64} {K23 : (Nat → Nat → Int32) → Prop} (F : ct_F p m c meth cX3_spellGoes 4 s args RX3 none A V D vwCl (tyL gI)) (hRf : 5 ≤ R.frames) (hRl : 103 ≤ R.locals) (hC : cells ≤ R.cells) (hSl : slots ≤ R.slots)
    (hK23 : ∀ (ar : Nat → Nat → Int32), K23 ar → ∀ (H : Heap) (locs : List Loc) (ls : Array Slot), va_P D vwCl (wm gI o ad fd ar lw) H → va_D A (wm gI o ad fd ar lw) → va_S A s.heap H locs → lv_has ls 4 [(0, .ref o), (1, .ref (ad 13))] → W p l e R s m args below meth c H locs cells slots Qf (F0 m 23 ls [])) :
    ∀ (n : Nat) (v2 : Int32) (ar : Nat → Nat → Int32), wp_M_spellGoes_L1 13 fd lw K23 n v2 ar → ∀ (H : Heap) (locs : List Loc) (ls : Array Slot), va_P D vwCl (wm gI o ad fd ar lw) H → va_D A (wm gI o ad fd ar lw) → va_S A s.heap H locs → lv_has ls 4 [(0, .ref o), (1, .ref (ad 13)), (2, .int v2)] → W p l e R s m args below meth c H locs cells slots Qf (F0 m 2 ls []) := by
  obtain ⟨⟨hx, hb, hml, hown, hts⟩, hr, hlocks, hA, hK, hE⟩ := id F
  intro n
  induction n with
  | zero => intro v2 ar h; exact h.elim
  | succ n ih =>
    intro v2 ar h H locs ls hP hD hS hl
    unfold wp_M_spellGoes_L1 at h
    refine lv_iload_n hx hb dX3_spellGoes_2 rfl (lv_at hl 2 rfl) ?_
    refine lv_aload_n hx hb dX3_spellGoes_3 rfl (lv_at hl 0 rfl) ?_
    refine va_get hx hb hts in_X3 hown hK hP 0 rfl rfl 3 (Nat.le_of_ble_eq_true rfl) (hts _ q1221) (fun _ h => h) (v := .int (fd 3)) rfl dX3_spellGoes_4 ?_
    refine lv_icmp_ge (tgt := 23) hx hb dX3_spellGoes_7 (by decide) (fun c1 => ?_) (fun c1 => ?_)
    · replace h := h.1 c1
      exact hK23 _ h _ _ _ hP hD hS (lv_sub hl [0, 1] rfl)
    · replace h := h.2 c1
      refine lv_aload_n hx hb dX3_spellGoes_10 rfl (lv_at hl 0 rfl) ?_
      refine va_get hx hb hts in_X3 hown hK hP 0 rfl rfl 30 (Nat.le_of_ble_eq_true rfl) (hts _ q1248) (fun _ h => h) (v := .ref (ad 30)) rfl dX3_spellGoes_11 ?_
      refine lv_iload_n hx hb dX3_spellGoes_14 rfl (lv_at hl 2 rfl) ?_
      refine lv_iconst (v := (0 : Int32)) hx hb dX3_spellGoes_15 (by decide) ?_
      refine pt_iast (f := (ar 30)) hx hb hK hP hD hS 17 0 rfl rfl h.1 dX3_spellGoes_16 wmA_30 (fun H locs hP hD hS => ?_)
      replace h := h.2
      refine lv_iinc (v := (v2 + (1 : Int32))) (lv' := [(2, .int (v2 + (1 : Int32))), (0, .ref o), (1, .ref (ad 13))]) hx hb dX3_spellGoes_17 hl (k := 2) rfl rfl (by decide) rfl (fun ls hl => ?_)
      refine lv_goto (tgt := 2) hx hb dX3_spellGoes_20 (by decide) ?_
      exact ih _ _ h _ _ _ hP hD hS (lv_sub hl [1, 2, 0] rfl)
set_option maxHeartbeats 4000000 in
theorem lp_M_spellGoes_L2_i13 {p : Program} {l : Launch} {e : Env} {R : Room} {s : State} {m : MethodId} {args : Array Value} {below : List Frame} {meth : Method} {c : Code} {cells slots : Nat} {A : Nat → Prop} {Qf : State → Prop} {V : evT} {D : va_G} {gI : Nat → ClassId} {o : Nat} {ad : Nat → Nat} {fd : Nat → Int32} {lw : Nat → Int64} {K66 : (Nat → Nat → Int32) → Prop} (F : ct_F p m c meth cX3_spellGoes 4 s args RX3 none A V D vwCl (tyL gI)) (hRf : 5 ≤ R.frames) (hRl : 103 ≤ R.locals) (hC : cells ≤ R.cells) (hSl : slots ≤ R.slots)
    (hK66 : ∀ (ar : Nat → Nat → Int32), K66 ar → ∀ (H : Heap) (locs : List Loc) (ls : Array Slot), va_P D vwCl (wm gI o ad fd ar lw) H → va_D A (wm gI o ad fd ar lw) → va_S A s.heap H locs → lv_has ls 4 [(0, .ref o), (1, .ref (ad 13))] → W p l e R s m args below meth c H locs cells slots Qf (F0 m 66 ls [])) :
    ∀ (n : Nat) (v2 : Int32) (ar : Nat → Nat → Int32), wp_M_spellGoes_L2 13 fd lw K66 n v2 ar → ∀ (H : Heap) (locs : List Loc) (ls : Array Slot), va_P D vwCl (wm gI o ad fd ar lw) H → va_D A (wm gI o ad fd ar lw) → va_S A s.heap H locs → lv_has ls 4 [(0, .ref o), (1, .ref (ad 13)), (2, .int v2)] → W p l e R s m args below meth c H locs cells slots Qf (F0 m 25 ls []) := by
  obtain ⟨⟨hx, hb, hml, hown, hts⟩, hr, hlocks, hA, hK, hE⟩ := id F
  intro n
  induction n with
  | zero => intro v2 ar h; exact h.elim
  | succ n ih =>
    intro v2 ar h H locs ls hP hD hS hl
    unfold wp_M_spellGoes_L2 at h
    refine lv_iload_n hx hb dX3_spellGoes_25 rfl (lv_at hl 2 rfl) ?_
    refine lv_aload_n hx hb dX3_spellGoes_26 rfl (lv_at hl 0 rfl) ?_
    refine va_get hx hb hts in_X3 hown hK hP 0 rfl rfl 4 (Nat.le_of_ble_eq_true rfl) (hts _ q1222) (fun _ h => h) (v := .int (fd 4)) rfl dX3_spellGoes_27 ?_
    refine lv_icmp_ge (tgt := 66) hx hb dX3_spellGoes_30 (by decide) (fun c7 => ?_) (fun c7 => ?_)
    · replace h := h.1 c7
      exact hK66 _ h _ _ _ hP hD hS (lv_sub hl [0, 1] rfl)
    · replace h := h.2 c7
      refine lv_aload_n hx hb dX3_spellGoes_33 rfl (lv_at hl 1 rfl) ?_
      refine lv_iload_n hx hb dX3_spellGoes_34 rfl (lv_at hl 2 rfl) ?_
      refine cl_i F (va_runS (As := [.ref (ad 13), .int v2]) (rest := []) ⟨hx, hb, hml, hown, hts⟩ (ct_M_atOf_i13 h _) (va_cwS 2 hts (lw_S q1517 q1518 q97 q1519) rfl rfl rfl (by decide +kernel) ⟨Nat.le_trans (Nat.le_of_ble_eq_true rfl) hRf, Nat.le_trans (Nat.le_of_ble_eq_true rfl) hRl⟩) ⟨ct_blind, ct_at F hS hP hD⟩ rfl rfl hl.1 rfl (lv_room (Nat.le_of_ble_eq_true rfl)) dX3_spellGoes_35 ⟨hC, hSl⟩) rfl rfl hD hS ?_
      rintro x3 _ H locs h hP hD hS
      refine lv_if_lt (tgt := 60) hx hb dX3_spellGoes_38 (by decide) (fun c6 => ?_) (fun c6 => ?_)
      · replace h := h.1 c6
        refine lv_iinc (v := (v2 + (1 : Int32))) (lv' := [(2, .int (v2 + (1 : Int32))), (0, .ref o), (1, .ref (ad 13))]) hx hb dX3_spellGoes_60 hl (k := 2) rfl rfl (by decide) rfl (fun ls hl => ?_)
        refine lv_goto (tgt := 25) hx hb dX3_spellGoes_63 (by decide) ?_
        exact ih _ _ h _ _ _ hP hD hS (lv_sub hl [1, 2, 0] rfl)
      · replace h := h.2 c6
        refine lv_aload_n hx hb dX3_spellGoes_41 rfl (lv_at hl 0 rfl) ?_
        refine va_get hx hb hts in_X3 hown hK hP 0 rfl rfl 30 (Nat.le_of_ble_eq_true rfl) (hts _ q1248) (fun _ h => h) (v := .ref (ad 30)) rfl dX3_spellGoes_42 ?_
        refine lv_aload_n hx hb dX3_spellGoes_45 rfl (lv_at hl 1 rfl) ?_
        refine lv_iload_n hx hb dX3_spellGoes_46 rfl (lv_at hl 2 rfl) ?_
        refine cl_i F (va_runS (As := [.ref (ad 13), .int v2]) (rest := [.ref (ad 30)]) ⟨hx, hb, hml, hown, hts⟩ (ct_M_atOf_i13 h _) (va_cwS 2 hts (lw_S q1517 q1518 q97 q1519) rfl rfl rfl (by decide +kernel) ⟨Nat.le_trans (Nat.le_of_ble_eq_true rfl) hRf, Nat.le_trans (Nat.le_of_ble_eq_true rfl) hRl⟩) ⟨ct_blind, ct_at F hS hP hD⟩ rfl rfl hl.1 rfl (lv_room (Nat.le_of_ble_eq_true rfl)) dX3_spellGoes_47 ⟨hC, hSl⟩) rfl rfl hD hS ?_
        rintro x4 _ H locs h hP hD hS
        refine lv_dup2_11 hx hb dX3_spellGoes_50 rfl rfl ?_
        refine va_iald (f := (ar 30)) hx hb hK hP 17 0 rfl rfl h.1 dX3_spellGoes_51 ?_
        replace h := h.2
        refine lv_aload_n hx hb dX3_spellGoes_52 rfl (lv_at hl 0 rfl) ?_
        refine lv_aload_n hx hb dX3_spellGoes_53 rfl (lv_at hl 1 rfl) ?_
        refine lv_iload_n hx hb dX3_spellGoes_54 rfl (lv_at hl 2 rfl) ?_
        refine cl_i F (va_runV (As := [.ref (ad 13), .int v2]) (rest := [.int (ar 30 x4.toNatClampNeg), .int x4, .ref (ad 30)]) ⟨hx, hb, hml, hown, hts⟩ (ct_M_bucketsOf_i13 h _) (cwV 2 hts (lw_V q1535 q1537 qs56 q97 q1538) rfl rfl rfl (by decide +kernel) ⟨Nat.le_trans (Nat.le_of_ble_eq_true rfl) hRf, Nat.le_trans (Nat.le_of_ble_eq_true rfl) hRl⟩) ⟨ct_blind, va_recv hK hP (ci := 2) (q0 := 0) rfl rfl, ct_at F hS hP hD⟩ rfl rfl hl.1 rfl (lv_room (Nat.le_of_ble_eq_true rfl)) dX3_spellGoes_55 ⟨hC, hSl⟩) rfl rfl hD hS ?_
        rintro x5 _ H locs h hP hD hS
        refine lv_iadd hx hb dX3_spellGoes_58 ?_
        refine pt_iast (f := (ar 30)) hx hb hK hP hD hS 17 0 rfl rfl h.1 dX3_spellGoes_59 wmA_30 (fun H locs hP hD hS => ?_)
        replace h := h.2
        refine lv_iinc (v := (v2 + (1 : Int32))) (lv' := [(2, .int (v2 + (1 : Int32))), (0, .ref o), (1, .ref (ad 13))]) hx hb dX3_spellGoes_60 hl (k := 2) rfl rfl (by decide) rfl (fun ls hl => ?_)
        refine lv_goto (tgt := 25) hx hb dX3_spellGoes_63 (by decide) ?_
        exact ih _ _ h _ _ _ hP hD hS (lv_sub hl [1, 2, 0] rfl)
set_option maxHeartbeats 4000000 in
theorem lp_M_spellGoes_L3_i13 {p : Program} {l : Launch} {e : Env} {R : Room} {s : State} {m : MethodId} {args : Array Value} {below : List Frame} {meth : Method} {c : Code} {cells slots : Nat} {A : Nat → Prop} {Qf : State → Prop} {V : evT} {D : va_G} {gI : Nat → ClassId} {o : Nat} {ad : Nat → Nat} {fd : Nat → Int32} {lw : Nat → Int64} {K101 : (Nat → Nat → Int32) → Prop} (F : ct_F p m c meth cX3_spellGoes 4 s args RX3 none A V D vwCl (tyL gI)) (hRf : 5 ≤ R.frames) (hRl : 103 ≤ R.locals) (hC : cells ≤ R.cells) (hSl : slots ≤ R.slots)
    (hK101 : ∀ (ar : Nat → Nat → Int32), K101 ar → ∀ (H : Heap) (locs : List Loc) (ls : Array Slot), va_P D vwCl (wm gI o ad fd ar lw) H → va_D A (wm gI o ad fd ar lw) → va_S A s.heap H locs → lv_has ls 4 [(0, .ref o), (1, .ref (ad 13))] → W p l e R s m args below meth c H locs cells slots Qf (F0 m 101 ls [])) :
    ∀ (n : Nat) (v2 : Int32) (ar : Nat → Nat → Int32), wp_M_spellGoes_L3 13 fd lw K101 n v2 ar → ∀ (H : Heap) (locs : List Loc) (ls : Array Slot), va_P D vwCl (wm gI o ad fd ar lw) H → va_D A (wm gI o ad fd ar lw) → va_S A s.heap H locs → lv_has ls 4 [(0, .ref o), (1, .ref (ad 13)), (2, .int v2)] → W p l e R s m args below meth c H locs cells slots Qf (F0 m 68 ls []) := by
  obtain ⟨⟨hx, hb, hml, hown, hts⟩, hr, hlocks, hA, hK, hE⟩ := id F
  intro n
  induction n with
  | zero => intro v2 ar h; exact h.elim
  | succ n ih =>
    intro v2 ar h H locs ls hP hD hS hl
    unfold wp_M_spellGoes_L3 at h
    refine lv_iload_n hx hb dX3_spellGoes_68 rfl (lv_at hl 2 rfl) ?_
    refine lv_aload_n hx hb dX3_spellGoes_69 rfl (lv_at hl 0 rfl) ?_
    refine va_get hx hb hts in_X3 hown hK hP 0 rfl rfl 3 (Nat.le_of_ble_eq_true rfl) (hts _ q1221) (fun _ h => h) (v := .int (fd 3)) rfl dX3_spellGoes_70 ?_
    refine lv_icmp_ge (tgt := 101) hx hb dX3_spellGoes_73 (by decide) (fun c9 => ?_) (fun c9 => ?_)
    · replace h := h.1 c9
      exact hK101 _ h _ _ _ hP hD hS (lv_sub hl [0, 1] rfl)
    · replace h := h.2 c9
      refine lv_aload_n hx hb dX3_spellGoes_76 rfl (lv_at hl 1 rfl) ?_
      refine lv_iload_n hx hb dX3_spellGoes_77 rfl (lv_at hl 2 rfl) ?_
      refine lv_sipush (v := (999 : Int32)) hx hb dX3_spellGoes_78 (by decide) ?_
      refine lv_aload_n hx hb dX3_spellGoes_81 rfl (lv_at hl 1 rfl) ?_
      refine lv_iload_n hx hb dX3_spellGoes_82 rfl (lv_at hl 2 rfl) ?_
      refine va_iald (f := (ar 13)) hx hb hK hP 9 0 rfl rfl h.1 dX3_spellGoes_83 ?_
      replace h := h.2
      refine lv_aload_n hx hb dX3_spellGoes_84 rfl (lv_at hl 0 rfl) ?_
      refine va_get hx hb hts in_X3 hown hK hP 0 rfl rfl 30 (Nat.le_of_ble_eq_true rfl) (hts _ q1248) (fun _ h => h) (v := .ref (ad 30)) rfl dX3_spellGoes_85 ?_
      refine lv_iload_n hx hb dX3_spellGoes_88 rfl (lv_at hl 2 rfl) ?_
      refine va_iald (f := (ar 30)) hx hb hK hP 17 0 rfl rfl h.1 dX3_spellGoes_89 ?_
      replace h := h.2
      refine lv_iadd hx hb dX3_spellGoes_90 ?_
      refine va_mmin hx hb (hml.trans hl.1.symm) hown (hts _ q1402) (hts _ q336) (hts _ q100) (hts _ q337) (Nat.le_trans (Nat.le_of_ble_eq_true rfl) hRf) (Nat.le_trans (Nat.le_of_ble_eq_true rfl) hRl) hC hSl dX3_spellGoes_91 ?_
      refine pt_iast (f := (ar 13)) hx hb hK hP hD hS 9 0 rfl rfl h.1 dX3_spellGoes_94 wmA_13 (fun H locs hP hD hS => ?_)
      replace h := h.2
      refine lv_iinc (v := (v2 + (1 : Int32))) (lv' := [(2, .int (v2 + (1 : Int32))), (0, .ref o), (1, .ref (ad 13))]) hx hb dX3_spellGoes_95 hl (k := 2) rfl rfl (by decide) rfl (fun ls hl => ?_)
      refine lv_goto (tgt := 68) hx hb dX3_spellGoes_98 (by decide) ?_
      exact ih _ _ h _ _ _ hP hD hS (lv_sub hl [1, 2, 0] rfl)
set_option maxHeartbeats 4000000 in
theorem lp_M_spellGoes_L4_i13 {p : Program} {l : Launch} {e : Env} {R : Room} {s : State} {m : MethodId} {args : Array Value} {below : List Frame} {meth : Method} {c : Code} {cells slots : Nat} {A : Nat → Prop} {Qf : State → Prop} {V : evT} {D : va_G} {gI : Nat → ClassId} {o : Nat} {ad : Nat → Nat} {lw : Nat → Int64} {K174 : (Nat → Int32) → (Nat → Nat → Int32) → Prop} (F : ct_F p m c meth cX3_spellGoes 4 s args RX3 none A V D vwCl (tyL gI)) (hRf : 5 ≤ R.frames) (hRl : 103 ≤ R.locals) (hC : cells ≤ R.cells) (hSl : slots ≤ R.slots)
    (hK174 : ∀ (fd : Nat → Int32) (ar : Nat → Nat → Int32), K174 fd ar → ∀ (H : Heap) (locs : List Loc) (ls : Array Slot), va_P D vwCl (wm gI o ad fd ar lw) H → va_D A (wm gI o ad fd ar lw) → va_S A s.heap H locs → lv_has ls 4 [] → W p l e R s m args below meth c H locs cells slots Qf (F0 m 174 ls [])) :
    ∀ (n : Nat) (v2 : Int32) (fd : Nat → Int32) (ar : Nat → Nat → Int32), wp_M_spellGoes_L4 13 lw K174 n v2 fd ar → ∀ (H : Heap) (locs : List Loc) (ls : Array Slot), va_P D vwCl (wm gI o ad fd ar lw) H → va_D A (wm gI o ad fd ar lw) → va_S A s.heap H locs → lv_has ls 4 [(0, .ref o), (1, .ref (ad 13)), (2, .int v2)] → W p l e R s m args below meth c H locs cells slots Qf (F0 m 103 ls []) := by
  obtain ⟨⟨hx, hb, hml, hown, hts⟩, hr, hlocks, hA, hK, hE⟩ := id F
  intro n
  induction n with
  | zero => intro v2 fd ar h; exact h.elim
  | succ n ih =>
    intro v2 fd ar h H locs ls hP hD hS hl
    unfold wp_M_spellGoes_L4 at h
    refine lv_iload_n hx hb dX3_spellGoes_103 rfl (lv_at hl 2 rfl) ?_
    refine lv_aload_n hx hb dX3_spellGoes_104 rfl (lv_at hl 0 rfl) ?_
    refine va_get hx hb hts in_X3 hown hK hP 0 rfl rfl 4 (Nat.le_of_ble_eq_true rfl) (hts _ q1222) (fun _ h => h) (v := .int (fd 4)) rfl dX3_spellGoes_105 ?_
    refine lv_icmp_ge (tgt := 174) hx hb dX3_spellGoes_108 (by decide) (fun c13 => ?_) (fun c13 => ?_)
    · replace h := h.1 c13
      exact hK174 _ _ h _ _ _ hP hD hS (lv_sub hl [] rfl)
    · replace h := h.2 c13
      refine lv_bipush (v := (25 : Int32)) hx hb dX3_spellGoes_111 (by decide) ?_
      refine lv_iconst (v := (2 : Int32)) hx hb dX3_spellGoes_113 (by decide) ?_
      refine lv_iload_n hx hb dX3_spellGoes_114 rfl (lv_at hl 2 rfl) ?_
      refine lv_imul hx hb dX3_spellGoes_115 ?_
      refine lv_iadd hx hb dX3_spellGoes_116 ?_
      refine lv_istore_n (lv' := [(3, .int ((25 : Int32) + ((2 : Int32) * v2))), (0, .ref o), (1, .ref (ad 13)), (2, .int v2)]) hx hb dX3_spellGoes_117 rfl hl (by decide) rfl (fun ls hl => ?_)
      refine lv_aload_n hx hb dX3_spellGoes_118 rfl (lv_at hl 2 rfl) ?_
      refine lv_iload_n hx hb dX3_spellGoes_119 rfl (lv_at hl 0 rfl) ?_
      refine lv_iconst (v := (0 : Int32)) hx hb dX3_spellGoes_120 (by decide) ?_
      refine lv_iadd hx hb dX3_spellGoes_121 ?_
      refine va_iald (f := (ar 13)) hx hb hK hP 9 0 rfl rfl h.1 dX3_spellGoes_122 ?_
      replace h := h.2
      refine lv_if_lt (tgt := 168) hx hb dX3_spellGoes_123 (by decide) (fun c12 => ?_) (fun c12 => ?_)
      · replace h := h.1 c12
        refine lv_iinc (v := (v2 + (1 : Int32))) (lv' := [(2, .int (v2 + (1 : Int32))), (3, .int ((25 : Int32) + ((2 : Int32) * v2))), (0, .ref o), (1, .ref (ad 13))]) hx hb dX3_spellGoes_168 hl (k := 3) rfl rfl (by decide) rfl (fun ls hl => ?_)
        refine lv_goto (tgt := 103) hx hb dX3_spellGoes_171 (by decide) ?_
        exact ih _ _ _ h _ _ _ hP hD hS (lv_sub hl [2, 3, 0] rfl)
      · replace h := h.2 c12
        refine lv_aload_n hx hb dX3_spellGoes_126 rfl (lv_at hl 2 rfl) ?_
        refine lv_iload_n hx hb dX3_spellGoes_127 rfl (lv_at hl 0 rfl) ?_
        refine lv_iconst (v := (1 : Int32)) hx hb dX3_spellGoes_128 (by decide) ?_
        refine lv_iadd hx hb dX3_spellGoes_129 ?_
        refine lv_iconst (v := (0 : Int32)) hx hb dX3_spellGoes_130 (by decide) ?_
        refine lv_aload_n hx hb dX3_spellGoes_131 rfl (lv_at hl 2 rfl) ?_
        refine lv_iload_n hx hb dX3_spellGoes_132 rfl (lv_at hl 0 rfl) ?_
        refine lv_iconst (v := (1 : Int32)) hx hb dX3_spellGoes_133 (by decide) ?_
        refine lv_iadd hx hb dX3_spellGoes_134 ?_
        refine va_iald (f := (ar 13)) hx hb hK hP 9 0 rfl rfl h.1 dX3_spellGoes_135 ?_
        replace h := h.2
        refine lv_iconst (v := (1 : Int32)) hx hb dX3_spellGoes_136 (by decide) ?_
        refine lv_isub hx hb dX3_spellGoes_137 ?_
        refine va_mmax hx hb (hml.trans hl.1.symm) hown (hts _ q1560) (hts _ q636) (hts _ q100) (hts _ q637) (Nat.le_trans (Nat.le_of_ble_eq_true rfl) hRf) (Nat.le_trans (Nat.le_of_ble_eq_true rfl) hRl) hC hSl dX3_spellGoes_138 ?_
        refine pt_iast (f := (ar 13)) hx hb hK hP hD hS 9 0 rfl rfl h.1 dX3_spellGoes_141 wmA_13 (fun H locs hP hD hS => ?_)
        replace h := h.2
        refine lv_aload_n hx hb dX3_spellGoes_142 rfl (lv_at hl 2 rfl) ?_
        refine lv_iload_n hx hb dX3_spellGoes_143 rfl (lv_at hl 0 rfl) ?_
        refine lv_iconst (v := (1 : Int32)) hx hb dX3_spellGoes_144 (by decide) ?_
        refine lv_iadd hx hb dX3_spellGoes_145 ?_
        refine va_iald (f := (upd (ar 13) (((25 : Int32) + ((2 : Int32) * v2)) + (1 : Int32)).toNatClampNeg (mxI (0 : Int32) ((ar 13 (((25 : Int32) + ((2 : Int32) * v2)) + (1 : Int32)).toNatClampNeg) - (1 : Int32))))) hx hb hK hP 9 0 rfl rfl h.1 dX3_spellGoes_146 ?_
        replace h := h.2
        refine lv_if_ne (tgt := 168) hx hb dX3_spellGoes_147 (by decide) (fun c11 => ?_) (fun c11 => ?_)
        · replace h := h.1 c11
          refine lv_iinc (v := (v2 + (1 : Int32))) (lv' := [(2, .int (v2 + (1 : Int32))), (3, .int ((25 : Int32) + ((2 : Int32) * v2))), (0, .ref o), (1, .ref (ad 13))]) hx hb dX3_spellGoes_168 hl (k := 3) rfl rfl (by decide) rfl (fun ls hl => ?_)
          refine lv_goto (tgt := 103) hx hb dX3_spellGoes_171 (by decide) ?_
          exact ih _ _ _ h _ _ _ hP hD hS (lv_sub hl [2, 3, 0] rfl)
        · replace h := h.2 c11
          refine lv_aload_n hx hb dX3_spellGoes_150 rfl (lv_at hl 1 rfl) ?_
          refine lv_dup hx hb dX3_spellGoes_151 rfl ?_
          refine va_get hx hb hts in_X3 hown hK hP 0 rfl rfl 29 (Nat.le_of_ble_eq_true rfl) (hts _ q1247) (fun _ h => h) (v := .int (fd 29)) rfl dX3_spellGoes_152 ?_
          refine lv_iconst (v := (1 : Int32)) hx hb dX3_spellGoes_155 (by decide) ?_
          refine lv_iload_n hx hb dX3_spellGoes_156 rfl (lv_at hl 3 rfl) ?_
          refine lv_ishl hx hb dX3_spellGoes_157 ?_
          refine lv_ior hx hb dX3_spellGoes_158 ?_
          refine pt_put (v := .int ((fd 29) ||| ((1 : Int32) <<< (v2 &&& 31)))) hx hb hts in_X3 tyX3 tyX3_ok nmX3 hown hK hP hD hS 0 rfl rfl 29 (Nat.le_of_ble_eq_true rfl) (hts _ q1247) (fun _ h => h) rfl (ty := .int) (by decide +kernel) rfl rfl (Nat.le_of_ble_eq_true rfl) dX3_spellGoes_159 wmF_29 (fun H locs hP hD hS => ?_)
          refine lv_aload_n hx hb dX3_spellGoes_162 rfl (lv_at hl 2 rfl) ?_
          refine lv_iload_n hx hb dX3_spellGoes_163 rfl (lv_at hl 0 rfl) ?_
          refine lv_iconst (v := (0 : Int32)) hx hb dX3_spellGoes_164 (by decide) ?_
          refine lv_iadd hx hb dX3_spellGoes_165 ?_
          refine lv_iconst (v := (-1 : Int32)) hx hb dX3_spellGoes_166 (by decide) ?_
          refine pt_iast (f := (upd (ar 13) (((25 : Int32) + ((2 : Int32) * v2)) + (1 : Int32)).toNatClampNeg (mxI (0 : Int32) ((ar 13 (((25 : Int32) + ((2 : Int32) * v2)) + (1 : Int32)).toNatClampNeg) - (1 : Int32))))) hx hb hK hP hD hS 9 0 rfl rfl h.1 dX3_spellGoes_167 (wmA_13.trans (wmrA (va_rm0 ..))) (fun H locs hP hD hS => ?_)
          replace h := h.2
          refine lv_iinc (v := (v2 + (1 : Int32))) (lv' := [(2, .int (v2 + (1 : Int32))), (3, .int ((25 : Int32) + ((2 : Int32) * v2))), (0, .ref o), (1, .ref (ad 13))]) hx hb dX3_spellGoes_168 hl (k := 3) rfl rfl (by decide) rfl (fun ls hl => ?_)
          refine lv_goto (tgt := 103) hx hb dX3_spellGoes_171 (by decide) ?_
          exact ih _ _ _ h _ _ _ hP hD hS (lv_sub hl [2, 3, 0] rfl)
set_option maxHeartbeats 4000000 in
theorem ct_M_spellGoes_i13 {l : Launch} {V : evT} {D : va_G} {gI : Nat → ClassId} {o : Nat} {ad : Nat → Nat} {fd : Nat → Int32} {ar : Nat → Nat → Int32} {lw : Nat → Int64} {Q : (Nat → Int32) → (Nat → Nat → Int32) → Prop} (h : wp_M_spellGoes 13 fd ar lw Q) : ct_v l V D vwCl (tyL gI) yX3_spellGoes cX3_spellGoes 4 { frames := 5, cells := 0, slots := 0, locals := 103 } [.ref o, .ref (ad 13)] (wm gI o ad fd ar lw) (fun u : (Nat → Int32) × (Nat → Nat → Int32) => (wm gI o ad u.1 u.2 lw)) (fun (u : (Nat → Int32) × (Nat → Nat → Int32)) => Q u.1 u.2) := by
  refine ct_ofv RX3 rfl (by decide +kernel) (Nat.le_of_ble_eq_true rfl) ?_
  intro p e s m args below meth c A F _ hP hD ls hl
  obtain ⟨⟨hx, hb, hml, hown, hts⟩, hr, hlocks, hA, hK, hE⟩ := id F
  have hS : va_S A s.heap s.heap [] := va_S.rf
  have hl : lv_has ls 4 [(0, .ref o), (1, .ref (ad 13))] := hl
  have hRf : 5 ≤ ({ frames := 5, cells := 0, slots := 0, locals := 103 } : Room).frames := Nat.le_refl _
  have hRl : 103 ≤ ({ frames := 5, cells := 0, slots := 0, locals := 103 } : Room).locals := Nat.le_refl _
  have hC : 0 ≤ ({ frames := 5, cells := 0, slots := 0, locals := 103 } : Room).cells := Nat.le_refl _
  have hSl : 0 ≤ ({ frames := 5, cells := 0, slots := 0, locals := 103 } : Room).slots := Nat.le_refl _
  unfold wp_M_spellGoes at h
  refine lv_iconst (v := (0 : Int32)) hx hb dX3_spellGoes_0 (by decide) ?_
  refine lv_istore_n (lv' := [(2, .int (0 : Int32)), (0, .ref o), (1, .ref (ad 13))]) hx hb dX3_spellGoes_1 rfl hl (by decide) rfl (fun ls hl => ?_)
  obtain ⟨k2, h⟩ := h
  refine lp_M_spellGoes_L1_i13 F hRf hRl hC hSl ?hk23 k2 _ _ h _ _ _ hP hD hS (lv_sub hl [1, 2, 0] rfl)
  case hk23 =>
    intro ar_2 h H locs ls hP hD hS hl
    refine lv_iconst (v := (0 : Int32)) hx hb dX3_spellGoes_23 (by decide) ?_
    refine lv_istore_n (lv' := [(2, .int (0 : Int32)), (0, .ref o), (1, .ref (ad 13))]) hx hb dX3_spellGoes_24 rfl hl (by decide) rfl (fun ls hl => ?_)
    obtain ⟨k25, h⟩ := h
    refine lp_M_spellGoes_L2_i13 F hRf hRl hC hSl ?hk66 k25 _ _ h _ _ _ hP hD hS (lv_sub hl [1, 2, 0] rfl)
    case hk66 =>
      intro ar_8 h H locs ls hP hD hS hl
      refine lv_iconst (v := (0 : Int32)) hx hb dX3_spellGoes_66 (by decide) ?_
      refine lv_istore_n (lv' := [(2, .int (0 : Int32)), (0, .ref o), (1, .ref (ad 13))]) hx hb dX3_spellGoes_67 rfl hl (by decide) rfl (fun ls hl => ?_)
      obtain ⟨k68, h⟩ := h
      refine lp_M_spellGoes_L3_i13 F hRf hRl hC hSl ?hk101 k68 _ _ h _ _ _ hP hD hS (lv_sub hl [1, 2, 0] rfl)
      case hk101 =>
        intro ar_10 h H locs ls hP hD hS hl
        refine lv_iconst (v := (0 : Int32)) hx hb dX3_spellGoes_101 (by decide) ?_
        refine lv_istore_n (lv' := [(2, .int (0 : Int32)), (0, .ref o), (1, .ref (ad 13))]) hx hb dX3_spellGoes_102 rfl hl (by decide) rfl (fun ls hl => ?_)
        obtain ⟨k103, h⟩ := h
        refine lp_M_spellGoes_L4_i13 F hRf hRl hC hSl ?hk174 k103 _ _ _ h _ _ _ hP hD hS (lv_sub hl [1, 2, 0] rfl)
        case hk174 =>
          intro fd_14 ar_15 h H locs ls hP hD hS hl
          exact rt_v F dX3_spellGoes_174 (fd_14, ar_15) h hP hD hS (Nat.le_refl _) (Nat.le_refl _)
set_option maxHeartbeats 4000000 in
theorem lp_M_tideComes_J2_i12 {p : Program} {l : Launch} {e : Env} {R : Room} {s : State} {m : MethodId} {args : Array Value} {below : List Frame} {meth : Method} {c : Code} {cells slots : Nat} {A : Nat → Prop} {Qf : State → Prop} {V : evT} {D : va_G} {gI : Nat → ClassId} {o : Nat} {ad : Nat → Nat} {v2 : Int32} {fd : Nat → Int32} {lw : Nat → Int64} {K25 : (Int32) → (Nat → Nat → Int32) → Prop} (F : ct_F p m c meth cX3_tideComes 5 s args RX3 (some .int) A V D vwCl (tyL gI)) (hRf : 5 ≤ R.frames) (hRl : 99 ≤ R.locals) (hC : cells ≤ R.cells) (hSl : slots ≤ R.slots)
    (hK25 : ∀ (v3 : Int32) (ar : Nat → Nat → Int32), K25 v3 ar → ∀ (H : Heap) (locs : List Loc) (ls : Array Slot), va_P D vwCl (wm gI o ad fd ar lw) H → va_D A (wm gI o ad fd ar lw) → va_S A s.heap H locs → lv_has ls 5 [(0, .ref o), (1, .ref (ad 12)), (2, .int v2), (3, .int v3)] → W p l e R s m args below meth c H locs cells slots Qf (F0 m 25 ls [])) :
    ∀ (v3 : Int32) (t0 : Int32) (t1 : Int32) (ar : Nat → Nat → Int32), wp_M_tideComes_J2 12 v2 fd lw K25 v3 t0 t1 ar → ∀ (H : Heap) (locs : List Loc) (ls : Array Slot), va_P D vwCl (wm gI o ad fd ar lw) H → va_D A (wm gI o ad fd ar lw) → va_S A s.heap H locs → lv_has ls 5 [(0, .ref o), (1, .ref (ad 12)), (2, .int v2), (3, .int v3)] → W p l e R s m args below meth c H locs cells slots Qf (F0 m 116 ls [.int t0, .int t1]) := by
  obtain ⟨⟨hx, hb, hml, hown, hts⟩, hr, hlocks, hA, hK, hE⟩ := id F
  intro v3 t0 t1 ar h H locs ls hP hD hS hl
  unfold wp_M_tideComes_J2 at h
  refine lv_idiv hx hb dX3_tideComes_116 h.1 ?_
  replace h := h.2
  refine lv_istore (lv' := [(4, .int (t1 / t0)), (0, .ref o), (1, .ref (ad 12)), (2, .int v2), (3, .int v3)]) hx hb dX3_tideComes_117 hl (by decide) rfl (fun ls hl => ?_)
  refine lv_aload_n hx hb dX3_tideComes_119 rfl (lv_at hl 2 rfl) ?_
  refine lv_iload_n hx hb dX3_tideComes_120 rfl (lv_at hl 4 rfl) ?_
  refine lv_iconst (v := (0 : Int32)) hx hb dX3_tideComes_121 (by decide) ?_
  refine lv_aload_n hx hb dX3_tideComes_122 rfl (lv_at hl 2 rfl) ?_
  refine lv_iload_n hx hb dX3_tideComes_123 rfl (lv_at hl 4 rfl) ?_
  refine va_iald (f := (ar 12)) hx hb hK hP 8 0 rfl rfl h.1 dX3_tideComes_124 ?_
  replace h := h.2
  refine lv_iload hx hb dX3_tideComes_125 (lv_at hl 0 rfl) ?_
  refine lv_isub hx hb dX3_tideComes_127 ?_
  refine va_mmax hx hb (hml.trans hl.1.symm) hown (hts _ q1560) (hts _ q636) (hts _ q100) (hts _ q637) (Nat.le_trans (Nat.le_of_ble_eq_true rfl) hRf) (Nat.le_trans (Nat.le_of_ble_eq_true rfl) hRl) hC hSl dX3_tideComes_128 ?_
  refine pt_iast (f := (ar 12)) hx hb hK hP hD hS 8 0 rfl rfl h.1 dX3_tideComes_131 wmA_12 (fun H locs hP hD hS => ?_)
  replace h := h.2
  refine lv_iinc (v := (v3 + (1 : Int32))) (lv' := [(3, .int (v3 + (1 : Int32))), (4, .int (t1 / t0)), (0, .ref o), (1, .ref (ad 12)), (2, .int v2)]) hx hb dX3_tideComes_132 hl (k := 4) rfl rfl (by decide) rfl (fun ls hl => ?_)
  refine lv_goto (tgt := 25) hx hb dX3_tideComes_135 (by decide) ?_
  exact hK25 _ _ h _ _ _ hP hD hS (lv_sub hl [2, 3, 4, 0] rfl)
set_option maxHeartbeats 4000000 in
theorem lp_M_tideComes_L1_i12 {p : Program} {l : Launch} {e : Env} {R : Room} {s : State} {m : MethodId} {args : Array Value} {below : List Frame} {meth : Method} {c : Code} {cells slots : Nat} {A : Nat → Prop} {Qf : State → Prop} {V : evT} {D : va_G} {gI : Nat → ClassId} {o : Nat} {ad : Nat → Nat} {v2 : Int32} {fd : Nat → Int32} {lw : Nat → Int64} {K138 : (Nat → Nat → Int32) → Prop} (F : ct_F p m c meth cX3_tideComes 5 s args RX3 (some .int) A V D vwCl (tyL gI)) (hRf : 5 ≤ R.frames) (hRl : 99 ≤ R.locals) (hC : cells ≤ R.cells) (hSl : slots ≤ R.slots)
    (hK138 : ∀ (ar : Nat → Nat → Int32), K138 ar → ∀ (H : Heap) (locs : List Loc) (ls : Array Slot), va_P D vwCl (wm gI o ad fd ar lw) H → va_D A (wm gI o ad fd ar lw) → va_S A s.heap H locs → lv_has ls 5 [(0, .ref o), (1, .ref (ad 12)), (2, .int v2)] → W p l e R s m args below meth c H locs cells slots Qf (F0 m 138 ls [])) :
    ∀ (n : Nat) (v3 : Int32) (ar : Nat → Nat → Int32), wp_M_tideComes_L1 12 v2 fd lw K138 n v3 ar → ∀ (H : Heap) (locs : List Loc) (ls : Array Slot), va_P D vwCl (wm gI o ad fd ar lw) H → va_D A (wm gI o ad fd ar lw) → va_S A s.heap H locs → lv_has ls 5 [(0, .ref o), (1, .ref (ad 12)), (2, .int v2), (3, .int v3)] → W p l e R s m args below meth c H locs cells slots Qf (F0 m 25 ls []) := by
  obtain ⟨⟨hx, hb, hml, hown, hts⟩, hr, hlocks, hA, hK, hE⟩ := id F
  intro n
  induction n with
  | zero => intro v3 ar h; exact h.elim
  | succ n ih =>
    intro v3 ar h H locs ls hP hD hS hl
    unfold wp_M_tideComes_L1 at h
    refine lv_iload_n hx hb dX3_tideComes_25 rfl (lv_at hl 3 rfl) ?_
    refine lv_aload_n hx hb dX3_tideComes_26 rfl (lv_at hl 0 rfl) ?_
    refine va_get hx hb hts in_X3 hown hK hP 0 rfl rfl 3 (Nat.le_of_ble_eq_true rfl) (hts _ q1221) (fun _ h => h) (v := .int (fd 3)) rfl dX3_tideComes_27 ?_
    refine lv_icmp_ge (tgt := 138) hx hb dX3_tideComes_30 (by decide) (fun c13 => ?_) (fun c13 => ?_)
    · replace h := h.1 c13
      exact hK138 _ h _ _ _ hP hD hS (lv_sub hl [0, 1, 2] rfl)
    · replace h := h.2 c13
      refine lv_iload_n hx hb dX3_tideComes_33 rfl (lv_at hl 2 rfl) ?_
      refine lv_iload_n hx hb dX3_tideComes_34 rfl (lv_at hl 3 rfl) ?_
      refine cl_i0 F (va_runS (As := [.int v2, .int v3]) (rest := []) ⟨hx, hb, hml, hown, hts⟩ (ct_X3_has h _) (va_cwS 2 hts (lw_S q1510 q1511 q97 q1512) rfl rfl rfl (by decide +kernel) ⟨Nat.le_trans (Nat.le_of_ble_eq_true rfl) hRf, Nat.le_trans (Nat.le_of_ble_eq_true rfl) hRl⟩) ⟨ct_blind, ct_at F hS ct_nP ct_nD⟩ rfl rfl hl.1 rfl (lv_room (Nat.le_of_ble_eq_true rfl)) dX3_tideComes_35 ⟨hC, hSl⟩) rfl rfl hP hS ?_
      rintro x4 _ H locs h hP hS
      refine lv_if_eq (tgt := 81) hx hb dX3_tideComes_38 (by decide) (fun c12 => ?_) (fun c12 => ?_)
      · replace h := h.1 c12
        refine lv_iconst (v := (0 : Int32)) hx hb dX3_tideComes_81 (by decide) ?_
        refine lv_aload_n hx hb dX3_tideComes_82 rfl (lv_at hl 0 rfl) ?_
        refine va_get hx hb hts in_X3 hown hK hP 0 rfl rfl 31 (Nat.le_of_ble_eq_true rfl) (hts _ q1249) (fun _ h => h) (v := .int (fd 31)) rfl dX3_tideComes_83 ?_
        refine lv_bipush (v := (10 : Int32)) hx hb dX3_tideComes_86 (by decide) ?_
        refine lv_aload_n hx hb dX3_tideComes_88 rfl (lv_at hl 0 rfl) ?_
        refine va_get hx hb hts in_X3 hown hK hP 0 rfl rfl 6 (Nat.le_of_ble_eq_true rfl) (hts _ q1224) (fun _ h => h) (v := .ref (ad 6)) rfl dX3_tideComes_89 ?_
        refine lv_iload_n hx hb dX3_tideComes_92 rfl (lv_at hl 3 rfl) ?_
        refine va_iald (f := (ar 6)) hx hb hK hP 2 0 rfl rfl h.1 dX3_tideComes_93 ?_
        replace h := h.2
        refine lv_imul hx hb dX3_tideComes_94 ?_
        refine lv_isub hx hb dX3_tideComes_95 ?_
        refine va_mmax hx hb (hml.trans hl.1.symm) hown (hts _ q1560) (hts _ q636) (hts _ q100) (hts _ q637) (Nat.le_trans (Nat.le_of_ble_eq_true rfl) hRf) (Nat.le_trans (Nat.le_of_ble_eq_true rfl) hRl) hC hSl dX3_tideComes_96 ?_
        refine lv_aload_n hx hb dX3_tideComes_99 rfl (lv_at hl 1 rfl) ?_
        refine lv_bipush (v := (12 : Int32)) hx hb dX3_tideComes_100 (by decide) ?_
        refine va_iald (f := (ar 12)) hx hb hK hP 8 0 rfl rfl (by unfold vp_in; decide) dX3_tideComes_102 ?_
        refine lv_iload_n hx hb dX3_tideComes_103 rfl (lv_at hl 3 rfl) ?_
        refine cl_i0 F (va_runS (As := [.int (ar 12 (12 : Int32).toNatClampNeg), .int v3]) (rest := [.int (mxI (0 : Int32) ((fd 31) - ((10 : Int32) * (ar 6 v3.toNatClampNeg))))]) ⟨hx, hb, hml, hown, hts⟩ (ct_X3_has h _) (va_cwS 2 hts (lw_S q1510 q1511 q97 q1512) rfl rfl rfl (by decide +kernel) ⟨Nat.le_trans (Nat.le_of_ble_eq_true rfl) hRf, Nat.le_trans (Nat.le_of_ble_eq_true rfl) hRl⟩) ⟨ct_blind, ct_at F hS ct_nP ct_nD⟩ rfl rfl hl.1 rfl (lv_room (Nat.le_of_ble_eq_true rfl)) dX3_tideComes_104 ⟨hC, hSl⟩) rfl rfl hP hS ?_
        rintro x5 _ H locs h hP hS
        refine lv_if_eq (tgt := 115) hx hb dX3_tideComes_107 (by decide) (fun c10 => ?_) (fun c10 => ?_)
        · replace h := h.1 c10
          refine lv_iconst (v := (4 : Int32)) hx hb dX3_tideComes_115 (by decide) ?_
          refine lp_M_tideComes_J2_i12 F hRf hRl hC hSl ?hk25 _ _ _ _ h _ _ _ hP hD hS (lv_sub hl [0, 1, 2, 3] rfl)
          case hk25 =>
            intro v3_6 ar_7 h H locs ls hP hD hS hl
            exact ih _ _ h _ _ _ hP hD hS (lv_sub hl [0, 1, 2, 3] rfl)
        · replace h := h.2 c10
          refine lv_bipush (v := (8 : Int32)) hx hb dX3_tideComes_110 (by decide) ?_
          refine lv_goto (tgt := 116) hx hb dX3_tideComes_112 (by decide) ?_
          refine lp_M_tideComes_J2_i12 F hRf hRl hC hSl ?hk25 _ _ _ _ h _ _ _ hP hD hS (lv_sub hl [0, 1, 2, 3] rfl)
          case hk25 =>
            intro v3_8 ar_9 h H locs ls hP hD hS hl
            exact ih _ _ h _ _ _ hP hD hS (lv_sub hl [0, 1, 2, 3] rfl)
      · replace h := h.2 c12
        refine lv_aload_n hx hb dX3_tideComes_41 rfl (lv_at hl 1 rfl) ?_
        refine lv_bipush (v := (13 : Int32)) hx hb dX3_tideComes_42 (by decide) ?_
        refine lv_iload_n hx hb dX3_tideComes_44 rfl (lv_at hl 3 rfl) ?_
        refine lv_iadd hx hb dX3_tideComes_45 ?_
        refine lv_sipush (v := (999 : Int32)) hx hb dX3_tideComes_46 (by decide) ?_
        refine lv_aload_n hx hb dX3_tideComes_49 rfl (lv_at hl 1 rfl) ?_
        refine lv_bipush (v := (13 : Int32)) hx hb dX3_tideComes_50 (by decide) ?_
        refine lv_iload_n hx hb dX3_tideComes_52 rfl (lv_at hl 3 rfl) ?_
        refine lv_iadd hx hb dX3_tideComes_53 ?_
        refine va_iald (f := (ar 12)) hx hb hK hP 8 0 rfl rfl h.1 dX3_tideComes_54 ?_
        replace h := h.2
        refine lv_aload_n hx hb dX3_tideComes_55 rfl (lv_at hl 0 rfl) ?_
        refine va_get hx hb hts in_X3 hown hK hP 0 rfl rfl 31 (Nat.le_of_ble_eq_true rfl) (hts _ q1249) (fun _ h => h) (v := .int (fd 31)) rfl dX3_tideComes_56 ?_
        refine lv_iadd hx hb dX3_tideComes_59 ?_
        refine lv_aload_n hx hb dX3_tideComes_60 rfl (lv_at hl 0 rfl) ?_
        refine lv_aload_n hx hb dX3_tideComes_61 rfl (lv_at hl 1 rfl) ?_
        refine lv_iload_n hx hb dX3_tideComes_62 rfl (lv_at hl 3 rfl) ?_
        refine cl_i F (va_runV (As := [.ref (ad 12), .int v3]) (rest := [.int ((ar 12 ((13 : Int32) + v3).toNatClampNeg) + (fd 31)), .int (999 : Int32), .int ((13 : Int32) + v3), .ref (ad 12)]) ⟨hx, hb, hml, hown, hts⟩ (ct_M_topOf_i12 h _) (cwV 2 hts (lw_V q1520 q1522 qs54 q97 q1523) rfl rfl rfl (by decide +kernel) ⟨Nat.le_trans (Nat.le_of_ble_eq_true rfl) hRf, Nat.le_trans (Nat.le_of_ble_eq_true rfl) hRl⟩) ⟨ct_blind, va_recv hK hP (ci := 2) (q0 := 0) rfl rfl, ct_at F hS hP hD⟩ rfl rfl hl.1 rfl (lv_room (Nat.le_of_ble_eq_true rfl)) dX3_tideComes_63 ⟨hC, hSl⟩) rfl rfl hD hS ?_
        rintro x11 _ H locs h hP hD hS
        refine lv_isub hx hb dX3_tideComes_66 ?_
        refine va_mmin hx hb (hml.trans hl.1.symm) hown (hts _ q1402) (hts _ q336) (hts _ q100) (hts _ q337) (Nat.le_trans (Nat.le_of_ble_eq_true rfl) hRf) (Nat.le_trans (Nat.le_of_ble_eq_true rfl) hRl) hC hSl dX3_tideComes_67 ?_
        refine pt_iast (f := (ar 12)) hx hb hK hP hD hS 8 0 rfl rfl h.1 dX3_tideComes_70 wmA_12 (fun H locs hP hD hS => ?_)
        replace h := h.2
        refine lv_aload_n hx hb dX3_tideComes_71 rfl (lv_at hl 1 rfl) ?_
        refine lv_iload_n hx hb dX3_tideComes_72 rfl (lv_at hl 3 rfl) ?_
        refine lv_dup2_11 hx hb dX3_tideComes_73 rfl rfl ?_
        refine va_iald (f := (upd (ar 12) ((13 : Int32) + v3).toNatClampNeg (mnI (999 : Int32) (((ar 12 ((13 : Int32) + v3).toNatClampNeg) + (fd 31)) - x11)))) hx hb hK hP 8 0 rfl rfl h.1 dX3_tideComes_74 ?_
        replace h := h.2
        refine lv_iconst (v := (2 : Int32)) hx hb dX3_tideComes_75 (by decide) ?_
        refine lv_idiv hx hb dX3_tideComes_76 (by decide) ?_
        refine pt_iast (f := (upd (ar 12) ((13 : Int32) + v3).toNatClampNeg (mnI (999 : Int32) (((ar 12 ((13 : Int32) + v3).toNatClampNeg) + (fd 31)) - x11)))) hx hb hK hP hD hS 8 0 rfl rfl h.1 dX3_tideComes_77 (wmA_12.trans (wmrA (va_rm0 ..))) (fun H locs hP hD hS => ?_)
        replace h := h.2
        refine lv_goto (tgt := 132) hx hb dX3_tideComes_78 (by decide) ?_
        refine lv_iinc (v := (v3 + (1 : Int32))) (lv' := [(3, .int (v3 + (1 : Int32))), (0, .ref o), (1, .ref (ad 12)), (2, .int v2)]) hx hb dX3_tideComes_132 hl (k := 3) rfl rfl (by decide) rfl (fun ls hl => ?_)
        refine lv_goto (tgt := 25) hx hb dX3_tideComes_135 (by decide) ?_
        exact ih _ _ h _ _ _ hP hD hS (lv_sub hl [1, 2, 3, 0] rfl)
set_option maxHeartbeats 4000000 in
theorem ct_M_tideComes_i12 {l : Launch} {V : evT} {D : va_G} {gI : Nat → ClassId} {o : Nat} {ad : Nat → Nat} {fd : Nat → Int32} {ar : Nat → Nat → Int32} {lw : Nat → Int64} {Q : Int32 → (Nat → Int32) → (Nat → Nat → Int32) → Prop} (h : wp_M_tideComes 12 fd ar lw Q) : ct_i l V D vwCl (tyL gI) yX3_tideComes cX3_tideComes 5 .int { frames := 5, cells := 0, slots := 0, locals := 99 } [.ref o, .ref (ad 12)] (wm gI o ad fd ar lw) (fun u : (Nat → Int32) × (Nat → Nat → Int32) => (wm gI o ad u.1 u.2 lw)) (fun (x : Int32) (u : (Nat → Int32) × (Nat → Nat → Int32)) => Q x u.1 u.2) := by
  refine ct_ofi RX3 rfl (by decide +kernel) (Nat.le_of_ble_eq_true rfl) ?_
  intro p e s m args below meth c A F hP hD ls hl
  obtain ⟨⟨hx, hb, hml, hown, hts⟩, hr, hlocks, hA, hK, hE⟩ := id F
  have hS : va_S A s.heap s.heap [] := va_S.rf
  have hl : lv_has ls 5 [(0, .ref o), (1, .ref (ad 12))] := hl
  have hRf : 5 ≤ ({ frames := 5, cells := 0, slots := 0, locals := 99 } : Room).frames := Nat.le_refl _
  have hRl : 99 ≤ ({ frames := 5, cells := 0, slots := 0, locals := 99 } : Room).locals := Nat.le_refl _
  have hC : 0 ≤ ({ frames := 5, cells := 0, slots := 0, locals := 99 } : Room).cells := Nat.le_refl _
  have hSl : 0 ≤ ({ frames := 5, cells := 0, slots := 0, locals := 99 } : Room).slots := Nat.le_refl _
  unfold wp_M_tideComes at h
  refine lv_aload_n hx hb dX3_tideComes_0 rfl (lv_at hl 0 rfl) ?_
  refine lv_aload_n hx hb dX3_tideComes_1 rfl (lv_at hl 0 rfl) ?_
  refine lv_aload_n hx hb dX3_tideComes_2 rfl (lv_at hl 1 rfl) ?_
  refine lv_aload_n hx hb dX3_tideComes_3 rfl (lv_at hl 1 rfl) ?_
  refine lv_bipush (v := (42 : Int32)) hx hb dX3_tideComes_4 (by decide) ?_
  refine va_iald (f := (ar 12)) hx hb hK hP 8 0 rfl rfl (by unfold vp_in; decide) dX3_tideComes_6 ?_
  refine cl_i F (va_runV (As := [.ref (ad 12), .int (ar 12 (42 : Int32).toNatClampNeg)]) (rest := [.ref o]) ⟨hx, hb, hml, hown, hts⟩ (ct_M_levelOf_i12 h _) (cwV 2 hts (lw_V q1650 q1652 qs73 q97 q1653) rfl rfl rfl (by decide +kernel) ⟨Nat.le_trans (Nat.le_of_ble_eq_true rfl) hRf, Nat.le_trans (Nat.le_of_ble_eq_true rfl) hRl⟩) ⟨ct_blind, va_recv hK hP (ci := 2) (q0 := 0) rfl rfl, ct_at F hS hP hD⟩ rfl rfl hl.1 rfl (lv_room (Nat.le_of_ble_eq_true rfl)) dX3_tideComes_7 ⟨hC, hSl⟩) rfl rfl hD hS ?_
  rintro x1 ar2 H locs h hP hD hS
  refine pt_put (v := .int x1) hx hb hts in_X3 tyX3 tyX3_ok nmX3 hown hK hP hD hS 0 rfl rfl 31 (Nat.le_of_ble_eq_true rfl) (hts _ q1249) (fun _ h => h) rfl (ty := .int) (by decide +kernel) rfl rfl (Nat.le_of_ble_eq_true rfl) dX3_tideComes_10 wmF_31 (fun H locs hP hD hS => ?_)
  refine lv_aload_n hx hb dX3_tideComes_13 rfl (lv_at hl 0 rfl) ?_
  refine lv_aload_n hx hb dX3_tideComes_14 rfl (lv_at hl 1 rfl) ?_
  refine lv_aload_n hx hb dX3_tideComes_15 rfl (lv_at hl 0 rfl) ?_
  refine va_get hx hb hts in_X3 hown hK hP 0 rfl rfl 31 (Nat.le_of_ble_eq_true rfl) (hts _ q1249) (fun _ h => h) (v := .int x1) rfl dX3_tideComes_16 ?_
  refine cl_i F (va_runV (As := [.ref (ad 12), .int x1]) (rest := []) ⟨hx, hb, hml, hown, hts⟩ (ct_M_lowBy_i12 h _) (cwV 2 hts (lw_V q1661 q1663 qs75 q97 q1664) rfl rfl rfl (by decide +kernel) ⟨Nat.le_trans (Nat.le_of_ble_eq_true rfl) hRf, Nat.le_trans (Nat.le_of_ble_eq_true rfl) hRl⟩) ⟨ct_blind, va_recv hK hP (ci := 2) (q0 := 0) rfl rfl, ct_at F hS hP hD⟩ rfl rfl hl.1 rfl (lv_room (Nat.le_of_ble_eq_true rfl)) dX3_tideComes_19 ⟨hC, hSl⟩) rfl rfl hD hS ?_
  rintro x3 _ H locs h hP hD hS
  refine lv_istore_n (lv' := [(2, .int x3), (0, .ref o), (1, .ref (ad 12))]) hx hb dX3_tideComes_22 rfl hl (by decide) rfl (fun ls hl => ?_)
  refine lv_iconst (v := (0 : Int32)) hx hb dX3_tideComes_23 (by decide) ?_
  refine lv_istore_n (lv' := [(3, .int (0 : Int32)), (2, .int x3), (0, .ref o), (1, .ref (ad 12))]) hx hb dX3_tideComes_24 rfl hl (by decide) rfl (fun ls hl => ?_)
  obtain ⟨k25, h⟩ := h
  refine lp_M_tideComes_L1_i12 F hRf hRl hC hSl ?hk138 k25 _ _ h _ _ _ hP hD hS (lv_sub hl [2, 3, 1, 0] rfl)
  case hk138 =>
    intro ar_14 h H locs ls hP hD hS hl
    refine lv_aload_n hx hb dX3_tideComes_138 rfl (lv_at hl 1 rfl) ?_
    refine lv_bipush (v := (12 : Int32)) hx hb dX3_tideComes_139 (by decide) ?_
    refine lv_dup2_11 hx hb dX3_tideComes_141 rfl rfl ?_
    refine va_iald (f := (ar_14 12)) hx hb hK hP 8 0 rfl rfl (by unfold vp_in; decide) dX3_tideComes_142 ?_
    refine lv_iload_n hx hb dX3_tideComes_143 rfl (lv_at hl 2 rfl) ?_
    refine lv_iconst (v := (-1 : Int32)) hx hb dX3_tideComes_144 (by decide) ?_
    refine lv_ixor hx hb dX3_tideComes_145 ?_
    refine lv_iand hx hb dX3_tideComes_146 ?_
    refine pt_iast (f := (ar_14 12)) hx hb hK hP hD hS 8 0 rfl rfl (by unfold vp_in; decide) dX3_tideComes_147 wmA_12 (fun H locs hP hD hS => ?_)
    refine lv_aload_n hx hb dX3_tideComes_148 rfl (lv_at hl 0 rfl) ?_
    refine lv_aload_n hx hb dX3_tideComes_149 rfl (lv_at hl 1 rfl) ?_
    refine cl_v F (va_runV (As := [.ref (ad 12)]) (rest := []) ⟨hx, hb, hml, hown, hts⟩ (ct_M_waterGoes_i12 h _) (cwV 1 hts (lw_V q1665 q1667 qs76 q97 q1668) rfl rfl rfl (by decide +kernel) ⟨Nat.le_trans (Nat.le_of_ble_eq_true rfl) hRf, Nat.le_trans (Nat.le_of_ble_eq_true rfl) hRl⟩) ⟨ct_blind, va_recv hK hP (ci := 2) (q0 := 0) rfl rfl, ct_at F hS hP hD⟩ rfl rfl hl.1 rfl (lv_room (Nat.le_of_ble_eq_true rfl)) dX3_tideComes_150 ⟨hC, hSl⟩) rfl rfl hD hS ?_
    rintro ar15 H locs h hP hD hS
    refine lv_aload_n hx hb dX3_tideComes_153 rfl (lv_at hl 1 rfl) ?_
    refine lv_bipush (v := (42 : Int32)) hx hb dX3_tideComes_154 (by decide) ?_
    refine lv_dup2_11 hx hb dX3_tideComes_156 rfl rfl ?_
    refine va_iald (f := (ar15 12)) hx hb hK hP 8 0 rfl rfl (by unfold vp_in; decide) dX3_tideComes_157 ?_
    refine lv_iconst (v := (1 : Int32)) hx hb dX3_tideComes_158 (by decide) ?_
    refine lv_iadd hx hb dX3_tideComes_159 ?_
    refine pt_iast (f := (ar15 12)) hx hb hK hP hD hS 8 0 rfl rfl (by unfold vp_in; decide) dX3_tideComes_160 wmA_12 (fun H locs hP hD hS => ?_)
    refine lv_iload_n hx hb dX3_tideComes_161 rfl (lv_at hl 2 rfl) ?_
    exact rt_i F dX3_tideComes_162 rfl ((upd fd 31 x1), (va_up ar15 12 (upd (ar15 12) (42 : Int32).toNatClampNeg ((ar15 12 (42 : Int32).toNatClampNeg) + (1 : Int32))))) h hP hD hS (Nat.le_refl _) (Nat.le_refl _)
set_option maxHeartbeats 4000000 in
theorem lp_M_tideComes_J2_i13 {p : Program} {l : Launch} {e : Env} {R : Room} {s : State} {m : MethodId} {args : Array Value} {below : List Frame} {meth : Method} {c : Code} {cells slots : Nat} {A : Nat → Prop} {Qf : State → Prop} {V : evT} {D : va_G} {gI : Nat → ClassId} {o : Nat} {ad : Nat → Nat} {v2 : Int32} {fd : Nat → Int32} {lw : Nat → Int64} {K25 : (Int32) → (Nat → Nat → Int32) → Prop} (F : ct_F p m c meth cX3_tideComes 5 s args RX3 (some .int) A V D vwCl (tyL gI)) (hRf : 5 ≤ R.frames) (hRl : 99 ≤ R.locals) (hC : cells ≤ R.cells) (hSl : slots ≤ R.slots)
    (hK25 : ∀ (v3 : Int32) (ar : Nat → Nat → Int32), K25 v3 ar → ∀ (H : Heap) (locs : List Loc) (ls : Array Slot), va_P D vwCl (wm gI o ad fd ar lw) H → va_D A (wm gI o ad fd ar lw) → va_S A s.heap H locs → lv_has ls 5 [(0, .ref o), (1, .ref (ad 13)), (2, .int v2), (3, .int v3)] → W p l e R s m args below meth c H locs cells slots Qf (F0 m 25 ls [])) :
    ∀ (v3 : Int32) (t0 : Int32) (t1 : Int32) (ar : Nat → Nat → Int32), wp_M_tideComes_J2 13 v2 fd lw K25 v3 t0 t1 ar → ∀ (H : Heap) (locs : List Loc) (ls : Array Slot), va_P D vwCl (wm gI o ad fd ar lw) H → va_D A (wm gI o ad fd ar lw) → va_S A s.heap H locs → lv_has ls 5 [(0, .ref o), (1, .ref (ad 13)), (2, .int v2), (3, .int v3)] → W p l e R s m args below meth c H locs cells slots Qf (F0 m 116 ls [.int t0, .int t1]) := by
  obtain ⟨⟨hx, hb, hml, hown, hts⟩, hr, hlocks, hA, hK, hE⟩ := id F
  intro v3 t0 t1 ar h H locs ls hP hD hS hl
  unfold wp_M_tideComes_J2 at h
  refine lv_idiv hx hb dX3_tideComes_116 h.1 ?_
  replace h := h.2
  refine lv_istore (lv' := [(4, .int (t1 / t0)), (0, .ref o), (1, .ref (ad 13)), (2, .int v2), (3, .int v3)]) hx hb dX3_tideComes_117 hl (by decide) rfl (fun ls hl => ?_)
  refine lv_aload_n hx hb dX3_tideComes_119 rfl (lv_at hl 2 rfl) ?_
  refine lv_iload_n hx hb dX3_tideComes_120 rfl (lv_at hl 4 rfl) ?_
  refine lv_iconst (v := (0 : Int32)) hx hb dX3_tideComes_121 (by decide) ?_
  refine lv_aload_n hx hb dX3_tideComes_122 rfl (lv_at hl 2 rfl) ?_
  refine lv_iload_n hx hb dX3_tideComes_123 rfl (lv_at hl 4 rfl) ?_
  refine va_iald (f := (ar 13)) hx hb hK hP 9 0 rfl rfl h.1 dX3_tideComes_124 ?_
  replace h := h.2
  refine lv_iload hx hb dX3_tideComes_125 (lv_at hl 0 rfl) ?_
  refine lv_isub hx hb dX3_tideComes_127 ?_
  refine va_mmax hx hb (hml.trans hl.1.symm) hown (hts _ q1560) (hts _ q636) (hts _ q100) (hts _ q637) (Nat.le_trans (Nat.le_of_ble_eq_true rfl) hRf) (Nat.le_trans (Nat.le_of_ble_eq_true rfl) hRl) hC hSl dX3_tideComes_128 ?_
  refine pt_iast (f := (ar 13)) hx hb hK hP hD hS 9 0 rfl rfl h.1 dX3_tideComes_131 wmA_13 (fun H locs hP hD hS => ?_)
  replace h := h.2
  refine lv_iinc (v := (v3 + (1 : Int32))) (lv' := [(3, .int (v3 + (1 : Int32))), (4, .int (t1 / t0)), (0, .ref o), (1, .ref (ad 13)), (2, .int v2)]) hx hb dX3_tideComes_132 hl (k := 4) rfl rfl (by decide) rfl (fun ls hl => ?_)
  refine lv_goto (tgt := 25) hx hb dX3_tideComes_135 (by decide) ?_
  exact hK25 _ _ h _ _ _ hP hD hS (lv_sub hl [2, 3, 4, 0] rfl)
set_option maxHeartbeats 4000000 in
theorem lp_M_tideComes_L1_i13 {p : Program} {l : Launch} {e : Env} {R : Room} {s : State} {m : MethodId} {args : Array Value} {below : List Frame} {meth : Method} {c : Code} {cells slots : Nat} {A : Nat → Prop} {Qf : State → Prop} {V : evT} {D : va_G} {gI : Nat → ClassId} {o : Nat} {ad : Nat → Nat} {v2 : Int32} {fd : Nat → Int32} {lw : Nat → Int64} {K138 : (Nat → Nat → Int32) → Prop} (F : ct_F p m c meth cX3_tideComes 5 s args RX3 (some .int) A V D vwCl (tyL gI)) (hRf : 5 ≤ R.frames) (hRl : 99 ≤ R.locals) (hC : cells ≤ R.cells) (hSl : slots ≤ R.slots)
    (hK138 : ∀ (ar : Nat → Nat → Int32), K138 ar → ∀ (H : Heap) (locs : List Loc) (ls : Array Slot), va_P D vwCl (wm gI o ad fd ar lw) H → va_D A (wm gI o ad fd ar lw) → va_S A s.heap H locs → lv_has ls 5 [(0, .ref o), (1, .ref (ad 13)), (2, .int v2)] → W p l e R s m args below meth c H locs cells slots Qf (F0 m 138 ls [])) :
    ∀ (n : Nat) (v3 : Int32) (ar : Nat → Nat → Int32), wp_M_tideComes_L1 13 v2 fd lw K138 n v3 ar → ∀ (H : Heap) (locs : List Loc) (ls : Array Slot), va_P D vwCl (wm gI o ad fd ar lw) H → va_D A (wm gI o ad fd ar lw) → va_S A s.heap H locs → lv_has ls 5 [(0, .ref o), (1, .ref (ad 13)), (2, .int v2), (3, .int v3)] → W p l e R s m args below meth c H locs cells slots Qf (F0 m 25 ls []) := by
  obtain ⟨⟨hx, hb, hml, hown, hts⟩, hr, hlocks, hA, hK, hE⟩ := id F
  intro n
  induction n with
  | zero => intro v3 ar h; exact h.elim
  | succ n ih =>
    intro v3 ar h H locs ls hP hD hS hl
    unfold wp_M_tideComes_L1 at h
    refine lv_iload_n hx hb dX3_tideComes_25 rfl (lv_at hl 3 rfl) ?_
    refine lv_aload_n hx hb dX3_tideComes_26 rfl (lv_at hl 0 rfl) ?_
    refine va_get hx hb hts in_X3 hown hK hP 0 rfl rfl 3 (Nat.le_of_ble_eq_true rfl) (hts _ q1221) (fun _ h => h) (v := .int (fd 3)) rfl dX3_tideComes_27 ?_
    refine lv_icmp_ge (tgt := 138) hx hb dX3_tideComes_30 (by decide) (fun c13 => ?_) (fun c13 => ?_)
    · replace h := h.1 c13
      exact hK138 _ h _ _ _ hP hD hS (lv_sub hl [0, 1, 2] rfl)
    · replace h := h.2 c13
      refine lv_iload_n hx hb dX3_tideComes_33 rfl (lv_at hl 2 rfl) ?_
      refine lv_iload_n hx hb dX3_tideComes_34 rfl (lv_at hl 3 rfl) ?_
      refine cl_i0 F (va_runS (As := [.int v2, .int v3]) (rest := []) ⟨hx, hb, hml, hown, hts⟩ (ct_X3_has h _) (va_cwS 2 hts (lw_S q1510 q1511 q97 q1512) rfl rfl rfl (by decide +kernel) ⟨Nat.le_trans (Nat.le_of_ble_eq_true rfl) hRf, Nat.le_trans (Nat.le_of_ble_eq_true rfl) hRl⟩) ⟨ct_blind, ct_at F hS ct_nP ct_nD⟩ rfl rfl hl.1 rfl (lv_room (Nat.le_of_ble_eq_true rfl)) dX3_tideComes_35 ⟨hC, hSl⟩) rfl rfl hP hS ?_
      rintro x4 _ H locs h hP hS
      refine lv_if_eq (tgt := 81) hx hb dX3_tideComes_38 (by decide) (fun c12 => ?_) (fun c12 => ?_)
      · replace h := h.1 c12
        refine lv_iconst (v := (0 : Int32)) hx hb dX3_tideComes_81 (by decide) ?_
        refine lv_aload_n hx hb dX3_tideComes_82 rfl (lv_at hl 0 rfl) ?_
        refine va_get hx hb hts in_X3 hown hK hP 0 rfl rfl 31 (Nat.le_of_ble_eq_true rfl) (hts _ q1249) (fun _ h => h) (v := .int (fd 31)) rfl dX3_tideComes_83 ?_
        refine lv_bipush (v := (10 : Int32)) hx hb dX3_tideComes_86 (by decide) ?_
        refine lv_aload_n hx hb dX3_tideComes_88 rfl (lv_at hl 0 rfl) ?_
        refine va_get hx hb hts in_X3 hown hK hP 0 rfl rfl 6 (Nat.le_of_ble_eq_true rfl) (hts _ q1224) (fun _ h => h) (v := .ref (ad 6)) rfl dX3_tideComes_89 ?_
        refine lv_iload_n hx hb dX3_tideComes_92 rfl (lv_at hl 3 rfl) ?_
        refine va_iald (f := (ar 6)) hx hb hK hP 2 0 rfl rfl h.1 dX3_tideComes_93 ?_
        replace h := h.2
        refine lv_imul hx hb dX3_tideComes_94 ?_
        refine lv_isub hx hb dX3_tideComes_95 ?_
        refine va_mmax hx hb (hml.trans hl.1.symm) hown (hts _ q1560) (hts _ q636) (hts _ q100) (hts _ q637) (Nat.le_trans (Nat.le_of_ble_eq_true rfl) hRf) (Nat.le_trans (Nat.le_of_ble_eq_true rfl) hRl) hC hSl dX3_tideComes_96 ?_
        refine lv_aload_n hx hb dX3_tideComes_99 rfl (lv_at hl 1 rfl) ?_
        refine lv_bipush (v := (12 : Int32)) hx hb dX3_tideComes_100 (by decide) ?_
        refine va_iald (f := (ar 13)) hx hb hK hP 9 0 rfl rfl (by unfold vp_in; decide) dX3_tideComes_102 ?_
        refine lv_iload_n hx hb dX3_tideComes_103 rfl (lv_at hl 3 rfl) ?_
        refine cl_i0 F (va_runS (As := [.int (ar 13 (12 : Int32).toNatClampNeg), .int v3]) (rest := [.int (mxI (0 : Int32) ((fd 31) - ((10 : Int32) * (ar 6 v3.toNatClampNeg))))]) ⟨hx, hb, hml, hown, hts⟩ (ct_X3_has h _) (va_cwS 2 hts (lw_S q1510 q1511 q97 q1512) rfl rfl rfl (by decide +kernel) ⟨Nat.le_trans (Nat.le_of_ble_eq_true rfl) hRf, Nat.le_trans (Nat.le_of_ble_eq_true rfl) hRl⟩) ⟨ct_blind, ct_at F hS ct_nP ct_nD⟩ rfl rfl hl.1 rfl (lv_room (Nat.le_of_ble_eq_true rfl)) dX3_tideComes_104 ⟨hC, hSl⟩) rfl rfl hP hS ?_
        rintro x5 _ H locs h hP hS
        refine lv_if_eq (tgt := 115) hx hb dX3_tideComes_107 (by decide) (fun c10 => ?_) (fun c10 => ?_)
        · replace h := h.1 c10
          refine lv_iconst (v := (4 : Int32)) hx hb dX3_tideComes_115 (by decide) ?_
          refine lp_M_tideComes_J2_i13 F hRf hRl hC hSl ?hk25 _ _ _ _ h _ _ _ hP hD hS (lv_sub hl [0, 1, 2, 3] rfl)
          case hk25 =>
            intro v3_6 ar_7 h H locs ls hP hD hS hl
            exact ih _ _ h _ _ _ hP hD hS (lv_sub hl [0, 1, 2, 3] rfl)
        · replace h := h.2 c10
          refine lv_bipush (v := (8 : Int32)) hx hb dX3_tideComes_110 (by decide) ?_
          refine lv_goto (tgt := 116) hx hb dX3_tideComes_112 (by decide) ?_
          refine lp_M_tideComes_J2_i13 F hRf hRl hC hSl ?hk25 _ _ _ _ h _ _ _ hP hD hS (lv_sub hl [0, 1, 2, 3] rfl)
          case hk25 =>
            intro v3_8 ar_9 h H locs ls hP hD hS hl
            exact ih _ _ h _ _ _ hP hD hS (lv_sub hl [0, 1, 2, 3] rfl)
      · replace h := h.2 c12
        refine lv_aload_n hx hb dX3_tideComes_41 rfl (lv_at hl 1 rfl) ?_
        refine lv_bipush (v := (13 : Int32)) hx hb dX3_tideComes_42 (by decide) ?_
        refine lv_iload_n hx hb dX3_tideComes_44 rfl (lv_at hl 3 rfl) ?_
        refine lv_iadd hx hb dX3_tideComes_45 ?_
        refine lv_sipush (v := (999 : Int32)) hx hb dX3_tideComes_46 (by decide) ?_
        refine lv_aload_n hx hb dX3_tideComes_49 rfl (lv_at hl 1 rfl) ?_
        refine lv_bipush (v := (13 : Int32)) hx hb dX3_tideComes_50 (by decide) ?_
        refine lv_iload_n hx hb dX3_tideComes_52 rfl (lv_at hl 3 rfl) ?_
        refine lv_iadd hx hb dX3_tideComes_53 ?_
        refine va_iald (f := (ar 13)) hx hb hK hP 9 0 rfl rfl h.1 dX3_tideComes_54 ?_
        replace h := h.2
        refine lv_aload_n hx hb dX3_tideComes_55 rfl (lv_at hl 0 rfl) ?_
        refine va_get hx hb hts in_X3 hown hK hP 0 rfl rfl 31 (Nat.le_of_ble_eq_true rfl) (hts _ q1249) (fun _ h => h) (v := .int (fd 31)) rfl dX3_tideComes_56 ?_
        refine lv_iadd hx hb dX3_tideComes_59 ?_
        refine lv_aload_n hx hb dX3_tideComes_60 rfl (lv_at hl 0 rfl) ?_
        refine lv_aload_n hx hb dX3_tideComes_61 rfl (lv_at hl 1 rfl) ?_
        refine lv_iload_n hx hb dX3_tideComes_62 rfl (lv_at hl 3 rfl) ?_
        refine cl_i F (va_runV (As := [.ref (ad 13), .int v3]) (rest := [.int ((ar 13 ((13 : Int32) + v3).toNatClampNeg) + (fd 31)), .int (999 : Int32), .int ((13 : Int32) + v3), .ref (ad 13)]) ⟨hx, hb, hml, hown, hts⟩ (ct_M_topOf_i13 h _) (cwV 2 hts (lw_V q1520 q1522 qs54 q97 q1523) rfl rfl rfl (by decide +kernel) ⟨Nat.le_trans (Nat.le_of_ble_eq_true rfl) hRf, Nat.le_trans (Nat.le_of_ble_eq_true rfl) hRl⟩) ⟨ct_blind, va_recv hK hP (ci := 2) (q0 := 0) rfl rfl, ct_at F hS hP hD⟩ rfl rfl hl.1 rfl (lv_room (Nat.le_of_ble_eq_true rfl)) dX3_tideComes_63 ⟨hC, hSl⟩) rfl rfl hD hS ?_
        rintro x11 _ H locs h hP hD hS
        refine lv_isub hx hb dX3_tideComes_66 ?_
        refine va_mmin hx hb (hml.trans hl.1.symm) hown (hts _ q1402) (hts _ q336) (hts _ q100) (hts _ q337) (Nat.le_trans (Nat.le_of_ble_eq_true rfl) hRf) (Nat.le_trans (Nat.le_of_ble_eq_true rfl) hRl) hC hSl dX3_tideComes_67 ?_
        refine pt_iast (f := (ar 13)) hx hb hK hP hD hS 9 0 rfl rfl h.1 dX3_tideComes_70 wmA_13 (fun H locs hP hD hS => ?_)
        replace h := h.2
        refine lv_aload_n hx hb dX3_tideComes_71 rfl (lv_at hl 1 rfl) ?_
        refine lv_iload_n hx hb dX3_tideComes_72 rfl (lv_at hl 3 rfl) ?_
        refine lv_dup2_11 hx hb dX3_tideComes_73 rfl rfl ?_
        refine va_iald (f := (upd (ar 13) ((13 : Int32) + v3).toNatClampNeg (mnI (999 : Int32) (((ar 13 ((13 : Int32) + v3).toNatClampNeg) + (fd 31)) - x11)))) hx hb hK hP 9 0 rfl rfl h.1 dX3_tideComes_74 ?_
        replace h := h.2
        refine lv_iconst (v := (2 : Int32)) hx hb dX3_tideComes_75 (by decide) ?_
        refine lv_idiv hx hb dX3_tideComes_76 (by decide) ?_
        refine pt_iast (f := (upd (ar 13) ((13 : Int32) + v3).toNatClampNeg (mnI (999 : Int32) (((ar 13 ((13 : Int32) + v3).toNatClampNeg) + (fd 31)) - x11)))) hx hb hK hP hD hS 9 0 rfl rfl h.1 dX3_tideComes_77 (wmA_13.trans (wmrA (va_rm0 ..))) (fun H locs hP hD hS => ?_)
        replace h := h.2
        refine lv_goto (tgt := 132) hx hb dX3_tideComes_78 (by decide) ?_
        refine lv_iinc (v := (v3 + (1 : Int32))) (lv' := [(3, .int (v3 + (1 : Int32))), (0, .ref o), (1, .ref (ad 13)), (2, .int v2)]) hx hb dX3_tideComes_132 hl (k := 3) rfl rfl (by decide) rfl (fun ls hl => ?_)
        refine lv_goto (tgt := 25) hx hb dX3_tideComes_135 (by decide) ?_
        exact ih _ _ h _ _ _ hP hD hS (lv_sub hl [1, 2, 3, 0] rfl)
set_option maxHeartbeats 4000000 in
theorem ct_M_tideComes_i13 {l : Launch} {V : evT} {D : va_G} {gI : Nat → ClassId} {o : Nat} {ad : Nat → Nat} {fd : Nat → Int32} {ar : Nat → Nat → Int32} {lw : Nat → Int64} {Q : Int32 → (Nat → Int32) → (Nat → Nat → Int32) → Prop} (h : wp_M_tideComes 13 fd ar lw Q) : ct_i l V D vwCl (tyL gI) yX3_tideComes cX3_tideComes 5 .int { frames := 5, cells := 0, slots := 0, locals := 99 } [.ref o, .ref (ad 13)] (wm gI o ad fd ar lw) (fun u : (Nat → Int32) × (Nat → Nat → Int32) => (wm gI o ad u.1 u.2 lw)) (fun (x : Int32) (u : (Nat → Int32) × (Nat → Nat → Int32)) => Q x u.1 u.2) := by
  refine ct_ofi RX3 rfl (by decide +kernel) (Nat.le_of_ble_eq_true rfl) ?_
  intro p e s m args below meth c A F hP hD ls hl
  obtain ⟨⟨hx, hb, hml, hown, hts⟩, hr, hlocks, hA, hK, hE⟩ := id F
  have hS : va_S A s.heap s.heap [] := va_S.rf
  have hl : lv_has ls 5 [(0, .ref o), (1, .ref (ad 13))] := hl
  have hRf : 5 ≤ ({ frames := 5, cells := 0, slots := 0, locals := 99 } : Room).frames := Nat.le_refl _
  have hRl : 99 ≤ ({ frames := 5, cells := 0, slots := 0, locals := 99 } : Room).locals := Nat.le_refl _
  have hC : 0 ≤ ({ frames := 5, cells := 0, slots := 0, locals := 99 } : Room).cells := Nat.le_refl _
  have hSl : 0 ≤ ({ frames := 5, cells := 0, slots := 0, locals := 99 } : Room).slots := Nat.le_refl _
  unfold wp_M_tideComes at h
  refine lv_aload_n hx hb dX3_tideComes_0 rfl (lv_at hl 0 rfl) ?_
  refine lv_aload_n hx hb dX3_tideComes_1 rfl (lv_at hl 0 rfl) ?_
  refine lv_aload_n hx hb dX3_tideComes_2 rfl (lv_at hl 1 rfl) ?_
  refine lv_aload_n hx hb dX3_tideComes_3 rfl (lv_at hl 1 rfl) ?_
  refine lv_bipush (v := (42 : Int32)) hx hb dX3_tideComes_4 (by decide) ?_
  refine va_iald (f := (ar 13)) hx hb hK hP 9 0 rfl rfl (by unfold vp_in; decide) dX3_tideComes_6 ?_
  refine cl_i F (va_runV (As := [.ref (ad 13), .int (ar 13 (42 : Int32).toNatClampNeg)]) (rest := [.ref o]) ⟨hx, hb, hml, hown, hts⟩ (ct_M_levelOf_i13 h _) (cwV 2 hts (lw_V q1650 q1652 qs73 q97 q1653) rfl rfl rfl (by decide +kernel) ⟨Nat.le_trans (Nat.le_of_ble_eq_true rfl) hRf, Nat.le_trans (Nat.le_of_ble_eq_true rfl) hRl⟩) ⟨ct_blind, va_recv hK hP (ci := 2) (q0 := 0) rfl rfl, ct_at F hS hP hD⟩ rfl rfl hl.1 rfl (lv_room (Nat.le_of_ble_eq_true rfl)) dX3_tideComes_7 ⟨hC, hSl⟩) rfl rfl hD hS ?_
  rintro x1 ar2 H locs h hP hD hS
  refine pt_put (v := .int x1) hx hb hts in_X3 tyX3 tyX3_ok nmX3 hown hK hP hD hS 0 rfl rfl 31 (Nat.le_of_ble_eq_true rfl) (hts _ q1249) (fun _ h => h) rfl (ty := .int) (by decide +kernel) rfl rfl (Nat.le_of_ble_eq_true rfl) dX3_tideComes_10 wmF_31 (fun H locs hP hD hS => ?_)
  refine lv_aload_n hx hb dX3_tideComes_13 rfl (lv_at hl 0 rfl) ?_
  refine lv_aload_n hx hb dX3_tideComes_14 rfl (lv_at hl 1 rfl) ?_
  refine lv_aload_n hx hb dX3_tideComes_15 rfl (lv_at hl 0 rfl) ?_
  refine va_get hx hb hts in_X3 hown hK hP 0 rfl rfl 31 (Nat.le_of_ble_eq_true rfl) (hts _ q1249) (fun _ h => h) (v := .int x1) rfl dX3_tideComes_16 ?_
  refine cl_i F (va_runV (As := [.ref (ad 13), .int x1]) (rest := []) ⟨hx, hb, hml, hown, hts⟩ (ct_M_lowBy_i13 h _) (cwV 2 hts (lw_V q1661 q1663 qs75 q97 q1664) rfl rfl rfl (by decide +kernel) ⟨Nat.le_trans (Nat.le_of_ble_eq_true rfl) hRf, Nat.le_trans (Nat.le_of_ble_eq_true rfl) hRl⟩) ⟨ct_blind, va_recv hK hP (ci := 2) (q0 := 0) rfl rfl, ct_at F hS hP hD⟩ rfl rfl hl.1 rfl (lv_room (Nat.le_of_ble_eq_true rfl)) dX3_tideComes_19 ⟨hC, hSl⟩) rfl rfl hD hS ?_
  rintro x3 _ H locs h hP hD hS
  refine lv_istore_n (lv' := [(2, .int x3), (0, .ref o), (1, .ref (ad 13))]) hx hb dX3_tideComes_22 rfl hl (by decide) rfl (fun ls hl => ?_)
  refine lv_iconst (v := (0 : Int32)) hx hb dX3_tideComes_23 (by decide) ?_
  refine lv_istore_n (lv' := [(3, .int (0 : Int32)), (2, .int x3), (0, .ref o), (1, .ref (ad 13))]) hx hb dX3_tideComes_24 rfl hl (by decide) rfl (fun ls hl => ?_)
  obtain ⟨k25, h⟩ := h
  refine lp_M_tideComes_L1_i13 F hRf hRl hC hSl ?hk138 k25 _ _ h _ _ _ hP hD hS (lv_sub hl [2, 3, 1, 0] rfl)
  case hk138 =>
    intro ar_14 h H locs ls hP hD hS hl
    refine lv_aload_n hx hb dX3_tideComes_138 rfl (lv_at hl 1 rfl) ?_
    refine lv_bipush (v := (12 : Int32)) hx hb dX3_tideComes_139 (by decide) ?_
    refine lv_dup2_11 hx hb dX3_tideComes_141 rfl rfl ?_
    refine va_iald (f := (ar_14 13)) hx hb hK hP 9 0 rfl rfl (by unfold vp_in; decide) dX3_tideComes_142 ?_
    refine lv_iload_n hx hb dX3_tideComes_143 rfl (lv_at hl 2 rfl) ?_
    refine lv_iconst (v := (-1 : Int32)) hx hb dX3_tideComes_144 (by decide) ?_
    refine lv_ixor hx hb dX3_tideComes_145 ?_
    refine lv_iand hx hb dX3_tideComes_146 ?_
    refine pt_iast (f := (ar_14 13)) hx hb hK hP hD hS 9 0 rfl rfl (by unfold vp_in; decide) dX3_tideComes_147 wmA_13 (fun H locs hP hD hS => ?_)
    refine lv_aload_n hx hb dX3_tideComes_148 rfl (lv_at hl 0 rfl) ?_
    refine lv_aload_n hx hb dX3_tideComes_149 rfl (lv_at hl 1 rfl) ?_
    refine cl_v F (va_runV (As := [.ref (ad 13)]) (rest := []) ⟨hx, hb, hml, hown, hts⟩ (ct_M_waterGoes_i13 h _) (cwV 1 hts (lw_V q1665 q1667 qs76 q97 q1668) rfl rfl rfl (by decide +kernel) ⟨Nat.le_trans (Nat.le_of_ble_eq_true rfl) hRf, Nat.le_trans (Nat.le_of_ble_eq_true rfl) hRl⟩) ⟨ct_blind, va_recv hK hP (ci := 2) (q0 := 0) rfl rfl, ct_at F hS hP hD⟩ rfl rfl hl.1 rfl (lv_room (Nat.le_of_ble_eq_true rfl)) dX3_tideComes_150 ⟨hC, hSl⟩) rfl rfl hD hS ?_
    rintro ar15 H locs h hP hD hS
    refine lv_aload_n hx hb dX3_tideComes_153 rfl (lv_at hl 1 rfl) ?_
    refine lv_bipush (v := (42 : Int32)) hx hb dX3_tideComes_154 (by decide) ?_
    refine lv_dup2_11 hx hb dX3_tideComes_156 rfl rfl ?_
    refine va_iald (f := (ar15 13)) hx hb hK hP 9 0 rfl rfl (by unfold vp_in; decide) dX3_tideComes_157 ?_
    refine lv_iconst (v := (1 : Int32)) hx hb dX3_tideComes_158 (by decide) ?_
    refine lv_iadd hx hb dX3_tideComes_159 ?_
    refine pt_iast (f := (ar15 13)) hx hb hK hP hD hS 9 0 rfl rfl (by unfold vp_in; decide) dX3_tideComes_160 wmA_13 (fun H locs hP hD hS => ?_)
    refine lv_iload_n hx hb dX3_tideComes_161 rfl (lv_at hl 2 rfl) ?_
    exact rt_i F dX3_tideComes_162 rfl ((upd fd 31 x1), (va_up ar15 13 (upd (ar15 13) (42 : Int32).toNatClampNeg ((ar15 13 (42 : Int32).toNatClampNeg) + (1 : Int32))))) h hP hD hS (Nat.le_refl _) (Nat.le_refl _)
