/-! constructors -/
set_option maxRecDepth 100000
set_option maxHeartbeats 4000000 in
theorem ct_K_X5_init {l : Launch} {V : evT} {D : va_G} {gI : Nat → ClassId} {o pt : Nat} {v2 : Int32} {v3 : Int32} : ct_v l V D vwCl (tyL gI) yX5_init cX5_init 4 { frames := 1, cells := 0, slots := 0, locals := 40 } [.ref o, .ref pt, .int v2, .int v3] [(o, .inr (4, [.null, .int (0 : Int32), .int (0 : Int32), .int (0 : Int32)]))] (fun u : Unit => [(o, .inr (4, [.ref pt, .int v2, .int (mnI v2 v3), .int (0 : Int32)]))]) (fun _ => True) := by
  refine ct_ofv RX5 rfl (by decide +kernel) (Nat.le_of_ble_eq_true rfl) ?_
  intro p e s m args below meth c A F hin hP hD ls hl
  replace hin : meth.name = "<init>" := hin.symm
  obtain ⟨⟨hx, hb, hml, hown, hts⟩, hr, hlocks, hA, hK, hE⟩ := id F
  have hS : va_S A s.heap s.heap [] := va_S.rf
  have hl : lv_has ls 4 [(0, .ref o), (1, .ref pt), (2, .int v2), (3, .int v3)] := hl
  have hRf : 1 ≤ ({ frames := 1, cells := 0, slots := 0, locals := 40 } : Room).frames := Nat.le_refl _
  have hRl : 40 ≤ ({ frames := 1, cells := 0, slots := 0, locals := 40 } : Room).locals := Nat.le_refl _
  have hC : 0 ≤ ({ frames := 1, cells := 0, slots := 0, locals := 40 } : Room).cells := Nat.zero_le _
  have hSl : 0 ≤ ({ frames := 1, cells := 0, slots := 0, locals := 40 } : Room).slots := Nat.zero_le _
  refine lv_aload_n hx hb dX5_init_0 rfl (lv_at hl 0 rfl) ?_
  refine W.objInit hx hb hown (hts _ q334) (hts _ q126) (hts _ q127) rfl (by rw [hml]; exact hl.1) rfl dX5_init_1 (Nat.le_trans (Nat.le_of_ble_eq_true rfl) hRf) (Nat.le_trans (Nat.le_of_ble_eq_true rfl) hRl) ?_
  refine lv_aload_n hx hb dX5_init_4 rfl (lv_at hl 0 rfl) ?_
  refine lv_aload_n hx hb dX5_init_5 rfl (lv_at hl 1 rfl) ?_
  refine va_putF (v := .ref pt) hx hb hts in_X5 tyX5 tyX5_ok nmX5 hown hK hP hD hS 0 rfl rfl 0 (Nat.le_of_ble_eq_true rfl) (hts _ q338) (fun _ h => h) rfl hin rfl (ty := (.array .byte)) (by decide +kernel) rfl rfl (Nat.le_of_ble_eq_true rfl) dX5_init_6 (fun H locs hP hD hS => ?_)
  refine lv_aload_n hx hb dX5_init_9 rfl (lv_at hl 0 rfl) ?_
  refine lv_iload_n hx hb dX5_init_10 rfl (lv_at hl 2 rfl) ?_
  refine va_putF (v := .int v2) hx hb hts in_X5 tyX5 tyX5_ok nmX5 hown hK hP hD hS 0 rfl rfl 1 (Nat.le_of_ble_eq_true rfl) (hts _ q339) (fun _ h => h) rfl hin rfl (ty := .int) (by decide +kernel) rfl rfl (Nat.le_of_ble_eq_true rfl) dX5_init_11 (fun H locs hP hD hS => ?_)
  refine lv_aload_n hx hb dX5_init_14 rfl (lv_at hl 0 rfl) ?_
  refine lv_iload_n hx hb dX5_init_15 rfl (lv_at hl 2 rfl) ?_
  refine lv_iload_n hx hb dX5_init_16 rfl (lv_at hl 3 rfl) ?_
  refine va_mmin hx hb (hml.trans hl.1.symm) hown (hts _ q335) (hts _ q336) (hts _ q100) (hts _ q337) (Nat.le_trans (Nat.le_of_ble_eq_true rfl) hRf) (Nat.le_trans (Nat.le_of_ble_eq_true rfl) hRl) hC hSl dX5_init_17 ?_
  refine va_putF (v := .int (mnI v2 v3)) hx hb hts in_X5 tyX5 tyX5_ok nmX5 hown hK hP hD hS 0 rfl rfl 2 (Nat.le_of_ble_eq_true rfl) (hts _ q341) (fun _ h => h) rfl hin rfl (ty := .int) (by decide +kernel) rfl rfl (Nat.le_of_ble_eq_true rfl) dX5_init_20 (fun H locs hP hD hS => ?_)
  exact rt_v F dX5_init_23 () trivial hP hD hS (Nat.le_of_ble_eq_true rfl) (Nat.le_of_ble_eq_true rfl)
set_option maxHeartbeats 4000000 in
theorem ct_K_X5_initR {l : Launch} {V : evT} {D : va_G} {gI : Nat → ClassId} {o pt ox : Nat} {v2 : Int32} {v3 : Int32} : ct_v l V D vwCl (tyL gI) yX5_init cX5_init 4 { frames := 1, cells := 0, slots := 0, locals := 40 } [.ref o, .ref pt, .int v2, .int v3] [(o, .inr (3, [.null, .int (0 : Int32), .int (0 : Int32), .int (0 : Int32), .int (0 : Int32), .int (0 : Int32), .int (0 : Int32), .ref ox]))] (fun u : Unit => [(o, .inr (3, [.ref pt, .int v2, .int (mnI v2 v3), .int (0 : Int32), .int (0 : Int32), .int (0 : Int32), .int (0 : Int32), .ref ox]))]) (fun _ => True) := by
  refine ct_ofv RX5 rfl (by decide +kernel) (Nat.le_of_ble_eq_true rfl) ?_
  intro p e s m args below meth c A F hin hP hD ls hl
  replace hin : meth.name = "<init>" := hin.symm
  obtain ⟨⟨hx, hb, hml, hown, hts⟩, hr, hlocks, hA, hK, hE⟩ := id F
  have hS : va_S A s.heap s.heap [] := va_S.rf
  have hl : lv_has ls 4 [(0, .ref o), (1, .ref pt), (2, .int v2), (3, .int v3)] := hl
  have hRf : 1 ≤ ({ frames := 1, cells := 0, slots := 0, locals := 40 } : Room).frames := Nat.le_refl _
  have hRl : 40 ≤ ({ frames := 1, cells := 0, slots := 0, locals := 40 } : Room).locals := Nat.le_refl _
  have hC : 0 ≤ ({ frames := 1, cells := 0, slots := 0, locals := 40 } : Room).cells := Nat.zero_le _
  have hSl : 0 ≤ ({ frames := 1, cells := 0, slots := 0, locals := 40 } : Room).slots := Nat.zero_le _
  refine lv_aload_n hx hb dX5_init_0 rfl (lv_at hl 0 rfl) ?_
  refine W.objInit hx hb hown (hts _ q334) (hts _ q126) (hts _ q127) rfl (by rw [hml]; exact hl.1) rfl dX5_init_1 (Nat.le_trans (Nat.le_of_ble_eq_true rfl) hRf) (Nat.le_trans (Nat.le_of_ble_eq_true rfl) hRl) ?_
  refine lv_aload_n hx hb dX5_init_4 rfl (lv_at hl 0 rfl) ?_
  refine lv_aload_n hx hb dX5_init_5 rfl (lv_at hl 1 rfl) ?_
  refine va_putF (v := .ref pt) hx hb hts in_X7 tyX7 tyX7_ok nmX7 hown hK hP hD hS 0 rfl rfl 0 (Nat.le_of_ble_eq_true rfl) (hts _ q338) (fun _ h => h) rfl hin rfl (ty := (.array .byte)) (by decide +kernel) rfl rfl (Nat.le_of_ble_eq_true rfl) dX5_init_6 (fun H locs hP hD hS => ?_)
  refine lv_aload_n hx hb dX5_init_9 rfl (lv_at hl 0 rfl) ?_
  refine lv_iload_n hx hb dX5_init_10 rfl (lv_at hl 2 rfl) ?_
  refine va_putF (v := .int v2) hx hb hts in_X7 tyX7 tyX7_ok nmX7 hown hK hP hD hS 0 rfl rfl 1 (Nat.le_of_ble_eq_true rfl) (hts _ q339) (fun _ h => h) rfl hin rfl (ty := .int) (by decide +kernel) rfl rfl (Nat.le_of_ble_eq_true rfl) dX5_init_11 (fun H locs hP hD hS => ?_)
  refine lv_aload_n hx hb dX5_init_14 rfl (lv_at hl 0 rfl) ?_
  refine lv_iload_n hx hb dX5_init_15 rfl (lv_at hl 2 rfl) ?_
  refine lv_iload_n hx hb dX5_init_16 rfl (lv_at hl 3 rfl) ?_
  refine va_mmin hx hb (hml.trans hl.1.symm) hown (hts _ q335) (hts _ q336) (hts _ q100) (hts _ q337) (Nat.le_trans (Nat.le_of_ble_eq_true rfl) hRf) (Nat.le_trans (Nat.le_of_ble_eq_true rfl) hRl) hC hSl dX5_init_17 ?_
  refine va_putF (v := .int (mnI v2 v3)) hx hb hts in_X7 tyX7 tyX7_ok nmX7 hown hK hP hD hS 0 rfl rfl 2 (Nat.le_of_ble_eq_true rfl) (hts _ q341) (fun _ h => h) rfl hin rfl (ty := .int) (by decide +kernel) rfl rfl (Nat.le_of_ble_eq_true rfl) dX5_init_20 (fun H locs hP hD hS => ?_)
  exact rt_v F dX5_init_23 () trivial hP hD hS (Nat.le_of_ble_eq_true rfl) (Nat.le_of_ble_eq_true rfl)
set_option maxHeartbeats 4000000 in
theorem ct_K_X5_initO {l : Launch} {V : evT} {D : va_G} {gI : Nat → ClassId} {o pt : Nat} {v2 : Int32} {v3 : Int32} : ct_v l V D vwCl (tyL gI) yX5_init cX5_init 4 { frames := 1, cells := 0, slots := 0, locals := 40 } [.ref o, .ref pt, .int v2, .int v3] [(o, .inr (6, [.null, .int (0 : Int32), .int (0 : Int32), .int (0 : Int32), .null, .null, .null, .int (0 : Int32)]))] (fun u : Unit => [(o, .inr (6, [.ref pt, .int v2, .int (mnI v2 v3), .int (0 : Int32), .null, .null, .null, .int (0 : Int32)]))]) (fun _ => True) := by
  refine ct_ofv RX5 rfl (by decide +kernel) (Nat.le_of_ble_eq_true rfl) ?_
  intro p e s m args below meth c A F hin hP hD ls hl
  replace hin : meth.name = "<init>" := hin.symm
  obtain ⟨⟨hx, hb, hml, hown, hts⟩, hr, hlocks, hA, hK, hE⟩ := id F
  have hS : va_S A s.heap s.heap [] := va_S.rf
  have hl : lv_has ls 4 [(0, .ref o), (1, .ref pt), (2, .int v2), (3, .int v3)] := hl
  have hRf : 1 ≤ ({ frames := 1, cells := 0, slots := 0, locals := 40 } : Room).frames := Nat.le_refl _
  have hRl : 40 ≤ ({ frames := 1, cells := 0, slots := 0, locals := 40 } : Room).locals := Nat.le_refl _
  have hC : 0 ≤ ({ frames := 1, cells := 0, slots := 0, locals := 40 } : Room).cells := Nat.zero_le _
  have hSl : 0 ≤ ({ frames := 1, cells := 0, slots := 0, locals := 40 } : Room).slots := Nat.zero_le _
  refine lv_aload_n hx hb dX5_init_0 rfl (lv_at hl 0 rfl) ?_
  refine W.objInit hx hb hown (hts _ q334) (hts _ q126) (hts _ q127) rfl (by rw [hml]; exact hl.1) rfl dX5_init_1 (Nat.le_trans (Nat.le_of_ble_eq_true rfl) hRf) (Nat.le_trans (Nat.le_of_ble_eq_true rfl) hRl) ?_
  refine lv_aload_n hx hb dX5_init_4 rfl (lv_at hl 0 rfl) ?_
  refine lv_aload_n hx hb dX5_init_5 rfl (lv_at hl 1 rfl) ?_
  refine va_putF (v := .ref pt) hx hb hts in_X8 tyX8 tyX8_ok nmX8 hown hK hP hD hS 0 rfl rfl 0 (Nat.le_of_ble_eq_true rfl) (hts _ q338) (fun _ h => h) rfl hin rfl (ty := (.array .byte)) (by decide +kernel) rfl rfl (Nat.le_of_ble_eq_true rfl) dX5_init_6 (fun H locs hP hD hS => ?_)
  refine lv_aload_n hx hb dX5_init_9 rfl (lv_at hl 0 rfl) ?_
  refine lv_iload_n hx hb dX5_init_10 rfl (lv_at hl 2 rfl) ?_
  refine va_putF (v := .int v2) hx hb hts in_X8 tyX8 tyX8_ok nmX8 hown hK hP hD hS 0 rfl rfl 1 (Nat.le_of_ble_eq_true rfl) (hts _ q339) (fun _ h => h) rfl hin rfl (ty := .int) (by decide +kernel) rfl rfl (Nat.le_of_ble_eq_true rfl) dX5_init_11 (fun H locs hP hD hS => ?_)
  refine lv_aload_n hx hb dX5_init_14 rfl (lv_at hl 0 rfl) ?_
  refine lv_iload_n hx hb dX5_init_15 rfl (lv_at hl 2 rfl) ?_
  refine lv_iload_n hx hb dX5_init_16 rfl (lv_at hl 3 rfl) ?_
  refine va_mmin hx hb (hml.trans hl.1.symm) hown (hts _ q335) (hts _ q336) (hts _ q100) (hts _ q337) (Nat.le_trans (Nat.le_of_ble_eq_true rfl) hRf) (Nat.le_trans (Nat.le_of_ble_eq_true rfl) hRl) hC hSl dX5_init_17 ?_
  refine va_putF (v := .int (mnI v2 v3)) hx hb hts in_X8 tyX8 tyX8_ok nmX8 hown hK hP hD hS 0 rfl rfl 2 (Nat.le_of_ble_eq_true rfl) (hts _ q341) (fun _ h => h) rfl hin rfl (ty := .int) (by decide +kernel) rfl rfl (Nat.le_of_ble_eq_true rfl) dX5_init_20 (fun H locs hP hD hS => ?_)
  exact rt_v F dX5_init_23 () trivial hP hD hS (Nat.le_of_ble_eq_true rfl) (Nat.le_of_ble_eq_true rfl)
set_option maxHeartbeats 4000000 in
theorem ct_K_X7_init {l : Launch} {V : evT} {D : va_G} {gI : Nat → ClassId} {o pt ox : Nat} {v3 : Int32} : ct_v l V D vwCl (tyL gI) yX7_init cX7_init 4 { frames := 2, cells := 0, slots := 0, locals := 63 } [.ref o, .ref ox, .ref pt, .int v3] [(o, .inr (3, [.null, .int (0 : Int32), .int (0 : Int32), .int (0 : Int32), .int (0 : Int32), .int (0 : Int32), .int (0 : Int32), .null]))] (fun u : Unit => [(o, .inr (3, [.ref pt, .int v3, .int (mnI v3 (40 : Int32)), .int (0 : Int32), .int (0 : Int32), .int (0 : Int32), .int (0 : Int32), .ref ox]))]) (fun _ => True) := by
  refine ct_ofv RX7 rfl (by decide +kernel) (Nat.le_of_ble_eq_true rfl) ?_
  intro p e s m args below meth c A F hin hP hD ls hl
  replace hin : meth.name = "<init>" := hin.symm
  obtain ⟨⟨hx, hb, hml, hown, hts⟩, hr, hlocks, hA, hK, hE⟩ := id F
  have hS : va_S A s.heap s.heap [] := va_S.rf
  have hl : lv_has ls 4 [(0, .ref o), (1, .ref ox), (2, .ref pt), (3, .int v3)] := hl
  have hRf : 2 ≤ ({ frames := 2, cells := 0, slots := 0, locals := 63 } : Room).frames := Nat.le_refl _
  have hRl : 63 ≤ ({ frames := 2, cells := 0, slots := 0, locals := 63 } : Room).locals := Nat.le_refl _
  have hC : 0 ≤ ({ frames := 2, cells := 0, slots := 0, locals := 63 } : Room).cells := Nat.zero_le _
  have hSl : 0 ≤ ({ frames := 2, cells := 0, slots := 0, locals := 63 } : Room).slots := Nat.zero_le _
  refine lv_aload_n hx hb dX7_init_0 rfl (lv_at hl 0 rfl) ?_
  refine lv_aload_n hx hb dX7_init_1 rfl (lv_at hl 1 rfl) ?_
  refine va_putF (v := .ref ox) hx hb hts in_X7 tyX7 tyX7_ok nmX7 hown hK hP hD hS 0 rfl rfl 7 (Nat.le_of_ble_eq_true rfl) (hts _ q519) (fun _ h => h) rfl hin rfl (ty := (.object "SandKeepsSea")) (by decide +kernel) rfl rfl (Nat.le_of_ble_eq_true rfl) dX7_init_2 (fun H locs hP hD hS => ?_)
  refine lv_aload_n hx hb dX7_init_5 rfl (lv_at hl 0 rfl) ?_
  refine lv_aload_n hx hb dX7_init_6 rfl (lv_at hl 2 rfl) ?_
  refine lv_iload_n hx hb dX7_init_7 rfl (lv_at hl 3 rfl) ?_
  refine lv_bipush (v := (40 : Int32)) hx hb dX7_init_8 (by decide) ?_
  refine cl_vL F (va_runI (As := [.ref pt, .int v3, .int (40 : Int32)]) (rest := []) ⟨hx, hb, hml, hown, hts⟩ (ct_K_X5_initR (o := o) (pt := pt) (v2 := v3) (v3 := (40 : Int32)) _) (cwI 3 hts (lw_meth q333) rfl rfl rfl (hts _ q99) (hts _ q515) (hts _ q332) rfl (by decide +kernel) ⟨Nat.le_trans (Nat.le_of_ble_eq_true rfl) hRf, Nat.le_trans (Nat.le_of_ble_eq_true rfl) hRl⟩) ⟨ct_blind, ct_at F hS (putL_P hP (ps := [0]) rfl) (hD.sub ([0]) (by decide) rfl)⟩ rfl rfl hl.1 rfl (lv_room (Nat.le_of_ble_eq_true rfl)) dX7_init_10 ⟨Nat.le_of_ble_eq_true rfl, Nat.le_of_ble_eq_true rfl⟩) rfl rfl hP hD hS (ps := [0]) rfl (fun _ => rfl) (fun _ => rfl) ?_
  rintro _ H locs _ hP hD hS
  exact rt_v F dX7_init_13 () trivial hP hD hS (Nat.le_of_ble_eq_true rfl) (Nat.le_of_ble_eq_true rfl)
set_option maxHeartbeats 4000000 in
theorem ct_K_X8_init {l : Launch} {V : evT} {D : va_G} {gI : Nat → ClassId} {o pt : Nat} {v2 : Int32} : ct_v l V D vwCl (tyL gI) yX8_init cX8_init 3 { frames := 2, cells := 3, slots := 180, locals := 63 } [.ref o, .ref pt, .int v2] [(o, .inr (6, [.null, .int (0 : Int32), .int (0 : Int32), .int (0 : Int32), .null, .null, .null, .int (0 : Int32)]))] (fun u : Nat × Nat × Nat => [(o, .inr (6, [.ref pt, .int v2, .int (mnI v2 (60 : Int32)), .int (0 : Int32), .ref u.1, .ref u.2.1, .ref u.2.2, .int (0 : Int32)]))] ++ [(u.1, .inl (gI 7, 60, .inl (fun _ => 0))), (u.2.1, .inl (gI 0, 60, .inl (fun _ => 0))), (u.2.2, .inl (gI 0, 60, .inl (fun _ => 0)))]) (fun _ => True) := by
  refine ct_ofv RX8 rfl (by decide +kernel) (Nat.le_of_ble_eq_true rfl) ?_
  intro p e s m args below meth c A F hin hP hD ls hl
  replace hin : meth.name = "<init>" := hin.symm
  obtain ⟨⟨hx, hb, hml, hown, hts⟩, hr, hlocks, hA, hK, hE⟩ := id F
  have hS : va_S A s.heap s.heap [] := va_S.rf
  have hl : lv_has ls 3 [(0, .ref o), (1, .ref pt), (2, .int v2)] := hl
  have hRf : 2 ≤ ({ frames := 2, cells := 3, slots := 180, locals := 63 } : Room).frames := Nat.le_refl _
  have hRl : 63 ≤ ({ frames := 2, cells := 3, slots := 180, locals := 63 } : Room).locals := Nat.le_refl _
  have hC : 0 ≤ ({ frames := 2, cells := 3, slots := 180, locals := 63 } : Room).cells := Nat.zero_le _
  have hSl : 0 ≤ ({ frames := 2, cells := 3, slots := 180, locals := 63 } : Room).slots := Nat.zero_le _
  refine lv_aload_n hx hb dX8_init_0 rfl (lv_at hl 0 rfl) ?_
  refine lv_aload_n hx hb dX8_init_1 rfl (lv_at hl 1 rfl) ?_
  refine lv_iload_n hx hb dX8_init_2 rfl (lv_at hl 2 rfl) ?_
  refine lv_bipush (v := (60 : Int32)) hx hb dX8_init_3 (by decide) ?_
  refine cl_vL F (va_runI (As := [.ref pt, .int v2, .int (60 : Int32)]) (rest := []) ⟨hx, hb, hml, hown, hts⟩ (ct_K_X5_initO (o := o) (pt := pt) (v2 := v2) (v3 := (60 : Int32)) _) (cwI 3 hts (lw_meth q333) rfl rfl rfl (hts _ q99) (hts _ q786) (hts _ q332) rfl (by decide +kernel) ⟨Nat.le_trans (Nat.le_of_ble_eq_true rfl) hRf, Nat.le_trans (Nat.le_of_ble_eq_true rfl) hRl⟩) ⟨ct_blind, ct_at F hS (putL_P hP (ps := [0]) rfl) (hD.sub ([0]) (by decide) rfl)⟩ rfl rfl hl.1 rfl (lv_room (Nat.le_of_ble_eq_true rfl)) dX8_init_5 ⟨Nat.le_of_ble_eq_true rfl, Nat.le_of_ble_eq_true rfl⟩) rfl rfl hP hD hS (ps := [0]) rfl (fun _ => rfl) (fun _ => rfl) ?_
  rintro _ H locs _ hP hD hS
  refine lv_aload_n hx hb dX8_init_8 rfl (lv_at hl 0 rfl) ?_
  refine lv_bipush (v := (60 : Int32)) hx hb dX8_init_9 (by decide) ?_
  refine pt_newa (atype := .char) (a0 := (60, .inl (fun _ => 0))) hx hb (hts _ q808) rfl hK 7 rfl hP hD hS hA (fun _ => rfl) (by decide) rfl (Nat.le_of_ble_eq_true rfl) (Nat.le_of_ble_eq_true rfl) (Nat.le_of_ble_eq_true rfl) dX8_init_11 (fun q1 H hP hD hS => ?_)
  refine va_putF (v := .ref q1) hx hb hts in_X8 tyX8 tyX8_ok nmX8 hown hK hP hD hS 0 rfl rfl 4 (Nat.le_of_ble_eq_true rfl) (hts _ q787) (fun _ h => h) rfl hin rfl (ty := (.array .char)) (by decide +kernel) rfl rfl (Nat.le_of_ble_eq_true rfl) dX8_init_13 (fun H locs hP hD hS => ?_)
  refine lv_aload_n hx hb dX8_init_16 rfl (lv_at hl 0 rfl) ?_
  refine lv_bipush (v := (60 : Int32)) hx hb dX8_init_17 (by decide) ?_
  refine pt_newa (atype := .int) (a0 := (60, .inl (fun _ => 0))) hx hb (hts _ q167) rfl hK 0 rfl hP hD hS hA (fun _ => rfl) (by decide) rfl (Nat.le_of_ble_eq_true rfl) (Nat.le_of_ble_eq_true rfl) (Nat.le_of_ble_eq_true rfl) dX8_init_19 (fun q2 H hP hD hS => ?_)
  refine va_putF (v := .ref q2) hx hb hts in_X8 tyX8 tyX8_ok nmX8 hown hK hP hD hS 0 rfl rfl 5 (Nat.le_of_ble_eq_true rfl) (hts _ q789) (fun _ h => h) rfl hin rfl (ty := (.array .int)) (by decide +kernel) rfl rfl (Nat.le_of_ble_eq_true rfl) dX8_init_21 (fun H locs hP hD hS => ?_)
  refine lv_aload_n hx hb dX8_init_24 rfl (lv_at hl 0 rfl) ?_
  refine lv_bipush (v := (60 : Int32)) hx hb dX8_init_25 (by decide) ?_
  refine pt_newa (atype := .int) (a0 := (60, .inl (fun _ => 0))) hx hb (hts _ q167) rfl hK 0 rfl hP hD hS hA (fun _ => rfl) (by decide) rfl (Nat.le_of_ble_eq_true rfl) (Nat.le_of_ble_eq_true rfl) (Nat.le_of_ble_eq_true rfl) dX8_init_27 (fun q3 H hP hD hS => ?_)
  refine va_putF (v := .ref q3) hx hb hts in_X8 tyX8 tyX8_ok nmX8 hown hK hP hD hS 0 rfl rfl 6 (Nat.le_of_ble_eq_true rfl) (hts _ q791) (fun _ h => h) rfl hin rfl (ty := (.array .int)) (by decide +kernel) rfl rfl (Nat.le_of_ble_eq_true rfl) dX8_init_29 (fun H locs hP hD hS => ?_)
  exact rt_v F dX8_init_32 (q1, q2, q3) trivial hP hD hS (Nat.le_of_ble_eq_true rfl) (Nat.le_of_ble_eq_true rfl)
set_option maxHeartbeats 4000000 in
theorem ct_K_X4_init {l : Launch} {V : evT} {D : va_G} {gI : Nat → ClassId} {o : Nat} : ct_v l V D vwCl (tyL gI) yX4_init cX4_init 1 { frames := 1, cells := 2, slots := 24, locals := 40 } [.ref o] [(o, .inr (10, [.null, .null, .int (0 : Int32)]))] (fun u : Nat × Nat => [(o, .inr (10, [.ref u.1, .ref u.2, .int (0 : Int32)]))] ++ [(u.1, .inl (gI 0, 12, .inl (fun _ => 0))), (u.2, .inl (gI 0, 12, .inl (fun _ => 0)))]) (fun _ => True) := by
  refine ct_ofv RX4 rfl (by decide +kernel) (Nat.le_of_ble_eq_true rfl) ?_
  intro p e s m args below meth c A F hin hP hD ls hl
  replace hin : meth.name = "<init>" := hin.symm
  obtain ⟨⟨hx, hb, hml, hown, hts⟩, hr, hlocks, hA, hK, hE⟩ := id F
  have hS : va_S A s.heap s.heap [] := va_S.rf
  have hl : lv_has ls 1 [(0, .ref o)] := hl
  have hRf : 1 ≤ ({ frames := 1, cells := 2, slots := 24, locals := 40 } : Room).frames := Nat.le_refl _
  have hRl : 40 ≤ ({ frames := 1, cells := 2, slots := 24, locals := 40 } : Room).locals := Nat.le_refl _
  have hC : 0 ≤ ({ frames := 1, cells := 2, slots := 24, locals := 40 } : Room).cells := Nat.zero_le _
  have hSl : 0 ≤ ({ frames := 1, cells := 2, slots := 24, locals := 40 } : Room).slots := Nat.zero_le _
  refine lv_aload_n hx hb dX4_init_0 rfl (lv_at hl 0 rfl) ?_
  refine W.objInit hx hb hown (hts _ q311) (hts _ q126) (hts _ q127) rfl (by rw [hml]; exact hl.1) rfl dX4_init_1 (Nat.le_trans (Nat.le_of_ble_eq_true rfl) hRf) (Nat.le_trans (Nat.le_of_ble_eq_true rfl) hRl) ?_
  refine lv_aload_n hx hb dX4_init_4 rfl (lv_at hl 0 rfl) ?_
  refine lv_bipush (v := (12 : Int32)) hx hb dX4_init_5 (by decide) ?_
  refine pt_newa (atype := .int) (a0 := (12, .inl (fun _ => 0))) hx hb (hts _ q167) rfl hK 0 rfl hP hD hS hA (fun _ => rfl) (by decide) rfl (Nat.le_of_ble_eq_true rfl) (Nat.le_of_ble_eq_true rfl) (Nat.le_of_ble_eq_true rfl) dX4_init_7 (fun q1 H hP hD hS => ?_)
  refine va_putF (v := .ref q1) hx hb hts in_X4 tyX4 tyX4_ok nmX4 hown hK hP hD hS 0 rfl rfl 0 (Nat.le_of_ble_eq_true rfl) (hts _ q312) (fun _ h => h) rfl hin rfl (ty := (.array .int)) (by decide +kernel) rfl rfl (Nat.le_of_ble_eq_true rfl) dX4_init_9 (fun H locs hP hD hS => ?_)
  refine lv_aload_n hx hb dX4_init_12 rfl (lv_at hl 0 rfl) ?_
  refine lv_bipush (v := (12 : Int32)) hx hb dX4_init_13 (by decide) ?_
  refine pt_newa (atype := .int) (a0 := (12, .inl (fun _ => 0))) hx hb (hts _ q167) rfl hK 0 rfl hP hD hS hA (fun _ => rfl) (by decide) rfl (Nat.le_of_ble_eq_true rfl) (Nat.le_of_ble_eq_true rfl) (Nat.le_of_ble_eq_true rfl) dX4_init_15 (fun q2 H hP hD hS => ?_)
  refine va_putF (v := .ref q2) hx hb hts in_X4 tyX4 tyX4_ok nmX4 hown hK hP hD hS 0 rfl rfl 1 (Nat.le_of_ble_eq_true rfl) (hts _ q314) (fun _ h => h) rfl hin rfl (ty := (.array .int)) (by decide +kernel) rfl rfl (Nat.le_of_ble_eq_true rfl) dX4_init_17 (fun H locs hP hD hS => ?_)
  exact rt_v F dX4_init_20 (q1, q2) trivial hP hD hS (Nat.le_of_ble_eq_true rfl) (Nat.le_of_ble_eq_true rfl)
set_option maxHeartbeats 4000000 in
theorem ct_K_X2_init {l : Launch} {V : evT} {D : va_G} {gI : Nat → ClassId} {o : Nat} : ct_v l V D vwCl (tyL gI) yX2_init cX2_init 1 { frames := 1, cells := 4, slots := 40, locals := 40 } [.ref o] [(o, .inr (1, [.null, .null, .null, .null, .int (0 : Int32), .int (0 : Int32), .int (0 : Int32)]))] (fun u : Nat × Nat × Nat × Nat => [(o, .inr (1, [.ref u.1, .ref u.2.1, .ref u.2.2.1, .ref u.2.2.2, .int (0 : Int32), .int (0 : Int32), .int (0 : Int32)]))] ++ [(u.1, .inl (gI 0, 12, .inl (fun _ => 0))), (u.2.1, .inl (gI 0, 12, .inl (fun _ => 0))), (u.2.2.1, .inl (gI 0, 8, .inl (fun _ => 0))), (u.2.2.2, .inl (gI 0, 8, .inl (fun _ => 0)))]) (fun _ => True) := by
  refine ct_ofv RX2 rfl (by decide +kernel) (Nat.le_of_ble_eq_true rfl) ?_
  intro p e s m args below meth c A F hin hP hD ls hl
  replace hin : meth.name = "<init>" := hin.symm
  obtain ⟨⟨hx, hb, hml, hown, hts⟩, hr, hlocks, hA, hK, hE⟩ := id F
  have hS : va_S A s.heap s.heap [] := va_S.rf
  have hl : lv_has ls 1 [(0, .ref o)] := hl
  have hRf : 1 ≤ ({ frames := 1, cells := 4, slots := 40, locals := 40 } : Room).frames := Nat.le_refl _
  have hRl : 40 ≤ ({ frames := 1, cells := 4, slots := 40, locals := 40 } : Room).locals := Nat.le_refl _
  have hC : 0 ≤ ({ frames := 1, cells := 4, slots := 40, locals := 40 } : Room).cells := Nat.zero_le _
  have hSl : 0 ≤ ({ frames := 1, cells := 4, slots := 40, locals := 40 } : Room).slots := Nat.zero_le _
  refine lv_aload_n hx hb dX2_init_0 rfl (lv_at hl 0 rfl) ?_
  refine W.objInit hx hb hown (hts _ q133) (hts _ q126) (hts _ q127) rfl (by rw [hml]; exact hl.1) rfl dX2_init_1 (Nat.le_trans (Nat.le_of_ble_eq_true rfl) hRf) (Nat.le_trans (Nat.le_of_ble_eq_true rfl) hRl) ?_
  refine lv_aload_n hx hb dX2_init_4 rfl (lv_at hl 0 rfl) ?_
  refine lv_bipush (v := (12 : Int32)) hx hb dX2_init_5 (by decide) ?_
  refine pt_newa (atype := .int) (a0 := (12, .inl (fun _ => 0))) hx hb (hts _ q167) rfl hK 0 rfl hP hD hS hA (fun _ => rfl) (by decide) rfl (Nat.le_of_ble_eq_true rfl) (Nat.le_of_ble_eq_true rfl) (Nat.le_of_ble_eq_true rfl) dX2_init_7 (fun q1 H hP hD hS => ?_)
  refine va_putF (v := .ref q1) hx hb hts in_X2 tyX2 tyX2_ok nmX2 hown hK hP hD hS 0 rfl rfl 0 (Nat.le_of_ble_eq_true rfl) (hts _ q134) (fun _ h => h) rfl hin rfl (ty := (.array .int)) (by decide +kernel) rfl rfl (Nat.le_of_ble_eq_true rfl) dX2_init_9 (fun H locs hP hD hS => ?_)
  refine lv_aload_n hx hb dX2_init_12 rfl (lv_at hl 0 rfl) ?_
  refine lv_bipush (v := (12 : Int32)) hx hb dX2_init_13 (by decide) ?_
  refine pt_newa (atype := .int) (a0 := (12, .inl (fun _ => 0))) hx hb (hts _ q167) rfl hK 0 rfl hP hD hS hA (fun _ => rfl) (by decide) rfl (Nat.le_of_ble_eq_true rfl) (Nat.le_of_ble_eq_true rfl) (Nat.le_of_ble_eq_true rfl) dX2_init_15 (fun q2 H hP hD hS => ?_)
  refine va_putF (v := .ref q2) hx hb hts in_X2 tyX2 tyX2_ok nmX2 hown hK hP hD hS 0 rfl rfl 1 (Nat.le_of_ble_eq_true rfl) (hts _ q136) (fun _ h => h) rfl hin rfl (ty := (.array .int)) (by decide +kernel) rfl rfl (Nat.le_of_ble_eq_true rfl) dX2_init_17 (fun H locs hP hD hS => ?_)
  refine lv_aload_n hx hb dX2_init_20 rfl (lv_at hl 0 rfl) ?_
  refine lv_bipush (v := (8 : Int32)) hx hb dX2_init_21 (by decide) ?_
  refine pt_newa (atype := .int) (a0 := (8, .inl (fun _ => 0))) hx hb (hts _ q167) rfl hK 0 rfl hP hD hS hA (fun _ => rfl) (by decide) rfl (Nat.le_of_ble_eq_true rfl) (Nat.le_of_ble_eq_true rfl) (Nat.le_of_ble_eq_true rfl) dX2_init_23 (fun q3 H hP hD hS => ?_)
  refine va_putF (v := .ref q3) hx hb hts in_X2 tyX2 tyX2_ok nmX2 hown hK hP hD hS 0 rfl rfl 2 (Nat.le_of_ble_eq_true rfl) (hts _ q138) (fun _ h => h) rfl hin rfl (ty := (.array .int)) (by decide +kernel) rfl rfl (Nat.le_of_ble_eq_true rfl) dX2_init_25 (fun H locs hP hD hS => ?_)
  refine lv_aload_n hx hb dX2_init_28 rfl (lv_at hl 0 rfl) ?_
  refine lv_bipush (v := (8 : Int32)) hx hb dX2_init_29 (by decide) ?_
  refine pt_newa (atype := .int) (a0 := (8, .inl (fun _ => 0))) hx hb (hts _ q167) rfl hK 0 rfl hP hD hS hA (fun _ => rfl) (by decide) rfl (Nat.le_of_ble_eq_true rfl) (Nat.le_of_ble_eq_true rfl) (Nat.le_of_ble_eq_true rfl) dX2_init_31 (fun q4 H hP hD hS => ?_)
  refine va_putF (v := .ref q4) hx hb hts in_X2 tyX2 tyX2_ok nmX2 hown hK hP hD hS 0 rfl rfl 3 (Nat.le_of_ble_eq_true rfl) (hts _ q142) (fun _ h => h) rfl hin rfl (ty := (.array .int)) (by decide +kernel) rfl rfl (Nat.le_of_ble_eq_true rfl) dX2_init_33 (fun H locs hP hD hS => ?_)
  exact rt_v F dX2_init_36 (q1, q2, q3, q4) trivial hP hD hS (Nat.le_of_ble_eq_true rfl) (Nat.le_of_ble_eq_true rfl)
set_option maxHeartbeats 4000000 in
theorem ct_K_X9_initC {l : Launch} {V : evT} {D : va_G} {gI : Nat → ClassId} {o ox : Nat} {x1 : Value} {v2 : Int32} : ct_v l V D vwCl (tyL gI) yX9_init cX9_init 3 { frames := 1, cells := 0, slots := 0, locals := 40 } [.ref o, .ref ox, .int v2] [(o, .inr (7, [.int (0 : Int32), x1, .int (0 : Int32), .null, .int (0 : Int32), .ref ox]))] (fun u : Unit => [(o, .inr (7, [.int v2, .ref ox, .int (0 : Int32), .null, .int (0 : Int32), .ref ox]))]) (fun _ => True) := by
  refine ct_ofv RX9 rfl (by decide +kernel) (Nat.le_of_ble_eq_true rfl) ?_
  intro p e s m args below meth c A F hin hP hD ls hl
  replace hin : meth.name = "<init>" := hin.symm
  obtain ⟨⟨hx, hb, hml, hown, hts⟩, hr, hlocks, hA, hK, hE⟩ := id F
  have hS : va_S A s.heap s.heap [] := va_S.rf
  have hl : lv_has ls 3 [(0, .ref o), (1, .ref ox), (2, .int v2)] := hl
  have hRf : 1 ≤ ({ frames := 1, cells := 0, slots := 0, locals := 40 } : Room).frames := Nat.le_refl _
  have hRl : 40 ≤ ({ frames := 1, cells := 0, slots := 0, locals := 40 } : Room).locals := Nat.le_refl _
  have hC : 0 ≤ ({ frames := 1, cells := 0, slots := 0, locals := 40 } : Room).cells := Nat.zero_le _
  have hSl : 0 ≤ ({ frames := 1, cells := 0, slots := 0, locals := 40 } : Room).slots := Nat.zero_le _
  refine lv_aload_n hx hb dX9_init_0 rfl (lv_at hl 0 rfl) ?_
  refine lv_aload_n hx hb dX9_init_1 rfl (lv_at hl 1 rfl) ?_
  refine va_putBF (v := .ref ox) hx hb hts in_X10 tyX10 tyX10_ok 5 (by decide +kernel) hown hK hP hD hS 0 rfl rfl (k := 1) (Nat.le_of_ble_eq_true rfl) (hts _ q983) (fun _ h => h) rfl hin rfl (ty := (.object "SandKeepsSea")) (by decide +kernel) rfl rfl (Nat.le_of_ble_eq_true rfl) rfl dX9_init_2 (fun H locs hP hD hS => ?_)
  refine lv_aload_n hx hb dX9_init_5 rfl (lv_at hl 0 rfl) ?_
  refine W.objInit hx hb hown (hts _ q975) (hts _ q126) (hts _ q127) rfl (by rw [hml]; exact hl.1) rfl dX9_init_6 (Nat.le_trans (Nat.le_of_ble_eq_true rfl) hRf) (Nat.le_trans (Nat.le_of_ble_eq_true rfl) hRl) ?_
  refine lv_aload_n hx hb dX9_init_9 rfl (lv_at hl 0 rfl) ?_
  refine lv_iload_n hx hb dX9_init_10 rfl (lv_at hl 2 rfl) ?_
  refine va_put2F (v := .int v2) hx hb hts in_X10 tyX10 tyX10_ok (by decide +kernel) hown hK hP hD hS 0 rfl rfl (k := 0) (Nat.le_of_ble_eq_true rfl) (hts _ q982) (fun _ h => h) rfl hin rfl (ty := .int) (by decide +kernel) rfl rfl (Nat.le_of_ble_eq_true rfl) dX9_init_11 (fun H locs hP hD hS => ?_)
  exact rt_v F dX9_init_14 () trivial hP hD hS (Nat.le_of_ble_eq_true rfl) (Nat.le_of_ble_eq_true rfl)
set_option maxHeartbeats 4000000 in
theorem ct_K_X10_init {l : Launch} {V : evT} {D : va_G} {gI : Nat → ClassId} {o ox : Nat} {v2 : Int32} {v3 : Int32} : ct_v l V D vwCl (tyL gI) yX10_init cX10_init 4 { frames := 2, cells := 1, slots := 8, locals := 62 } [.ref o, .ref ox, .int v2, .int v3] [(o, .inr (7, [.int (0 : Int32), .null, .int (0 : Int32), .null, .int (0 : Int32), .null]))] (fun u : Nat => [(o, .inr (7, [.int v3, .ref ox, .int v2, .ref u, .int (100000 : Int32), .ref ox]))] ++ [(u, .inl (gI 0, 8, .inl (fun _ => 0)))]) (fun _ => True) := by
  refine ct_ofv RX10 rfl (by decide +kernel) (Nat.le_of_ble_eq_true rfl) ?_
  intro p e s m args below meth c A F hin hP hD ls hl
  replace hin : meth.name = "<init>" := hin.symm
  obtain ⟨⟨hx, hb, hml, hown, hts⟩, hr, hlocks, hA, hK, hE⟩ := id F
  have hS : va_S A s.heap s.heap [] := va_S.rf
  have hl : lv_has ls 4 [(0, .ref o), (1, .ref ox), (2, .int v2), (3, .int v3)] := hl
  have hRf : 2 ≤ ({ frames := 2, cells := 1, slots := 8, locals := 62 } : Room).frames := Nat.le_refl _
  have hRl : 62 ≤ ({ frames := 2, cells := 1, slots := 8, locals := 62 } : Room).locals := Nat.le_refl _
  have hC : 0 ≤ ({ frames := 2, cells := 1, slots := 8, locals := 62 } : Room).cells := Nat.zero_le _
  have hSl : 0 ≤ ({ frames := 2, cells := 1, slots := 8, locals := 62 } : Room).slots := Nat.zero_le _
  refine lv_aload_n hx hb dX10_init_0 rfl (lv_at hl 0 rfl) ?_
  refine lv_aload_n hx hb dX10_init_1 rfl (lv_at hl 1 rfl) ?_
  refine va_putDF (v := .ref ox) hx hb hts in_X10 tyX10 tyX10_ok 1 (by decide) (by decide +kernel) hown hK hP hD hS 0 rfl rfl (k := 5) (Nat.le_of_ble_eq_true rfl) (hts _ q981) (fun _ h => h) rfl hin rfl (ty := (.object "SandKeepsSea")) (by decide +kernel) rfl rfl (Nat.le_of_ble_eq_true rfl) (Nat.le_of_ble_eq_true rfl) dX10_init_2 (fun x1 H locs hP hD hS => ?_)
  refine lv_aload_n hx hb dX10_init_5 rfl (lv_at hl 0 rfl) ?_
  refine lv_aload_n hx hb dX10_init_6 rfl (lv_at hl 1 rfl) ?_
  refine lv_iload_n hx hb dX10_init_7 rfl (lv_at hl 3 rfl) ?_
  refine cl_vL F (va_runI (As := [.ref ox, .int v3]) (rest := []) ⟨hx, hb, hml, hown, hts⟩ (ct_K_X9_initC (o := o) (ox := ox) (v2 := v3) _) (cwI 2 hts (lw_meth q974) rfl rfl rfl (hts _ q116) (hts _ q972) (hts _ q973) rfl (by decide +kernel) ⟨Nat.le_trans (Nat.le_of_ble_eq_true rfl) hRf, Nat.le_trans (Nat.le_of_ble_eq_true rfl) hRl⟩) ⟨ct_blind, ct_at F hS (putL_P hP (ps := [0]) rfl) (hD.sub ([0]) (by decide) rfl)⟩ rfl rfl hl.1 rfl (lv_room (Nat.le_of_ble_eq_true rfl)) dX10_init_8 ⟨Nat.le_of_ble_eq_true rfl, Nat.le_of_ble_eq_true rfl⟩) rfl rfl hP hD hS (ps := [0]) rfl (fun _ => rfl) (fun _ => rfl) ?_
  rintro _ H locs _ hP hD hS
  refine lv_aload_n hx hb dX10_init_11 rfl (lv_at hl 0 rfl) ?_
  refine lv_bipush (v := (8 : Int32)) hx hb dX10_init_12 (by decide) ?_
  refine pt_newa (atype := .int) (a0 := (8, .inl (fun _ => 0))) hx hb (hts _ q167) rfl hK 0 rfl hP hD hS hA (fun _ => rfl) (by decide) rfl (Nat.le_of_ble_eq_true rfl) (Nat.le_of_ble_eq_true rfl) (Nat.le_of_ble_eq_true rfl) dX10_init_14 (fun q1 H hP hD hS => ?_)
  refine va_put2F (v := .ref q1) hx hb hts in_X10 tyX10 tyX10_ok (by decide +kernel) hown hK hP hD hS 0 rfl rfl (k := 3) (Nat.le_of_ble_eq_true rfl) (hts _ q978) (fun _ h => h) rfl hin rfl (ty := (.array .int)) (by decide +kernel) rfl rfl (Nat.le_of_ble_eq_true rfl) dX10_init_16 (fun H locs hP hD hS => ?_)
  refine lv_aload_n hx hb dX10_init_19 rfl (lv_at hl 0 rfl) ?_
  refine lv_ldc (v := (100000 : Int32)) hx hb hown (hts _ q976) dX10_init_20 ?_
  refine va_put2 (v := .int (100000 : Int32)) hx hb hts in_X10 tyX10 tyX10_ok (by decide +kernel) hown hK hP hD hS 0 rfl rfl (k := 4) (Nat.le_of_ble_eq_true rfl) (hts _ q980) (fun _ h => h) rfl (ty := .int) (by decide +kernel) rfl rfl (Nat.le_of_ble_eq_true rfl) dX10_init_22 (fun H locs hP hD hS => ?_)
  refine lv_aload_n hx hb dX10_init_25 rfl (lv_at hl 0 rfl) ?_
  refine lv_iload_n hx hb dX10_init_26 rfl (lv_at hl 2 rfl) ?_
  refine va_put2F (v := .int v2) hx hb hts in_X10 tyX10 tyX10_ok (by decide +kernel) hown hK hP hD hS 0 rfl rfl (k := 2) (Nat.le_of_ble_eq_true rfl) (hts _ q977) (fun _ h => h) rfl hin rfl (ty := .int) (by decide +kernel) rfl rfl (Nat.le_of_ble_eq_true rfl) dX10_init_27 (fun H locs hP hD hS => ?_)
  exact rt_v F dX10_init_30 (q1) trivial hP hD hS (Nat.le_of_ble_eq_true rfl) (Nat.le_of_ble_eq_true rfl)
set_option maxHeartbeats 4000000 in
theorem ct_K_X9_initP {l : Launch} {V : evT} {D : va_G} {gI : Nat → ClassId} {o ox : Nat} {x1 : Value} {v2 : Int32} : ct_v l V D vwCl (tyL gI) yX9_init cX9_init 3 { frames := 1, cells := 0, slots := 0, locals := 40 } [.ref o, .ref ox, .int v2] [(o, .inr (8, [.int (0 : Int32), x1, .int (0 : Int32), .int (0 : Int32), .ref ox]))] (fun u : Unit => [(o, .inr (8, [.int v2, .ref ox, .int (0 : Int32), .int (0 : Int32), .ref ox]))]) (fun _ => True) := by
  refine ct_ofv RX9 rfl (by decide +kernel) (Nat.le_of_ble_eq_true rfl) ?_
  intro p e s m args below meth c A F hin hP hD ls hl
  replace hin : meth.name = "<init>" := hin.symm
  obtain ⟨⟨hx, hb, hml, hown, hts⟩, hr, hlocks, hA, hK, hE⟩ := id F
  have hS : va_S A s.heap s.heap [] := va_S.rf
  have hl : lv_has ls 3 [(0, .ref o), (1, .ref ox), (2, .int v2)] := hl
  have hRf : 1 ≤ ({ frames := 1, cells := 0, slots := 0, locals := 40 } : Room).frames := Nat.le_refl _
  have hRl : 40 ≤ ({ frames := 1, cells := 0, slots := 0, locals := 40 } : Room).locals := Nat.le_refl _
  have hC : 0 ≤ ({ frames := 1, cells := 0, slots := 0, locals := 40 } : Room).cells := Nat.zero_le _
  have hSl : 0 ≤ ({ frames := 1, cells := 0, slots := 0, locals := 40 } : Room).slots := Nat.zero_le _
  refine lv_aload_n hx hb dX9_init_0 rfl (lv_at hl 0 rfl) ?_
  refine lv_aload_n hx hb dX9_init_1 rfl (lv_at hl 1 rfl) ?_
  refine va_putBF (v := .ref ox) hx hb hts in_X11 tyX11 tyX11_ok 4 (by decide +kernel) hown hK hP hD hS 0 rfl rfl (k := 1) (Nat.le_of_ble_eq_true rfl) (hts _ q983) (fun _ h => h) rfl hin rfl (ty := (.object "SandKeepsSea")) (by decide +kernel) rfl rfl (Nat.le_of_ble_eq_true rfl) rfl dX9_init_2 (fun H locs hP hD hS => ?_)
  refine lv_aload_n hx hb dX9_init_5 rfl (lv_at hl 0 rfl) ?_
  refine W.objInit hx hb hown (hts _ q975) (hts _ q126) (hts _ q127) rfl (by rw [hml]; exact hl.1) rfl dX9_init_6 (Nat.le_trans (Nat.le_of_ble_eq_true rfl) hRf) (Nat.le_trans (Nat.le_of_ble_eq_true rfl) hRl) ?_
  refine lv_aload_n hx hb dX9_init_9 rfl (lv_at hl 0 rfl) ?_
  refine lv_iload_n hx hb dX9_init_10 rfl (lv_at hl 2 rfl) ?_
  refine va_put2F (v := .int v2) hx hb hts in_X11 tyX11 tyX11_ok (by decide +kernel) hown hK hP hD hS 0 rfl rfl (k := 0) (Nat.le_of_ble_eq_true rfl) (hts _ q982) (fun _ h => h) rfl hin rfl (ty := .int) (by decide +kernel) rfl rfl (Nat.le_of_ble_eq_true rfl) dX9_init_11 (fun H locs hP hD hS => ?_)
  exact rt_v F dX9_init_14 () trivial hP hD hS (Nat.le_of_ble_eq_true rfl) (Nat.le_of_ble_eq_true rfl)
set_option maxHeartbeats 4000000 in
theorem ct_K_X11_init {l : Launch} {V : evT} {D : va_G} {gI : Nat → ClassId} {o ox : Nat} {v2 : Int32} {v3 : Int32} : ct_v l V D vwCl (tyL gI) yX11_init cX11_init 4 { frames := 2, cells := 0, slots := 0, locals := 62 } [.ref o, .ref ox, .int v2, .int v3] [(o, .inr (8, [.int (0 : Int32), .null, .int (0 : Int32), .int (0 : Int32), .null]))] (fun u : Unit => [(o, .inr (8, [.int v3, .ref ox, .int v2, .int (-100000 : Int32), .ref ox]))]) (fun _ => True) := by
  refine ct_ofv RX11 rfl (by decide +kernel) (Nat.le_of_ble_eq_true rfl) ?_
  intro p e s m args below meth c A F hin hP hD ls hl
  replace hin : meth.name = "<init>" := hin.symm
  obtain ⟨⟨hx, hb, hml, hown, hts⟩, hr, hlocks, hA, hK, hE⟩ := id F
  have hS : va_S A s.heap s.heap [] := va_S.rf
  have hl : lv_has ls 4 [(0, .ref o), (1, .ref ox), (2, .int v2), (3, .int v3)] := hl
  have hRf : 2 ≤ ({ frames := 2, cells := 0, slots := 0, locals := 62 } : Room).frames := Nat.le_refl _
  have hRl : 62 ≤ ({ frames := 2, cells := 0, slots := 0, locals := 62 } : Room).locals := Nat.le_refl _
  have hC : 0 ≤ ({ frames := 2, cells := 0, slots := 0, locals := 62 } : Room).cells := Nat.zero_le _
  have hSl : 0 ≤ ({ frames := 2, cells := 0, slots := 0, locals := 62 } : Room).slots := Nat.zero_le _
  refine lv_aload_n hx hb dX11_init_0 rfl (lv_at hl 0 rfl) ?_
  refine lv_aload_n hx hb dX11_init_1 rfl (lv_at hl 1 rfl) ?_
  refine va_putDF (v := .ref ox) hx hb hts in_X11 tyX11 tyX11_ok 1 (by decide) (by decide +kernel) hown hK hP hD hS 0 rfl rfl (k := 4) (Nat.le_of_ble_eq_true rfl) (hts _ q1036) (fun _ h => h) rfl hin rfl (ty := (.object "SandKeepsSea")) (by decide +kernel) rfl rfl (Nat.le_of_ble_eq_true rfl) (Nat.le_of_ble_eq_true rfl) dX11_init_2 (fun x1 H locs hP hD hS => ?_)
  refine lv_aload_n hx hb dX11_init_5 rfl (lv_at hl 0 rfl) ?_
  refine lv_aload_n hx hb dX11_init_6 rfl (lv_at hl 1 rfl) ?_
  refine lv_iload_n hx hb dX11_init_7 rfl (lv_at hl 3 rfl) ?_
  refine cl_vL F (va_runI (As := [.ref ox, .int v3]) (rest := []) ⟨hx, hb, hml, hown, hts⟩ (ct_K_X9_initP (o := o) (ox := ox) (v2 := v3) _) (cwI 2 hts (lw_meth q974) rfl rfl rfl (hts _ q116) (hts _ q1031) (hts _ q973) rfl (by decide +kernel) ⟨Nat.le_trans (Nat.le_of_ble_eq_true rfl) hRf, Nat.le_trans (Nat.le_of_ble_eq_true rfl) hRl⟩) ⟨ct_blind, ct_at F hS (putL_P hP (ps := [0]) rfl) (hD.sub ([0]) (by decide) rfl)⟩ rfl rfl hl.1 rfl (lv_room (Nat.le_of_ble_eq_true rfl)) dX11_init_8 ⟨Nat.le_of_ble_eq_true rfl, Nat.le_of_ble_eq_true rfl⟩) rfl rfl hP hD hS (ps := [0]) rfl (fun _ => rfl) (fun _ => rfl) ?_
  rintro _ H locs _ hP hD hS
  refine lv_aload_n hx hb dX11_init_11 rfl (lv_at hl 0 rfl) ?_
  refine lv_ldc (v := (-100000 : Int32)) hx hb hown (hts _ q1032) dX11_init_12 ?_
  refine va_put2 (v := .int (-100000 : Int32)) hx hb hts in_X11 tyX11 tyX11_ok (by decide +kernel) hown hK hP hD hS 0 rfl rfl (k := 3) (Nat.le_of_ble_eq_true rfl) (hts _ q1034) (fun _ h => h) rfl (ty := .int) (by decide +kernel) rfl rfl (Nat.le_of_ble_eq_true rfl) dX11_init_14 (fun H locs hP hD hS => ?_)
  refine lv_aload_n hx hb dX11_init_17 rfl (lv_at hl 0 rfl) ?_
  refine lv_iload_n hx hb dX11_init_18 rfl (lv_at hl 2 rfl) ?_
  refine va_put2F (v := .int v2) hx hb hts in_X11 tyX11 tyX11_ok (by decide +kernel) hown hK hP hD hS 0 rfl rfl (k := 2) (Nat.le_of_ble_eq_true rfl) (hts _ q1033) (fun _ h => h) rfl hin rfl (ty := .int) (by decide +kernel) rfl rfl (Nat.le_of_ble_eq_true rfl) dX11_init_19 (fun H locs hP hD hS => ?_)
  exact rt_v F dX11_init_22 () trivial hP hD hS (Nat.le_of_ble_eq_true rfl) (Nat.le_of_ble_eq_true rfl)
set_option maxHeartbeats 4000000 in
theorem ct_K_X1_words {l : Launch} {V : evT} {D : va_G} {gI : Nat → ClassId} {o : Nat} {ax : Nat → Nat} {rn : Option (Nat × Nat)} {fd : Nat → Int32} {v1 : Int32} : ct_r l V D vwCl (tyL gI) yX1_words cX1_words 3 (.object "SandKeepsSea$Words") { frames := 2, cells := 1, slots := 4, locals := 63 } [.ref o, .int v1] [(o, .inr (0, fsX ax rn fd))] (fun u : Nat => u) (fun u : Nat => [(o, .inr (0, fsX ax rn (upd fd 16 (0 : Int32))))] ++ [(u, .inr (4, [.ref (ax 15), .int (fd 16), .int (mnI (fd 16) v1), .int (0 : Int32)]))]) (fun _ => True) := by
  refine ct_ofr RX1 rfl (by decide +kernel) (Nat.le_of_ble_eq_true rfl) ?_
  intro p e s m args below meth c A F hP hD ls hl
  obtain ⟨⟨hx, hb, hml, hown, hts⟩, hr, hlocks, hA, hK, hE⟩ := id F
  have hS : va_S A s.heap s.heap [] := va_S.rf
  have hl : lv_has ls 3 [(0, .ref o), (1, .int v1)] := hl
  have hRf : 2 ≤ ({ frames := 2, cells := 1, slots := 4, locals := 63 } : Room).frames := Nat.le_refl _
  have hRl : 63 ≤ ({ frames := 2, cells := 1, slots := 4, locals := 63 } : Room).locals := Nat.le_refl _
  have hC : 0 ≤ ({ frames := 2, cells := 1, slots := 4, locals := 63 } : Room).cells := Nat.zero_le _
  have hSl : 0 ≤ ({ frames := 2, cells := 1, slots := 4, locals := 63 } : Room).slots := Nat.zero_le _
  refine va_new (ci := 4) (fs := [.null, .int (0 : Int32), .int (0 : Int32), .int (0 : Int32)]) (C := RX5) (T := TX5) (N := 4) hx hb hts in_X5 tyX5 tyX5_ok hown (hts _ q329) (hts _ q330) (hts _ q99) hK hP hD hS hA rfl (fun j hj => by rcases (show j = 0 ∨ j = 1 ∨ j = 2 ∨ j = 3 by omega) with rfl | rfl | rfl | rfl <;> rfl) (Nat.le_of_ble_eq_true rfl) (Nat.le_of_ble_eq_true rfl) dX1_words_0 (fun q1 H hP hD hS => ?_)
  refine lv_dup hx hb dX1_words_3 rfl ?_
  refine lv_aload_n hx hb dX1_words_4 rfl (lv_at hl 0 rfl) ?_
  refine va_get hx hb hts in_X1 hown hK hP 0 rfl rfl 15 (Nat.le_of_ble_eq_true rfl) (hts _ q206) (fun _ h => h) (v := .ref (ax 15)) rfl dX1_words_5 ?_
  refine lv_aload_n hx hb dX1_words_8 rfl (lv_at hl 0 rfl) ?_
  refine va_get hx hb hts in_X1 hown hK hP 0 rfl rfl 16 (Nat.le_of_ble_eq_true rfl) (hts _ q207) (fun _ h => h) (v := .int (fd 16)) rfl dX1_words_9 ?_
  refine lv_iload_n hx hb dX1_words_12 rfl (lv_at hl 1 rfl) ?_
  refine cl_vL F (va_runI (As := [.ref (ax 15), .int (fd 16), .int v1]) (rest := [.ref q1]) ⟨hx, hb, hml, hown, hts⟩ (ct_K_X5_init (o := q1) (pt := (ax 15)) (v2 := (fd 16)) (v3 := v1) _) (cwI 3 hts (lw_meth q333) rfl rfl rfl (hts _ q99) (hts _ q331) (hts _ q332) rfl (by decide +kernel) ⟨Nat.le_trans (Nat.le_of_ble_eq_true rfl) hRf, Nat.le_trans (Nat.le_of_ble_eq_true rfl) hRl⟩) ⟨ct_blind, ct_at F hS (putL_P hP (ps := [1]) rfl) (hD.sub ([1]) (by decide) rfl)⟩ rfl rfl hl.1 rfl (lv_room (Nat.le_of_ble_eq_true rfl)) dX1_words_13 ⟨Nat.le_of_ble_eq_true rfl, Nat.le_of_ble_eq_true rfl⟩) rfl rfl hP hD hS (ps := [1]) rfl (fun _ => rfl) (fun _ => rfl) ?_
  rintro _ H locs _ hP hD hS
  refine lv_astore_n (lv' := [(2, .ref q1), (0, .ref o), (1, .int v1)]) hx hb dX1_words_16 rfl hl (by decide) rfl (fun ls hl => ?_)
  refine lv_aload_n hx hb dX1_words_17 rfl (lv_at hl 1 rfl) ?_
  refine lv_iconst (v := (0 : Int32)) hx hb dX1_words_18 (by decide) ?_
  refine pt_put (v := .int (0 : Int32)) hx hb hts in_X1 tyX1 tyX1_ok nmX1 hown hK hP hD hS 0 rfl rfl 16 (Nat.le_of_ble_eq_true rfl) (hts _ q207) (fun _ h => h) rfl (ty := .int) (by decide +kernel) rfl rfl (Nat.le_of_ble_eq_true rfl) dX1_words_19 (ws' := [(o, .inr (0, fsX ax rn (upd fd 16 (0 : Int32)))), (q1, .inr (4, [.ref (ax 15), .int (fd 16), .int (mnI (fd 16) v1), .int (0 : Int32)]))]) rfl (fun H locs hP hD hS => ?_)
  refine lv_aload_n hx hb dX1_words_22 rfl (lv_at hl 0 rfl) ?_
  exact rt_r F dX1_words_23 (q1) rfl trivial hP hD hS (Nat.le_of_ble_eq_true rfl) (Nat.le_of_ble_eq_true rfl)
