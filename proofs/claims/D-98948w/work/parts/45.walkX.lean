/-! walks of the sea -/
set_option maxRecDepth 100000
set_option maxHeartbeats 4000000 in
theorem ct_X1_gets {l : Launch} {V : evT} {D : va_G} {gI : Nat → ClassId} {v0 : Int32} {v1 : Int32} {v2 : Int32} {v3 : Int32} {Q : Int32 → Prop} (h : wp_X1_gets v0 v1 v2 v3  Q) : ct_i l V D vwCl (tyL gI) yX1_gets cX1_gets 4 .int { frames := 1, cells := 0, slots := 0, locals := 12 } [.int v0, .int v1, .int v2, .int v3] [] (fun u : Unit => []) (fun (x : Int32) (u : Unit) => Q x) := by
  refine ct_ofi RX1 rfl (by decide +kernel) (Nat.le_of_ble_eq_true rfl) ?_
  intro p e s m args below meth c A F hP hD ls hl
  obtain ⟨⟨hx, hb, hml, hown, hts⟩, hr, hlocks, hA, hK, hE⟩ := id F
  have hS : va_S A s.heap s.heap [] := va_S.rf
  have hl : lv_has ls 4 [(0, .int v0), (1, .int v1), (2, .int v2), (3, .int v3)] := hl
  have hRf : 1 ≤ ({ frames := 1, cells := 0, slots := 0, locals := 12 } : Room).frames := Nat.le_refl _
  have hRl : 12 ≤ ({ frames := 1, cells := 0, slots := 0, locals := 12 } : Room).locals := Nat.le_refl _
  have hC : 0 ≤ ({ frames := 1, cells := 0, slots := 0, locals := 12 } : Room).cells := Nat.le_refl _
  have hSl : 0 ≤ ({ frames := 1, cells := 0, slots := 0, locals := 12 } : Room).slots := Nat.le_refl _
  unfold wp_X1_gets at h
  refine lv_iload_n hx hb dX1_gets_0 rfl (lv_at hl 0 rfl) ?_
  refine lv_iload_n hx hb dX1_gets_1 rfl (lv_at hl 1 rfl) ?_
  refine lv_iadd hx hb dX1_gets_2 ?_
  refine lv_if_ne (tgt := 10) hx hb dX1_gets_3 (by decide) (fun c1 => ?_) (fun c1 => ?_)
  · replace h := h.1 c1
    refine lv_iload_n hx hb dX1_gets_10 rfl (lv_at hl 2 rfl) ?_
    refine lv_iload_n hx hb dX1_gets_11 rfl (lv_at hl 0 rfl) ?_
    refine lv_imul hx hb dX1_gets_12 ?_
    refine lv_iload_n hx hb dX1_gets_13 rfl (lv_at hl 0 rfl) ?_
    refine lv_iload_n hx hb dX1_gets_14 rfl (lv_at hl 1 rfl) ?_
    refine lv_iadd hx hb dX1_gets_15 ?_
    refine lv_idiv hx hb dX1_gets_16 h.1 ?_
    replace h := h.2
    refine lv_iload_n hx hb dX1_gets_17 rfl (lv_at hl 3 rfl) ?_
    refine lv_iload_n hx hb dX1_gets_18 rfl (lv_at hl 0 rfl) ?_
    refine lv_imul hx hb dX1_gets_19 ?_
    refine lv_isub hx hb dX1_gets_20 ?_
    exact rt_i F dX1_gets_21 rfl () h hP hD hS (Nat.le_refl _) (Nat.le_refl _)
  · replace h := h.2 c1
    refine lv_iconst (v := (0 : Int32)) hx hb dX1_gets_6 (by decide) ?_
    refine lv_goto (tgt := 17) hx hb dX1_gets_7 (by decide) ?_
    refine lv_iload_n hx hb dX1_gets_17 rfl (lv_at hl 3 rfl) ?_
    refine lv_iload_n hx hb dX1_gets_18 rfl (lv_at hl 0 rfl) ?_
    refine lv_imul hx hb dX1_gets_19 ?_
    refine lv_isub hx hb dX1_gets_20 ?_
    exact rt_i F dX1_gets_21 rfl () h hP hD hS (Nat.le_refl _) (Nat.le_refl _)
set_option maxHeartbeats 4000000 in
theorem ct_S_draw {l : Launch} {V : evT} {D : va_G} {gI : Nat → ClassId} {o : Nat} {ax : Nat → Nat} {rn : Option (Nat × Nat)} {tl : va_W} {v1 : Int32} {fd : Nat → Int32} {ar : Nat → Nat → Int32} {lw : Nat → Int64} {hh : HT} {Q : Int32 → (Nat → Int32) → Prop} (h : wp_S_draw v1 fd ar lw hh Q) : ct_i l V D vwCl (tyL gI) yX1_draw cX1_draw 2 .int { frames := 1, cells := 0, slots := 0, locals := 12 } [.ref o, .int v1] (wX gI o ax rn tl fd ar lw hh) (fun u : (Nat → Int32) => (wX gI o ax rn tl u ar lw hh)) (fun (x : Int32) (u : (Nat → Int32)) => Q x u) := by
  refine ct_ofi RX1 rfl (by decide +kernel) (Nat.le_of_ble_eq_true rfl) ?_
  intro p e s m args below meth c A F hP hD ls hl
  obtain ⟨⟨hx, hb, hml, hown, hts⟩, hr, hlocks, hA, hK, hE⟩ := id F
  have hS : va_S A s.heap s.heap [] := va_S.rf
  have hl : lv_has ls 2 [(0, .ref o), (1, .int v1)] := hl
  have hRf : 1 ≤ ({ frames := 1, cells := 0, slots := 0, locals := 12 } : Room).frames := Nat.le_refl _
  have hRl : 12 ≤ ({ frames := 1, cells := 0, slots := 0, locals := 12 } : Room).locals := Nat.le_refl _
  have hC : 0 ≤ ({ frames := 1, cells := 0, slots := 0, locals := 12 } : Room).cells := Nat.le_refl _
  have hSl : 0 ≤ ({ frames := 1, cells := 0, slots := 0, locals := 12 } : Room).slots := Nat.le_refl _
  unfold wp_S_draw at h
  refine lv_aload_n hx hb dX1_draw_0 rfl (lv_at hl 0 rfl) ?_
  refine lv_aload_n hx hb dX1_draw_1 rfl (lv_at hl 0 rfl) ?_
  refine va_get hx hb hts in_X1 hown hK hP 0 rfl rfl 30 (Nat.le_of_ble_eq_true rfl) (hts _ q221) (fun _ h => h) (v := .int (fd 30)) rfl dX1_draw_2 ?_
  refine lv_ldcw (v := (1103515245 : Int32)) hx hb hown (hts _ q1134) dX1_draw_5 ?_
  refine lv_imul hx hb dX1_draw_8 ?_
  refine lv_sipush (v := (12345 : Int32)) hx hb dX1_draw_9 (by decide) ?_
  refine lv_iadd hx hb dX1_draw_12 ?_
  refine pt_put (v := .int (((fd 30) * (1103515245 : Int32)) + (12345 : Int32))) hx hb hts in_X1 tyX1 tyX1_ok nmX1 hown hK hP hD hS 0 rfl rfl 30 (Nat.le_of_ble_eq_true rfl) (hts _ q221) (fun _ h => h) rfl (ty := .int) (by decide +kernel) rfl rfl (Nat.le_of_ble_eq_true rfl) dX1_draw_13 wXF_30 (fun H locs hP hD hS => ?_)
  refine lv_aload_n hx hb dX1_draw_16 rfl (lv_at hl 0 rfl) ?_
  refine va_get hx hb hts in_X1 hown hK hP 0 rfl rfl 30 (Nat.le_of_ble_eq_true rfl) (hts _ q221) (fun _ h => h) (v := .int (((fd 30) * (1103515245 : Int32)) + (12345 : Int32))) rfl dX1_draw_17 ?_
  refine lv_bipush (v := (16 : Int32)) hx hb dX1_draw_20 (by decide) ?_
  refine lv_iushr (v := ((((fd 30) * (1103515245 : Int32)) + (12345 : Int32)).toUInt32 >>> ((16 : Int32).toUInt32 &&& Int32.toUInt32 31)).toInt32) hx hb dX1_draw_22 rfl ?_
  refine lv_iload_n hx hb dX1_draw_23 rfl (lv_at hl 1 rfl) ?_
  refine lv_irem hx hb dX1_draw_24 h.1 ?_
  replace h := h.2
  exact rt_i F dX1_draw_25 rfl ((upd fd 30 (((fd 30) * (1103515245 : Int32)) + (12345 : Int32)))) h hP hD hS (Nat.le_refl _) (Nat.le_refl _)
set_option maxHeartbeats 4000000 in
theorem ct_S_count {l : Launch} {V : evT} {D : va_G} {gI : Nat → ClassId} {o : Nat} {ax : Nat → Nat} {rn : Option (Nat × Nat)} {tl : va_W} {v1 : Int32} {fd : Nat → Int32} {ar : Nat → Nat → Int32} {lw : Nat → Int64} {hh : HT} {Q : Int32 → Prop} (h : wp_S_count v1 fd ar lw hh Q) : ct_i l V D vwCl (tyL gI) yX1_count cX1_count 2 .int { frames := 2, cells := 0, slots := 0, locals := 37 } [.ref o, .int v1] (wX gI o ax rn tl fd ar lw hh) (fun u : Unit => (wX gI o ax rn tl fd ar lw hh)) (fun (x : Int32) (u : Unit) => Q x) := by
  refine ct_ofi RX1 rfl (by decide +kernel) (Nat.le_of_ble_eq_true rfl) ?_
  intro p e s m args below meth c A F hP hD ls hl
  obtain ⟨⟨hx, hb, hml, hown, hts⟩, hr, hlocks, hA, hK, hE⟩ := id F
  have hS : va_S A s.heap s.heap [] := va_S.rf
  have hl : lv_has ls 2 [(0, .ref o), (1, .int v1)] := hl
  have hRf : 2 ≤ ({ frames := 2, cells := 0, slots := 0, locals := 37 } : Room).frames := Nat.le_refl _
  have hRl : 37 ≤ ({ frames := 2, cells := 0, slots := 0, locals := 37 } : Room).locals := Nat.le_refl _
  have hC : 0 ≤ ({ frames := 2, cells := 0, slots := 0, locals := 37 } : Room).cells := Nat.le_refl _
  have hSl : 0 ≤ ({ frames := 2, cells := 0, slots := 0, locals := 37 } : Room).slots := Nat.le_refl _
  unfold wp_S_count at h
  refine lv_iload_n hx hb dX1_count_0 rfl (lv_at hl 1 rfl) ?_
  by_cases c1 : v1 = (0 : Int32)
  · replace h := h.1 c1
    refine lv_tableIn (off := 71) (tgt := 72) hx hb dX1_count_1 (by rw [c1]; decide) (by rw [c1]; decide) (by rw [c1]; rfl) (by decide) ?_
    refine lv_aload_n hx hb dX1_count_72 rfl (lv_at hl 0 rfl) ?_
    refine va_get hx hb hts in_X1 hown hK hP 0 rfl rfl 9 (Nat.le_of_ble_eq_true rfl) (hts _ q195) (fun _ h => h) (v := .int (fd 9)) rfl dX1_count_73 ?_
    exact rt_i F dX1_count_76 rfl () h hP hD hS (Nat.le_refl _) (Nat.le_refl _)
  replace h := h.2 c1
  by_cases c2 : v1 = (1 : Int32)
  · replace h := h.1 c2
    refine lv_tableIn (off := 76) (tgt := 77) hx hb dX1_count_1 (by rw [c2]; decide) (by rw [c2]; decide) (by rw [c2]; rfl) (by decide) ?_
    refine lv_aload_n hx hb dX1_count_77 rfl (lv_at hl 0 rfl) ?_
    refine va_get hx hb hts in_X1 hown hK hP 0 rfl rfl 10 (Nat.le_of_ble_eq_true rfl) (hts _ q199) (fun _ h => h) (v := .int (fd 10)) rfl dX1_count_78 ?_
    exact rt_i F dX1_count_81 rfl () h hP hD hS (Nat.le_refl _) (Nat.le_refl _)
  replace h := h.2 c2
  by_cases c3 : v1 = (2 : Int32)
  · replace h := h.1 c3
    refine lv_tableIn (off := 81) (tgt := 82) hx hb dX1_count_1 (by rw [c3]; decide) (by rw [c3]; decide) (by rw [c3]; rfl) (by decide) ?_
    refine lv_aload_n hx hb dX1_count_82 rfl (lv_at hl 0 rfl) ?_
    refine va_get hx hb hts in_X1 hown hK hP 0 rfl rfl 0 (Nat.le_of_ble_eq_true rfl) (hts _ q180) (fun _ h => h) (v := .ref (ax 0)) rfl dX1_count_83 ?_
    refine va_get hx hb hts in_X2 hown hK hP 14 rfl rfl 6 (Nat.le_of_ble_eq_true rfl) (hts _ q151) (fun _ h => h) (v := .int (fd 62)) rfl dX1_count_86 ?_
    exact rt_i F dX1_count_89 rfl () h hP hD hS (Nat.le_refl _) (Nat.le_refl _)
  replace h := h.2 c3
  by_cases c4 : v1 = (3 : Int32)
  · replace h := h.1 c4
    refine lv_tableIn (off := 89) (tgt := 90) hx hb dX1_count_1 (by rw [c4]; decide) (by rw [c4]; decide) (by rw [c4]; rfl) (by decide) ?_
    refine lv_aload_n hx hb dX1_count_90 rfl (lv_at hl 0 rfl) ?_
    refine va_get hx hb hts in_X1 hown hK hP 0 rfl rfl 11 (Nat.le_of_ble_eq_true rfl) (hts _ q201) (fun _ h => h) (v := .int (fd 11)) rfl dX1_count_91 ?_
    exact rt_i F dX1_count_94 rfl () h hP hD hS (Nat.le_refl _) (Nat.le_refl _)
  replace h := h.2 c4
  by_cases c5 : v1 = (4 : Int32)
  · replace h := h.1 c5
    refine lv_tableIn (off := 94) (tgt := 95) hx hb dX1_count_1 (by rw [c5]; decide) (by rw [c5]; decide) (by rw [c5]; rfl) (by decide) ?_
    refine lv_aload_n hx hb dX1_count_95 rfl (lv_at hl 0 rfl) ?_
    refine va_get hx hb hts in_X1 hown hK hP 0 rfl rfl 12 (Nat.le_of_ble_eq_true rfl) (hts _ q202) (fun _ h => h) (v := .int (fd 12)) rfl dX1_count_96 ?_
    exact rt_i F dX1_count_99 rfl () h hP hD hS (Nat.le_refl _) (Nat.le_refl _)
  replace h := h.2 c5
  by_cases c6 : v1 = (5 : Int32)
  · replace h := h.1 c6
    refine lv_tableIn (off := 99) (tgt := 100) hx hb dX1_count_1 (by rw [c6]; decide) (by rw [c6]; decide) (by rw [c6]; rfl) (by decide) ?_
    refine lv_aload_n hx hb dX1_count_100 rfl (lv_at hl 0 rfl) ?_
    refine va_get hx hb hts in_X1 hown hK hP 0 rfl rfl 0 (Nat.le_of_ble_eq_true rfl) (hts _ q180) (fun _ h => h) (v := .ref (ax 0)) rfl dX1_count_101 ?_
    refine va_get hx hb hts in_X2 hown hK hP 14 rfl rfl 5 (Nat.le_of_ble_eq_true rfl) (hts _ q148) (fun _ h => h) (v := .int (fd 61)) rfl dX1_count_104 ?_
    exact rt_i F dX1_count_107 rfl () h hP hD hS (Nat.le_refl _) (Nat.le_refl _)
  replace h := h.2 c6
  by_cases c7 : v1 = (6 : Int32)
  · replace h := h.1 c7
    refine lv_tableIn (off := 107) (tgt := 108) hx hb dX1_count_1 (by rw [c7]; decide) (by rw [c7]; decide) (by rw [c7]; rfl) (by decide) ?_
    refine lv_aload_n hx hb dX1_count_108 rfl (lv_at hl 0 rfl) ?_
    refine va_get hx hb hts in_X1 hown hK hP 0 rfl rfl 0 (Nat.le_of_ble_eq_true rfl) (hts _ q180) (fun _ h => h) (v := .ref (ax 0)) rfl dX1_count_109 ?_
    refine va_get hx hb hts in_X2 hown hK hP 14 rfl rfl 4 (Nat.le_of_ble_eq_true rfl) (hts _ q146) (fun _ h => h) (v := .int (fd 60)) rfl dX1_count_112 ?_
    exact rt_i F dX1_count_115 rfl () h hP hD hS (Nat.le_refl _) (Nat.le_refl _)
  replace h := h.2 c7
  by_cases c8 : v1 = (7 : Int32)
  · replace h := h.1 c8
    refine lv_tableIn (off := 115) (tgt := 116) hx hb dX1_count_1 (by rw [c8]; decide) (by rw [c8]; decide) (by rw [c8]; rfl) (by decide) ?_
    refine lv_aload_n hx hb dX1_count_116 rfl (lv_at hl 0 rfl) ?_
    refine va_get hx hb hts in_X1 hown hK hP 0 rfl rfl 0 (Nat.le_of_ble_eq_true rfl) (hts _ q180) (fun _ h => h) (v := .ref (ax 0)) rfl dX1_count_117 ?_
    refine lv_aload_n hx hb dX1_count_120 rfl (lv_at hl 0 rfl) ?_
    refine va_get hx hb hts in_X1 hown hK hP 0 rfl rfl 9 (Nat.le_of_ble_eq_true rfl) (hts _ q195) (fun _ h => h) (v := .int (fd 9)) rfl dX1_count_121 ?_
    refine cl_iL F (va_runV (As := [.int (fd 9)]) (rest := []) ⟨hx, hb, hml, hown, hts⟩ (ct_B_wet (o := (ax 0)) (ab := axb ax 0) h _) (cwV 1 hts (lw_V q773 q774 q775 q95 q776) rfl rfl rfl (by decide +kernel) ⟨Nat.le_trans (Nat.le_of_ble_eq_true rfl) hRf, Nat.le_trans (Nat.le_of_ble_eq_true rfl) hRl⟩) ⟨ct_blind, va_recv hK hP (ci := 1) (q0 := 14) rfl rfl, ct_at F hS (putL_P hP (ps := [14, 15, 16, 17, 18]) rfl) (hD.sub ([14, 15, 16, 17, 18]) (by decide) rfl)⟩ rfl rfl hl.1 rfl (lv_room (Nat.le_of_ble_eq_true rfl)) dX1_count_124 ⟨hC, hSl⟩) rfl rfl hP hD hS (ps := [14, 15, 16, 17, 18]) rfl (fun _ => rfl) (fun _ => wXP_0_none) ?_
    rintro x9 _ H locs h hP hD hS
    exact rt_i F dX1_count_127 rfl () h hP hD hS (Nat.le_refl _) (Nat.le_refl _)
  replace h := h.2 c8
  by_cases c10 : v1 = (8 : Int32)
  · replace h := h.1 c10
    refine lv_tableIn (off := 127) (tgt := 128) hx hb dX1_count_1 (by rw [c10]; decide) (by rw [c10]; decide) (by rw [c10]; rfl) (by decide) ?_
    refine lv_aload_n hx hb dX1_count_128 rfl (lv_at hl 0 rfl) ?_
    refine va_get hx hb hts in_X1 hown hK hP 0 rfl rfl 0 (Nat.le_of_ble_eq_true rfl) (hts _ q180) (fun _ h => h) (v := .ref (ax 0)) rfl dX1_count_129 ?_
    refine lv_aload_n hx hb dX1_count_132 rfl (lv_at hl 0 rfl) ?_
    refine va_get hx hb hts in_X1 hown hK hP 0 rfl rfl 10 (Nat.le_of_ble_eq_true rfl) (hts _ q199) (fun _ h => h) (v := .int (fd 10)) rfl dX1_count_133 ?_
    refine cl_iL F (va_runV (As := [.int (fd 10)]) (rest := []) ⟨hx, hb, hml, hown, hts⟩ (ct_B_atHome (o := (ax 0)) (ab := axb ax 0) h _) (cwV 1 hts (lw_V q700 q701 q702 q95 q703) rfl rfl rfl (by decide +kernel) ⟨Nat.le_trans (Nat.le_of_ble_eq_true rfl) hRf, Nat.le_trans (Nat.le_of_ble_eq_true rfl) hRl⟩) ⟨ct_blind, va_recv hK hP (ci := 1) (q0 := 14) rfl rfl, ct_at F hS (putL_P hP (ps := [14, 15, 16, 17, 18]) rfl) (hD.sub ([14, 15, 16, 17, 18]) (by decide) rfl)⟩ rfl rfl hl.1 rfl (lv_room (Nat.le_of_ble_eq_true rfl)) dX1_count_136 ⟨hC, hSl⟩) rfl rfl hP hD hS (ps := [14, 15, 16, 17, 18]) rfl (fun _ => rfl) (fun _ => wXP_0_none) ?_
    rintro x11 _ H locs h hP hD hS
    exact rt_i F dX1_count_139 rfl () h hP hD hS (Nat.le_refl _) (Nat.le_refl _)
  replace h := h.2 c10
  by_cases c12 : v1 = (9 : Int32)
  · replace h := h.1 c12
    refine lv_tableIn (off := 139) (tgt := 140) hx hb dX1_count_1 (by rw [c12]; decide) (by rw [c12]; decide) (by rw [c12]; rfl) (by decide) ?_
    refine lv_aload_n hx hb dX1_count_140 rfl (lv_at hl 0 rfl) ?_
    refine va_get hx hb hts in_X1 hown hK hP 0 rfl rfl 0 (Nat.le_of_ble_eq_true rfl) (hts _ q180) (fun _ h => h) (v := .ref (ax 0)) rfl dX1_count_141 ?_
    refine va_get hx hb hts in_X2 hown hK hP 14 rfl rfl 0 (Nat.le_of_ble_eq_true rfl) (hts _ q135) (fun _ h => h) (v := .ref (ax 40)) rfl dX1_count_144 ?_
    refine cl_iL F (va_runS (As := [.ref (ax 40)]) (rest := []) ⟨hx, hb, hml, hown, hts⟩ (ct_A_sum  h _) (va_cwS 1 hts (lw_S q745 q746 q95 q747) rfl rfl rfl (by decide +kernel) ⟨Nat.le_trans (Nat.le_of_ble_eq_true rfl) hRf, Nat.le_trans (Nat.le_of_ble_eq_true rfl) hRl⟩) ⟨ct_blind, ct_at F hS (putL_P hP (ps := [15]) rfl) (hD.sub ([15]) (by decide) rfl)⟩ rfl rfl hl.1 rfl (lv_room (Nat.le_of_ble_eq_true rfl)) dX1_count_147 ⟨hC, hSl⟩) rfl rfl hP hD hS (ps := [15]) rfl (fun _ => rfl) (fun _ => wXI_40) ?_
    rintro x13 _ H locs h hP hD hS
    exact rt_i F dX1_count_150 rfl () h hP hD hS (Nat.le_refl _) (Nat.le_refl _)
  replace h := h.2 c12
  by_cases c14 : v1 = (10 : Int32)
  · replace h := h.1 c14
    refine lv_tableIn (off := 150) (tgt := 151) hx hb dX1_count_1 (by rw [c14]; decide) (by rw [c14]; decide) (by rw [c14]; rfl) (by decide) ?_
    refine lv_aload_n hx hb dX1_count_151 rfl (lv_at hl 0 rfl) ?_
    refine va_get hx hb hts in_X1 hown hK hP 0 rfl rfl 28 (Nat.le_of_ble_eq_true rfl) (hts _ q219) (fun _ h => h) (v := .int (fd 28)) rfl dX1_count_152 ?_
    exact rt_i F dX1_count_155 rfl () h hP hD hS (Nat.le_refl _) (Nat.le_refl _)
  replace h := h.2 c14
  by_cases c15 : v1 = (11 : Int32)
  · replace h := h.1 c15
    refine lv_tableIn (off := 155) (tgt := 156) hx hb dX1_count_1 (by rw [c15]; decide) (by rw [c15]; decide) (by rw [c15]; rfl) (by decide) ?_
    refine lv_aload_n hx hb dX1_count_156 rfl (lv_at hl 0 rfl) ?_
    refine va_get hx hb hts in_X1 hown hK hP 0 rfl rfl 14 (Nat.le_of_ble_eq_true rfl) (hts _ q205) (fun _ h => h) (v := .int (fd 14)) rfl dX1_count_157 ?_
    exact rt_i F dX1_count_160 rfl () h hP hD hS (Nat.le_refl _) (Nat.le_refl _)
  replace h := h.2 c15
  by_cases c16 : v1 = (12 : Int32)
  · replace h := h.1 c16
    refine lv_tableIn (off := 160) (tgt := 161) hx hb dX1_count_1 (by rw [c16]; decide) (by rw [c16]; decide) (by rw [c16]; rfl) (by decide) ?_
    refine lv_aload_n hx hb dX1_count_161 rfl (lv_at hl 0 rfl) ?_
    refine va_get hx hb hts in_X1 hown hK hP 0 rfl rfl 18 (Nat.le_of_ble_eq_true rfl) (hts _ q209) (fun _ h => h) (v := .int (fd 18)) rfl dX1_count_162 ?_
    exact rt_i F dX1_count_165 rfl () h hP hD hS (Nat.le_refl _) (Nat.le_refl _)
  replace h := h.2 c16
  by_cases c17 : v1 = (13 : Int32)
  · replace h := h.1 c17
    refine lv_tableIn (off := 165) (tgt := 166) hx hb dX1_count_1 (by rw [c17]; decide) (by rw [c17]; decide) (by rw [c17]; rfl) (by decide) ?_
    refine lv_aload_n hx hb dX1_count_166 rfl (lv_at hl 0 rfl) ?_
    refine va_get hx hb hts in_X1 hown hK hP 0 rfl rfl 16 (Nat.le_of_ble_eq_true rfl) (hts _ q207) (fun _ h => h) (v := .int (fd 16)) rfl dX1_count_167 ?_
    exact rt_i F dX1_count_170 rfl () h hP hD hS (Nat.le_refl _) (Nat.le_refl _)
  replace h := h.2 c17
  have hsw : v1.toInt < (0 : Int) ∨ (13 : Int) < v1.toInt := by
    have := lv_neT (a := 0) c1 (by decide)
    have := lv_neT (a := 1) c2 (by decide)
    have := lv_neT (a := 2) c3 (by decide)
    have := lv_neT (a := 3) c4 (by decide)
    have := lv_neT (a := 4) c5 (by decide)
    have := lv_neT (a := 5) c6 (by decide)
    have := lv_neT (a := 6) c7 (by decide)
    have := lv_neT (a := 7) c8 (by decide)
    have := lv_neT (a := 8) c10 (by decide)
    have := lv_neT (a := 9) c12 (by decide)
    have := lv_neT (a := 10) c14 (by decide)
    have := lv_neT (a := 11) c15 (by decide)
    have := lv_neT (a := 12) c16 (by decide)
    have := lv_neT (a := 13) c17 (by decide)
    omega
  refine lv_tableOut (tgt := 171) hx hb dX1_count_1 hsw (by decide) ?_
  refine lv_bipush (v := (-100 : Int32)) hx hb dX1_count_171 (by decide) ?_
  exact rt_i F dX1_count_173 rfl () h hP hD hS (Nat.le_refl _) (Nat.le_refl _)
set_option maxHeartbeats 4000000 in
theorem lp_S_goWays_L1 {p : Program} {l : Launch} {e : Env} {R : Room} {s : State} {m : MethodId} {args : Array Value} {below : List Frame} {meth : Method} {c : Code} {cells slots : Nat} {A : Nat → Prop} {Qf : State → Prop} {V : evT} {D : va_G} {gI : Nat → ClassId} {o : Nat} {ax : Nat → Nat} {rn : Option (Nat × Nat)} {tl : va_W} {v1 : Int32} {lw : Nat → Int64} {hh : HT} {d : Nat} {rec : Int32 → (Nat → Int32) → (Nat → Nat → Int32) → (Nat → Int64) → (HT) → ((Nat → Int32) → (Nat → Nat → Int32) → Prop) → Prop} {K218 : (Nat → Int32) → (Nat → Nat → Int32) → Prop} (F : ct_F p m c meth cX1_goWays 3 s args RX1 none A V D vwCl (tyL gI)) (hRf : 2 + (d + 1) ≤ R.frames) (hRl : 60 + (d + 1) * 22 ≤ R.locals) (hC : cells ≤ R.cells) (hSl : slots ≤ R.slots)
    (hrec0 : ∀ {v1 : Int32} {fd : Nat → Int32} {ar : Nat → Nat → Int32} {lw : Nat → Int64} {hh : HT} {Q : (Nat → Int32) → (Nat → Nat → Int32) → Prop}, rec v1 fd ar lw hh Q → ct_v l V D vwCl (tyL gI) yX1_goWays cX1_goWays 3 { frames := 2 + d, cells := 0, slots := 0, locals := 60 + d * 22 } [.ref o, .int v1] (wX gI o ax rn tl fd ar lw hh) (fun u : (Nat → Int32) × (Nat → Nat → Int32) => (wX gI o ax rn tl u.1 u.2 lw hh)) (fun (u : (Nat → Int32) × (Nat → Nat → Int32)) => Q u.1 u.2))
    (hK218 : ∀ (fd : Nat → Int32) (ar : Nat → Nat → Int32), K218 fd ar → ∀ (H : Heap) (locs : List Loc) (ls : Array Slot), va_P D vwCl (wX gI o ax rn tl fd ar lw hh) H → va_D A (wX gI o ax rn tl fd ar lw hh) → va_S A s.heap H locs → lv_has ls 3 [] → W p l e R s m args below meth c H locs cells slots Qf (F0 m 218 ls [])) :
    ∀ (n : Nat) (v2 : Int32) (fd : Nat → Int32) (ar : Nat → Nat → Int32), wp_S_goWays_L1 rec v1 lw hh K218 n v2 fd ar → ∀ (H : Heap) (locs : List Loc) (ls : Array Slot), va_P D vwCl (wX gI o ax rn tl fd ar lw hh) H → va_D A (wX gI o ax rn tl fd ar lw hh) → va_S A s.heap H locs → lv_has ls 3 [(0, .ref o), (1, .int v1), (2, .int v2)] → W p l e R s m args below meth c H locs cells slots Qf (F0 m 131 ls []) := by
  obtain ⟨⟨hx, hb, hml, hown, hts⟩, hr, hlocks, hA, hK, hE⟩ := id F
  intro n
  induction n with
  | zero => intro v2 fd ar h; exact h.elim
  | succ n ih =>
    intro v2 fd ar h H locs ls hP hD hS hl
    unfold wp_S_goWays_L1 at h
    refine lv_iload_n hx hb dX1_goWays_131 rfl (lv_at hl 2 rfl) ?_
    refine lv_aload_n hx hb dX1_goWays_132 rfl (lv_at hl 0 rfl) ?_
    refine va_get hx hb hts in_X1 hown hK hP 0 rfl rfl 9 (Nat.le_of_ble_eq_true rfl) (hts _ q195) (fun _ h => h) (v := .int (fd 9)) rfl dX1_goWays_133 ?_
    refine lv_icmp_ge (tgt := 218) hx hb dX1_goWays_136 (by decide) (fun c8 => ?_) (fun c8 => ?_)
    · replace h := h.1 c8
      exact hK218 _ _ h _ _ _ hP hD hS (lv_sub hl [] rfl)
    · replace h := h.2 c8
      refine lv_aload_n hx hb dX1_goWays_139 rfl (lv_at hl 0 rfl) ?_
      refine va_get hx hb hts in_X1 hown hK hP 0 rfl rfl 28 (Nat.le_of_ble_eq_true rfl) (hts _ q219) (fun _ h => h) (v := .int (fd 28)) rfl dX1_goWays_140 ?_
      refine lv_iload_n hx hb dX1_goWays_143 rfl (lv_at hl 2 rfl) ?_
      refine cl_i0 F (va_runS (As := [.int (fd 28), .int v2]) (rest := []) ⟨hx, hb, hml, hown, hts⟩ (ct_X1_has h _) (va_cwS 2 hts (lw_S q680 q681 q94 q682) rfl rfl rfl (by decide +kernel) ⟨Nat.le_trans (Nat.le_of_ble_eq_true rfl) (Nat.le_trans (Nat.le_add_right 2 _) hRf), Nat.le_trans (Nat.le_of_ble_eq_true rfl) (Nat.le_trans (Nat.le_add_right 60 _) hRl)⟩) ⟨ct_blind, ct_at F hS ct_nP ct_nD⟩ rfl rfl hl.1 rfl (lv_room (Nat.le_of_ble_eq_true rfl)) dX1_goWays_144 ⟨hC, hSl⟩) rfl rfl hP hS ?_
      rintro x3 _ H locs h hP hS
      refine lv_if_eq (tgt := 212) hx hb dX1_goWays_147 (by decide) (fun c7 => ?_) (fun c7 => ?_)
      · replace h := h.1 c7
        refine lv_iinc (v := (v2 + (1 : Int32))) (lv' := [(2, .int (v2 + (1 : Int32))), (0, .ref o), (1, .int v1)]) hx hb dX1_goWays_212 hl (k := 2) rfl rfl (by decide) rfl (fun ls hl => ?_)
        refine lv_goto (tgt := 131) hx hb dX1_goWays_215 (by decide) ?_
        exact ih _ _ _ h _ _ _ hP hD hS (lv_sub hl [1, 2, 0] rfl)
      · replace h := h.2 c7
        refine lv_aload_n hx hb dX1_goWays_150 rfl (lv_at hl 0 rfl) ?_
        refine va_get hx hb hts in_X1 hown hK hP 0 rfl rfl 24 (Nat.le_of_ble_eq_true rfl) (hts _ q215) (fun _ h => h) (v := .ref (ax 24)) rfl dX1_goWays_151 ?_
        refine lv_iload_n hx hb dX1_goWays_154 rfl (lv_at hl 2 rfl) ?_
        refine va_iald (f := (ar 24)) hx hb hK hP 10 0 rfl rfl h.1 dX1_goWays_155 ?_
        replace h := h.2
        refine lv_aload_n hx hb dX1_goWays_156 rfl (lv_at hl 0 rfl) ?_
        refine va_get hx hb hts in_X1 hown hK hP 0 rfl rfl 7 (Nat.le_of_ble_eq_true rfl) (hts _ q191) (fun _ h => h) (v := .ref (ax 7)) rfl dX1_goWays_157 ?_
        refine lv_iload_n hx hb dX1_goWays_160 rfl (lv_at hl 1 rfl) ?_
        refine va_iald (f := (ar 7)) hx hb hK hP 4 0 rfl rfl h.1 dX1_goWays_161 ?_
        replace h := h.2
        refine lv_icmp_ge (tgt := 168) hx hb dX1_goWays_162 (by decide) (fun c6 => ?_) (fun c6 => ?_)
        · replace h := h.1 c6
          refine lv_aload_n hx hb dX1_goWays_168 rfl (lv_at hl 0 rfl) ?_
          refine va_get hx hb hts in_X1 hown hK hP 0 rfl rfl 24 (Nat.le_of_ble_eq_true rfl) (hts _ q215) (fun _ h => h) (v := .ref (ax 24)) rfl dX1_goWays_169 ?_
          refine lv_iload_n hx hb dX1_goWays_172 rfl (lv_at hl 2 rfl) ?_
          refine lv_dup2_11 hx hb dX1_goWays_173 rfl rfl ?_
          refine va_iald (f := (ar 24)) hx hb hK hP 10 0 rfl rfl h.1 dX1_goWays_174 ?_
          replace h := h.2
          refine lv_aload_n hx hb dX1_goWays_175 rfl (lv_at hl 0 rfl) ?_
          refine va_get hx hb hts in_X1 hown hK hP 0 rfl rfl 7 (Nat.le_of_ble_eq_true rfl) (hts _ q191) (fun _ h => h) (v := .ref (ax 7)) rfl dX1_goWays_176 ?_
          refine lv_iload_n hx hb dX1_goWays_179 rfl (lv_at hl 1 rfl) ?_
          refine va_iald (f := (ar 7)) hx hb hK hP 4 0 rfl rfl h.1 dX1_goWays_180 ?_
          replace h := h.2
          refine lv_isub hx hb dX1_goWays_181 ?_
          refine pt_iast (f := (ar 24)) hx hb hK hP hD hS 10 0 rfl rfl h.1 dX1_goWays_182 wXA_24 (fun H locs hP hD hS => ?_)
          replace h := h.2
          refine lv_aload_n hx hb dX1_goWays_183 rfl (lv_at hl 0 rfl) ?_
          refine va_get hx hb hts in_X1 hown hK hP 0 rfl rfl 25 (Nat.le_of_ble_eq_true rfl) (hts _ q216) (fun _ h => h) (v := .ref (ax 25)) rfl dX1_goWays_184 ?_
          refine lv_iload_n hx hb dX1_goWays_187 rfl (lv_at hl 1 rfl) ?_
          refine lv_iload_n hx hb dX1_goWays_188 rfl (lv_at hl 2 rfl) ?_
          refine pt_iast (f := (ar 25)) hx hb hK hP hD hS 11 0 rfl rfl h.1 dX1_goWays_189 wXA_25 (fun H locs hP hD hS => ?_)
          replace h := h.2
          refine lv_aload_n hx hb dX1_goWays_190 rfl (lv_at hl 0 rfl) ?_
          refine lv_iload_n hx hb dX1_goWays_191 rfl (lv_at hl 1 rfl) ?_
          refine lv_iconst (v := (1 : Int32)) hx hb dX1_goWays_192 (by decide) ?_
          refine lv_iadd hx hb dX1_goWays_193 ?_
          refine cl_v F (va_runV (As := [.int (v1 + (1 : Int32))]) (rest := []) ⟨hx, hb, hml, hown, hts⟩ (hrec0 h _) (cwV 1 hts (lw_V q1096 q1098 qs34 q94 q1099) rfl rfl rfl (by decide +kernel) ⟨hRf, by have hh := hRl; show 8 + (_ + 11) + (60 + d * 22) ≤ _; omega⟩) ⟨ct_blind, va_recv hK hP (ci := 0) (q0 := 0) rfl rfl, ct_at F hS hP hD⟩ rfl rfl hl.1 rfl (lv_room (Nat.le_of_ble_eq_true rfl)) dX1_goWays_194 ⟨hC, hSl⟩) rfl rfl hD hS ?_
          rintro ⟨fd4, ar5⟩ H locs h hP hD hS
          refine lv_aload_n hx hb dX1_goWays_197 rfl (lv_at hl 0 rfl) ?_
          refine va_get hx hb hts in_X1 hown hK hP 0 rfl rfl 24 (Nat.le_of_ble_eq_true rfl) (hts _ q215) (fun _ h => h) (v := .ref (ax 24)) rfl dX1_goWays_198 ?_
          refine lv_iload_n hx hb dX1_goWays_201 rfl (lv_at hl 2 rfl) ?_
          refine lv_dup2_11 hx hb dX1_goWays_202 rfl rfl ?_
          refine va_iald (f := (ar5 24)) hx hb hK hP 10 0 rfl rfl h.1 dX1_goWays_203 ?_
          replace h := h.2
          refine lv_aload_n hx hb dX1_goWays_204 rfl (lv_at hl 0 rfl) ?_
          refine va_get hx hb hts in_X1 hown hK hP 0 rfl rfl 7 (Nat.le_of_ble_eq_true rfl) (hts _ q191) (fun _ h => h) (v := .ref (ax 7)) rfl dX1_goWays_205 ?_
          refine lv_iload_n hx hb dX1_goWays_208 rfl (lv_at hl 1 rfl) ?_
          refine va_iald (f := (ar5 7)) hx hb hK hP 4 0 rfl rfl h.1 dX1_goWays_209 ?_
          replace h := h.2
          refine lv_iadd hx hb dX1_goWays_210 ?_
          refine pt_iast (f := (ar5 24)) hx hb hK hP hD hS 10 0 rfl rfl h.1 dX1_goWays_211 wXA_24 (fun H locs hP hD hS => ?_)
          replace h := h.2
          refine lv_iinc (v := (v2 + (1 : Int32))) (lv' := [(2, .int (v2 + (1 : Int32))), (0, .ref o), (1, .int v1)]) hx hb dX1_goWays_212 hl (k := 2) rfl rfl (by decide) rfl (fun ls hl => ?_)
          refine lv_goto (tgt := 131) hx hb dX1_goWays_215 (by decide) ?_
          exact ih _ _ _ h _ _ _ hP hD hS (lv_sub hl [1, 2, 0] rfl)
        · replace h := h.2 c6
          refine lv_goto (tgt := 212) hx hb dX1_goWays_165 (by decide) ?_
          refine lv_iinc (v := (v2 + (1 : Int32))) (lv' := [(2, .int (v2 + (1 : Int32))), (0, .ref o), (1, .int v1)]) hx hb dX1_goWays_212 hl (k := 2) rfl rfl (by decide) rfl (fun ls hl => ?_)
          refine lv_goto (tgt := 131) hx hb dX1_goWays_215 (by decide) ?_
          exact ih _ _ _ h _ _ _ hP hD hS (lv_sub hl [1, 2, 0] rfl)
set_option maxHeartbeats 4000000 in
theorem lp_S_goWays_L2 {p : Program} {l : Launch} {e : Env} {R : Room} {s : State} {m : MethodId} {args : Array Value} {below : List Frame} {meth : Method} {c : Code} {cells slots : Nat} {A : Nat → Prop} {Qf : State → Prop} {V : evT} {D : va_G} {gI : Nat → ClassId} {o : Nat} {ax : Nat → Nat} {rn : Option (Nat × Nat)} {tl : va_W} {fd : Nat → Int32} {ar : Nat → Nat → Int32} {lw : Nat → Int64} {hh : HT} {d : Nat} {rec : Int32 → (Nat → Int32) → (Nat → Nat → Int32) → (Nat → Int64) → (HT) → ((Nat → Int32) → (Nat → Nat → Int32) → Prop) → Prop} {K45 : Prop} {K38 : Prop} (F : ct_F p m c meth cX1_goWays 3 s args RX1 none A V D vwCl (tyL gI)) (hRf : 2 + (d + 1) ≤ R.frames) (hRl : 60 + (d + 1) * 22 ≤ R.locals) (hC : cells ≤ R.cells) (hSl : slots ≤ R.slots)
    (hrec0 : ∀ {v1 : Int32} {fd : Nat → Int32} {ar : Nat → Nat → Int32} {lw : Nat → Int64} {hh : HT} {Q : (Nat → Int32) → (Nat → Nat → Int32) → Prop}, rec v1 fd ar lw hh Q → ct_v l V D vwCl (tyL gI) yX1_goWays cX1_goWays 3 { frames := 2 + d, cells := 0, slots := 0, locals := 60 + d * 22 } [.ref o, .int v1] (wX gI o ax rn tl fd ar lw hh) (fun u : (Nat → Int32) × (Nat → Nat → Int32) => (wX gI o ax rn tl u.1 u.2 lw hh)) (fun (u : (Nat → Int32) × (Nat → Nat → Int32)) => Q u.1 u.2))
    (hK45 : K45 → ∀ (H : Heap) (locs : List Loc) (ls : Array Slot), va_P D vwCl (wX gI o ax rn tl fd ar lw hh) H → va_D A (wX gI o ax rn tl fd ar lw hh) → va_S A s.heap H locs → lv_has ls 3 [(0, .ref o)] → W p l e R s m args below meth c H locs cells slots Qf (F0 m 45 ls []))
    (hK38 : K38 → ∀ (H : Heap) (locs : List Loc) (ls : Array Slot), va_P D vwCl (wX gI o ax rn tl fd ar lw hh) H → va_D A (wX gI o ax rn tl fd ar lw hh) → va_S A s.heap H locs → lv_has ls 3 [] → W p l e R s m args below meth c H locs cells slots Qf (F0 m 38 ls [])) :
    ∀ (n : Nat) (v2 : Int32), wp_S_goWays_L2 rec fd ar lw hh K45 K38 n v2 → ∀ (H : Heap) (locs : List Loc) (ls : Array Slot), va_P D vwCl (wX gI o ax rn tl fd ar lw hh) H → va_D A (wX gI o ax rn tl fd ar lw hh) → va_S A s.heap H locs → lv_has ls 3 [(0, .ref o), (2, .int v2)] → W p l e R s m args below meth c H locs cells slots Qf (F0 m 10 ls []) := by
  obtain ⟨⟨hx, hb, hml, hown, hts⟩, hr, hlocks, hA, hK, hE⟩ := id F
  intro n
  induction n with
  | zero => intro v2 h; exact h.elim
  | succ n ih =>
    intro v2 h H locs ls hP hD hS hl
    unfold wp_S_goWays_L2 at h
    refine lv_iload_n hx hb dX1_goWays_10 rfl (lv_at hl 1 rfl) ?_
    refine lv_aload_n hx hb dX1_goWays_11 rfl (lv_at hl 0 rfl) ?_
    refine va_get hx hb hts in_X1 hown hK hP 0 rfl rfl 9 (Nat.le_of_ble_eq_true rfl) (hts _ q195) (fun _ h => h) (v := .int (fd 9)) rfl dX1_goWays_12 ?_
    refine lv_icmp_ge (tgt := 45) hx hb dX1_goWays_15 (by decide) (fun c14 => ?_) (fun c14 => ?_)
    · replace h := h.1 c14
      exact hK45  h _ _ _ hP hD hS (lv_sub hl [0] rfl)
    · replace h := h.2 c14
      refine lv_aload_n hx hb dX1_goWays_18 rfl (lv_at hl 0 rfl) ?_
      refine va_get hx hb hts in_X1 hown hK hP 0 rfl rfl 28 (Nat.le_of_ble_eq_true rfl) (hts _ q219) (fun _ h => h) (v := .int (fd 28)) rfl dX1_goWays_19 ?_
      refine lv_iload_n hx hb dX1_goWays_22 rfl (lv_at hl 1 rfl) ?_
      refine cl_i0 F (va_runS (As := [.int (fd 28), .int v2]) (rest := []) ⟨hx, hb, hml, hown, hts⟩ (ct_X1_has h _) (va_cwS 2 hts (lw_S q680 q681 q94 q682) rfl rfl rfl (by decide +kernel) ⟨Nat.le_trans (Nat.le_of_ble_eq_true rfl) (Nat.le_trans (Nat.le_add_right 2 _) hRf), Nat.le_trans (Nat.le_of_ble_eq_true rfl) (Nat.le_trans (Nat.le_add_right 60 _) hRl)⟩) ⟨ct_blind, ct_at F hS ct_nP ct_nD⟩ rfl rfl hl.1 rfl (lv_room (Nat.le_of_ble_eq_true rfl)) dX1_goWays_23 ⟨hC, hSl⟩) rfl rfl hP hS ?_
      rintro x11 _ H locs h hP hS
      refine lv_if_eq (tgt := 39) hx hb dX1_goWays_26 (by decide) (fun c13 => ?_) (fun c13 => ?_)
      · replace h := h.1 c13
        refine lv_iinc (v := (v2 + (1 : Int32))) (lv' := [(2, .int (v2 + (1 : Int32))), (0, .ref o)]) hx hb dX1_goWays_39 hl (k := 1) rfl rfl (by decide) rfl (fun ls hl => ?_)
        refine lv_goto (tgt := 10) hx hb dX1_goWays_42 (by decide) ?_
        exact ih _ h _ _ _ hP hD hS (lv_sub hl [1, 0] rfl)
      · replace h := h.2 c13
        refine lv_aload_n hx hb dX1_goWays_29 rfl (lv_at hl 0 rfl) ?_
        refine va_get hx hb hts in_X1 hown hK hP 0 rfl rfl 24 (Nat.le_of_ble_eq_true rfl) (hts _ q215) (fun _ h => h) (v := .ref (ax 24)) rfl dX1_goWays_30 ?_
        refine lv_iload_n hx hb dX1_goWays_33 rfl (lv_at hl 1 rfl) ?_
        refine va_iald (f := (ar 24)) hx hb hK hP 10 0 rfl rfl h.1 dX1_goWays_34 ?_
        replace h := h.2
        refine lv_if_eq (tgt := 39) hx hb dX1_goWays_35 (by decide) (fun c12 => ?_) (fun c12 => ?_)
        · replace h := h.1 c12
          refine lv_iinc (v := (v2 + (1 : Int32))) (lv' := [(2, .int (v2 + (1 : Int32))), (0, .ref o)]) hx hb dX1_goWays_39 hl (k := 1) rfl rfl (by decide) rfl (fun ls hl => ?_)
          refine lv_goto (tgt := 10) hx hb dX1_goWays_42 (by decide) ?_
          exact ih _ h _ _ _ hP hD hS (lv_sub hl [1, 0] rfl)
        · replace h := h.2 c12
          exact hK38  h _ _ _ hP hD hS (lv_sub hl [] rfl)
set_option maxHeartbeats 4000000 in
theorem lp_S_goWays_L4 {p : Program} {l : Launch} {e : Env} {R : Room} {s : State} {m : MethodId} {args : Array Value} {below : List Frame} {meth : Method} {c : Code} {cells slots : Nat} {A : Nat → Prop} {Qf : State → Prop} {V : evT} {D : va_G} {gI : Nat → ClassId} {o : Nat} {ax : Nat → Nat} {rn : Option (Nat × Nat)} {tl : va_W} {fd : Nat → Int32} {lw : Nat → Int64} {hh : HT} {d : Nat} {rec : Int32 → (Nat → Int32) → (Nat → Nat → Int32) → (Nat → Int64) → (HT) → ((Nat → Int32) → (Nat → Nat → Int32) → Prop) → Prop} {K104 : (Nat → Nat → Int32) → Prop} (F : ct_F p m c meth cX1_goWays 3 s args RX1 none A V D vwCl (tyL gI)) (hRf : 2 + (d + 1) ≤ R.frames) (hRl : 60 + (d + 1) * 22 ≤ R.locals) (hC : cells ≤ R.cells) (hSl : slots ≤ R.slots)
    (hrec0 : ∀ {v1 : Int32} {fd : Nat → Int32} {ar : Nat → Nat → Int32} {lw : Nat → Int64} {hh : HT} {Q : (Nat → Int32) → (Nat → Nat → Int32) → Prop}, rec v1 fd ar lw hh Q → ct_v l V D vwCl (tyL gI) yX1_goWays cX1_goWays 3 { frames := 2 + d, cells := 0, slots := 0, locals := 60 + d * 22 } [.ref o, .int v1] (wX gI o ax rn tl fd ar lw hh) (fun u : (Nat → Int32) × (Nat → Nat → Int32) => (wX gI o ax rn tl u.1 u.2 lw hh)) (fun (u : (Nat → Int32) × (Nat → Nat → Int32)) => Q u.1 u.2))
    (hK104 : ∀ (ar : Nat → Nat → Int32), K104 ar → ∀ (H : Heap) (locs : List Loc) (ls : Array Slot), va_P D vwCl (wX gI o ax rn tl fd ar lw hh) H → va_D A (wX gI o ax rn tl fd ar lw hh) → va_S A s.heap H locs → lv_has ls 3 [(0, .ref o)] → W p l e R s m args below meth c H locs cells slots Qf (F0 m 104 ls [])) :
    ∀ (n : Nat) (v2 : Int32) (ar : Nat → Nat → Int32), wp_S_goWays_L4 rec fd lw hh K104 n v2 ar → ∀ (H : Heap) (locs : List Loc) (ls : Array Slot), va_P D vwCl (wX gI o ax rn tl fd ar lw hh) H → va_D A (wX gI o ax rn tl fd ar lw hh) → va_S A s.heap H locs → lv_has ls 3 [(0, .ref o), (2, .int v2)] → W p l e R s m args below meth c H locs cells slots Qf (F0 m 71 ls []) := by
  obtain ⟨⟨hx, hb, hml, hown, hts⟩, hr, hlocks, hA, hK, hE⟩ := id F
  intro n
  induction n with
  | zero => intro v2 ar h; exact h.elim
  | succ n ih =>
    intro v2 ar h H locs ls hP hD hS hl
    unfold wp_S_goWays_L4 at h
    refine lv_iload_n hx hb dX1_goWays_71 rfl (lv_at hl 1 rfl) ?_
    refine lv_aload_n hx hb dX1_goWays_72 rfl (lv_at hl 0 rfl) ?_
    refine va_get hx hb hts in_X1 hown hK hP 0 rfl rfl 10 (Nat.le_of_ble_eq_true rfl) (hts _ q199) (fun _ h => h) (v := .int (fd 10)) rfl dX1_goWays_73 ?_
    refine lv_icmp_ge (tgt := 104) hx hb dX1_goWays_76 (by decide) (fun c15 => ?_) (fun c15 => ?_)
    · replace h := h.1 c15
      exact hK104 _ h _ _ _ hP hD hS (lv_sub hl [0] rfl)
    · replace h := h.2 c15
      refine lv_aload_n hx hb dX1_goWays_79 rfl (lv_at hl 0 rfl) ?_
      refine va_get hx hb hts in_X1 hown hK hP 0 rfl rfl 27 (Nat.le_of_ble_eq_true rfl) (hts _ q218) (fun _ h => h) (v := .ref (ax 27)) rfl dX1_goWays_80 ?_
      refine lv_iload_n hx hb dX1_goWays_83 rfl (lv_at hl 1 rfl) ?_
      refine lv_dup2_11 hx hb dX1_goWays_84 rfl rfl ?_
      refine va_iald (f := (ar 27)) hx hb hK hP 13 0 rfl rfl h.1 dX1_goWays_85 ?_
      replace h := h.2
      refine lv_iconst (v := (1 : Int32)) hx hb dX1_goWays_86 (by decide) ?_
      refine lv_aload_n hx hb dX1_goWays_87 rfl (lv_at hl 0 rfl) ?_
      refine va_get hx hb hts in_X1 hown hK hP 0 rfl rfl 25 (Nat.le_of_ble_eq_true rfl) (hts _ q216) (fun _ h => h) (v := .ref (ax 25)) rfl dX1_goWays_88 ?_
      refine lv_iload_n hx hb dX1_goWays_91 rfl (lv_at hl 1 rfl) ?_
      refine va_iald (f := (ar 25)) hx hb hK hP 11 0 rfl rfl h.1 dX1_goWays_92 ?_
      replace h := h.2
      refine lv_iconst (v := (1 : Int32)) hx hb dX1_goWays_93 (by decide) ?_
      refine lv_iadd hx hb dX1_goWays_94 ?_
      refine lv_ishl hx hb dX1_goWays_95 ?_
      refine lv_ior hx hb dX1_goWays_96 ?_
      refine pt_iast (f := (ar 27)) hx hb hK hP hD hS 13 0 rfl rfl h.1 dX1_goWays_97 wXA_27 (fun H locs hP hD hS => ?_)
      replace h := h.2
      refine lv_iinc (v := (v2 + (1 : Int32))) (lv' := [(2, .int (v2 + (1 : Int32))), (0, .ref o)]) hx hb dX1_goWays_98 hl (k := 1) rfl rfl (by decide) rfl (fun ls hl => ?_)
      refine lv_goto (tgt := 71) hx hb dX1_goWays_101 (by decide) ?_
      exact ih _ _ h _ _ _ hP hD hS (lv_sub hl [1, 0] rfl)
set_option maxHeartbeats 4000000 in
theorem lp_S_goWays_J3 {p : Program} {l : Launch} {e : Env} {R : Room} {s : State} {m : MethodId} {args : Array Value} {below : List Frame} {meth : Method} {c : Code} {cells slots : Nat} {A : Nat → Prop} {V : evT} {D : va_G} {gI : Nat → ClassId} {o : Nat} {ax : Nat → Nat} {rn : Option (Nat × Nat)} {tl : va_W} {lw : Nat → Int64} {hh : HT} {Q : (Nat → Int32) → (Nat → Nat → Int32) → Prop} {d : Nat} {rec : Int32 → (Nat → Int32) → (Nat → Nat → Int32) → (Nat → Int64) → (HT) → ((Nat → Int32) → (Nat → Nat → Int32) → Prop) → Prop} (F : ct_F p m c meth cX1_goWays 3 s args RX1 none A V D vwCl (tyL gI)) (hRf : 2 + (d + 1) ≤ R.frames) (hRl : 60 + (d + 1) * 22 ≤ R.locals) (hC : cells ≤ R.cells) (hSl : slots ≤ R.slots)
    (hrec0 : ∀ {v1 : Int32} {fd : Nat → Int32} {ar : Nat → Nat → Int32} {lw : Nat → Int64} {hh : HT} {Q : (Nat → Int32) → (Nat → Nat → Int32) → Prop}, rec v1 fd ar lw hh Q → ct_v l V D vwCl (tyL gI) yX1_goWays cX1_goWays 3 { frames := 2 + d, cells := 0, slots := 0, locals := 60 + d * 22 } [.ref o, .int v1] (wX gI o ax rn tl fd ar lw hh) (fun u : (Nat → Int32) × (Nat → Nat → Int32) => (wX gI o ax rn tl u.1 u.2 lw hh)) (fun (u : (Nat → Int32) × (Nat → Nat → Int32)) => Q u.1 u.2)) :
    ∀ (fd : Nat → Int32) (ar : Nat → Nat → Int32), wp_S_goWays_J3 rec lw hh Q fd ar → ∀ (H : Heap) (locs : List Loc) (ls : Array Slot), va_P D vwCl (wX gI o ax rn tl fd ar lw hh) H → va_D A (wX gI o ax rn tl fd ar lw hh) → va_S A s.heap H locs → lv_has ls 3 [(0, .ref o)] → W p l e R s m args below meth c H locs cells slots (MQ below (va_Qv (fun (u : (Nat → Int32) × (Nat → Nat → Int32)) => Q u.1 u.2) (fun u t => va_P D vwCl (wX gI o ax rn tl u.1 u.2 lw hh) t.heap ∧ va_K D vwCl (tyL gI) t ∧ va_D A (wX gI o ax rn tl u.1 u.2 lw hh)) A) args s cells slots A) (F0 m 69 ls []) := by
  obtain ⟨⟨hx, hb, hml, hown, hts⟩, hr, hlocks, hA, hK, hE⟩ := id F
  intro fd ar h H locs ls hP hD hS hl
  unfold wp_S_goWays_J3 at h
  refine lv_iconst (v := (0 : Int32)) hx hb dX1_goWays_69 (by decide) ?_
  refine lv_istore_n (lv' := [(2, .int (0 : Int32)), (0, .ref o)]) hx hb dX1_goWays_70 rfl hl (by decide) rfl (fun ls hl => ?_)
  obtain ⟨k71, h⟩ := h
  refine lp_S_goWays_L4 F hRf hRl hC hSl hrec0 ?hk104 k71 _ _ h _ _ _ hP hD hS (lv_sub hl [1, 0] rfl)
  case hk104 =>
    intro ar_16 h H locs ls hP hD hS hl
    refine lv_aload_n hx hb dX1_goWays_104 rfl (lv_at hl 0 rfl) ?_
    refine lv_dup hx hb dX1_goWays_105 rfl ?_
    refine va_get hx hb hts in_X1 hown hK hP 0 rfl rfl 29 (Nat.le_of_ble_eq_true rfl) (hts _ q220) (fun _ h => h) (v := .int (fd 29)) rfl dX1_goWays_106 ?_
    refine lv_iconst (v := (1 : Int32)) hx hb dX1_goWays_109 (by decide) ?_
    refine lv_iadd hx hb dX1_goWays_110 ?_
    refine pt_put (v := .int ((fd 29) + (1 : Int32))) hx hb hts in_X1 tyX1 tyX1_ok nmX1 hown hK hP hD hS 0 rfl rfl 29 (Nat.le_of_ble_eq_true rfl) (hts _ q220) (fun _ h => h) rfl (ty := .int) (by decide +kernel) rfl rfl (Nat.le_of_ble_eq_true rfl) dX1_goWays_111 wXF_29 (fun H locs hP hD hS => ?_)
    exact rt_v F dX1_goWays_114 ((upd fd 29 ((fd 29) + (1 : Int32))), ar_16) h hP hD hS (Nat.le_refl _) (Nat.le_refl _)
set_option maxHeartbeats 4000000 in
theorem ctg_S_goWays {l : Launch} {V : evT} {D : va_G} {gI : Nat → ClassId} {o : Nat} {ax : Nat → Nat} {rn : Option (Nat × Nat)} {tl : va_W} : ∀ d : Nat, (∀ {v1 : Int32} {fd : Nat → Int32} {ar : Nat → Nat → Int32} {lw : Nat → Int64} {hh : HT} {Q : (Nat → Int32) → (Nat → Nat → Int32) → Prop}, wp_S_goWays d v1 fd ar lw hh Q → ct_v l V D vwCl (tyL gI) yX1_goWays cX1_goWays 3 { frames := 2 + d, cells := 0, slots := 0, locals := 60 + d * 22 } [.ref o, .int v1] (wX gI o ax rn tl fd ar lw hh) (fun u : (Nat → Int32) × (Nat → Nat → Int32) => (wX gI o ax rn tl u.1 u.2 lw hh)) (fun (u : (Nat → Int32) × (Nat → Nat → Int32)) => Q u.1 u.2)) := by
  intro d
  induction d with
  | zero => exact fun h => False.elim h
  | succ d ih =>
    have hrec0 := @ih
    intro v1 fd ar lw hh Q h
    refine ct_ofv RX1 rfl (by decide +kernel) (Nat.le_of_ble_eq_true rfl) ?_
    intro p e s m args below meth c A F _ hP hD ls hl
    obtain ⟨⟨hx, hb, hml, hown, hts⟩, hr, hlocks, hA, hK, hE⟩ := id F
    have hS : va_S A s.heap s.heap [] := va_S.rf
    have hl : lv_has ls 3 [(0, .ref o), (1, .int v1)] := hl
    have hRf : 2 + (d + 1) ≤ ({ frames := 2 + (d + 1), cells := 0, slots := 0, locals := 60 + (d + 1) * 22 } : Room).frames := Nat.le_refl _
    have hRl : 60 + (d + 1) * 22 ≤ ({ frames := 2 + (d + 1), cells := 0, slots := 0, locals := 60 + (d + 1) * 22 } : Room).locals := Nat.le_refl _
    have hC : 0 ≤ ({ frames := 2 + (d + 1), cells := 0, slots := 0, locals := 60 + (d + 1) * 22 } : Room).cells := Nat.zero_le _
    have hSl : 0 ≤ ({ frames := 2 + (d + 1), cells := 0, slots := 0, locals := 60 + (d + 1) * 22 } : Room).slots := Nat.zero_le _
    unfold wp_S_goWays at h
    refine lv_iload_n hx hb dX1_goWays_0 rfl (lv_at hl 1 rfl) ?_
    refine lv_aload_n hx hb dX1_goWays_1 rfl (lv_at hl 0 rfl) ?_
    refine va_get hx hb hts in_X1 hown hK hP 0 rfl rfl 10 (Nat.le_of_ble_eq_true rfl) (hts _ q199) (fun _ h => h) (v := .int (fd 10)) rfl dX1_goWays_2 ?_
    refine lv_icmp_ne (tgt := 115) hx hb dX1_goWays_5 (by decide) (fun c18 => ?_) (fun c18 => ?_)
    · replace h := h.1 c18
      refine lv_aload_n hx hb dX1_goWays_115 rfl (lv_at hl 0 rfl) ?_
      refine va_get hx hb hts in_X1 hown hK hP 0 rfl rfl 25 (Nat.le_of_ble_eq_true rfl) (hts _ q216) (fun _ h => h) (v := .ref (ax 25)) rfl dX1_goWays_116 ?_
      refine lv_iload_n hx hb dX1_goWays_119 rfl (lv_at hl 1 rfl) ?_
      refine lv_iconst (v := (-1 : Int32)) hx hb dX1_goWays_120 (by decide) ?_
      refine pt_iast (f := (ar 25)) hx hb hK hP hD hS 11 0 rfl rfl h.1 dX1_goWays_121 wXA_25 (fun H locs hP hD hS => ?_)
      replace h := h.2
      refine lv_aload_n hx hb dX1_goWays_122 rfl (lv_at hl 0 rfl) ?_
      refine lv_iload_n hx hb dX1_goWays_123 rfl (lv_at hl 1 rfl) ?_
      refine lv_iconst (v := (1 : Int32)) hx hb dX1_goWays_124 (by decide) ?_
      refine lv_iadd hx hb dX1_goWays_125 ?_
      refine cl_v F (va_runV (As := [.int (v1 + (1 : Int32))]) (rest := []) ⟨hx, hb, hml, hown, hts⟩ (hrec0 h _) (cwV 1 hts (lw_V q1096 q1098 qs34 q94 q1099) rfl rfl rfl (by decide +kernel) ⟨hRf, by have hh := hRl; show 8 + (_ + 11) + (60 + d * 22) ≤ _; omega⟩) ⟨ct_blind, va_recv hK hP (ci := 0) (q0 := 0) rfl rfl, ct_at F hS hP hD⟩ rfl rfl hl.1 rfl (lv_room (Nat.le_of_ble_eq_true rfl)) dX1_goWays_126 ⟨hC, hSl⟩) rfl rfl hD hS ?_
      rintro ⟨fd1, ar2⟩ H locs h hP hD hS
      refine lv_iconst (v := (0 : Int32)) hx hb dX1_goWays_129 (by decide) ?_
      refine lv_istore_n (lv' := [(2, .int (0 : Int32)), (0, .ref o), (1, .int v1)]) hx hb dX1_goWays_130 rfl hl (by decide) rfl (fun ls hl => ?_)
      obtain ⟨k131, h⟩ := h
      refine lp_S_goWays_L1 F hRf hRl hC hSl hrec0 ?hk218 k131 _ _ _ h _ _ _ hP hD hS (lv_sub hl [1, 2, 0] rfl)
      case hk218 =>
        intro fd_9 ar_10 h H locs ls hP hD hS hl
        exact rt_v F dX1_goWays_218 (fd_9, ar_10) h hP hD hS (Nat.le_refl _) (Nat.le_refl _)
    · replace h := h.2 c18
      refine lv_iconst (v := (0 : Int32)) hx hb dX1_goWays_8 (by decide) ?_
      refine lv_istore_n (lv' := [(2, .int (0 : Int32)), (0, .ref o), (1, .int v1)]) hx hb dX1_goWays_9 rfl hl (by decide) rfl (fun ls hl => ?_)
      obtain ⟨k10, h⟩ := h
      refine lp_S_goWays_L2 F hRf hRl hC hSl hrec0 ?hk45 ?hk38 k10 _ h _ _ _ hP hD hS (lv_sub hl [1, 0] rfl)
      case hk45 =>
        intro h H locs ls hP hD hS hl
        refine lv_aload_n hx hb dX1_goWays_45 rfl (lv_at hl 0 rfl) ?_
        refine va_get hx hb hts in_X1 hown hK hP 0 rfl rfl 29 (Nat.le_of_ble_eq_true rfl) (hts _ q220) (fun _ h => h) (v := .int (fd 29)) rfl dX1_goWays_46 ?_
        refine lv_if_ne (tgt := 69) hx hb dX1_goWays_49 (by decide) (fun c17 => ?_) (fun c17 => ?_)
        · replace h := h.1 c17
          refine lp_S_goWays_J3 F hRf hRl hC hSl hrec0  _ _ h _ _ _ hP hD hS (lv_sub hl [0] rfl)
        · replace h := h.2 c17
          refine lv_aload_n hx hb dX1_goWays_52 rfl (lv_at hl 0 rfl) ?_
          refine va_get hx hb hts in_X1 hown hK hP 0 rfl rfl 25 (Nat.le_of_ble_eq_true rfl) (hts _ q216) (fun _ h => h) (v := .ref (ax 25)) rfl dX1_goWays_53 ?_
          refine lv_iconst (v := (0 : Int32)) hx hb dX1_goWays_56 (by decide) ?_
          refine lv_aload_n hx hb dX1_goWays_57 rfl (lv_at hl 0 rfl) ?_
          refine va_get hx hb hts in_X1 hown hK hP 0 rfl rfl 26 (Nat.le_of_ble_eq_true rfl) (hts _ q217) (fun _ h => h) (v := .ref (ax 26)) rfl dX1_goWays_58 ?_
          refine lv_iconst (v := (0 : Int32)) hx hb dX1_goWays_61 (by decide) ?_
          refine lv_aload_n hx hb dX1_goWays_62 rfl (lv_at hl 0 rfl) ?_
          refine va_get hx hb hts in_X1 hown hK hP 0 rfl rfl 10 (Nat.le_of_ble_eq_true rfl) (hts _ q199) (fun _ h => h) (v := .int (fd 10)) rfl dX1_goWays_63 ?_
          refine pt_copyi hx hb (hml.trans hl.1.symm) hown (hts _ q466) (hts _ q468) (hts _ q467) (hts _ q104) hK hP hD hS 11 12 0 0 (f := (ar 25)) (g := (ar 26)) (ty := .int) rfl rfl rfl rfl rfl h.1 h.2.1 h.2.2.1 h.2.2.2.1 h.2.2.2.2.1 (fun _ _ => rfl) (Nat.le_trans (Nat.le_of_ble_eq_true rfl) (Nat.le_trans (Nat.le_add_right 2 _) hRf)) (Nat.le_trans (by decide +kernel) (Nat.le_trans (Nat.le_add_right 60 _) hRl)) dX1_goWays_66 wXA_26 (fun H locs hP hD hS => ?_)
          replace h := h.2.2.2.2.2
          refine lp_S_goWays_J3 F hRf hRl hC hSl hrec0  _ _ h _ _ _ hP hD hS (lv_sub hl [0] rfl)
      case hk38 =>
        intro h H locs ls hP hD hS hl
        exact rt_v F dX1_goWays_38 (fd, ar) h hP hD hS (Nat.le_refl _) (Nat.le_refl _)
theorem ct_S_goWays {l : Launch} {V : evT} {D : va_G} {gI : Nat → ClassId} {o : Nat} {ax : Nat → Nat} {rn : Option (Nat × Nat)} {tl : va_W} : ∀ {v1 : Int32} {fd : Nat → Int32} {ar : Nat → Nat → Int32} {lw : Nat → Int64} {hh : HT} {Q : (Nat → Int32) → (Nat → Nat → Int32) → Prop}, wp_S_goWays 10 v1 fd ar lw hh Q → ct_v l V D vwCl (tyL gI) yX1_goWays cX1_goWays 3 { frames := 12, cells := 0, slots := 0, locals := 280 } [.ref o, .int v1] (wX gI o ax rn tl fd ar lw hh) (fun u : (Nat → Int32) × (Nat → Nat → Int32) => (wX gI o ax rn tl u.1 u.2 lw hh)) (fun (u : (Nat → Int32) × (Nat → Nat → Int32)) => Q u.1 u.2) := fun h => (ctg_S_goWays 10) h
set_option maxHeartbeats 4000000 in
theorem ct_S_end {l : Launch} {V : evT} {D : va_G} {gI : Nat → ClassId} {o : Nat} {ax : Nat → Nat} {rn : Option (Nat × Nat)} {tl : va_W} {v1 : Int32} {fd : Nat → Int32} {ar : Nat → Nat → Int32} {lw : Nat → Int64} {hh : HT} {Q : Int32 → (Nat → Int32) → Prop} (h : wp_S_end v1 fd ar lw hh Q) : ct_i l V D vwCl (tyL gI) yX1_end cX1_end 2 .boolean { frames := 2, cells := 0, slots := 0, locals := 37 } [.ref o, .int v1] (wX gI o ax rn tl fd ar lw hh) (fun u : (Nat → Int32) => (wX gI o ax rn tl u ar lw hh)) (fun (x : Int32) (u : (Nat → Int32)) => Q x u) := by
  refine ct_ofi RX1 rfl (by decide +kernel) (Nat.le_of_ble_eq_true rfl) ?_
  intro p e s m args below meth c A F hP hD ls hl
  obtain ⟨⟨hx, hb, hml, hown, hts⟩, hr, hlocks, hA, hK, hE⟩ := id F
  have hS : va_S A s.heap s.heap [] := va_S.rf
  have hl : lv_has ls 2 [(0, .ref o), (1, .int v1)] := hl
  have hRf : 2 ≤ ({ frames := 2, cells := 0, slots := 0, locals := 37 } : Room).frames := Nat.le_refl _
  have hRl : 37 ≤ ({ frames := 2, cells := 0, slots := 0, locals := 37 } : Room).locals := Nat.le_refl _
  have hC : 0 ≤ ({ frames := 2, cells := 0, slots := 0, locals := 37 } : Room).cells := Nat.le_refl _
  have hSl : 0 ≤ ({ frames := 2, cells := 0, slots := 0, locals := 37 } : Room).slots := Nat.le_refl _
  unfold wp_S_end at h
  refine lv_iload_n hx hb dX1_end_0 rfl (lv_at hl 1 rfl) ?_
  refine lv_i2l (v := (v1.toInt64)) hx hb dX1_end_1 rfl ?_
  refine lv_lconst (v := (0 : Int64)) hx hb dX1_end_2 (by decide) ?_
  refine lv_aload_n hx hb dX1_end_3 rfl (lv_at hl 0 rfl) ?_
  refine va_get hx hb hts in_X1 hown hK hP 0 rfl rfl 16 (Nat.le_of_ble_eq_true rfl) (hts _ q207) (fun _ h => h) (v := .int (fd 16)) rfl dX1_end_4 ?_
  refine lv_i2l (v := ((fd 16).toInt64)) hx hb dX1_end_7 rfl ?_
  refine cl_i0 F (va_runS (As := [.long (v1.toInt64), .long (0 : Int64), .long ((fd 16).toInt64)]) (rest := []) ⟨hx, hb, hml, hown, hts⟩ (ct_X1_in h _) (va_cwS 3 hts (lw_S q298 q299 q94 q300) rfl rfl rfl (by decide +kernel) ⟨Nat.le_trans (Nat.le_of_ble_eq_true rfl) hRf, Nat.le_trans (Nat.le_of_ble_eq_true rfl) hRl⟩) ⟨ct_blind, ct_at F hS ct_nP ct_nD⟩ rfl rfl hl.1 rfl (lv_room (Nat.le_of_ble_eq_true rfl)) dX1_end_8 ⟨hC, hSl⟩) rfl rfl hP hS ?_
  rintro x1 _ H locs h hP hS
  refine lv_if_ne (tgt := 16) hx hb dX1_end_11 (by decide) (fun c2 => ?_) (fun c2 => ?_)
  · replace h := h.1 c2
    refine lv_aload_n hx hb dX1_end_16 rfl (lv_at hl 0 rfl) ?_
    refine lv_iload_n hx hb dX1_end_17 rfl (lv_at hl 1 rfl) ?_
    refine pt_put (v := .int v1) hx hb hts in_X1 tyX1 tyX1_ok nmX1 hown hK hP hD hS 0 rfl rfl 16 (Nat.le_of_ble_eq_true rfl) (hts _ q207) (fun _ h => h) rfl (ty := .int) (by decide +kernel) rfl rfl (Nat.le_of_ble_eq_true rfl) dX1_end_18 wXF_16 (fun H locs hP hD hS => ?_)
    refine lv_iconst (v := (1 : Int32)) hx hb dX1_end_21 (by decide) ?_
    exact rt_i F dX1_end_22 rfl ((upd fd 16 v1)) h hP hD hS (Nat.le_refl _) (Nat.le_refl _)
  · replace h := h.2 c2
    refine lv_iconst (v := (0 : Int32)) hx hb dX1_end_14 (by decide) ?_
    exact rt_i F dX1_end_15 rfl (fd) h hP hD hS (Nat.le_refl _) (Nat.le_refl _)
set_option maxHeartbeats 4000000 in
theorem ct_S_refusesGo_i0 {l : Launch} {V : evT} {D : va_G} {gI : Nat → ClassId} {o : Nat} {ax : Nat → Nat} {rn : Option (Nat × Nat)} {tl : va_W} {v2 : Int32} {v3 : Int32} {fd : Nat → Int32} {ar : Nat → Nat → Int32} {lw : Nat → Int64} {hh : HT} {Q : Int32 → Prop} (h : wp_S_refusesGo 0 v2 v3 fd ar lw hh Q) : ct_i l V D vwCl (tyL gI) yX1_refusesGo cX1_refusesGo 4 .int { frames := 3, cells := 0, slots := 0, locals := 58 } [.ref o, .ref (ax 0), .int v2, .int v3] (wX gI o ax rn tl fd ar lw hh) (fun u : Unit => (wX gI o ax rn tl fd ar lw hh)) (fun (x : Int32) (u : Unit) => Q x) := by
  refine ct_ofi RX1 rfl (by decide +kernel) (Nat.le_of_ble_eq_true rfl) ?_
  intro p e s m args below meth c A F hP hD ls hl
  obtain ⟨⟨hx, hb, hml, hown, hts⟩, hr, hlocks, hA, hK, hE⟩ := id F
  have hS : va_S A s.heap s.heap [] := va_S.rf
  have hl : lv_has ls 4 [(0, .ref o), (1, .ref (ax 0)), (2, .int v2), (3, .int v3)] := hl
  have hRf : 3 ≤ ({ frames := 3, cells := 0, slots := 0, locals := 58 } : Room).frames := Nat.le_refl _
  have hRl : 58 ≤ ({ frames := 3, cells := 0, slots := 0, locals := 58 } : Room).locals := Nat.le_refl _
  have hC : 0 ≤ ({ frames := 3, cells := 0, slots := 0, locals := 58 } : Room).cells := Nat.le_refl _
  have hSl : 0 ≤ ({ frames := 3, cells := 0, slots := 0, locals := 58 } : Room).slots := Nat.le_refl _
  unfold wp_S_refusesGo at h
  refine lv_aload_n hx hb dX1_refusesGo_0 rfl (lv_at hl 0 rfl) ?_
  refine lv_iload_n hx hb dX1_refusesGo_1 rfl (lv_at hl 2 rfl) ?_
  refine cl_i F (va_runV (As := [.int v2]) (rest := []) ⟨hx, hb, hml, hown, hts⟩ (ct_S_isKid h _) (cwV 1 hts (lw_V q647 q649 qs8 q94 q650) rfl rfl rfl (by decide +kernel) ⟨Nat.le_trans (Nat.le_of_ble_eq_true rfl) hRf, Nat.le_trans (Nat.le_of_ble_eq_true rfl) hRl⟩) ⟨ct_blind, va_recv hK hP (ci := 0) (q0 := 0) rfl rfl, ct_at F hS hP hD⟩ rfl rfl hl.1 rfl (lv_room (Nat.le_of_ble_eq_true rfl)) dX1_refusesGo_2 ⟨hC, hSl⟩) rfl rfl hD hS ?_
  rintro x1 _ H locs h hP hD hS
  refine lv_if_eq (tgt := 16) hx hb dX1_refusesGo_5 (by decide) (fun c6 => ?_) (fun c6 => ?_)
  · replace h := h.1 c6
    refine lv_iconst (v := (-1 : Int32)) hx hb dX1_refusesGo_16 (by decide) ?_
    exact rt_i F dX1_refusesGo_17 rfl () h hP hD hS (Nat.le_refl _) (Nat.le_refl _)
  · replace h := h.2 c6
    refine lv_aload_n hx hb dX1_refusesGo_8 rfl (lv_at hl 0 rfl) ?_
    refine lv_iload_n hx hb dX1_refusesGo_9 rfl (lv_at hl 3 rfl) ?_
    refine cl_i F (va_runV (As := [.int v3]) (rest := []) ⟨hx, hb, hml, hown, hts⟩ (ct_S_isCell h _) (cwV 1 hts (lw_V q651 q653 qs9 q94 q654) rfl rfl rfl (by decide +kernel) ⟨Nat.le_trans (Nat.le_of_ble_eq_true rfl) hRf, Nat.le_trans (Nat.le_of_ble_eq_true rfl) hRl⟩) ⟨ct_blind, va_recv hK hP (ci := 0) (q0 := 0) rfl rfl, ct_at F hS hP hD⟩ rfl rfl hl.1 rfl (lv_room (Nat.le_of_ble_eq_true rfl)) dX1_refusesGo_10 ⟨hC, hSl⟩) rfl rfl hD hS ?_
    rintro x2 _ H locs h hP hD hS
    refine lv_if_ne (tgt := 18) hx hb dX1_refusesGo_13 (by decide) (fun c5 => ?_) (fun c5 => ?_)
    · replace h := h.1 c5
      refine lv_aload_n hx hb dX1_refusesGo_18 rfl (lv_at hl 1 rfl) ?_
      refine va_get hx hb hts in_X2 hown hK hP 14 rfl rfl 3 (Nat.le_of_ble_eq_true rfl) (hts _ q144) (fun _ h => h) (v := .ref (ax 43)) rfl dX1_refusesGo_19 ?_
      refine lv_iload_n hx hb dX1_refusesGo_22 rfl (lv_at hl 2 rfl) ?_
      refine va_iald (f := (ar 43)) hx hb hK hP 18 0 rfl rfl h.1 dX1_refusesGo_23 ?_
      replace h := h.2
      refine lv_if_ne (tgt := 32) hx hb dX1_refusesGo_24 (by decide) (fun c4 => ?_) (fun c4 => ?_)
      · replace h := h.1 c4
        refine lv_aload_n hx hb dX1_refusesGo_32 rfl (lv_at hl 1 rfl) ?_
        refine va_get hx hb hts in_X2 hown hK hP 14 rfl rfl 2 (Nat.le_of_ble_eq_true rfl) (hts _ q141) (fun _ h => h) (v := .ref (ax 42)) rfl dX1_refusesGo_33 ?_
        refine lv_iload_n hx hb dX1_refusesGo_36 rfl (lv_at hl 2 rfl) ?_
        refine va_iald (f := (ar 42)) hx hb hK hP 17 0 rfl rfl h.1 dX1_refusesGo_37 ?_
        replace h := h.2
        refine lv_iload_n hx hb dX1_refusesGo_38 rfl (lv_at hl 3 rfl) ?_
        refine lv_icmp_ne (tgt := 47) hx hb dX1_refusesGo_39 (by decide) (fun c3 => ?_) (fun c3 => ?_)
        · replace h := h.1 c3
          refine lv_iconst (v := (0 : Int32)) hx hb dX1_refusesGo_47 (by decide) ?_
          exact rt_i F dX1_refusesGo_48 rfl () h hP hD hS (Nat.le_refl _) (Nat.le_refl _)
        · replace h := h.2 c3
          refine lv_bipush (v := (-3 : Int32)) hx hb dX1_refusesGo_42 (by decide) ?_
          refine lv_goto (tgt := 48) hx hb dX1_refusesGo_44 (by decide) ?_
          exact rt_i F dX1_refusesGo_48 rfl () h hP hD hS (Nat.le_refl _) (Nat.le_refl _)
      · replace h := h.2 c4
        refine lv_bipush (v := (-2 : Int32)) hx hb dX1_refusesGo_27 (by decide) ?_
        refine lv_goto (tgt := 48) hx hb dX1_refusesGo_29 (by decide) ?_
        exact rt_i F dX1_refusesGo_48 rfl () h hP hD hS (Nat.le_refl _) (Nat.le_refl _)
    · replace h := h.2 c5
      refine lv_iconst (v := (-1 : Int32)) hx hb dX1_refusesGo_16 (by decide) ?_
      exact rt_i F dX1_refusesGo_17 rfl () h hP hD hS (Nat.le_refl _) (Nat.le_refl _)
set_option maxHeartbeats 4000000 in
theorem ct_S_home {l : Launch} {V : evT} {D : va_G} {gI : Nat → ClassId} {o : Nat} {ax : Nat → Nat} {rn : Option (Nat × Nat)} {tl : va_W} {v1 : Int32} {fd : Nat → Int32} {ar : Nat → Nat → Int32} {lw : Nat → Int64} {hh : HT} {Q : Int32 → (Nat → Int32) → (Nat → Nat → Int32) → (HT) → Prop} (h : wp_S_home v1 fd ar lw hh Q) : ct_i l V D vwCl (tyL gI) yX1_home cX1_home 4 .int { frames := 4, cells := 0, slots := 0, locals := 103 } [.ref o, .int v1] (wX gI o ax rn tl fd ar lw hh) (fun u : (Nat → Int32) × (Nat → Nat → Int32) × (HT) => (wX gI o ax rn tl u.1 u.2.1 lw u.2.2)) (fun (x : Int32) (u : (Nat → Int32) × (Nat → Nat → Int32) × (HT)) => Q x u.1 u.2.1 u.2.2) := by
  refine ct_ofi RX1 rfl (by decide +kernel) (Nat.le_of_ble_eq_true rfl) ?_
  intro p e s m args below meth c A F hP hD ls hl
  obtain ⟨⟨hx, hb, hml, hown, hts⟩, hr, hlocks, hA, hK, hE⟩ := id F
  have hS : va_S A s.heap s.heap [] := va_S.rf
  have hl : lv_has ls 4 [(0, .ref o), (1, .int v1)] := hl
  have hRf : 4 ≤ ({ frames := 4, cells := 0, slots := 0, locals := 103 } : Room).frames := Nat.le_refl _
  have hRl : 103 ≤ ({ frames := 4, cells := 0, slots := 0, locals := 103 } : Room).locals := Nat.le_refl _
  have hC : 0 ≤ ({ frames := 4, cells := 0, slots := 0, locals := 103 } : Room).cells := Nat.le_refl _
  have hSl : 0 ≤ ({ frames := 4, cells := 0, slots := 0, locals := 103 } : Room).slots := Nat.le_refl _
  unfold wp_S_home at h
  refine lv_aload_n hx hb dX1_home_0 rfl (lv_at hl 0 rfl) ?_
  refine lv_iload_n hx hb dX1_home_1 rfl (lv_at hl 1 rfl) ?_
  refine cl_i F (va_runV (As := [.int v1]) (rest := []) ⟨hx, hb, hml, hown, hts⟩ (ct_S_refusesHome h _) (cwV 1 hts (lw_V q668 q670 qs11 q94 q671) rfl rfl rfl (by decide +kernel) ⟨Nat.le_trans (Nat.le_of_ble_eq_true rfl) hRf, Nat.le_trans (Nat.le_of_ble_eq_true rfl) hRl⟩) ⟨ct_blind, va_recv hK hP (ci := 0) (q0 := 0) rfl rfl, ct_at F hS hP hD⟩ rfl rfl hl.1 rfl (lv_room (Nat.le_of_ble_eq_true rfl)) dX1_home_2 ⟨hC, hSl⟩) rfl rfl hD hS ?_
  rintro x1 _ H locs h hP hD hS
  refine lv_istore_n (lv' := [(2, .int x1), (0, .ref o), (1, .int v1)]) hx hb dX1_home_5 rfl hl (by decide) rfl (fun ls hl => ?_)
  refine lv_iload_n hx hb dX1_home_6 rfl (lv_at hl 0 rfl) ?_
  refine lv_if_ge (tgt := 12) hx hb dX1_home_7 (by decide) (fun c4 => ?_) (fun c4 => ?_)
  · replace h := h.1 c4
    refine lv_aload_n hx hb dX1_home_12 rfl (lv_at hl 1 rfl) ?_
    refine lv_aload_n hx hb dX1_home_13 rfl (lv_at hl 1 rfl) ?_
    refine va_get hx hb hts in_X1 hown hK hP 0 rfl rfl 0 (Nat.le_of_ble_eq_true rfl) (hts _ q180) (fun _ h => h) (v := .ref (ax 0)) rfl dX1_home_14 ?_
    refine cl_v F (va_runV (As := [.ref (ax 0)]) (rest := []) ⟨hx, hb, hml, hown, hts⟩ (ct_S_remember_i0 h _) (cwV 1 hts (lw_V q655 q657 qs10 q94 q658) rfl rfl rfl (by decide +kernel) ⟨Nat.le_trans (Nat.le_of_ble_eq_true rfl) hRf, Nat.le_trans (Nat.le_of_ble_eq_true rfl) hRl⟩) ⟨ct_blind, va_recv hK hP (ci := 0) (q0 := 0) rfl rfl, ct_at F hS hP hD⟩ rfl rfl hl.1 rfl (lv_room (Nat.le_of_ble_eq_true rfl)) dX1_home_17 ⟨hC, hSl⟩) rfl rfl hD hS ?_
    rintro ⟨fd2, hh3⟩ H locs h hP hD hS
    refine lv_aload_n hx hb dX1_home_20 rfl (lv_at hl 1 rfl) ?_
    refine va_get hx hb hts in_X1 hown hK hP 0 rfl rfl 0 (Nat.le_of_ble_eq_true rfl) (hts _ q180) (fun _ h => h) (v := .ref (ax 0)) rfl dX1_home_21 ?_
    refine va_get hx hb hts in_X2 hown hK hP 14 rfl rfl 2 (Nat.le_of_ble_eq_true rfl) (hts _ q141) (fun _ h => h) (v := .ref (ax 42)) rfl dX1_home_24 ?_
    refine lv_iload_n hx hb dX1_home_27 rfl (lv_at hl 2 rfl) ?_
    refine va_iald (f := (ar 42)) hx hb hK hP 17 0 rfl rfl h.1 dX1_home_28 ?_
    replace h := h.2
    refine lv_istore_n (lv' := [(3, .int (ar 42 v1.toNatClampNeg)), (2, .int x1), (0, .ref o), (1, .int v1)]) hx hb dX1_home_29 rfl hl (by decide) rfl (fun ls hl => ?_)
    refine lv_aload_n hx hb dX1_home_30 rfl (lv_at hl 2 rfl) ?_
    refine va_get hx hb hts in_X1 hown hK hP 0 rfl rfl 0 (Nat.le_of_ble_eq_true rfl) (hts _ q180) (fun _ h => h) (v := .ref (ax 0)) rfl dX1_home_31 ?_
    refine va_get hx hb hts in_X2 hown hK hP 14 rfl rfl 2 (Nat.le_of_ble_eq_true rfl) (hts _ q141) (fun _ h => h) (v := .ref (ax 42)) rfl dX1_home_34 ?_
    refine lv_iload_n hx hb dX1_home_37 rfl (lv_at hl 3 rfl) ?_
    refine lv_iconst (v := (-1 : Int32)) hx hb dX1_home_38 (by decide) ?_
    refine pt_iast (f := (ar 42)) hx hb hK hP hD hS 17 0 rfl rfl h.1 dX1_home_39 wXA_42 (fun H locs hP hD hS => ?_)
    replace h := h.2
    refine lv_iload_n hx hb dX1_home_40 rfl (lv_at hl 0 rfl) ?_
    exact rt_i F dX1_home_41 rfl (fd2, (va_up ar 42 (upd (ar 42) v1.toNatClampNeg (-1 : Int32))), hh3) h hP hD hS (Nat.le_refl _) (Nat.le_refl _)
  · replace h := h.2 c4
    refine lv_iload_n hx hb dX1_home_10 rfl (lv_at hl 0 rfl) ?_
    exact rt_i F dX1_home_11 rfl (fd, ar, hh) h hP hD hS (Nat.le_refl _) (Nat.le_refl _)
set_option maxHeartbeats 4000000 in
theorem ct_S_refusesSpade {l : Launch} {V : evT} {D : va_G} {gI : Nat → ClassId} {o : Nat} {ax : Nat → Nat} {rn : Option (Nat × Nat)} {tl : va_W} {v1 : Int32} {fd : Nat → Int32} {ar : Nat → Nat → Int32} {lw : Nat → Int64} {hh : HT} {Q : Int32 → Prop} (h : wp_S_refusesSpade v1 fd ar lw hh Q) : ct_i l V D vwCl (tyL gI) yX1_refusesSpade cX1_refusesSpade 2 .int { frames := 3, cells := 0, slots := 0, locals := 58 } [.ref o, .int v1] (wX gI o ax rn tl fd ar lw hh) (fun u : Unit => (wX gI o ax rn tl fd ar lw hh)) (fun (x : Int32) (u : Unit) => Q x) := by
  refine ct_ofi RX1 rfl (by decide +kernel) (Nat.le_of_ble_eq_true rfl) ?_
  intro p e s m args below meth c A F hP hD ls hl
  obtain ⟨⟨hx, hb, hml, hown, hts⟩, hr, hlocks, hA, hK, hE⟩ := id F
  have hS : va_S A s.heap s.heap [] := va_S.rf
  have hl : lv_has ls 2 [(0, .ref o), (1, .int v1)] := hl
  have hRf : 3 ≤ ({ frames := 3, cells := 0, slots := 0, locals := 58 } : Room).frames := Nat.le_refl _
  have hRl : 58 ≤ ({ frames := 3, cells := 0, slots := 0, locals := 58 } : Room).locals := Nat.le_refl _
  have hC : 0 ≤ ({ frames := 3, cells := 0, slots := 0, locals := 58 } : Room).cells := Nat.le_refl _
  have hSl : 0 ≤ ({ frames := 3, cells := 0, slots := 0, locals := 58 } : Room).slots := Nat.le_refl _
  unfold wp_S_refusesSpade at h
  refine lv_aload_n hx hb dX1_refusesSpade_0 rfl (lv_at hl 0 rfl) ?_
  refine lv_iload_n hx hb dX1_refusesSpade_1 rfl (lv_at hl 1 rfl) ?_
  refine cl_i F (va_runV (As := [.int v1]) (rest := []) ⟨hx, hb, hml, hown, hts⟩ (ct_S_isKid h _) (cwV 1 hts (lw_V q647 q649 qs8 q94 q650) rfl rfl rfl (by decide +kernel) ⟨Nat.le_trans (Nat.le_of_ble_eq_true rfl) hRf, Nat.le_trans (Nat.le_of_ble_eq_true rfl) hRl⟩) ⟨ct_blind, va_recv hK hP (ci := 0) (q0 := 0) rfl rfl, ct_at F hS hP hD⟩ rfl rfl hl.1 rfl (lv_room (Nat.le_of_ble_eq_true rfl)) dX1_refusesSpade_2 ⟨hC, hSl⟩) rfl rfl hD hS ?_
  rintro x1 _ H locs h hP hD hS
  refine lv_if_ne (tgt := 10) hx hb dX1_refusesSpade_5 (by decide) (fun c6 => ?_) (fun c6 => ?_)
  · replace h := h.1 c6
    refine lv_aload_n hx hb dX1_refusesSpade_10 rfl (lv_at hl 0 rfl) ?_
    refine va_get hx hb hts in_X1 hown hK hP 0 rfl rfl 0 (Nat.le_of_ble_eq_true rfl) (hts _ q180) (fun _ h => h) (v := .ref (ax 0)) rfl dX1_refusesSpade_11 ?_
    refine va_get hx hb hts in_X2 hown hK hP 14 rfl rfl 5 (Nat.le_of_ble_eq_true rfl) (hts _ q148) (fun _ h => h) (v := .int (fd 61)) rfl dX1_refusesSpade_14 ?_
    refine lv_iload_n hx hb dX1_refusesSpade_17 rfl (lv_at hl 1 rfl) ?_
    refine cl_i0 F (va_runS (As := [.int (fd 61), .int v1]) (rest := []) ⟨hx, hb, hml, hown, hts⟩ (ct_X1_has h _) (va_cwS 2 hts (lw_S q680 q681 q94 q682) rfl rfl rfl (by decide +kernel) ⟨Nat.le_trans (Nat.le_of_ble_eq_true rfl) hRf, Nat.le_trans (Nat.le_of_ble_eq_true rfl) hRl⟩) ⟨ct_blind, ct_at F hS ct_nP ct_nD⟩ rfl rfl hl.1 rfl (lv_room (Nat.le_of_ble_eq_true rfl)) dX1_refusesSpade_18 ⟨hC, hSl⟩) rfl rfl hP hS ?_
    rintro x2 _ H locs h hP hS
    refine lv_if_ne (tgt := 46) hx hb dX1_refusesSpade_21 (by decide) (fun c5 => ?_) (fun c5 => ?_)
    · replace h := h.1 c5
      refine lv_iconst (v := (0 : Int32)) hx hb dX1_refusesSpade_46 (by decide) ?_
      exact rt_i F dX1_refusesSpade_47 rfl () h hP hD hS (Nat.le_refl _) (Nat.le_refl _)
    · replace h := h.2 c5
      refine lv_aload_n hx hb dX1_refusesSpade_24 rfl (lv_at hl 0 rfl) ?_
      refine va_get hx hb hts in_X1 hown hK hP 0 rfl rfl 0 (Nat.le_of_ble_eq_true rfl) (hts _ q180) (fun _ h => h) (v := .ref (ax 0)) rfl dX1_refusesSpade_25 ?_
      refine va_get hx hb hts in_X2 hown hK hP 14 rfl rfl 5 (Nat.le_of_ble_eq_true rfl) (hts _ q148) (fun _ h => h) (v := .int (fd 61)) rfl dX1_refusesSpade_28 ?_
      refine cl_i0 F (va_runS (As := [.int (fd 61)]) (rest := []) ⟨hx, hb, hml, hown, hts⟩ (ct_J10_bitCount h _) (va_cwS 1 hts (lw_S q585 q586 q112 q587) rfl rfl rfl (by decide +kernel) ⟨Nat.le_trans (Nat.le_of_ble_eq_true rfl) hRf, Nat.le_trans (Nat.le_of_ble_eq_true rfl) hRl⟩) ⟨ct_blind, ct_at F hS ct_nP ct_nD⟩ rfl rfl hl.1 rfl (lv_room (Nat.le_of_ble_eq_true rfl)) dX1_refusesSpade_31 ⟨hC, hSl⟩) rfl rfl hP hS ?_
      rintro x3 _ H locs h hP hS
      refine lv_aload_n hx hb dX1_refusesSpade_34 rfl (lv_at hl 0 rfl) ?_
      refine va_get hx hb hts in_X1 hown hK hP 0 rfl rfl 12 (Nat.le_of_ble_eq_true rfl) (hts _ q202) (fun _ h => h) (v := .int (fd 12)) rfl dX1_refusesSpade_35 ?_
      refine lv_icmp_lt (tgt := 46) hx hb dX1_refusesSpade_38 (by decide) (fun c4 => ?_) (fun c4 => ?_)
      · replace h := h.1 c4
        refine lv_iconst (v := (0 : Int32)) hx hb dX1_refusesSpade_46 (by decide) ?_
        exact rt_i F dX1_refusesSpade_47 rfl () h hP hD hS (Nat.le_refl _) (Nat.le_refl _)
      · replace h := h.2 c4
        refine lv_bipush (v := (-2 : Int32)) hx hb dX1_refusesSpade_41 (by decide) ?_
        refine lv_goto (tgt := 47) hx hb dX1_refusesSpade_43 (by decide) ?_
        exact rt_i F dX1_refusesSpade_47 rfl () h hP hD hS (Nat.le_refl _) (Nat.le_refl _)
  · replace h := h.2 c6
    refine lv_iconst (v := (-1 : Int32)) hx hb dX1_refusesSpade_8 (by decide) ?_
    exact rt_i F dX1_refusesSpade_9 rfl () h hP hD hS (Nat.le_refl _) (Nat.le_refl _)
set_option maxHeartbeats 4000000 in
theorem ct_S_treat {l : Launch} {V : evT} {D : va_G} {gI : Nat → ClassId} {o : Nat} {ax : Nat → Nat} {rn : Option (Nat × Nat)} {tl : va_W} {v1 : Int32} {fd : Nat → Int32} {ar : Nat → Nat → Int32} {lw : Nat → Int64} {hh : HT} {Q : Int32 → (Nat → Int32) → (Nat → Nat → Int32) → (HT) → Prop} (h : wp_S_treat v1 fd ar lw hh Q) : ct_i l V D vwCl (tyL gI) yX1_treat cX1_treat 2 .int { frames := 3, cells := 0, slots := 0, locals := 103 } [.ref o, .int v1] (wX gI o ax rn tl fd ar lw hh) (fun u : (Nat → Int32) × (Nat → Nat → Int32) × (HT) => (wX gI o ax rn tl u.1 u.2.1 lw u.2.2)) (fun (x : Int32) (u : (Nat → Int32) × (Nat → Nat → Int32) × (HT)) => Q x u.1 u.2.1 u.2.2) := by
  refine ct_ofi RX1 rfl (by decide +kernel) (Nat.le_of_ble_eq_true rfl) ?_
  intro p e s m args below meth c A F hP hD ls hl
  obtain ⟨⟨hx, hb, hml, hown, hts⟩, hr, hlocks, hA, hK, hE⟩ := id F
  have hS : va_S A s.heap s.heap [] := va_S.rf
  have hl : lv_has ls 2 [(0, .ref o), (1, .int v1)] := hl
  have hRf : 3 ≤ ({ frames := 3, cells := 0, slots := 0, locals := 103 } : Room).frames := Nat.le_refl _
  have hRl : 103 ≤ ({ frames := 3, cells := 0, slots := 0, locals := 103 } : Room).locals := Nat.le_refl _
  have hC : 0 ≤ ({ frames := 3, cells := 0, slots := 0, locals := 103 } : Room).cells := Nat.le_refl _
  have hSl : 0 ≤ ({ frames := 3, cells := 0, slots := 0, locals := 103 } : Room).slots := Nat.le_refl _
  unfold wp_S_treat at h
  refine lv_aload_n hx hb dX1_treat_0 rfl (lv_at hl 0 rfl) ?_
  refine lv_iload_n hx hb dX1_treat_1 rfl (lv_at hl 1 rfl) ?_
  refine cl_i F (va_runV (As := [.int v1]) (rest := []) ⟨hx, hb, hml, hown, hts⟩ (ct_S_isKid h _) (cwV 1 hts (lw_V q647 q649 qs8 q94 q650) rfl rfl rfl (by decide +kernel) ⟨Nat.le_trans (Nat.le_of_ble_eq_true rfl) hRf, Nat.le_trans (Nat.le_of_ble_eq_true rfl) hRl⟩) ⟨ct_blind, va_recv hK hP (ci := 0) (q0 := 0) rfl rfl, ct_at F hS hP hD⟩ rfl rfl hl.1 rfl (lv_room (Nat.le_of_ble_eq_true rfl)) dX1_treat_2 ⟨hC, hSl⟩) rfl rfl hD hS ?_
  rintro x1 _ H locs h hP hD hS
  refine lv_if_ne (tgt := 10) hx hb dX1_treat_5 (by decide) (fun c5 => ?_) (fun c5 => ?_)
  · replace h := h.1 c5
    refine lv_aload_n hx hb dX1_treat_10 rfl (lv_at hl 0 rfl) ?_
    refine lv_aload_n hx hb dX1_treat_11 rfl (lv_at hl 0 rfl) ?_
    refine va_get hx hb hts in_X1 hown hK hP 0 rfl rfl 0 (Nat.le_of_ble_eq_true rfl) (hts _ q180) (fun _ h => h) (v := .ref (ax 0)) rfl dX1_treat_12 ?_
    refine cl_v F (va_runV (As := [.ref (ax 0)]) (rest := []) ⟨hx, hb, hml, hown, hts⟩ (ct_S_remember_i0 h _) (cwV 1 hts (lw_V q655 q657 qs10 q94 q658) rfl rfl rfl (by decide +kernel) ⟨Nat.le_trans (Nat.le_of_ble_eq_true rfl) hRf, Nat.le_trans (Nat.le_of_ble_eq_true rfl) hRl⟩) ⟨ct_blind, va_recv hK hP (ci := 0) (q0 := 0) rfl rfl, ct_at F hS hP hD⟩ rfl rfl hl.1 rfl (lv_room (Nat.le_of_ble_eq_true rfl)) dX1_treat_15 ⟨hC, hSl⟩) rfl rfl hD hS ?_
    rintro ⟨fd2, hh3⟩ H locs h hP hD hS
    refine lv_aload_n hx hb dX1_treat_18 rfl (lv_at hl 0 rfl) ?_
    refine lv_aload_n hx hb dX1_treat_19 rfl (lv_at hl 0 rfl) ?_
    refine va_get hx hb hts in_X1 hown hK hP 0 rfl rfl 0 (Nat.le_of_ble_eq_true rfl) (hts _ q180) (fun _ h => h) (v := .ref (ax 0)) rfl dX1_treat_20 ?_
    refine lv_iload_n hx hb dX1_treat_23 rfl (lv_at hl 1 rfl) ?_
    refine lv_iconst (v := (1 : Int32)) hx hb dX1_treat_24 (by decide) ?_
    refine cl_v F (va_runV (As := [.ref (ax 0), .int v1, .int (1 : Int32)]) (rest := []) ⟨hx, hb, hml, hown, hts⟩ (ct_S_treats_i0 h _) (cwV 3 hts (lw_V q687 q689 qs13 q94 q690) rfl rfl rfl (by decide +kernel) ⟨Nat.le_trans (Nat.le_of_ble_eq_true rfl) hRf, Nat.le_trans (Nat.le_of_ble_eq_true rfl) hRl⟩) ⟨ct_blind, va_recv hK hP (ci := 0) (q0 := 0) rfl rfl, ct_at F hS hP hD⟩ rfl rfl hl.1 rfl (lv_room (Nat.le_of_ble_eq_true rfl)) dX1_treat_25 ⟨hC, hSl⟩) rfl rfl hD hS ?_
    rintro ar4 H locs h hP hD hS
    refine lv_aload_n hx hb dX1_treat_28 rfl (lv_at hl 0 rfl) ?_
    refine va_get hx hb hts in_X1 hown hK hP 0 rfl rfl 0 (Nat.le_of_ble_eq_true rfl) (hts _ q180) (fun _ h => h) (v := .ref (ax 0)) rfl dX1_treat_29 ?_
    refine va_get hx hb hts in_X2 hown hK hP 14 rfl rfl 3 (Nat.le_of_ble_eq_true rfl) (hts _ q144) (fun _ h => h) (v := .ref (ax 43)) rfl dX1_treat_32 ?_
    refine lv_iload_n hx hb dX1_treat_35 rfl (lv_at hl 1 rfl) ?_
    refine va_iald (f := (ar4 43)) hx hb hK hP 18 0 rfl rfl h.1 dX1_treat_36 ?_
    replace h := h.2
    exact rt_i F dX1_treat_37 rfl (fd2, ar4, hh3) h hP hD hS (Nat.le_refl _) (Nat.le_refl _)
  · replace h := h.2 c5
    refine lv_iconst (v := (-1 : Int32)) hx hb dX1_treat_8 (by decide) ?_
    exact rt_i F dX1_treat_9 rfl (fd, ar, hh) h hP hD hS (Nat.le_refl _) (Nat.le_refl _)
set_option maxHeartbeats 4000000 in
theorem lp_S_isBesideFriend_L1_i0 {p : Program} {l : Launch} {e : Env} {R : Room} {s : State} {m : MethodId} {args : Array Value} {below : List Frame} {meth : Method} {c : Code} {cells slots : Nat} {A : Nat → Prop} {Qf : State → Prop} {V : evT} {D : va_G} {gI : Nat → ClassId} {o : Nat} {ax : Nat → Nat} {rn : Option (Nat × Nat)} {tl : va_W} {v2 : Int32} {fd : Nat → Int32} {ar : Nat → Nat → Int32} {lw : Nat → Int64} {hh : HT} {K62 : Prop} {K54 : Prop} (F : ct_F p m c meth cX1_isBesideFriend 4 s args RX1 (some .boolean) A V D vwCl (tyL gI)) (hRf : 2 ≤ R.frames) (hRl : 34 ≤ R.locals) (hC : cells ≤ R.cells) (hSl : slots ≤ R.slots)
    (hK62 : K62 → ∀ (H : Heap) (locs : List Loc) (ls : Array Slot), va_P D vwCl (wX gI o ax rn tl fd ar lw hh) H → va_D A (wX gI o ax rn tl fd ar lw hh) → va_S A s.heap H locs → lv_has ls 4 [] → W p l e R s m args below meth c H locs cells slots Qf (F0 m 62 ls []))
    (hK54 : K54 → ∀ (H : Heap) (locs : List Loc) (ls : Array Slot), va_P D vwCl (wX gI o ax rn tl fd ar lw hh) H → va_D A (wX gI o ax rn tl fd ar lw hh) → va_S A s.heap H locs → lv_has ls 4 [] → W p l e R s m args below meth c H locs cells slots Qf (F0 m 54 ls [])) :
    ∀ (n : Nat) (v3 : Int32), wp_S_isBesideFriend_L1 0 v2 fd ar lw hh K62 K54 n v3 → ∀ (H : Heap) (locs : List Loc) (ls : Array Slot), va_P D vwCl (wX gI o ax rn tl fd ar lw hh) H → va_D A (wX gI o ax rn tl fd ar lw hh) → va_S A s.heap H locs → lv_has ls 4 [(0, .ref o), (1, .ref (ax 0)), (2, .int v2), (3, .int v3)] → W p l e R s m args below meth c H locs cells slots Qf (F0 m 2 ls []) := by
  obtain ⟨⟨hx, hb, hml, hown, hts⟩, hr, hlocks, hA, hK, hE⟩ := id F
  intro n
  induction n with
  | zero => intro v3 h; exact h.elim
  | succ n ih =>
    intro v3 h H locs ls hP hD hS hl
    unfold wp_S_isBesideFriend_L1 at h
    refine lv_iload_n hx hb dX1_isBesideFriend_2 rfl (lv_at hl 3 rfl) ?_
    refine lv_aload_n hx hb dX1_isBesideFriend_3 rfl (lv_at hl 0 rfl) ?_
    refine va_get hx hb hts in_X1 hown hK hP 0 rfl rfl 10 (Nat.le_of_ble_eq_true rfl) (hts _ q199) (fun _ h => h) (v := .int (fd 10)) rfl dX1_isBesideFriend_4 ?_
    refine lv_icmp_ge (tgt := 62) hx hb dX1_isBesideFriend_7 (by decide) (fun c6 => ?_) (fun c6 => ?_)
    · replace h := h.1 c6
      exact hK62  h _ _ _ hP hD hS (lv_sub hl [] rfl)
    · replace h := h.2 c6
      refine lv_iload_n hx hb dX1_isBesideFriend_10 rfl (lv_at hl 3 rfl) ?_
      refine lv_iload_n hx hb dX1_isBesideFriend_11 rfl (lv_at hl 2 rfl) ?_
      refine lv_icmp_eq (tgt := 56) hx hb dX1_isBesideFriend_12 (by decide) (fun c5 => ?_) (fun c5 => ?_)
      · replace h := h.1 c5
        refine lv_iinc (v := (v3 + (1 : Int32))) (lv' := [(3, .int (v3 + (1 : Int32))), (0, .ref o), (1, .ref (ax 0)), (2, .int v2)]) hx hb dX1_isBesideFriend_56 hl (k := 3) rfl rfl (by decide) rfl (fun ls hl => ?_)
        refine lv_goto (tgt := 2) hx hb dX1_isBesideFriend_59 (by decide) ?_
        exact ih _ h _ _ _ hP hD hS (lv_sub hl [1, 2, 3, 0] rfl)
      · replace h := h.2 c5
        refine lv_aload_n hx hb dX1_isBesideFriend_15 rfl (lv_at hl 1 rfl) ?_
        refine va_get hx hb hts in_X2 hown hK hP 14 rfl rfl 2 (Nat.le_of_ble_eq_true rfl) (hts _ q141) (fun _ h => h) (v := .ref (ax 42)) rfl dX1_isBesideFriend_16 ?_
        refine lv_iload_n hx hb dX1_isBesideFriend_19 rfl (lv_at hl 3 rfl) ?_
        refine va_iald (f := (ar 42)) hx hb hK hP 17 0 rfl rfl h.1 dX1_isBesideFriend_20 ?_
        replace h := h.2
        refine lv_iconst (v := (-1 : Int32)) hx hb dX1_isBesideFriend_21 (by decide) ?_
        refine lv_icmp_eq (tgt := 56) hx hb dX1_isBesideFriend_22 (by decide) (fun c4 => ?_) (fun c4 => ?_)
        · replace h := h.1 c4
          refine lv_iinc (v := (v3 + (1 : Int32))) (lv' := [(3, .int (v3 + (1 : Int32))), (0, .ref o), (1, .ref (ax 0)), (2, .int v2)]) hx hb dX1_isBesideFriend_56 hl (k := 3) rfl rfl (by decide) rfl (fun ls hl => ?_)
          refine lv_goto (tgt := 2) hx hb dX1_isBesideFriend_59 (by decide) ?_
          exact ih _ h _ _ _ hP hD hS (lv_sub hl [1, 2, 3, 0] rfl)
        · replace h := h.2 c4
          refine lv_aload_n hx hb dX1_isBesideFriend_25 rfl (lv_at hl 0 rfl) ?_
          refine lv_iload_n hx hb dX1_isBesideFriend_26 rfl (lv_at hl 2 rfl) ?_
          refine lv_iload_n hx hb dX1_isBesideFriend_27 rfl (lv_at hl 3 rfl) ?_
          refine cl_i F (va_runV (As := [.int v2, .int v3]) (rest := []) ⟨hx, hb, hml, hown, hts⟩ (ct_S_areFriends h _) (cwV 2 hts (lw_V q721 q723 qs18 q94 q724) rfl rfl rfl (by decide +kernel) ⟨Nat.le_trans (Nat.le_of_ble_eq_true rfl) hRf, Nat.le_trans (Nat.le_of_ble_eq_true rfl) hRl⟩) ⟨ct_blind, va_recv hK hP (ci := 0) (q0 := 0) rfl rfl, ct_at F hS hP hD⟩ rfl rfl hl.1 rfl (lv_room (Nat.le_of_ble_eq_true rfl)) dX1_isBesideFriend_28 ⟨hC, hSl⟩) rfl rfl hD hS ?_
          rintro x1 _ H locs h hP hD hS
          refine lv_if_eq (tgt := 56) hx hb dX1_isBesideFriend_31 (by decide) (fun c3 => ?_) (fun c3 => ?_)
          · replace h := h.1 c3
            refine lv_iinc (v := (v3 + (1 : Int32))) (lv' := [(3, .int (v3 + (1 : Int32))), (0, .ref o), (1, .ref (ax 0)), (2, .int v2)]) hx hb dX1_isBesideFriend_56 hl (k := 3) rfl rfl (by decide) rfl (fun ls hl => ?_)
            refine lv_goto (tgt := 2) hx hb dX1_isBesideFriend_59 (by decide) ?_
            exact ih _ h _ _ _ hP hD hS (lv_sub hl [1, 2, 3, 0] rfl)
          · replace h := h.2 c3
            refine lv_aload_n hx hb dX1_isBesideFriend_34 rfl (lv_at hl 1 rfl) ?_
            refine va_get hx hb hts in_X2 hown hK hP 14 rfl rfl 2 (Nat.le_of_ble_eq_true rfl) (hts _ q141) (fun _ h => h) (v := .ref (ax 42)) rfl dX1_isBesideFriend_35 ?_
            refine lv_iload_n hx hb dX1_isBesideFriend_38 rfl (lv_at hl 3 rfl) ?_
            refine va_iald (f := (ar 42)) hx hb hK hP 17 0 rfl rfl h.1 dX1_isBesideFriend_39 ?_
            replace h := h.2
            refine lv_aload_n hx hb dX1_isBesideFriend_40 rfl (lv_at hl 1 rfl) ?_
            refine va_get hx hb hts in_X2 hown hK hP 14 rfl rfl 2 (Nat.le_of_ble_eq_true rfl) (hts _ q141) (fun _ h => h) (v := .ref (ax 42)) rfl dX1_isBesideFriend_41 ?_
            refine lv_iload_n hx hb dX1_isBesideFriend_44 rfl (lv_at hl 2 rfl) ?_
            refine va_iald (f := (ar 42)) hx hb hK hP 17 0 rfl rfl h.1 dX1_isBesideFriend_45 ?_
            replace h := h.2
            refine lv_isub hx hb dX1_isBesideFriend_46 ?_
            refine va_mabs hx hb (hml.trans hl.1.symm) hown (hts _ q725) (hts _ q726) (hts _ q100) (hts _ q727) (Nat.le_trans (Nat.le_of_ble_eq_true rfl) hRf) (Nat.le_trans (Nat.le_of_ble_eq_true rfl) hRl) hC hSl dX1_isBesideFriend_47 ?_
            refine lv_iconst (v := (1 : Int32)) hx hb dX1_isBesideFriend_50 (by decide) ?_
            refine lv_icmp_gt (tgt := 56) hx hb dX1_isBesideFriend_51 (by decide) (fun c2 => ?_) (fun c2 => ?_)
            · replace h := h.1 c2
              refine lv_iinc (v := (v3 + (1 : Int32))) (lv' := [(3, .int (v3 + (1 : Int32))), (0, .ref o), (1, .ref (ax 0)), (2, .int v2)]) hx hb dX1_isBesideFriend_56 hl (k := 3) rfl rfl (by decide) rfl (fun ls hl => ?_)
              refine lv_goto (tgt := 2) hx hb dX1_isBesideFriend_59 (by decide) ?_
              exact ih _ h _ _ _ hP hD hS (lv_sub hl [1, 2, 3, 0] rfl)
            · replace h := h.2 c2
              exact hK54  h _ _ _ hP hD hS (lv_sub hl [] rfl)
set_option maxHeartbeats 4000000 in
theorem ct_S_isBesideFriend_i0 {l : Launch} {V : evT} {D : va_G} {gI : Nat → ClassId} {o : Nat} {ax : Nat → Nat} {rn : Option (Nat × Nat)} {tl : va_W} {v2 : Int32} {fd : Nat → Int32} {ar : Nat → Nat → Int32} {lw : Nat → Int64} {hh : HT} {Q : Int32 → Prop} (h : wp_S_isBesideFriend 0 v2 fd ar lw hh Q) : ct_i l V D vwCl (tyL gI) yX1_isBesideFriend cX1_isBesideFriend 4 .boolean { frames := 2, cells := 0, slots := 0, locals := 34 } [.ref o, .ref (ax 0), .int v2] (wX gI o ax rn tl fd ar lw hh) (fun u : Unit => (wX gI o ax rn tl fd ar lw hh)) (fun (x : Int32) (u : Unit) => Q x) := by
  refine ct_ofi RX1 rfl (by decide +kernel) (Nat.le_of_ble_eq_true rfl) ?_
  intro p e s m args below meth c A F hP hD ls hl
  obtain ⟨⟨hx, hb, hml, hown, hts⟩, hr, hlocks, hA, hK, hE⟩ := id F
  have hS : va_S A s.heap s.heap [] := va_S.rf
  have hl : lv_has ls 4 [(0, .ref o), (1, .ref (ax 0)), (2, .int v2)] := hl
  have hRf : 2 ≤ ({ frames := 2, cells := 0, slots := 0, locals := 34 } : Room).frames := Nat.le_refl _
  have hRl : 34 ≤ ({ frames := 2, cells := 0, slots := 0, locals := 34 } : Room).locals := Nat.le_refl _
  have hC : 0 ≤ ({ frames := 2, cells := 0, slots := 0, locals := 34 } : Room).cells := Nat.le_refl _
  have hSl : 0 ≤ ({ frames := 2, cells := 0, slots := 0, locals := 34 } : Room).slots := Nat.le_refl _
  unfold wp_S_isBesideFriend at h
  refine lv_iconst (v := (0 : Int32)) hx hb dX1_isBesideFriend_0 (by decide) ?_
  refine lv_istore_n (lv' := [(3, .int (0 : Int32)), (0, .ref o), (1, .ref (ax 0)), (2, .int v2)]) hx hb dX1_isBesideFriend_1 rfl hl (by decide) rfl (fun ls hl => ?_)
  obtain ⟨k2, h⟩ := h
  refine lp_S_isBesideFriend_L1_i0 F hRf hRl hC hSl ?hk62 ?hk54 k2 _ h _ _ _ hP hD hS (lv_sub hl [1, 2, 3, 0] rfl)
  case hk62 =>
    intro h H locs ls hP hD hS hl
    refine lv_iconst (v := (0 : Int32)) hx hb dX1_isBesideFriend_62 (by decide) ?_
    exact rt_i F dX1_isBesideFriend_63 rfl () h hP hD hS (Nat.le_refl _) (Nat.le_refl _)
  case hk54 =>
    intro h H locs ls hP hD hS hl
    refine lv_iconst (v := (1 : Int32)) hx hb dX1_isBesideFriend_54 (by decide) ?_
    exact rt_i F dX1_isBesideFriend_55 rfl () h hP hD hS (Nat.le_refl _) (Nat.le_refl _)
set_option maxHeartbeats 4000000 in
theorem lp_S_isBesideFriend_L1_i2 {p : Program} {l : Launch} {e : Env} {R : Room} {s : State} {m : MethodId} {args : Array Value} {below : List Frame} {meth : Method} {c : Code} {cells slots : Nat} {A : Nat → Prop} {Qf : State → Prop} {V : evT} {D : va_G} {gI : Nat → ClassId} {o : Nat} {ax : Nat → Nat} {rn : Option (Nat × Nat)} {tl : va_W} {v2 : Int32} {fd : Nat → Int32} {ar : Nat → Nat → Int32} {lw : Nat → Int64} {hh : HT} {K62 : Prop} {K54 : Prop} (F : ct_F p m c meth cX1_isBesideFriend 4 s args RX1 (some .boolean) A V D vwCl (tyL gI)) (hRf : 2 ≤ R.frames) (hRl : 34 ≤ R.locals) (hC : cells ≤ R.cells) (hSl : slots ≤ R.slots)
    (hK62 : K62 → ∀ (H : Heap) (locs : List Loc) (ls : Array Slot), va_P D vwCl (wX gI o ax rn tl fd ar lw hh) H → va_D A (wX gI o ax rn tl fd ar lw hh) → va_S A s.heap H locs → lv_has ls 4 [] → W p l e R s m args below meth c H locs cells slots Qf (F0 m 62 ls []))
    (hK54 : K54 → ∀ (H : Heap) (locs : List Loc) (ls : Array Slot), va_P D vwCl (wX gI o ax rn tl fd ar lw hh) H → va_D A (wX gI o ax rn tl fd ar lw hh) → va_S A s.heap H locs → lv_has ls 4 [] → W p l e R s m args below meth c H locs cells slots Qf (F0 m 54 ls [])) :
    ∀ (n : Nat) (v3 : Int32), wp_S_isBesideFriend_L1 2 v2 fd ar lw hh K62 K54 n v3 → ∀ (H : Heap) (locs : List Loc) (ls : Array Slot), va_P D vwCl (wX gI o ax rn tl fd ar lw hh) H → va_D A (wX gI o ax rn tl fd ar lw hh) → va_S A s.heap H locs → lv_has ls 4 [(0, .ref o), (1, .ref (ax 2)), (2, .int v2), (3, .int v3)] → W p l e R s m args below meth c H locs cells slots Qf (F0 m 2 ls []) := by
  obtain ⟨⟨hx, hb, hml, hown, hts⟩, hr, hlocks, hA, hK, hE⟩ := id F
  intro n
  induction n with
  | zero => intro v3 h; exact h.elim
  | succ n ih =>
    intro v3 h H locs ls hP hD hS hl
    unfold wp_S_isBesideFriend_L1 at h
    refine lv_iload_n hx hb dX1_isBesideFriend_2 rfl (lv_at hl 3 rfl) ?_
    refine lv_aload_n hx hb dX1_isBesideFriend_3 rfl (lv_at hl 0 rfl) ?_
    refine va_get hx hb hts in_X1 hown hK hP 0 rfl rfl 10 (Nat.le_of_ble_eq_true rfl) (hts _ q199) (fun _ h => h) (v := .int (fd 10)) rfl dX1_isBesideFriend_4 ?_
    refine lv_icmp_ge (tgt := 62) hx hb dX1_isBesideFriend_7 (by decide) (fun c6 => ?_) (fun c6 => ?_)
    · replace h := h.1 c6
      exact hK62  h _ _ _ hP hD hS (lv_sub hl [] rfl)
    · replace h := h.2 c6
      refine lv_iload_n hx hb dX1_isBesideFriend_10 rfl (lv_at hl 3 rfl) ?_
      refine lv_iload_n hx hb dX1_isBesideFriend_11 rfl (lv_at hl 2 rfl) ?_
      refine lv_icmp_eq (tgt := 56) hx hb dX1_isBesideFriend_12 (by decide) (fun c5 => ?_) (fun c5 => ?_)
      · replace h := h.1 c5
        refine lv_iinc (v := (v3 + (1 : Int32))) (lv' := [(3, .int (v3 + (1 : Int32))), (0, .ref o), (1, .ref (ax 2)), (2, .int v2)]) hx hb dX1_isBesideFriend_56 hl (k := 3) rfl rfl (by decide) rfl (fun ls hl => ?_)
        refine lv_goto (tgt := 2) hx hb dX1_isBesideFriend_59 (by decide) ?_
        exact ih _ h _ _ _ hP hD hS (lv_sub hl [1, 2, 3, 0] rfl)
      · replace h := h.2 c5
        refine lv_aload_n hx hb dX1_isBesideFriend_15 rfl (lv_at hl 1 rfl) ?_
        refine va_get hx hb hts in_X2 hown hK hP 24 rfl rfl 2 (Nat.le_of_ble_eq_true rfl) (hts _ q141) (fun _ h => h) (v := .ref (ax 50)) rfl dX1_isBesideFriend_16 ?_
        refine lv_iload_n hx hb dX1_isBesideFriend_19 rfl (lv_at hl 3 rfl) ?_
        refine va_iald (f := (ar 50)) hx hb hK hP 27 0 rfl rfl h.1 dX1_isBesideFriend_20 ?_
        replace h := h.2
        refine lv_iconst (v := (-1 : Int32)) hx hb dX1_isBesideFriend_21 (by decide) ?_
        refine lv_icmp_eq (tgt := 56) hx hb dX1_isBesideFriend_22 (by decide) (fun c4 => ?_) (fun c4 => ?_)
        · replace h := h.1 c4
          refine lv_iinc (v := (v3 + (1 : Int32))) (lv' := [(3, .int (v3 + (1 : Int32))), (0, .ref o), (1, .ref (ax 2)), (2, .int v2)]) hx hb dX1_isBesideFriend_56 hl (k := 3) rfl rfl (by decide) rfl (fun ls hl => ?_)
          refine lv_goto (tgt := 2) hx hb dX1_isBesideFriend_59 (by decide) ?_
          exact ih _ h _ _ _ hP hD hS (lv_sub hl [1, 2, 3, 0] rfl)
        · replace h := h.2 c4
          refine lv_aload_n hx hb dX1_isBesideFriend_25 rfl (lv_at hl 0 rfl) ?_
          refine lv_iload_n hx hb dX1_isBesideFriend_26 rfl (lv_at hl 2 rfl) ?_
          refine lv_iload_n hx hb dX1_isBesideFriend_27 rfl (lv_at hl 3 rfl) ?_
          refine cl_i F (va_runV (As := [.int v2, .int v3]) (rest := []) ⟨hx, hb, hml, hown, hts⟩ (ct_S_areFriends h _) (cwV 2 hts (lw_V q721 q723 qs18 q94 q724) rfl rfl rfl (by decide +kernel) ⟨Nat.le_trans (Nat.le_of_ble_eq_true rfl) hRf, Nat.le_trans (Nat.le_of_ble_eq_true rfl) hRl⟩) ⟨ct_blind, va_recv hK hP (ci := 0) (q0 := 0) rfl rfl, ct_at F hS hP hD⟩ rfl rfl hl.1 rfl (lv_room (Nat.le_of_ble_eq_true rfl)) dX1_isBesideFriend_28 ⟨hC, hSl⟩) rfl rfl hD hS ?_
          rintro x1 _ H locs h hP hD hS
          refine lv_if_eq (tgt := 56) hx hb dX1_isBesideFriend_31 (by decide) (fun c3 => ?_) (fun c3 => ?_)
          · replace h := h.1 c3
            refine lv_iinc (v := (v3 + (1 : Int32))) (lv' := [(3, .int (v3 + (1 : Int32))), (0, .ref o), (1, .ref (ax 2)), (2, .int v2)]) hx hb dX1_isBesideFriend_56 hl (k := 3) rfl rfl (by decide) rfl (fun ls hl => ?_)
            refine lv_goto (tgt := 2) hx hb dX1_isBesideFriend_59 (by decide) ?_
            exact ih _ h _ _ _ hP hD hS (lv_sub hl [1, 2, 3, 0] rfl)
          · replace h := h.2 c3
            refine lv_aload_n hx hb dX1_isBesideFriend_34 rfl (lv_at hl 1 rfl) ?_
            refine va_get hx hb hts in_X2 hown hK hP 24 rfl rfl 2 (Nat.le_of_ble_eq_true rfl) (hts _ q141) (fun _ h => h) (v := .ref (ax 50)) rfl dX1_isBesideFriend_35 ?_
            refine lv_iload_n hx hb dX1_isBesideFriend_38 rfl (lv_at hl 3 rfl) ?_
            refine va_iald (f := (ar 50)) hx hb hK hP 27 0 rfl rfl h.1 dX1_isBesideFriend_39 ?_
            replace h := h.2
            refine lv_aload_n hx hb dX1_isBesideFriend_40 rfl (lv_at hl 1 rfl) ?_
            refine va_get hx hb hts in_X2 hown hK hP 24 rfl rfl 2 (Nat.le_of_ble_eq_true rfl) (hts _ q141) (fun _ h => h) (v := .ref (ax 50)) rfl dX1_isBesideFriend_41 ?_
            refine lv_iload_n hx hb dX1_isBesideFriend_44 rfl (lv_at hl 2 rfl) ?_
            refine va_iald (f := (ar 50)) hx hb hK hP 27 0 rfl rfl h.1 dX1_isBesideFriend_45 ?_
            replace h := h.2
            refine lv_isub hx hb dX1_isBesideFriend_46 ?_
            refine va_mabs hx hb (hml.trans hl.1.symm) hown (hts _ q725) (hts _ q726) (hts _ q100) (hts _ q727) (Nat.le_trans (Nat.le_of_ble_eq_true rfl) hRf) (Nat.le_trans (Nat.le_of_ble_eq_true rfl) hRl) hC hSl dX1_isBesideFriend_47 ?_
            refine lv_iconst (v := (1 : Int32)) hx hb dX1_isBesideFriend_50 (by decide) ?_
            refine lv_icmp_gt (tgt := 56) hx hb dX1_isBesideFriend_51 (by decide) (fun c2 => ?_) (fun c2 => ?_)
            · replace h := h.1 c2
              refine lv_iinc (v := (v3 + (1 : Int32))) (lv' := [(3, .int (v3 + (1 : Int32))), (0, .ref o), (1, .ref (ax 2)), (2, .int v2)]) hx hb dX1_isBesideFriend_56 hl (k := 3) rfl rfl (by decide) rfl (fun ls hl => ?_)
              refine lv_goto (tgt := 2) hx hb dX1_isBesideFriend_59 (by decide) ?_
              exact ih _ h _ _ _ hP hD hS (lv_sub hl [1, 2, 3, 0] rfl)
            · replace h := h.2 c2
              exact hK54  h _ _ _ hP hD hS (lv_sub hl [] rfl)
set_option maxHeartbeats 4000000 in
theorem ct_S_isBesideFriend_i2 {l : Launch} {V : evT} {D : va_G} {gI : Nat → ClassId} {o : Nat} {ax : Nat → Nat} {rn : Option (Nat × Nat)} {tl : va_W} {v2 : Int32} {fd : Nat → Int32} {ar : Nat → Nat → Int32} {lw : Nat → Int64} {hh : HT} {Q : Int32 → Prop} (h : wp_S_isBesideFriend 2 v2 fd ar lw hh Q) : ct_i l V D vwCl (tyL gI) yX1_isBesideFriend cX1_isBesideFriend 4 .boolean { frames := 2, cells := 0, slots := 0, locals := 34 } [.ref o, .ref (ax 2), .int v2] (wX gI o ax rn tl fd ar lw hh) (fun u : Unit => (wX gI o ax rn tl fd ar lw hh)) (fun (x : Int32) (u : Unit) => Q x) := by
  refine ct_ofi RX1 rfl (by decide +kernel) (Nat.le_of_ble_eq_true rfl) ?_
  intro p e s m args below meth c A F hP hD ls hl
  obtain ⟨⟨hx, hb, hml, hown, hts⟩, hr, hlocks, hA, hK, hE⟩ := id F
  have hS : va_S A s.heap s.heap [] := va_S.rf
  have hl : lv_has ls 4 [(0, .ref o), (1, .ref (ax 2)), (2, .int v2)] := hl
  have hRf : 2 ≤ ({ frames := 2, cells := 0, slots := 0, locals := 34 } : Room).frames := Nat.le_refl _
  have hRl : 34 ≤ ({ frames := 2, cells := 0, slots := 0, locals := 34 } : Room).locals := Nat.le_refl _
  have hC : 0 ≤ ({ frames := 2, cells := 0, slots := 0, locals := 34 } : Room).cells := Nat.le_refl _
  have hSl : 0 ≤ ({ frames := 2, cells := 0, slots := 0, locals := 34 } : Room).slots := Nat.le_refl _
  unfold wp_S_isBesideFriend at h
  refine lv_iconst (v := (0 : Int32)) hx hb dX1_isBesideFriend_0 (by decide) ?_
  refine lv_istore_n (lv' := [(3, .int (0 : Int32)), (0, .ref o), (1, .ref (ax 2)), (2, .int v2)]) hx hb dX1_isBesideFriend_1 rfl hl (by decide) rfl (fun ls hl => ?_)
  obtain ⟨k2, h⟩ := h
  refine lp_S_isBesideFriend_L1_i2 F hRf hRl hC hSl ?hk62 ?hk54 k2 _ h _ _ _ hP hD hS (lv_sub hl [1, 2, 3, 0] rfl)
  case hk62 =>
    intro h H locs ls hP hD hS hl
    refine lv_iconst (v := (0 : Int32)) hx hb dX1_isBesideFriend_62 (by decide) ?_
    exact rt_i F dX1_isBesideFriend_63 rfl () h hP hD hS (Nat.le_refl _) (Nat.le_refl _)
  case hk54 =>
    intro h H locs ls hP hD hS hl
    refine lv_iconst (v := (1 : Int32)) hx hb dX1_isBesideFriend_54 (by decide) ?_
    exact rt_i F dX1_isBesideFriend_55 rfl () h hP hD hS (Nat.le_refl _) (Nat.le_refl _)
set_option maxHeartbeats 4000000 in
theorem lp_S_below_L1_i0 {p : Program} {l : Launch} {e : Env} {R : Room} {s : State} {m : MethodId} {args : Array Value} {below : List Frame} {meth : Method} {c : Code} {cells slots : Nat} {A : Nat → Prop} {Qf : State → Prop} {V : evT} {D : va_G} {gI : Nat → ClassId} {o : Nat} {ax : Nat → Nat} {rn : Option (Nat × Nat)} {tl : va_W} {v2 : Int32} {fd : Nat → Int32} {ar : Nat → Nat → Int32} {lw : Nat → Int64} {hh : HT} {K42 : (Int32) → Prop} (F : ct_F p m c meth cX1_below 5 s args RX1 (some .int) A V D vwCl (tyL gI)) (hRf : 2 ≤ R.frames) (hRl : 34 ≤ R.locals) (hC : cells ≤ R.cells) (hSl : slots ≤ R.slots)
    (hK42 : ∀ (v3 : Int32), K42 v3 → ∀ (H : Heap) (locs : List Loc) (ls : Array Slot), va_P D vwCl (wX gI o ax rn tl fd ar lw hh) H → va_D A (wX gI o ax rn tl fd ar lw hh) → va_S A s.heap H locs → lv_has ls 5 [(3, .int v3)] → W p l e R s m args below meth c H locs cells slots Qf (F0 m 42 ls [])) :
    ∀ (n : Nat) (v3 : Int32) (v4 : Int32), wp_S_below_L1 0 v2 fd ar lw hh K42 n v3 v4 → ∀ (H : Heap) (locs : List Loc) (ls : Array Slot), va_P D vwCl (wX gI o ax rn tl fd ar lw hh) H → va_D A (wX gI o ax rn tl fd ar lw hh) → va_S A s.heap H locs → lv_has ls 5 [(0, .ref o), (1, .ref (ax 0)), (2, .int v2), (3, .int v3), (4, .int v4)] → W p l e R s m args below meth c H locs cells slots Qf (F0 m 5 ls []) := by
  obtain ⟨⟨hx, hb, hml, hown, hts⟩, hr, hlocks, hA, hK, hE⟩ := id F
  intro n
  induction n with
  | zero => intro v3 v4 h; exact h.elim
  | succ n ih =>
    intro v3 v4 h H locs ls hP hD hS hl
    unfold wp_S_below_L1 at h
    refine lv_iload hx hb dX1_below_5 (lv_at hl 4 rfl) ?_
    refine lv_aload_n hx hb dX1_below_7 rfl (lv_at hl 0 rfl) ?_
    refine va_get hx hb hts in_X1 hown hK hP 0 rfl rfl 9 (Nat.le_of_ble_eq_true rfl) (hts _ q195) (fun _ h => h) (v := .int (fd 9)) rfl dX1_below_8 ?_
    refine lv_icmp_ge (tgt := 42) hx hb dX1_below_11 (by decide) (fun c3 => ?_) (fun c3 => ?_)
    · replace h := h.1 c3
      exact hK42 _ h _ _ _ hP hD hS (lv_sub hl [3] rfl)
    · replace h := h.2 c3
      refine lv_iload_n hx hb dX1_below_14 rfl (lv_at hl 3 rfl) ?_
      refine lv_iload_n hx hb dX1_below_15 rfl (lv_at hl 2 rfl) ?_
      refine lv_aload_n hx hb dX1_below_16 rfl (lv_at hl 0 rfl) ?_
      refine lv_aload_n hx hb dX1_below_17 rfl (lv_at hl 1 rfl) ?_
      refine lv_iload hx hb dX1_below_18 (lv_at hl 4 rfl) ?_
      refine cl_i F (va_runV (As := [.ref (ax 0), .int v4]) (rest := [.int v2, .int v3]) ⟨hx, hb, hml, hown, hts⟩ (ct_S_topOf_i0 h _) (cwV 2 hts (lw_V q756 q758 qs23 q94 q759) rfl rfl rfl (by decide +kernel) ⟨Nat.le_trans (Nat.le_of_ble_eq_true rfl) hRf, Nat.le_trans (Nat.le_of_ble_eq_true rfl) hRl⟩) ⟨ct_blind, va_recv hK hP (ci := 0) (q0 := 0) rfl rfl, ct_at F hS hP hD⟩ rfl rfl hl.1 rfl (lv_room (Nat.le_of_ble_eq_true rfl)) dX1_below_20 ⟨hC, hSl⟩) rfl rfl hD hS ?_
      rintro x1 _ H locs h hP hD hS
      refine lv_icmp_le (tgt := 33) hx hb dX1_below_23 (by decide) (fun c2 => ?_) (fun c2 => ?_)
      · replace h := h.1 c2
        refine lv_iconst (v := (0 : Int32)) hx hb dX1_below_33 (by decide) ?_
        refine lv_ior hx hb dX1_below_34 ?_
        refine lv_istore_n (lv' := [(3, .int (v3 ||| (0 : Int32))), (0, .ref o), (1, .ref (ax 0)), (2, .int v2), (4, .int v4)]) hx hb dX1_below_35 rfl hl (by decide) rfl (fun ls hl => ?_)
        refine lv_iinc (v := (v4 + (1 : Int32))) (lv' := [(4, .int (v4 + (1 : Int32))), (3, .int (v3 ||| (0 : Int32))), (0, .ref o), (1, .ref (ax 0)), (2, .int v2)]) hx hb dX1_below_36 hl (k := 4) rfl rfl (by decide) rfl (fun ls hl => ?_)
        refine lv_goto (tgt := 5) hx hb dX1_below_39 (by decide) ?_
        exact ih _ _ h _ _ _ hP hD hS (lv_sub hl [2, 3, 4, 1, 0] rfl)
      · replace h := h.2 c2
        refine lv_iconst (v := (1 : Int32)) hx hb dX1_below_26 (by decide) ?_
        refine lv_iload hx hb dX1_below_27 (lv_at hl 4 rfl) ?_
        refine lv_ishl hx hb dX1_below_29 ?_
        refine lv_goto (tgt := 34) hx hb dX1_below_30 (by decide) ?_
        refine lv_ior hx hb dX1_below_34 ?_
        refine lv_istore_n (lv' := [(3, .int (v3 ||| ((1 : Int32) <<< (v4 &&& 31)))), (0, .ref o), (1, .ref (ax 0)), (2, .int v2), (4, .int v4)]) hx hb dX1_below_35 rfl hl (by decide) rfl (fun ls hl => ?_)
        refine lv_iinc (v := (v4 + (1 : Int32))) (lv' := [(4, .int (v4 + (1 : Int32))), (3, .int (v3 ||| ((1 : Int32) <<< (v4 &&& 31)))), (0, .ref o), (1, .ref (ax 0)), (2, .int v2)]) hx hb dX1_below_36 hl (k := 4) rfl rfl (by decide) rfl (fun ls hl => ?_)
        refine lv_goto (tgt := 5) hx hb dX1_below_39 (by decide) ?_
        exact ih _ _ h _ _ _ hP hD hS (lv_sub hl [2, 3, 4, 1, 0] rfl)
set_option maxHeartbeats 4000000 in
theorem ct_S_below_i0 {l : Launch} {V : evT} {D : va_G} {gI : Nat → ClassId} {o : Nat} {ax : Nat → Nat} {rn : Option (Nat × Nat)} {tl : va_W} {v2 : Int32} {fd : Nat → Int32} {ar : Nat → Nat → Int32} {lw : Nat → Int64} {hh : HT} {Q : Int32 → Prop} (h : wp_S_below 0 v2 fd ar lw hh Q) : ct_i l V D vwCl (tyL gI) yX1_below cX1_below 5 .int { frames := 2, cells := 0, slots := 0, locals := 34 } [.ref o, .ref (ax 0), .int v2] (wX gI o ax rn tl fd ar lw hh) (fun u : Unit => (wX gI o ax rn tl fd ar lw hh)) (fun (x : Int32) (u : Unit) => Q x) := by
  refine ct_ofi RX1 rfl (by decide +kernel) (Nat.le_of_ble_eq_true rfl) ?_
  intro p e s m args below meth c A F hP hD ls hl
  obtain ⟨⟨hx, hb, hml, hown, hts⟩, hr, hlocks, hA, hK, hE⟩ := id F
  have hS : va_S A s.heap s.heap [] := va_S.rf
  have hl : lv_has ls 5 [(0, .ref o), (1, .ref (ax 0)), (2, .int v2)] := hl
  have hRf : 2 ≤ ({ frames := 2, cells := 0, slots := 0, locals := 34 } : Room).frames := Nat.le_refl _
  have hRl : 34 ≤ ({ frames := 2, cells := 0, slots := 0, locals := 34 } : Room).locals := Nat.le_refl _
  have hC : 0 ≤ ({ frames := 2, cells := 0, slots := 0, locals := 34 } : Room).cells := Nat.le_refl _
  have hSl : 0 ≤ ({ frames := 2, cells := 0, slots := 0, locals := 34 } : Room).slots := Nat.le_refl _
  unfold wp_S_below at h
  refine lv_iconst (v := (0 : Int32)) hx hb dX1_below_0 (by decide) ?_
  refine lv_istore_n (lv' := [(3, .int (0 : Int32)), (0, .ref o), (1, .ref (ax 0)), (2, .int v2)]) hx hb dX1_below_1 rfl hl (by decide) rfl (fun ls hl => ?_)
  refine lv_iconst (v := (0 : Int32)) hx hb dX1_below_2 (by decide) ?_
  refine lv_istore (lv' := [(4, .int (0 : Int32)), (3, .int (0 : Int32)), (0, .ref o), (1, .ref (ax 0)), (2, .int v2)]) hx hb dX1_below_3 hl (by decide) rfl (fun ls hl => ?_)
  obtain ⟨k5, h⟩ := h
  refine lp_S_below_L1_i0 F hRf hRl hC hSl ?hk42 k5 _ _ h _ _ _ hP hD hS (lv_sub hl [2, 3, 4, 1, 0] rfl)
  case hk42 =>
    intro v3_4 h H locs ls hP hD hS hl
    refine lv_iload_n hx hb dX1_below_42 rfl (lv_at hl 0 rfl) ?_
    exact rt_i F dX1_below_43 rfl () h hP hD hS (Nat.le_refl _) (Nat.le_refl _)
set_option maxHeartbeats 4000000 in
theorem lp_S_below_L1_i2 {p : Program} {l : Launch} {e : Env} {R : Room} {s : State} {m : MethodId} {args : Array Value} {below : List Frame} {meth : Method} {c : Code} {cells slots : Nat} {A : Nat → Prop} {Qf : State → Prop} {V : evT} {D : va_G} {gI : Nat → ClassId} {o : Nat} {ax : Nat → Nat} {rn : Option (Nat × Nat)} {tl : va_W} {v2 : Int32} {fd : Nat → Int32} {ar : Nat → Nat → Int32} {lw : Nat → Int64} {hh : HT} {K42 : (Int32) → Prop} (F : ct_F p m c meth cX1_below 5 s args RX1 (some .int) A V D vwCl (tyL gI)) (hRf : 2 ≤ R.frames) (hRl : 34 ≤ R.locals) (hC : cells ≤ R.cells) (hSl : slots ≤ R.slots)
    (hK42 : ∀ (v3 : Int32), K42 v3 → ∀ (H : Heap) (locs : List Loc) (ls : Array Slot), va_P D vwCl (wX gI o ax rn tl fd ar lw hh) H → va_D A (wX gI o ax rn tl fd ar lw hh) → va_S A s.heap H locs → lv_has ls 5 [(3, .int v3)] → W p l e R s m args below meth c H locs cells slots Qf (F0 m 42 ls [])) :
    ∀ (n : Nat) (v3 : Int32) (v4 : Int32), wp_S_below_L1 2 v2 fd ar lw hh K42 n v3 v4 → ∀ (H : Heap) (locs : List Loc) (ls : Array Slot), va_P D vwCl (wX gI o ax rn tl fd ar lw hh) H → va_D A (wX gI o ax rn tl fd ar lw hh) → va_S A s.heap H locs → lv_has ls 5 [(0, .ref o), (1, .ref (ax 2)), (2, .int v2), (3, .int v3), (4, .int v4)] → W p l e R s m args below meth c H locs cells slots Qf (F0 m 5 ls []) := by
  obtain ⟨⟨hx, hb, hml, hown, hts⟩, hr, hlocks, hA, hK, hE⟩ := id F
  intro n
  induction n with
  | zero => intro v3 v4 h; exact h.elim
  | succ n ih =>
    intro v3 v4 h H locs ls hP hD hS hl
    unfold wp_S_below_L1 at h
    refine lv_iload hx hb dX1_below_5 (lv_at hl 4 rfl) ?_
    refine lv_aload_n hx hb dX1_below_7 rfl (lv_at hl 0 rfl) ?_
    refine va_get hx hb hts in_X1 hown hK hP 0 rfl rfl 9 (Nat.le_of_ble_eq_true rfl) (hts _ q195) (fun _ h => h) (v := .int (fd 9)) rfl dX1_below_8 ?_
    refine lv_icmp_ge (tgt := 42) hx hb dX1_below_11 (by decide) (fun c3 => ?_) (fun c3 => ?_)
    · replace h := h.1 c3
      exact hK42 _ h _ _ _ hP hD hS (lv_sub hl [3] rfl)
    · replace h := h.2 c3
      refine lv_iload_n hx hb dX1_below_14 rfl (lv_at hl 3 rfl) ?_
      refine lv_iload_n hx hb dX1_below_15 rfl (lv_at hl 2 rfl) ?_
      refine lv_aload_n hx hb dX1_below_16 rfl (lv_at hl 0 rfl) ?_
      refine lv_aload_n hx hb dX1_below_17 rfl (lv_at hl 1 rfl) ?_
      refine lv_iload hx hb dX1_below_18 (lv_at hl 4 rfl) ?_
      refine cl_i F (va_runV (As := [.ref (ax 2), .int v4]) (rest := [.int v2, .int v3]) ⟨hx, hb, hml, hown, hts⟩ (ct_S_topOf_i2 h _) (cwV 2 hts (lw_V q756 q758 qs23 q94 q759) rfl rfl rfl (by decide +kernel) ⟨Nat.le_trans (Nat.le_of_ble_eq_true rfl) hRf, Nat.le_trans (Nat.le_of_ble_eq_true rfl) hRl⟩) ⟨ct_blind, va_recv hK hP (ci := 0) (q0 := 0) rfl rfl, ct_at F hS hP hD⟩ rfl rfl hl.1 rfl (lv_room (Nat.le_of_ble_eq_true rfl)) dX1_below_20 ⟨hC, hSl⟩) rfl rfl hD hS ?_
      rintro x1 _ H locs h hP hD hS
      refine lv_icmp_le (tgt := 33) hx hb dX1_below_23 (by decide) (fun c2 => ?_) (fun c2 => ?_)
      · replace h := h.1 c2
        refine lv_iconst (v := (0 : Int32)) hx hb dX1_below_33 (by decide) ?_
        refine lv_ior hx hb dX1_below_34 ?_
        refine lv_istore_n (lv' := [(3, .int (v3 ||| (0 : Int32))), (0, .ref o), (1, .ref (ax 2)), (2, .int v2), (4, .int v4)]) hx hb dX1_below_35 rfl hl (by decide) rfl (fun ls hl => ?_)
        refine lv_iinc (v := (v4 + (1 : Int32))) (lv' := [(4, .int (v4 + (1 : Int32))), (3, .int (v3 ||| (0 : Int32))), (0, .ref o), (1, .ref (ax 2)), (2, .int v2)]) hx hb dX1_below_36 hl (k := 4) rfl rfl (by decide) rfl (fun ls hl => ?_)
        refine lv_goto (tgt := 5) hx hb dX1_below_39 (by decide) ?_
        exact ih _ _ h _ _ _ hP hD hS (lv_sub hl [2, 3, 4, 1, 0] rfl)
      · replace h := h.2 c2
        refine lv_iconst (v := (1 : Int32)) hx hb dX1_below_26 (by decide) ?_
        refine lv_iload hx hb dX1_below_27 (lv_at hl 4 rfl) ?_
        refine lv_ishl hx hb dX1_below_29 ?_
        refine lv_goto (tgt := 34) hx hb dX1_below_30 (by decide) ?_
        refine lv_ior hx hb dX1_below_34 ?_
        refine lv_istore_n (lv' := [(3, .int (v3 ||| ((1 : Int32) <<< (v4 &&& 31)))), (0, .ref o), (1, .ref (ax 2)), (2, .int v2), (4, .int v4)]) hx hb dX1_below_35 rfl hl (by decide) rfl (fun ls hl => ?_)
        refine lv_iinc (v := (v4 + (1 : Int32))) (lv' := [(4, .int (v4 + (1 : Int32))), (3, .int (v3 ||| ((1 : Int32) <<< (v4 &&& 31)))), (0, .ref o), (1, .ref (ax 2)), (2, .int v2)]) hx hb dX1_below_36 hl (k := 4) rfl rfl (by decide) rfl (fun ls hl => ?_)
        refine lv_goto (tgt := 5) hx hb dX1_below_39 (by decide) ?_
        exact ih _ _ h _ _ _ hP hD hS (lv_sub hl [2, 3, 4, 1, 0] rfl)
set_option maxHeartbeats 4000000 in
theorem ct_S_below_i2 {l : Launch} {V : evT} {D : va_G} {gI : Nat → ClassId} {o : Nat} {ax : Nat → Nat} {rn : Option (Nat × Nat)} {tl : va_W} {v2 : Int32} {fd : Nat → Int32} {ar : Nat → Nat → Int32} {lw : Nat → Int64} {hh : HT} {Q : Int32 → Prop} (h : wp_S_below 2 v2 fd ar lw hh Q) : ct_i l V D vwCl (tyL gI) yX1_below cX1_below 5 .int { frames := 2, cells := 0, slots := 0, locals := 34 } [.ref o, .ref (ax 2), .int v2] (wX gI o ax rn tl fd ar lw hh) (fun u : Unit => (wX gI o ax rn tl fd ar lw hh)) (fun (x : Int32) (u : Unit) => Q x) := by
  refine ct_ofi RX1 rfl (by decide +kernel) (Nat.le_of_ble_eq_true rfl) ?_
  intro p e s m args below meth c A F hP hD ls hl
  obtain ⟨⟨hx, hb, hml, hown, hts⟩, hr, hlocks, hA, hK, hE⟩ := id F
  have hS : va_S A s.heap s.heap [] := va_S.rf
  have hl : lv_has ls 5 [(0, .ref o), (1, .ref (ax 2)), (2, .int v2)] := hl
  have hRf : 2 ≤ ({ frames := 2, cells := 0, slots := 0, locals := 34 } : Room).frames := Nat.le_refl _
  have hRl : 34 ≤ ({ frames := 2, cells := 0, slots := 0, locals := 34 } : Room).locals := Nat.le_refl _
  have hC : 0 ≤ ({ frames := 2, cells := 0, slots := 0, locals := 34 } : Room).cells := Nat.le_refl _
  have hSl : 0 ≤ ({ frames := 2, cells := 0, slots := 0, locals := 34 } : Room).slots := Nat.le_refl _
  unfold wp_S_below at h
  refine lv_iconst (v := (0 : Int32)) hx hb dX1_below_0 (by decide) ?_
  refine lv_istore_n (lv' := [(3, .int (0 : Int32)), (0, .ref o), (1, .ref (ax 2)), (2, .int v2)]) hx hb dX1_below_1 rfl hl (by decide) rfl (fun ls hl => ?_)
  refine lv_iconst (v := (0 : Int32)) hx hb dX1_below_2 (by decide) ?_
  refine lv_istore (lv' := [(4, .int (0 : Int32)), (3, .int (0 : Int32)), (0, .ref o), (1, .ref (ax 2)), (2, .int v2)]) hx hb dX1_below_3 hl (by decide) rfl (fun ls hl => ?_)
  obtain ⟨k5, h⟩ := h
  refine lp_S_below_L1_i2 F hRf hRl hC hSl ?hk42 k5 _ _ h _ _ _ hP hD hS (lv_sub hl [2, 3, 4, 1, 0] rfl)
  case hk42 =>
    intro v3_4 h H locs ls hP hD hS hl
    refine lv_iload_n hx hb dX1_below_42 rfl (lv_at hl 0 rfl) ?_
    exact rt_i F dX1_below_43 rfl () h hP hD hS (Nat.le_refl _) (Nat.le_refl _)
set_option maxHeartbeats 4000000 in
theorem ct_S_floods {l : Launch} {V : evT} {D : va_G} {gI : Nat → ClassId} {o : Nat} {ax : Nat → Nat} {rn : Option (Nat × Nat)} {tl : va_W} {v1 : Int32} {v2 : Int32} {fd : Nat → Int32} {ar : Nat → Nat → Int32} {lw : Nat → Int64} {hh : HT} {Q : Int32 → (Nat → Int32) → (Nat → Nat → Int32) → (Nat → Int64) → Prop} (h : wp_S_floods v1 v2 fd ar lw hh Q) : ct_i l V D vwCl (tyL gI) yX1_floods cX1_floods 4 .int { frames := 4, cells := 0, slots := 0, locals := 83 } [.ref o, .int v1, .int v2] (wX gI o ax rn tl fd ar lw hh) (fun u : (Nat → Int32) × (Nat → Nat → Int32) × (Nat → Int64) => (wX gI o ax rn tl u.1 u.2.1 u.2.2 hh)) (fun (x : Int32) (u : (Nat → Int32) × (Nat → Nat → Int32) × (Nat → Int64)) => Q x u.1 u.2.1 u.2.2) := by
  refine ct_ofi RX1 rfl (by decide +kernel) (Nat.le_of_ble_eq_true rfl) ?_
  intro p e s m args below meth c A F hP hD ls hl
  obtain ⟨⟨hx, hb, hml, hown, hts⟩, hr, hlocks, hA, hK, hE⟩ := id F
  have hS : va_S A s.heap s.heap [] := va_S.rf
  have hl : lv_has ls 4 [(0, .ref o), (1, .int v1), (2, .int v2)] := hl
  have hRf : 4 ≤ ({ frames := 4, cells := 0, slots := 0, locals := 83 } : Room).frames := Nat.le_refl _
  have hRl : 83 ≤ ({ frames := 4, cells := 0, slots := 0, locals := 83 } : Room).locals := Nat.le_refl _
  have hC : 0 ≤ ({ frames := 4, cells := 0, slots := 0, locals := 83 } : Room).cells := Nat.le_refl _
  have hSl : 0 ≤ ({ frames := 4, cells := 0, slots := 0, locals := 83 } : Room).slots := Nat.le_refl _
  unfold wp_S_floods at h
  refine lv_aload_n hx hb dX1_floods_0 rfl (lv_at hl 0 rfl) ?_
  refine lv_iload_n hx hb dX1_floods_1 rfl (lv_at hl 1 rfl) ?_
  refine lv_iload_n hx hb dX1_floods_2 rfl (lv_at hl 2 rfl) ?_
  refine cl_i F (va_runV (As := [.int v1, .int v2]) (rest := []) ⟨hx, hb, hml, hown, hts⟩ (ct_S_isFlood h _) (cwV 2 hts (lw_V q950 q952 qs29 q94 q953) rfl rfl rfl (by decide +kernel) ⟨Nat.le_trans (Nat.le_of_ble_eq_true rfl) hRf, Nat.le_trans (Nat.le_of_ble_eq_true rfl) hRl⟩) ⟨ct_blind, va_recv hK hP (ci := 0) (q0 := 0) rfl rfl, ct_at F hS hP hD⟩ rfl rfl hl.1 rfl (lv_room (Nat.le_of_ble_eq_true rfl)) dX1_floods_3 ⟨hC, hSl⟩) rfl rfl hD hS ?_
  rintro x1 _ H locs h hP hD hS
  refine lv_if_ne (tgt := 11) hx hb dX1_floods_6 (by decide) (fun c10 => ?_) (fun c10 => ?_)
  · replace h := h.1 c10
    refine lv_aload_n hx hb dX1_floods_11 rfl (lv_at hl 0 rfl) ?_
    refine lv_iload_n hx hb dX1_floods_12 rfl (lv_at hl 1 rfl) ?_
    refine lv_iload_n hx hb dX1_floods_13 rfl (lv_at hl 2 rfl) ?_
    refine lv_aload_n hx hb dX1_floods_14 rfl (lv_at hl 0 rfl) ?_
    refine va_get hx hb hts in_X1 hown hK hP 0 rfl rfl 5 (Nat.le_of_ble_eq_true rfl) (hts _ q189) (fun _ h => h) (v := .ref (ax 5)) rfl dX1_floods_15 ?_
    refine cl_i F (va_runV (As := [.int v1, .int v2, .ref (ax 5)]) (rest := []) ⟨hx, hb, hml, hown, hts⟩ (ct_S_floodedBy_i5 h _) (cwV 3 hts (lw_V q955 q957 qs30 q94 q958) rfl rfl rfl (by decide +kernel) ⟨Nat.le_trans (Nat.le_of_ble_eq_true rfl) hRf, Nat.le_trans (Nat.le_of_ble_eq_true rfl) hRl⟩) ⟨ct_blind, va_recv hK hP (ci := 0) (q0 := 0) rfl rfl, ct_at F hS hP hD⟩ rfl rfl hl.1 rfl (lv_room (Nat.le_of_ble_eq_true rfl)) dX1_floods_18 ⟨hC, hSl⟩) rfl rfl hD hS ?_
    rintro x2 ar3 H locs h hP hD hS
    refine lv_istore_n (lv' := [(3, .int x2), (0, .ref o), (1, .int v1), (2, .int v2)]) hx hb dX1_floods_21 rfl hl (by decide) rfl (fun ls hl => ?_)
    refine lv_aload_n hx hb dX1_floods_22 rfl (lv_at hl 1 rfl) ?_
    refine lv_iconst (v := (0 : Int32)) hx hb dX1_floods_23 (by decide) ?_
    refine pt_put (v := .int (0 : Int32)) hx hb hts in_X1 tyX1 tyX1_ok nmX1 hown hK hP hD hS 0 rfl rfl 18 (Nat.le_of_ble_eq_true rfl) (hts _ q209) (fun _ h => h) rfl (ty := .int) (by decide +kernel) rfl rfl (Nat.le_of_ble_eq_true rfl) dX1_floods_24 wXF_18 (fun H locs hP hD hS => ?_)
    refine lv_aload_n hx hb dX1_floods_27 rfl (lv_at hl 1 rfl) ?_
    refine lv_iload_n hx hb dX1_floods_28 rfl (lv_at hl 0 rfl) ?_
    refine cl_i0 F (va_runS (As := [.int x2]) (rest := [.ref o]) ⟨hx, hb, hml, hown, hts⟩ (ct_J10_bitCount h _) (va_cwS 1 hts (lw_S q585 q586 q112 q587) rfl rfl rfl (by decide +kernel) ⟨Nat.le_trans (Nat.le_of_ble_eq_true rfl) hRf, Nat.le_trans (Nat.le_of_ble_eq_true rfl) hRl⟩) ⟨ct_blind, ct_at F hS ct_nP ct_nD⟩ rfl rfl hl.1 rfl (lv_room (Nat.le_of_ble_eq_true rfl)) dX1_floods_29 ⟨hC, hSl⟩) rfl rfl hP hS ?_
    rintro x4 _ H locs h hP hS
    refine lv_i2l (v := (x4.toInt64)) hx hb dX1_floods_32 rfl ?_
    refine cl_v F (va_runV (As := [.long (x4.toInt64)]) (rest := []) ⟨hx, hb, hml, hown, hts⟩ (ct_S_tell h _) (cwV 1 hts (lw_V q728 q730 qs19 q94 q731) rfl rfl rfl (by decide +kernel) ⟨Nat.le_trans (Nat.le_of_ble_eq_true rfl) hRf, Nat.le_trans (Nat.le_of_ble_eq_true rfl) hRl⟩) ⟨ct_blind, va_recv hK hP (ci := 0) (q0 := 0) rfl rfl, ct_at F hS hP hD⟩ rfl rfl hl.1 rfl (lv_room (Nat.le_of_ble_eq_true rfl)) dX1_floods_33 ⟨hC, hSl⟩) rfl rfl hD hS ?_
    rintro ⟨fd5, lw6⟩ H locs h hP hD hS
    refine lv_aload_n hx hb dX1_floods_36 rfl (lv_at hl 1 rfl) ?_
    refine lv_aload_n hx hb dX1_floods_37 rfl (lv_at hl 1 rfl) ?_
    refine va_get hx hb hts in_X1 hown hK hP 0 rfl rfl 2 (Nat.le_of_ble_eq_true rfl) (hts _ q186) (fun _ h => h) (v := .ref (ax 2)) rfl dX1_floods_38 ?_
    refine va_get hx hb hts in_X2 hown hK hP 24 rfl rfl 1 (Nat.le_of_ble_eq_true rfl) (hts _ q137) (fun _ h => h) (v := .ref (ax 49)) rfl dX1_floods_41 ?_
    refine cl_iL F (va_runS (As := [.ref (ax 49)]) (rest := [.ref o]) ⟨hx, hb, hml, hown, hts⟩ (ct_A_sum  h _) (va_cwS 1 hts (lw_S q745 q746 q95 q747) rfl rfl rfl (by decide +kernel) ⟨Nat.le_trans (Nat.le_of_ble_eq_true rfl) hRf, Nat.le_trans (Nat.le_of_ble_eq_true rfl) hRl⟩) ⟨ct_blind, ct_at F hS (putL_P hP (ps := [26]) rfl) (hD.sub ([26]) (by decide) rfl)⟩ rfl rfl hl.1 rfl (lv_room (Nat.le_of_ble_eq_true rfl)) dX1_floods_44 ⟨hC, hSl⟩) rfl rfl hP hD hS (ps := [26]) rfl (fun _ => rfl) (fun _ => wXI_49) ?_
    rintro x7 _ H locs h hP hD hS
    refine lv_i2l (v := (x7.toInt64)) hx hb dX1_floods_47 rfl ?_
    refine cl_v F (va_runV (As := [.long (x7.toInt64)]) (rest := []) ⟨hx, hb, hml, hown, hts⟩ (ct_S_tell h _) (cwV 1 hts (lw_V q728 q730 qs19 q94 q731) rfl rfl rfl (by decide +kernel) ⟨Nat.le_trans (Nat.le_of_ble_eq_true rfl) hRf, Nat.le_trans (Nat.le_of_ble_eq_true rfl) hRl⟩) ⟨ct_blind, va_recv hK hP (ci := 0) (q0 := 0) rfl rfl, ct_at F hS hP hD⟩ rfl rfl hl.1 rfl (lv_room (Nat.le_of_ble_eq_true rfl)) dX1_floods_48 ⟨hC, hSl⟩) rfl rfl hD hS ?_
    rintro ⟨fd8, lw9⟩ H locs h hP hD hS
    refine lv_iload_n hx hb dX1_floods_51 rfl (lv_at hl 0 rfl) ?_
    exact rt_i F dX1_floods_52 rfl (fd8, ar3, lw9) h hP hD hS (Nat.le_refl _) (Nat.le_refl _)
  · replace h := h.2 c10
    refine lv_iconst (v := (-1 : Int32)) hx hb dX1_floods_9 (by decide) ?_
    exact rt_i F dX1_floods_10 rfl (fd, ar, lw) h hP hD hS (Nat.le_refl _) (Nat.le_refl _)
set_option maxHeartbeats 4000000 in
theorem ct_S_findWays {l : Launch} {V : evT} {D : va_G} {gI : Nat → ClassId} {o : Nat} {ax : Nat → Nat} {rn : Option (Nat × Nat)} {tl : va_W} {fd : Nat → Int32} {ar : Nat → Nat → Int32} {lw : Nat → Int64} {hh : HT} {Q : (Nat → Int32) → (Nat → Nat → Int32) → Prop} (h : wp_S_findWays fd ar lw hh Q) : ct_v l V D vwCl (tyL gI) yX1_findWays cX1_findWays 1 { frames := 13, cells := 0, slots := 0, locals := 302 } [.ref o] (wX gI o ax rn tl fd ar lw hh) (fun u : (Nat → Int32) × (Nat → Nat → Int32) => (wX gI o ax rn tl u.1 u.2 lw hh)) (fun (u : (Nat → Int32) × (Nat → Nat → Int32)) => Q u.1 u.2) := by
  refine ct_ofv RX1 rfl (by decide +kernel) (Nat.le_of_ble_eq_true rfl) ?_
  intro p e s m args below meth c A F _ hP hD ls hl
  obtain ⟨⟨hx, hb, hml, hown, hts⟩, hr, hlocks, hA, hK, hE⟩ := id F
  have hS : va_S A s.heap s.heap [] := va_S.rf
  have hl : lv_has ls 1 [(0, .ref o)] := hl
  have hRf : 13 ≤ ({ frames := 13, cells := 0, slots := 0, locals := 302 } : Room).frames := Nat.le_refl _
  have hRl : 302 ≤ ({ frames := 13, cells := 0, slots := 0, locals := 302 } : Room).locals := Nat.le_refl _
  have hC : 0 ≤ ({ frames := 13, cells := 0, slots := 0, locals := 302 } : Room).cells := Nat.le_refl _
  have hSl : 0 ≤ ({ frames := 13, cells := 0, slots := 0, locals := 302 } : Room).slots := Nat.le_refl _
  unfold wp_S_findWays at h
  refine lv_aload_n hx hb dX1_findWays_0 rfl (lv_at hl 0 rfl) ?_
  refine lv_iconst (v := (0 : Int32)) hx hb dX1_findWays_1 (by decide) ?_
  refine pt_put (v := .int (0 : Int32)) hx hb hts in_X1 tyX1 tyX1_ok nmX1 hown hK hP hD hS 0 rfl rfl 29 (Nat.le_of_ble_eq_true rfl) (hts _ q220) (fun _ h => h) rfl (ty := .int) (by decide +kernel) rfl rfl (Nat.le_of_ble_eq_true rfl) dX1_findWays_2 wXF_29 (fun H locs hP hD hS => ?_)
  refine lv_aload_n hx hb dX1_findWays_5 rfl (lv_at hl 0 rfl) ?_
  refine va_get hx hb hts in_X1 hown hK hP 0 rfl rfl 27 (Nat.le_of_ble_eq_true rfl) (hts _ q218) (fun _ h => h) (v := .ref (ax 27)) rfl dX1_findWays_6 ?_
  refine lv_iconst (v := (0 : Int32)) hx hb dX1_findWays_9 (by decide) ?_
  refine cl_vL F (va_runS (As := [.ref (ax 27), .int (0 : Int32)]) (rest := []) ⟨hx, hb, hml, hown, hts⟩ (ct_A_fill  h _) (va_cwS 2 hts (lw_S q712 q176 q96 q177) rfl rfl rfl (by decide +kernel) ⟨Nat.le_trans (Nat.le_of_ble_eq_true rfl) hRf, Nat.le_trans (Nat.le_of_ble_eq_true rfl) hRl⟩) ⟨ct_blind, ct_at F hS (putL_P hP (ps := [13]) rfl) (hD.sub ([13]) (by decide) rfl)⟩ rfl rfl hl.1 rfl (lv_room (Nat.le_of_ble_eq_true rfl)) dX1_findWays_10 ⟨hC, hSl⟩) rfl rfl hP hD hS (ps := [13]) rfl (fun _ => rfl) (fun _ => wXS_27) ?_
  rintro f1 H locs h hP hD hS
  refine lv_aload_n hx hb dX1_findWays_13 rfl (lv_at hl 0 rfl) ?_
  refine lv_iconst (v := (0 : Int32)) hx hb dX1_findWays_14 (by decide) ?_
  refine cl_v F (va_runV (As := [.int (0 : Int32)]) (rest := []) ⟨hx, hb, hml, hown, hts⟩ (ct_S_goWays h _) (cwV 1 hts (lw_V q1096 q1098 qs34 q94 q1099) rfl rfl rfl (by decide +kernel) ⟨Nat.le_trans (Nat.le_of_ble_eq_true rfl) hRf, Nat.le_trans (Nat.le_of_ble_eq_true rfl) hRl⟩) ⟨ct_blind, va_recv hK hP (ci := 0) (q0 := 0) rfl rfl, ct_at F hS hP hD⟩ rfl rfl hl.1 rfl (lv_room (Nat.le_of_ble_eq_true rfl)) dX1_findWays_15 ⟨hC, hSl⟩) rfl rfl hD hS ?_
  rintro ⟨fd2, ar3⟩ H locs h hP hD hS
  exact rt_v F dX1_findWays_18 (fd2, ar3) h hP hD hS (Nat.le_refl _) (Nat.le_refl _)
set_option maxHeartbeats 4000000 in
theorem ct_S_was {l : Launch} {V : evT} {D : va_G} {gI : Nat → ClassId} {o : Nat} {ax : Nat → Nat} {rn : Option (Nat × Nat)} {tl : va_W} {v1 : Int32} {fd : Nat → Int32} {ar : Nat → Nat → Int32} {lw : Nat → Int64} {hh : HT} {Q : Int32 → (Nat → Int32) → (Nat → Nat → Int32) → (Nat → Int64) → Prop} (h : wp_S_was v1 fd ar lw hh Q) : ct_i l V D vwCl (tyL gI) yX1_was cX1_was 2 .int { frames := 14, cells := 0, slots := 0, locals := 322 } [.ref o, .int v1] (wX gI o ax rn tl fd ar lw hh) (fun u : (Nat → Int32) × (Nat → Nat → Int32) × (Nat → Int64) => (wX gI o ax rn tl u.1 u.2.1 u.2.2 hh)) (fun (x : Int32) (u : (Nat → Int32) × (Nat → Nat → Int32) × (Nat → Int64)) => Q x u.1 u.2.1 u.2.2) := by
  refine ct_ofi RX1 rfl (by decide +kernel) (Nat.le_of_ble_eq_true rfl) ?_
  intro p e s m args below meth c A F hP hD ls hl
  obtain ⟨⟨hx, hb, hml, hown, hts⟩, hr, hlocks, hA, hK, hE⟩ := id F
  have hS : va_S A s.heap s.heap [] := va_S.rf
  have hl : lv_has ls 2 [(0, .ref o), (1, .int v1)] := hl
  have hRf : 14 ≤ ({ frames := 14, cells := 0, slots := 0, locals := 322 } : Room).frames := Nat.le_refl _
  have hRl : 322 ≤ ({ frames := 14, cells := 0, slots := 0, locals := 322 } : Room).locals := Nat.le_refl _
  have hC : 0 ≤ ({ frames := 14, cells := 0, slots := 0, locals := 322 } : Room).cells := Nat.le_refl _
  have hSl : 0 ≤ ({ frames := 14, cells := 0, slots := 0, locals := 322 } : Room).slots := Nat.le_refl _
  unfold wp_S_was at h
  refine lv_aload_n hx hb dX1_was_0 rfl (lv_at hl 0 rfl) ?_
  refine lv_iload_n hx hb dX1_was_1 rfl (lv_at hl 1 rfl) ?_
  refine cl_i F (va_runV (As := [.int v1]) (rest := []) ⟨hx, hb, hml, hown, hts⟩ (ct_S_isKid h _) (cwV 1 hts (lw_V q647 q649 qs8 q94 q650) rfl rfl rfl (by decide +kernel) ⟨Nat.le_trans (Nat.le_of_ble_eq_true rfl) hRf, Nat.le_trans (Nat.le_of_ble_eq_true rfl) hRl⟩) ⟨ct_blind, va_recv hK hP (ci := 0) (q0 := 0) rfl rfl, ct_at F hS hP hD⟩ rfl rfl hl.1 rfl (lv_room (Nat.le_of_ble_eq_true rfl)) dX1_was_2 ⟨hC, hSl⟩) rfl rfl hD hS ?_
  rintro x1 _ H locs h hP hD hS
  refine lv_if_ne (tgt := 10) hx hb dX1_was_5 (by decide) (fun c6 => ?_) (fun c6 => ?_)
  · replace h := h.1 c6
    refine lv_aload_n hx hb dX1_was_10 rfl (lv_at hl 0 rfl) ?_
    refine cl_v F (va_runV (As := []) (rest := []) ⟨hx, hb, hml, hown, hts⟩ (ct_S_findWays h _) (cwV 0 hts (lw_V q1092 q1094 qs33 q94 q1095) rfl rfl rfl (by decide +kernel) ⟨Nat.le_trans (Nat.le_of_ble_eq_true rfl) hRf, Nat.le_trans (Nat.le_of_ble_eq_true rfl) hRl⟩) ⟨ct_blind, va_recv hK hP (ci := 0) (q0 := 0) rfl rfl, ct_at F hS hP hD⟩ rfl rfl hl.1 rfl (lv_room (Nat.le_of_ble_eq_true rfl)) dX1_was_11 ⟨hC, hSl⟩) rfl rfl hD hS ?_
    rintro ⟨fd2, ar3⟩ H locs h hP hD hS
    refine lv_aload_n hx hb dX1_was_14 rfl (lv_at hl 0 rfl) ?_
    refine lv_iconst (v := (0 : Int32)) hx hb dX1_was_15 (by decide) ?_
    refine pt_put (v := .int (0 : Int32)) hx hb hts in_X1 tyX1 tyX1_ok nmX1 hown hK hP hD hS 0 rfl rfl 18 (Nat.le_of_ble_eq_true rfl) (hts _ q209) (fun _ h => h) rfl (ty := .int) (by decide +kernel) rfl rfl (Nat.le_of_ble_eq_true rfl) dX1_was_16 wXF_18 (fun H locs hP hD hS => ?_)
    refine lv_aload_n hx hb dX1_was_19 rfl (lv_at hl 0 rfl) ?_
    refine lv_aload_n hx hb dX1_was_20 rfl (lv_at hl 0 rfl) ?_
    refine va_get hx hb hts in_X1 hown hK hP 0 rfl rfl 27 (Nat.le_of_ble_eq_true rfl) (hts _ q218) (fun _ h => h) (v := .ref (ax 27)) rfl dX1_was_21 ?_
    refine lv_iload_n hx hb dX1_was_24 rfl (lv_at hl 1 rfl) ?_
    refine va_iald (f := (ar3 27)) hx hb hK hP 13 0 rfl rfl h.1 dX1_was_25 ?_
    replace h := h.2
    refine lv_iconst (v := (1 : Int32)) hx hb dX1_was_26 (by decide) ?_
    refine lv_iand hx hb dX1_was_27 ?_
    refine lv_i2l (v := (((ar3 27 v1.toNatClampNeg) &&& (1 : Int32)).toInt64)) hx hb dX1_was_28 rfl ?_
    refine cl_v F (va_runV (As := [.long (((ar3 27 v1.toNatClampNeg) &&& (1 : Int32)).toInt64)]) (rest := []) ⟨hx, hb, hml, hown, hts⟩ (ct_S_tell h _) (cwV 1 hts (lw_V q728 q730 qs19 q94 q731) rfl rfl rfl (by decide +kernel) ⟨Nat.le_trans (Nat.le_of_ble_eq_true rfl) hRf, Nat.le_trans (Nat.le_of_ble_eq_true rfl) hRl⟩) ⟨ct_blind, va_recv hK hP (ci := 0) (q0 := 0) rfl rfl, ct_at F hS hP hD⟩ rfl rfl hl.1 rfl (lv_room (Nat.le_of_ble_eq_true rfl)) dX1_was_29 ⟨hC, hSl⟩) rfl rfl hD hS ?_
    rintro ⟨fd4, lw5⟩ H locs h hP hD hS
    refine lv_aload_n hx hb dX1_was_32 rfl (lv_at hl 0 rfl) ?_
    refine va_get hx hb hts in_X1 hown hK hP 0 rfl rfl 27 (Nat.le_of_ble_eq_true rfl) (hts _ q218) (fun _ h => h) (v := .ref (ax 27)) rfl dX1_was_33 ?_
    refine lv_iload_n hx hb dX1_was_36 rfl (lv_at hl 1 rfl) ?_
    refine va_iald (f := (ar3 27)) hx hb hK hP 13 0 rfl rfl h.1 dX1_was_37 ?_
    replace h := h.2
    refine lv_iconst (v := (1 : Int32)) hx hb dX1_was_38 (by decide) ?_
    refine lv_ishr hx hb dX1_was_39 ?_
    exact rt_i F dX1_was_40 rfl (fd4, ar3, lw5) h hP hD hS (Nat.le_refl _) (Nat.le_refl _)
  · replace h := h.2 c6
    refine lv_iconst (v := (-1 : Int32)) hx hb dX1_was_8 (by decide) ?_
    exact rt_i F dX1_was_9 rfl (fd, ar, lw) h hP hD hS (Nat.le_refl _) (Nat.le_refl _)
set_option maxHeartbeats 4000000 in
theorem lp_X1_isBest_L1 {p : Program} {l : Launch} {e : Env} {R : Room} {s : State} {m : MethodId} {args : Array Value} {below : List Frame} {meth : Method} {c : Code} {cells slots : Nat} {A : Nat → Prop} {Qf : State → Prop} {V : evT} {D : va_G} {gI : Nat → ClassId} {v0 : Int32} {v1 : Int32} {v2 : Int32} {v3 : Int32} {K36 : Prop} {K28 : Prop} (F : ct_F p m c meth cX1_isBest 5 s args RX1 (some .boolean) A V D vwCl (tyL gI)) (hRf : 2 ≤ R.frames) (hRl : 35 ≤ R.locals) (hC : cells ≤ R.cells) (hSl : slots ≤ R.slots)
    (hK36 : K36 → ∀ (H : Heap) (locs : List Loc) (ls : Array Slot), va_P D vwCl [] H → va_D A [] → va_S A s.heap H locs → lv_has ls 5 [] → W p l e R s m args below meth c H locs cells slots Qf (F0 m 36 ls []))
    (hK28 : K28 → ∀ (H : Heap) (locs : List Loc) (ls : Array Slot), va_P D vwCl [] H → va_D A [] → va_S A s.heap H locs → lv_has ls 5 [] → W p l e R s m args below meth c H locs cells slots Qf (F0 m 28 ls [])) :
    ∀ (n : Nat) (v4 : Int32), wp_X1_isBest_L1 v0 v1 v2 v3 K36 K28 n v4 → ∀ (H : Heap) (locs : List Loc) (ls : Array Slot), va_P D vwCl [] H → va_D A [] → va_S A s.heap H locs → lv_has ls 5 [(0, .int v0), (1, .int v1), (2, .int v2), (3, .int v3), (4, .int v4)] → W p l e R s m args below meth c H locs cells slots Qf (F0 m 3 ls []) := by
  obtain ⟨⟨hx, hb, hml, hown, hts⟩, hr, hlocks, hA, hK, hE⟩ := id F
  intro n
  induction n with
  | zero => intro v4 h; exact h.elim
  | succ n ih =>
    intro v4 h H locs ls hP hD hS hl
    unfold wp_X1_isBest_L1 at h
    refine lv_iload hx hb dX1_isBest_3 (lv_at hl 4 rfl) ?_
    refine lv_bipush (v := (9 : Int32)) hx hb dX1_isBest_5 (by decide) ?_
    refine lv_icmp_gt (tgt := 36) hx hb dX1_isBest_7 (by decide) (fun c4 => ?_) (fun c4 => ?_)
    · replace h := h.1 c4
      exact hK36  h _ _ _ hP hD hS (lv_sub hl [] rfl)
    · replace h := h.2 c4
      refine lv_iload hx hb dX1_isBest_10 (lv_at hl 4 rfl) ?_
      refine lv_iload_n hx hb dX1_isBest_12 rfl (lv_at hl 1 rfl) ?_
      refine lv_iload_n hx hb dX1_isBest_13 rfl (lv_at hl 2 rfl) ?_
      refine lv_iload_n hx hb dX1_isBest_14 rfl (lv_at hl 3 rfl) ?_
      refine cl_i0 F (va_runS (As := [.int v4, .int v1, .int v2, .int v3]) (rest := []) ⟨hx, hb, hml, hown, hts⟩ (ct_X1_gets h _) (va_cwS 4 hts (lw_S q1123 q1124 q94 q1125) rfl rfl rfl (by decide +kernel) ⟨Nat.le_trans (Nat.le_of_ble_eq_true rfl) hRf, Nat.le_trans (Nat.le_of_ble_eq_true rfl) hRl⟩) ⟨ct_blind, ct_at F hS ct_nP ct_nD⟩ rfl rfl hl.1 rfl (lv_room (Nat.le_of_ble_eq_true rfl)) dX1_isBest_15 ⟨hC, hSl⟩) rfl rfl hP hS ?_
      rintro x1 _ H locs h hP hS
      refine lv_iload_n hx hb dX1_isBest_18 rfl (lv_at hl 0 rfl) ?_
      refine lv_iload_n hx hb dX1_isBest_19 rfl (lv_at hl 1 rfl) ?_
      refine lv_iload_n hx hb dX1_isBest_20 rfl (lv_at hl 2 rfl) ?_
      refine lv_iload_n hx hb dX1_isBest_21 rfl (lv_at hl 3 rfl) ?_
      refine cl_i0 F (va_runS (As := [.int v0, .int v1, .int v2, .int v3]) (rest := [.int x1]) ⟨hx, hb, hml, hown, hts⟩ (ct_X1_gets h _) (va_cwS 4 hts (lw_S q1123 q1124 q94 q1125) rfl rfl rfl (by decide +kernel) ⟨Nat.le_trans (Nat.le_of_ble_eq_true rfl) hRf, Nat.le_trans (Nat.le_of_ble_eq_true rfl) hRl⟩) ⟨ct_blind, ct_at F hS ct_nP ct_nD⟩ rfl rfl hl.1 rfl (lv_room (Nat.le_of_ble_eq_true rfl)) dX1_isBest_22 ⟨hC, hSl⟩) rfl rfl hP hS ?_
      rintro x2 _ H locs h hP hS
      refine lv_icmp_le (tgt := 30) hx hb dX1_isBest_25 (by decide) (fun c3 => ?_) (fun c3 => ?_)
      · replace h := h.1 c3
        refine lv_iinc (v := (v4 + (1 : Int32))) (lv' := [(4, .int (v4 + (1 : Int32))), (0, .int v0), (1, .int v1), (2, .int v2), (3, .int v3)]) hx hb dX1_isBest_30 hl (k := 4) rfl rfl (by decide) rfl (fun ls hl => ?_)
        refine lv_goto (tgt := 3) hx hb dX1_isBest_33 (by decide) ?_
        exact ih _ h _ _ _ hP hD hS (lv_sub hl [1, 2, 3, 4, 0] rfl)
      · replace h := h.2 c3
        exact hK28  h _ _ _ hP hD hS (lv_sub hl [] rfl)
set_option maxHeartbeats 4000000 in
theorem ct_X1_isBest {l : Launch} {V : evT} {D : va_G} {gI : Nat → ClassId} {v0 : Int32} {v1 : Int32} {v2 : Int32} {v3 : Int32} {Q : Int32 → Prop} (h : wp_X1_isBest v0 v1 v2 v3  Q) : ct_i l V D vwCl (tyL gI) yX1_isBest cX1_isBest 5 .boolean { frames := 2, cells := 0, slots := 0, locals := 35 } [.int v0, .int v1, .int v2, .int v3] [] (fun u : Unit => []) (fun (x : Int32) (u : Unit) => Q x) := by
  refine ct_ofi RX1 rfl (by decide +kernel) (Nat.le_of_ble_eq_true rfl) ?_
  intro p e s m args below meth c A F hP hD ls hl
  obtain ⟨⟨hx, hb, hml, hown, hts⟩, hr, hlocks, hA, hK, hE⟩ := id F
  have hS : va_S A s.heap s.heap [] := va_S.rf
  have hl : lv_has ls 5 [(0, .int v0), (1, .int v1), (2, .int v2), (3, .int v3)] := hl
  have hRf : 2 ≤ ({ frames := 2, cells := 0, slots := 0, locals := 35 } : Room).frames := Nat.le_refl _
  have hRl : 35 ≤ ({ frames := 2, cells := 0, slots := 0, locals := 35 } : Room).locals := Nat.le_refl _
  have hC : 0 ≤ ({ frames := 2, cells := 0, slots := 0, locals := 35 } : Room).cells := Nat.le_refl _
  have hSl : 0 ≤ ({ frames := 2, cells := 0, slots := 0, locals := 35 } : Room).slots := Nat.le_refl _
  unfold wp_X1_isBest at h
  refine lv_iconst (v := (0 : Int32)) hx hb dX1_isBest_0 (by decide) ?_
  refine lv_istore (lv' := [(4, .int (0 : Int32)), (0, .int v0), (1, .int v1), (2, .int v2), (3, .int v3)]) hx hb dX1_isBest_1 hl (by decide) rfl (fun ls hl => ?_)
  obtain ⟨k3, h⟩ := h
  refine lp_X1_isBest_L1 F hRf hRl hC hSl ?hk36 ?hk28 k3 _ h _ _ _ hP hD hS (lv_sub hl [1, 2, 3, 4, 0] rfl)
  case hk36 =>
    intro h H locs ls hP hD hS hl
    refine lv_iconst (v := (1 : Int32)) hx hb dX1_isBest_36 (by decide) ?_
    exact rt_i F dX1_isBest_37 rfl () h hP hD hS (Nat.le_refl _) (Nat.le_refl _)
  case hk28 =>
    intro h H locs ls hP hD hS hl
    refine lv_iconst (v := (0 : Int32)) hx hb dX1_isBest_28 (by decide) ?_
    exact rt_i F dX1_isBest_29 rfl () h hP hD hS (Nat.le_refl _) (Nat.le_refl _)
set_option maxHeartbeats 4000000 in
theorem ct_S_go {l : Launch} {V : evT} {D : va_G} {gI : Nat → ClassId} {o : Nat} {ax : Nat → Nat} {rn : Option (Nat × Nat)} {tl : va_W} {v1 : Int32} {v2 : Int32} {fd : Nat → Int32} {ar : Nat → Nat → Int32} {lw : Nat → Int64} {hh : HT} {Q : Int32 → (Nat → Int32) → (Nat → Nat → Int32) → (HT) → Prop} (h : wp_S_go v1 v2 fd ar lw hh Q) : ct_i l V D vwCl (tyL gI) yX1_go cX1_go 5 .int { frames := 4, cells := 0, slots := 0, locals := 103 } [.ref o, .int v1, .int v2] (wX gI o ax rn tl fd ar lw hh) (fun u : (Nat → Int32) × (Nat → Nat → Int32) × (HT) => (wX gI o ax rn tl u.1 u.2.1 lw u.2.2)) (fun (x : Int32) (u : (Nat → Int32) × (Nat → Nat → Int32) × (HT)) => Q x u.1 u.2.1 u.2.2) := by
  refine ct_ofi RX1 rfl (by decide +kernel) (Nat.le_of_ble_eq_true rfl) ?_
  intro p e s m args below meth c A F hP hD ls hl
  obtain ⟨⟨hx, hb, hml, hown, hts⟩, hr, hlocks, hA, hK, hE⟩ := id F
  have hS : va_S A s.heap s.heap [] := va_S.rf
  have hl : lv_has ls 5 [(0, .ref o), (1, .int v1), (2, .int v2)] := hl
  have hRf : 4 ≤ ({ frames := 4, cells := 0, slots := 0, locals := 103 } : Room).frames := Nat.le_refl _
  have hRl : 103 ≤ ({ frames := 4, cells := 0, slots := 0, locals := 103 } : Room).locals := Nat.le_refl _
  have hC : 0 ≤ ({ frames := 4, cells := 0, slots := 0, locals := 103 } : Room).cells := Nat.le_refl _
  have hSl : 0 ≤ ({ frames := 4, cells := 0, slots := 0, locals := 103 } : Room).slots := Nat.le_refl _
  unfold wp_S_go at h
  refine lv_aload_n hx hb dX1_go_0 rfl (lv_at hl 0 rfl) ?_
  refine lv_aload_n hx hb dX1_go_1 rfl (lv_at hl 0 rfl) ?_
  refine va_get hx hb hts in_X1 hown hK hP 0 rfl rfl 0 (Nat.le_of_ble_eq_true rfl) (hts _ q180) (fun _ h => h) (v := .ref (ax 0)) rfl dX1_go_2 ?_
  refine lv_iload_n hx hb dX1_go_5 rfl (lv_at hl 1 rfl) ?_
  refine lv_iload_n hx hb dX1_go_6 rfl (lv_at hl 2 rfl) ?_
  refine cl_i F (va_runV (As := [.ref (ax 0), .int v1, .int v2]) (rest := []) ⟨hx, hb, hml, hown, hts⟩ (ct_S_refusesGo_i0 h _) (cwV 3 hts (lw_V q643 q645 qs7 q94 q646) rfl rfl rfl (by decide +kernel) ⟨Nat.le_trans (Nat.le_of_ble_eq_true rfl) hRf, Nat.le_trans (Nat.le_of_ble_eq_true rfl) hRl⟩) ⟨ct_blind, va_recv hK hP (ci := 0) (q0 := 0) rfl rfl, ct_at F hS hP hD⟩ rfl rfl hl.1 rfl (lv_room (Nat.le_of_ble_eq_true rfl)) dX1_go_7 ⟨hC, hSl⟩) rfl rfl hD hS ?_
  rintro x1 _ H locs h hP hD hS
  refine lv_istore_n (lv' := [(3, .int x1), (0, .ref o), (1, .int v1), (2, .int v2)]) hx hb dX1_go_10 rfl hl (by decide) rfl (fun ls hl => ?_)
  refine lv_iload_n hx hb dX1_go_11 rfl (lv_at hl 0 rfl) ?_
  refine lv_if_ge (tgt := 17) hx hb dX1_go_12 (by decide) (fun c4 => ?_) (fun c4 => ?_)
  · replace h := h.1 c4
    refine lv_aload_n hx hb dX1_go_17 rfl (lv_at hl 1 rfl) ?_
    refine lv_aload_n hx hb dX1_go_18 rfl (lv_at hl 1 rfl) ?_
    refine va_get hx hb hts in_X1 hown hK hP 0 rfl rfl 0 (Nat.le_of_ble_eq_true rfl) (hts _ q180) (fun _ h => h) (v := .ref (ax 0)) rfl dX1_go_19 ?_
    refine cl_v F (va_runV (As := [.ref (ax 0)]) (rest := []) ⟨hx, hb, hml, hown, hts⟩ (ct_S_remember_i0 h _) (cwV 1 hts (lw_V q655 q657 qs10 q94 q658) rfl rfl rfl (by decide +kernel) ⟨Nat.le_trans (Nat.le_of_ble_eq_true rfl) hRf, Nat.le_trans (Nat.le_of_ble_eq_true rfl) hRl⟩) ⟨ct_blind, va_recv hK hP (ci := 0) (q0 := 0) rfl rfl, ct_at F hS hP hD⟩ rfl rfl hl.1 rfl (lv_room (Nat.le_of_ble_eq_true rfl)) dX1_go_22 ⟨hC, hSl⟩) rfl rfl hD hS ?_
    rintro ⟨fd2, hh3⟩ H locs h hP hD hS
    refine lv_aload_n hx hb dX1_go_25 rfl (lv_at hl 1 rfl) ?_
    refine va_get hx hb hts in_X1 hown hK hP 0 rfl rfl 0 (Nat.le_of_ble_eq_true rfl) (hts _ q180) (fun _ h => h) (v := .ref (ax 0)) rfl dX1_go_26 ?_
    refine va_get hx hb hts in_X2 hown hK hP 14 rfl rfl 2 (Nat.le_of_ble_eq_true rfl) (hts _ q141) (fun _ h => h) (v := .ref (ax 42)) rfl dX1_go_29 ?_
    refine lv_iload_n hx hb dX1_go_32 rfl (lv_at hl 2 rfl) ?_
    refine va_iald (f := (ar 42)) hx hb hK hP 17 0 rfl rfl h.1 dX1_go_33 ?_
    replace h := h.2
    refine lv_istore (lv' := [(4, .int (ar 42 v1.toNatClampNeg)), (3, .int x1), (0, .ref o), (1, .int v1), (2, .int v2)]) hx hb dX1_go_34 hl (by decide) rfl (fun ls hl => ?_)
    refine lv_aload_n hx hb dX1_go_36 rfl (lv_at hl 2 rfl) ?_
    refine va_get hx hb hts in_X1 hown hK hP 0 rfl rfl 0 (Nat.le_of_ble_eq_true rfl) (hts _ q180) (fun _ h => h) (v := .ref (ax 0)) rfl dX1_go_37 ?_
    refine va_get hx hb hts in_X2 hown hK hP 14 rfl rfl 2 (Nat.le_of_ble_eq_true rfl) (hts _ q141) (fun _ h => h) (v := .ref (ax 42)) rfl dX1_go_40 ?_
    refine lv_iload_n hx hb dX1_go_43 rfl (lv_at hl 3 rfl) ?_
    refine lv_iload_n hx hb dX1_go_44 rfl (lv_at hl 4 rfl) ?_
    refine pt_iast (f := (ar 42)) hx hb hK hP hD hS 17 0 rfl rfl h.1 dX1_go_45 wXA_42 (fun H locs hP hD hS => ?_)
    replace h := h.2
    refine lv_iload hx hb dX1_go_46 (lv_at hl 0 rfl) ?_
    refine lv_iconst (v := (1 : Int32)) hx hb dX1_go_48 (by decide) ?_
    refine lv_iadd hx hb dX1_go_49 ?_
    exact rt_i F dX1_go_50 rfl (fd2, (va_up ar 42 (upd (ar 42) v1.toNatClampNeg v2)), hh3) h hP hD hS (Nat.le_refl _) (Nat.le_refl _)
  · replace h := h.2 c4
    refine lv_iload_n hx hb dX1_go_15 rfl (lv_at hl 0 rfl) ?_
    exact rt_i F dX1_go_16 rfl (fd, ar, hh) h hP hD hS (Nat.le_refl _) (Nat.le_refl _)
set_option maxHeartbeats 4000000 in
theorem ct_S_spade {l : Launch} {V : evT} {D : va_G} {gI : Nat → ClassId} {o : Nat} {ax : Nat → Nat} {rn : Option (Nat × Nat)} {tl : va_W} {v1 : Int32} {fd : Nat → Int32} {ar : Nat → Nat → Int32} {lw : Nat → Int64} {hh : HT} {Q : Int32 → (Nat → Int32) → (HT) → Prop} (h : wp_S_spade v1 fd ar lw hh Q) : ct_i l V D vwCl (tyL gI) yX1_spade cX1_spade 3 .int { frames := 4, cells := 0, slots := 0, locals := 103 } [.ref o, .int v1] (wX gI o ax rn tl fd ar lw hh) (fun u : (Nat → Int32) × (HT) => (wX gI o ax rn tl u.1 ar lw u.2)) (fun (x : Int32) (u : (Nat → Int32) × (HT)) => Q x u.1 u.2) := by
  refine ct_ofi RX1 rfl (by decide +kernel) (Nat.le_of_ble_eq_true rfl) ?_
  intro p e s m args below meth c A F hP hD ls hl
  obtain ⟨⟨hx, hb, hml, hown, hts⟩, hr, hlocks, hA, hK, hE⟩ := id F
  have hS : va_S A s.heap s.heap [] := va_S.rf
  have hl : lv_has ls 3 [(0, .ref o), (1, .int v1)] := hl
  have hRf : 4 ≤ ({ frames := 4, cells := 0, slots := 0, locals := 103 } : Room).frames := Nat.le_refl _
  have hRl : 103 ≤ ({ frames := 4, cells := 0, slots := 0, locals := 103 } : Room).locals := Nat.le_refl _
  have hC : 0 ≤ ({ frames := 4, cells := 0, slots := 0, locals := 103 } : Room).cells := Nat.le_refl _
  have hSl : 0 ≤ ({ frames := 4, cells := 0, slots := 0, locals := 103 } : Room).slots := Nat.le_refl _
  unfold wp_S_spade at h
  refine lv_aload_n hx hb dX1_spade_0 rfl (lv_at hl 0 rfl) ?_
  refine lv_iload_n hx hb dX1_spade_1 rfl (lv_at hl 1 rfl) ?_
  refine cl_i F (va_runV (As := [.int v1]) (rest := []) ⟨hx, hb, hml, hown, hts⟩ (ct_S_refusesSpade h _) (cwV 1 hts (lw_V q676 q678 qs12 q94 q679) rfl rfl rfl (by decide +kernel) ⟨Nat.le_trans (Nat.le_of_ble_eq_true rfl) hRf, Nat.le_trans (Nat.le_of_ble_eq_true rfl) hRl⟩) ⟨ct_blind, va_recv hK hP (ci := 0) (q0 := 0) rfl rfl, ct_at F hS hP hD⟩ rfl rfl hl.1 rfl (lv_room (Nat.le_of_ble_eq_true rfl)) dX1_spade_2 ⟨hC, hSl⟩) rfl rfl hD hS ?_
  rintro x1 _ H locs h hP hD hS
  refine lv_istore_n (lv' := [(2, .int x1), (0, .ref o), (1, .int v1)]) hx hb dX1_spade_5 rfl hl (by decide) rfl (fun ls hl => ?_)
  refine lv_iload_n hx hb dX1_spade_6 rfl (lv_at hl 0 rfl) ?_
  refine lv_if_ge (tgt := 12) hx hb dX1_spade_7 (by decide) (fun c5 => ?_) (fun c5 => ?_)
  · replace h := h.1 c5
    refine lv_aload_n hx hb dX1_spade_12 rfl (lv_at hl 1 rfl) ?_
    refine lv_aload_n hx hb dX1_spade_13 rfl (lv_at hl 1 rfl) ?_
    refine va_get hx hb hts in_X1 hown hK hP 0 rfl rfl 0 (Nat.le_of_ble_eq_true rfl) (hts _ q180) (fun _ h => h) (v := .ref (ax 0)) rfl dX1_spade_14 ?_
    refine cl_v F (va_runV (As := [.ref (ax 0)]) (rest := []) ⟨hx, hb, hml, hown, hts⟩ (ct_S_remember_i0 h _) (cwV 1 hts (lw_V q655 q657 qs10 q94 q658) rfl rfl rfl (by decide +kernel) ⟨Nat.le_trans (Nat.le_of_ble_eq_true rfl) hRf, Nat.le_trans (Nat.le_of_ble_eq_true rfl) hRl⟩) ⟨ct_blind, va_recv hK hP (ci := 0) (q0 := 0) rfl rfl, ct_at F hS hP hD⟩ rfl rfl hl.1 rfl (lv_room (Nat.le_of_ble_eq_true rfl)) dX1_spade_17 ⟨hC, hSl⟩) rfl rfl hD hS ?_
    rintro ⟨fd2, hh3⟩ H locs h hP hD hS
    refine lv_aload_n hx hb dX1_spade_20 rfl (lv_at hl 1 rfl) ?_
    refine va_get hx hb hts in_X1 hown hK hP 0 rfl rfl 0 (Nat.le_of_ble_eq_true rfl) (hts _ q180) (fun _ h => h) (v := .ref (ax 0)) rfl dX1_spade_21 ?_
    refine lv_dup hx hb dX1_spade_24 rfl ?_
    refine va_get hx hb hts in_X2 hown hK hP 14 rfl rfl 5 (Nat.le_of_ble_eq_true rfl) (hts _ q148) (fun _ h => h) (v := .int (fd2 61)) rfl dX1_spade_25 ?_
    refine lv_iconst (v := (1 : Int32)) hx hb dX1_spade_28 (by decide) ?_
    refine lv_iload_n hx hb dX1_spade_29 rfl (lv_at hl 2 rfl) ?_
    refine lv_ishl hx hb dX1_spade_30 ?_
    refine lv_ixor hx hb dX1_spade_31 ?_
    refine pt_put (v := .int ((fd2 61) ^^^ ((1 : Int32) <<< (v1 &&& 31)))) hx hb hts in_X2 tyX2 tyX2_ok nmX2 hown hK hP hD hS 14 rfl rfl 5 (Nat.le_of_ble_eq_true rfl) (hts _ q148) (fun _ h => h) rfl (ty := .int) (by decide +kernel) rfl rfl (Nat.le_of_ble_eq_true rfl) dX1_spade_32 wXB_0_sp (fun H locs hP hD hS => ?_)
    refine lv_aload_n hx hb dX1_spade_35 rfl (lv_at hl 1 rfl) ?_
    refine va_get hx hb hts in_X1 hown hK hP 0 rfl rfl 0 (Nat.le_of_ble_eq_true rfl) (hts _ q180) (fun _ h => h) (v := .ref (ax 0)) rfl dX1_spade_36 ?_
    refine va_get hx hb hts in_X2 hown hK hP 14 rfl rfl 5 (Nat.le_of_ble_eq_true rfl) (hts _ q148) (fun _ h => h) (v := .int ((fd2 61) ^^^ ((1 : Int32) <<< (v1 &&& 31)))) rfl dX1_spade_39 ?_
    refine cl_i0 F (va_runS (As := [.int ((fd2 61) ^^^ ((1 : Int32) <<< (v1 &&& 31)))]) (rest := []) ⟨hx, hb, hml, hown, hts⟩ (ct_J10_bitCount h _) (va_cwS 1 hts (lw_S q585 q586 q112 q587) rfl rfl rfl (by decide +kernel) ⟨Nat.le_trans (Nat.le_of_ble_eq_true rfl) hRf, Nat.le_trans (Nat.le_of_ble_eq_true rfl) hRl⟩) ⟨ct_blind, ct_at F hS ct_nP ct_nD⟩ rfl rfl hl.1 rfl (lv_room (Nat.le_of_ble_eq_true rfl)) dX1_spade_42 ⟨hC, hSl⟩) rfl rfl hP hS ?_
    rintro x4 _ H locs h hP hS
    exact rt_i F dX1_spade_45 rfl ((upd fd2 61 ((fd2 61) ^^^ ((1 : Int32) <<< (v1 &&& 31)))), hh3) h hP hD hS (Nat.le_refl _) (Nat.le_refl _)
  · replace h := h.2 c5
    refine lv_iload_n hx hb dX1_spade_10 rfl (lv_at hl 0 rfl) ?_
    exact rt_i F dX1_spade_11 rfl (fd, hh) h hP hD hS (Nat.le_refl _) (Nat.le_refl _)
set_option maxHeartbeats 4000000 in
theorem lp_S_bucketsOf_J2_i0 {p : Program} {l : Launch} {e : Env} {R : Room} {s : State} {m : MethodId} {args : Array Value} {below : List Frame} {meth : Method} {c : Code} {cells slots : Nat} {A : Nat → Prop} {V : evT} {D : va_G} {gI : Nat → ClassId} {o : Nat} {ax : Nat → Nat} {rn : Option (Nat × Nat)} {tl : va_W} {v2 : Int32} {fd : Nat → Int32} {ar : Nat → Nat → Int32} {lw : Nat → Int64} {hh : HT} {Q : Int32 → Prop} (F : ct_F p m c meth cX1_bucketsOf 4 s args RX1 (some .int) A V D vwCl (tyL gI)) (hRf : 3 ≤ R.frames) (hRl : 57 ≤ R.locals) (hC : cells ≤ R.cells) (hSl : slots ≤ R.slots) :
    ∀ (t0 : Int32) (t1 : Int32), wp_S_bucketsOf_J2 0 v2 fd ar lw hh Q t0 t1 → ∀ (H : Heap) (locs : List Loc) (ls : Array Slot), va_P D vwCl (wX gI o ax rn tl fd ar lw hh) H → va_D A (wX gI o ax rn tl fd ar lw hh) → va_S A s.heap H locs → lv_has ls 4 [(0, .ref o), (1, .ref (ax 0)), (2, .int v2)] → W p l e R s m args below meth c H locs cells slots (MQ below (va_Qi (fun (x : Int32) (u : Unit) => Q x) (fun u t => va_P D vwCl (wX gI o ax rn tl fd ar lw hh) t.heap ∧ va_K D vwCl (tyL gI) t ∧ va_D A (wX gI o ax rn tl fd ar lw hh)) A) args s cells slots A) (F0 m 49 ls [.int t0, .int t1]) := by
  obtain ⟨⟨hx, hb, hml, hown, hts⟩, hr, hlocks, hA, hK, hE⟩ := id F
  intro t0 t1 h H locs ls hP hD hS hl
  unfold wp_S_bucketsOf_J2 at h
  refine lv_iadd hx hb dX1_bucketsOf_49 ?_
  refine lv_istore_n (lv' := [(3, .int (t1 + t0)), (0, .ref o), (1, .ref (ax 0)), (2, .int v2)]) hx hb dX1_bucketsOf_50 rfl hl (by decide) rfl (fun ls hl => ?_)
  refine lv_aload_n hx hb dX1_bucketsOf_51 rfl (lv_at hl 2 rfl) ?_
  refine va_get hx hb hts in_X2 hown hK hP 14 rfl rfl 3 (Nat.le_of_ble_eq_true rfl) (hts _ q144) (fun _ h => h) (v := .ref (ax 43)) rfl dX1_bucketsOf_52 ?_
  refine lv_iload_n hx hb dX1_bucketsOf_55 rfl (lv_at hl 3 rfl) ?_
  refine va_iald (f := (ar 43)) hx hb hK hP 18 0 rfl rfl h.1 dX1_bucketsOf_56 ?_
  replace h := h.2
  refine lv_iconst (v := (3 : Int32)) hx hb dX1_bucketsOf_57 (by decide) ?_
  refine lv_icmp_ge (tgt := 65) hx hb dX1_bucketsOf_58 (by decide) (fun c5 => ?_) (fun c5 => ?_)
  · replace h := h.1 c5
    refine lv_aload_n hx hb dX1_bucketsOf_65 rfl (lv_at hl 1 rfl) ?_
    refine va_get hx hb hts in_X1 hown hK hP 0 rfl rfl 6 (Nat.le_of_ble_eq_true rfl) (hts _ q190) (fun _ h => h) (v := .ref (ax 6)) rfl dX1_bucketsOf_66 ?_
    refine lv_iload_n hx hb dX1_bucketsOf_69 rfl (lv_at hl 3 rfl) ?_
    refine va_iald (f := (ar 6)) hx hb hK hP 3 0 rfl rfl h.1 dX1_bucketsOf_70 ?_
    replace h := h.2
    refine lv_bipush (v := (13 : Int32)) hx hb dX1_bucketsOf_71 (by decide) ?_
    refine lv_icmp_ne (tgt := 82) hx hb dX1_bucketsOf_73 (by decide) (fun c3 => ?_) (fun c3 => ?_)
    · replace h := h.1 c3
      refine lv_iload_n hx hb dX1_bucketsOf_82 rfl (lv_at hl 0 rfl) ?_
      exact rt_i F dX1_bucketsOf_83 rfl () h hP hD hS (Nat.le_refl _) (Nat.le_refl _)
    · replace h := h.2 c3
      refine lv_iload_n hx hb dX1_bucketsOf_76 rfl (lv_at hl 0 rfl) ?_
      refine lv_iconst (v := (2 : Int32)) hx hb dX1_bucketsOf_77 (by decide) ?_
      refine lv_idiv hx hb dX1_bucketsOf_78 (by decide) ?_
      refine lv_goto (tgt := 83) hx hb dX1_bucketsOf_79 (by decide) ?_
      exact rt_i F dX1_bucketsOf_83 rfl () h hP hD hS (Nat.le_refl _) (Nat.le_refl _)
  · replace h := h.2 c5
    refine lv_iload_n hx hb dX1_bucketsOf_61 rfl (lv_at hl 0 rfl) ?_
    refine lv_iconst (v := (2 : Int32)) hx hb dX1_bucketsOf_62 (by decide) ?_
    refine lv_idiv hx hb dX1_bucketsOf_63 (by decide) ?_
    refine lv_istore_n (lv' := [(3, .int ((t1 + t0) / (2 : Int32))), (0, .ref o), (1, .ref (ax 0)), (2, .int v2)]) hx hb dX1_bucketsOf_64 rfl hl (by decide) rfl (fun ls hl => ?_)
    refine lv_aload_n hx hb dX1_bucketsOf_65 rfl (lv_at hl 1 rfl) ?_
    refine va_get hx hb hts in_X1 hown hK hP 0 rfl rfl 6 (Nat.le_of_ble_eq_true rfl) (hts _ q190) (fun _ h => h) (v := .ref (ax 6)) rfl dX1_bucketsOf_66 ?_
    refine lv_iload_n hx hb dX1_bucketsOf_69 rfl (lv_at hl 3 rfl) ?_
    refine va_iald (f := (ar 6)) hx hb hK hP 3 0 rfl rfl h.1 dX1_bucketsOf_70 ?_
    replace h := h.2
    refine lv_bipush (v := (13 : Int32)) hx hb dX1_bucketsOf_71 (by decide) ?_
    refine lv_icmp_ne (tgt := 82) hx hb dX1_bucketsOf_73 (by decide) (fun c4 => ?_) (fun c4 => ?_)
    · replace h := h.1 c4
      refine lv_iload_n hx hb dX1_bucketsOf_82 rfl (lv_at hl 0 rfl) ?_
      exact rt_i F dX1_bucketsOf_83 rfl () h hP hD hS (Nat.le_refl _) (Nat.le_refl _)
    · replace h := h.2 c4
      refine lv_iload_n hx hb dX1_bucketsOf_76 rfl (lv_at hl 0 rfl) ?_
      refine lv_iconst (v := (2 : Int32)) hx hb dX1_bucketsOf_77 (by decide) ?_
      refine lv_idiv hx hb dX1_bucketsOf_78 (by decide) ?_
      refine lv_goto (tgt := 83) hx hb dX1_bucketsOf_79 (by decide) ?_
      exact rt_i F dX1_bucketsOf_83 rfl () h hP hD hS (Nat.le_refl _) (Nat.le_refl _)
set_option maxHeartbeats 4000000 in
theorem lp_S_bucketsOf_J1_i0 {p : Program} {l : Launch} {e : Env} {R : Room} {s : State} {m : MethodId} {args : Array Value} {below : List Frame} {meth : Method} {c : Code} {cells slots : Nat} {A : Nat → Prop} {V : evT} {D : va_G} {gI : Nat → ClassId} {o : Nat} {ax : Nat → Nat} {rn : Option (Nat × Nat)} {tl : va_W} {v2 : Int32} {fd : Nat → Int32} {ar : Nat → Nat → Int32} {lw : Nat → Int64} {hh : HT} {Q : Int32 → Prop} (F : ct_F p m c meth cX1_bucketsOf 4 s args RX1 (some .int) A V D vwCl (tyL gI)) (hRf : 3 ≤ R.frames) (hRl : 57 ≤ R.locals) (hC : cells ≤ R.cells) (hSl : slots ≤ R.slots) :
    ∀ (t0 : Int32) (t1 : Int32), wp_S_bucketsOf_J1 0 v2 fd ar lw hh Q t0 t1 → ∀ (H : Heap) (locs : List Loc) (ls : Array Slot), va_P D vwCl (wX gI o ax rn tl fd ar lw hh) H → va_D A (wX gI o ax rn tl fd ar lw hh) → va_S A s.heap H locs → lv_has ls 4 [(0, .ref o), (1, .ref (ax 0)), (2, .int v2)] → W p l e R s m args below meth c H locs cells slots (MQ below (va_Qi (fun (x : Int32) (u : Unit) => Q x) (fun u t => va_P D vwCl (wX gI o ax rn tl fd ar lw hh) t.heap ∧ va_K D vwCl (tyL gI) t ∧ va_D A (wX gI o ax rn tl fd ar lw hh)) A) args s cells slots A) (F0 m 34 ls [.int t0, .int t1]) := by
  obtain ⟨⟨hx, hb, hml, hown, hts⟩, hr, hlocks, hA, hK, hE⟩ := id F
  intro t0 t1 h H locs ls hP hD hS hl
  unfold wp_S_bucketsOf_J1 at h
  refine lv_iadd hx hb dX1_bucketsOf_34 ?_
  refine lv_aload_n hx hb dX1_bucketsOf_35 rfl (lv_at hl 0 rfl) ?_
  refine lv_aload_n hx hb dX1_bucketsOf_36 rfl (lv_at hl 1 rfl) ?_
  refine lv_iload_n hx hb dX1_bucketsOf_37 rfl (lv_at hl 2 rfl) ?_
  refine cl_i F (va_runV (As := [.ref (ax 0), .int v2]) (rest := [.int (t1 + t0)]) ⟨hx, hb, hml, hown, hts⟩ (ct_S_isBesideFriend_i0 h _) (cwV 2 hts (lw_V q717 q719 qs17 q94 q720) rfl rfl rfl (by decide +kernel) ⟨Nat.le_trans (Nat.le_of_ble_eq_true rfl) hRf, Nat.le_trans (Nat.le_of_ble_eq_true rfl) hRl⟩) ⟨ct_blind, va_recv hK hP (ci := 0) (q0 := 0) rfl rfl, ct_at F hS hP hD⟩ rfl rfl hl.1 rfl (lv_room (Nat.le_of_ble_eq_true rfl)) dX1_bucketsOf_38 ⟨hC, hSl⟩) rfl rfl hD hS ?_
  rintro x2 _ H locs h hP hD hS
  refine lv_if_eq (tgt := 48) hx hb dX1_bucketsOf_41 (by decide) (fun c6 => ?_) (fun c6 => ?_)
  · replace h := h.1 c6
    refine lv_iconst (v := (0 : Int32)) hx hb dX1_bucketsOf_48 (by decide) ?_
    refine lp_S_bucketsOf_J2_i0 F hRf hRl hC hSl  _ _ h _ _ _ hP hD hS (lv_sub hl [0, 1, 2] rfl)
  · replace h := h.2 c6
    refine lv_iconst (v := (1 : Int32)) hx hb dX1_bucketsOf_44 (by decide) ?_
    refine lv_goto (tgt := 49) hx hb dX1_bucketsOf_45 (by decide) ?_
    refine lp_S_bucketsOf_J2_i0 F hRf hRl hC hSl  _ _ h _ _ _ hP hD hS (lv_sub hl [0, 1, 2] rfl)
set_option maxHeartbeats 4000000 in
theorem ct_S_bucketsOf_i0 {l : Launch} {V : evT} {D : va_G} {gI : Nat → ClassId} {o : Nat} {ax : Nat → Nat} {rn : Option (Nat × Nat)} {tl : va_W} {v2 : Int32} {fd : Nat → Int32} {ar : Nat → Nat → Int32} {lw : Nat → Int64} {hh : HT} {Q : Int32 → Prop} (h : wp_S_bucketsOf 0 v2 fd ar lw hh Q) : ct_i l V D vwCl (tyL gI) yX1_bucketsOf cX1_bucketsOf 4 .int { frames := 3, cells := 0, slots := 0, locals := 57 } [.ref o, .ref (ax 0), .int v2] (wX gI o ax rn tl fd ar lw hh) (fun u : Unit => (wX gI o ax rn tl fd ar lw hh)) (fun (x : Int32) (u : Unit) => Q x) := by
  refine ct_ofi RX1 rfl (by decide +kernel) (Nat.le_of_ble_eq_true rfl) ?_
  intro p e s m args below meth c A F hP hD ls hl
  obtain ⟨⟨hx, hb, hml, hown, hts⟩, hr, hlocks, hA, hK, hE⟩ := id F
  have hS : va_S A s.heap s.heap [] := va_S.rf
  have hl : lv_has ls 4 [(0, .ref o), (1, .ref (ax 0)), (2, .int v2)] := hl
  have hRf : 3 ≤ ({ frames := 3, cells := 0, slots := 0, locals := 57 } : Room).frames := Nat.le_refl _
  have hRl : 57 ≤ ({ frames := 3, cells := 0, slots := 0, locals := 57 } : Room).locals := Nat.le_refl _
  have hC : 0 ≤ ({ frames := 3, cells := 0, slots := 0, locals := 57 } : Room).cells := Nat.le_refl _
  have hSl : 0 ≤ ({ frames := 3, cells := 0, slots := 0, locals := 57 } : Room).slots := Nat.le_refl _
  unfold wp_S_bucketsOf at h
  refine lv_aload_n hx hb dX1_bucketsOf_0 rfl (lv_at hl 1 rfl) ?_
  refine va_get hx hb hts in_X2 hown hK hP 14 rfl rfl 2 (Nat.le_of_ble_eq_true rfl) (hts _ q141) (fun _ h => h) (v := .ref (ax 42)) rfl dX1_bucketsOf_1 ?_
  refine lv_iload_n hx hb dX1_bucketsOf_4 rfl (lv_at hl 2 rfl) ?_
  refine va_iald (f := (ar 42)) hx hb hK hP 17 0 rfl rfl h.1 dX1_bucketsOf_5 ?_
  replace h := h.2
  refine lv_iconst (v := (-1 : Int32)) hx hb dX1_bucketsOf_6 (by decide) ?_
  refine lv_icmp_ne (tgt := 12) hx hb dX1_bucketsOf_7 (by decide) (fun c8 => ?_) (fun c8 => ?_)
  · replace h := h.1 c8
    refine lv_aload_n hx hb dX1_bucketsOf_12 rfl (lv_at hl 0 rfl) ?_
    refine va_get hx hb hts in_X1 hown hK hP 0 rfl rfl 7 (Nat.le_of_ble_eq_true rfl) (hts _ q191) (fun _ h => h) (v := .ref (ax 7)) rfl dX1_bucketsOf_13 ?_
    refine lv_iload_n hx hb dX1_bucketsOf_16 rfl (lv_at hl 2 rfl) ?_
    refine va_iald (f := (ar 7)) hx hb hK hP 4 0 rfl rfl h.1 dX1_bucketsOf_17 ?_
    replace h := h.2
    refine lv_aload_n hx hb dX1_bucketsOf_18 rfl (lv_at hl 1 rfl) ?_
    refine va_get hx hb hts in_X2 hown hK hP 14 rfl rfl 5 (Nat.le_of_ble_eq_true rfl) (hts _ q148) (fun _ h => h) (v := .int (fd 61)) rfl dX1_bucketsOf_19 ?_
    refine lv_iload_n hx hb dX1_bucketsOf_22 rfl (lv_at hl 2 rfl) ?_
    refine cl_i0 F (va_runS (As := [.int (fd 61), .int v2]) (rest := [.int (ar 7 v2.toNatClampNeg)]) ⟨hx, hb, hml, hown, hts⟩ (ct_X1_has h _) (va_cwS 2 hts (lw_S q680 q681 q94 q682) rfl rfl rfl (by decide +kernel) ⟨Nat.le_trans (Nat.le_of_ble_eq_true rfl) hRf, Nat.le_trans (Nat.le_of_ble_eq_true rfl) hRl⟩) ⟨ct_blind, ct_at F hS ct_nP ct_nD⟩ rfl rfl hl.1 rfl (lv_room (Nat.le_of_ble_eq_true rfl)) dX1_bucketsOf_23 ⟨hC, hSl⟩) rfl rfl hP hS ?_
    rintro x1 _ H locs h hP hS
    refine lv_if_eq (tgt := 33) hx hb dX1_bucketsOf_26 (by decide) (fun c7 => ?_) (fun c7 => ?_)
    · replace h := h.1 c7
      refine lv_iconst (v := (0 : Int32)) hx hb dX1_bucketsOf_33 (by decide) ?_
      refine lp_S_bucketsOf_J1_i0 F hRf hRl hC hSl  _ _ h _ _ _ hP hD hS (lv_sub hl [0, 1, 2] rfl)
    · replace h := h.2 c7
      refine lv_iconst (v := (2 : Int32)) hx hb dX1_bucketsOf_29 (by decide) ?_
      refine lv_goto (tgt := 34) hx hb dX1_bucketsOf_30 (by decide) ?_
      refine lp_S_bucketsOf_J1_i0 F hRf hRl hC hSl  _ _ h _ _ _ hP hD hS (lv_sub hl [0, 1, 2] rfl)
  · replace h := h.2 c8
    refine lv_iconst (v := (0 : Int32)) hx hb dX1_bucketsOf_10 (by decide) ?_
    exact rt_i F dX1_bucketsOf_11 rfl () h hP hD hS (Nat.le_refl _) (Nat.le_refl _)
set_option maxHeartbeats 4000000 in
theorem lp_S_bucketsOf_J2_i2 {p : Program} {l : Launch} {e : Env} {R : Room} {s : State} {m : MethodId} {args : Array Value} {below : List Frame} {meth : Method} {c : Code} {cells slots : Nat} {A : Nat → Prop} {V : evT} {D : va_G} {gI : Nat → ClassId} {o : Nat} {ax : Nat → Nat} {rn : Option (Nat × Nat)} {tl : va_W} {v2 : Int32} {fd : Nat → Int32} {ar : Nat → Nat → Int32} {lw : Nat → Int64} {hh : HT} {Q : Int32 → Prop} (F : ct_F p m c meth cX1_bucketsOf 4 s args RX1 (some .int) A V D vwCl (tyL gI)) (hRf : 3 ≤ R.frames) (hRl : 57 ≤ R.locals) (hC : cells ≤ R.cells) (hSl : slots ≤ R.slots) :
    ∀ (t0 : Int32) (t1 : Int32), wp_S_bucketsOf_J2 2 v2 fd ar lw hh Q t0 t1 → ∀ (H : Heap) (locs : List Loc) (ls : Array Slot), va_P D vwCl (wX gI o ax rn tl fd ar lw hh) H → va_D A (wX gI o ax rn tl fd ar lw hh) → va_S A s.heap H locs → lv_has ls 4 [(0, .ref o), (1, .ref (ax 2)), (2, .int v2)] → W p l e R s m args below meth c H locs cells slots (MQ below (va_Qi (fun (x : Int32) (u : Unit) => Q x) (fun u t => va_P D vwCl (wX gI o ax rn tl fd ar lw hh) t.heap ∧ va_K D vwCl (tyL gI) t ∧ va_D A (wX gI o ax rn tl fd ar lw hh)) A) args s cells slots A) (F0 m 49 ls [.int t0, .int t1]) := by
  obtain ⟨⟨hx, hb, hml, hown, hts⟩, hr, hlocks, hA, hK, hE⟩ := id F
  intro t0 t1 h H locs ls hP hD hS hl
  unfold wp_S_bucketsOf_J2 at h
  refine lv_iadd hx hb dX1_bucketsOf_49 ?_
  refine lv_istore_n (lv' := [(3, .int (t1 + t0)), (0, .ref o), (1, .ref (ax 2)), (2, .int v2)]) hx hb dX1_bucketsOf_50 rfl hl (by decide) rfl (fun ls hl => ?_)
  refine lv_aload_n hx hb dX1_bucketsOf_51 rfl (lv_at hl 2 rfl) ?_
  refine va_get hx hb hts in_X2 hown hK hP 24 rfl rfl 3 (Nat.le_of_ble_eq_true rfl) (hts _ q144) (fun _ h => h) (v := .ref (ax 51)) rfl dX1_bucketsOf_52 ?_
  refine lv_iload_n hx hb dX1_bucketsOf_55 rfl (lv_at hl 3 rfl) ?_
  refine va_iald (f := (ar 51)) hx hb hK hP 28 0 rfl rfl h.1 dX1_bucketsOf_56 ?_
  replace h := h.2
  refine lv_iconst (v := (3 : Int32)) hx hb dX1_bucketsOf_57 (by decide) ?_
  refine lv_icmp_ge (tgt := 65) hx hb dX1_bucketsOf_58 (by decide) (fun c5 => ?_) (fun c5 => ?_)
  · replace h := h.1 c5
    refine lv_aload_n hx hb dX1_bucketsOf_65 rfl (lv_at hl 1 rfl) ?_
    refine va_get hx hb hts in_X1 hown hK hP 0 rfl rfl 6 (Nat.le_of_ble_eq_true rfl) (hts _ q190) (fun _ h => h) (v := .ref (ax 6)) rfl dX1_bucketsOf_66 ?_
    refine lv_iload_n hx hb dX1_bucketsOf_69 rfl (lv_at hl 3 rfl) ?_
    refine va_iald (f := (ar 6)) hx hb hK hP 3 0 rfl rfl h.1 dX1_bucketsOf_70 ?_
    replace h := h.2
    refine lv_bipush (v := (13 : Int32)) hx hb dX1_bucketsOf_71 (by decide) ?_
    refine lv_icmp_ne (tgt := 82) hx hb dX1_bucketsOf_73 (by decide) (fun c3 => ?_) (fun c3 => ?_)
    · replace h := h.1 c3
      refine lv_iload_n hx hb dX1_bucketsOf_82 rfl (lv_at hl 0 rfl) ?_
      exact rt_i F dX1_bucketsOf_83 rfl () h hP hD hS (Nat.le_refl _) (Nat.le_refl _)
    · replace h := h.2 c3
      refine lv_iload_n hx hb dX1_bucketsOf_76 rfl (lv_at hl 0 rfl) ?_
      refine lv_iconst (v := (2 : Int32)) hx hb dX1_bucketsOf_77 (by decide) ?_
      refine lv_idiv hx hb dX1_bucketsOf_78 (by decide) ?_
      refine lv_goto (tgt := 83) hx hb dX1_bucketsOf_79 (by decide) ?_
      exact rt_i F dX1_bucketsOf_83 rfl () h hP hD hS (Nat.le_refl _) (Nat.le_refl _)
  · replace h := h.2 c5
    refine lv_iload_n hx hb dX1_bucketsOf_61 rfl (lv_at hl 0 rfl) ?_
    refine lv_iconst (v := (2 : Int32)) hx hb dX1_bucketsOf_62 (by decide) ?_
    refine lv_idiv hx hb dX1_bucketsOf_63 (by decide) ?_
    refine lv_istore_n (lv' := [(3, .int ((t1 + t0) / (2 : Int32))), (0, .ref o), (1, .ref (ax 2)), (2, .int v2)]) hx hb dX1_bucketsOf_64 rfl hl (by decide) rfl (fun ls hl => ?_)
    refine lv_aload_n hx hb dX1_bucketsOf_65 rfl (lv_at hl 1 rfl) ?_
    refine va_get hx hb hts in_X1 hown hK hP 0 rfl rfl 6 (Nat.le_of_ble_eq_true rfl) (hts _ q190) (fun _ h => h) (v := .ref (ax 6)) rfl dX1_bucketsOf_66 ?_
    refine lv_iload_n hx hb dX1_bucketsOf_69 rfl (lv_at hl 3 rfl) ?_
    refine va_iald (f := (ar 6)) hx hb hK hP 3 0 rfl rfl h.1 dX1_bucketsOf_70 ?_
    replace h := h.2
    refine lv_bipush (v := (13 : Int32)) hx hb dX1_bucketsOf_71 (by decide) ?_
    refine lv_icmp_ne (tgt := 82) hx hb dX1_bucketsOf_73 (by decide) (fun c4 => ?_) (fun c4 => ?_)
    · replace h := h.1 c4
      refine lv_iload_n hx hb dX1_bucketsOf_82 rfl (lv_at hl 0 rfl) ?_
      exact rt_i F dX1_bucketsOf_83 rfl () h hP hD hS (Nat.le_refl _) (Nat.le_refl _)
    · replace h := h.2 c4
      refine lv_iload_n hx hb dX1_bucketsOf_76 rfl (lv_at hl 0 rfl) ?_
      refine lv_iconst (v := (2 : Int32)) hx hb dX1_bucketsOf_77 (by decide) ?_
      refine lv_idiv hx hb dX1_bucketsOf_78 (by decide) ?_
      refine lv_goto (tgt := 83) hx hb dX1_bucketsOf_79 (by decide) ?_
      exact rt_i F dX1_bucketsOf_83 rfl () h hP hD hS (Nat.le_refl _) (Nat.le_refl _)
set_option maxHeartbeats 4000000 in
theorem lp_S_bucketsOf_J1_i2 {p : Program} {l : Launch} {e : Env} {R : Room} {s : State} {m : MethodId} {args : Array Value} {below : List Frame} {meth : Method} {c : Code} {cells slots : Nat} {A : Nat → Prop} {V : evT} {D : va_G} {gI : Nat → ClassId} {o : Nat} {ax : Nat → Nat} {rn : Option (Nat × Nat)} {tl : va_W} {v2 : Int32} {fd : Nat → Int32} {ar : Nat → Nat → Int32} {lw : Nat → Int64} {hh : HT} {Q : Int32 → Prop} (F : ct_F p m c meth cX1_bucketsOf 4 s args RX1 (some .int) A V D vwCl (tyL gI)) (hRf : 3 ≤ R.frames) (hRl : 57 ≤ R.locals) (hC : cells ≤ R.cells) (hSl : slots ≤ R.slots) :
    ∀ (t0 : Int32) (t1 : Int32), wp_S_bucketsOf_J1 2 v2 fd ar lw hh Q t0 t1 → ∀ (H : Heap) (locs : List Loc) (ls : Array Slot), va_P D vwCl (wX gI o ax rn tl fd ar lw hh) H → va_D A (wX gI o ax rn tl fd ar lw hh) → va_S A s.heap H locs → lv_has ls 4 [(0, .ref o), (1, .ref (ax 2)), (2, .int v2)] → W p l e R s m args below meth c H locs cells slots (MQ below (va_Qi (fun (x : Int32) (u : Unit) => Q x) (fun u t => va_P D vwCl (wX gI o ax rn tl fd ar lw hh) t.heap ∧ va_K D vwCl (tyL gI) t ∧ va_D A (wX gI o ax rn tl fd ar lw hh)) A) args s cells slots A) (F0 m 34 ls [.int t0, .int t1]) := by
  obtain ⟨⟨hx, hb, hml, hown, hts⟩, hr, hlocks, hA, hK, hE⟩ := id F
  intro t0 t1 h H locs ls hP hD hS hl
  unfold wp_S_bucketsOf_J1 at h
  refine lv_iadd hx hb dX1_bucketsOf_34 ?_
  refine lv_aload_n hx hb dX1_bucketsOf_35 rfl (lv_at hl 0 rfl) ?_
  refine lv_aload_n hx hb dX1_bucketsOf_36 rfl (lv_at hl 1 rfl) ?_
  refine lv_iload_n hx hb dX1_bucketsOf_37 rfl (lv_at hl 2 rfl) ?_
  refine cl_i F (va_runV (As := [.ref (ax 2), .int v2]) (rest := [.int (t1 + t0)]) ⟨hx, hb, hml, hown, hts⟩ (ct_S_isBesideFriend_i2 h _) (cwV 2 hts (lw_V q717 q719 qs17 q94 q720) rfl rfl rfl (by decide +kernel) ⟨Nat.le_trans (Nat.le_of_ble_eq_true rfl) hRf, Nat.le_trans (Nat.le_of_ble_eq_true rfl) hRl⟩) ⟨ct_blind, va_recv hK hP (ci := 0) (q0 := 0) rfl rfl, ct_at F hS hP hD⟩ rfl rfl hl.1 rfl (lv_room (Nat.le_of_ble_eq_true rfl)) dX1_bucketsOf_38 ⟨hC, hSl⟩) rfl rfl hD hS ?_
  rintro x2 _ H locs h hP hD hS
  refine lv_if_eq (tgt := 48) hx hb dX1_bucketsOf_41 (by decide) (fun c6 => ?_) (fun c6 => ?_)
  · replace h := h.1 c6
    refine lv_iconst (v := (0 : Int32)) hx hb dX1_bucketsOf_48 (by decide) ?_
    refine lp_S_bucketsOf_J2_i2 F hRf hRl hC hSl  _ _ h _ _ _ hP hD hS (lv_sub hl [0, 1, 2] rfl)
  · replace h := h.2 c6
    refine lv_iconst (v := (1 : Int32)) hx hb dX1_bucketsOf_44 (by decide) ?_
    refine lv_goto (tgt := 49) hx hb dX1_bucketsOf_45 (by decide) ?_
    refine lp_S_bucketsOf_J2_i2 F hRf hRl hC hSl  _ _ h _ _ _ hP hD hS (lv_sub hl [0, 1, 2] rfl)
set_option maxHeartbeats 4000000 in
theorem ct_S_bucketsOf_i2 {l : Launch} {V : evT} {D : va_G} {gI : Nat → ClassId} {o : Nat} {ax : Nat → Nat} {rn : Option (Nat × Nat)} {tl : va_W} {v2 : Int32} {fd : Nat → Int32} {ar : Nat → Nat → Int32} {lw : Nat → Int64} {hh : HT} {Q : Int32 → Prop} (h : wp_S_bucketsOf 2 v2 fd ar lw hh Q) : ct_i l V D vwCl (tyL gI) yX1_bucketsOf cX1_bucketsOf 4 .int { frames := 3, cells := 0, slots := 0, locals := 57 } [.ref o, .ref (ax 2), .int v2] (wX gI o ax rn tl fd ar lw hh) (fun u : Unit => (wX gI o ax rn tl fd ar lw hh)) (fun (x : Int32) (u : Unit) => Q x) := by
  refine ct_ofi RX1 rfl (by decide +kernel) (Nat.le_of_ble_eq_true rfl) ?_
  intro p e s m args below meth c A F hP hD ls hl
  obtain ⟨⟨hx, hb, hml, hown, hts⟩, hr, hlocks, hA, hK, hE⟩ := id F
  have hS : va_S A s.heap s.heap [] := va_S.rf
  have hl : lv_has ls 4 [(0, .ref o), (1, .ref (ax 2)), (2, .int v2)] := hl
  have hRf : 3 ≤ ({ frames := 3, cells := 0, slots := 0, locals := 57 } : Room).frames := Nat.le_refl _
  have hRl : 57 ≤ ({ frames := 3, cells := 0, slots := 0, locals := 57 } : Room).locals := Nat.le_refl _
  have hC : 0 ≤ ({ frames := 3, cells := 0, slots := 0, locals := 57 } : Room).cells := Nat.le_refl _
  have hSl : 0 ≤ ({ frames := 3, cells := 0, slots := 0, locals := 57 } : Room).slots := Nat.le_refl _
  unfold wp_S_bucketsOf at h
  refine lv_aload_n hx hb dX1_bucketsOf_0 rfl (lv_at hl 1 rfl) ?_
  refine va_get hx hb hts in_X2 hown hK hP 24 rfl rfl 2 (Nat.le_of_ble_eq_true rfl) (hts _ q141) (fun _ h => h) (v := .ref (ax 50)) rfl dX1_bucketsOf_1 ?_
  refine lv_iload_n hx hb dX1_bucketsOf_4 rfl (lv_at hl 2 rfl) ?_
  refine va_iald (f := (ar 50)) hx hb hK hP 27 0 rfl rfl h.1 dX1_bucketsOf_5 ?_
  replace h := h.2
  refine lv_iconst (v := (-1 : Int32)) hx hb dX1_bucketsOf_6 (by decide) ?_
  refine lv_icmp_ne (tgt := 12) hx hb dX1_bucketsOf_7 (by decide) (fun c8 => ?_) (fun c8 => ?_)
  · replace h := h.1 c8
    refine lv_aload_n hx hb dX1_bucketsOf_12 rfl (lv_at hl 0 rfl) ?_
    refine va_get hx hb hts in_X1 hown hK hP 0 rfl rfl 7 (Nat.le_of_ble_eq_true rfl) (hts _ q191) (fun _ h => h) (v := .ref (ax 7)) rfl dX1_bucketsOf_13 ?_
    refine lv_iload_n hx hb dX1_bucketsOf_16 rfl (lv_at hl 2 rfl) ?_
    refine va_iald (f := (ar 7)) hx hb hK hP 4 0 rfl rfl h.1 dX1_bucketsOf_17 ?_
    replace h := h.2
    refine lv_aload_n hx hb dX1_bucketsOf_18 rfl (lv_at hl 1 rfl) ?_
    refine va_get hx hb hts in_X2 hown hK hP 24 rfl rfl 5 (Nat.le_of_ble_eq_true rfl) (hts _ q148) (fun _ h => h) (v := .int (fd 67)) rfl dX1_bucketsOf_19 ?_
    refine lv_iload_n hx hb dX1_bucketsOf_22 rfl (lv_at hl 2 rfl) ?_
    refine cl_i0 F (va_runS (As := [.int (fd 67), .int v2]) (rest := [.int (ar 7 v2.toNatClampNeg)]) ⟨hx, hb, hml, hown, hts⟩ (ct_X1_has h _) (va_cwS 2 hts (lw_S q680 q681 q94 q682) rfl rfl rfl (by decide +kernel) ⟨Nat.le_trans (Nat.le_of_ble_eq_true rfl) hRf, Nat.le_trans (Nat.le_of_ble_eq_true rfl) hRl⟩) ⟨ct_blind, ct_at F hS ct_nP ct_nD⟩ rfl rfl hl.1 rfl (lv_room (Nat.le_of_ble_eq_true rfl)) dX1_bucketsOf_23 ⟨hC, hSl⟩) rfl rfl hP hS ?_
    rintro x1 _ H locs h hP hS
    refine lv_if_eq (tgt := 33) hx hb dX1_bucketsOf_26 (by decide) (fun c7 => ?_) (fun c7 => ?_)
    · replace h := h.1 c7
      refine lv_iconst (v := (0 : Int32)) hx hb dX1_bucketsOf_33 (by decide) ?_
      refine lp_S_bucketsOf_J1_i2 F hRf hRl hC hSl  _ _ h _ _ _ hP hD hS (lv_sub hl [0, 1, 2] rfl)
    · replace h := h.2 c7
      refine lv_iconst (v := (2 : Int32)) hx hb dX1_bucketsOf_29 (by decide) ?_
      refine lv_goto (tgt := 34) hx hb dX1_bucketsOf_30 (by decide) ?_
      refine lp_S_bucketsOf_J1_i2 F hRf hRl hC hSl  _ _ h _ _ _ hP hD hS (lv_sub hl [0, 1, 2] rfl)
  · replace h := h.2 c8
    refine lv_iconst (v := (0 : Int32)) hx hb dX1_bucketsOf_10 (by decide) ?_
    exact rt_i F dX1_bucketsOf_11 rfl () h hP hD hS (Nat.le_refl _) (Nat.le_refl _)
