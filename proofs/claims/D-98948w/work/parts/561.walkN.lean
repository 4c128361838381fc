/-! methods that throw, the law's own that catch: walks -/
set_option maxRecDepth 100000
set_option maxHeartbeats 4000000 in
theorem cn_S_cell {l : Launch} {V : evT} {D : va_G} {gI : Nat → ClassId} {o : Nat} {ax : Nat → Nat} {tl : va_W} (hlt : l.stackTraces = false) {v1 : Int32} {v2 : Int32} {fd : Nat → Int32} {ar : Nat → Nat → Int32} {lw : Nat → Int64} {hh : HT} {rn : Option (Nat × Nat)} {Q : Int32 → Prop} {E : Prop} (h : wp_S_cell v1 v2 fd ar lw hh rn Q E) : cn_i RJ9 l V D (tyL gI) yX1_cell cX1_cell 3 .int { frames := 6, cells := 1, slots := 7, locals := 100 } [.ref o, .int v1, .int v2] (wX gI o ax rn tl fd ar lw hh) (fun u : Unit => (wX gI o ax rn tl fd ar lw hh)) (fun (x : Int32) (u : Unit) => Q x) (wX gI o ax rn tl fd ar lw hh) E := by
  refine cn_ofi RX1 rfl (by decide +kernel) (Nat.le_of_ble_eq_true rfl) ?_
  intro p e s m args below meth c A F htab hP hD ls hl
  obtain ⟨⟨hx, hb, hml, hown, hts⟩, hr, hlocks, hA, hK, hE⟩ := id F
  have hS : va_S A s.heap s.heap [] := va_S.rf
  have hl : lv_has ls 3 [(0, .ref o), (1, .int v1), (2, .int v2)] := hl
  have hRf : 6 ≤ ({ frames := 6, cells := 1, slots := 7, locals := 100 } : Room).frames := Nat.le_refl _
  have hC1 : 1 ≤ ({ frames := 6, cells := 1, slots := 7, locals := 100 } : Room).cells := Nat.le_refl _
  have hS7 : 7 ≤ ({ frames := 6, cells := 1, slots := 7, locals := 100 } : Room).slots := Nat.le_refl _
  have hRl : 100 ≤ ({ frames := 6, cells := 1, slots := 7, locals := 100 } : Room).locals := Nat.le_refl _
  have hC : 0 ≤ ({ frames := 6, cells := 1, slots := 7, locals := 100 } : Room).cells := Nat.zero_le _
  have hSl : 0 ≤ ({ frames := 6, cells := 1, slots := 7, locals := 100 } : Room).slots := Nat.zero_le _
  unfold wp_S_cell at h
  refine lv_aload_n hx hb dX1_cell_0 rfl (lv_at hl 0 rfl) ?_
  refine lv_iload_n hx hb dX1_cell_1 rfl (lv_at hl 1 rfl) ?_
  refine cl_i F (va_runV (As := [.int v1]) (rest := []) ⟨hx, hb, hml, hown, hts⟩ (ct_S_isCell h _) (cwV 1 hts (lw_V q651 q653 qs9 q94 q654) rfl rfl rfl (by decide +kernel) ⟨Nat.le_trans (Nat.le_of_ble_eq_true rfl) hRf, Nat.le_trans (Nat.le_of_ble_eq_true rfl) hRl⟩) ⟨ct_blind, va_recv hK hP (ci := 0) (q0 := 0) rfl rfl, ct_at F hS hP hD⟩ rfl rfl hl.1 rfl (lv_room (Nat.le_of_ble_eq_true rfl)) dX1_cell_2 ⟨hC, hSl⟩) rfl rfl hD hS ?_
  rintro x1 _ H locs h hP hD hS
  refine lv_if_ne (tgt := 16) hx hb dX1_cell_5 (by decide) (fun c11 => ?_) (fun c11 => ?_)
  · replace h := h.1 c11
    refine lv_iload_n hx hb dX1_cell_16 rfl (lv_at hl 2 rfl) ?_
    by_cases c2 : v2 = (0 : Int32)
    · replace h := h.1 c2
      refine lv_tableIn (off := 43) (tgt := 60) hx hb dX1_cell_17 (by rw [c2]; decide) (by rw [c2]; decide) (by rw [c2]; rfl) (by decide) ?_
      refine lv_aload_n hx hb dX1_cell_60 rfl (lv_at hl 0 rfl) ?_
      refine va_get hx hb hts in_X1 hown hK hP 0 rfl rfl 4 (Nat.le_of_ble_eq_true rfl) (hts _ q188) (fun _ h => h) (v := .ref (ax 4)) rfl dX1_cell_61 ?_
      refine lv_iload_n hx hb dX1_cell_64 rfl (lv_at hl 1 rfl) ?_
      refine va_iald (f := (ar 4)) hx hb hK hP 1 0 rfl rfl h.1 dX1_cell_65 ?_
      replace h := h.2
      exact vx_ret (rt_i F dX1_cell_66 rfl () h hP hD hS (Nat.le_refl _) (Nat.le_refl _))
    replace h := h.2 c2
    by_cases c3 : v2 = (1 : Int32)
    · replace h := h.1 c3
      refine lv_tableIn (off := 50) (tgt := 67) hx hb dX1_cell_17 (by rw [c3]; decide) (by rw [c3]; decide) (by rw [c3]; rfl) (by decide) ?_
      refine lv_aload_n hx hb dX1_cell_67 rfl (lv_at hl 0 rfl) ?_
      refine va_get hx hb hts in_X1 hown hK hP 0 rfl rfl 0 (Nat.le_of_ble_eq_true rfl) (hts _ q180) (fun _ h => h) (v := .ref (ax 0)) rfl dX1_cell_68 ?_
      refine va_get hx hb hts in_X2 hown hK hP 14 rfl rfl 0 (Nat.le_of_ble_eq_true rfl) (hts _ q135) (fun _ h => h) (v := .ref (ax 40)) rfl dX1_cell_71 ?_
      refine lv_iload_n hx hb dX1_cell_74 rfl (lv_at hl 1 rfl) ?_
      refine va_iald (f := (ar 40)) hx hb hK hP 15 0 rfl rfl h.1 dX1_cell_75 ?_
      replace h := h.2
      exact vx_ret (rt_i F dX1_cell_76 rfl () h hP hD hS (Nat.le_refl _) (Nat.le_refl _))
    replace h := h.2 c3
    by_cases c4 : v2 = (2 : Int32)
    · replace h := h.1 c4
      refine lv_tableIn (off := 60) (tgt := 77) hx hb dX1_cell_17 (by rw [c4]; decide) (by rw [c4]; decide) (by rw [c4]; rfl) (by decide) ?_
      refine lv_aload_n hx hb dX1_cell_77 rfl (lv_at hl 0 rfl) ?_
      refine va_get hx hb hts in_X1 hown hK hP 0 rfl rfl 0 (Nat.le_of_ble_eq_true rfl) (hts _ q180) (fun _ h => h) (v := .ref (ax 0)) rfl dX1_cell_78 ?_
      refine va_get hx hb hts in_X2 hown hK hP 14 rfl rfl 4 (Nat.le_of_ble_eq_true rfl) (hts _ q146) (fun _ h => h) (v := .int (fd 60)) rfl dX1_cell_81 ?_
      refine lv_iload_n hx hb dX1_cell_84 rfl (lv_at hl 1 rfl) ?_
      refine lv_ishr hx hb dX1_cell_85 ?_
      refine lv_iconst (v := (1 : Int32)) hx hb dX1_cell_86 (by decide) ?_
      refine lv_iand hx hb dX1_cell_87 ?_
      exact vx_ret (rt_i F dX1_cell_88 rfl () h hP hD hS (Nat.le_refl _) (Nat.le_refl _))
    replace h := h.2 c4
    by_cases c5 : v2 = (3 : Int32)
    · replace h := h.1 c5
      refine lv_tableIn (off := 72) (tgt := 89) hx hb dX1_cell_17 (by rw [c5]; decide) (by rw [c5]; decide) (by rw [c5]; rfl) (by decide) ?_
      refine lv_aload_n hx hb dX1_cell_89 rfl (lv_at hl 0 rfl) ?_
      refine va_get hx hb hts in_X1 hown hK hP 0 rfl rfl 0 (Nat.le_of_ble_eq_true rfl) (hts _ q180) (fun _ h => h) (v := .ref (ax 0)) rfl dX1_cell_90 ?_
      refine va_get hx hb hts in_X2 hown hK hP 14 rfl rfl 1 (Nat.le_of_ble_eq_true rfl) (hts _ q137) (fun _ h => h) (v := .ref (ax 41)) rfl dX1_cell_93 ?_
      refine lv_iload_n hx hb dX1_cell_96 rfl (lv_at hl 1 rfl) ?_
      refine va_iald (f := (ar 41)) hx hb hK hP 16 0 rfl rfl h.1 dX1_cell_97 ?_
      replace h := h.2
      exact vx_ret (rt_i F dX1_cell_98 rfl () h hP hD hS (Nat.le_refl _) (Nat.le_refl _))
    replace h := h.2 c5
    by_cases c6 : v2 = (4 : Int32)
    · replace h := h.1 c6
      refine lv_tableIn (off := 82) (tgt := 99) hx hb dX1_cell_17 (by rw [c6]; decide) (by rw [c6]; decide) (by rw [c6]; rfl) (by decide) ?_
      refine lv_aload_n hx hb dX1_cell_99 rfl (lv_at hl 0 rfl) ?_
      refine va_get hx hb hts in_X1 hown hK hP 0 rfl rfl 5 (Nat.le_of_ble_eq_true rfl) (hts _ q189) (fun _ h => h) (v := .ref (ax 5)) rfl dX1_cell_100 ?_
      refine lv_iload_n hx hb dX1_cell_103 rfl (lv_at hl 1 rfl) ?_
      refine va_iald (f := (ar 5)) hx hb hK hP 2 0 rfl rfl h.1 dX1_cell_104 ?_
      replace h := h.2
      exact vx_ret (rt_i F dX1_cell_105 rfl () h hP hD hS (Nat.le_refl _) (Nat.le_refl _))
    replace h := h.2 c6
    by_cases c7 : v2 = (5 : Int32)
    · replace h := h.1 c7
      refine lv_tableIn (off := 89) (tgt := 106) hx hb dX1_cell_17 (by rw [c7]; decide) (by rw [c7]; decide) (by rw [c7]; rfl) (by decide) ?_
      refine lv_aload_n hx hb dX1_cell_106 rfl (lv_at hl 0 rfl) ?_
      refine va_get hx hb hts in_X1 hown hK hP 0 rfl rfl 0 (Nat.le_of_ble_eq_true rfl) (hts _ q180) (fun _ h => h) (v := .ref (ax 0)) rfl dX1_cell_107 ?_
      refine lv_iload_n hx hb dX1_cell_110 rfl (lv_at hl 1 rfl) ?_
      refine lv_aload_n hx hb dX1_cell_111 rfl (lv_at hl 0 rfl) ?_
      refine va_get hx hb hts in_X1 hown hK hP 0 rfl rfl 10 (Nat.le_of_ble_eq_true rfl) (hts _ q199) (fun _ h => h) (v := .int (fd 10)) rfl dX1_cell_112 ?_
      refine cl_iL F (va_runV (As := [.int v1, .int (fd 10)]) (rest := []) ⟨hx, hb, hml, hown, hts⟩ (ct_B_those (o := (ax 0)) (ab := axb ax 0) h _) (cwV 2 hts (lw_V q1194 q1195 q1196 q95 q1197) rfl rfl rfl (by decide +kernel) ⟨Nat.le_trans (Nat.le_of_ble_eq_true rfl) hRf, Nat.le_trans (Nat.le_of_ble_eq_true rfl) hRl⟩) ⟨ct_blind, va_recv hK hP (ci := 1) (q0 := 14) rfl rfl, ct_at F hS (putL_P hP (ps := [14, 15, 16, 17, 18]) rfl) (hD.sub ([14, 15, 16, 17, 18]) (by decide) rfl)⟩ rfl rfl hl.1 rfl (lv_room (Nat.le_of_ble_eq_true rfl)) dX1_cell_115 ⟨hC, hSl⟩) rfl rfl hP hD hS (ps := [14, 15, 16, 17, 18]) rfl (fun _ => rfl) (fun _ => wXP_0_none) ?_
      rintro x8 _ H locs h hP hD hS
      exact vx_ret (rt_i F dX1_cell_118 rfl () h hP hD hS (Nat.le_refl _) (Nat.le_refl _))
    replace h := h.2 c7
    by_cases c9 : v2 = (6 : Int32)
    · replace h := h.1 c9
      refine lv_tableIn (off := 102) (tgt := 119) hx hb dX1_cell_17 (by rw [c9]; decide) (by rw [c9]; decide) (by rw [c9]; rfl) (by decide) ?_
      refine lv_aload_n hx hb dX1_cell_119 rfl (lv_at hl 0 rfl) ?_
      refine lv_aload_n hx hb dX1_cell_120 rfl (lv_at hl 0 rfl) ?_
      refine va_get hx hb hts in_X1 hown hK hP 0 rfl rfl 0 (Nat.le_of_ble_eq_true rfl) (hts _ q180) (fun _ h => h) (v := .ref (ax 0)) rfl dX1_cell_121 ?_
      refine lv_iload_n hx hb dX1_cell_124 rfl (lv_at hl 1 rfl) ?_
      refine cl_i F (va_runV (As := [.ref (ax 0), .int v1]) (rest := []) ⟨hx, hb, hml, hown, hts⟩ (ct_S_topOf_i0 h _) (cwV 2 hts (lw_V q756 q758 qs23 q94 q759) rfl rfl rfl (by decide +kernel) ⟨Nat.le_trans (Nat.le_of_ble_eq_true rfl) hRf, Nat.le_trans (Nat.le_of_ble_eq_true rfl) hRl⟩) ⟨ct_blind, va_recv hK hP (ci := 0) (q0 := 0) rfl rfl, ct_at F hS hP hD⟩ rfl rfl hl.1 rfl (lv_room (Nat.le_of_ble_eq_true rfl)) dX1_cell_125 ⟨hC, hSl⟩) rfl rfl hD hS ?_
      rintro x10 _ H locs h hP hD hS
      exact vx_ret (rt_i F dX1_cell_128 rfl () h hP hD hS (Nat.le_refl _) (Nat.le_refl _))
    replace h := h.2 c9
    have hsw : v2.toInt < (0 : Int) ∨ (6 : Int) < v2.toInt := by
      have := lv_neT (a := 0) c2 (by decide)
      have := lv_neT (a := 1) c3 (by decide)
      have := lv_neT (a := 2) c4 (by decide)
      have := lv_neT (a := 3) c5 (by decide)
      have := lv_neT (a := 4) c6 (by decide)
      have := lv_neT (a := 5) c7 (by decide)
      have := lv_neT (a := 6) c9 (by decide)
      omega
    refine lv_tableOut (tgt := 129) hx hb dX1_cell_17 hsw (by decide) ?_
    exact rn_out F hlt htab hl h hP hD hS dX1_cell_129 dX1_cell_132 dX1_cell_133 dX1_cell_136 (Nat.le_trans (Nat.le_of_ble_eq_true rfl) hRf) (Nat.le_trans (Nat.le_of_ble_eq_true rfl) hRl) hC1 (Nat.le_trans (Nat.le_of_ble_eq_true rfl) hS7) (Nat.le_refl _) (Nat.le_of_ble_eq_true rfl)
  · replace h := h.2 c11
    exact rn_out F hlt htab hl h hP hD hS dX1_cell_8 dX1_cell_11 dX1_cell_12 dX1_cell_15 (Nat.le_trans (Nat.le_of_ble_eq_true rfl) hRf) (Nat.le_trans (Nat.le_of_ble_eq_true rfl) hRl) hC1 (Nat.le_trans (Nat.le_of_ble_eq_true rfl) hS7) (Nat.le_refl _) (Nat.le_of_ble_eq_true rfl)
set_option maxHeartbeats 4000000 in
theorem cn_S_child {l : Launch} {V : evT} {D : va_G} {gI : Nat → ClassId} {o : Nat} {ax : Nat → Nat} {tl : va_W} (hlt : l.stackTraces = false) {v1 : Int32} {v2 : Int32} {fd : Nat → Int32} {ar : Nat → Nat → Int32} {lw : Nat → Int64} {hh : HT} {rn : Option (Nat × Nat)} {Q : Int32 → Prop} {E : Prop} (h : wp_S_child v1 v2 fd ar lw hh rn Q E) : cn_i RJ9 l V D (tyL gI) yX1_child cX1_child 3 .int { frames := 6, cells := 1, slots := 7, locals := 100 } [.ref o, .int v1, .int v2] (wX gI o ax rn tl fd ar lw hh) (fun u : Unit => (wX gI o ax rn tl fd ar lw hh)) (fun (x : Int32) (u : Unit) => Q x) (wX gI o ax rn tl fd ar lw hh) E := by
  refine cn_ofi RX1 rfl (by decide +kernel) (Nat.le_of_ble_eq_true rfl) ?_
  intro p e s m args below meth c A F htab hP hD ls hl
  obtain ⟨⟨hx, hb, hml, hown, hts⟩, hr, hlocks, hA, hK, hE⟩ := id F
  have hS : va_S A s.heap s.heap [] := va_S.rf
  have hl : lv_has ls 3 [(0, .ref o), (1, .int v1), (2, .int v2)] := hl
  have hRf : 6 ≤ ({ frames := 6, cells := 1, slots := 7, locals := 100 } : Room).frames := Nat.le_refl _
  have hC1 : 1 ≤ ({ frames := 6, cells := 1, slots := 7, locals := 100 } : Room).cells := Nat.le_refl _
  have hS7 : 7 ≤ ({ frames := 6, cells := 1, slots := 7, locals := 100 } : Room).slots := Nat.le_refl _
  have hRl : 100 ≤ ({ frames := 6, cells := 1, slots := 7, locals := 100 } : Room).locals := Nat.le_refl _
  have hC : 0 ≤ ({ frames := 6, cells := 1, slots := 7, locals := 100 } : Room).cells := Nat.zero_le _
  have hSl : 0 ≤ ({ frames := 6, cells := 1, slots := 7, locals := 100 } : Room).slots := Nat.zero_le _
  unfold wp_S_child at h
  refine lv_aload_n hx hb dX1_child_0 rfl (lv_at hl 0 rfl) ?_
  refine lv_iload_n hx hb dX1_child_1 rfl (lv_at hl 1 rfl) ?_
  refine cl_i F (va_runV (As := [.int v1]) (rest := []) ⟨hx, hb, hml, hown, hts⟩ (ct_S_isKid h _) (cwV 1 hts (lw_V q647 q649 qs8 q94 q650) rfl rfl rfl (by decide +kernel) ⟨Nat.le_trans (Nat.le_of_ble_eq_true rfl) hRf, Nat.le_trans (Nat.le_of_ble_eq_true rfl) hRl⟩) ⟨ct_blind, va_recv hK hP (ci := 0) (q0 := 0) rfl rfl, ct_at F hS hP hD⟩ rfl rfl hl.1 rfl (lv_room (Nat.le_of_ble_eq_true rfl)) dX1_child_2 ⟨hC, hSl⟩) rfl rfl hD hS ?_
  rintro x1 _ H locs h hP hD hS
  refine lv_if_ne (tgt := 16) hx hb dX1_child_5 (by decide) (fun c10 => ?_) (fun c10 => ?_)
  · replace h := h.1 c10
    refine lv_iload_n hx hb dX1_child_16 rfl (lv_at hl 2 rfl) ?_
    by_cases c2 : v2 = (0 : Int32)
    · replace h := h.1 c2
      refine lv_tableIn (off := 43) (tgt := 60) hx hb dX1_child_17 (by rw [c2]; decide) (by rw [c2]; decide) (by rw [c2]; rfl) (by decide) ?_
      refine lv_aload_n hx hb dX1_child_60 rfl (lv_at hl 0 rfl) ?_
      refine va_get hx hb hts in_X1 hown hK hP 0 rfl rfl 6 (Nat.le_of_ble_eq_true rfl) (hts _ q190) (fun _ h => h) (v := .ref (ax 6)) rfl dX1_child_61 ?_
      refine lv_iload_n hx hb dX1_child_64 rfl (lv_at hl 1 rfl) ?_
      refine va_iald (f := (ar 6)) hx hb hK hP 3 0 rfl rfl h.1 dX1_child_65 ?_
      replace h := h.2
      exact vx_ret (rt_i F dX1_child_66 rfl () h hP hD hS (Nat.le_refl _) (Nat.le_refl _))
    replace h := h.2 c2
    by_cases c3 : v2 = (1 : Int32)
    · replace h := h.1 c3
      refine lv_tableIn (off := 50) (tgt := 67) hx hb dX1_child_17 (by rw [c3]; decide) (by rw [c3]; decide) (by rw [c3]; rfl) (by decide) ?_
      refine lv_aload_n hx hb dX1_child_67 rfl (lv_at hl 0 rfl) ?_
      refine va_get hx hb hts in_X1 hown hK hP 0 rfl rfl 7 (Nat.le_of_ble_eq_true rfl) (hts _ q191) (fun _ h => h) (v := .ref (ax 7)) rfl dX1_child_68 ?_
      refine lv_iload_n hx hb dX1_child_71 rfl (lv_at hl 1 rfl) ?_
      refine va_iald (f := (ar 7)) hx hb hK hP 4 0 rfl rfl h.1 dX1_child_72 ?_
      replace h := h.2
      exact vx_ret (rt_i F dX1_child_73 rfl () h hP hD hS (Nat.le_refl _) (Nat.le_refl _))
    replace h := h.2 c3
    by_cases c4 : v2 = (2 : Int32)
    · replace h := h.1 c4
      refine lv_tableIn (off := 57) (tgt := 74) hx hb dX1_child_17 (by rw [c4]; decide) (by rw [c4]; decide) (by rw [c4]; rfl) (by decide) ?_
      refine lv_aload_n hx hb dX1_child_74 rfl (lv_at hl 0 rfl) ?_
      refine va_get hx hb hts in_X1 hown hK hP 0 rfl rfl 8 (Nat.le_of_ble_eq_true rfl) (hts _ q192) (fun _ h => h) (v := .ref (ax 8)) rfl dX1_child_75 ?_
      refine lv_iload_n hx hb dX1_child_78 rfl (lv_at hl 1 rfl) ?_
      refine va_iald (f := (ar 8)) hx hb hK hP 5 0 rfl rfl h.1 dX1_child_79 ?_
      replace h := h.2
      exact vx_ret (rt_i F dX1_child_80 rfl () h hP hD hS (Nat.le_refl _) (Nat.le_refl _))
    replace h := h.2 c4
    by_cases c5 : v2 = (3 : Int32)
    · replace h := h.1 c5
      refine lv_tableIn (off := 64) (tgt := 81) hx hb dX1_child_17 (by rw [c5]; decide) (by rw [c5]; decide) (by rw [c5]; rfl) (by decide) ?_
      refine lv_aload_n hx hb dX1_child_81 rfl (lv_at hl 0 rfl) ?_
      refine va_get hx hb hts in_X1 hown hK hP 0 rfl rfl 0 (Nat.le_of_ble_eq_true rfl) (hts _ q180) (fun _ h => h) (v := .ref (ax 0)) rfl dX1_child_82 ?_
      refine va_get hx hb hts in_X2 hown hK hP 14 rfl rfl 3 (Nat.le_of_ble_eq_true rfl) (hts _ q144) (fun _ h => h) (v := .ref (ax 43)) rfl dX1_child_85 ?_
      refine lv_iload_n hx hb dX1_child_88 rfl (lv_at hl 1 rfl) ?_
      refine va_iald (f := (ar 43)) hx hb hK hP 18 0 rfl rfl h.1 dX1_child_89 ?_
      replace h := h.2
      exact vx_ret (rt_i F dX1_child_90 rfl () h hP hD hS (Nat.le_refl _) (Nat.le_refl _))
    replace h := h.2 c5
    by_cases c6 : v2 = (4 : Int32)
    · replace h := h.1 c6
      refine lv_tableIn (off := 74) (tgt := 91) hx hb dX1_child_17 (by rw [c6]; decide) (by rw [c6]; decide) (by rw [c6]; rfl) (by decide) ?_
      refine lv_aload_n hx hb dX1_child_91 rfl (lv_at hl 0 rfl) ?_
      refine va_get hx hb hts in_X1 hown hK hP 0 rfl rfl 0 (Nat.le_of_ble_eq_true rfl) (hts _ q180) (fun _ h => h) (v := .ref (ax 0)) rfl dX1_child_92 ?_
      refine va_get hx hb hts in_X2 hown hK hP 14 rfl rfl 5 (Nat.le_of_ble_eq_true rfl) (hts _ q148) (fun _ h => h) (v := .int (fd 61)) rfl dX1_child_95 ?_
      refine lv_iload_n hx hb dX1_child_98 rfl (lv_at hl 1 rfl) ?_
      refine lv_ishr hx hb dX1_child_99 ?_
      refine lv_iconst (v := (1 : Int32)) hx hb dX1_child_100 (by decide) ?_
      refine lv_iand hx hb dX1_child_101 ?_
      exact vx_ret (rt_i F dX1_child_102 rfl () h hP hD hS (Nat.le_refl _) (Nat.le_refl _))
    replace h := h.2 c6
    by_cases c7 : v2 = (5 : Int32)
    · replace h := h.1 c7
      refine lv_tableIn (off := 86) (tgt := 103) hx hb dX1_child_17 (by rw [c7]; decide) (by rw [c7]; decide) (by rw [c7]; rfl) (by decide) ?_
      refine lv_aload_n hx hb dX1_child_103 rfl (lv_at hl 0 rfl) ?_
      refine va_get hx hb hts in_X1 hown hK hP 0 rfl rfl 0 (Nat.le_of_ble_eq_true rfl) (hts _ q180) (fun _ h => h) (v := .ref (ax 0)) rfl dX1_child_104 ?_
      refine va_get hx hb hts in_X2 hown hK hP 14 rfl rfl 2 (Nat.le_of_ble_eq_true rfl) (hts _ q141) (fun _ h => h) (v := .ref (ax 42)) rfl dX1_child_107 ?_
      refine lv_iload_n hx hb dX1_child_110 rfl (lv_at hl 1 rfl) ?_
      refine va_iald (f := (ar 42)) hx hb hK hP 17 0 rfl rfl h.1 dX1_child_111 ?_
      replace h := h.2
      exact vx_ret (rt_i F dX1_child_112 rfl () h hP hD hS (Nat.le_refl _) (Nat.le_refl _))
    replace h := h.2 c7
    by_cases c8 : v2 = (6 : Int32)
    · replace h := h.1 c8
      refine lv_tableIn (off := 96) (tgt := 113) hx hb dX1_child_17 (by rw [c8]; decide) (by rw [c8]; decide) (by rw [c8]; rfl) (by decide) ?_
      refine lv_aload_n hx hb dX1_child_113 rfl (lv_at hl 0 rfl) ?_
      refine lv_aload_n hx hb dX1_child_114 rfl (lv_at hl 0 rfl) ?_
      refine va_get hx hb hts in_X1 hown hK hP 0 rfl rfl 0 (Nat.le_of_ble_eq_true rfl) (hts _ q180) (fun _ h => h) (v := .ref (ax 0)) rfl dX1_child_115 ?_
      refine lv_iload_n hx hb dX1_child_118 rfl (lv_at hl 1 rfl) ?_
      refine cl_i F (va_runV (As := [.ref (ax 0), .int v1]) (rest := []) ⟨hx, hb, hml, hown, hts⟩ (ct_S_bucketsOf_i0 h _) (cwV 2 hts (lw_V q713 q715 qs16 q94 q716) rfl rfl rfl (by decide +kernel) ⟨Nat.le_trans (Nat.le_of_ble_eq_true rfl) hRf, Nat.le_trans (Nat.le_of_ble_eq_true rfl) hRl⟩) ⟨ct_blind, va_recv hK hP (ci := 0) (q0 := 0) rfl rfl, ct_at F hS hP hD⟩ rfl rfl hl.1 rfl (lv_room (Nat.le_of_ble_eq_true rfl)) dX1_child_119 ⟨hC, hSl⟩) rfl rfl hD hS ?_
      rintro x9 _ H locs h hP hD hS
      exact vx_ret (rt_i F dX1_child_122 rfl () h hP hD hS (Nat.le_refl _) (Nat.le_refl _))
    replace h := h.2 c8
    have hsw : v2.toInt < (0 : Int) ∨ (6 : Int) < v2.toInt := by
      have := lv_neT (a := 0) c2 (by decide)
      have := lv_neT (a := 1) c3 (by decide)
      have := lv_neT (a := 2) c4 (by decide)
      have := lv_neT (a := 3) c5 (by decide)
      have := lv_neT (a := 4) c6 (by decide)
      have := lv_neT (a := 5) c7 (by decide)
      have := lv_neT (a := 6) c8 (by decide)
      omega
    refine lv_tableOut (tgt := 123) hx hb dX1_child_17 hsw (by decide) ?_
    exact rn_out F hlt htab hl h hP hD hS dX1_child_123 dX1_child_126 dX1_child_127 dX1_child_130 (Nat.le_trans (Nat.le_of_ble_eq_true rfl) hRf) (Nat.le_trans (Nat.le_of_ble_eq_true rfl) hRl) hC1 (Nat.le_trans (Nat.le_of_ble_eq_true rfl) hS7) (Nat.le_refl _) (Nat.le_of_ble_eq_true rfl)
  · replace h := h.2 c10
    exact rn_out F hlt htab hl h hP hD hS dX1_child_8 dX1_child_11 dX1_child_12 dX1_child_15 (Nat.le_trans (Nat.le_of_ble_eq_true rfl) hRf) (Nat.le_trans (Nat.le_of_ble_eq_true rfl) hRl) hC1 (Nat.le_trans (Nat.le_of_ble_eq_true rfl) hS7) (Nat.le_refl _) (Nat.le_of_ble_eq_true rfl)
set_option maxHeartbeats 4000000 in
theorem cn_S_row {l : Launch} {V : evT} {D : va_G} {gI : Nat → ClassId} {o : Nat} {ax : Nat → Nat} {tl : va_W} (hlt : l.stackTraces = false) {v1 : Int32} {fd : Nat → Int32} {ar : Nat → Nat → Int32} {lw : Nat → Int64} {hh : HT} {rn : Option (Nat × Nat)} {Q : Int64 → Prop} {E : Prop} (h : wp_S_row v1 fd ar lw hh rn Q E) : cn_l RJ9 l V D (tyL gI) yX1_row cX1_row 2 { frames := 6, cells := 1, slots := 7, locals := 100 } [.ref o, .int v1] (wX gI o ax rn tl fd ar lw hh) (fun u : Unit => (wX gI o ax rn tl fd ar lw hh)) (fun (x : Int64) (u : Unit) => Q x) (wX gI o ax rn tl fd ar lw hh) E := by
  refine cn_ofl RX1 rfl (by decide +kernel) (Nat.le_of_ble_eq_true rfl) ?_
  intro p e s m args below meth c A F htab hP hD ls hl
  obtain ⟨⟨hx, hb, hml, hown, hts⟩, hr, hlocks, hA, hK, hE⟩ := id F
  have hS : va_S A s.heap s.heap [] := va_S.rf
  have hl : lv_has ls 2 [(0, .ref o), (1, .int v1)] := hl
  have hRf : 6 ≤ ({ frames := 6, cells := 1, slots := 7, locals := 100 } : Room).frames := Nat.le_refl _
  have hC1 : 1 ≤ ({ frames := 6, cells := 1, slots := 7, locals := 100 } : Room).cells := Nat.le_refl _
  have hS7 : 7 ≤ ({ frames := 6, cells := 1, slots := 7, locals := 100 } : Room).slots := Nat.le_refl _
  have hRl : 100 ≤ ({ frames := 6, cells := 1, slots := 7, locals := 100 } : Room).locals := Nat.le_refl _
  have hC : 0 ≤ ({ frames := 6, cells := 1, slots := 7, locals := 100 } : Room).cells := Nat.zero_le _
  have hSl : 0 ≤ ({ frames := 6, cells := 1, slots := 7, locals := 100 } : Room).slots := Nat.zero_le _
  unfold wp_S_row at h
  refine lv_iload_n hx hb dX1_row_0 rfl (lv_at hl 1 rfl) ?_
  refine lv_i2l (v := (v1.toInt64)) hx hb dX1_row_1 rfl ?_
  refine lv_lconst (v := (0 : Int64)) hx hb dX1_row_2 (by decide) ?_
  refine lv_aload_n hx hb dX1_row_3 rfl (lv_at hl 0 rfl) ?_
  refine va_get hx hb hts in_X1 hown hK hP 0 rfl rfl 18 (Nat.le_of_ble_eq_true rfl) (hts _ q209) (fun _ h => h) (v := .int (fd 18)) rfl dX1_row_4 ?_
  refine lv_iconst (v := (1 : Int32)) hx hb dX1_row_7 (by decide) ?_
  refine lv_isub hx hb dX1_row_8 ?_
  refine lv_i2l (v := (((fd 18) - (1 : Int32)).toInt64)) hx hb dX1_row_9 rfl ?_
  refine cl_i0 F (va_runS (As := [.long (v1.toInt64), .long (0 : Int64), .long (((fd 18) - (1 : Int32)).toInt64)]) (rest := []) ⟨hx, hb, hml, hown, hts⟩ (ct_X1_in h _) (va_cwS 3 hts (lw_S q298 q299 q94 q300) rfl rfl rfl (by decide +kernel) ⟨Nat.le_trans (Nat.le_of_ble_eq_true rfl) hRf, Nat.le_trans (Nat.le_of_ble_eq_true rfl) hRl⟩) ⟨ct_blind, ct_at F hS ct_nP ct_nD⟩ rfl rfl hl.1 rfl (lv_room (Nat.le_of_ble_eq_true rfl)) dX1_row_10 ⟨hC, hSl⟩) rfl rfl hP hS ?_
  rintro x1 _ H locs h hP hS
  refine lv_if_ne (tgt := 24) hx hb dX1_row_13 (by decide) (fun c2 => ?_) (fun c2 => ?_)
  · replace h := h.1 c2
    refine lv_aload_n hx hb dX1_row_24 rfl (lv_at hl 0 rfl) ?_
    refine va_get hx hb hts in_X1 hown hK hP 0 rfl rfl 17 (Nat.le_of_ble_eq_true rfl) (hts _ q208) (fun _ h => h) (v := .ref (ax 17)) rfl dX1_row_25 ?_
    refine lv_iload_n hx hb dX1_row_28 rfl (lv_at hl 1 rfl) ?_
    refine va_lald (f := lw) hx hb hK hP 7 1 rfl rfl h.1 dX1_row_29 ?_
    replace h := h.2
    exact vx_ret (rt_l F dX1_row_30 () h hP hD hS (Nat.le_refl _) (Nat.le_refl _))
  · replace h := h.2 c2
    exact rn_out F hlt htab hl h hP hD hS dX1_row_16 dX1_row_19 dX1_row_20 dX1_row_23 (Nat.le_trans (Nat.le_of_ble_eq_true rfl) hRf) (Nat.le_trans (Nat.le_of_ble_eq_true rfl) hRl) hC1 (Nat.le_trans (Nat.le_of_ble_eq_true rfl) hS7) (Nat.le_refl _) (Nat.le_of_ble_eq_true rfl)
set_option maxHeartbeats 8000000 in
theorem ct_L_cell {l : Launch} {V : evT} {D : va_G} {gI : Nat → ClassId} {o : Nat} {ax : Nat → Nat} {tl : va_W} {po : Nat} (hlt : l.stackTraces = false) {v1 : Int32} {v2 : Int32} {fd : Nat → Int32} {ar : Nat → Nat → Int32} {lw : Nat → Int64} {hh : HT} {rn : Option (Nat × Nat)} {ot : Nat → Int64} {Q : Int32 → (Nat → Int64) → Prop} (h : wp_L_cell v1 v2 fd ar lw hh rn ot Q) : ctW_i l V D (tyL gI) yX0_cell cX0_cell 5 .int [(0, 10, 13, 13)] { frames := 7, cells := 1, slots := 7, locals := 122 } [.ref o, .int v1, .int v2, .ref po] (wX gI o ax rn ([(po, .inl (gI 1, 1, .inr (.inl ot)))] ++ tl) fd ar lw hh) (fun u : (Nat → Int64) => (wX gI o ax rn ([(po, .inl (gI 1, 1, .inr (.inl u)))] ++ tl) fd ar lw hh)) (fun (x : Int32) (u : (Nat → Int64)) => Q x u) := by
  refine ctW_ofi RX0 rfl (by decide +kernel) (Nat.le_of_ble_eq_true rfl) ?_
  intro p e s m args below meth c A F htab hP hD ls hl
  obtain ⟨⟨hx, hb, hml, hown, hts⟩, hr, hlocks, hA, hK, hE⟩ := id F
  have hS : va_S A s.heap s.heap [] := va_S.rf
  have hl : lv_has ls 5 [(0, .ref o), (1, .int v1), (2, .int v2), (3, .ref po)] := hl
  have hRf : 7 ≤ ({ frames := 7, cells := 1, slots := 7, locals := 122 } : Room).frames := Nat.le_refl _
  have hC : 0 ≤ ({ frames := 7, cells := 1, slots := 7, locals := 122 } : Room).cells := Nat.le_of_ble_eq_true rfl
  have hSl : 0 ≤ ({ frames := 7, cells := 1, slots := 7, locals := 122 } : Room).slots := Nat.le_of_ble_eq_true rfl
  have hC1 : 0 + 1 ≤ ({ frames := 7, cells := 1, slots := 7, locals := 122 } : Room).cells := Nat.le_of_ble_eq_true rfl
  have hS7 : 0 + 7 ≤ ({ frames := 7, cells := 1, slots := 7, locals := 122 } : Room).slots := Nat.le_of_ble_eq_true rfl
  have hM : 0 + 1 ≤ 1 := Nat.le_of_ble_eq_true rfl
  have hMs : 0 + 7 ≤ 7 := Nat.le_of_ble_eq_true rfl
  have hRl : 122 ≤ ({ frames := 7, cells := 1, slots := 7, locals := 122 } : Room).locals := Nat.le_refl _
  unfold wp_L_cell at h
  refine lv_aload_n hx hb dX0_cell_0 rfl (lv_at hl 3 rfl) ?_
  refine lv_iconst (v := (0 : Int32)) hx hb dX0_cell_1 (by decide) ?_
  refine lv_aload_n hx hb dX0_cell_2 rfl (lv_at hl 0 rfl) ?_
  refine lv_iload_n hx hb dX0_cell_3 rfl (lv_at hl 1 rfl) ?_
  refine lv_iload_n hx hb dX0_cell_4 rfl (lv_at hl 2 rfl) ?_
  refine cln_i F (vx_runV (As := [.int v1, .int v2]) (rest := [.int (0 : Int32), .ref po]) ⟨hx, hb, hml, hown, hts⟩ (cn_S_cell hlt h _) (cwV 2 hts (lw_V q1172 q1173 q1174 q94 q1175) rfl rfl rfl (by decide +kernel) ⟨Nat.le_trans (Nat.le_of_ble_eq_true rfl) hRf, Nat.le_trans (Nat.le_of_ble_eq_true rfl) hRl⟩) ⟨ct_blind, va_recv hK hP (ci := 0) (q0 := 0) rfl rfl, ct_at F hS hP hD⟩ rfl rfl hl.1 rfl (lv_room (Nat.le_of_ble_eq_true rfl)) dX0_cell_5 ⟨hC1, hS7⟩) hD hS ?_ ?_
  · rintro q2 ce H locs h hP hD hS hce hcv hcl
    refine vx_catch hown [] ⟨0, 10, 13, 13⟩ [] htab (fun z hz => absurd hz List.not_mem_nil) (by decide) (by decide) (hts _ q1171) (va_Nw.use rfl (hE.1 _ q1178 rfl)) hce hcv hcl ?_
    refine lv_astore (lv' := [(4, .ref q2), (0, .ref o), (1, .int v1), (2, .int v2), (3, .ref po)]) hx hb dX0_cell_13 hl (by decide) rfl (fun ls hl => ?_)
    refine lv_iconst (v := (1 : Int32)) hx hb dX0_cell_15 (by decide) ?_
    exact rt_i F dX0_cell_16 rfl (ot) h hP hD hS (Nat.le_of_ble_eq_true rfl) (Nat.le_of_ble_eq_true rfl)
  · rintro x1 _ H locs h hP hD hS
    refine lv_i2l (v := (x1.toInt64)) hx hb dX0_cell_8 rfl ?_
    replace hP := fr_outP (xs := [(po, .inl (gI 1, 1, .inr (.inl ot)))]) hP
    replace hD := fr_outD (xs := [(po, .inl (gI 1, 1, .inr (.inl ot)))]) hD
    refine va_last (f := ot) hx hb hK hP hD hS 0 1 rfl rfl (by unfold vp_in; decide) dX0_cell_9 (fun H locs hP hD hS => ?_)
    replace hP := fr_inP (xs := [(po, .inl (gI 1, 1, .inr (.inl (vp_updL ot (0 : Int32).toNatClampNeg (x1.toInt64)))))]) hP
    replace hD := fr_inD (xs := [(po, .inl (gI 1, 1, .inr (.inl (vp_updL ot (0 : Int32).toNatClampNeg (x1.toInt64)))))]) hD
    refine lv_goto (tgt := 17) hx hb dX0_cell_10 (by decide) ?_
    refine lv_iconst (v := (0 : Int32)) hx hb dX0_cell_17 (by decide) ?_
    exact rt_i F dX0_cell_18 rfl ((vp_updL ot (0 : Int32).toNatClampNeg (x1.toInt64))) h hP hD hS (Nat.le_of_ble_eq_true rfl) (Nat.le_of_ble_eq_true rfl)
set_option maxHeartbeats 8000000 in
theorem ct_L_child {l : Launch} {V : evT} {D : va_G} {gI : Nat → ClassId} {o : Nat} {ax : Nat → Nat} {tl : va_W} {po : Nat} (hlt : l.stackTraces = false) {v1 : Int32} {v2 : Int32} {fd : Nat → Int32} {ar : Nat → Nat → Int32} {lw : Nat → Int64} {hh : HT} {rn : Option (Nat × Nat)} {ot : Nat → Int64} {Q : Int32 → (Nat → Int64) → Prop} (h : wp_L_child v1 v2 fd ar lw hh rn ot Q) : ctW_i l V D (tyL gI) yX0_child cX0_child 5 .int [(0, 10, 13, 13)] { frames := 7, cells := 1, slots := 7, locals := 122 } [.ref o, .int v1, .int v2, .ref po] (wX gI o ax rn ([(po, .inl (gI 1, 1, .inr (.inl ot)))] ++ tl) fd ar lw hh) (fun u : (Nat → Int64) => (wX gI o ax rn ([(po, .inl (gI 1, 1, .inr (.inl u)))] ++ tl) fd ar lw hh)) (fun (x : Int32) (u : (Nat → Int64)) => Q x u) := by
  refine ctW_ofi RX0 rfl (by decide +kernel) (Nat.le_of_ble_eq_true rfl) ?_
  intro p e s m args below meth c A F htab hP hD ls hl
  obtain ⟨⟨hx, hb, hml, hown, hts⟩, hr, hlocks, hA, hK, hE⟩ := id F
  have hS : va_S A s.heap s.heap [] := va_S.rf
  have hl : lv_has ls 5 [(0, .ref o), (1, .int v1), (2, .int v2), (3, .ref po)] := hl
  have hRf : 7 ≤ ({ frames := 7, cells := 1, slots := 7, locals := 122 } : Room).frames := Nat.le_refl _
  have hC : 0 ≤ ({ frames := 7, cells := 1, slots := 7, locals := 122 } : Room).cells := Nat.le_of_ble_eq_true rfl
  have hSl : 0 ≤ ({ frames := 7, cells := 1, slots := 7, locals := 122 } : Room).slots := Nat.le_of_ble_eq_true rfl
  have hC1 : 0 + 1 ≤ ({ frames := 7, cells := 1, slots := 7, locals := 122 } : Room).cells := Nat.le_of_ble_eq_true rfl
  have hS7 : 0 + 7 ≤ ({ frames := 7, cells := 1, slots := 7, locals := 122 } : Room).slots := Nat.le_of_ble_eq_true rfl
  have hM : 0 + 1 ≤ 1 := Nat.le_of_ble_eq_true rfl
  have hMs : 0 + 7 ≤ 7 := Nat.le_of_ble_eq_true rfl
  have hRl : 122 ≤ ({ frames := 7, cells := 1, slots := 7, locals := 122 } : Room).locals := Nat.le_refl _
  unfold wp_L_child at h
  refine lv_aload_n hx hb dX0_child_0 rfl (lv_at hl 3 rfl) ?_
  refine lv_iconst (v := (0 : Int32)) hx hb dX0_child_1 (by decide) ?_
  refine lv_aload_n hx hb dX0_child_2 rfl (lv_at hl 0 rfl) ?_
  refine lv_iload_n hx hb dX0_child_3 rfl (lv_at hl 1 rfl) ?_
  refine lv_iload_n hx hb dX0_child_4 rfl (lv_at hl 2 rfl) ?_
  refine cln_i F (vx_runV (As := [.int v1, .int v2]) (rest := [.int (0 : Int32), .ref po]) ⟨hx, hb, hml, hown, hts⟩ (cn_S_child hlt h _) (cwV 2 hts (lw_V q1201 q1202 q1203 q94 q1204) rfl rfl rfl (by decide +kernel) ⟨Nat.le_trans (Nat.le_of_ble_eq_true rfl) hRf, Nat.le_trans (Nat.le_of_ble_eq_true rfl) hRl⟩) ⟨ct_blind, va_recv hK hP (ci := 0) (q0 := 0) rfl rfl, ct_at F hS hP hD⟩ rfl rfl hl.1 rfl (lv_room (Nat.le_of_ble_eq_true rfl)) dX0_child_5 ⟨hC1, hS7⟩) hD hS ?_ ?_
  · rintro q2 ce H locs h hP hD hS hce hcv hcl
    refine vx_catch hown [] ⟨0, 10, 13, 13⟩ [] htab (fun z hz => absurd hz List.not_mem_nil) (by decide) (by decide) (hts _ q1171) (va_Nw.use rfl (hE.1 _ q1178 rfl)) hce hcv hcl ?_
    refine lv_astore (lv' := [(4, .ref q2), (0, .ref o), (1, .int v1), (2, .int v2), (3, .ref po)]) hx hb dX0_child_13 hl (by decide) rfl (fun ls hl => ?_)
    refine lv_iconst (v := (1 : Int32)) hx hb dX0_child_15 (by decide) ?_
    exact rt_i F dX0_child_16 rfl (ot) h hP hD hS (Nat.le_of_ble_eq_true rfl) (Nat.le_of_ble_eq_true rfl)
  · rintro x1 _ H locs h hP hD hS
    refine lv_i2l (v := (x1.toInt64)) hx hb dX0_child_8 rfl ?_
    replace hP := fr_outP (xs := [(po, .inl (gI 1, 1, .inr (.inl ot)))]) hP
    replace hD := fr_outD (xs := [(po, .inl (gI 1, 1, .inr (.inl ot)))]) hD
    refine va_last (f := ot) hx hb hK hP hD hS 0 1 rfl rfl (by unfold vp_in; decide) dX0_child_9 (fun H locs hP hD hS => ?_)
    replace hP := fr_inP (xs := [(po, .inl (gI 1, 1, .inr (.inl (vp_updL ot (0 : Int32).toNatClampNeg (x1.toInt64)))))]) hP
    replace hD := fr_inD (xs := [(po, .inl (gI 1, 1, .inr (.inl (vp_updL ot (0 : Int32).toNatClampNeg (x1.toInt64)))))]) hD
    refine lv_goto (tgt := 17) hx hb dX0_child_10 (by decide) ?_
    refine lv_iconst (v := (0 : Int32)) hx hb dX0_child_17 (by decide) ?_
    exact rt_i F dX0_child_18 rfl ((vp_updL ot (0 : Int32).toNatClampNeg (x1.toInt64))) h hP hD hS (Nat.le_of_ble_eq_true rfl) (Nat.le_of_ble_eq_true rfl)
set_option maxHeartbeats 8000000 in
theorem ct_L_row {l : Launch} {V : evT} {D : va_G} {gI : Nat → ClassId} {o : Nat} {ax : Nat → Nat} {tl : va_W} {po : Nat} (hlt : l.stackTraces = false) {v1 : Int32} {fd : Nat → Int32} {ar : Nat → Nat → Int32} {lw : Nat → Int64} {hh : HT} {rn : Option (Nat × Nat)} {ot : Nat → Int64} {Q : Int32 → (Nat → Int64) → Prop} (h : wp_L_row v1 fd ar lw hh rn ot Q) : ctW_i l V D (tyL gI) yX0_row cX0_row 4 .int [(0, 8, 11, 13)] { frames := 7, cells := 1, slots := 7, locals := 121 } [.ref o, .int v1, .ref po] (wX gI o ax rn ([(po, .inl (gI 1, 1, .inr (.inl ot)))] ++ tl) fd ar lw hh) (fun u : (Nat → Int64) => (wX gI o ax rn ([(po, .inl (gI 1, 1, .inr (.inl u)))] ++ tl) fd ar lw hh)) (fun (x : Int32) (u : (Nat → Int64)) => Q x u) := by
  refine ctW_ofi RX0 rfl (by decide +kernel) (Nat.le_of_ble_eq_true rfl) ?_
  intro p e s m args below meth c A F htab hP hD ls hl
  obtain ⟨⟨hx, hb, hml, hown, hts⟩, hr, hlocks, hA, hK, hE⟩ := id F
  have hS : va_S A s.heap s.heap [] := va_S.rf
  have hl : lv_has ls 4 [(0, .ref o), (1, .int v1), (2, .ref po)] := hl
  have hRf : 7 ≤ ({ frames := 7, cells := 1, slots := 7, locals := 121 } : Room).frames := Nat.le_refl _
  have hC : 0 ≤ ({ frames := 7, cells := 1, slots := 7, locals := 121 } : Room).cells := Nat.le_of_ble_eq_true rfl
  have hSl : 0 ≤ ({ frames := 7, cells := 1, slots := 7, locals := 121 } : Room).slots := Nat.le_of_ble_eq_true rfl
  have hC1 : 0 + 1 ≤ ({ frames := 7, cells := 1, slots := 7, locals := 121 } : Room).cells := Nat.le_of_ble_eq_true rfl
  have hS7 : 0 + 7 ≤ ({ frames := 7, cells := 1, slots := 7, locals := 121 } : Room).slots := Nat.le_of_ble_eq_true rfl
  have hM : 0 + 1 ≤ 1 := Nat.le_of_ble_eq_true rfl
  have hMs : 0 + 7 ≤ 7 := Nat.le_of_ble_eq_true rfl
  have hRl : 121 ≤ ({ frames := 7, cells := 1, slots := 7, locals := 121 } : Room).locals := Nat.le_refl _
  unfold wp_L_row at h
  refine lv_aload_n hx hb dX0_row_0 rfl (lv_at hl 2 rfl) ?_
  refine lv_iconst (v := (0 : Int32)) hx hb dX0_row_1 (by decide) ?_
  refine lv_aload_n hx hb dX0_row_2 rfl (lv_at hl 0 rfl) ?_
  refine lv_iload_n hx hb dX0_row_3 rfl (lv_at hl 1 rfl) ?_
  refine cln_l F (vx_runV (As := [.int v1]) (rest := [.int (0 : Int32), .ref po]) ⟨hx, hb, hml, hown, hts⟩ (cn_S_row hlt h _) (cwV 1 hts (lw_V q1208 q1209 q1210 q94 q1211) rfl rfl rfl (by decide +kernel) ⟨Nat.le_trans (Nat.le_of_ble_eq_true rfl) hRf, Nat.le_trans (Nat.le_of_ble_eq_true rfl) hRl⟩) ⟨ct_blind, va_recv hK hP (ci := 0) (q0 := 0) rfl rfl, ct_at F hS hP hD⟩ rfl rfl hl.1 rfl (lv_room (Nat.le_of_ble_eq_true rfl)) dX0_row_4 ⟨hC1, hS7⟩) hD hS ?_ ?_
  · rintro q2 ce H locs h hP hD hS hce hcv hcl
    refine vx_catch hown [] ⟨0, 8, 11, 13⟩ [] htab (fun z hz => absurd hz List.not_mem_nil) (by decide) (by decide) (hts _ q1171) (va_Nw.use rfl (hE.1 _ q1178 rfl)) hce hcv hcl ?_
    refine lv_astore_n (lv' := [(3, .ref q2), (0, .ref o), (1, .int v1), (2, .ref po)]) hx hb dX0_row_11 rfl hl (by decide) rfl (fun ls hl => ?_)
    refine lv_iconst (v := (1 : Int32)) hx hb dX0_row_12 (by decide) ?_
    exact rt_i F dX0_row_13 rfl (ot) h hP hD hS (Nat.le_of_ble_eq_true rfl) (Nat.le_of_ble_eq_true rfl)
  · rintro x1 _ H locs h hP hD hS
    replace hP := fr_outP (xs := [(po, .inl (gI 1, 1, .inr (.inl ot)))]) hP
    replace hD := fr_outD (xs := [(po, .inl (gI 1, 1, .inr (.inl ot)))]) hD
    refine va_last (f := ot) hx hb hK hP hD hS 0 1 rfl rfl (by unfold vp_in; decide) dX0_row_7 (fun H locs hP hD hS => ?_)
    replace hP := fr_inP (xs := [(po, .inl (gI 1, 1, .inr (.inl (vp_updL ot (0 : Int32).toNatClampNeg x1))))]) hP
    replace hD := fr_inD (xs := [(po, .inl (gI 1, 1, .inr (.inl (vp_updL ot (0 : Int32).toNatClampNeg x1))))]) hD
    refine lv_goto (tgt := 14) hx hb dX0_row_8 (by decide) ?_
    refine lv_iconst (v := (0 : Int32)) hx hb dX0_row_14 (by decide) ?_
    exact rt_i F dX0_row_15 rfl ((vp_updL ot (0 : Int32).toNatClampNeg x1)) h hP hD hS (Nat.le_of_ble_eq_true rfl) (Nat.le_of_ble_eq_true rfl)
