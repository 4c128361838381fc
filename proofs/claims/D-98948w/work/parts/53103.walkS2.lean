/-! X1_act -/
set_option maxRecDepth 100000
set_option maxHeartbeats 4000000 in
theorem cz_S_act {l : Launch} {V : evT} {D : va_G} {gI : Nat → ClassId} {o : Nat} {ax : Nat → Nat} {tl : va_W} (hlt : l.stackTraces = false) {v1 : Int32} {v2 : Int32} {v3 : Int32} {fd : Nat → Int32} {ar : Nat → Nat → Int32} {lw : Nat → Int64} {hh : HT} {rn : Option (Nat × Nat)} {Q : Int32 → (Nat → Int32) → (Nat → Nat → Int32) → Prop} (h : wp_S_act v1 v2 v3 fd ar lw hh rn Q) : cz_i l V D (tyL gI) yX1_act cX1_act 4 .boolean { frames := 213, cells := 1, slots := 7, locals := 5062 } [.ref o, .int v1, .int v2, .int v3] (wX gI o ax rn tl fd ar lw hh) (fun u : (Nat → Int32) × (Nat → Nat → Int32) => (wX gI o ax rn tl u.1 u.2 lw hh)) (fun (x : Int32) (u : (Nat → Int32) × (Nat → Nat → Int32)) => Q x u.1 u.2) := by
  refine cz_ofi RX1 rfl (by decide +kernel) (Nat.le_of_ble_eq_true rfl) ?_
  intro p e s m args below meth c A F hP hD ls hl
  obtain ⟨⟨hx, hb, hml, hown, hts⟩, hr, hlocks, hA, hK, hE⟩ := id F
  have hS : va_S A s.heap s.heap [] := va_S.rf
  have hl : lv_has ls 4 [(0, .ref o), (1, .int v1), (2, .int v2), (3, .int v3)] := hl
  have hRf : 213 ≤ ({ frames := 213, cells := 1, slots := 7, locals := 5062 } : Room).frames := Nat.le_refl _
  have hC1 : 1 ≤ ({ frames := 213, cells := 1, slots := 7, locals := 5062 } : Room).cells := Nat.le_refl _
  have hS7 : 7 ≤ ({ frames := 213, cells := 1, slots := 7, locals := 5062 } : Room).slots := Nat.le_refl _
  have hRl : 5062 ≤ ({ frames := 213, cells := 1, slots := 7, locals := 5062 } : Room).locals := Nat.le_refl _
  have hC : 0 ≤ ({ frames := 213, cells := 1, slots := 7, locals := 5062 } : Room).cells := Nat.zero_le _
  have hSl : 0 ≤ ({ frames := 213, cells := 1, slots := 7, locals := 5062 } : Room).slots := Nat.zero_le _
  unfold wp_S_act at h
  refine lv_iload_n hx hb dX1_act_0 rfl (lv_at hl 1 rfl) ?_
  by_cases c1 : v1 = (98 : Int32)
  · replace h := h.1 c1
    refine lv_tableIn (off := 216) (tgt := 217) hx hb dX1_act_1 (by rw [c1]; decide) (by rw [c1]; decide) (by rw [c1]; rfl) (by decide) ?_
    refine lv_aload_n hx hb dX1_act_217 rfl (lv_at hl 0 rfl) ?_
    refine lv_aload_n hx hb dX1_act_218 rfl (lv_at hl 0 rfl) ?_
    refine va_get hx hb hts in_X1 hown hK hP 0 rfl rfl 0 (Nat.le_of_ble_eq_true rfl) (hts _ q180) (fun _ h => h) (v := .ref (ax 0)) rfl dX1_act_219 ?_
    refine lv_iload_n hx hb dX1_act_222 rfl (lv_at hl 2 rfl) ?_
    refine cl_i F (va_runV (As := [.ref (ax 0), .int v2]) (rest := []) ⟨hx, hb, hml, hown, hts⟩ (ct_S_goSpells_i0 h _) (cwV 2 hts (lw_V q704 q706 qs14 q94 q707) rfl rfl rfl (by decide +kernel) ⟨Nat.le_trans (Nat.le_of_ble_eq_true rfl) hRf, Nat.le_trans (Nat.le_of_ble_eq_true rfl) hRl⟩) ⟨ct_blind, va_recv hK hP (ci := 0) (q0 := 0) rfl rfl, ct_at F hS hP hD⟩ rfl rfl hl.1 rfl (lv_room (Nat.le_of_ble_eq_true rfl)) dX1_act_223 ⟨hC, hSl⟩) rfl rfl hD hS ?_
    rintro x2 ar3 H locs h hP hD hS
    refine lv_pop hx hb dX1_act_226 rfl ?_
    refine lv_iconst (v := (1 : Int32)) hx hb dX1_act_227 (by decide) ?_
    exact vx_ret (rt_i F dX1_act_228 rfl (fd, ar3) h hP hD hS (Nat.le_refl _) (Nat.le_refl _))
  replace h := h.2 c1
  by_cases c4 : v1 = (103 : Int32)
  · replace h := h.1 c4
    refine lv_tableIn (off := 91) (tgt := 92) hx hb dX1_act_1 (by rw [c4]; decide) (by rw [c4]; decide) (by rw [c4]; rfl) (by decide) ?_
    refine lv_aload_n hx hb dX1_act_92 rfl (lv_at hl 0 rfl) ?_
    refine lv_aload_n hx hb dX1_act_93 rfl (lv_at hl 0 rfl) ?_
    refine va_get hx hb hts in_X1 hown hK hP 0 rfl rfl 0 (Nat.le_of_ble_eq_true rfl) (hts _ q180) (fun _ h => h) (v := .ref (ax 0)) rfl dX1_act_94 ?_
    refine lv_iload_n hx hb dX1_act_97 rfl (lv_at hl 2 rfl) ?_
    refine lv_iload_n hx hb dX1_act_98 rfl (lv_at hl 3 rfl) ?_
    refine cl_i F (va_runV (As := [.ref (ax 0), .int v2, .int v3]) (rest := []) ⟨hx, hb, hml, hown, hts⟩ (ct_S_refusesGo_i0 h _) (cwV 3 hts (lw_V q643 q645 qs7 q94 q646) rfl rfl rfl (by decide +kernel) ⟨Nat.le_trans (Nat.le_of_ble_eq_true rfl) hRf, Nat.le_trans (Nat.le_of_ble_eq_true rfl) hRl⟩) ⟨ct_blind, va_recv hK hP (ci := 0) (q0 := 0) rfl rfl, ct_at F hS hP hD⟩ rfl rfl hl.1 rfl (lv_room (Nat.le_of_ble_eq_true rfl)) dX1_act_99 ⟨hC, hSl⟩) rfl rfl hD hS ?_
    rintro x5 _ H locs h hP hD hS
    refine lv_if_ge (tgt := 107) hx hb dX1_act_102 (by decide) (fun c6 => ?_) (fun c6 => ?_)
    · replace h := h.1 c6
      refine lv_aload_n hx hb dX1_act_107 rfl (lv_at hl 0 rfl) ?_
      refine va_get hx hb hts in_X1 hown hK hP 0 rfl rfl 0 (Nat.le_of_ble_eq_true rfl) (hts _ q180) (fun _ h => h) (v := .ref (ax 0)) rfl dX1_act_108 ?_
      refine va_get hx hb hts in_X2 hown hK hP 14 rfl rfl 2 (Nat.le_of_ble_eq_true rfl) (hts _ q141) (fun _ h => h) (v := .ref (ax 42)) rfl dX1_act_111 ?_
      refine lv_iload_n hx hb dX1_act_114 rfl (lv_at hl 2 rfl) ?_
      refine lv_iload_n hx hb dX1_act_115 rfl (lv_at hl 3 rfl) ?_
      refine pt_iast (f := (ar 42)) hx hb hK hP hD hS 17 0 rfl rfl h.1 dX1_act_116 wXA_42 (fun H locs hP hD hS => ?_)
      replace h := h.2
      refine lv_iconst (v := (1 : Int32)) hx hb dX1_act_117 (by decide) ?_
      exact vx_ret (rt_i F dX1_act_118 rfl (fd, (va_up ar 42 (upd (ar 42) v2.toNatClampNeg v3))) h hP hD hS (Nat.le_refl _) (Nat.le_refl _))
    · replace h := h.2 c6
      refine lv_iconst (v := (0 : Int32)) hx hb dX1_act_105 (by decide) ?_
      exact vx_ret (rt_i F dX1_act_106 rfl (fd, ar) h hP hD hS (Nat.le_refl _) (Nat.le_refl _))
  replace h := h.2 c4
  by_cases c7 : v1 = (104 : Int32)
  · replace h := h.1 c7
    refine lv_tableIn (off := 118) (tgt := 119) hx hb dX1_act_1 (by rw [c7]; decide) (by rw [c7]; decide) (by rw [c7]; rfl) (by decide) ?_
    refine lv_aload_n hx hb dX1_act_119 rfl (lv_at hl 0 rfl) ?_
    refine lv_iload_n hx hb dX1_act_120 rfl (lv_at hl 2 rfl) ?_
    refine cl_i F (va_runV (As := [.int v2]) (rest := []) ⟨hx, hb, hml, hown, hts⟩ (ct_S_refusesHome h _) (cwV 1 hts (lw_V q668 q670 qs11 q94 q671) rfl rfl rfl (by decide +kernel) ⟨Nat.le_trans (Nat.le_of_ble_eq_true rfl) hRf, Nat.le_trans (Nat.le_of_ble_eq_true rfl) hRl⟩) ⟨ct_blind, va_recv hK hP (ci := 0) (q0 := 0) rfl rfl, ct_at F hS hP hD⟩ rfl rfl hl.1 rfl (lv_room (Nat.le_of_ble_eq_true rfl)) dX1_act_121 ⟨hC, hSl⟩) rfl rfl hD hS ?_
    rintro x8 _ H locs h hP hD hS
    refine lv_if_ge (tgt := 129) hx hb dX1_act_124 (by decide) (fun c9 => ?_) (fun c9 => ?_)
    · replace h := h.1 c9
      refine lv_aload_n hx hb dX1_act_129 rfl (lv_at hl 0 rfl) ?_
      refine va_get hx hb hts in_X1 hown hK hP 0 rfl rfl 0 (Nat.le_of_ble_eq_true rfl) (hts _ q180) (fun _ h => h) (v := .ref (ax 0)) rfl dX1_act_130 ?_
      refine va_get hx hb hts in_X2 hown hK hP 14 rfl rfl 2 (Nat.le_of_ble_eq_true rfl) (hts _ q141) (fun _ h => h) (v := .ref (ax 42)) rfl dX1_act_133 ?_
      refine lv_iload_n hx hb dX1_act_136 rfl (lv_at hl 2 rfl) ?_
      refine lv_iconst (v := (-1 : Int32)) hx hb dX1_act_137 (by decide) ?_
      refine pt_iast (f := (ar 42)) hx hb hK hP hD hS 17 0 rfl rfl h.1 dX1_act_138 wXA_42 (fun H locs hP hD hS => ?_)
      replace h := h.2
      refine lv_iconst (v := (1 : Int32)) hx hb dX1_act_139 (by decide) ?_
      exact vx_ret (rt_i F dX1_act_140 rfl (fd, (va_up ar 42 (upd (ar 42) v2.toNatClampNeg (-1 : Int32)))) h hP hD hS (Nat.le_refl _) (Nat.le_refl _))
    · replace h := h.2 c9
      refine lv_iconst (v := (0 : Int32)) hx hb dX1_act_127 (by decide) ?_
      exact vx_ret (rt_i F dX1_act_128 rfl (fd, ar) h hP hD hS (Nat.le_refl _) (Nat.le_refl _))
  replace h := h.2 c7
  by_cases c10 : v1 = (109 : Int32)
  · replace h := h.1 c10
    refine lv_tableIn (off := 189) (tgt := 190) hx hb dX1_act_1 (by rw [c10]; decide) (by rw [c10]; decide) (by rw [c10]; rfl) (by decide) ?_
    refine lv_aload_n hx hb dX1_act_190 rfl (lv_at hl 0 rfl) ?_
    refine lv_iload_n hx hb dX1_act_191 rfl (lv_at hl 2 rfl) ?_
    refine cl_i F (va_runV (As := [.int v2]) (rest := []) ⟨hx, hb, hml, hown, hts⟩ (ct_S_isCell h _) (cwV 1 hts (lw_V q651 q653 qs9 q94 q654) rfl rfl rfl (by decide +kernel) ⟨Nat.le_trans (Nat.le_of_ble_eq_true rfl) hRf, Nat.le_trans (Nat.le_of_ble_eq_true rfl) hRl⟩) ⟨ct_blind, va_recv hK hP (ci := 0) (q0 := 0) rfl rfl, ct_at F hS hP hD⟩ rfl rfl hl.1 rfl (lv_room (Nat.le_of_ble_eq_true rfl)) dX1_act_192 ⟨hC, hSl⟩) rfl rfl hD hS ?_
    rintro x11 _ H locs h hP hD hS
    refine lv_if_ne (tgt := 200) hx hb dX1_act_195 (by decide) (fun c12 => ?_) (fun c12 => ?_)
    · replace h := h.1 c12
      refine lv_aload_n hx hb dX1_act_200 rfl (lv_at hl 0 rfl) ?_
      refine va_get hx hb hts in_X1 hown hK hP 0 rfl rfl 0 (Nat.le_of_ble_eq_true rfl) (hts _ q180) (fun _ h => h) (v := .ref (ax 0)) rfl dX1_act_201 ?_
      refine lv_dup hx hb dX1_act_204 rfl ?_
      refine va_get hx hb hts in_X2 hown hK hP 14 rfl rfl 4 (Nat.le_of_ble_eq_true rfl) (hts _ q146) (fun _ h => h) (v := .int (fd 60)) rfl dX1_act_205 ?_
      refine lv_iconst (v := (1 : Int32)) hx hb dX1_act_208 (by decide) ?_
      refine lv_iload_n hx hb dX1_act_209 rfl (lv_at hl 2 rfl) ?_
      refine lv_ishl hx hb dX1_act_210 ?_
      refine lv_ixor hx hb dX1_act_211 ?_
      refine pt_put (v := .int ((fd 60) ^^^ ((1 : Int32) <<< (v2 &&& 31)))) hx hb hts in_X2 tyX2 tyX2_ok nmX2 hown hK hP hD hS 14 rfl rfl 4 (Nat.le_of_ble_eq_true rfl) (hts _ q146) (fun _ h => h) rfl (ty := .int) (by decide +kernel) rfl rfl (Nat.le_of_ble_eq_true rfl) dX1_act_212 wXB_0_mo (fun H locs hP hD hS => ?_)
      refine lv_iconst (v := (1 : Int32)) hx hb dX1_act_215 (by decide) ?_
      exact vx_ret (rt_i F dX1_act_216 rfl ((upd fd 60 ((fd 60) ^^^ ((1 : Int32) <<< (v2 &&& 31)))), ar) h hP hD hS (Nat.le_refl _) (Nat.le_refl _))
    · replace h := h.2 c12
      refine lv_iconst (v := (0 : Int32)) hx hb dX1_act_198 (by decide) ?_
      exact vx_ret (rt_i F dX1_act_199 rfl (fd, ar) h hP hD hS (Nat.le_refl _) (Nat.le_refl _))
  replace h := h.2 c10
  by_cases c13 : v1 = (115 : Int32)
  · replace h := h.1 c13
    refine lv_tableIn (off := 140) (tgt := 141) hx hb dX1_act_1 (by rw [c13]; decide) (by rw [c13]; decide) (by rw [c13]; rfl) (by decide) ?_
    refine lv_aload_n hx hb dX1_act_141 rfl (lv_at hl 0 rfl) ?_
    refine lv_iload_n hx hb dX1_act_142 rfl (lv_at hl 2 rfl) ?_
    refine cl_i F (va_runV (As := [.int v2]) (rest := []) ⟨hx, hb, hml, hown, hts⟩ (ct_S_refusesSpade h _) (cwV 1 hts (lw_V q676 q678 qs12 q94 q679) rfl rfl rfl (by decide +kernel) ⟨Nat.le_trans (Nat.le_of_ble_eq_true rfl) hRf, Nat.le_trans (Nat.le_of_ble_eq_true rfl) hRl⟩) ⟨ct_blind, va_recv hK hP (ci := 0) (q0 := 0) rfl rfl, ct_at F hS hP hD⟩ rfl rfl hl.1 rfl (lv_room (Nat.le_of_ble_eq_true rfl)) dX1_act_143 ⟨hC, hSl⟩) rfl rfl hD hS ?_
    rintro x14 _ H locs h hP hD hS
    refine lv_if_ge (tgt := 151) hx hb dX1_act_146 (by decide) (fun c15 => ?_) (fun c15 => ?_)
    · replace h := h.1 c15
      refine lv_aload_n hx hb dX1_act_151 rfl (lv_at hl 0 rfl) ?_
      refine va_get hx hb hts in_X1 hown hK hP 0 rfl rfl 0 (Nat.le_of_ble_eq_true rfl) (hts _ q180) (fun _ h => h) (v := .ref (ax 0)) rfl dX1_act_152 ?_
      refine lv_dup hx hb dX1_act_155 rfl ?_
      refine va_get hx hb hts in_X2 hown hK hP 14 rfl rfl 5 (Nat.le_of_ble_eq_true rfl) (hts _ q148) (fun _ h => h) (v := .int (fd 61)) rfl dX1_act_156 ?_
      refine lv_iconst (v := (1 : Int32)) hx hb dX1_act_159 (by decide) ?_
      refine lv_iload_n hx hb dX1_act_160 rfl (lv_at hl 2 rfl) ?_
      refine lv_ishl hx hb dX1_act_161 ?_
      refine lv_ixor hx hb dX1_act_162 ?_
      refine pt_put (v := .int ((fd 61) ^^^ ((1 : Int32) <<< (v2 &&& 31)))) hx hb hts in_X2 tyX2 tyX2_ok nmX2 hown hK hP hD hS 14 rfl rfl 5 (Nat.le_of_ble_eq_true rfl) (hts _ q148) (fun _ h => h) rfl (ty := .int) (by decide +kernel) rfl rfl (Nat.le_of_ble_eq_true rfl) dX1_act_163 wXB_0_sp (fun H locs hP hD hS => ?_)
      refine lv_iconst (v := (1 : Int32)) hx hb dX1_act_166 (by decide) ?_
      exact vx_ret (rt_i F dX1_act_167 rfl ((upd fd 61 ((fd 61) ^^^ ((1 : Int32) <<< (v2 &&& 31)))), ar) h hP hD hS (Nat.le_refl _) (Nat.le_refl _))
    · replace h := h.2 c15
      refine lv_iconst (v := (0 : Int32)) hx hb dX1_act_149 (by decide) ?_
      exact vx_ret (rt_i F dX1_act_150 rfl (fd, ar) h hP hD hS (Nat.le_refl _) (Nat.le_refl _))
  replace h := h.2 c13
  by_cases c16 : v1 = (116 : Int32)
  · replace h := h.1 c16
    refine lv_tableIn (off := 167) (tgt := 168) hx hb dX1_act_1 (by rw [c16]; decide) (by rw [c16]; decide) (by rw [c16]; rfl) (by decide) ?_
    refine lv_aload_n hx hb dX1_act_168 rfl (lv_at hl 0 rfl) ?_
    refine lv_iload_n hx hb dX1_act_169 rfl (lv_at hl 2 rfl) ?_
    refine cl_i F (va_runV (As := [.int v2]) (rest := []) ⟨hx, hb, hml, hown, hts⟩ (ct_S_isKid h _) (cwV 1 hts (lw_V q647 q649 qs8 q94 q650) rfl rfl rfl (by decide +kernel) ⟨Nat.le_trans (Nat.le_of_ble_eq_true rfl) hRf, Nat.le_trans (Nat.le_of_ble_eq_true rfl) hRl⟩) ⟨ct_blind, va_recv hK hP (ci := 0) (q0 := 0) rfl rfl, ct_at F hS hP hD⟩ rfl rfl hl.1 rfl (lv_room (Nat.le_of_ble_eq_true rfl)) dX1_act_170 ⟨hC, hSl⟩) rfl rfl hD hS ?_
    rintro x17 _ H locs h hP hD hS
    refine lv_if_ne (tgt := 178) hx hb dX1_act_173 (by decide) (fun c19 => ?_) (fun c19 => ?_)
    · replace h := h.1 c19
      refine lv_aload_n hx hb dX1_act_178 rfl (lv_at hl 0 rfl) ?_
      refine lv_aload_n hx hb dX1_act_179 rfl (lv_at hl 0 rfl) ?_
      refine va_get hx hb hts in_X1 hown hK hP 0 rfl rfl 0 (Nat.le_of_ble_eq_true rfl) (hts _ q180) (fun _ h => h) (v := .ref (ax 0)) rfl dX1_act_180 ?_
      refine lv_iload_n hx hb dX1_act_183 rfl (lv_at hl 2 rfl) ?_
      refine lv_iconst (v := (1 : Int32)) hx hb dX1_act_184 (by decide) ?_
      refine cl_v F (va_runV (As := [.ref (ax 0), .int v2, .int (1 : Int32)]) (rest := []) ⟨hx, hb, hml, hown, hts⟩ (ct_S_treats_i0 h _) (cwV 3 hts (lw_V q687 q689 qs13 q94 q690) rfl rfl rfl (by decide +kernel) ⟨Nat.le_trans (Nat.le_of_ble_eq_true rfl) hRf, Nat.le_trans (Nat.le_of_ble_eq_true rfl) hRl⟩) ⟨ct_blind, va_recv hK hP (ci := 0) (q0 := 0) rfl rfl, ct_at F hS hP hD⟩ rfl rfl hl.1 rfl (lv_room (Nat.le_of_ble_eq_true rfl)) dX1_act_185 ⟨hC, hSl⟩) rfl rfl hD hS ?_
      rintro ar18 H locs h hP hD hS
      refine lv_iconst (v := (1 : Int32)) hx hb dX1_act_188 (by decide) ?_
      exact vx_ret (rt_i F dX1_act_189 rfl (fd, ar18) h hP hD hS (Nat.le_refl _) (Nat.le_refl _))
    · replace h := h.2 c19
      refine lv_iconst (v := (0 : Int32)) hx hb dX1_act_176 (by decide) ?_
      exact vx_ret (rt_i F dX1_act_177 rfl (fd, ar) h hP hD hS (Nat.le_refl _) (Nat.le_refl _))
  replace h := h.2 c16
  refine pt_tableD (tgt := 229) hx hb dX1_act_1 18 rfl [0, 5, 6, 11, 17, 18] (by decide) (fun j hj => ?_) (by decide) ?_
  · have := lv_neT (a := 98) c1 (by decide)
    have := lv_neT (a := 103) c4 (by decide)
    have := lv_neT (a := 104) c7 (by decide)
    have := lv_neT (a := 109) c10 (by decide)
    have := lv_neT (a := 115) c13 (by decide)
    have := lv_neT (a := 116) c16 (by decide)
    simp only [List.mem_cons, List.not_mem_nil, or_false] at hj
    rcases hj with rfl | rfl | rfl | rfl | rfl | rfl <;> omega
  refine lv_aload_n hx hb dX1_act_229 rfl (lv_at hl 0 rfl) ?_
  refine lv_aload_n hx hb dX1_act_230 rfl (lv_at hl 0 rfl) ?_
  refine va_get hx hb hts in_X1 hown hK hP 0 rfl rfl 0 (Nat.le_of_ble_eq_true rfl) (hts _ q180) (fun _ h => h) (v := .ref (ax 0)) rfl dX1_act_231 ?_
  refine clz_i F (vx_runV (As := [.ref (ax 0)]) (rest := []) ⟨hx, hb, hml, hown, hts⟩ (cz_S_goTide_i0 hlt h _) (cwV 1 hts (lw_V q748 q750 qs21 q94 q751) rfl rfl rfl (by decide +kernel) ⟨Nat.le_trans (Nat.le_of_ble_eq_true rfl) hRf, Nat.le_trans (Nat.le_of_ble_eq_true rfl) hRl⟩) ⟨ct_blind, va_recv hK hP (ci := 0) (q0 := 0) rfl rfl, ct_at F hS hP hD⟩ rfl rfl hl.1 rfl (lv_room (Nat.le_of_ble_eq_true rfl)) dX1_act_234 ⟨hC1, hS7⟩) hD hS ?_
  rintro x20 ⟨fd21, ar22⟩ H locs h hP hD hS
  refine lv_pop hx hb dX1_act_237 rfl ?_
  refine lv_iconst (v := (1 : Int32)) hx hb dX1_act_238 (by decide) ?_
  exact vx_ret (rt_i F dX1_act_239 rfl (fd21, ar22) h hP hD hS (Nat.le_refl _) (Nat.le_refl _))
