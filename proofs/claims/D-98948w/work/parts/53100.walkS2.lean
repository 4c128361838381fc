/-! X1_levelOf -/
set_option maxRecDepth 100000
set_option maxHeartbeats 4000000 in
theorem cz_S_levelOf_i0 {l : Launch} {V : evT} {D : va_G} {gI : Nat → ClassId} {o : Nat} {ax : Nat → Nat} {tl : va_W} (hlt : l.stackTraces = false) {v2 : Int32} {fd : Nat → Int32} {ar : Nat → Nat → Int32} {lw : Nat → Int64} {hh : HT} {rn : Option (Nat × Nat)} {Q : Int32 → (Nat → Int32) → Prop} (h : wp_S_levelOf 0 v2 fd ar lw hh rn Q) : cz_i l V D (tyL gI) yX1_levelOf cX1_levelOf 4 .int { frames := 211, cells := 1, slots := 7, locals := 5014 } [.ref o, .ref (ax 0), .int v2] (wX gI o ax rn tl fd ar lw hh) (fun u : (Nat → Int32) => (wX gI o ax rn tl u ar lw hh)) (fun (x : Int32) (u : (Nat → Int32)) => Q x u) := by
  refine cz_ofi RX1 rfl (by decide +kernel) (Nat.le_of_ble_eq_true rfl) ?_
  intro p e s m args below meth c A F hP hD ls hl
  obtain ⟨⟨hx, hb, hml, hown, hts⟩, hr, hlocks, hA, hK, hE⟩ := id F
  have hS : va_S A s.heap s.heap [] := va_S.rf
  have hl : lv_has ls 4 [(0, .ref o), (1, .ref (ax 0)), (2, .int v2)] := hl
  have hRf : 211 ≤ ({ frames := 211, cells := 1, slots := 7, locals := 5014 } : Room).frames := Nat.le_refl _
  have hC1 : 1 ≤ ({ frames := 211, cells := 1, slots := 7, locals := 5014 } : Room).cells := Nat.le_refl _
  have hS7 : 7 ≤ ({ frames := 211, cells := 1, slots := 7, locals := 5014 } : Room).slots := Nat.le_refl _
  have hRl : 5014 ≤ ({ frames := 211, cells := 1, slots := 7, locals := 5014 } : Room).locals := Nat.le_refl _
  have hC : 0 ≤ ({ frames := 211, cells := 1, slots := 7, locals := 5014 } : Room).cells := Nat.zero_le _
  have hSl : 0 ≤ ({ frames := 211, cells := 1, slots := 7, locals := 5014 } : Room).slots := Nat.zero_le _
  unfold wp_S_levelOf at h
  refine lv_aload_n hx hb dX1_levelOf_0 rfl (lv_at hl 0 rfl) ?_
  rcases rn with _ | ⟨rp, rq⟩
  · replace h := h.1 rfl
    refine va_get hx hb hts in_X1 hown hK hP 0 rfl rfl 19 (Nat.le_of_ble_eq_true rfl) (hts _ q210) (fun _ h => h) (v := .null) rfl dX1_levelOf_1 ?_
    refine lv_ifnonnullN hx hb dX1_levelOf_4 ?_
    refine lv_bipush (v := (30 : Int32)) hx hb dX1_levelOf_7 (by decide) ?_
    refine lv_bipush (v := (10 : Int32)) hx hb dX1_levelOf_9 (by decide) ?_
    refine lv_aload_n hx hb dX1_levelOf_11 rfl (lv_at hl 0 rfl) ?_
    refine va_get hx hb hts in_X1 hown hK hP 0 rfl rfl 11 (Nat.le_of_ble_eq_true rfl) (hts _ q201) (fun _ h => h) (v := .int (fd 11)) rfl dX1_levelOf_12 ?_
    refine lv_imul hx hb dX1_levelOf_15 ?_
    refine lv_iadd hx hb dX1_levelOf_16 ?_
    refine lv_iconst (v := (5 : Int32)) hx hb dX1_levelOf_17 (by decide) ?_
    refine lv_iload_n hx hb dX1_levelOf_18 rfl (lv_at hl 2 rfl) ?_
    refine lv_bipush (v := (8 : Int32)) hx hb dX1_levelOf_19 (by decide) ?_
    refine lv_irem hx hb dX1_levelOf_21 (by decide) ?_
    refine lv_imul hx hb dX1_levelOf_22 ?_
    refine lv_iadd hx hb dX1_levelOf_23 ?_
    refine lv_goto (tgt := 42) hx hb dX1_levelOf_24 (by decide) ?_
    refine lv_topi (fun x1 ex1 => ?_)
    replace h := h x1 ex1
    refine lv_istore_n (lv' := [(3, .int x1), (0, .ref o), (1, .ref (ax 0)), (2, .int v2)]) hx hb dX1_levelOf_42 rfl hl (by decide) rfl (fun ls hl => ?_)
    refine lv_iconst (v := (0 : Int32)) hx hb dX1_levelOf_43 (by decide) ?_
    refine lv_sipush (v := (999 : Int32)) hx hb dX1_levelOf_44 (by decide) ?_
    refine lv_iload_n hx hb dX1_levelOf_47 rfl (lv_at hl 0 rfl) ?_
    refine va_mmin hx hb (hml.trans hl.1.symm) hown (hts _ q634) (hts _ q336) (hts _ q100) (hts _ q337) (Nat.le_trans (Nat.le_of_ble_eq_true rfl) hRf) (Nat.le_trans (Nat.le_of_ble_eq_true rfl) hRl) hC hSl dX1_levelOf_48 ?_
    refine va_mmax hx hb (hml.trans hl.1.symm) hown (hts _ q635) (hts _ q636) (hts _ q100) (hts _ q637) (Nat.le_trans (Nat.le_of_ble_eq_true rfl) hRf) (Nat.le_trans (Nat.le_of_ble_eq_true rfl) hRl) hC hSl dX1_levelOf_51 ?_
    exact vx_ret (rt_i F dX1_levelOf_54 rfl (fd) h hP hD hS (Nat.le_refl _) (Nat.le_refl _))
  · replace h := h.2 (by simp)
    refine va_get hx hb hts in_X1 hown hK hP 0 rfl rfl 19 (Nat.le_of_ble_eq_true rfl) (hts _ q210) (fun _ h => h) (v := .ref rp) rfl dX1_levelOf_1 ?_
    refine lv_ifnonnull (tgt := 27) hx hb dX1_levelOf_4 (by decide) ?_
    refine lv_aload_n hx hb dX1_levelOf_27 rfl (lv_at hl 0 rfl) ?_
    refine va_get hx hb hts in_X1 hown hK hP 0 rfl rfl 19 (Nat.le_of_ble_eq_true rfl) (hts _ q210) (fun _ h => h) (v := .ref rp) rfl dX1_levelOf_28 ?_
    refine lv_iload_n hx hb dX1_levelOf_31 rfl (lv_at hl 2 rfl) ?_
    refine lv_aload_n hx hb dX1_levelOf_32 rfl (lv_at hl 1 rfl) ?_
    refine va_get hx hb hts in_X2 hown hK hP 14 rfl rfl 4 (Nat.le_of_ble_eq_true rfl) (hts _ q146) (fun _ h => h) (v := .int (fd 60)) rfl dX1_levelOf_33 ?_
    refine cl_i0 F (va_runS (As := [.int (fd 60)]) (rest := [.int v2, .ref rp]) ⟨hx, hb, hml, hown, hts⟩ (ct_J10_bitCount h _) (va_cwS 1 hts (lw_S q585 q586 q112 q587) rfl rfl rfl (by decide +kernel) ⟨Nat.le_trans (Nat.le_of_ble_eq_true rfl) hRf, Nat.le_trans (Nat.le_of_ble_eq_true rfl) hRl⟩) ⟨ct_blind, ct_at F hS ct_nP ct_nD⟩ rfl rfl hl.1 rfl (lv_room (Nat.le_of_ble_eq_true rfl)) dX1_levelOf_36 ⟨hC, hSl⟩) rfl rfl hP hS ?_
    rintro x2 _ H locs h hP hS
    refine clz_iL F (vx_runVX (As := [.int v2, .int x2]) (rest := []) ⟨hx, hb, hml, hown, hts⟩ (cz_R_of hlt (o := rp) (pt := rq) (ox := o) (ax := ax) (rn := some (rp, rq)) h _) (vx_cwVW 2 hts (lw_VW q740 q741 q742 q105 q743) rfl rfl rfl (by decide +kernel) ⟨Nat.le_trans (Nat.le_of_ble_eq_true rfl) hRf, Nat.le_trans (Nat.le_of_ble_eq_true rfl) hRl⟩) ⟨ct_blind, va_recv hK hP (ci := 3) (q0 := 105) rfl rfl, ct_at F hS (putL_P hP (ps := [105, 106, 0]) rfl) (hD.sub ([105, 106, 0]) (by decide) rfl)⟩ rfl rfl hl.1 rfl (lv_room (Nat.le_of_ble_eq_true rfl)) dX1_levelOf_39 ⟨hC1, hS7⟩) hP hD hS (ps := [105, 106, 0]) rfl (fun _ => rfl) (fun _ => wXRO) ?_
    rintro x3 ⟨pw4, ak5, rt6, rm7⟩ H locs h hP hD hS
    refine lv_istore_n (lv' := [(3, .int x3), (0, .ref o), (1, .ref (ax 0)), (2, .int v2)]) hx hb dX1_levelOf_42 rfl hl (by decide) rfl (fun ls hl => ?_)
    refine lv_iconst (v := (0 : Int32)) hx hb dX1_levelOf_43 (by decide) ?_
    refine lv_sipush (v := (999 : Int32)) hx hb dX1_levelOf_44 (by decide) ?_
    refine lv_iload_n hx hb dX1_levelOf_47 rfl (lv_at hl 0 rfl) ?_
    refine va_mmin hx hb (hml.trans hl.1.symm) hown (hts _ q634) (hts _ q336) (hts _ q100) (hts _ q337) (Nat.le_trans (Nat.le_of_ble_eq_true rfl) hRf) (Nat.le_trans (Nat.le_of_ble_eq_true rfl) hRl) hC hSl dX1_levelOf_48 ?_
    refine va_mmax hx hb (hml.trans hl.1.symm) hown (hts _ q635) (hts _ q636) (hts _ q100) (hts _ q637) (Nat.le_trans (Nat.le_of_ble_eq_true rfl) hRf) (Nat.le_trans (Nat.le_of_ble_eq_true rfl) hRl) hC hSl dX1_levelOf_51 ?_
    exact vx_ret (rt_i F dX1_levelOf_54 rfl ((upd (upd (upd (upd fd 72 pw4) 73 ak5) 74 rt6) 75 rm7)) h hP hD hS (Nat.le_refl _) (Nat.le_refl _))
set_option maxHeartbeats 4000000 in
theorem cz_S_levelOf_i2 {l : Launch} {V : evT} {D : va_G} {gI : Nat → ClassId} {o : Nat} {ax : Nat → Nat} {tl : va_W} (hlt : l.stackTraces = false) {v2 : Int32} {fd : Nat → Int32} {ar : Nat → Nat → Int32} {lw : Nat → Int64} {hh : HT} {rn : Option (Nat × Nat)} {Q : Int32 → (Nat → Int32) → Prop} (h : wp_S_levelOf 2 v2 fd ar lw hh rn Q) : cz_i l V D (tyL gI) yX1_levelOf cX1_levelOf 4 .int { frames := 211, cells := 1, slots := 7, locals := 5014 } [.ref o, .ref (ax 2), .int v2] (wX gI o ax rn tl fd ar lw hh) (fun u : (Nat → Int32) => (wX gI o ax rn tl u ar lw hh)) (fun (x : Int32) (u : (Nat → Int32)) => Q x u) := by
  refine cz_ofi RX1 rfl (by decide +kernel) (Nat.le_of_ble_eq_true rfl) ?_
  intro p e s m args below meth c A F hP hD ls hl
  obtain ⟨⟨hx, hb, hml, hown, hts⟩, hr, hlocks, hA, hK, hE⟩ := id F
  have hS : va_S A s.heap s.heap [] := va_S.rf
  have hl : lv_has ls 4 [(0, .ref o), (1, .ref (ax 2)), (2, .int v2)] := hl
  have hRf : 211 ≤ ({ frames := 211, cells := 1, slots := 7, locals := 5014 } : Room).frames := Nat.le_refl _
  have hC1 : 1 ≤ ({ frames := 211, cells := 1, slots := 7, locals := 5014 } : Room).cells := Nat.le_refl _
  have hS7 : 7 ≤ ({ frames := 211, cells := 1, slots := 7, locals := 5014 } : Room).slots := Nat.le_refl _
  have hRl : 5014 ≤ ({ frames := 211, cells := 1, slots := 7, locals := 5014 } : Room).locals := Nat.le_refl _
  have hC : 0 ≤ ({ frames := 211, cells := 1, slots := 7, locals := 5014 } : Room).cells := Nat.zero_le _
  have hSl : 0 ≤ ({ frames := 211, cells := 1, slots := 7, locals := 5014 } : Room).slots := Nat.zero_le _
  unfold wp_S_levelOf at h
  refine lv_aload_n hx hb dX1_levelOf_0 rfl (lv_at hl 0 rfl) ?_
  rcases rn with _ | ⟨rp, rq⟩
  · replace h := h.1 rfl
    refine va_get hx hb hts in_X1 hown hK hP 0 rfl rfl 19 (Nat.le_of_ble_eq_true rfl) (hts _ q210) (fun _ h => h) (v := .null) rfl dX1_levelOf_1 ?_
    refine lv_ifnonnullN hx hb dX1_levelOf_4 ?_
    refine lv_bipush (v := (30 : Int32)) hx hb dX1_levelOf_7 (by decide) ?_
    refine lv_bipush (v := (10 : Int32)) hx hb dX1_levelOf_9 (by decide) ?_
    refine lv_aload_n hx hb dX1_levelOf_11 rfl (lv_at hl 0 rfl) ?_
    refine va_get hx hb hts in_X1 hown hK hP 0 rfl rfl 11 (Nat.le_of_ble_eq_true rfl) (hts _ q201) (fun _ h => h) (v := .int (fd 11)) rfl dX1_levelOf_12 ?_
    refine lv_imul hx hb dX1_levelOf_15 ?_
    refine lv_iadd hx hb dX1_levelOf_16 ?_
    refine lv_iconst (v := (5 : Int32)) hx hb dX1_levelOf_17 (by decide) ?_
    refine lv_iload_n hx hb dX1_levelOf_18 rfl (lv_at hl 2 rfl) ?_
    refine lv_bipush (v := (8 : Int32)) hx hb dX1_levelOf_19 (by decide) ?_
    refine lv_irem hx hb dX1_levelOf_21 (by decide) ?_
    refine lv_imul hx hb dX1_levelOf_22 ?_
    refine lv_iadd hx hb dX1_levelOf_23 ?_
    refine lv_goto (tgt := 42) hx hb dX1_levelOf_24 (by decide) ?_
    refine lv_topi (fun x1 ex1 => ?_)
    replace h := h x1 ex1
    refine lv_istore_n (lv' := [(3, .int x1), (0, .ref o), (1, .ref (ax 2)), (2, .int v2)]) hx hb dX1_levelOf_42 rfl hl (by decide) rfl (fun ls hl => ?_)
    refine lv_iconst (v := (0 : Int32)) hx hb dX1_levelOf_43 (by decide) ?_
    refine lv_sipush (v := (999 : Int32)) hx hb dX1_levelOf_44 (by decide) ?_
    refine lv_iload_n hx hb dX1_levelOf_47 rfl (lv_at hl 0 rfl) ?_
    refine va_mmin hx hb (hml.trans hl.1.symm) hown (hts _ q634) (hts _ q336) (hts _ q100) (hts _ q337) (Nat.le_trans (Nat.le_of_ble_eq_true rfl) hRf) (Nat.le_trans (Nat.le_of_ble_eq_true rfl) hRl) hC hSl dX1_levelOf_48 ?_
    refine va_mmax hx hb (hml.trans hl.1.symm) hown (hts _ q635) (hts _ q636) (hts _ q100) (hts _ q637) (Nat.le_trans (Nat.le_of_ble_eq_true rfl) hRf) (Nat.le_trans (Nat.le_of_ble_eq_true rfl) hRl) hC hSl dX1_levelOf_51 ?_
    exact vx_ret (rt_i F dX1_levelOf_54 rfl (fd) h hP hD hS (Nat.le_refl _) (Nat.le_refl _))
  · replace h := h.2 (by simp)
    refine va_get hx hb hts in_X1 hown hK hP 0 rfl rfl 19 (Nat.le_of_ble_eq_true rfl) (hts _ q210) (fun _ h => h) (v := .ref rp) rfl dX1_levelOf_1 ?_
    refine lv_ifnonnull (tgt := 27) hx hb dX1_levelOf_4 (by decide) ?_
    refine lv_aload_n hx hb dX1_levelOf_27 rfl (lv_at hl 0 rfl) ?_
    refine va_get hx hb hts in_X1 hown hK hP 0 rfl rfl 19 (Nat.le_of_ble_eq_true rfl) (hts _ q210) (fun _ h => h) (v := .ref rp) rfl dX1_levelOf_28 ?_
    refine lv_iload_n hx hb dX1_levelOf_31 rfl (lv_at hl 2 rfl) ?_
    refine lv_aload_n hx hb dX1_levelOf_32 rfl (lv_at hl 1 rfl) ?_
    refine va_get hx hb hts in_X2 hown hK hP 24 rfl rfl 4 (Nat.le_of_ble_eq_true rfl) (hts _ q146) (fun _ h => h) (v := .int (fd 66)) rfl dX1_levelOf_33 ?_
    refine cl_i0 F (va_runS (As := [.int (fd 66)]) (rest := [.int v2, .ref rp]) ⟨hx, hb, hml, hown, hts⟩ (ct_J10_bitCount h _) (va_cwS 1 hts (lw_S q585 q586 q112 q587) rfl rfl rfl (by decide +kernel) ⟨Nat.le_trans (Nat.le_of_ble_eq_true rfl) hRf, Nat.le_trans (Nat.le_of_ble_eq_true rfl) hRl⟩) ⟨ct_blind, ct_at F hS ct_nP ct_nD⟩ rfl rfl hl.1 rfl (lv_room (Nat.le_of_ble_eq_true rfl)) dX1_levelOf_36 ⟨hC, hSl⟩) rfl rfl hP hS ?_
    rintro x2 _ H locs h hP hS
    refine clz_iL F (vx_runVX (As := [.int v2, .int x2]) (rest := []) ⟨hx, hb, hml, hown, hts⟩ (cz_R_of hlt (o := rp) (pt := rq) (ox := o) (ax := ax) (rn := some (rp, rq)) h _) (vx_cwVW 2 hts (lw_VW q740 q741 q742 q105 q743) rfl rfl rfl (by decide +kernel) ⟨Nat.le_trans (Nat.le_of_ble_eq_true rfl) hRf, Nat.le_trans (Nat.le_of_ble_eq_true rfl) hRl⟩) ⟨ct_blind, va_recv hK hP (ci := 3) (q0 := 105) rfl rfl, ct_at F hS (putL_P hP (ps := [105, 106, 0]) rfl) (hD.sub ([105, 106, 0]) (by decide) rfl)⟩ rfl rfl hl.1 rfl (lv_room (Nat.le_of_ble_eq_true rfl)) dX1_levelOf_39 ⟨hC1, hS7⟩) hP hD hS (ps := [105, 106, 0]) rfl (fun _ => rfl) (fun _ => wXRO) ?_
    rintro x3 ⟨pw4, ak5, rt6, rm7⟩ H locs h hP hD hS
    refine lv_istore_n (lv' := [(3, .int x3), (0, .ref o), (1, .ref (ax 2)), (2, .int v2)]) hx hb dX1_levelOf_42 rfl hl (by decide) rfl (fun ls hl => ?_)
    refine lv_iconst (v := (0 : Int32)) hx hb dX1_levelOf_43 (by decide) ?_
    refine lv_sipush (v := (999 : Int32)) hx hb dX1_levelOf_44 (by decide) ?_
    refine lv_iload_n hx hb dX1_levelOf_47 rfl (lv_at hl 0 rfl) ?_
    refine va_mmin hx hb (hml.trans hl.1.symm) hown (hts _ q634) (hts _ q336) (hts _ q100) (hts _ q337) (Nat.le_trans (Nat.le_of_ble_eq_true rfl) hRf) (Nat.le_trans (Nat.le_of_ble_eq_true rfl) hRl) hC hSl dX1_levelOf_48 ?_
    refine va_mmax hx hb (hml.trans hl.1.symm) hown (hts _ q635) (hts _ q636) (hts _ q100) (hts _ q637) (Nat.le_trans (Nat.le_of_ble_eq_true rfl) hRf) (Nat.le_trans (Nat.le_of_ble_eq_true rfl) hRl) hC hSl dX1_levelOf_51 ?_
    exact vx_ret (rt_i F dX1_levelOf_54 rfl ((upd (upd (upd (upd fd 72 pw4) 73 ak5) 74 rt6) 75 rm7)) h hP hD hS (Nat.le_refl _) (Nat.le_refl _))
