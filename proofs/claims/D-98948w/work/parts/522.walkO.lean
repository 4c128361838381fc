/-! an Order: walks -/
set_option maxRecDepth 100000
set_option maxHeartbeats 4000000 in
theorem ct_W_hereO {l : Launch} {V : evT} {D : va_G} {gI : Nat → ClassId} {o : Nat} {pt pa pf pg : Nat} {mny : Int32} {ac oa ob : Nat → Int32} {tx : Nat → Int32} {sz : Int32} {en : Int32} {pw : Int32} {Q : Int32 → Prop} (h : wp_W_here tx sz en pw Q) : ct_i l V D vwCl (tyL gI) yX5_here cX5_here 1 .int { frames := 1, cells := 0, slots := 0, locals := 12 } [.ref o] (wOO gI o pt pa pf pg mny ac oa ob tx sz en pw) (fun u : Unit => (wOO gI o pt pa pf pg mny ac oa ob tx sz en pw)) (fun (x : Int32) (u : Unit) => Q x) := by
  refine ct_ofi RX5 rfl (by decide +kernel) (Nat.le_of_ble_eq_true rfl) ?_
  intro p e s m args below meth c A F hP hD ls hl
  obtain ⟨⟨hx, hb, hml, hown, hts⟩, hr, hlocks, hA, hK, hE⟩ := id F
  have hS : va_S A s.heap s.heap [] := va_S.rf
  have hl : lv_has ls 1 [(0, .ref o)] := hl
  have hRf : 1 ≤ ({ frames := 1, cells := 0, slots := 0, locals := 12 } : Room).frames := Nat.le_refl _
  have hRl : 12 ≤ ({ frames := 1, cells := 0, slots := 0, locals := 12 } : Room).locals := Nat.le_refl _
  have hC : 0 ≤ ({ frames := 1, cells := 0, slots := 0, locals := 12 } : Room).cells := Nat.le_refl _
  have hSl : 0 ≤ ({ frames := 1, cells := 0, slots := 0, locals := 12 } : Room).slots := Nat.le_refl _
  unfold wp_W_here at h
  refine lv_aload_n hx hb dX5_here_0 rfl (lv_at hl 0 rfl) ?_
  refine va_get hx hb hts in_X8 hown hK hP 0 rfl rfl 3 (Nat.le_of_ble_eq_true rfl) (hts _ q344) (fun _ h => h) (v := .int pw) rfl dX5_here_1 ?_
  refine lv_aload_n hx hb dX5_here_4 rfl (lv_at hl 0 rfl) ?_
  refine va_get hx hb hts in_X8 hown hK hP 0 rfl rfl 2 (Nat.le_of_ble_eq_true rfl) (hts _ q341) (fun _ h => h) (v := .int en) rfl dX5_here_5 ?_
  refine lv_icmp_ge (tgt := 27) hx hb dX5_here_8 (by decide) (fun c1 => ?_) (fun c1 => ?_)
  · replace h := h.1 c1
    refine lv_iconst (v := (-1 : Int32)) hx hb dX5_here_27 (by decide) ?_
    exact rt_i F dX5_here_28 rfl () h hP hD hS (Nat.le_refl _) (Nat.le_refl _)
  · replace h := h.2 c1
    refine lv_aload_n hx hb dX5_here_11 rfl (lv_at hl 0 rfl) ?_
    refine va_get hx hb hts in_X8 hown hK hP 0 rfl rfl 0 (Nat.le_of_ble_eq_true rfl) (hts _ q338) (fun _ h => h) (v := .ref pt) rfl dX5_here_12 ?_
    refine lv_aload_n hx hb dX5_here_15 rfl (lv_at hl 0 rfl) ?_
    refine va_get hx hb hts in_X8 hown hK hP 0 rfl rfl 3 (Nat.le_of_ble_eq_true rfl) (hts _ q344) (fun _ h => h) (v := .int pw) rfl dX5_here_16 ?_
    refine va_bald (f := tx) hx hb hK hP 1 3 rfl rfl h.1 dX5_here_19 ?_
    replace h := h.2
    refine lv_sipush (v := (255 : Int32)) hx hb dX5_here_20 (by decide) ?_
    refine lv_iand hx hb dX5_here_23 ?_
    refine lv_goto (tgt := 28) hx hb dX5_here_24 (by decide) ?_
    exact rt_i F dX5_here_28 rfl () h hP hD hS (Nat.le_refl _) (Nat.le_refl _)
set_option maxHeartbeats 4000000 in
theorem cx_W_needO {l : Launch} {V : evT} {D : va_G} {gI : Nat → ClassId} {o : Nat} {pt pa pf pg : Nat} {mny : Int32} {ac oa ob : Nat → Int32} (hlt : l.stackTraces = false) {v1 : Int32} {tx : Nat → Int32} {sz : Int32} {en : Int32} {pw : Int32} {Q : Prop} {E : Int32 → Prop} (h : wp_W_need v1 tx sz en pw Q E) : cx_v l V D (tyL gI) yX5_need cX5_need 2 { frames := 6, cells := 1, slots := 7, locals := 101 } [.ref o, .int v1] (wOO gI o pt pa pf pg mny ac oa ob tx sz en pw) (fun u : Unit => (wOO gI o pt pa pf pg mny ac oa ob tx sz en pw)) (fun (_ : Unit) => Q) (fun u : Unit => (wOO gI o pt pa pf pg mny ac oa ob tx sz en pw)) (fun (v : Int32) (u : Unit) => E v ) := by
  refine cx_ofv RX5 rfl (by decide +kernel) (Nat.le_of_ble_eq_true rfl) ?_
  intro p e s m args below meth c A F htab hP hD ls hl
  obtain ⟨⟨hx, hb, hml, hown, hts⟩, hr, hlocks, hA, hK, hE⟩ := id F
  have hS : va_S A s.heap s.heap [] := va_S.rf
  have hl : lv_has ls 2 [(0, .ref o), (1, .int v1)] := hl
  have hRf : 6 ≤ ({ frames := 6, cells := 1, slots := 7, locals := 101 } : Room).frames := Nat.le_refl _
  have hC1 : 1 ≤ ({ frames := 6, cells := 1, slots := 7, locals := 101 } : Room).cells := Nat.le_refl _
  have hS7 : 7 ≤ ({ frames := 6, cells := 1, slots := 7, locals := 101 } : Room).slots := Nat.le_refl _
  have hRl : 101 ≤ ({ frames := 6, cells := 1, slots := 7, locals := 101 } : Room).locals := Nat.le_refl _
  have hC : 0 ≤ ({ frames := 6, cells := 1, slots := 7, locals := 101 } : Room).cells := Nat.zero_le _
  have hSl : 0 ≤ ({ frames := 6, cells := 1, slots := 7, locals := 101 } : Room).slots := Nat.zero_le _
  unfold wp_W_need at h
  refine lv_iload_n hx hb dX5_need_0 rfl (lv_at hl 1 rfl) ?_
  refine lv_if_ne (tgt := 16) hx hb dX5_need_1 (by decide) (fun c2 => ?_) (fun c2 => ?_)
  · replace h := h.1 c2
    exact vx_ret (rt_v F dX5_need_16 () h hP hD hS (Nat.le_refl _) (Nat.le_refl _))
  · replace h := h.2 c2
    refine flt_new F q369 dX5_need_4 hP hS hC1 hS7 (fun q1 H hF hP hS hq hAq => ?_)
    refine lv_dup hx hb dX5_need_7 rfl ?_
    refine lv_aload_n hx hb dX5_need_8 rfl (lv_at hl 0 rfl) ?_
    refine va_get hx hb hts in_X8 hown hK hP 0 rfl rfl 3 (Nat.le_of_ble_eq_true rfl) (hts _ q344) (fun _ h => h) (v := .int pw) rfl dX5_need_9 ?_
    refine flt_init hlt F q408 dX5_need_12 hF hP hD hS hq hAq hl.1 (Nat.le_of_ble_eq_true rfl) (Nat.le_trans (Nat.le_of_ble_eq_true rfl) hRf) (Nat.le_trans (Nat.le_of_ble_eq_true rfl) hRl) hC1 hS7 (fun H locs hP hD hS => ?_)
    refine vx_athrow hx hb dX5_need_15 ?_
    exact rx_out (wx := fun u : Unit => (wOO gI o pt pa pf pg mny ac oa ob tx sz en pw)) (QX := (fun (v : Int32) (u : Unit) => E v )) F (fun x hx => (htab x hx).elim) () h hP hD hS (Nat.le_refl _) (Nat.le_refl _)
set_option maxHeartbeats 4000000 in
theorem cx_W_needEndO {l : Launch} {V : evT} {D : va_G} {gI : Nat → ClassId} {o : Nat} {pt pa pf pg : Nat} {mny : Int32} {ac oa ob : Nat → Int32} (hlt : l.stackTraces = false) {tx : Nat → Int32} {sz : Int32} {en : Int32} {pw : Int32} {Q : Prop} {E : Int32 → Prop} (h : wp_W_needEnd tx sz en pw Q E) : cx_v l V D (tyL gI) yX5_needEnd cX5_needEnd 1 { frames := 7, cells := 1, slots := 7, locals := 122 } [.ref o] (wOO gI o pt pa pf pg mny ac oa ob tx sz en pw) (fun u : Unit => (wOO gI o pt pa pf pg mny ac oa ob tx sz en pw)) (fun (_ : Unit) => Q) (fun u : Unit => (wOO gI o pt pa pf pg mny ac oa ob tx sz en pw)) (fun (v : Int32) (u : Unit) => E v ) := by
  refine cx_ofv RX5 rfl (by decide +kernel) (Nat.le_of_ble_eq_true rfl) ?_
  intro p e s m args below meth c A F htab hP hD ls hl
  obtain ⟨⟨hx, hb, hml, hown, hts⟩, hr, hlocks, hA, hK, hE⟩ := id F
  have hS : va_S A s.heap s.heap [] := va_S.rf
  have hl : lv_has ls 1 [(0, .ref o)] := hl
  have hRf : 7 ≤ ({ frames := 7, cells := 1, slots := 7, locals := 122 } : Room).frames := Nat.le_refl _
  have hC1 : 1 ≤ ({ frames := 7, cells := 1, slots := 7, locals := 122 } : Room).cells := Nat.le_refl _
  have hS7 : 7 ≤ ({ frames := 7, cells := 1, slots := 7, locals := 122 } : Room).slots := Nat.le_refl _
  have hRl : 122 ≤ ({ frames := 7, cells := 1, slots := 7, locals := 122 } : Room).locals := Nat.le_refl _
  have hC : 0 ≤ ({ frames := 7, cells := 1, slots := 7, locals := 122 } : Room).cells := Nat.zero_le _
  have hSl : 0 ≤ ({ frames := 7, cells := 1, slots := 7, locals := 122 } : Room).slots := Nat.zero_le _
  unfold wp_W_needEnd at h
  refine lv_aload_n hx hb dX5_needEnd_0 rfl (lv_at hl 0 rfl) ?_
  refine lv_aload_n hx hb dX5_needEnd_1 rfl (lv_at hl 0 rfl) ?_
  refine va_get hx hb hts in_X8 hown hK hP 0 rfl rfl 3 (Nat.le_of_ble_eq_true rfl) (hts _ q344) (fun _ h => h) (v := .int pw) rfl dX5_needEnd_2 ?_
  refine lv_aload_n hx hb dX5_needEnd_5 rfl (lv_at hl 0 rfl) ?_
  refine va_get hx hb hts in_X8 hown hK hP 0 rfl rfl 1 (Nat.le_of_ble_eq_true rfl) (hts _ q339) (fun _ h => h) (v := .int sz) rfl dX5_needEnd_6 ?_
  refine lv_icmp_ne (tgt := 16) hx hb dX5_needEnd_9 (by decide) (fun c1 => ?_) (fun c1 => ?_)
  · replace h := h.1 c1
    refine lv_iconst (v := (0 : Int32)) hx hb dX5_needEnd_16 (by decide) ?_
    refine clx_v F (vx_runU (As := [.int (0 : Int32)]) (rest := []) ⟨hx, hb, hml, hown, hts⟩ (cx_W_needO hlt h _) (va_cwU (owner := RX5) 1 hts (lw_U q447 q365 q366 q363 q99 q368) rfl rfl rfl rfl (by decide +kernel) ⟨Nat.le_trans (Nat.le_of_ble_eq_true rfl) hRf, Nat.le_trans (Nat.le_of_ble_eq_true rfl) hRl⟩) ⟨ct_blind, va_recv hK hP (ci := 6) (q0 := 0) rfl rfl, ct_at F hS hP hD⟩ rfl rfl hl.1 rfl (lv_room (Nat.le_of_ble_eq_true rfl)) dX5_needEnd_17 ⟨hC1, hS7⟩) hD hS ?_ ?_
    · rintro q v_ _ H locs h hP hD hS
      exact rx_out (wx := fun u : Unit => (wOO gI o pt pa pf pg mny ac oa ob tx sz en pw)) (QX := (fun (v : Int32) (u : Unit) => E v )) F (fun x hx => (htab x hx).elim) () h hP hD hS (Nat.le_refl _) (Nat.le_refl _)
    · rintro _ H locs h hP hD hS
      exact vx_ret (rt_v F dX5_needEnd_20 () h hP hD hS (Nat.le_refl _) (Nat.le_refl _))
  · replace h := h.2 c1
    refine lv_iconst (v := (1 : Int32)) hx hb dX5_needEnd_12 (by decide) ?_
    refine lv_goto (tgt := 17) hx hb dX5_needEnd_13 (by decide) ?_
    refine clx_v F (vx_runU (As := [.int (1 : Int32)]) (rest := []) ⟨hx, hb, hml, hown, hts⟩ (cx_W_needO hlt h _) (va_cwU (owner := RX5) 1 hts (lw_U q447 q365 q366 q363 q99 q368) rfl rfl rfl rfl (by decide +kernel) ⟨Nat.le_trans (Nat.le_of_ble_eq_true rfl) hRf, Nat.le_trans (Nat.le_of_ble_eq_true rfl) hRl⟩) ⟨ct_blind, va_recv hK hP (ci := 6) (q0 := 0) rfl rfl, ct_at F hS hP hD⟩ rfl rfl hl.1 rfl (lv_room (Nat.le_of_ble_eq_true rfl)) dX5_needEnd_17 ⟨hC1, hS7⟩) hD hS ?_ ?_
    · rintro q v_ _ H locs h hP hD hS
      exact rx_out (wx := fun u : Unit => (wOO gI o pt pa pf pg mny ac oa ob tx sz en pw)) (QX := (fun (v : Int32) (u : Unit) => E v )) F (fun x hx => (htab x hx).elim) () h hP hD hS (Nat.le_refl _) (Nat.le_refl _)
    · rintro _ H locs h hP hD hS
      exact vx_ret (rt_v F dX5_needEnd_20 () h hP hD hS (Nat.le_refl _) (Nat.le_refl _))
set_option maxHeartbeats 4000000 in
theorem cx_W_oneO {l : Launch} {V : evT} {D : va_G} {gI : Nat → ClassId} {o : Nat} {pt pa pf pg : Nat} {mny : Int32} {ac oa ob : Nat → Int32} (hlt : l.stackTraces = false) {v1 : Int32} {v2 : Int32} {tx : Nat → Int32} {sz : Int32} {en : Int32} {pw : Int32} {Q : Int32 → (Int32) → Prop} {E : Int32 → (Int32) → Prop} (h : wp_W_one v1 v2 tx sz en pw Q E) : cx_i l V D (tyL gI) yX5_one cX5_one 3 .int { frames := 7, cells := 1, slots := 7, locals := 122 } [.ref o, .int v1, .int v2] (wOO gI o pt pa pf pg mny ac oa ob tx sz en pw) (fun u : (Int32) => (wOO gI o pt pa pf pg mny ac oa ob tx sz en u)) (fun (x : Int32) (u : (Int32)) => Q x u) (fun u : (Int32) => (wOO gI o pt pa pf pg mny ac oa ob tx sz en u)) (fun (v : Int32) (u : (Int32)) => E v u) := by
  refine cx_ofi RX5 rfl (by decide +kernel) (Nat.le_of_ble_eq_true rfl) ?_
  intro p e s m args below meth c A F htab hP hD ls hl
  obtain ⟨⟨hx, hb, hml, hown, hts⟩, hr, hlocks, hA, hK, hE⟩ := id F
  have hS : va_S A s.heap s.heap [] := va_S.rf
  have hl : lv_has ls 3 [(0, .ref o), (1, .int v1), (2, .int v2)] := hl
  have hRf : 7 ≤ ({ frames := 7, cells := 1, slots := 7, locals := 122 } : Room).frames := Nat.le_refl _
  have hC1 : 1 ≤ ({ frames := 7, cells := 1, slots := 7, locals := 122 } : Room).cells := Nat.le_refl _
  have hS7 : 7 ≤ ({ frames := 7, cells := 1, slots := 7, locals := 122 } : Room).slots := Nat.le_refl _
  have hRl : 122 ≤ ({ frames := 7, cells := 1, slots := 7, locals := 122 } : Room).locals := Nat.le_refl _
  have hC : 0 ≤ ({ frames := 7, cells := 1, slots := 7, locals := 122 } : Room).cells := Nat.zero_le _
  have hSl : 0 ≤ ({ frames := 7, cells := 1, slots := 7, locals := 122 } : Room).slots := Nat.zero_le _
  unfold wp_W_one at h
  refine lv_aload_n hx hb dX5_one_0 rfl (lv_at hl 0 rfl) ?_
  refine lv_aload_n hx hb dX5_one_1 rfl (lv_at hl 0 rfl) ?_
  refine cl_i F (va_runU (As := []) (rest := [.ref o]) ⟨hx, hb, hml, hown, hts⟩ (ct_W_hereO h _) (va_cwU (owner := RX5) 0 hts (lw_U q439 q442 q443 q440 q99 q445) rfl rfl rfl rfl (by decide +kernel) ⟨Nat.le_trans (Nat.le_of_ble_eq_true rfl) hRf, Nat.le_trans (Nat.le_of_ble_eq_true rfl) hRl⟩) ⟨ct_blind, va_recv hK hP (ci := 6) (q0 := 0) rfl rfl, ct_at F hS hP hD⟩ rfl rfl hl.1 rfl (lv_room (Nat.le_of_ble_eq_true rfl)) dX5_one_2 ⟨hC, hSl⟩) rfl rfl hD hS ?_
  rintro x1 _ H locs h hP hD hS
  refine lv_i2l (v := (x1.toInt64)) hx hb dX5_one_5 rfl ?_
  refine lv_iload_n hx hb dX5_one_6 rfl (lv_at hl 1 rfl) ?_
  refine lv_i2l (v := (v1.toInt64)) hx hb dX5_one_7 rfl ?_
  refine lv_iload_n hx hb dX5_one_8 rfl (lv_at hl 1 rfl) ?_
  refine lv_iload_n hx hb dX5_one_9 rfl (lv_at hl 2 rfl) ?_
  refine lv_iadd hx hb dX5_one_10 ?_
  refine lv_iconst (v := (1 : Int32)) hx hb dX5_one_11 (by decide) ?_
  refine lv_isub hx hb dX5_one_12 ?_
  refine lv_i2l (v := (((v1 + v2) - (1 : Int32)).toInt64)) hx hb dX5_one_13 rfl ?_
  refine cl_i0 F (va_runSN (As := [.long (x1.toInt64), .long (v1.toInt64), .long (((v1 + v2) - (1 : Int32)).toInt64)]) (rest := [.ref o]) ⟨hx, hb, hml, hown, hts⟩ (ct_X1_in h _) ⟨va_cnB 3 hts (lw_meth q300) rfl rfl rfl (hE.1 _ q446 rfl) (hts _ q94) (by decide +kernel) ⟨Nat.le_trans (Nat.le_of_ble_eq_true rfl) hRf, Nat.le_trans (Nat.le_of_ble_eq_true rfl) hRl⟩, hts _ q299, trivial⟩ ⟨ct_blind, ct_at F hS ct_nP ct_nD⟩ rfl rfl hl.1 rfl (lv_room (Nat.le_of_ble_eq_true rfl)) dX5_one_14 ⟨hC, hSl⟩) rfl rfl hP hS ?_
  rintro x2 _ H locs h hP hS
  refine clx_v F (vx_runU (As := [.int x2]) (rest := []) ⟨hx, hb, hml, hown, hts⟩ (cx_W_needO hlt h _) (va_cwU (owner := RX5) 1 hts (lw_U q447 q365 q366 q363 q99 q368) rfl rfl rfl rfl (by decide +kernel) ⟨Nat.le_trans (Nat.le_of_ble_eq_true rfl) hRf, Nat.le_trans (Nat.le_of_ble_eq_true rfl) hRl⟩) ⟨ct_blind, va_recv hK hP (ci := 6) (q0 := 0) rfl rfl, ct_at F hS hP hD⟩ rfl rfl hl.1 rfl (lv_room (Nat.le_of_ble_eq_true rfl)) dX5_one_17 ⟨hC1, hS7⟩) hD hS ?_ ?_
  · rintro q v_ _ H locs h hP hD hS
    exact rx_out (wx := fun u : (Int32) => (wOO gI o pt pa pf pg mny ac oa ob tx sz en u)) (QX := (fun (v : Int32) (u : (Int32)) => E v u)) F (fun x hx => (htab x hx).elim) (pw) h hP hD hS (Nat.le_refl _) (Nat.le_refl _)
  · rintro _ H locs h hP hD hS
    refine lv_aload_n hx hb dX5_one_20 rfl (lv_at hl 0 rfl) ?_
    refine lv_dup hx hb dX5_one_21 rfl ?_
    refine va_get hx hb hts in_X8 hown hK hP 0 rfl rfl 3 (Nat.le_of_ble_eq_true rfl) (hts _ q344) (fun _ h => h) (v := .int pw) rfl dX5_one_22 ?_
    refine lv_iconst (v := (1 : Int32)) hx hb dX5_one_25 (by decide) ?_
    refine lv_iadd hx hb dX5_one_26 ?_
    refine pt_put (v := .int (pw + (1 : Int32))) hx hb hts in_X8 tyX8 tyX8_ok nmX8 hown hK hP hD hS 0 rfl rfl 3 (Nat.le_of_ble_eq_true rfl) (hts _ q344) (fun _ h => h) rfl (ty := .int) (by decide +kernel) rfl rfl (Nat.le_of_ble_eq_true rfl) dX5_one_27 rfl (fun H locs hP hD hS => ?_)
    refine lv_aload_n hx hb dX5_one_30 rfl (lv_at hl 0 rfl) ?_
    refine va_get hx hb hts in_X8 hown hK hP 0 rfl rfl 0 (Nat.le_of_ble_eq_true rfl) (hts _ q338) (fun _ h => h) (v := .ref pt) rfl dX5_one_31 ?_
    refine lv_aload_n hx hb dX5_one_34 rfl (lv_at hl 0 rfl) ?_
    refine va_get hx hb hts in_X8 hown hK hP 0 rfl rfl 3 (Nat.le_of_ble_eq_true rfl) (hts _ q344) (fun _ h => h) (v := .int (pw + (1 : Int32))) rfl dX5_one_35 ?_
    refine lv_iconst (v := (1 : Int32)) hx hb dX5_one_38 (by decide) ?_
    refine lv_isub hx hb dX5_one_39 ?_
    refine va_bald (f := tx) hx hb hK hP 1 3 rfl rfl h.1 dX5_one_40 ?_
    replace h := h.2
    refine lv_iload_n hx hb dX5_one_41 rfl (lv_at hl 1 rfl) ?_
    refine lv_isub hx hb dX5_one_42 ?_
    exact vx_ret (rt_i F dX5_one_43 rfl ((pw + (1 : Int32))) h hP hD hS (Nat.le_refl _) (Nat.le_refl _))
set_option maxHeartbeats 4000000 in
theorem lp_O_act_J3 {p : Program} {l : Launch} {e : Env} {R : Room} {s : State} {m : MethodId} {args : Array Value} {below : List Frame} {meth : Method} {c : Code} {A : Nat → Prop} {V : evT} {D : va_G} {gI : Nat → ClassId} {o : Nat} {pt pa pf pg : Nat} {v1 : Int32} {tx : Nat → Int32} {sz : Int32} {en : Int32} {mny : Int32} {ac : Nat → Int32} {Q : (Int32) → (Nat → Int32) → (Nat → Int32) → (Nat → Int32) → Prop} {E : Int32 → (Int32) → (Nat → Int32) → (Nat → Int32) → (Nat → Int32) → Prop} (F : ct_F p m c meth cX8_act 2 s args RX8 none A V D vwCl (tyL gI)) (hRf : 8 ≤ R.frames) (hRl : 144 ≤ R.locals) (hC : 0 ≤ R.cells) (hSl : 0 ≤ R.slots) (hC1 : 1 ≤ R.cells) (hS7 : 7 ≤ R.slots) (htab : ∀ x ∈ c.exceptionTable.toList, False) (hlt : l.stackTraces = false) :
    ∀ (pw : Int32) (oa : Nat → Int32) (ob : Nat → Int32), wp_O_act_J3 v1 tx sz en mny ac Q E pw oa ob → ∀ (H : Heap) (locs : List Loc) (ls : Array Slot), va_P D vwCl (wOO gI o pt pa pf pg mny ac oa ob tx sz en pw) H → va_D A (wOO gI o pt pa pf pg mny ac oa ob tx sz en pw) → va_S A s.heap H locs → lv_has ls 2 [(0, .ref o), (1, .int v1)] → W p l e R s m args below meth c H locs 0 0 (vx_MQ below (va_Qv (fun (u : (Int32) × (Nat → Int32) × (Nat → Int32) × (Nat → Int32)) => Q u.1 u.2.1 u.2.2.1 u.2.2.2) (fun u t => va_P D vwCl (wOO gI o pt pa pf pg mny u.2.1 u.2.2.1 u.2.2.2 tx sz en u.1) t.heap ∧ va_K D vwCl (tyL gI) t ∧ va_D A (wOO gI o pt pa pf pg mny u.2.1 u.2.2.1 u.2.2.2 tx sz en u.1)) A) (vx_X (S := Int32 × ((Int32) × (Nat → Int32) × (Nat → Int32) × (Nat → Int32))) (fun u => (fun (v : Int32) (u : (Int32) × (Nat → Int32) × (Nat → Int32) × (Nat → Int32)) => E v u.1 u.2.1 u.2.2.1 u.2.2.2) u.1 u.2) (fun E_ q u t => E_ = RX6 ∧ va_P D vwCl ((fun u : (Int32) × (Nat → Int32) × (Nat → Int32) × (Nat → Int32) => (wOO gI o pt pa pf pg mny u.2.1 u.2.2.1 u.2.2.2 tx sz en u.1)) u.2 ++ [fC q u.1]) t.heap ∧ va_K D vwCl (tyL gI) t ∧ va_D A ((fun u : (Int32) × (Nat → Int32) × (Nat → Int32) × (Nat → Int32) => (wOO gI o pt pa pf pg mny u.2.1 u.2.2.1 u.2.2.2 tx sz en u.1)) u.2 ++ [fC q u.1])) A) args s 1 7 A) (F0 m 124 ls []) := by
  obtain ⟨⟨hx, hb, hml, hown, hts⟩, hr, hlocks, hA, hK, hE⟩ := id F
  intro pw oa ob h H locs ls hP hD hS hl
  unfold wp_O_act_J3 at h
  refine lv_iload_n hx hb dX8_act_124 rfl (lv_at hl 1 rfl) ?_
  refine lv_bipush (v := (103 : Int32)) hx hb dX8_act_125 (by decide) ?_
  refine lv_icmp_ne (tgt := 147) hx hb dX8_act_127 (by decide) (fun c5 => ?_) (fun c5 => ?_)
  · replace h := h.1 c5
    exact vx_ret (rt_v F dX8_act_147 (pw, ac, oa, ob) h hP hD hS (Nat.le_refl _) (Nat.le_refl _))
  · replace h := h.2 c5
    refine lv_aload_n hx hb dX8_act_130 rfl (lv_at hl 0 rfl) ?_
    refine va_get hx hb hts in_X8 hown hK hP 0 rfl rfl 6 (Nat.le_of_ble_eq_true rfl) (hts _ q791) (fun _ h => h) (v := .ref pg) rfl dX8_act_131 ?_
    refine lv_aload_n hx hb dX8_act_134 rfl (lv_at hl 0 rfl) ?_
    refine va_get hx hb hts in_X8 hown hK hP 0 rfl rfl 7 (Nat.le_of_ble_eq_true rfl) (hts _ q793) (fun _ h => h) (v := .int mny) rfl dX8_act_135 ?_
    refine lv_aload_n hx hb dX8_act_138 rfl (lv_at hl 0 rfl) ?_
    refine lv_bipush (v := (97 : Int32)) hx hb dX8_act_139 (by decide) ?_
    refine lv_bipush (v := (12 : Int32)) hx hb dX8_act_141 (by decide) ?_
    refine clx_i F (vx_runU (As := [.int (97 : Int32), .int (12 : Int32)]) (rest := [.int mny, .ref pg]) ⟨hx, hb, hml, hown, hts⟩ (cx_W_oneO hlt h _) (va_cwU (owner := RX5) 2 hts (lw_U q906 q907 q909 q433 q99 q438) rfl rfl rfl rfl (by decide +kernel) ⟨Nat.le_trans (Nat.le_of_ble_eq_true rfl) hRf, Nat.le_trans (Nat.le_of_ble_eq_true rfl) hRl⟩) ⟨ct_blind, va_recv hK hP (ci := 6) (q0 := 0) rfl rfl, ct_at F hS hP hD⟩ rfl rfl hl.1 rfl (lv_room (Nat.le_of_ble_eq_true rfl)) dX8_act_143 ⟨hC1, hS7⟩) hD hS ?_ ?_
    · rintro q v_ pw4 H locs h hP hD hS
      exact rx_out (wx := fun u : (Int32) × (Nat → Int32) × (Nat → Int32) × (Nat → Int32) => (wOO gI o pt pa pf pg mny u.2.1 u.2.2.1 u.2.2.2 tx sz en u.1)) (QX := (fun (v : Int32) (u : (Int32) × (Nat → Int32) × (Nat → Int32) × (Nat → Int32)) => E v u.1 u.2.1 u.2.2.1 u.2.2.2)) F (fun x hx => (htab x hx).elim) (pw4, ac, oa, ob) h hP hD hS (Nat.le_refl _) (Nat.le_refl _)
    · rintro x2 pw3 H locs h hP hD hS
      refine pt_iast (f := ob) hx hb hK hP hD hS 4 0 rfl rfl h.1 dX8_act_146 rfl (fun H locs hP hD hS => ?_)
      replace h := h.2
      exact vx_ret (rt_v F dX8_act_147 (pw3, ac, oa, (upd ob mny.toNatClampNeg x2)) h hP hD hS (Nat.le_refl _) (Nat.le_refl _))
set_option maxHeartbeats 4000000 in
theorem lp_O_act_J2 {p : Program} {l : Launch} {e : Env} {R : Room} {s : State} {m : MethodId} {args : Array Value} {below : List Frame} {meth : Method} {c : Code} {A : Nat → Prop} {V : evT} {D : va_G} {gI : Nat → ClassId} {o : Nat} {pt pa pf pg : Nat} {v1 : Int32} {tx : Nat → Int32} {sz : Int32} {en : Int32} {mny : Int32} {Q : (Int32) → (Nat → Int32) → (Nat → Int32) → (Nat → Int32) → Prop} {E : Int32 → (Int32) → (Nat → Int32) → (Nat → Int32) → (Nat → Int32) → Prop} (F : ct_F p m c meth cX8_act 2 s args RX8 none A V D vwCl (tyL gI)) (hRf : 8 ≤ R.frames) (hRl : 144 ≤ R.locals) (hC : 0 ≤ R.cells) (hSl : 0 ≤ R.slots) (hC1 : 1 ≤ R.cells) (hS7 : 7 ≤ R.slots) (htab : ∀ x ∈ c.exceptionTable.toList, False) (hlt : l.stackTraces = false) :
    ∀ (t0 : Int32) (pw : Int32) (ac : Nat → Int32) (oa : Nat → Int32) (ob : Nat → Int32), wp_O_act_J2 v1 tx sz en mny Q E t0 pw ac oa ob → ∀ (H : Heap) (locs : List Loc) (ls : Array Slot), va_P D vwCl (wOO gI o pt pa pf pg mny ac oa ob tx sz en pw) H → va_D A (wOO gI o pt pa pf pg mny ac oa ob tx sz en pw) → va_S A s.heap H locs → lv_has ls 2 [(0, .ref o), (1, .int v1)] → W p l e R s m args below meth c H locs 0 0 (vx_MQ below (va_Qv (fun (u : (Int32) × (Nat → Int32) × (Nat → Int32) × (Nat → Int32)) => Q u.1 u.2.1 u.2.2.1 u.2.2.2) (fun u t => va_P D vwCl (wOO gI o pt pa pf pg mny u.2.1 u.2.2.1 u.2.2.2 tx sz en u.1) t.heap ∧ va_K D vwCl (tyL gI) t ∧ va_D A (wOO gI o pt pa pf pg mny u.2.1 u.2.2.1 u.2.2.2 tx sz en u.1)) A) (vx_X (S := Int32 × ((Int32) × (Nat → Int32) × (Nat → Int32) × (Nat → Int32))) (fun u => (fun (v : Int32) (u : (Int32) × (Nat → Int32) × (Nat → Int32) × (Nat → Int32)) => E v u.1 u.2.1 u.2.2.1 u.2.2.2) u.1 u.2) (fun E_ q u t => E_ = RX6 ∧ va_P D vwCl ((fun u : (Int32) × (Nat → Int32) × (Nat → Int32) × (Nat → Int32) => (wOO gI o pt pa pf pg mny u.2.1 u.2.2.1 u.2.2.2 tx sz en u.1)) u.2 ++ [fC q u.1]) t.heap ∧ va_K D vwCl (tyL gI) t ∧ va_D A ((fun u : (Int32) × (Nat → Int32) × (Nat → Int32) × (Nat → Int32) => (wOO gI o pt pa pf pg mny u.2.1 u.2.2.1 u.2.2.2 tx sz en u.1)) u.2 ++ [fC q u.1])) A) args s 1 7 A) (F0 m 25 ls [.int t0, .ref o]) := by
  obtain ⟨⟨hx, hb, hml, hown, hts⟩, hr, hlocks, hA, hK, hE⟩ := id F
  intro t0 pw ac oa ob h H locs ls hP hD hS hl
  unfold wp_O_act_J2 at h
  refine clx_v F (vx_runU (As := [.int t0]) (rest := []) ⟨hx, hb, hml, hown, hts⟩ (cx_W_needO hlt h _) (va_cwU (owner := RX5) 1 hts (lw_U q903 q904 q905 q363 q99 q368) rfl rfl rfl rfl (by decide +kernel) ⟨Nat.le_trans (Nat.le_of_ble_eq_true rfl) hRf, Nat.le_trans (Nat.le_of_ble_eq_true rfl) hRl⟩) ⟨ct_blind, va_recv hK hP (ci := 6) (q0 := 0) rfl rfl, ct_at F hS hP hD⟩ rfl rfl hl.1 rfl (lv_room (Nat.le_of_ble_eq_true rfl)) dX8_act_25 ⟨hC1, hS7⟩) hD hS ?_ ?_
  · rintro q v_ _ H locs h hP hD hS
    exact rx_out (wx := fun u : (Int32) × (Nat → Int32) × (Nat → Int32) × (Nat → Int32) => (wOO gI o pt pa pf pg mny u.2.1 u.2.2.1 u.2.2.2 tx sz en u.1)) (QX := (fun (v : Int32) (u : (Int32) × (Nat → Int32) × (Nat → Int32) × (Nat → Int32)) => E v u.1 u.2.1 u.2.2.1 u.2.2.2)) F (fun x hx => (htab x hx).elim) (pw, ac, oa, ob) h hP hD hS (Nat.le_refl _) (Nat.le_refl _)
  · rintro _ H locs h hP hD hS
    refine lv_aload_n hx hb dX8_act_28 rfl (lv_at hl 0 rfl) ?_
    refine lv_dup hx hb dX8_act_29 rfl ?_
    refine va_get hx hb hts in_X8 hown hK hP 0 rfl rfl 3 (Nat.le_of_ble_eq_true rfl) (hts _ q345) (u_same (hts _ q346)) (v := .int pw) rfl dX8_act_30 ?_
    refine lv_iconst (v := (1 : Int32)) hx hb dX8_act_33 (by decide) ?_
    refine lv_iadd hx hb dX8_act_34 ?_
    refine pt_put (v := .int (pw + (1 : Int32))) hx hb hts in_X8 tyX8 tyX8_ok nmX8 hown hK hP hD hS 0 rfl rfl 3 (Nat.le_of_ble_eq_true rfl) (hts _ q345) (u_same (hts _ q346)) rfl (ty := .int) (by decide +kernel) rfl rfl (Nat.le_of_ble_eq_true rfl) dX8_act_35 rfl (fun H locs hP hD hS => ?_)
    refine lv_aload_n hx hb dX8_act_38 rfl (lv_at hl 0 rfl) ?_
    refine va_get hx hb hts in_X8 hown hK hP 0 rfl rfl 4 (Nat.le_of_ble_eq_true rfl) (hts _ q787) (fun _ h => h) (v := .ref pa) rfl dX8_act_39 ?_
    refine lv_aload_n hx hb dX8_act_42 rfl (lv_at hl 0 rfl) ?_
    refine va_get hx hb hts in_X8 hown hK hP 0 rfl rfl 7 (Nat.le_of_ble_eq_true rfl) (hts _ q793) (fun _ h => h) (v := .int mny) rfl dX8_act_43 ?_
    refine lv_iload_n hx hb dX8_act_46 rfl (lv_at hl 1 rfl) ?_
    refine lv_i2c (v := ((v1.toUInt32 % 65536).toInt32)) hx hb dX8_act_47 rfl ?_
    refine pt_cast (f := ac) hx hb hK hP hD hS 2 7 rfl rfl h.1 dX8_act_48 rfl (fun H locs hP hD hS => ?_)
    replace h := h.2
    refine lv_iload_n hx hb dX8_act_49 rfl (lv_at hl 1 rfl) ?_
    refine lv_bipush (v := (109 : Int32)) hx hb dX8_act_50 (by decide) ?_
    refine lv_icmp_ne (tgt := 75) hx hb dX8_act_52 (by decide) (fun c17 => ?_) (fun c17 => ?_)
    · replace h := h.1 c17
      refine lv_iload_n hx hb dX8_act_75 rfl (lv_at hl 1 rfl) ?_
      refine lv_bipush (v := (98 : Int32)) hx hb dX8_act_76 (by decide) ?_
      refine lv_icmp_ne (tgt := 101) hx hb dX8_act_78 (by decide) (fun c13 => ?_) (fun c13 => ?_)
      · replace h := h.1 c13
        refine lv_iload_n hx hb dX8_act_101 rfl (lv_at hl 1 rfl) ?_
        refine lv_bipush (v := (119 : Int32)) hx hb dX8_act_102 (by decide) ?_
        refine lv_icmp_eq (tgt := 124) hx hb dX8_act_104 (by decide) (fun c9 => ?_) (fun c9 => ?_)
        · replace h := h.1 c9
          refine lp_O_act_J3 F hRf hRl hC hSl hC1 hS7 htab hlt  _ _ _ h _ _ _ hP hD hS (lv_sub hl [0, 1] rfl)
        · replace h := h.2 c9
          refine lv_aload_n hx hb dX8_act_107 rfl (lv_at hl 0 rfl) ?_
          refine va_get hx hb hts in_X8 hown hK hP 0 rfl rfl 5 (Nat.le_of_ble_eq_true rfl) (hts _ q789) (fun _ h => h) (v := .ref pf) rfl dX8_act_108 ?_
          refine lv_aload_n hx hb dX8_act_111 rfl (lv_at hl 0 rfl) ?_
          refine va_get hx hb hts in_X8 hown hK hP 0 rfl rfl 7 (Nat.le_of_ble_eq_true rfl) (hts _ q793) (fun _ h => h) (v := .int mny) rfl dX8_act_112 ?_
          refine lv_aload_n hx hb dX8_act_115 rfl (lv_at hl 0 rfl) ?_
          refine lv_bipush (v := (97 : Int32)) hx hb dX8_act_116 (by decide) ?_
          refine lv_bipush (v := (8 : Int32)) hx hb dX8_act_118 (by decide) ?_
          refine clx_i F (vx_runU (As := [.int (97 : Int32), .int (8 : Int32)]) (rest := [.int mny, .ref pf]) ⟨hx, hb, hml, hown, hts⟩ (cx_W_oneO hlt h _) (va_cwU (owner := RX5) 2 hts (lw_U q906 q907 q909 q433 q99 q438) rfl rfl rfl rfl (by decide +kernel) ⟨Nat.le_trans (Nat.le_of_ble_eq_true rfl) hRf, Nat.le_trans (Nat.le_of_ble_eq_true rfl) hRl⟩) ⟨ct_blind, va_recv hK hP (ci := 6) (q0 := 0) rfl rfl, ct_at F hS hP hD⟩ rfl rfl hl.1 rfl (lv_room (Nat.le_of_ble_eq_true rfl)) dX8_act_120 ⟨hC1, hS7⟩) hD hS ?_ ?_
          · rintro q v_ pw8 H locs h hP hD hS
            exact rx_out (wx := fun u : (Int32) × (Nat → Int32) × (Nat → Int32) × (Nat → Int32) => (wOO gI o pt pa pf pg mny u.2.1 u.2.2.1 u.2.2.2 tx sz en u.1)) (QX := (fun (v : Int32) (u : (Int32) × (Nat → Int32) × (Nat → Int32) × (Nat → Int32)) => E v u.1 u.2.1 u.2.2.1 u.2.2.2)) F (fun x hx => (htab x hx).elim) (pw8, (upd ac mny.toNatClampNeg (vp_nar .char ((v1.toUInt32 % 65536).toInt32))), oa, ob) h hP hD hS (Nat.le_refl _) (Nat.le_refl _)
          · rintro x6 pw7 H locs h hP hD hS
            refine pt_iast (f := oa) hx hb hK hP hD hS 3 0 rfl rfl h.1 dX8_act_123 rfl (fun H locs hP hD hS => ?_)
            replace h := h.2
            refine lp_O_act_J3 F hRf hRl hC hSl hC1 hS7 htab hlt  _ _ _ h _ _ _ hP hD hS (lv_sub hl [0, 1] rfl)
      · replace h := h.2 c13
        refine lv_aload_n hx hb dX8_act_81 rfl (lv_at hl 0 rfl) ?_
        refine va_get hx hb hts in_X8 hown hK hP 0 rfl rfl 5 (Nat.le_of_ble_eq_true rfl) (hts _ q789) (fun _ h => h) (v := .ref pf) rfl dX8_act_82 ?_
        refine lv_aload_n hx hb dX8_act_85 rfl (lv_at hl 0 rfl) ?_
        refine va_get hx hb hts in_X8 hown hK hP 0 rfl rfl 7 (Nat.le_of_ble_eq_true rfl) (hts _ q793) (fun _ h => h) (v := .int mny) rfl dX8_act_86 ?_
        refine lv_aload_n hx hb dX8_act_89 rfl (lv_at hl 0 rfl) ?_
        refine lv_bipush (v := (48 : Int32)) hx hb dX8_act_90 (by decide) ?_
        refine lv_bipush (v := (10 : Int32)) hx hb dX8_act_92 (by decide) ?_
        refine clx_i F (vx_runU (As := [.int (48 : Int32), .int (10 : Int32)]) (rest := [.int mny, .ref pf]) ⟨hx, hb, hml, hown, hts⟩ (cx_W_oneO hlt h _) (va_cwU (owner := RX5) 2 hts (lw_U q906 q907 q909 q433 q99 q438) rfl rfl rfl rfl (by decide +kernel) ⟨Nat.le_trans (Nat.le_of_ble_eq_true rfl) hRf, Nat.le_trans (Nat.le_of_ble_eq_true rfl) hRl⟩) ⟨ct_blind, va_recv hK hP (ci := 6) (q0 := 0) rfl rfl, ct_at F hS hP hD⟩ rfl rfl hl.1 rfl (lv_room (Nat.le_of_ble_eq_true rfl)) dX8_act_94 ⟨hC1, hS7⟩) hD hS ?_ ?_
        · rintro q v_ pw12 H locs h hP hD hS
          exact rx_out (wx := fun u : (Int32) × (Nat → Int32) × (Nat → Int32) × (Nat → Int32) => (wOO gI o pt pa pf pg mny u.2.1 u.2.2.1 u.2.2.2 tx sz en u.1)) (QX := (fun (v : Int32) (u : (Int32) × (Nat → Int32) × (Nat → Int32) × (Nat → Int32)) => E v u.1 u.2.1 u.2.2.1 u.2.2.2)) F (fun x hx => (htab x hx).elim) (pw12, (upd ac mny.toNatClampNeg (vp_nar .char ((v1.toUInt32 % 65536).toInt32))), oa, ob) h hP hD hS (Nat.le_refl _) (Nat.le_refl _)
        · rintro x10 pw11 H locs h hP hD hS
          refine pt_iast (f := oa) hx hb hK hP hD hS 3 0 rfl rfl h.1 dX8_act_97 rfl (fun H locs hP hD hS => ?_)
          replace h := h.2
          refine lv_goto (tgt := 124) hx hb dX8_act_98 (by decide) ?_
          refine lp_O_act_J3 F hRf hRl hC hSl hC1 hS7 htab hlt  _ _ _ h _ _ _ hP hD hS (lv_sub hl [0, 1] rfl)
    · replace h := h.2 c17
      refine lv_aload_n hx hb dX8_act_55 rfl (lv_at hl 0 rfl) ?_
      refine va_get hx hb hts in_X8 hown hK hP 0 rfl rfl 5 (Nat.le_of_ble_eq_true rfl) (hts _ q789) (fun _ h => h) (v := .ref pf) rfl dX8_act_56 ?_
      refine lv_aload_n hx hb dX8_act_59 rfl (lv_at hl 0 rfl) ?_
      refine va_get hx hb hts in_X8 hown hK hP 0 rfl rfl 7 (Nat.le_of_ble_eq_true rfl) (hts _ q793) (fun _ h => h) (v := .int mny) rfl dX8_act_60 ?_
      refine lv_aload_n hx hb dX8_act_63 rfl (lv_at hl 0 rfl) ?_
      refine lv_bipush (v := (97 : Int32)) hx hb dX8_act_64 (by decide) ?_
      refine lv_bipush (v := (12 : Int32)) hx hb dX8_act_66 (by decide) ?_
      refine clx_i F (vx_runU (As := [.int (97 : Int32), .int (12 : Int32)]) (rest := [.int mny, .ref pf]) ⟨hx, hb, hml, hown, hts⟩ (cx_W_oneO hlt h _) (va_cwU (owner := RX5) 2 hts (lw_U q906 q907 q909 q433 q99 q438) rfl rfl rfl rfl (by decide +kernel) ⟨Nat.le_trans (Nat.le_of_ble_eq_true rfl) hRf, Nat.le_trans (Nat.le_of_ble_eq_true rfl) hRl⟩) ⟨ct_blind, va_recv hK hP (ci := 6) (q0 := 0) rfl rfl, ct_at F hS hP hD⟩ rfl rfl hl.1 rfl (lv_room (Nat.le_of_ble_eq_true rfl)) dX8_act_68 ⟨hC1, hS7⟩) hD hS ?_ ?_
      · rintro q v_ pw16 H locs h hP hD hS
        exact rx_out (wx := fun u : (Int32) × (Nat → Int32) × (Nat → Int32) × (Nat → Int32) => (wOO gI o pt pa pf pg mny u.2.1 u.2.2.1 u.2.2.2 tx sz en u.1)) (QX := (fun (v : Int32) (u : (Int32) × (Nat → Int32) × (Nat → Int32) × (Nat → Int32)) => E v u.1 u.2.1 u.2.2.1 u.2.2.2)) F (fun x hx => (htab x hx).elim) (pw16, (upd ac mny.toNatClampNeg (vp_nar .char ((v1.toUInt32 % 65536).toInt32))), oa, ob) h hP hD hS (Nat.le_refl _) (Nat.le_refl _)
      · rintro x14 pw15 H locs h hP hD hS
        refine pt_iast (f := oa) hx hb hK hP hD hS 3 0 rfl rfl h.1 dX8_act_71 rfl (fun H locs hP hD hS => ?_)
        replace h := h.2
        refine lv_goto (tgt := 124) hx hb dX8_act_72 (by decide) ?_
        refine lp_O_act_J3 F hRf hRl hC hSl hC1 hS7 htab hlt  _ _ _ h _ _ _ hP hD hS (lv_sub hl [0, 1] rfl)
set_option maxHeartbeats 4000000 in
theorem lp_O_act_J1 {p : Program} {l : Launch} {e : Env} {R : Room} {s : State} {m : MethodId} {args : Array Value} {below : List Frame} {meth : Method} {c : Code} {A : Nat → Prop} {V : evT} {D : va_G} {gI : Nat → ClassId} {o : Nat} {pt pa pf pg : Nat} {v1 : Int32} {tx : Nat → Int32} {sz : Int32} {en : Int32} {mny : Int32} {Q : (Int32) → (Nat → Int32) → (Nat → Int32) → (Nat → Int32) → Prop} {E : Int32 → (Int32) → (Nat → Int32) → (Nat → Int32) → (Nat → Int32) → Prop} (F : ct_F p m c meth cX8_act 2 s args RX8 none A V D vwCl (tyL gI)) (hRf : 8 ≤ R.frames) (hRl : 144 ≤ R.locals) (hC : 0 ≤ R.cells) (hSl : 0 ≤ R.slots) (hC1 : 1 ≤ R.cells) (hS7 : 7 ≤ R.slots) (htab : ∀ x ∈ c.exceptionTable.toList, False) (hlt : l.stackTraces = false) :
    ∀ (pw : Int32) (ac : Nat → Int32) (oa : Nat → Int32) (ob : Nat → Int32), wp_O_act_J1 v1 tx sz en mny Q E pw ac oa ob → ∀ (H : Heap) (locs : List Loc) (ls : Array Slot), va_P D vwCl (wOO gI o pt pa pf pg mny ac oa ob tx sz en pw) H → va_D A (wOO gI o pt pa pf pg mny ac oa ob tx sz en pw) → va_S A s.heap H locs → lv_has ls 2 [(0, .ref o), (1, .int v1)] → W p l e R s m args below meth c H locs 0 0 (vx_MQ below (va_Qv (fun (u : (Int32) × (Nat → Int32) × (Nat → Int32) × (Nat → Int32)) => Q u.1 u.2.1 u.2.2.1 u.2.2.2) (fun u t => va_P D vwCl (wOO gI o pt pa pf pg mny u.2.1 u.2.2.1 u.2.2.2 tx sz en u.1) t.heap ∧ va_K D vwCl (tyL gI) t ∧ va_D A (wOO gI o pt pa pf pg mny u.2.1 u.2.2.1 u.2.2.2 tx sz en u.1)) A) (vx_X (S := Int32 × ((Int32) × (Nat → Int32) × (Nat → Int32) × (Nat → Int32))) (fun u => (fun (v : Int32) (u : (Int32) × (Nat → Int32) × (Nat → Int32) × (Nat → Int32)) => E v u.1 u.2.1 u.2.2.1 u.2.2.2) u.1 u.2) (fun E_ q u t => E_ = RX6 ∧ va_P D vwCl ((fun u : (Int32) × (Nat → Int32) × (Nat → Int32) × (Nat → Int32) => (wOO gI o pt pa pf pg mny u.2.1 u.2.2.1 u.2.2.2 tx sz en u.1)) u.2 ++ [fC q u.1]) t.heap ∧ va_K D vwCl (tyL gI) t ∧ va_D A ((fun u : (Int32) × (Nat → Int32) × (Nat → Int32) × (Nat → Int32) => (wOO gI o pt pa pf pg mny u.2.1 u.2.2.1 u.2.2.2 tx sz en u.1)) u.2 ++ [fC q u.1])) A) args s 1 7 A) (F0 m 24 ls [.ref o]) := by
  obtain ⟨⟨hx, hb, hml, hown, hts⟩, hr, hlocks, hA, hK, hE⟩ := id F
  intro pw ac oa ob h H locs ls hP hD hS hl
  unfold wp_O_act_J1 at h
  refine lv_iconst (v := (0 : Int32)) hx hb dX8_act_24 (by decide) ?_
  refine lp_O_act_J2 F hRf hRl hC hSl hC1 hS7 htab hlt  _ _ _ _ _ h _ _ _ hP hD hS (lv_sub hl [0, 1] rfl)
set_option maxHeartbeats 4000000 in
theorem cx_O_act {l : Launch} {V : evT} {D : va_G} {gI : Nat → ClassId} {o : Nat} {pt pa pf pg : Nat} (hlt : l.stackTraces = false) {tx : Nat → Int32} {sz : Int32} {en : Int32} {pw : Int32} {mny : Int32} {ac : Nat → Int32} {oa : Nat → Int32} {ob : Nat → Int32} {Q : (Int32) → (Nat → Int32) → (Nat → Int32) → (Nat → Int32) → Prop} {E : Int32 → (Int32) → (Nat → Int32) → (Nat → Int32) → (Nat → Int32) → Prop} (h : wp_O_act tx sz en pw mny ac oa ob Q E) : cx_v l V D (tyL gI) yX8_act cX8_act 2 { frames := 8, cells := 1, slots := 7, locals := 144 } [.ref o] (wOO gI o pt pa pf pg mny ac oa ob tx sz en pw) (fun u : (Int32) × (Nat → Int32) × (Nat → Int32) × (Nat → Int32) => (wOO gI o pt pa pf pg mny u.2.1 u.2.2.1 u.2.2.2 tx sz en u.1)) (fun (u : (Int32) × (Nat → Int32) × (Nat → Int32) × (Nat → Int32)) => Q u.1 u.2.1 u.2.2.1 u.2.2.2) (fun u : (Int32) × (Nat → Int32) × (Nat → Int32) × (Nat → Int32) => (wOO gI o pt pa pf pg mny u.2.1 u.2.2.1 u.2.2.2 tx sz en u.1)) (fun (v : Int32) (u : (Int32) × (Nat → Int32) × (Nat → Int32) × (Nat → Int32)) => E v u.1 u.2.1 u.2.2.1 u.2.2.2) := by
  refine cx_ofv RX8 rfl (by decide +kernel) (Nat.le_of_ble_eq_true rfl) ?_
  intro p e s m args below meth c A F htab hP hD ls hl
  obtain ⟨⟨hx, hb, hml, hown, hts⟩, hr, hlocks, hA, hK, hE⟩ := id F
  have hS : va_S A s.heap s.heap [] := va_S.rf
  have hl : lv_has ls 2 [(0, .ref o)] := hl
  have hRf : 8 ≤ ({ frames := 8, cells := 1, slots := 7, locals := 144 } : Room).frames := Nat.le_refl _
  have hC1 : 1 ≤ ({ frames := 8, cells := 1, slots := 7, locals := 144 } : Room).cells := Nat.le_refl _
  have hS7 : 7 ≤ ({ frames := 8, cells := 1, slots := 7, locals := 144 } : Room).slots := Nat.le_refl _
  have hRl : 144 ≤ ({ frames := 8, cells := 1, slots := 7, locals := 144 } : Room).locals := Nat.le_refl _
  have hC : 0 ≤ ({ frames := 8, cells := 1, slots := 7, locals := 144 } : Room).cells := Nat.zero_le _
  have hSl : 0 ≤ ({ frames := 8, cells := 1, slots := 7, locals := 144 } : Room).slots := Nat.zero_le _
  unfold wp_O_act at h
  refine lv_aload_n hx hb dX8_act_0 rfl (lv_at hl 0 rfl) ?_
  refine cl_i F (va_runU (As := []) (rest := []) ⟨hx, hb, hml, hown, hts⟩ (ct_W_hereO h _) (va_cwU (owner := RX5) 0 hts (lw_U q817 q818 q819 q440 q99 q445) rfl rfl rfl rfl (by decide +kernel) ⟨Nat.le_trans (Nat.le_of_ble_eq_true rfl) hRf, Nat.le_trans (Nat.le_of_ble_eq_true rfl) hRl⟩) ⟨ct_blind, va_recv hK hP (ci := 6) (q0 := 0) rfl rfl, ct_at F hS hP hD⟩ rfl rfl hl.1 rfl (lv_room (Nat.le_of_ble_eq_true rfl)) dX8_act_1 ⟨hC, hSl⟩) rfl rfl hD hS ?_
  rintro x1 _ H locs h hP hD hS
  refine lv_istore_n (lv' := [(1, .int x1), (0, .ref o)]) hx hb dX8_act_4 rfl hl (by decide) rfl (fun ls hl => ?_)
  refine lv_aload_n hx hb dX8_act_5 rfl (lv_at hl 1 rfl) ?_
  refine lv_iload_n hx hb dX8_act_6 rfl (lv_at hl 0 rfl) ?_
  refine lv_iconst (v := (-1 : Int32)) hx hb dX8_act_7 (by decide) ?_
  refine lv_icmp_eq (tgt := 24) hx hb dX8_act_8 (by decide) (fun c20 => ?_) (fun c20 => ?_)
  · replace h := h.1 c20
    refine lp_O_act_J1 F hRf hRl hC hSl hC1 hS7 htab hlt  _ _ _ _ h _ _ _ hP hD hS (lv_sub hl [1, 0] rfl)
  · replace h := h.2 c20
    refine va_ldcS hx hb hown (hE.2.2.1 7 _ rfl).1 dX8_act_11 ?_
    refine lv_iload_n hx hb dX8_act_13 rfl (lv_at hl 0 rfl) ?_
    refine cl_i0 F (va_runV (As := [.int x1]) (rest := [.ref o]) ⟨hx, hb, hml, hown, hts⟩ (ct_J4_indexOf_i7 h _) (cwV 1 hts (lw_V q821 q822 q823 q106 q824) rfl rfl rfl (by decide +kernel) ⟨Nat.le_trans (Nat.le_of_ble_eq_true rfl) hRf, Nat.le_trans (Nat.le_of_ble_eq_true rfl) hRl⟩) ⟨ct_blind, vk_recv (N := 1) (i := 0) (hE.2.2.1 7 _ rfl).2 (by decide) hS, ct_at F hS ct_nP ct_nD⟩ rfl rfl hl.1 rfl (lv_room (Nat.le_of_ble_eq_true rfl)) dX8_act_14 ⟨hC, hSl⟩) rfl rfl hP hS ?_
    rintro x18 _ H locs h hP hS
    refine lv_if_lt (tgt := 24) hx hb dX8_act_17 (by decide) (fun c19 => ?_) (fun c19 => ?_)
    · replace h := h.1 c19
      refine lp_O_act_J1 F hRf hRl hC hSl hC1 hS7 htab hlt  _ _ _ _ h _ _ _ hP hD hS (lv_sub hl [1, 0] rfl)
    · replace h := h.2 c19
      refine lv_iconst (v := (1 : Int32)) hx hb dX8_act_20 (by decide) ?_
      refine lv_goto (tgt := 25) hx hb dX8_act_21 (by decide) ?_
      refine lp_O_act_J2 F hRf hRl hC hSl hC1 hS7 htab hlt  _ _ _ _ _ h _ _ _ hP hD hS (lv_sub hl [1, 0] rfl)
set_option maxHeartbeats 4000000 in
theorem lp_O_read_L1 {p : Program} {l : Launch} {e : Env} {R : Room} {s : State} {m : MethodId} {args : Array Value} {below : List Frame} {meth : Method} {c : Code} {A : Nat → Prop} {V : evT} {D : va_G} {gI : Nat → ClassId} {o : Nat} {pt pa pf pg : Nat} {tx : Nat → Int32} {sz : Int32} {en : Int32} {Q : (Int32) → (Int32) → (Nat → Int32) → (Nat → Int32) → (Nat → Int32) → Prop} {E : Int32 → (Int32) → (Int32) → (Nat → Int32) → (Nat → Int32) → (Nat → Int32) → Prop} {K28 : (Int32) → (Int32) → (Nat → Int32) → (Nat → Int32) → (Nat → Int32) → Prop} (F : ct_F p m c meth cX8_read 1 s args RX8 none A V D vwCl (tyL gI)) (hRf : 9 ≤ R.frames) (hRl : 165 ≤ R.locals) (hC : 0 ≤ R.cells) (hSl : 0 ≤ R.slots) (hC1 : 1 ≤ R.cells) (hS7 : 7 ≤ R.slots) (htab : ∀ x ∈ c.exceptionTable.toList, False) (hlt : l.stackTraces = false)
    (hK28 : ∀ (pw : Int32) (mny : Int32) (ac : Nat → Int32) (oa : Nat → Int32) (ob : Nat → Int32), K28 pw mny ac oa ob → ∀ (H : Heap) (locs : List Loc) (ls : Array Slot), va_P D vwCl (wOO gI o pt pa pf pg mny ac oa ob tx sz en pw) H → va_D A (wOO gI o pt pa pf pg mny ac oa ob tx sz en pw) → va_S A s.heap H locs → lv_has ls 1 [(0, .ref o)] → W p l e R s m args below meth c H locs 0 0 (vx_MQ below (va_Qv (fun (u : (Int32) × (Int32) × (Nat → Int32) × (Nat → Int32) × (Nat → Int32)) => Q u.1 u.2.1 u.2.2.1 u.2.2.2.1 u.2.2.2.2) (fun u t => va_P D vwCl (wOO gI o pt pa pf pg u.2.1 u.2.2.1 u.2.2.2.1 u.2.2.2.2 tx sz en u.1) t.heap ∧ va_K D vwCl (tyL gI) t ∧ va_D A (wOO gI o pt pa pf pg u.2.1 u.2.2.1 u.2.2.2.1 u.2.2.2.2 tx sz en u.1)) A) (vx_X (S := Int32 × ((Int32) × (Int32) × (Nat → Int32) × (Nat → Int32) × (Nat → Int32))) (fun u => (fun (v : Int32) (u : (Int32) × (Int32) × (Nat → Int32) × (Nat → Int32) × (Nat → Int32)) => E v u.1 u.2.1 u.2.2.1 u.2.2.2.1 u.2.2.2.2) u.1 u.2) (fun E_ q u t => E_ = RX6 ∧ va_P D vwCl ((fun u : (Int32) × (Int32) × (Nat → Int32) × (Nat → Int32) × (Nat → Int32) => (wOO gI o pt pa pf pg u.2.1 u.2.2.1 u.2.2.2.1 u.2.2.2.2 tx sz en u.1)) u.2 ++ [fC q u.1]) t.heap ∧ va_K D vwCl (tyL gI) t ∧ va_D A ((fun u : (Int32) × (Int32) × (Nat → Int32) × (Nat → Int32) × (Nat → Int32) => (wOO gI o pt pa pf pg u.2.1 u.2.2.1 u.2.2.2.1 u.2.2.2.2 tx sz en u.1)) u.2 ++ [fC q u.1])) A) args s 1 7 A) (F0 m 28 ls [])) :
    ∀ (n : Nat) (pw : Int32) (mny : Int32) (ac : Nat → Int32) (oa : Nat → Int32) (ob : Nat → Int32), wp_O_read_L1 tx sz en Q E K28 n pw mny ac oa ob → ∀ (H : Heap) (locs : List Loc) (ls : Array Slot), va_P D vwCl (wOO gI o pt pa pf pg mny ac oa ob tx sz en pw) H → va_D A (wOO gI o pt pa pf pg mny ac oa ob tx sz en pw) → va_S A s.heap H locs → lv_has ls 1 [(0, .ref o)] → W p l e R s m args below meth c H locs 0 0 (vx_MQ below (va_Qv (fun (u : (Int32) × (Int32) × (Nat → Int32) × (Nat → Int32) × (Nat → Int32)) => Q u.1 u.2.1 u.2.2.1 u.2.2.2.1 u.2.2.2.2) (fun u t => va_P D vwCl (wOO gI o pt pa pf pg u.2.1 u.2.2.1 u.2.2.2.1 u.2.2.2.2 tx sz en u.1) t.heap ∧ va_K D vwCl (tyL gI) t ∧ va_D A (wOO gI o pt pa pf pg u.2.1 u.2.2.1 u.2.2.2.1 u.2.2.2.2 tx sz en u.1)) A) (vx_X (S := Int32 × ((Int32) × (Int32) × (Nat → Int32) × (Nat → Int32) × (Nat → Int32))) (fun u => (fun (v : Int32) (u : (Int32) × (Int32) × (Nat → Int32) × (Nat → Int32) × (Nat → Int32)) => E v u.1 u.2.1 u.2.2.1 u.2.2.2.1 u.2.2.2.2) u.1 u.2) (fun E_ q u t => E_ = RX6 ∧ va_P D vwCl ((fun u : (Int32) × (Int32) × (Nat → Int32) × (Nat → Int32) × (Nat → Int32) => (wOO gI o pt pa pf pg u.2.1 u.2.2.1 u.2.2.2.1 u.2.2.2.2 tx sz en u.1)) u.2 ++ [fC q u.1]) t.heap ∧ va_K D vwCl (tyL gI) t ∧ va_D A ((fun u : (Int32) × (Int32) × (Nat → Int32) × (Nat → Int32) × (Nat → Int32) => (wOO gI o pt pa pf pg u.2.1 u.2.2.1 u.2.2.2.1 u.2.2.2.2 tx sz en u.1)) u.2 ++ [fC q u.1])) A) args s 1 7 A) (F0 m 0 ls []) := by
  obtain ⟨⟨hx, hb, hml, hown, hts⟩, hr, hlocks, hA, hK, hE⟩ := id F
  intro n
  induction n with
  | zero => intro pw mny ac oa ob h; exact h.elim
  | succ n ih =>
    intro pw mny ac oa ob h H locs ls hP hD hS hl
    unfold wp_O_read_L1 at h
    refine lv_aload_n hx hb dX8_read_0 rfl (lv_at hl 0 rfl) ?_
    refine va_get hx hb hts in_X8 hown hK hP 0 rfl rfl 3 (Nat.le_of_ble_eq_true rfl) (hts _ q345) (u_same (hts _ q346)) (v := .int pw) rfl dX8_read_1 ?_
    refine lv_aload_n hx hb dX8_read_4 rfl (lv_at hl 0 rfl) ?_
    refine va_get hx hb hts in_X8 hown hK hP 0 rfl rfl 2 (Nat.le_of_ble_eq_true rfl) (hts _ q342) (u_same (hts _ q343)) (v := .int en) rfl dX8_read_5 ?_
    refine lv_icmp_ge (tgt := 28) hx hb dX8_read_8 (by decide) (fun c9 => ?_) (fun c9 => ?_)
    · replace h := h.1 c9
      exact hK28 _ _ _ _ _ h _ _ _ hP hD hS (lv_sub hl [0] rfl)
    · replace h := h.2 c9
      refine lv_aload_n hx hb dX8_read_11 rfl (lv_at hl 0 rfl) ?_
      refine clx_v F (vx_runV (As := []) (rest := []) ⟨hx, hb, hml, hown, hts⟩ (cx_O_act hlt h _) (cwV 0 hts (lw_V q813 q815 qs25 q114 q816) rfl rfl rfl (by decide +kernel) ⟨Nat.le_trans (Nat.le_of_ble_eq_true rfl) hRf, Nat.le_trans (Nat.le_of_ble_eq_true rfl) hRl⟩) ⟨ct_blind, va_recv hK hP (ci := 6) (q0 := 0) rfl rfl, ct_at F hS hP hD⟩ rfl rfl hl.1 rfl (lv_room (Nat.le_of_ble_eq_true rfl)) dX8_read_12 ⟨hC1, hS7⟩) hD hS ?_ ?_
      · rintro q v_ ⟨pw5, ac6, oa7, ob8⟩ H locs h hP hD hS
        exact rx_out (wx := fun u : (Int32) × (Int32) × (Nat → Int32) × (Nat → Int32) × (Nat → Int32) => (wOO gI o pt pa pf pg u.2.1 u.2.2.1 u.2.2.2.1 u.2.2.2.2 tx sz en u.1)) (QX := (fun (v : Int32) (u : (Int32) × (Int32) × (Nat → Int32) × (Nat → Int32) × (Nat → Int32)) => E v u.1 u.2.1 u.2.2.1 u.2.2.2.1 u.2.2.2.2)) F (fun x hx => (htab x hx).elim) (pw5, mny, ac6, oa7, ob8) h hP hD hS (Nat.le_refl _) (Nat.le_refl _)
      · rintro ⟨pw1, ac2, oa3, ob4⟩ H locs h hP hD hS
        refine lv_aload_n hx hb dX8_read_15 rfl (lv_at hl 0 rfl) ?_
        refine lv_dup hx hb dX8_read_16 rfl ?_
        refine va_get hx hb hts in_X8 hown hK hP 0 rfl rfl 7 (Nat.le_of_ble_eq_true rfl) (hts _ q793) (fun _ h => h) (v := .int mny) rfl dX8_read_17 ?_
        refine lv_iconst (v := (1 : Int32)) hx hb dX8_read_20 (by decide) ?_
        refine lv_iadd hx hb dX8_read_21 ?_
        refine pt_put (v := .int (mny + (1 : Int32))) hx hb hts in_X8 tyX8 tyX8_ok nmX8 hown hK hP hD hS 0 rfl rfl 7 (Nat.le_of_ble_eq_true rfl) (hts _ q793) (fun _ h => h) rfl (ty := .int) (by decide +kernel) rfl rfl (Nat.le_of_ble_eq_true rfl) dX8_read_22 rfl (fun H locs hP hD hS => ?_)
        refine lv_goto (tgt := 0) hx hb dX8_read_25 (by decide) ?_
        exact ih _ _ _ _ _ h _ _ _ hP hD hS (lv_sub hl [0] rfl)
set_option maxHeartbeats 4000000 in
theorem cx_O_read {l : Launch} {V : evT} {D : va_G} {gI : Nat → ClassId} {o : Nat} {pt pa pf pg : Nat} (hlt : l.stackTraces = false) {tx : Nat → Int32} {sz : Int32} {en : Int32} {pw : Int32} {mny : Int32} {ac : Nat → Int32} {oa : Nat → Int32} {ob : Nat → Int32} {Q : (Int32) → (Int32) → (Nat → Int32) → (Nat → Int32) → (Nat → Int32) → Prop} {E : Int32 → (Int32) → (Int32) → (Nat → Int32) → (Nat → Int32) → (Nat → Int32) → Prop} (h : wp_O_read tx sz en pw mny ac oa ob Q E) : cx_v l V D (tyL gI) yX8_read cX8_read 1 { frames := 9, cells := 1, slots := 7, locals := 165 } [.ref o] (wOO gI o pt pa pf pg mny ac oa ob tx sz en pw) (fun u : (Int32) × (Int32) × (Nat → Int32) × (Nat → Int32) × (Nat → Int32) => (wOO gI o pt pa pf pg u.2.1 u.2.2.1 u.2.2.2.1 u.2.2.2.2 tx sz en u.1)) (fun (u : (Int32) × (Int32) × (Nat → Int32) × (Nat → Int32) × (Nat → Int32)) => Q u.1 u.2.1 u.2.2.1 u.2.2.2.1 u.2.2.2.2) (fun u : (Int32) × (Int32) × (Nat → Int32) × (Nat → Int32) × (Nat → Int32) => (wOO gI o pt pa pf pg u.2.1 u.2.2.1 u.2.2.2.1 u.2.2.2.2 tx sz en u.1)) (fun (v : Int32) (u : (Int32) × (Int32) × (Nat → Int32) × (Nat → Int32) × (Nat → Int32)) => E v u.1 u.2.1 u.2.2.1 u.2.2.2.1 u.2.2.2.2) := by
  refine cx_ofv RX8 rfl (by decide +kernel) (Nat.le_of_ble_eq_true rfl) ?_
  intro p e s m args below meth c A F htab hP hD ls hl
  obtain ⟨⟨hx, hb, hml, hown, hts⟩, hr, hlocks, hA, hK, hE⟩ := id F
  have hS : va_S A s.heap s.heap [] := va_S.rf
  have hl : lv_has ls 1 [(0, .ref o)] := hl
  have hRf : 9 ≤ ({ frames := 9, cells := 1, slots := 7, locals := 165 } : Room).frames := Nat.le_refl _
  have hC1 : 1 ≤ ({ frames := 9, cells := 1, slots := 7, locals := 165 } : Room).cells := Nat.le_refl _
  have hS7 : 7 ≤ ({ frames := 9, cells := 1, slots := 7, locals := 165 } : Room).slots := Nat.le_refl _
  have hRl : 165 ≤ ({ frames := 9, cells := 1, slots := 7, locals := 165 } : Room).locals := Nat.le_refl _
  have hC : 0 ≤ ({ frames := 9, cells := 1, slots := 7, locals := 165 } : Room).cells := Nat.zero_le _
  have hSl : 0 ≤ ({ frames := 9, cells := 1, slots := 7, locals := 165 } : Room).slots := Nat.zero_le _
  unfold wp_O_read at h
  obtain ⟨k0, h⟩ := h
  refine lp_O_read_L1 F hRf hRl hC hSl hC1 hS7 htab hlt ?hk28 k0 _ _ _ _ _ h _ _ _ hP hD hS (lv_sub hl [0] rfl)
  case hk28 =>
    intro pw_10 mny_11 ac_12 oa_13 ob_14 h H locs ls hP hD hS hl
    refine lv_aload_n hx hb dX8_read_28 rfl (lv_at hl 0 rfl) ?_
    refine clx_v F (vx_runU (As := []) (rest := []) ⟨hx, hb, hml, hown, hts⟩ (cx_W_needEndO hlt h _) (va_cwU (owner := RX5) 0 hts (lw_U q910 q911 q912 q460 q99 q465) rfl rfl rfl rfl (by decide +kernel) ⟨Nat.le_trans (Nat.le_of_ble_eq_true rfl) hRf, Nat.le_trans (Nat.le_of_ble_eq_true rfl) hRl⟩) ⟨ct_blind, va_recv hK hP (ci := 6) (q0 := 0) rfl rfl, ct_at F hS hP hD⟩ rfl rfl hl.1 rfl (lv_room (Nat.le_of_ble_eq_true rfl)) dX8_read_29 ⟨hC1, hS7⟩) hD hS ?_ ?_
    · rintro q v_ _ H locs h hP hD hS
      exact rx_out (wx := fun u : (Int32) × (Int32) × (Nat → Int32) × (Nat → Int32) × (Nat → Int32) => (wOO gI o pt pa pf pg u.2.1 u.2.2.1 u.2.2.2.1 u.2.2.2.2 tx sz en u.1)) (QX := (fun (v : Int32) (u : (Int32) × (Int32) × (Nat → Int32) × (Nat → Int32) × (Nat → Int32)) => E v u.1 u.2.1 u.2.2.1 u.2.2.2.1 u.2.2.2.2)) F (fun x hx => (htab x hx).elim) (pw_10, mny_11, ac_12, oa_13, ob_14) h hP hD hS (Nat.le_refl _) (Nat.le_refl _)
    · rintro _ H locs h hP hD hS
      exact vx_ret (rt_v F dX8_read_32 (pw_10, mny_11, ac_12, oa_13, ob_14) h hP hD hS (Nat.le_refl _) (Nat.le_refl _))
