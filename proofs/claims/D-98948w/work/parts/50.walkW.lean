/-! a text that is gone through: walks -/
set_option maxRecDepth 100000
set_option maxHeartbeats 4000000 in
theorem ct_W_here {l : Launch} {V : evT} {D : va_G} {gI : Nat → ClassId} {o : Nat} {pt : Nat} {tx : Nat → Int32} {sz : Int32} {en : Int32} {pw : Int32} {Q : Int32 → Prop} (h : wp_W_here tx sz en pw Q) : ct_i l V D vwCl (tyL gI) yX5_here cX5_here 1 .int { frames := 1, cells := 0, slots := 0, locals := 12 } [.ref o] (wW gI o pt tx sz en pw) (fun u : Unit => (wW gI o pt tx sz en pw)) (fun (x : Int32) (u : Unit) => Q x) := by
  refine ct_ofi RX5 rfl (by decide +kernel) (Nat.le_of_ble_eq_true rfl) ?_
  intro p e s m args below meth c A F hP hD ls hl
  obtain ⟨⟨hx, hb, hml, hown, hts⟩, hr, hlocks, hA, hK, hE⟩ := id F
  have hS : va_S A s.heap s.heap [] := va_S.rf
  have hl : lv_has ls 1 [(0, .ref o)] := hl
  have hRf : 1 ≤ ({ frames := 1, cells := 0, slots := 0, locals := 12 } : Room).frames := Nat.le_refl _
  have hRl : 12 ≤ ({ frames := 1, cells := 0, slots := 0, locals := 12 } : Room).locals := Nat.le_refl _
  have hC : 0 ≤ ({ frames := 1, cells := 0, slots := 0, locals := 12 } : Room).cells := Nat.le_refl _
  have hSl : 0 ≤ ({ frames := 1, cells := 0, slots := 0, locals := 12 } : Room).slots := Nat.le_refl _
  unfold wp_W_here at h
  refine lv_aload_n hx hb dX5_here_0 rfl (lv_at hl 0 rfl) ?_
  refine va_get hx hb hts in_X5 hown hK hP 0 rfl rfl 3 (Nat.le_of_ble_eq_true rfl) (hts _ q344) (fun _ h => h) (v := .int pw) rfl dX5_here_1 ?_
  refine lv_aload_n hx hb dX5_here_4 rfl (lv_at hl 0 rfl) ?_
  refine va_get hx hb hts in_X5 hown hK hP 0 rfl rfl 2 (Nat.le_of_ble_eq_true rfl) (hts _ q341) (fun _ h => h) (v := .int en) rfl dX5_here_5 ?_
  refine lv_icmp_ge (tgt := 27) hx hb dX5_here_8 (by decide) (fun c1 => ?_) (fun c1 => ?_)
  · replace h := h.1 c1
    refine lv_iconst (v := (-1 : Int32)) hx hb dX5_here_27 (by decide) ?_
    exact rt_i F dX5_here_28 rfl () h hP hD hS (Nat.le_refl _) (Nat.le_refl _)
  · replace h := h.2 c1
    refine lv_aload_n hx hb dX5_here_11 rfl (lv_at hl 0 rfl) ?_
    refine va_get hx hb hts in_X5 hown hK hP 0 rfl rfl 0 (Nat.le_of_ble_eq_true rfl) (hts _ q338) (fun _ h => h) (v := .ref pt) rfl dX5_here_12 ?_
    refine lv_aload_n hx hb dX5_here_15 rfl (lv_at hl 0 rfl) ?_
    refine va_get hx hb hts in_X5 hown hK hP 0 rfl rfl 3 (Nat.le_of_ble_eq_true rfl) (hts _ q344) (fun _ h => h) (v := .int pw) rfl dX5_here_16 ?_
    refine va_bald (f := tx) hx hb hK hP 1 3 rfl rfl h.1 dX5_here_19 ?_
    replace h := h.2
    refine lv_sipush (v := (255 : Int32)) hx hb dX5_here_20 (by decide) ?_
    refine lv_iand hx hb dX5_here_23 ?_
    refine lv_goto (tgt := 28) hx hb dX5_here_24 (by decide) ?_
    exact rt_i F dX5_here_28 rfl () h hP hD hS (Nat.le_refl _) (Nat.le_refl _)
set_option maxHeartbeats 4000000 in
theorem cx_W_need {l : Launch} {V : evT} {D : va_G} {gI : Nat → ClassId} {o : Nat} {pt : Nat} (hlt : l.stackTraces = false) {v1 : Int32} {tx : Nat → Int32} {sz : Int32} {en : Int32} {pw : Int32} {Q : Prop} {E : Int32 → Prop} (h : wp_W_need v1 tx sz en pw Q E) : cx_v l V D (tyL gI) yX5_need cX5_need 2 { frames := 6, cells := 1, slots := 7, locals := 101 } [.ref o, .int v1] (wW gI o pt tx sz en pw) (fun u : Unit => (wW gI o pt tx sz en pw)) (fun (_ : Unit) => Q) (fun u : Unit => (wW gI o pt tx sz en pw)) (fun (v : Int32) (u : Unit) => E v ) := by
  refine cx_ofv RX5 rfl (by decide +kernel) (Nat.le_of_ble_eq_true rfl) ?_
  intro p e s m args below meth c A F htab hP hD ls hl
  obtain ⟨⟨hx, hb, hml, hown, hts⟩, hr, hlocks, hA, hK, hE⟩ := id F
  have hS : va_S A s.heap s.heap [] := va_S.rf
  have hl : lv_has ls 2 [(0, .ref o), (1, .int v1)] := hl
  have hRf : 6 ≤ ({ frames := 6, cells := 1, slots := 7, locals := 101 } : Room).frames := Nat.le_refl _
  have hC1 : 1 ≤ ({ frames := 6, cells := 1, slots := 7, locals := 101 } : Room).cells := Nat.le_refl _
  have hS7 : 7 ≤ ({ frames := 6, cells := 1, slots := 7, locals := 101 } : Room).slots := Nat.le_refl _
  have hRl : 101 ≤ ({ frames := 6, cells := 1, slots := 7, locals := 101 } : Room).locals := Nat.le_refl _
  have hC : 0 ≤ ({ frames := 6, cells := 1, slots := 7, locals := 101 } : Room).cells := Nat.zero_le _
  have hSl : 0 ≤ ({ frames := 6, cells := 1, slots := 7, locals := 101 } : Room).slots := Nat.zero_le _
  unfold wp_W_need at h
  refine lv_iload_n hx hb dX5_need_0 rfl (lv_at hl 1 rfl) ?_
  refine lv_if_ne (tgt := 16) hx hb dX5_need_1 (by decide) (fun c2 => ?_) (fun c2 => ?_)
  · replace h := h.1 c2
    exact vx_ret (rt_v F dX5_need_16 () h hP hD hS (Nat.le_refl _) (Nat.le_refl _))
  · replace h := h.2 c2
    refine flt_new F q369 dX5_need_4 hP hS hC1 hS7 (fun q1 H hF hP hS hq hAq => ?_)
    refine lv_dup hx hb dX5_need_7 rfl ?_
    refine lv_aload_n hx hb dX5_need_8 rfl (lv_at hl 0 rfl) ?_
    refine va_get hx hb hts in_X5 hown hK hP 0 rfl rfl 3 (Nat.le_of_ble_eq_true rfl) (hts _ q344) (fun _ h => h) (v := .int pw) rfl dX5_need_9 ?_
    refine flt_init hlt F q408 dX5_need_12 hF hP hD hS hq hAq hl.1 (Nat.le_of_ble_eq_true rfl) (Nat.le_trans (Nat.le_of_ble_eq_true rfl) hRf) (Nat.le_trans (Nat.le_of_ble_eq_true rfl) hRl) hC1 hS7 (fun H locs hP hD hS => ?_)
    refine vx_athrow hx hb dX5_need_15 ?_
    exact rx_out (wx := fun u : Unit => (wW gI o pt tx sz en pw)) (QX := (fun (v : Int32) (u : Unit) => E v )) F (fun x hx => (htab x hx).elim) () h hP hD hS (Nat.le_refl _) (Nat.le_refl _)
set_option maxHeartbeats 4000000 in
theorem cx_W_needEnd {l : Launch} {V : evT} {D : va_G} {gI : Nat → ClassId} {o : Nat} {pt : Nat} (hlt : l.stackTraces = false) {tx : Nat → Int32} {sz : Int32} {en : Int32} {pw : Int32} {Q : Prop} {E : Int32 → Prop} (h : wp_W_needEnd tx sz en pw Q E) : cx_v l V D (tyL gI) yX5_needEnd cX5_needEnd 1 { frames := 7, cells := 1, slots := 7, locals := 122 } [.ref o] (wW gI o pt tx sz en pw) (fun u : Unit => (wW gI o pt tx sz en pw)) (fun (_ : Unit) => Q) (fun u : Unit => (wW gI o pt tx sz en pw)) (fun (v : Int32) (u : Unit) => E v ) := by
  refine cx_ofv RX5 rfl (by decide +kernel) (Nat.le_of_ble_eq_true rfl) ?_
  intro p e s m args below meth c A F htab hP hD ls hl
  obtain ⟨⟨hx, hb, hml, hown, hts⟩, hr, hlocks, hA, hK, hE⟩ := id F
  have hS : va_S A s.heap s.heap [] := va_S.rf
  have hl : lv_has ls 1 [(0, .ref o)] := hl
  have hRf : 7 ≤ ({ frames := 7, cells := 1, slots := 7, locals := 122 } : Room).frames := Nat.le_refl _
  have hC1 : 1 ≤ ({ frames := 7, cells := 1, slots := 7, locals := 122 } : Room).cells := Nat.le_refl _
  have hS7 : 7 ≤ ({ frames := 7, cells := 1, slots := 7, locals := 122 } : Room).slots := Nat.le_refl _
  have hRl : 122 ≤ ({ frames := 7, cells := 1, slots := 7, locals := 122 } : Room).locals := Nat.le_refl _
  have hC : 0 ≤ ({ frames := 7, cells := 1, slots := 7, locals := 122 } : Room).cells := Nat.zero_le _
  have hSl : 0 ≤ ({ frames := 7, cells := 1, slots := 7, locals := 122 } : Room).slots := Nat.zero_le _
  unfold wp_W_needEnd at h
  refine lv_aload_n hx hb dX5_needEnd_0 rfl (lv_at hl 0 rfl) ?_
  refine lv_aload_n hx hb dX5_needEnd_1 rfl (lv_at hl 0 rfl) ?_
  refine va_get hx hb hts in_X5 hown hK hP 0 rfl rfl 3 (Nat.le_of_ble_eq_true rfl) (hts _ q344) (fun _ h => h) (v := .int pw) rfl dX5_needEnd_2 ?_
  refine lv_aload_n hx hb dX5_needEnd_5 rfl (lv_at hl 0 rfl) ?_
  refine va_get hx hb hts in_X5 hown hK hP 0 rfl rfl 1 (Nat.le_of_ble_eq_true rfl) (hts _ q339) (fun _ h => h) (v := .int sz) rfl dX5_needEnd_6 ?_
  refine lv_icmp_ne (tgt := 16) hx hb dX5_needEnd_9 (by decide) (fun c1 => ?_) (fun c1 => ?_)
  · replace h := h.1 c1
    refine lv_iconst (v := (0 : Int32)) hx hb dX5_needEnd_16 (by decide) ?_
    refine clx_v F (vx_runV (As := [.int (0 : Int32)]) (rest := []) ⟨hx, hb, hml, hown, hts⟩ (cx_W_need hlt h _) (cwV 1 hts (lw_V q447 q363 q364 q99 q368) rfl rfl rfl (by decide +kernel) ⟨Nat.le_trans (Nat.le_of_ble_eq_true rfl) hRf, Nat.le_trans (Nat.le_of_ble_eq_true rfl) hRl⟩) ⟨ct_blind, va_recv hK hP (ci := 4) (q0 := 0) rfl rfl, ct_at F hS hP hD⟩ rfl rfl hl.1 rfl (lv_room (Nat.le_of_ble_eq_true rfl)) dX5_needEnd_17 ⟨hC1, hS7⟩) hD hS ?_ ?_
    · rintro q v_ _ H locs h hP hD hS
      exact rx_out (wx := fun u : Unit => (wW gI o pt tx sz en pw)) (QX := (fun (v : Int32) (u : Unit) => E v )) F (fun x hx => (htab x hx).elim) () h hP hD hS (Nat.le_refl _) (Nat.le_refl _)
    · rintro _ H locs h hP hD hS
      exact vx_ret (rt_v F dX5_needEnd_20 () h hP hD hS (Nat.le_refl _) (Nat.le_refl _))
  · replace h := h.2 c1
    refine lv_iconst (v := (1 : Int32)) hx hb dX5_needEnd_12 (by decide) ?_
    refine lv_goto (tgt := 17) hx hb dX5_needEnd_13 (by decide) ?_
    refine clx_v F (vx_runV (As := [.int (1 : Int32)]) (rest := []) ⟨hx, hb, hml, hown, hts⟩ (cx_W_need hlt h _) (cwV 1 hts (lw_V q447 q363 q364 q99 q368) rfl rfl rfl (by decide +kernel) ⟨Nat.le_trans (Nat.le_of_ble_eq_true rfl) hRf, Nat.le_trans (Nat.le_of_ble_eq_true rfl) hRl⟩) ⟨ct_blind, va_recv hK hP (ci := 4) (q0 := 0) rfl rfl, ct_at F hS hP hD⟩ rfl rfl hl.1 rfl (lv_room (Nat.le_of_ble_eq_true rfl)) dX5_needEnd_17 ⟨hC1, hS7⟩) hD hS ?_ ?_
    · rintro q v_ _ H locs h hP hD hS
      exact rx_out (wx := fun u : Unit => (wW gI o pt tx sz en pw)) (QX := (fun (v : Int32) (u : Unit) => E v )) F (fun x hx => (htab x hx).elim) () h hP hD hS (Nat.le_refl _) (Nat.le_refl _)
    · rintro _ H locs h hP hD hS
      exact vx_ret (rt_v F dX5_needEnd_20 () h hP hD hS (Nat.le_refl _) (Nat.le_refl _))
set_option maxHeartbeats 4000000 in
theorem ct_W_passes {l : Launch} {V : evT} {D : va_G} {gI : Nat → ClassId} {o : Nat} {pt : Nat} {v1 : Int32} {tx : Nat → Int32} {sz : Int32} {en : Int32} {pw : Int32} {Q : Int32 → (Int32) → Prop} (h : wp_W_passes v1 tx sz en pw Q) : ct_i l V D vwCl (tyL gI) yX5_passes cX5_passes 2 .boolean { frames := 2, cells := 0, slots := 0, locals := 32 } [.ref o, .int v1] (wW gI o pt tx sz en pw) (fun u : (Int32) => (wW gI o pt tx sz en u)) (fun (x : Int32) (u : (Int32)) => Q x u) := by
  refine ct_ofi RX5 rfl (by decide +kernel) (Nat.le_of_ble_eq_true rfl) ?_
  intro p e s m args below meth c A F hP hD ls hl
  obtain ⟨⟨hx, hb, hml, hown, hts⟩, hr, hlocks, hA, hK, hE⟩ := id F
  have hS : va_S A s.heap s.heap [] := va_S.rf
  have hl : lv_has ls 2 [(0, .ref o), (1, .int v1)] := hl
  have hRf : 2 ≤ ({ frames := 2, cells := 0, slots := 0, locals := 32 } : Room).frames := Nat.le_refl _
  have hRl : 32 ≤ ({ frames := 2, cells := 0, slots := 0, locals := 32 } : Room).locals := Nat.le_refl _
  have hC : 0 ≤ ({ frames := 2, cells := 0, slots := 0, locals := 32 } : Room).cells := Nat.le_refl _
  have hSl : 0 ≤ ({ frames := 2, cells := 0, slots := 0, locals := 32 } : Room).slots := Nat.le_refl _
  unfold wp_W_passes at h
  refine lv_aload_n hx hb dX5_passes_0 rfl (lv_at hl 0 rfl) ?_
  refine cl_i F (va_runV (As := []) (rest := []) ⟨hx, hb, hml, hown, hts⟩ (ct_W_here h _) (cwV 0 hts (lw_V q439 q440 q441 q99 q445) rfl rfl rfl (by decide +kernel) ⟨Nat.le_trans (Nat.le_of_ble_eq_true rfl) hRf, Nat.le_trans (Nat.le_of_ble_eq_true rfl) hRl⟩) ⟨ct_blind, va_recv hK hP (ci := 4) (q0 := 0) rfl rfl, ct_at F hS hP hD⟩ rfl rfl hl.1 rfl (lv_room (Nat.le_of_ble_eq_true rfl)) dX5_passes_1 ⟨hC, hSl⟩) rfl rfl hD hS ?_
  rintro x1 _ H locs h hP hD hS
  refine lv_iload_n hx hb dX5_passes_4 rfl (lv_at hl 1 rfl) ?_
  refine lv_icmp_eq (tgt := 10) hx hb dX5_passes_5 (by decide) (fun c2 => ?_) (fun c2 => ?_)
  · replace h := h.1 c2
    refine lv_aload_n hx hb dX5_passes_10 rfl (lv_at hl 0 rfl) ?_
    refine lv_dup hx hb dX5_passes_11 rfl ?_
    refine va_get hx hb hts in_X5 hown hK hP 0 rfl rfl 3 (Nat.le_of_ble_eq_true rfl) (hts _ q344) (fun _ h => h) (v := .int pw) rfl dX5_passes_12 ?_
    refine lv_iconst (v := (1 : Int32)) hx hb dX5_passes_15 (by decide) ?_
    refine lv_iadd hx hb dX5_passes_16 ?_
    refine pt_put (v := .int (pw + (1 : Int32))) hx hb hts in_X5 tyX5 tyX5_ok nmX5 hown hK hP hD hS 0 rfl rfl 3 (Nat.le_of_ble_eq_true rfl) (hts _ q344) (fun _ h => h) rfl (ty := .int) (by decide +kernel) rfl rfl (Nat.le_of_ble_eq_true rfl) dX5_passes_17 rfl (fun H locs hP hD hS => ?_)
    refine lv_iconst (v := (1 : Int32)) hx hb dX5_passes_20 (by decide) ?_
    exact rt_i F dX5_passes_21 rfl ((pw + (1 : Int32))) h hP hD hS (Nat.le_refl _) (Nat.le_refl _)
  · replace h := h.2 c2
    refine lv_iconst (v := (0 : Int32)) hx hb dX5_passes_8 (by decide) ?_
    exact rt_i F dX5_passes_9 rfl (pw) h hP hD hS (Nat.le_refl _) (Nat.le_refl _)
set_option maxHeartbeats 4000000 in
theorem cx_W_one {l : Launch} {V : evT} {D : va_G} {gI : Nat → ClassId} {o : Nat} {pt : Nat} (hlt : l.stackTraces = false) {v1 : Int32} {v2 : Int32} {tx : Nat → Int32} {sz : Int32} {en : Int32} {pw : Int32} {Q : Int32 → (Int32) → Prop} {E : Int32 → (Int32) → Prop} (h : wp_W_one v1 v2 tx sz en pw Q E) : cx_i l V D (tyL gI) yX5_one cX5_one 3 .int { frames := 7, cells := 1, slots := 7, locals := 122 } [.ref o, .int v1, .int v2] (wW gI o pt tx sz en pw) (fun u : (Int32) => (wW gI o pt tx sz en u)) (fun (x : Int32) (u : (Int32)) => Q x u) (fun u : (Int32) => (wW gI o pt tx sz en u)) (fun (v : Int32) (u : (Int32)) => E v u) := by
  refine cx_ofi RX5 rfl (by decide +kernel) (Nat.le_of_ble_eq_true rfl) ?_
  intro p e s m args below meth c A F htab hP hD ls hl
  obtain ⟨⟨hx, hb, hml, hown, hts⟩, hr, hlocks, hA, hK, hE⟩ := id F
  have hS : va_S A s.heap s.heap [] := va_S.rf
  have hl : lv_has ls 3 [(0, .ref o), (1, .int v1), (2, .int v2)] := hl
  have hRf : 7 ≤ ({ frames := 7, cells := 1, slots := 7, locals := 122 } : Room).frames := Nat.le_refl _
  have hC1 : 1 ≤ ({ frames := 7, cells := 1, slots := 7, locals := 122 } : Room).cells := Nat.le_refl _
  have hS7 : 7 ≤ ({ frames := 7, cells := 1, slots := 7, locals := 122 } : Room).slots := Nat.le_refl _
  have hRl : 122 ≤ ({ frames := 7, cells := 1, slots := 7, locals := 122 } : Room).locals := Nat.le_refl _
  have hC : 0 ≤ ({ frames := 7, cells := 1, slots := 7, locals := 122 } : Room).cells := Nat.zero_le _
  have hSl : 0 ≤ ({ frames := 7, cells := 1, slots := 7, locals := 122 } : Room).slots := Nat.zero_le _
  unfold wp_W_one at h
  refine lv_aload_n hx hb dX5_one_0 rfl (lv_at hl 0 rfl) ?_
  refine lv_aload_n hx hb dX5_one_1 rfl (lv_at hl 0 rfl) ?_
  refine cl_i F (va_runV (As := []) (rest := [.ref o]) ⟨hx, hb, hml, hown, hts⟩ (ct_W_here h _) (cwV 0 hts (lw_V q439 q440 q441 q99 q445) rfl rfl rfl (by decide +kernel) ⟨Nat.le_trans (Nat.le_of_ble_eq_true rfl) hRf, Nat.le_trans (Nat.le_of_ble_eq_true rfl) hRl⟩) ⟨ct_blind, va_recv hK hP (ci := 4) (q0 := 0) rfl rfl, ct_at F hS hP hD⟩ rfl rfl hl.1 rfl (lv_room (Nat.le_of_ble_eq_true rfl)) dX5_one_2 ⟨hC, hSl⟩) rfl rfl hD hS ?_
  rintro x1 _ H locs h hP hD hS
  refine lv_i2l (v := (x1.toInt64)) hx hb dX5_one_5 rfl ?_
  refine lv_iload_n hx hb dX5_one_6 rfl (lv_at hl 1 rfl) ?_
  refine lv_i2l (v := (v1.toInt64)) hx hb dX5_one_7 rfl ?_
  refine lv_iload_n hx hb dX5_one_8 rfl (lv_at hl 1 rfl) ?_
  refine lv_iload_n hx hb dX5_one_9 rfl (lv_at hl 2 rfl) ?_
  refine lv_iadd hx hb dX5_one_10 ?_
  refine lv_iconst (v := (1 : Int32)) hx hb dX5_one_11 (by decide) ?_
  refine lv_isub hx hb dX5_one_12 ?_
  refine lv_i2l (v := (((v1 + v2) - (1 : Int32)).toInt64)) hx hb dX5_one_13 rfl ?_
  refine cl_i0 F (va_runSN (As := [.long (x1.toInt64), .long (v1.toInt64), .long (((v1 + v2) - (1 : Int32)).toInt64)]) (rest := [.ref o]) ⟨hx, hb, hml, hown, hts⟩ (ct_X1_in h _) ⟨va_cnB 3 hts (lw_meth q300) rfl rfl rfl (hE.1 _ q446 rfl) (hts _ q94) (by decide +kernel) ⟨Nat.le_trans (Nat.le_of_ble_eq_true rfl) hRf, Nat.le_trans (Nat.le_of_ble_eq_true rfl) hRl⟩, hts _ q299, trivial⟩ ⟨ct_blind, ct_at F hS ct_nP ct_nD⟩ rfl rfl hl.1 rfl (lv_room (Nat.le_of_ble_eq_true rfl)) dX5_one_14 ⟨hC, hSl⟩) rfl rfl hP hS ?_
  rintro x2 _ H locs h hP hS
  refine clx_v F (vx_runV (As := [.int x2]) (rest := []) ⟨hx, hb, hml, hown, hts⟩ (cx_W_need hlt h _) (cwV 1 hts (lw_V q447 q363 q364 q99 q368) rfl rfl rfl (by decide +kernel) ⟨Nat.le_trans (Nat.le_of_ble_eq_true rfl) hRf, Nat.le_trans (Nat.le_of_ble_eq_true rfl) hRl⟩) ⟨ct_blind, va_recv hK hP (ci := 4) (q0 := 0) rfl rfl, ct_at F hS hP hD⟩ rfl rfl hl.1 rfl (lv_room (Nat.le_of_ble_eq_true rfl)) dX5_one_17 ⟨hC1, hS7⟩) hD hS ?_ ?_
  · rintro q v_ _ H locs h hP hD hS
    exact rx_out (wx := fun u : (Int32) => (wW gI o pt tx sz en u)) (QX := (fun (v : Int32) (u : (Int32)) => E v u)) F (fun x hx => (htab x hx).elim) (pw) h hP hD hS (Nat.le_refl _) (Nat.le_refl _)
  · rintro _ H locs h hP hD hS
    refine lv_aload_n hx hb dX5_one_20 rfl (lv_at hl 0 rfl) ?_
    refine lv_dup hx hb dX5_one_21 rfl ?_
    refine va_get hx hb hts in_X5 hown hK hP 0 rfl rfl 3 (Nat.le_of_ble_eq_true rfl) (hts _ q344) (fun _ h => h) (v := .int pw) rfl dX5_one_22 ?_
    refine lv_iconst (v := (1 : Int32)) hx hb dX5_one_25 (by decide) ?_
    refine lv_iadd hx hb dX5_one_26 ?_
    refine pt_put (v := .int (pw + (1 : Int32))) hx hb hts in_X5 tyX5 tyX5_ok nmX5 hown hK hP hD hS 0 rfl rfl 3 (Nat.le_of_ble_eq_true rfl) (hts _ q344) (fun _ h => h) rfl (ty := .int) (by decide +kernel) rfl rfl (Nat.le_of_ble_eq_true rfl) dX5_one_27 rfl (fun H locs hP hD hS => ?_)
    refine lv_aload_n hx hb dX5_one_30 rfl (lv_at hl 0 rfl) ?_
    refine va_get hx hb hts in_X5 hown hK hP 0 rfl rfl 0 (Nat.le_of_ble_eq_true rfl) (hts _ q338) (fun _ h => h) (v := .ref pt) rfl dX5_one_31 ?_
    refine lv_aload_n hx hb dX5_one_34 rfl (lv_at hl 0 rfl) ?_
    refine va_get hx hb hts in_X5 hown hK hP 0 rfl rfl 3 (Nat.le_of_ble_eq_true rfl) (hts _ q344) (fun _ h => h) (v := .int (pw + (1 : Int32))) rfl dX5_one_35 ?_
    refine lv_iconst (v := (1 : Int32)) hx hb dX5_one_38 (by decide) ?_
    refine lv_isub hx hb dX5_one_39 ?_
    refine va_bald (f := tx) hx hb hK hP 1 3 rfl rfl h.1 dX5_one_40 ?_
    replace h := h.2
    refine lv_iload_n hx hb dX5_one_41 rfl (lv_at hl 1 rfl) ?_
    refine lv_isub hx hb dX5_one_42 ?_
    exact vx_ret (rt_i F dX5_one_43 rfl ((pw + (1 : Int32))) h hP hD hS (Nat.le_refl _) (Nat.le_refl _))
set_option maxHeartbeats 4000000 in
theorem lp_W_number_2_L1 {p : Program} {l : Launch} {e : Env} {R : Room} {s : State} {m : MethodId} {args : Array Value} {below : List Frame} {meth : Method} {c : Code} {A : Nat → Prop} {V : evT} {D : va_G} {gI : Nat → ClassId} {o : Nat} {pt : Nat} {v1 : Int32} {tx : Nat → Int32} {sz : Int32} {en : Int32} {Q : Int32 → (Int32) → Prop} {E : Int32 → (Int32) → Prop} {K53 : (Int32) → (Int32) → Prop} (F : ct_F p m c meth cX5_number_2 4 s args RX5 (some .int) A V D vwCl (tyL gI)) (hRf : 8 ≤ R.frames) (hRl : 144 ≤ R.locals) (hC : 0 ≤ R.cells) (hSl : 0 ≤ R.slots) (hC1 : 1 ≤ R.cells) (hS7 : 7 ≤ R.slots) (htab : ∀ x ∈ c.exceptionTable.toList, False) (hlt : l.stackTraces = false)
    (hK53 : ∀ (v2 : Int32) (pw : Int32), K53 v2 pw → ∀ (H : Heap) (locs : List Loc) (ls : Array Slot), va_P D vwCl (wW gI o pt tx sz en pw) H → va_D A (wW gI o pt tx sz en pw) → va_S A s.heap H locs → lv_has ls 4 [(2, .int v2)] → W p l e R s m args below meth c H locs 0 0 (vx_MQ below (va_Qi (fun (x : Int32) (u : (Int32)) => Q x u) (fun u t => va_P D vwCl (wW gI o pt tx sz en u) t.heap ∧ va_K D vwCl (tyL gI) t ∧ va_D A (wW gI o pt tx sz en u)) A) (vx_X (S := Int32 × ((Int32))) (fun u => (fun (v : Int32) (u : (Int32)) => E v u) u.1 u.2) (fun E_ q u t => E_ = RX6 ∧ va_P D vwCl ((fun u : (Int32) => (wW gI o pt tx sz en u)) u.2 ++ [fC q u.1]) t.heap ∧ va_K D vwCl (tyL gI) t ∧ va_D A ((fun u : (Int32) => (wW gI o pt tx sz en u)) u.2 ++ [fC q u.1])) A) args s 1 7 A) (F0 m 53 ls [])) :
    ∀ (n : Nat) (v2 : Int32) (v3 : Int32) (pw : Int32), wp_W_number_2_L1 v1 tx sz en Q E K53 n v2 v3 pw → ∀ (H : Heap) (locs : List Loc) (ls : Array Slot), va_P D vwCl (wW gI o pt tx sz en pw) H → va_D A (wW gI o pt tx sz en pw) → va_S A s.heap H locs → lv_has ls 4 [(0, .ref o), (1, .int v1), (2, .int v2), (3, .int v3)] → W p l e R s m args below meth c H locs 0 0 (vx_MQ below (va_Qi (fun (x : Int32) (u : (Int32)) => Q x u) (fun u t => va_P D vwCl (wW gI o pt tx sz en u) t.heap ∧ va_K D vwCl (tyL gI) t ∧ va_D A (wW gI o pt tx sz en u)) A) (vx_X (S := Int32 × ((Int32))) (fun u => (fun (v : Int32) (u : (Int32)) => E v u) u.1 u.2) (fun E_ q u t => E_ = RX6 ∧ va_P D vwCl ((fun u : (Int32) => (wW gI o pt tx sz en u)) u.2 ++ [fC q u.1]) t.heap ∧ va_K D vwCl (tyL gI) t ∧ va_D A ((fun u : (Int32) => (wW gI o pt tx sz en u)) u.2 ++ [fC q u.1])) A) args s 1 7 A) (F0 m 11 ls []) := by
  obtain ⟨⟨hx, hb, hml, hown, hts⟩, hr, hlocks, hA, hK, hE⟩ := id F
  intro n
  induction n with
  | zero => intro v2 v3 pw h; exact h.elim
  | succ n ih =>
    intro v2 v3 pw h H locs ls hP hD hS hl
    unfold wp_W_number_2_L1 at h
    refine lv_iload_n hx hb dX5_number_2_11 rfl (lv_at hl 3 rfl) ?_
    refine lv_iload_n hx hb dX5_number_2_12 rfl (lv_at hl 1 rfl) ?_
    refine lv_icmp_ge (tgt := 53) hx hb dX5_number_2_13 (by decide) (fun c10 => ?_) (fun c10 => ?_)
    · replace h := h.1 c10
      exact hK53 _ _ h _ _ _ hP hD hS (lv_sub hl [2] rfl)
    · replace h := h.2 c10
      refine lv_aload_n hx hb dX5_number_2_16 rfl (lv_at hl 0 rfl) ?_
      refine cl_i F (va_runV (As := []) (rest := []) ⟨hx, hb, hml, hown, hts⟩ (ct_W_here h _) (cwV 0 hts (lw_V q439 q440 q441 q99 q445) rfl rfl rfl (by decide +kernel) ⟨Nat.le_trans (Nat.le_of_ble_eq_true rfl) hRf, Nat.le_trans (Nat.le_of_ble_eq_true rfl) hRl⟩) ⟨ct_blind, va_recv hK hP (ci := 4) (q0 := 0) rfl rfl, ct_at F hS hP hD⟩ rfl rfl hl.1 rfl (lv_room (Nat.le_of_ble_eq_true rfl)) dX5_number_2_17 ⟨hC, hSl⟩) rfl rfl hD hS ?_
      rintro x4 _ H locs h hP hD hS
      refine lv_i2l (v := (x4.toInt64)) hx hb dX5_number_2_20 rfl ?_
      refine lv_ldc2 (v := (48 : Int64)) hx hb hown (hts _ q494) dX5_number_2_21 ?_
      refine lv_ldc2 (v := (57 : Int64)) hx hb hown (hts _ q495) dX5_number_2_24 ?_
      refine cl_i0 F (va_runSN (As := [.long (x4.toInt64), .long (48 : Int64), .long (57 : Int64)]) (rest := []) ⟨hx, hb, hml, hown, hts⟩ (ct_X1_in h _) ⟨va_cnB 3 hts (lw_meth q300) rfl rfl rfl (hE.1 _ q446 rfl) (hts _ q94) (by decide +kernel) ⟨Nat.le_trans (Nat.le_of_ble_eq_true rfl) hRf, Nat.le_trans (Nat.le_of_ble_eq_true rfl) hRl⟩, hts _ q299, trivial⟩ ⟨ct_blind, ct_at F hS ct_nP ct_nD⟩ rfl rfl hl.1 rfl (lv_room (Nat.le_of_ble_eq_true rfl)) dX5_number_2_27 ⟨hC, hSl⟩) rfl rfl hP hS ?_
      rintro x5 _ H locs h hP hS
      refine lv_if_eq (tgt := 53) hx hb dX5_number_2_30 (by decide) (fun c9 => ?_) (fun c9 => ?_)
      · replace h := h.1 c9
        exact hK53 _ _ h _ _ _ hP hD hS (lv_sub hl [2] rfl)
      · replace h := h.2 c9
        refine lv_bipush (v := (10 : Int32)) hx hb dX5_number_2_33 (by decide) ?_
        refine lv_iload_n hx hb dX5_number_2_35 rfl (lv_at hl 2 rfl) ?_
        refine lv_imul hx hb dX5_number_2_36 ?_
        refine lv_aload_n hx hb dX5_number_2_37 rfl (lv_at hl 0 rfl) ?_
        refine lv_bipush (v := (48 : Int32)) hx hb dX5_number_2_38 (by decide) ?_
        refine lv_bipush (v := (10 : Int32)) hx hb dX5_number_2_40 (by decide) ?_
        refine clx_i F (vx_runV (As := [.int (48 : Int32), .int (10 : Int32)]) (rest := [.int ((10 : Int32) * v2)]) ⟨hx, hb, hml, hown, hts⟩ (cx_W_one hlt h _) (cwV 2 hts (lw_V q493 q433 q434 q99 q438) rfl rfl rfl (by decide +kernel) ⟨Nat.le_trans (Nat.le_of_ble_eq_true rfl) hRf, Nat.le_trans (Nat.le_of_ble_eq_true rfl) hRl⟩) ⟨ct_blind, va_recv hK hP (ci := 4) (q0 := 0) rfl rfl, ct_at F hS hP hD⟩ rfl rfl hl.1 rfl (lv_room (Nat.le_of_ble_eq_true rfl)) dX5_number_2_42 ⟨hC1, hS7⟩) hD hS ?_ ?_
        · rintro q v_ pw8 H locs h hP hD hS
          exact rx_out (wx := fun u : (Int32) => (wW gI o pt tx sz en u)) (QX := (fun (v : Int32) (u : (Int32)) => E v u)) F (fun x hx => (htab x hx).elim) (pw8) h hP hD hS (Nat.le_refl _) (Nat.le_refl _)
        · rintro x6 pw7 H locs h hP hD hS
          refine lv_iadd hx hb dX5_number_2_45 ?_
          refine lv_istore_n (lv' := [(2, .int (((10 : Int32) * v2) + x6)), (0, .ref o), (1, .int v1), (3, .int v3)]) hx hb dX5_number_2_46 rfl hl (by decide) rfl (fun ls hl => ?_)
          refine lv_iinc (v := (v3 + (1 : Int32))) (lv' := [(3, .int (v3 + (1 : Int32))), (2, .int (((10 : Int32) * v2) + x6)), (0, .ref o), (1, .int v1)]) hx hb dX5_number_2_47 hl (k := 3) rfl rfl (by decide) rfl (fun ls hl => ?_)
          refine lv_goto (tgt := 11) hx hb dX5_number_2_50 (by decide) ?_
          exact ih _ _ _ h _ _ _ hP hD hS (lv_sub hl [2, 3, 1, 0] rfl)
set_option maxHeartbeats 4000000 in
theorem cx_W_number_2 {l : Launch} {V : evT} {D : va_G} {gI : Nat → ClassId} {o : Nat} {pt : Nat} (hlt : l.stackTraces = false) {v1 : Int32} {tx : Nat → Int32} {sz : Int32} {en : Int32} {pw : Int32} {Q : Int32 → (Int32) → Prop} {E : Int32 → (Int32) → Prop} (h : wp_W_number_2 v1 tx sz en pw Q E) : cx_i l V D (tyL gI) yX5_number_2 cX5_number_2 4 .int { frames := 8, cells := 1, slots := 7, locals := 144 } [.ref o, .int v1] (wW gI o pt tx sz en pw) (fun u : (Int32) => (wW gI o pt tx sz en u)) (fun (x : Int32) (u : (Int32)) => Q x u) (fun u : (Int32) => (wW gI o pt tx sz en u)) (fun (v : Int32) (u : (Int32)) => E v u) := by
  refine cx_ofi RX5 rfl (by decide +kernel) (Nat.le_of_ble_eq_true rfl) ?_
  intro p e s m args below meth c A F htab hP hD ls hl
  obtain ⟨⟨hx, hb, hml, hown, hts⟩, hr, hlocks, hA, hK, hE⟩ := id F
  have hS : va_S A s.heap s.heap [] := va_S.rf
  have hl : lv_has ls 4 [(0, .ref o), (1, .int v1)] := hl
  have hRf : 8 ≤ ({ frames := 8, cells := 1, slots := 7, locals := 144 } : Room).frames := Nat.le_refl _
  have hC1 : 1 ≤ ({ frames := 8, cells := 1, slots := 7, locals := 144 } : Room).cells := Nat.le_refl _
  have hS7 : 7 ≤ ({ frames := 8, cells := 1, slots := 7, locals := 144 } : Room).slots := Nat.le_refl _
  have hRl : 144 ≤ ({ frames := 8, cells := 1, slots := 7, locals := 144 } : Room).locals := Nat.le_refl _
  have hC : 0 ≤ ({ frames := 8, cells := 1, slots := 7, locals := 144 } : Room).cells := Nat.zero_le _
  have hSl : 0 ≤ ({ frames := 8, cells := 1, slots := 7, locals := 144 } : Room).slots := Nat.zero_le _
  unfold wp_W_number_2 at h
  refine lv_aload_n hx hb dX5_number_2_0 rfl (lv_at hl 0 rfl) ?_
  refine lv_bipush (v := (48 : Int32)) hx hb dX5_number_2_1 (by decide) ?_
  refine lv_bipush (v := (10 : Int32)) hx hb dX5_number_2_3 (by decide) ?_
  refine clx_i F (vx_runV (As := [.int (48 : Int32), .int (10 : Int32)]) (rest := []) ⟨hx, hb, hml, hown, hts⟩ (cx_W_one hlt h _) (cwV 2 hts (lw_V q493 q433 q434 q99 q438) rfl rfl rfl (by decide +kernel) ⟨Nat.le_trans (Nat.le_of_ble_eq_true rfl) hRf, Nat.le_trans (Nat.le_of_ble_eq_true rfl) hRl⟩) ⟨ct_blind, va_recv hK hP (ci := 4) (q0 := 0) rfl rfl, ct_at F hS hP hD⟩ rfl rfl hl.1 rfl (lv_room (Nat.le_of_ble_eq_true rfl)) dX5_number_2_5 ⟨hC1, hS7⟩) hD hS ?_ ?_
  · rintro q v_ pw3 H locs h hP hD hS
    exact rx_out (wx := fun u : (Int32) => (wW gI o pt tx sz en u)) (QX := (fun (v : Int32) (u : (Int32)) => E v u)) F (fun x hx => (htab x hx).elim) (pw3) h hP hD hS (Nat.le_refl _) (Nat.le_refl _)
  · rintro x1 pw2 H locs h hP hD hS
    refine lv_istore_n (lv' := [(2, .int x1), (0, .ref o), (1, .int v1)]) hx hb dX5_number_2_8 rfl hl (by decide) rfl (fun ls hl => ?_)
    refine lv_iconst (v := (1 : Int32)) hx hb dX5_number_2_9 (by decide) ?_
    refine lv_istore_n (lv' := [(3, .int (1 : Int32)), (2, .int x1), (0, .ref o), (1, .int v1)]) hx hb dX5_number_2_10 rfl hl (by decide) rfl (fun ls hl => ?_)
    obtain ⟨k11, h⟩ := h
    refine lp_W_number_2_L1 F hRf hRl hC hSl hC1 hS7 htab hlt ?hk53 k11 _ _ _ h _ _ _ hP hD hS (lv_sub hl [2, 3, 1, 0] rfl)
    case hk53 =>
      intro v2_11 pw_12 h H locs ls hP hD hS hl
      refine lv_iload_n hx hb dX5_number_2_53 rfl (lv_at hl 0 rfl) ?_
      exact vx_ret (rt_i F dX5_number_2_54 rfl (pw_12) h hP hD hS (Nat.le_refl _) (Nat.le_refl _))
set_option maxHeartbeats 4000000 in
theorem cx_W_number {l : Launch} {V : evT} {D : va_G} {gI : Nat → ClassId} {o : Nat} {pt : Nat} (hlt : l.stackTraces = false) {v1 : Int32} {v2 : Int32} {v3 : Int32} {tx : Nat → Int32} {sz : Int32} {en : Int32} {pw : Int32} {Q : Int32 → (Int32) → Prop} {E : Int32 → (Int32) → Prop} (h : wp_W_number v1 v2 v3 tx sz en pw Q E) : cx_i l V D (tyL gI) yX5_number cX5_number 5 .int { frames := 9, cells := 1, slots := 7, locals := 167 } [.ref o, .int v1, .int v2, .int v3] (wW gI o pt tx sz en pw) (fun u : (Int32) => (wW gI o pt tx sz en u)) (fun (x : Int32) (u : (Int32)) => Q x u) (fun u : (Int32) => (wW gI o pt tx sz en u)) (fun (v : Int32) (u : (Int32)) => E v u) := by
  refine cx_ofi RX5 rfl (by decide +kernel) (Nat.le_of_ble_eq_true rfl) ?_
  intro p e s m args below meth c A F htab hP hD ls hl
  obtain ⟨⟨hx, hb, hml, hown, hts⟩, hr, hlocks, hA, hK, hE⟩ := id F
  have hS : va_S A s.heap s.heap [] := va_S.rf
  have hl : lv_has ls 5 [(0, .ref o), (1, .int v1), (2, .int v2), (3, .int v3)] := hl
  have hRf : 9 ≤ ({ frames := 9, cells := 1, slots := 7, locals := 167 } : Room).frames := Nat.le_refl _
  have hC1 : 1 ≤ ({ frames := 9, cells := 1, slots := 7, locals := 167 } : Room).cells := Nat.le_refl _
  have hS7 : 7 ≤ ({ frames := 9, cells := 1, slots := 7, locals := 167 } : Room).slots := Nat.le_refl _
  have hRl : 167 ≤ ({ frames := 9, cells := 1, slots := 7, locals := 167 } : Room).locals := Nat.le_refl _
  have hC : 0 ≤ ({ frames := 9, cells := 1, slots := 7, locals := 167 } : Room).cells := Nat.zero_le _
  have hSl : 0 ≤ ({ frames := 9, cells := 1, slots := 7, locals := 167 } : Room).slots := Nat.zero_le _
  unfold wp_W_number at h
  refine lv_aload_n hx hb dX5_number_0 rfl (lv_at hl 0 rfl) ?_
  refine lv_iload_n hx hb dX5_number_1 rfl (lv_at hl 1 rfl) ?_
  refine clx_i F (vx_runV (As := [.int v1]) (rest := []) ⟨hx, hb, hml, hown, hts⟩ (cx_W_number_2 hlt h _) (cwV 1 hts (lw_V q486 q487 q488 q99 q492) rfl rfl rfl (by decide +kernel) ⟨Nat.le_trans (Nat.le_of_ble_eq_true rfl) hRf, Nat.le_trans (Nat.le_of_ble_eq_true rfl) hRl⟩) ⟨ct_blind, va_recv hK hP (ci := 4) (q0 := 0) rfl rfl, ct_at F hS hP hD⟩ rfl rfl hl.1 rfl (lv_room (Nat.le_of_ble_eq_true rfl)) dX5_number_2 ⟨hC1, hS7⟩) hD hS ?_ ?_
  · rintro q v_ pw3 H locs h hP hD hS
    exact rx_out (wx := fun u : (Int32) => (wW gI o pt tx sz en u)) (QX := (fun (v : Int32) (u : (Int32)) => E v u)) F (fun x hx => (htab x hx).elim) (pw3) h hP hD hS (Nat.le_refl _) (Nat.le_refl _)
  · rintro x1 pw2 H locs h hP hD hS
    refine lv_istore (lv' := [(4, .int x1), (0, .ref o), (1, .int v1), (2, .int v2), (3, .int v3)]) hx hb dX5_number_5 hl (by decide) rfl (fun ls hl => ?_)
    refine lv_iload hx hb dX5_number_7 (lv_at hl 0 rfl) ?_
    refine lv_i2l (v := (x1.toInt64)) hx hb dX5_number_9 rfl ?_
    refine lv_iload_n hx hb dX5_number_10 rfl (lv_at hl 3 rfl) ?_
    refine lv_i2l (v := (v2.toInt64)) hx hb dX5_number_11 rfl ?_
    refine lv_iload_n hx hb dX5_number_12 rfl (lv_at hl 4 rfl) ?_
    refine lv_i2l (v := (v3.toInt64)) hx hb dX5_number_13 rfl ?_
    refine cl_i0 F (va_runSN (As := [.long (x1.toInt64), .long (v2.toInt64), .long (v3.toInt64)]) (rest := []) ⟨hx, hb, hml, hown, hts⟩ (ct_X1_in h _) ⟨va_cnB 3 hts (lw_meth q300) rfl rfl rfl (hE.1 _ q446 rfl) (hts _ q94) (by decide +kernel) ⟨Nat.le_trans (Nat.le_of_ble_eq_true rfl) hRf, Nat.le_trans (Nat.le_of_ble_eq_true rfl) hRl⟩, hts _ q299, trivial⟩ ⟨ct_blind, ct_at F hS ct_nP ct_nD⟩ rfl rfl hl.1 rfl (lv_room (Nat.le_of_ble_eq_true rfl)) dX5_number_14 ⟨hC, hSl⟩) rfl rfl hP hS ?_
    rintro x4 _ H locs h hP hS
    refine lv_if_ne (tgt := 34) hx hb dX5_number_17 (by decide) (fun c6 => ?_) (fun c6 => ?_)
    · replace h := h.1 c6
      refine lv_iload hx hb dX5_number_34 (lv_at hl 0 rfl) ?_
      exact vx_ret (rt_i F dX5_number_36 rfl (pw2) h hP hD hS (Nat.le_refl _) (Nat.le_refl _))
    · replace h := h.2 c6
      refine flt_new F q369 dX5_number_20 hP hS hC1 hS7 (fun q5 H hF hP hS hq hAq => ?_)
      refine lv_dup hx hb dX5_number_23 rfl ?_
      refine lv_aload_n hx hb dX5_number_24 rfl (lv_at hl 1 rfl) ?_
      refine va_get hx hb hts in_X5 hown hK hP 0 rfl rfl 3 (Nat.le_of_ble_eq_true rfl) (hts _ q344) (fun _ h => h) (v := .int pw2) rfl dX5_number_25 ?_
      refine lv_iconst (v := (1 : Int32)) hx hb dX5_number_28 (by decide) ?_
      refine lv_isub hx hb dX5_number_29 ?_
      refine flt_init hlt F q408 dX5_number_30 hF hP hD hS hq hAq hl.1 (Nat.le_of_ble_eq_true rfl) (Nat.le_trans (Nat.le_of_ble_eq_true rfl) hRf) (Nat.le_trans (Nat.le_of_ble_eq_true rfl) hRl) hC1 hS7 (fun H locs hP hD hS => ?_)
      refine vx_athrow hx hb dX5_number_33 ?_
      exact rx_out (wx := fun u : (Int32) => (wW gI o pt tx sz en u)) (QX := (fun (v : Int32) (u : (Int32)) => E v u)) F (fun x hx => (htab x hx).elim) (pw2) h hP hD hS (Nat.le_refl _) (Nat.le_refl _)
