/-! a Rule: walks -/
set_option maxRecDepth 100000
set_option maxHeartbeats 4000000 in
theorem ct_W_hereR {l : Launch} {V : evT} {D : va_G} {gI : Nat → ClassId} {o : Nat} {pt : Nat} {ox : Nat} {ax : Nat → Nat} {rn : Option (Nat × Nat)} {ak rt rm : Int32} {fd : Nat → Int32} {tx : Nat → Int32} {sz : Int32} {en : Int32} {pw : Int32} {Q : Int32 → Prop} (h : wp_W_here tx sz en pw Q) : ct_i l V D vwCl (tyL gI) yX5_here cX5_here 1 .int { frames := 1, cells := 0, slots := 0, locals := 12 } [.ref o] (wRU gI o pt ox ax rn ak rt rm fd tx sz en pw) (fun u : Unit => (wRU gI o pt ox ax rn ak rt rm fd tx sz en pw)) (fun (x : Int32) (u : Unit) => Q x) := by
  refine ct_ofi RX5 rfl (by decide +kernel) (Nat.le_of_ble_eq_true rfl) ?_
  intro p e s m args below meth c A F hP hD ls hl
  obtain ⟨⟨hx, hb, hml, hown, hts⟩, hr, hlocks, hA, hK, hE⟩ := id F
  have hS : va_S A s.heap s.heap [] := va_S.rf
  have hl : lv_has ls 1 [(0, .ref o)] := hl
  have hRf : 1 ≤ ({ frames := 1, cells := 0, slots := 0, locals := 12 } : Room).frames := Nat.le_refl _
  have hRl : 12 ≤ ({ frames := 1, cells := 0, slots := 0, locals := 12 } : Room).locals := Nat.le_refl _
  have hC : 0 ≤ ({ frames := 1, cells := 0, slots := 0, locals := 12 } : Room).cells := Nat.le_refl _
  have hSl : 0 ≤ ({ frames := 1, cells := 0, slots := 0, locals := 12 } : Room).slots := Nat.le_refl _
  unfold wp_W_here at h
  refine lv_aload_n hx hb dX5_here_0 rfl (lv_at hl 0 rfl) ?_
  refine va_get hx hb hts in_X7 hown hK hP 0 rfl rfl 3 (Nat.le_of_ble_eq_true rfl) (hts _ q344) (fun _ h => h) (v := .int pw) rfl dX5_here_1 ?_
  refine lv_aload_n hx hb dX5_here_4 rfl (lv_at hl 0 rfl) ?_
  refine va_get hx hb hts in_X7 hown hK hP 0 rfl rfl 2 (Nat.le_of_ble_eq_true rfl) (hts _ q341) (fun _ h => h) (v := .int en) rfl dX5_here_5 ?_
  refine lv_icmp_ge (tgt := 27) hx hb dX5_here_8 (by decide) (fun c1 => ?_) (fun c1 => ?_)
  · replace h := h.1 c1
    refine lv_iconst (v := (-1 : Int32)) hx hb dX5_here_27 (by decide) ?_
    exact rt_i F dX5_here_28 rfl () h hP hD hS (Nat.le_refl _) (Nat.le_refl _)
  · replace h := h.2 c1
    refine lv_aload_n hx hb dX5_here_11 rfl (lv_at hl 0 rfl) ?_
    refine va_get hx hb hts in_X7 hown hK hP 0 rfl rfl 0 (Nat.le_of_ble_eq_true rfl) (hts _ q338) (fun _ h => h) (v := .ref pt) rfl dX5_here_12 ?_
    refine lv_aload_n hx hb dX5_here_15 rfl (lv_at hl 0 rfl) ?_
    refine va_get hx hb hts in_X7 hown hK hP 0 rfl rfl 3 (Nat.le_of_ble_eq_true rfl) (hts _ q344) (fun _ h => h) (v := .int pw) rfl dX5_here_16 ?_
    refine va_bald (f := tx) hx hb hK hP 1 3 rfl rfl h.1 dX5_here_19 ?_
    replace h := h.2
    refine lv_sipush (v := (255 : Int32)) hx hb dX5_here_20 (by decide) ?_
    refine lv_iand hx hb dX5_here_23 ?_
    refine lv_goto (tgt := 28) hx hb dX5_here_24 (by decide) ?_
    exact rt_i F dX5_here_28 rfl () h hP hD hS (Nat.le_refl _) (Nat.le_refl _)
set_option maxHeartbeats 4000000 in
theorem cx_W_needR {l : Launch} {V : evT} {D : va_G} {gI : Nat → ClassId} {o : Nat} {pt : Nat} {ox : Nat} {ax : Nat → Nat} {rn : Option (Nat × Nat)} {ak rt rm : Int32} {fd : Nat → Int32} (hlt : l.stackTraces = false) {v1 : Int32} {tx : Nat → Int32} {sz : Int32} {en : Int32} {pw : Int32} {Q : Prop} {E : Int32 → Prop} (h : wp_W_need v1 tx sz en pw Q E) : cx_v l V D (tyL gI) yX5_need cX5_need 2 { frames := 6, cells := 1, slots := 7, locals := 101 } [.ref o, .int v1] (wRU gI o pt ox ax rn ak rt rm fd tx sz en pw) (fun u : Unit => (wRU gI o pt ox ax rn ak rt rm fd tx sz en pw)) (fun (_ : Unit) => Q) (fun u : Unit => (wRU gI o pt ox ax rn ak rt rm fd tx sz en pw)) (fun (v : Int32) (u : Unit) => E v ) := by
  refine cx_ofv RX5 rfl (by decide +kernel) (Nat.le_of_ble_eq_true rfl) ?_
  intro p e s m args below meth c A F htab hP hD ls hl
  obtain ⟨⟨hx, hb, hml, hown, hts⟩, hr, hlocks, hA, hK, hE⟩ := id F
  have hS : va_S A s.heap s.heap [] := va_S.rf
  have hl : lv_has ls 2 [(0, .ref o), (1, .int v1)] := hl
  have hRf : 6 ≤ ({ frames := 6, cells := 1, slots := 7, locals := 101 } : Room).frames := Nat.le_refl _
  have hC1 : 1 ≤ ({ frames := 6, cells := 1, slots := 7, locals := 101 } : Room).cells := Nat.le_refl _
  have hS7 : 7 ≤ ({ frames := 6, cells := 1, slots := 7, locals := 101 } : Room).slots := Nat.le_refl _
  have hRl : 101 ≤ ({ frames := 6, cells := 1, slots := 7, locals := 101 } : Room).locals := Nat.le_refl _
  have hC : 0 ≤ ({ frames := 6, cells := 1, slots := 7, locals := 101 } : Room).cells := Nat.zero_le _
  have hSl : 0 ≤ ({ frames := 6, cells := 1, slots := 7, locals := 101 } : Room).slots := Nat.zero_le _
  unfold wp_W_need at h
  refine lv_iload_n hx hb dX5_need_0 rfl (lv_at hl 1 rfl) ?_
  refine lv_if_ne (tgt := 16) hx hb dX5_need_1 (by decide) (fun c2 => ?_) (fun c2 => ?_)
  · replace h := h.1 c2
    exact vx_ret (rt_v F dX5_need_16 () h hP hD hS (Nat.le_refl _) (Nat.le_refl _))
  · replace h := h.2 c2
    refine flt_new F q369 dX5_need_4 hP hS hC1 hS7 (fun q1 H hF hP hS hq hAq => ?_)
    refine lv_dup hx hb dX5_need_7 rfl ?_
    refine lv_aload_n hx hb dX5_need_8 rfl (lv_at hl 0 rfl) ?_
    refine va_get hx hb hts in_X7 hown hK hP 0 rfl rfl 3 (Nat.le_of_ble_eq_true rfl) (hts _ q344) (fun _ h => h) (v := .int pw) rfl dX5_need_9 ?_
    refine flt_init hlt F q408 dX5_need_12 hF hP hD hS hq hAq hl.1 (Nat.le_of_ble_eq_true rfl) (Nat.le_trans (Nat.le_of_ble_eq_true rfl) hRf) (Nat.le_trans (Nat.le_of_ble_eq_true rfl) hRl) hC1 hS7 (fun H locs hP hD hS => ?_)
    refine vx_athrow hx hb dX5_need_15 ?_
    exact rx_out (wx := fun u : Unit => (wRU gI o pt ox ax rn ak rt rm fd tx sz en pw)) (QX := (fun (v : Int32) (u : Unit) => E v )) F (fun x hx => (htab x hx).elim) () h hP hD hS (Nat.le_refl _) (Nat.le_refl _)
set_option maxHeartbeats 4000000 in
theorem cx_W_needEndR {l : Launch} {V : evT} {D : va_G} {gI : Nat → ClassId} {o : Nat} {pt : Nat} {ox : Nat} {ax : Nat → Nat} {rn : Option (Nat × Nat)} {ak rt rm : Int32} {fd : Nat → Int32} (hlt : l.stackTraces = false) {tx : Nat → Int32} {sz : Int32} {en : Int32} {pw : Int32} {Q : Prop} {E : Int32 → Prop} (h : wp_W_needEnd tx sz en pw Q E) : cx_v l V D (tyL gI) yX5_needEnd cX5_needEnd 1 { frames := 7, cells := 1, slots := 7, locals := 122 } [.ref o] (wRU gI o pt ox ax rn ak rt rm fd tx sz en pw) (fun u : Unit => (wRU gI o pt ox ax rn ak rt rm fd tx sz en pw)) (fun (_ : Unit) => Q) (fun u : Unit => (wRU gI o pt ox ax rn ak rt rm fd tx sz en pw)) (fun (v : Int32) (u : Unit) => E v ) := by
  refine cx_ofv RX5 rfl (by decide +kernel) (Nat.le_of_ble_eq_true rfl) ?_
  intro p e s m args below meth c A F htab hP hD ls hl
  obtain ⟨⟨hx, hb, hml, hown, hts⟩, hr, hlocks, hA, hK, hE⟩ := id F
  have hS : va_S A s.heap s.heap [] := va_S.rf
  have hl : lv_has ls 1 [(0, .ref o)] := hl
  have hRf : 7 ≤ ({ frames := 7, cells := 1, slots := 7, locals := 122 } : Room).frames := Nat.le_refl _
  have hC1 : 1 ≤ ({ frames := 7, cells := 1, slots := 7, locals := 122 } : Room).cells := Nat.le_refl _
  have hS7 : 7 ≤ ({ frames := 7, cells := 1, slots := 7, locals := 122 } : Room).slots := Nat.le_refl _
  have hRl : 122 ≤ ({ frames := 7, cells := 1, slots := 7, locals := 122 } : Room).locals := Nat.le_refl _
  have hC : 0 ≤ ({ frames := 7, cells := 1, slots := 7, locals := 122 } : Room).cells := Nat.zero_le _
  have hSl : 0 ≤ ({ frames := 7, cells := 1, slots := 7, locals := 122 } : Room).slots := Nat.zero_le _
  unfold wp_W_needEnd at h
  refine lv_aload_n hx hb dX5_needEnd_0 rfl (lv_at hl 0 rfl) ?_
  refine lv_aload_n hx hb dX5_needEnd_1 rfl (lv_at hl 0 rfl) ?_
  refine va_get hx hb hts in_X7 hown hK hP 0 rfl rfl 3 (Nat.le_of_ble_eq_true rfl) (hts _ q344) (fun _ h => h) (v := .int pw) rfl dX5_needEnd_2 ?_
  refine lv_aload_n hx hb dX5_needEnd_5 rfl (lv_at hl 0 rfl) ?_
  refine va_get hx hb hts in_X7 hown hK hP 0 rfl rfl 1 (Nat.le_of_ble_eq_true rfl) (hts _ q339) (fun _ h => h) (v := .int sz) rfl dX5_needEnd_6 ?_
  refine lv_icmp_ne (tgt := 16) hx hb dX5_needEnd_9 (by decide) (fun c1 => ?_) (fun c1 => ?_)
  · replace h := h.1 c1
    refine lv_iconst (v := (0 : Int32)) hx hb dX5_needEnd_16 (by decide) ?_
    refine clx_v F (vx_runU (As := [.int (0 : Int32)]) (rest := []) ⟨hx, hb, hml, hown, hts⟩ (cx_W_needR hlt h _) (va_cwU (owner := RX5) 1 hts (lw_U q447 q365 q367 q363 q99 q368) rfl rfl rfl rfl (by decide +kernel) ⟨Nat.le_trans (Nat.le_of_ble_eq_true rfl) hRf, Nat.le_trans (Nat.le_of_ble_eq_true rfl) hRl⟩) ⟨ct_blind, va_recv hK hP (ci := 3) (q0 := 0) rfl rfl, ct_at F hS hP hD⟩ rfl rfl hl.1 rfl (lv_room (Nat.le_of_ble_eq_true rfl)) dX5_needEnd_17 ⟨hC1, hS7⟩) hD hS ?_ ?_
    · rintro q v_ _ H locs h hP hD hS
      exact rx_out (wx := fun u : Unit => (wRU gI o pt ox ax rn ak rt rm fd tx sz en pw)) (QX := (fun (v : Int32) (u : Unit) => E v )) F (fun x hx => (htab x hx).elim) () h hP hD hS (Nat.le_refl _) (Nat.le_refl _)
    · rintro _ H locs h hP hD hS
      exact vx_ret (rt_v F dX5_needEnd_20 () h hP hD hS (Nat.le_refl _) (Nat.le_refl _))
  · replace h := h.2 c1
    refine lv_iconst (v := (1 : Int32)) hx hb dX5_needEnd_12 (by decide) ?_
    refine lv_goto (tgt := 17) hx hb dX5_needEnd_13 (by decide) ?_
    refine clx_v F (vx_runU (As := [.int (1 : Int32)]) (rest := []) ⟨hx, hb, hml, hown, hts⟩ (cx_W_needR hlt h _) (va_cwU (owner := RX5) 1 hts (lw_U q447 q365 q367 q363 q99 q368) rfl rfl rfl rfl (by decide +kernel) ⟨Nat.le_trans (Nat.le_of_ble_eq_true rfl) hRf, Nat.le_trans (Nat.le_of_ble_eq_true rfl) hRl⟩) ⟨ct_blind, va_recv hK hP (ci := 3) (q0 := 0) rfl rfl, ct_at F hS hP hD⟩ rfl rfl hl.1 rfl (lv_room (Nat.le_of_ble_eq_true rfl)) dX5_needEnd_17 ⟨hC1, hS7⟩) hD hS ?_ ?_
    · rintro q v_ _ H locs h hP hD hS
      exact rx_out (wx := fun u : Unit => (wRU gI o pt ox ax rn ak rt rm fd tx sz en pw)) (QX := (fun (v : Int32) (u : Unit) => E v )) F (fun x hx => (htab x hx).elim) () h hP hD hS (Nat.le_refl _) (Nat.le_refl _)
    · rintro _ H locs h hP hD hS
      exact vx_ret (rt_v F dX5_needEnd_20 () h hP hD hS (Nat.le_refl _) (Nat.le_refl _))
set_option maxHeartbeats 4000000 in
theorem ct_W_passesR {l : Launch} {V : evT} {D : va_G} {gI : Nat → ClassId} {o : Nat} {pt : Nat} {ox : Nat} {ax : Nat → Nat} {rn : Option (Nat × Nat)} {ak rt rm : Int32} {fd : Nat → Int32} {v1 : Int32} {tx : Nat → Int32} {sz : Int32} {en : Int32} {pw : Int32} {Q : Int32 → (Int32) → Prop} (h : wp_W_passes v1 tx sz en pw Q) : ct_i l V D vwCl (tyL gI) yX5_passes cX5_passes 2 .boolean { frames := 2, cells := 0, slots := 0, locals := 32 } [.ref o, .int v1] (wRU gI o pt ox ax rn ak rt rm fd tx sz en pw) (fun u : (Int32) => (wRU gI o pt ox ax rn ak rt rm fd tx sz en u)) (fun (x : Int32) (u : (Int32)) => Q x u) := by
  refine ct_ofi RX5 rfl (by decide +kernel) (Nat.le_of_ble_eq_true rfl) ?_
  intro p e s m args below meth c A F hP hD ls hl
  obtain ⟨⟨hx, hb, hml, hown, hts⟩, hr, hlocks, hA, hK, hE⟩ := id F
  have hS : va_S A s.heap s.heap [] := va_S.rf
  have hl : lv_has ls 2 [(0, .ref o), (1, .int v1)] := hl
  have hRf : 2 ≤ ({ frames := 2, cells := 0, slots := 0, locals := 32 } : Room).frames := Nat.le_refl _
  have hRl : 32 ≤ ({ frames := 2, cells := 0, slots := 0, locals := 32 } : Room).locals := Nat.le_refl _
  have hC : 0 ≤ ({ frames := 2, cells := 0, slots := 0, locals := 32 } : Room).cells := Nat.le_refl _
  have hSl : 0 ≤ ({ frames := 2, cells := 0, slots := 0, locals := 32 } : Room).slots := Nat.le_refl _
  unfold wp_W_passes at h
  refine lv_aload_n hx hb dX5_passes_0 rfl (lv_at hl 0 rfl) ?_
  refine cl_i F (va_runU (As := []) (rest := []) ⟨hx, hb, hml, hown, hts⟩ (ct_W_hereR h _) (va_cwU (owner := RX5) 0 hts (lw_U q439 q442 q444 q440 q99 q445) rfl rfl rfl rfl (by decide +kernel) ⟨Nat.le_trans (Nat.le_of_ble_eq_true rfl) hRf, Nat.le_trans (Nat.le_of_ble_eq_true rfl) hRl⟩) ⟨ct_blind, va_recv hK hP (ci := 3) (q0 := 0) rfl rfl, ct_at F hS hP hD⟩ rfl rfl hl.1 rfl (lv_room (Nat.le_of_ble_eq_true rfl)) dX5_passes_1 ⟨hC, hSl⟩) rfl rfl hD hS ?_
  rintro x1 _ H locs h hP hD hS
  refine lv_iload_n hx hb dX5_passes_4 rfl (lv_at hl 1 rfl) ?_
  refine lv_icmp_eq (tgt := 10) hx hb dX5_passes_5 (by decide) (fun c2 => ?_) (fun c2 => ?_)
  · replace h := h.1 c2
    refine lv_aload_n hx hb dX5_passes_10 rfl (lv_at hl 0 rfl) ?_
    refine lv_dup hx hb dX5_passes_11 rfl ?_
    refine va_get hx hb hts in_X7 hown hK hP 0 rfl rfl 3 (Nat.le_of_ble_eq_true rfl) (hts _ q344) (fun _ h => h) (v := .int pw) rfl dX5_passes_12 ?_
    refine lv_iconst (v := (1 : Int32)) hx hb dX5_passes_15 (by decide) ?_
    refine lv_iadd hx hb dX5_passes_16 ?_
    refine pt_put (v := .int (pw + (1 : Int32))) hx hb hts in_X7 tyX7 tyX7_ok nmX7 hown hK hP hD hS 0 rfl rfl 3 (Nat.le_of_ble_eq_true rfl) (hts _ q344) (fun _ h => h) rfl (ty := .int) (by decide +kernel) rfl rfl (Nat.le_of_ble_eq_true rfl) dX5_passes_17 rfl (fun H locs hP hD hS => ?_)
    refine lv_iconst (v := (1 : Int32)) hx hb dX5_passes_20 (by decide) ?_
    exact rt_i F dX5_passes_21 rfl ((pw + (1 : Int32))) h hP hD hS (Nat.le_refl _) (Nat.le_refl _)
  · replace h := h.2 c2
    refine lv_iconst (v := (0 : Int32)) hx hb dX5_passes_8 (by decide) ?_
    exact rt_i F dX5_passes_9 rfl (pw) h hP hD hS (Nat.le_refl _) (Nat.le_refl _)
set_option maxHeartbeats 4000000 in
theorem cx_W_oneR {l : Launch} {V : evT} {D : va_G} {gI : Nat → ClassId} {o : Nat} {pt : Nat} {ox : Nat} {ax : Nat → Nat} {rn : Option (Nat × Nat)} {ak rt rm : Int32} {fd : Nat → Int32} (hlt : l.stackTraces = false) {v1 : Int32} {v2 : Int32} {tx : Nat → Int32} {sz : Int32} {en : Int32} {pw : Int32} {Q : Int32 → (Int32) → Prop} {E : Int32 → (Int32) → Prop} (h : wp_W_one v1 v2 tx sz en pw Q E) : cx_i l V D (tyL gI) yX5_one cX5_one 3 .int { frames := 7, cells := 1, slots := 7, locals := 122 } [.ref o, .int v1, .int v2] (wRU gI o pt ox ax rn ak rt rm fd tx sz en pw) (fun u : (Int32) => (wRU gI o pt ox ax rn ak rt rm fd tx sz en u)) (fun (x : Int32) (u : (Int32)) => Q x u) (fun u : (Int32) => (wRU gI o pt ox ax rn ak rt rm fd tx sz en u)) (fun (v : Int32) (u : (Int32)) => E v u) := by
  refine cx_ofi RX5 rfl (by decide +kernel) (Nat.le_of_ble_eq_true rfl) ?_
  intro p e s m args below meth c A F htab hP hD ls hl
  obtain ⟨⟨hx, hb, hml, hown, hts⟩, hr, hlocks, hA, hK, hE⟩ := id F
  have hS : va_S A s.heap s.heap [] := va_S.rf
  have hl : lv_has ls 3 [(0, .ref o), (1, .int v1), (2, .int v2)] := hl
  have hRf : 7 ≤ ({ frames := 7, cells := 1, slots := 7, locals := 122 } : Room).frames := Nat.le_refl _
  have hC1 : 1 ≤ ({ frames := 7, cells := 1, slots := 7, locals := 122 } : Room).cells := Nat.le_refl _
  have hS7 : 7 ≤ ({ frames := 7, cells := 1, slots := 7, locals := 122 } : Room).slots := Nat.le_refl _
  have hRl : 122 ≤ ({ frames := 7, cells := 1, slots := 7, locals := 122 } : Room).locals := Nat.le_refl _
  have hC : 0 ≤ ({ frames := 7, cells := 1, slots := 7, locals := 122 } : Room).cells := Nat.zero_le _
  have hSl : 0 ≤ ({ frames := 7, cells := 1, slots := 7, locals := 122 } : Room).slots := Nat.zero_le _
  unfold wp_W_one at h
  refine lv_aload_n hx hb dX5_one_0 rfl (lv_at hl 0 rfl) ?_
  refine lv_aload_n hx hb dX5_one_1 rfl (lv_at hl 0 rfl) ?_
  refine cl_i F (va_runU (As := []) (rest := [.ref o]) ⟨hx, hb, hml, hown, hts⟩ (ct_W_hereR h _) (va_cwU (owner := RX5) 0 hts (lw_U q439 q442 q444 q440 q99 q445) rfl rfl rfl rfl (by decide +kernel) ⟨Nat.le_trans (Nat.le_of_ble_eq_true rfl) hRf, Nat.le_trans (Nat.le_of_ble_eq_true rfl) hRl⟩) ⟨ct_blind, va_recv hK hP (ci := 3) (q0 := 0) rfl rfl, ct_at F hS hP hD⟩ rfl rfl hl.1 rfl (lv_room (Nat.le_of_ble_eq_true rfl)) dX5_one_2 ⟨hC, hSl⟩) rfl rfl hD hS ?_
  rintro x1 _ H locs h hP hD hS
  refine lv_i2l (v := (x1.toInt64)) hx hb dX5_one_5 rfl ?_
  refine lv_iload_n hx hb dX5_one_6 rfl (lv_at hl 1 rfl) ?_
  refine lv_i2l (v := (v1.toInt64)) hx hb dX5_one_7 rfl ?_
  refine lv_iload_n hx hb dX5_one_8 rfl (lv_at hl 1 rfl) ?_
  refine lv_iload_n hx hb dX5_one_9 rfl (lv_at hl 2 rfl) ?_
  refine lv_iadd hx hb dX5_one_10 ?_
  refine lv_iconst (v := (1 : Int32)) hx hb dX5_one_11 (by decide) ?_
  refine lv_isub hx hb dX5_one_12 ?_
  refine lv_i2l (v := (((v1 + v2) - (1 : Int32)).toInt64)) hx hb dX5_one_13 rfl ?_
  refine cl_i0 F (va_runSN (As := [.long (x1.toInt64), .long (v1.toInt64), .long (((v1 + v2) - (1 : Int32)).toInt64)]) (rest := [.ref o]) ⟨hx, hb, hml, hown, hts⟩ (ct_X1_in h _) ⟨va_cnB 3 hts (lw_meth q300) rfl rfl rfl (hE.1 _ q446 rfl) (hts _ q94) (by decide +kernel) ⟨Nat.le_trans (Nat.le_of_ble_eq_true rfl) hRf, Nat.le_trans (Nat.le_of_ble_eq_true rfl) hRl⟩, hts _ q299, trivial⟩ ⟨ct_blind, ct_at F hS ct_nP ct_nD⟩ rfl rfl hl.1 rfl (lv_room (Nat.le_of_ble_eq_true rfl)) dX5_one_14 ⟨hC, hSl⟩) rfl rfl hP hS ?_
  rintro x2 _ H locs h hP hS
  refine clx_v F (vx_runU (As := [.int x2]) (rest := []) ⟨hx, hb, hml, hown, hts⟩ (cx_W_needR hlt h _) (va_cwU (owner := RX5) 1 hts (lw_U q447 q365 q367 q363 q99 q368) rfl rfl rfl rfl (by decide +kernel) ⟨Nat.le_trans (Nat.le_of_ble_eq_true rfl) hRf, Nat.le_trans (Nat.le_of_ble_eq_true rfl) hRl⟩) ⟨ct_blind, va_recv hK hP (ci := 3) (q0 := 0) rfl rfl, ct_at F hS hP hD⟩ rfl rfl hl.1 rfl (lv_room (Nat.le_of_ble_eq_true rfl)) dX5_one_17 ⟨hC1, hS7⟩) hD hS ?_ ?_
  · rintro q v_ _ H locs h hP hD hS
    exact rx_out (wx := fun u : (Int32) => (wRU gI o pt ox ax rn ak rt rm fd tx sz en u)) (QX := (fun (v : Int32) (u : (Int32)) => E v u)) F (fun x hx => (htab x hx).elim) (pw) h hP hD hS (Nat.le_refl _) (Nat.le_refl _)
  · rintro _ H locs h hP hD hS
    refine lv_aload_n hx hb dX5_one_20 rfl (lv_at hl 0 rfl) ?_
    refine lv_dup hx hb dX5_one_21 rfl ?_
    refine va_get hx hb hts in_X7 hown hK hP 0 rfl rfl 3 (Nat.le_of_ble_eq_true rfl) (hts _ q344) (fun _ h => h) (v := .int pw) rfl dX5_one_22 ?_
    refine lv_iconst (v := (1 : Int32)) hx hb dX5_one_25 (by decide) ?_
    refine lv_iadd hx hb dX5_one_26 ?_
    refine pt_put (v := .int (pw + (1 : Int32))) hx hb hts in_X7 tyX7 tyX7_ok nmX7 hown hK hP hD hS 0 rfl rfl 3 (Nat.le_of_ble_eq_true rfl) (hts _ q344) (fun _ h => h) rfl (ty := .int) (by decide +kernel) rfl rfl (Nat.le_of_ble_eq_true rfl) dX5_one_27 rfl (fun H locs hP hD hS => ?_)
    refine lv_aload_n hx hb dX5_one_30 rfl (lv_at hl 0 rfl) ?_
    refine va_get hx hb hts in_X7 hown hK hP 0 rfl rfl 0 (Nat.le_of_ble_eq_true rfl) (hts _ q338) (fun _ h => h) (v := .ref pt) rfl dX5_one_31 ?_
    refine lv_aload_n hx hb dX5_one_34 rfl (lv_at hl 0 rfl) ?_
    refine va_get hx hb hts in_X7 hown hK hP 0 rfl rfl 3 (Nat.le_of_ble_eq_true rfl) (hts _ q344) (fun _ h => h) (v := .int (pw + (1 : Int32))) rfl dX5_one_35 ?_
    refine lv_iconst (v := (1 : Int32)) hx hb dX5_one_38 (by decide) ?_
    refine lv_isub hx hb dX5_one_39 ?_
    refine va_bald (f := tx) hx hb hK hP 1 3 rfl rfl h.1 dX5_one_40 ?_
    replace h := h.2
    refine lv_iload_n hx hb dX5_one_41 rfl (lv_at hl 1 rfl) ?_
    refine lv_isub hx hb dX5_one_42 ?_
    exact vx_ret (rt_i F dX5_one_43 rfl ((pw + (1 : Int32))) h hP hD hS (Nat.le_refl _) (Nat.le_refl _))
set_option maxHeartbeats 4000000 in
theorem lp_W_number_2_L1R {p : Program} {l : Launch} {e : Env} {R : Room} {s : State} {m : MethodId} {args : Array Value} {below : List Frame} {meth : Method} {c : Code} {A : Nat → Prop} {V : evT} {D : va_G} {gI : Nat → ClassId} {o : Nat} {pt : Nat} {ox : Nat} {ax : Nat → Nat} {rn : Option (Nat × Nat)} {ak rt rm : Int32} {fd : Nat → Int32} {v1 : Int32} {tx : Nat → Int32} {sz : Int32} {en : Int32} {Q : Int32 → (Int32) → Prop} {E : Int32 → (Int32) → Prop} {K53 : (Int32) → (Int32) → Prop} (F : ct_F p m c meth cX5_number_2 4 s args RX5 (some .int) A V D vwCl (tyL gI)) (hRf : 8 ≤ R.frames) (hRl : 144 ≤ R.locals) (hC : 0 ≤ R.cells) (hSl : 0 ≤ R.slots) (hC1 : 1 ≤ R.cells) (hS7 : 7 ≤ R.slots) (htab : ∀ x ∈ c.exceptionTable.toList, False) (hlt : l.stackTraces = false)
    (hK53 : ∀ (v2 : Int32) (pw : Int32), K53 v2 pw → ∀ (H : Heap) (locs : List Loc) (ls : Array Slot), va_P D vwCl (wRU gI o pt ox ax rn ak rt rm fd tx sz en pw) H → va_D A (wRU gI o pt ox ax rn ak rt rm fd tx sz en pw) → va_S A s.heap H locs → lv_has ls 4 [(2, .int v2)] → W p l e R s m args below meth c H locs 0 0 (vx_MQ below (va_Qi (fun (x : Int32) (u : (Int32)) => Q x u) (fun u t => va_P D vwCl (wRU gI o pt ox ax rn ak rt rm fd tx sz en u) t.heap ∧ va_K D vwCl (tyL gI) t ∧ va_D A (wRU gI o pt ox ax rn ak rt rm fd tx sz en u)) A) (vx_X (S := Int32 × ((Int32))) (fun u => (fun (v : Int32) (u : (Int32)) => E v u) u.1 u.2) (fun E_ q u t => E_ = RX6 ∧ va_P D vwCl ((fun u : (Int32) => (wRU gI o pt ox ax rn ak rt rm fd tx sz en u)) u.2 ++ [fC q u.1]) t.heap ∧ va_K D vwCl (tyL gI) t ∧ va_D A ((fun u : (Int32) => (wRU gI o pt ox ax rn ak rt rm fd tx sz en u)) u.2 ++ [fC q u.1])) A) args s 1 7 A) (F0 m 53 ls [])) :
    ∀ (n : Nat) (v2 : Int32) (v3 : Int32) (pw : Int32), wp_W_number_2_L1 v1 tx sz en Q E K53 n v2 v3 pw → ∀ (H : Heap) (locs : List Loc) (ls : Array Slot), va_P D vwCl (wRU gI o pt ox ax rn ak rt rm fd tx sz en pw) H → va_D A (wRU gI o pt ox ax rn ak rt rm fd tx sz en pw) → va_S A s.heap H locs → lv_has ls 4 [(0, .ref o), (1, .int v1), (2, .int v2), (3, .int v3)] → W p l e R s m args below meth c H locs 0 0 (vx_MQ below (va_Qi (fun (x : Int32) (u : (Int32)) => Q x u) (fun u t => va_P D vwCl (wRU gI o pt ox ax rn ak rt rm fd tx sz en u) t.heap ∧ va_K D vwCl (tyL gI) t ∧ va_D A (wRU gI o pt ox ax rn ak rt rm fd tx sz en u)) A) (vx_X (S := Int32 × ((Int32))) (fun u => (fun (v : Int32) (u : (Int32)) => E v u) u.1 u.2) (fun E_ q u t => E_ = RX6 ∧ va_P D vwCl ((fun u : (Int32) => (wRU gI o pt ox ax rn ak rt rm fd tx sz en u)) u.2 ++ [fC q u.1]) t.heap ∧ va_K D vwCl (tyL gI) t ∧ va_D A ((fun u : (Int32) => (wRU gI o pt ox ax rn ak rt rm fd tx sz en u)) u.2 ++ [fC q u.1])) A) args s 1 7 A) (F0 m 11 ls []) := by
  obtain ⟨⟨hx, hb, hml, hown, hts⟩, hr, hlocks, hA, hK, hE⟩ := id F
  intro n
  induction n with
  | zero => intro v2 v3 pw h; exact h.elim
  | succ n ih =>
    intro v2 v3 pw h H locs ls hP hD hS hl
    unfold wp_W_number_2_L1 at h
    refine lv_iload_n hx hb dX5_number_2_11 rfl (lv_at hl 3 rfl) ?_
    refine lv_iload_n hx hb dX5_number_2_12 rfl (lv_at hl 1 rfl) ?_
    refine lv_icmp_ge (tgt := 53) hx hb dX5_number_2_13 (by decide) (fun c10 => ?_) (fun c10 => ?_)
    · replace h := h.1 c10
      exact hK53 _ _ h _ _ _ hP hD hS (lv_sub hl [2] rfl)
    · replace h := h.2 c10
      refine lv_aload_n hx hb dX5_number_2_16 rfl (lv_at hl 0 rfl) ?_
      refine cl_i F (va_runU (As := []) (rest := []) ⟨hx, hb, hml, hown, hts⟩ (ct_W_hereR h _) (va_cwU (owner := RX5) 0 hts (lw_U q439 q442 q444 q440 q99 q445) rfl rfl rfl rfl (by decide +kernel) ⟨Nat.le_trans (Nat.le_of_ble_eq_true rfl) hRf, Nat.le_trans (Nat.le_of_ble_eq_true rfl) hRl⟩) ⟨ct_blind, va_recv hK hP (ci := 3) (q0 := 0) rfl rfl, ct_at F hS hP hD⟩ rfl rfl hl.1 rfl (lv_room (Nat.le_of_ble_eq_true rfl)) dX5_number_2_17 ⟨hC, hSl⟩) rfl rfl hD hS ?_
      rintro x4 _ H locs h hP hD hS
      refine lv_i2l (v := (x4.toInt64)) hx hb dX5_number_2_20 rfl ?_
      refine lv_ldc2 (v := (48 : Int64)) hx hb hown (hts _ q494) dX5_number_2_21 ?_
      refine lv_ldc2 (v := (57 : Int64)) hx hb hown (hts _ q495) dX5_number_2_24 ?_
      refine cl_i0 F (va_runSN (As := [.long (x4.toInt64), .long (48 : Int64), .long (57 : Int64)]) (rest := []) ⟨hx, hb, hml, hown, hts⟩ (ct_X1_in h _) ⟨va_cnB 3 hts (lw_meth q300) rfl rfl rfl (hE.1 _ q446 rfl) (hts _ q94) (by decide +kernel) ⟨Nat.le_trans (Nat.le_of_ble_eq_true rfl) hRf, Nat.le_trans (Nat.le_of_ble_eq_true rfl) hRl⟩, hts _ q299, trivial⟩ ⟨ct_blind, ct_at F hS ct_nP ct_nD⟩ rfl rfl hl.1 rfl (lv_room (Nat.le_of_ble_eq_true rfl)) dX5_number_2_27 ⟨hC, hSl⟩) rfl rfl hP hS ?_
      rintro x5 _ H locs h hP hS
      refine lv_if_eq (tgt := 53) hx hb dX5_number_2_30 (by decide) (fun c9 => ?_) (fun c9 => ?_)
      · replace h := h.1 c9
        exact hK53 _ _ h _ _ _ hP hD hS (lv_sub hl [2] rfl)
      · replace h := h.2 c9
        refine lv_bipush (v := (10 : Int32)) hx hb dX5_number_2_33 (by decide) ?_
        refine lv_iload_n hx hb dX5_number_2_35 rfl (lv_at hl 2 rfl) ?_
        refine lv_imul hx hb dX5_number_2_36 ?_
        refine lv_aload_n hx hb dX5_number_2_37 rfl (lv_at hl 0 rfl) ?_
        refine lv_bipush (v := (48 : Int32)) hx hb dX5_number_2_38 (by decide) ?_
        refine lv_bipush (v := (10 : Int32)) hx hb dX5_number_2_40 (by decide) ?_
        refine clx_i F (vx_runU (As := [.int (48 : Int32), .int (10 : Int32)]) (rest := [.int ((10 : Int32) * v2)]) ⟨hx, hb, hml, hown, hts⟩ (cx_W_oneR hlt h _) (va_cwU (owner := RX5) 2 hts (lw_U q493 q435 q437 q433 q99 q438) rfl rfl rfl rfl (by decide +kernel) ⟨Nat.le_trans (Nat.le_of_ble_eq_true rfl) hRf, Nat.le_trans (Nat.le_of_ble_eq_true rfl) hRl⟩) ⟨ct_blind, va_recv hK hP (ci := 3) (q0 := 0) rfl rfl, ct_at F hS hP hD⟩ rfl rfl hl.1 rfl (lv_room (Nat.le_of_ble_eq_true rfl)) dX5_number_2_42 ⟨hC1, hS7⟩) hD hS ?_ ?_
        · rintro q v_ pw8 H locs h hP hD hS
          exact rx_out (wx := fun u : (Int32) => (wRU gI o pt ox ax rn ak rt rm fd tx sz en u)) (QX := (fun (v : Int32) (u : (Int32)) => E v u)) F (fun x hx => (htab x hx).elim) (pw8) h hP hD hS (Nat.le_refl _) (Nat.le_refl _)
        · rintro x6 pw7 H locs h hP hD hS
          refine lv_iadd hx hb dX5_number_2_45 ?_
          refine lv_istore_n (lv' := [(2, .int (((10 : Int32) * v2) + x6)), (0, .ref o), (1, .int v1), (3, .int v3)]) hx hb dX5_number_2_46 rfl hl (by decide) rfl (fun ls hl => ?_)
          refine lv_iinc (v := (v3 + (1 : Int32))) (lv' := [(3, .int (v3 + (1 : Int32))), (2, .int (((10 : Int32) * v2) + x6)), (0, .ref o), (1, .int v1)]) hx hb dX5_number_2_47 hl (k := 3) rfl rfl (by decide) rfl (fun ls hl => ?_)
          refine lv_goto (tgt := 11) hx hb dX5_number_2_50 (by decide) ?_
          exact ih _ _ _ h _ _ _ hP hD hS (lv_sub hl [2, 3, 1, 0] rfl)
set_option maxHeartbeats 4000000 in
theorem cx_W_number_2R {l : Launch} {V : evT} {D : va_G} {gI : Nat → ClassId} {o : Nat} {pt : Nat} {ox : Nat} {ax : Nat → Nat} {rn : Option (Nat × Nat)} {ak rt rm : Int32} {fd : Nat → Int32} (hlt : l.stackTraces = false) {v1 : Int32} {tx : Nat → Int32} {sz : Int32} {en : Int32} {pw : Int32} {Q : Int32 → (Int32) → Prop} {E : Int32 → (Int32) → Prop} (h : wp_W_number_2 v1 tx sz en pw Q E) : cx_i l V D (tyL gI) yX5_number_2 cX5_number_2 4 .int { frames := 8, cells := 1, slots := 7, locals := 144 } [.ref o, .int v1] (wRU gI o pt ox ax rn ak rt rm fd tx sz en pw) (fun u : (Int32) => (wRU gI o pt ox ax rn ak rt rm fd tx sz en u)) (fun (x : Int32) (u : (Int32)) => Q x u) (fun u : (Int32) => (wRU gI o pt ox ax rn ak rt rm fd tx sz en u)) (fun (v : Int32) (u : (Int32)) => E v u) := by
  refine cx_ofi RX5 rfl (by decide +kernel) (Nat.le_of_ble_eq_true rfl) ?_
  intro p e s m args below meth c A F htab hP hD ls hl
  obtain ⟨⟨hx, hb, hml, hown, hts⟩, hr, hlocks, hA, hK, hE⟩ := id F
  have hS : va_S A s.heap s.heap [] := va_S.rf
  have hl : lv_has ls 4 [(0, .ref o), (1, .int v1)] := hl
  have hRf : 8 ≤ ({ frames := 8, cells := 1, slots := 7, locals := 144 } : Room).frames := Nat.le_refl _
  have hC1 : 1 ≤ ({ frames := 8, cells := 1, slots := 7, locals := 144 } : Room).cells := Nat.le_refl _
  have hS7 : 7 ≤ ({ frames := 8, cells := 1, slots := 7, locals := 144 } : Room).slots := Nat.le_refl _
  have hRl : 144 ≤ ({ frames := 8, cells := 1, slots := 7, locals := 144 } : Room).locals := Nat.le_refl _
  have hC : 0 ≤ ({ frames := 8, cells := 1, slots := 7, locals := 144 } : Room).cells := Nat.zero_le _
  have hSl : 0 ≤ ({ frames := 8, cells := 1, slots := 7, locals := 144 } : Room).slots := Nat.zero_le _
  unfold wp_W_number_2 at h
  refine lv_aload_n hx hb dX5_number_2_0 rfl (lv_at hl 0 rfl) ?_
  refine lv_bipush (v := (48 : Int32)) hx hb dX5_number_2_1 (by decide) ?_
  refine lv_bipush (v := (10 : Int32)) hx hb dX5_number_2_3 (by decide) ?_
  refine clx_i F (vx_runU (As := [.int (48 : Int32), .int (10 : Int32)]) (rest := []) ⟨hx, hb, hml, hown, hts⟩ (cx_W_oneR hlt h _) (va_cwU (owner := RX5) 2 hts (lw_U q493 q435 q437 q433 q99 q438) rfl rfl rfl rfl (by decide +kernel) ⟨Nat.le_trans (Nat.le_of_ble_eq_true rfl) hRf, Nat.le_trans (Nat.le_of_ble_eq_true rfl) hRl⟩) ⟨ct_blind, va_recv hK hP (ci := 3) (q0 := 0) rfl rfl, ct_at F hS hP hD⟩ rfl rfl hl.1 rfl (lv_room (Nat.le_of_ble_eq_true rfl)) dX5_number_2_5 ⟨hC1, hS7⟩) hD hS ?_ ?_
  · rintro q v_ pw3 H locs h hP hD hS
    exact rx_out (wx := fun u : (Int32) => (wRU gI o pt ox ax rn ak rt rm fd tx sz en u)) (QX := (fun (v : Int32) (u : (Int32)) => E v u)) F (fun x hx => (htab x hx).elim) (pw3) h hP hD hS (Nat.le_refl _) (Nat.le_refl _)
  · rintro x1 pw2 H locs h hP hD hS
    refine lv_istore_n (lv' := [(2, .int x1), (0, .ref o), (1, .int v1)]) hx hb dX5_number_2_8 rfl hl (by decide) rfl (fun ls hl => ?_)
    refine lv_iconst (v := (1 : Int32)) hx hb dX5_number_2_9 (by decide) ?_
    refine lv_istore_n (lv' := [(3, .int (1 : Int32)), (2, .int x1), (0, .ref o), (1, .int v1)]) hx hb dX5_number_2_10 rfl hl (by decide) rfl (fun ls hl => ?_)
    obtain ⟨k11, h⟩ := h
    refine lp_W_number_2_L1R F hRf hRl hC hSl hC1 hS7 htab hlt ?hk53 k11 _ _ _ h _ _ _ hP hD hS (lv_sub hl [2, 3, 1, 0] rfl)
    case hk53 =>
      intro v2_11 pw_12 h H locs ls hP hD hS hl
      refine lv_iload_n hx hb dX5_number_2_53 rfl (lv_at hl 0 rfl) ?_
      exact vx_ret (rt_i F dX5_number_2_54 rfl (pw_12) h hP hD hS (Nat.le_refl _) (Nat.le_refl _))
set_option maxHeartbeats 4000000 in
theorem ct_R_value {l : Launch} {V : evT} {D : va_G} {gI : Nat → ClassId} {o : Nat} {pt : Nat} {ox : Nat} {ax : Nat → Nat} {rn : Option (Nat × Nat)} {v1 : Int32} {tx : Nat → Int32} {sz : Int32} {en : Int32} {pw : Int32} {ak : Int32} {rt : Int32} {rm : Int32} {fd : Nat → Int32} {Q : Int32 → Prop} (h : wp_R_value v1 tx sz en pw ak rt rm fd Q) : ct_i l V D vwCl (tyL gI) yX7_value cX7_value 2 .int { frames := 1, cells := 0, slots := 0, locals := 12 } [.ref o, .int v1] (wRU gI o pt ox ax rn ak rt rm fd tx sz en pw) (fun u : Unit => (wRU gI o pt ox ax rn ak rt rm fd tx sz en pw)) (fun (x : Int32) (u : Unit) => Q x) := by
  refine ct_ofi RX7 rfl (by decide +kernel) (Nat.le_of_ble_eq_true rfl) ?_
  intro p e s m args below meth c A F hP hD ls hl
  obtain ⟨⟨hx, hb, hml, hown, hts⟩, hr, hlocks, hA, hK, hE⟩ := id F
  have hS : va_S A s.heap s.heap [] := va_S.rf
  have hl : lv_has ls 2 [(0, .ref o), (1, .int v1)] := hl
  have hRf : 1 ≤ ({ frames := 1, cells := 0, slots := 0, locals := 12 } : Room).frames := Nat.le_refl _
  have hRl : 12 ≤ ({ frames := 1, cells := 0, slots := 0, locals := 12 } : Room).locals := Nat.le_refl _
  have hC : 0 ≤ ({ frames := 1, cells := 0, slots := 0, locals := 12 } : Room).cells := Nat.le_refl _
  have hSl : 0 ≤ ({ frames := 1, cells := 0, slots := 0, locals := 12 } : Room).slots := Nat.le_refl _
  unfold wp_R_value at h
  refine lv_iload_n hx hb dX7_value_0 rfl (lv_at hl 1 rfl) ?_
  refine lv_bipush (v := (110 : Int32)) hx hb dX7_value_1 (by decide) ?_
  refine lv_icmp_ne (tgt := 16) hx hb dX7_value_3 (by decide) (fun c3 => ?_) (fun c3 => ?_)
  · replace h := h.1 c3
    refine lv_iload_n hx hb dX7_value_16 rfl (lv_at hl 1 rfl) ?_
    refine lv_bipush (v := (119 : Int32)) hx hb dX7_value_17 (by decide) ?_
    refine lv_icmp_ne (tgt := 32) hx hb dX7_value_19 (by decide) (fun c2 => ?_) (fun c2 => ?_)
    · replace h := h.1 c2
      refine lv_iload_n hx hb dX7_value_32 rfl (lv_at hl 1 rfl) ?_
      refine lv_bipush (v := (99 : Int32)) hx hb dX7_value_33 (by decide) ?_
      refine lv_icmp_ne (tgt := 48) hx hb dX7_value_35 (by decide) (fun c1 => ?_) (fun c1 => ?_)
      · replace h := h.1 c1
        refine lv_aload_n hx hb dX7_value_48 rfl (lv_at hl 0 rfl) ?_
        refine va_get hx hb hts in_X7 hown hK hP 0 rfl rfl 6 (Nat.le_of_ble_eq_true rfl) (hts _ q518) (fun _ h => h) (v := .int rm) rfl dX7_value_49 ?_
        exact rt_i F dX7_value_52 rfl () h hP hD hS (Nat.le_refl _) (Nat.le_refl _)
      · replace h := h.2 c1
        refine lv_aload_n hx hb dX7_value_38 rfl (lv_at hl 0 rfl) ?_
        refine va_get hx hb hts in_X7 hown hK hP 0 rfl rfl 7 (Nat.le_of_ble_eq_true rfl) (hts _ q519) (fun _ h => h) (v := .ref ox) rfl dX7_value_39 ?_
        refine va_getN hx hb hts in_X1 hown hK hP 2 rfl rfl 9 (Nat.le_of_ble_eq_true rfl) (va_Nw.use rfl (hE.1 _ q197 rfl)) (fun _ h => h) (v := .int (fd 9)) rfl dX7_value_42 ?_
        refine lv_goto (tgt := 52) hx hb dX7_value_45 (by decide) ?_
        exact rt_i F dX7_value_52 rfl () h hP hD hS (Nat.le_refl _) (Nat.le_refl _)
    · replace h := h.2 c2
      refine lv_aload_n hx hb dX7_value_22 rfl (lv_at hl 0 rfl) ?_
      refine va_get hx hb hts in_X7 hown hK hP 0 rfl rfl 7 (Nat.le_of_ble_eq_true rfl) (hts _ q519) (fun _ h => h) (v := .ref ox) rfl dX7_value_23 ?_
      refine va_getN hx hb hts in_X1 hown hK hP 2 rfl rfl 11 (Nat.le_of_ble_eq_true rfl) (va_Nw.use rfl (hE.1 _ q200 rfl)) (fun _ h => h) (v := .int (fd 11)) rfl dX7_value_26 ?_
      refine lv_goto (tgt := 52) hx hb dX7_value_29 (by decide) ?_
      exact rt_i F dX7_value_52 rfl () h hP hD hS (Nat.le_refl _) (Nat.le_refl _)
  · replace h := h.2 c3
    refine lv_aload_n hx hb dX7_value_6 rfl (lv_at hl 0 rfl) ?_
    refine va_get hx hb hts in_X7 hown hK hP 0 rfl rfl 5 (Nat.le_of_ble_eq_true rfl) (hts _ q517) (fun _ h => h) (v := .int rt) rfl dX7_value_7 ?_
    refine lv_bipush (v := (8 : Int32)) hx hb dX7_value_10 (by decide) ?_
    refine lv_irem hx hb dX7_value_12 (by decide) ?_
    refine lv_goto (tgt := 52) hx hb dX7_value_13 (by decide) ?_
    exact rt_i F dX7_value_52 rfl () h hP hD hS (Nat.le_refl _) (Nat.le_refl _)
set_option maxHeartbeats 4000000 in
theorem lp_R_sum_J2 {p : Program} {l : Launch} {e : Env} {R : Room} {s : State} {m : MethodId} {args : Array Value} {below : List Frame} {meth : Method} {c : Code} {A : Nat → Prop} {V : evT} {D : va_G} {gI : Nat → ClassId} {o : Nat} {pt : Nat} {ox : Nat} {ax : Nat → Nat} {rn : Option (Nat × Nat)} {v1 : Int32} {tx : Nat → Int32} {sz : Int32} {en : Int32} {ak : Int32} {rt : Int32} {rm : Int32} {fd : Nat → Int32} {Q : Int32 → (Int32) → Prop} {E : Int32 → (Int32) → Prop} {d : Nat} {rec : Nat → Int32 → (Nat → Int32) → (Int32) → (Int32) → (Int32) → (Int32) → (Int32) → (Int32) → (Nat → Int32) → (Int32 → (Int32) → Prop) → (Int32 → (Int32) → Prop) → Prop} {K6 : (Int32) → (Int32) → Prop} (F : ct_F p m c meth cX7_sum 5 s args RX7 (some .int) A V D vwCl (tyL gI)) (hRf : 9 + (d + 1) ≤ R.frames) (hRl : 167 + (d + 1) * 24 ≤ R.locals) (hC : 0 ≤ R.cells) (hSl : 0 ≤ R.slots) (hC1 : 1 ≤ R.cells) (hS7 : 7 ≤ R.slots) (htab : ∀ x ∈ c.exceptionTable.toList, False) (hlt : l.stackTraces = false)
    (hrec0 : ∀ {v1 : Int32} {tx : Nat → Int32} {sz : Int32} {en : Int32} {pw : Int32} {ak : Int32} {rt : Int32} {rm : Int32} {fd : Nat → Int32} {Q : Int32 → (Int32) → Prop} {E : Int32 → (Int32) → Prop}, rec 0 v1 tx sz en pw ak rt rm fd Q E → cx_i l V D (tyL gI) yX7_held cX7_held 3 .int { frames := 9 + d, cells := 1, slots := 7, locals := 167 + d * 24 } [.ref o, .int v1] (wRU gI o pt ox ax rn ak rt rm fd tx sz en pw) (fun u : (Int32) => (wRU gI o pt ox ax rn ak rt rm fd tx sz en u)) (fun (x : Int32) (u : (Int32)) => Q x u) (fun u : (Int32) => (wRU gI o pt ox ax rn ak rt rm fd tx sz en u)) (fun (v : Int32) (u : (Int32)) => E v u))
    (hrec1 : ∀ {v1 : Int32} {tx : Nat → Int32} {sz : Int32} {en : Int32} {pw : Int32} {ak : Int32} {rt : Int32} {rm : Int32} {fd : Nat → Int32} {Q : Int32 → (Int32) → Prop} {E : Int32 → (Int32) → Prop}, rec 1 v1 tx sz en pw ak rt rm fd Q E → cx_i l V D (tyL gI) yX7_sum cX7_sum 5 .int { frames := 9 + d, cells := 1, slots := 7, locals := 167 + d * 24 } [.ref o, .int v1] (wRU gI o pt ox ax rn ak rt rm fd tx sz en pw) (fun u : (Int32) => (wRU gI o pt ox ax rn ak rt rm fd tx sz en u)) (fun (x : Int32) (u : (Int32)) => Q x u) (fun u : (Int32) => (wRU gI o pt ox ax rn ak rt rm fd tx sz en u)) (fun (v : Int32) (u : (Int32)) => E v u))
    (hrec2 : ∀ {v1 : Int32} {tx : Nat → Int32} {sz : Int32} {en : Int32} {pw : Int32} {ak : Int32} {rt : Int32} {rm : Int32} {fd : Nat → Int32} {Q : Int32 → (Int32) → Prop} {E : Int32 → (Int32) → Prop}, rec 2 v1 tx sz en pw ak rt rm fd Q E → cx_i l V D (tyL gI) yX7_product cX7_product 5 .int { frames := 9 + d, cells := 1, slots := 7, locals := 167 + d * 24 } [.ref o, .int v1] (wRU gI o pt ox ax rn ak rt rm fd tx sz en pw) (fun u : (Int32) => (wRU gI o pt ox ax rn ak rt rm fd tx sz en u)) (fun (x : Int32) (u : (Int32)) => Q x u) (fun u : (Int32) => (wRU gI o pt ox ax rn ak rt rm fd tx sz en u)) (fun (v : Int32) (u : (Int32)) => E v u))
    (hrec3 : ∀ {v1 : Int32} {tx : Nat → Int32} {sz : Int32} {en : Int32} {pw : Int32} {ak : Int32} {rt : Int32} {rm : Int32} {fd : Nat → Int32} {Q : Int32 → (Int32) → Prop} {E : Int32 → (Int32) → Prop}, rec 3 v1 tx sz en pw ak rt rm fd Q E → cx_i l V D (tyL gI) yX7_thing cX7_thing 3 .int { frames := 9 + d, cells := 1, slots := 7, locals := 167 + d * 24 } [.ref o, .int v1] (wRU gI o pt ox ax rn ak rt rm fd tx sz en pw) (fun u : (Int32) => (wRU gI o pt ox ax rn ak rt rm fd tx sz en u)) (fun (x : Int32) (u : (Int32)) => Q x u) (fun u : (Int32) => (wRU gI o pt ox ax rn ak rt rm fd tx sz en u)) (fun (v : Int32) (u : (Int32)) => E v u))
    (hK6 : ∀ (v2 : Int32) (pw : Int32), K6 v2 pw → ∀ (H : Heap) (locs : List Loc) (ls : Array Slot), va_P D vwCl (wRU gI o pt ox ax rn ak rt rm fd tx sz en pw) H → va_D A (wRU gI o pt ox ax rn ak rt rm fd tx sz en pw) → va_S A s.heap H locs → lv_has ls 5 [(0, .ref o), (1, .int v1), (2, .int v2)] → W p l e R s m args below meth c H locs 0 0 (vx_MQ below (va_Qi (fun (x : Int32) (u : (Int32)) => Q x u) (fun u t => va_P D vwCl (wRU gI o pt ox ax rn ak rt rm fd tx sz en u) t.heap ∧ va_K D vwCl (tyL gI) t ∧ va_D A (wRU gI o pt ox ax rn ak rt rm fd tx sz en u)) A) (vx_X (S := Int32 × ((Int32))) (fun u => (fun (v : Int32) (u : (Int32)) => E v u) u.1 u.2) (fun E_ q u t => E_ = RX6 ∧ va_P D vwCl ((fun u : (Int32) => (wRU gI o pt ox ax rn ak rt rm fd tx sz en u)) u.2 ++ [fC q u.1]) t.heap ∧ va_K D vwCl (tyL gI) t ∧ va_D A ((fun u : (Int32) => (wRU gI o pt ox ax rn ak rt rm fd tx sz en u)) u.2 ++ [fC q u.1])) A) args s 1 7 A) (F0 m 6 ls [])) :
    ∀ (v2 : Int32) (pw : Int32), wp_R_sum_J2 rec v1 tx sz en ak rt rm fd Q E K6 v2 pw → ∀ (H : Heap) (locs : List Loc) (ls : Array Slot), va_P D vwCl (wRU gI o pt ox ax rn ak rt rm fd tx sz en pw) H → va_D A (wRU gI o pt ox ax rn ak rt rm fd tx sz en pw) → va_S A s.heap H locs → lv_has ls 5 [(0, .ref o), (1, .int v1), (2, .int v2)] → W p l e R s m args below meth c H locs 0 0 (vx_MQ below (va_Qi (fun (x : Int32) (u : (Int32)) => Q x u) (fun u t => va_P D vwCl (wRU gI o pt ox ax rn ak rt rm fd tx sz en u) t.heap ∧ va_K D vwCl (tyL gI) t ∧ va_D A (wRU gI o pt ox ax rn ak rt rm fd tx sz en u)) A) (vx_X (S := Int32 × ((Int32))) (fun u => (fun (v : Int32) (u : (Int32)) => E v u) u.1 u.2) (fun E_ q u t => E_ = RX6 ∧ va_P D vwCl ((fun u : (Int32) => (wRU gI o pt ox ax rn ak rt rm fd tx sz en u)) u.2 ++ [fC q u.1]) t.heap ∧ va_K D vwCl (tyL gI) t ∧ va_D A ((fun u : (Int32) => (wRU gI o pt ox ax rn ak rt rm fd tx sz en u)) u.2 ++ [fC q u.1])) A) args s 1 7 A) (F0 m 24 ls []) := by
  obtain ⟨⟨hx, hb, hml, hown, hts⟩, hr, hlocks, hA, hK, hE⟩ := id F
  intro v2 pw h H locs ls hP hD hS hl
  unfold wp_R_sum_J2 at h
  refine lv_aload_n hx hb dX7_sum_24 rfl (lv_at hl 0 rfl) ?_
  refine cl_i F (va_runU (As := []) (rest := []) ⟨hx, hb, hml, hown, hts⟩ (ct_W_hereR h _) (va_cwU (owner := RX5) 0 hts (lw_U q557 q558 q560 q440 q99 q445) rfl rfl rfl rfl (by decide +kernel) ⟨Nat.le_trans (Nat.le_of_ble_eq_true rfl) (Nat.le_trans (Nat.le_add_right 9 _) hRf), Nat.le_trans (Nat.le_of_ble_eq_true rfl) (Nat.le_trans (Nat.le_add_right 167 _) hRl)⟩) ⟨ct_blind, va_recv hK hP (ci := 3) (q0 := 0) rfl rfl, ct_at F hS hP hD⟩ rfl rfl hl.1 rfl (lv_room (Nat.le_of_ble_eq_true rfl)) dX7_sum_25 ⟨hC, hSl⟩) rfl rfl hD hS ?_
  rintro x5 _ H locs h hP hD hS
  refine lv_bipush (v := (43 : Int32)) hx hb dX7_sum_28 (by decide) ?_
  refine lv_icmp_ne (tgt := 37) hx hb dX7_sum_30 (by decide) (fun c14 => ?_) (fun c14 => ?_)
  · replace h := h.1 c14
    refine lv_iconst (v := (0 : Int32)) hx hb dX7_sum_37 (by decide) ?_
    refine lv_istore_n (lv' := [(3, .int (0 : Int32)), (0, .ref o), (1, .int v1), (2, .int v2)]) hx hb dX7_sum_38 rfl hl (by decide) rfl (fun ls hl => ?_)
    refine lv_aload_n hx hb dX7_sum_39 rfl (lv_at hl 1 rfl) ?_
    refine lv_dup hx hb dX7_sum_40 rfl ?_
    refine va_get hx hb hts in_X7 hown hK hP 0 rfl rfl 3 (Nat.le_of_ble_eq_true rfl) (hts _ q347) (u_same (hts _ q348)) (v := .int pw) rfl dX7_sum_41 ?_
    refine lv_iconst (v := (1 : Int32)) hx hb dX7_sum_44 (by decide) ?_
    refine lv_iadd hx hb dX7_sum_45 ?_
    refine pt_put (v := .int (pw + (1 : Int32))) hx hb hts in_X7 tyX7 tyX7_ok nmX7 hown hK hP hD hS 0 rfl rfl 3 (Nat.le_of_ble_eq_true rfl) (hts _ q347) (u_same (hts _ q348)) rfl (ty := .int) (by decide +kernel) rfl rfl (Nat.le_of_ble_eq_true rfl) dX7_sum_46 rfl (fun H locs hP hD hS => ?_)
    refine lv_aload_n hx hb dX7_sum_49 rfl (lv_at hl 1 rfl) ?_
    refine lv_iload_n hx hb dX7_sum_50 rfl (lv_at hl 2 rfl) ?_
    refine clx_i F (vx_runV (As := [.int v1]) (rest := []) ⟨hx, hb, hml, hown, hts⟩ (hrec2 h _) (cwV 1 hts (lw_V q545 q547 qs4 q105 q548) rfl rfl rfl (by decide +kernel) ⟨hRf, by have hh := hRl; show 8 + (_ + 11) + (167 + d * 24) ≤ _; omega⟩) ⟨ct_blind, va_recv hK hP (ci := 3) (q0 := 0) rfl rfl, ct_at F hS hP hD⟩ rfl rfl hl.1 rfl (lv_room (Nat.le_of_ble_eq_true rfl)) dX7_sum_51 ⟨hC1, hS7⟩) hD hS ?_ ?_
    · rintro q v_ pw8 H locs h hP hD hS
      exact rx_out (wx := fun u : (Int32) => (wRU gI o pt ox ax rn ak rt rm fd tx sz en u)) (QX := (fun (v : Int32) (u : (Int32)) => E v u)) F (fun x hx => (htab x hx).elim) (pw8) h hP hD hS (Nat.le_refl _) (Nat.le_refl _)
    · rintro x6 pw7 H locs h hP hD hS
      refine lv_istore (lv' := [(4, .int x6), (3, .int (0 : Int32)), (0, .ref o), (1, .int v1), (2, .int v2)]) hx hb dX7_sum_54 hl (by decide) rfl (fun ls hl => ?_)
      refine lv_iload_n hx hb dX7_sum_56 rfl (lv_at hl 1 rfl) ?_
      refine lv_if_eq (tgt := 67) hx hb dX7_sum_57 (by decide) (fun c9 => ?_) (fun c9 => ?_)
      · replace h := h.1 c9
        refine lv_iload_n hx hb dX7_sum_67 rfl (lv_at hl 4 rfl) ?_
        refine lv_iload hx hb dX7_sum_68 (lv_at hl 0 rfl) ?_
        refine lv_isub hx hb dX7_sum_70 ?_
        refine lv_istore_n (lv' := [(2, .int (v2 - x6)), (4, .int x6), (3, .int (0 : Int32)), (0, .ref o), (1, .int v1)]) hx hb dX7_sum_71 rfl hl (by decide) rfl (fun ls hl => ?_)
        refine lv_goto (tgt := 6) hx hb dX7_sum_72 (by decide) ?_
        exact hK6 _ _ h _ _ _ hP hD hS (lv_sub hl [3, 4, 0] rfl)
      · replace h := h.2 c9
        refine lv_iload_n hx hb dX7_sum_60 rfl (lv_at hl 4 rfl) ?_
        refine lv_iload hx hb dX7_sum_61 (lv_at hl 0 rfl) ?_
        refine lv_iadd hx hb dX7_sum_63 ?_
        refine lv_goto (tgt := 71) hx hb dX7_sum_64 (by decide) ?_
        refine lv_istore_n (lv' := [(2, .int (v2 + x6)), (4, .int x6), (3, .int (0 : Int32)), (0, .ref o), (1, .int v1)]) hx hb dX7_sum_71 rfl hl (by decide) rfl (fun ls hl => ?_)
        refine lv_goto (tgt := 6) hx hb dX7_sum_72 (by decide) ?_
        exact hK6 _ _ h _ _ _ hP hD hS (lv_sub hl [3, 4, 0] rfl)
  · replace h := h.2 c14
    refine lv_iconst (v := (1 : Int32)) hx hb dX7_sum_33 (by decide) ?_
    refine lv_goto (tgt := 38) hx hb dX7_sum_34 (by decide) ?_
    refine lv_istore_n (lv' := [(3, .int (1 : Int32)), (0, .ref o), (1, .int v1), (2, .int v2)]) hx hb dX7_sum_38 rfl hl (by decide) rfl (fun ls hl => ?_)
    refine lv_aload_n hx hb dX7_sum_39 rfl (lv_at hl 1 rfl) ?_
    refine lv_dup hx hb dX7_sum_40 rfl ?_
    refine va_get hx hb hts in_X7 hown hK hP 0 rfl rfl 3 (Nat.le_of_ble_eq_true rfl) (hts _ q347) (u_same (hts _ q348)) (v := .int pw) rfl dX7_sum_41 ?_
    refine lv_iconst (v := (1 : Int32)) hx hb dX7_sum_44 (by decide) ?_
    refine lv_iadd hx hb dX7_sum_45 ?_
    refine pt_put (v := .int (pw + (1 : Int32))) hx hb hts in_X7 tyX7 tyX7_ok nmX7 hown hK hP hD hS 0 rfl rfl 3 (Nat.le_of_ble_eq_true rfl) (hts _ q347) (u_same (hts _ q348)) rfl (ty := .int) (by decide +kernel) rfl rfl (Nat.le_of_ble_eq_true rfl) dX7_sum_46 rfl (fun H locs hP hD hS => ?_)
    refine lv_aload_n hx hb dX7_sum_49 rfl (lv_at hl 1 rfl) ?_
    refine lv_iload_n hx hb dX7_sum_50 rfl (lv_at hl 2 rfl) ?_
    refine clx_i F (vx_runV (As := [.int v1]) (rest := []) ⟨hx, hb, hml, hown, hts⟩ (hrec2 h _) (cwV 1 hts (lw_V q545 q547 qs4 q105 q548) rfl rfl rfl (by decide +kernel) ⟨hRf, by have hh := hRl; show 8 + (_ + 11) + (167 + d * 24) ≤ _; omega⟩) ⟨ct_blind, va_recv hK hP (ci := 3) (q0 := 0) rfl rfl, ct_at F hS hP hD⟩ rfl rfl hl.1 rfl (lv_room (Nat.le_of_ble_eq_true rfl)) dX7_sum_51 ⟨hC1, hS7⟩) hD hS ?_ ?_
    · rintro q v_ pw12 H locs h hP hD hS
      exact rx_out (wx := fun u : (Int32) => (wRU gI o pt ox ax rn ak rt rm fd tx sz en u)) (QX := (fun (v : Int32) (u : (Int32)) => E v u)) F (fun x hx => (htab x hx).elim) (pw12) h hP hD hS (Nat.le_refl _) (Nat.le_refl _)
    · rintro x10 pw11 H locs h hP hD hS
      refine lv_istore (lv' := [(4, .int x10), (3, .int (1 : Int32)), (0, .ref o), (1, .int v1), (2, .int v2)]) hx hb dX7_sum_54 hl (by decide) rfl (fun ls hl => ?_)
      refine lv_iload_n hx hb dX7_sum_56 rfl (lv_at hl 1 rfl) ?_
      refine lv_if_eq (tgt := 67) hx hb dX7_sum_57 (by decide) (fun c13 => ?_) (fun c13 => ?_)
      · replace h := h.1 c13
        refine lv_iload_n hx hb dX7_sum_67 rfl (lv_at hl 4 rfl) ?_
        refine lv_iload hx hb dX7_sum_68 (lv_at hl 0 rfl) ?_
        refine lv_isub hx hb dX7_sum_70 ?_
        refine lv_istore_n (lv' := [(2, .int (v2 - x10)), (4, .int x10), (3, .int (1 : Int32)), (0, .ref o), (1, .int v1)]) hx hb dX7_sum_71 rfl hl (by decide) rfl (fun ls hl => ?_)
        refine lv_goto (tgt := 6) hx hb dX7_sum_72 (by decide) ?_
        exact hK6 _ _ h _ _ _ hP hD hS (lv_sub hl [3, 4, 0] rfl)
      · replace h := h.2 c13
        refine lv_iload_n hx hb dX7_sum_60 rfl (lv_at hl 4 rfl) ?_
        refine lv_iload hx hb dX7_sum_61 (lv_at hl 0 rfl) ?_
        refine lv_iadd hx hb dX7_sum_63 ?_
        refine lv_goto (tgt := 71) hx hb dX7_sum_64 (by decide) ?_
        refine lv_istore_n (lv' := [(2, .int (v2 + x10)), (4, .int x10), (3, .int (1 : Int32)), (0, .ref o), (1, .int v1)]) hx hb dX7_sum_71 rfl hl (by decide) rfl (fun ls hl => ?_)
        refine lv_goto (tgt := 6) hx hb dX7_sum_72 (by decide) ?_
        exact hK6 _ _ h _ _ _ hP hD hS (lv_sub hl [3, 4, 0] rfl)
set_option maxHeartbeats 4000000 in
theorem lp_R_sum_L1 {p : Program} {l : Launch} {e : Env} {R : Room} {s : State} {m : MethodId} {args : Array Value} {below : List Frame} {meth : Method} {c : Code} {A : Nat → Prop} {V : evT} {D : va_G} {gI : Nat → ClassId} {o : Nat} {pt : Nat} {ox : Nat} {ax : Nat → Nat} {rn : Option (Nat × Nat)} {v1 : Int32} {tx : Nat → Int32} {sz : Int32} {en : Int32} {ak : Int32} {rt : Int32} {rm : Int32} {fd : Nat → Int32} {Q : Int32 → (Int32) → Prop} {E : Int32 → (Int32) → Prop} {d : Nat} {rec : Nat → Int32 → (Nat → Int32) → (Int32) → (Int32) → (Int32) → (Int32) → (Int32) → (Int32) → (Nat → Int32) → (Int32 → (Int32) → Prop) → (Int32 → (Int32) → Prop) → Prop} {K75 : (Int32) → (Int32) → Prop} (F : ct_F p m c meth cX7_sum 5 s args RX7 (some .int) A V D vwCl (tyL gI)) (hRf : 9 + (d + 1) ≤ R.frames) (hRl : 167 + (d + 1) * 24 ≤ R.locals) (hC : 0 ≤ R.cells) (hSl : 0 ≤ R.slots) (hC1 : 1 ≤ R.cells) (hS7 : 7 ≤ R.slots) (htab : ∀ x ∈ c.exceptionTable.toList, False) (hlt : l.stackTraces = false)
    (hrec0 : ∀ {v1 : Int32} {tx : Nat → Int32} {sz : Int32} {en : Int32} {pw : Int32} {ak : Int32} {rt : Int32} {rm : Int32} {fd : Nat → Int32} {Q : Int32 → (Int32) → Prop} {E : Int32 → (Int32) → Prop}, rec 0 v1 tx sz en pw ak rt rm fd Q E → cx_i l V D (tyL gI) yX7_held cX7_held 3 .int { frames := 9 + d, cells := 1, slots := 7, locals := 167 + d * 24 } [.ref o, .int v1] (wRU gI o pt ox ax rn ak rt rm fd tx sz en pw) (fun u : (Int32) => (wRU gI o pt ox ax rn ak rt rm fd tx sz en u)) (fun (x : Int32) (u : (Int32)) => Q x u) (fun u : (Int32) => (wRU gI o pt ox ax rn ak rt rm fd tx sz en u)) (fun (v : Int32) (u : (Int32)) => E v u))
    (hrec1 : ∀ {v1 : Int32} {tx : Nat → Int32} {sz : Int32} {en : Int32} {pw : Int32} {ak : Int32} {rt : Int32} {rm : Int32} {fd : Nat → Int32} {Q : Int32 → (Int32) → Prop} {E : Int32 → (Int32) → Prop}, rec 1 v1 tx sz en pw ak rt rm fd Q E → cx_i l V D (tyL gI) yX7_sum cX7_sum 5 .int { frames := 9 + d, cells := 1, slots := 7, locals := 167 + d * 24 } [.ref o, .int v1] (wRU gI o pt ox ax rn ak rt rm fd tx sz en pw) (fun u : (Int32) => (wRU gI o pt ox ax rn ak rt rm fd tx sz en u)) (fun (x : Int32) (u : (Int32)) => Q x u) (fun u : (Int32) => (wRU gI o pt ox ax rn ak rt rm fd tx sz en u)) (fun (v : Int32) (u : (Int32)) => E v u))
    (hrec2 : ∀ {v1 : Int32} {tx : Nat → Int32} {sz : Int32} {en : Int32} {pw : Int32} {ak : Int32} {rt : Int32} {rm : Int32} {fd : Nat → Int32} {Q : Int32 → (Int32) → Prop} {E : Int32 → (Int32) → Prop}, rec 2 v1 tx sz en pw ak rt rm fd Q E → cx_i l V D (tyL gI) yX7_product cX7_product 5 .int { frames := 9 + d, cells := 1, slots := 7, locals := 167 + d * 24 } [.ref o, .int v1] (wRU gI o pt ox ax rn ak rt rm fd tx sz en pw) (fun u : (Int32) => (wRU gI o pt ox ax rn ak rt rm fd tx sz en u)) (fun (x : Int32) (u : (Int32)) => Q x u) (fun u : (Int32) => (wRU gI o pt ox ax rn ak rt rm fd tx sz en u)) (fun (v : Int32) (u : (Int32)) => E v u))
    (hrec3 : ∀ {v1 : Int32} {tx : Nat → Int32} {sz : Int32} {en : Int32} {pw : Int32} {ak : Int32} {rt : Int32} {rm : Int32} {fd : Nat → Int32} {Q : Int32 → (Int32) → Prop} {E : Int32 → (Int32) → Prop}, rec 3 v1 tx sz en pw ak rt rm fd Q E → cx_i l V D (tyL gI) yX7_thing cX7_thing 3 .int { frames := 9 + d, cells := 1, slots := 7, locals := 167 + d * 24 } [.ref o, .int v1] (wRU gI o pt ox ax rn ak rt rm fd tx sz en pw) (fun u : (Int32) => (wRU gI o pt ox ax rn ak rt rm fd tx sz en u)) (fun (x : Int32) (u : (Int32)) => Q x u) (fun u : (Int32) => (wRU gI o pt ox ax rn ak rt rm fd tx sz en u)) (fun (v : Int32) (u : (Int32)) => E v u))
    (hK75 : ∀ (v2 : Int32) (pw : Int32), K75 v2 pw → ∀ (H : Heap) (locs : List Loc) (ls : Array Slot), va_P D vwCl (wRU gI o pt ox ax rn ak rt rm fd tx sz en pw) H → va_D A (wRU gI o pt ox ax rn ak rt rm fd tx sz en pw) → va_S A s.heap H locs → lv_has ls 5 [(2, .int v2)] → W p l e R s m args below meth c H locs 0 0 (vx_MQ below (va_Qi (fun (x : Int32) (u : (Int32)) => Q x u) (fun u t => va_P D vwCl (wRU gI o pt ox ax rn ak rt rm fd tx sz en u) t.heap ∧ va_K D vwCl (tyL gI) t ∧ va_D A (wRU gI o pt ox ax rn ak rt rm fd tx sz en u)) A) (vx_X (S := Int32 × ((Int32))) (fun u => (fun (v : Int32) (u : (Int32)) => E v u) u.1 u.2) (fun E_ q u t => E_ = RX6 ∧ va_P D vwCl ((fun u : (Int32) => (wRU gI o pt ox ax rn ak rt rm fd tx sz en u)) u.2 ++ [fC q u.1]) t.heap ∧ va_K D vwCl (tyL gI) t ∧ va_D A ((fun u : (Int32) => (wRU gI o pt ox ax rn ak rt rm fd tx sz en u)) u.2 ++ [fC q u.1])) A) args s 1 7 A) (F0 m 75 ls [])) :
    ∀ (n : Nat) (v2 : Int32) (pw : Int32), wp_R_sum_L1 rec v1 tx sz en ak rt rm fd Q E K75 n v2 pw → ∀ (H : Heap) (locs : List Loc) (ls : Array Slot), va_P D vwCl (wRU gI o pt ox ax rn ak rt rm fd tx sz en pw) H → va_D A (wRU gI o pt ox ax rn ak rt rm fd tx sz en pw) → va_S A s.heap H locs → lv_has ls 5 [(0, .ref o), (1, .int v1), (2, .int v2)] → W p l e R s m args below meth c H locs 0 0 (vx_MQ below (va_Qi (fun (x : Int32) (u : (Int32)) => Q x u) (fun u t => va_P D vwCl (wRU gI o pt ox ax rn ak rt rm fd tx sz en u) t.heap ∧ va_K D vwCl (tyL gI) t ∧ va_D A (wRU gI o pt ox ax rn ak rt rm fd tx sz en u)) A) (vx_X (S := Int32 × ((Int32))) (fun u => (fun (v : Int32) (u : (Int32)) => E v u) u.1 u.2) (fun E_ q u t => E_ = RX6 ∧ va_P D vwCl ((fun u : (Int32) => (wRU gI o pt ox ax rn ak rt rm fd tx sz en u)) u.2 ++ [fC q u.1]) t.heap ∧ va_K D vwCl (tyL gI) t ∧ va_D A ((fun u : (Int32) => (wRU gI o pt ox ax rn ak rt rm fd tx sz en u)) u.2 ++ [fC q u.1])) A) args s 1 7 A) (F0 m 6 ls []) := by
  obtain ⟨⟨hx, hb, hml, hown, hts⟩, hr, hlocks, hA, hK, hE⟩ := id F
  intro n
  induction n with
  | zero => intro v2 pw h; exact h.elim
  | succ n ih =>
    intro v2 pw h H locs ls hP hD hS hl
    unfold wp_R_sum_L1 at h
    refine lv_aload_n hx hb dX7_sum_6 rfl (lv_at hl 0 rfl) ?_
    refine cl_i F (va_runU (As := []) (rest := []) ⟨hx, hb, hml, hown, hts⟩ (ct_W_hereR h _) (va_cwU (owner := RX5) 0 hts (lw_U q557 q558 q560 q440 q99 q445) rfl rfl rfl rfl (by decide +kernel) ⟨Nat.le_trans (Nat.le_of_ble_eq_true rfl) (Nat.le_trans (Nat.le_add_right 9 _) hRf), Nat.le_trans (Nat.le_of_ble_eq_true rfl) (Nat.le_trans (Nat.le_add_right 167 _) hRl)⟩) ⟨ct_blind, va_recv hK hP (ci := 3) (q0 := 0) rfl rfl, ct_at F hS hP hD⟩ rfl rfl hl.1 rfl (lv_room (Nat.le_of_ble_eq_true rfl)) dX7_sum_7 ⟨hC, hSl⟩) rfl rfl hD hS ?_
    rintro x4 _ H locs h hP hD hS
    refine lv_bipush (v := (43 : Int32)) hx hb dX7_sum_10 (by decide) ?_
    refine lv_icmp_eq (tgt := 24) hx hb dX7_sum_12 (by decide) (fun c21 => ?_) (fun c21 => ?_)
    · replace h := h.1 c21
      refine lp_R_sum_J2 F hRf hRl hC hSl hC1 hS7 htab hlt hrec0 hrec1 hrec2 hrec3 ?hk6 _ _ h _ _ _ hP hD hS (lv_sub hl [0, 1, 2] rfl)
      case hk6 =>
        intro v2_15 pw_16 h H locs ls hP hD hS hl
        exact ih _ _ h _ _ _ hP hD hS (lv_sub hl [0, 1, 2] rfl)
    · replace h := h.2 c21
      refine lv_aload_n hx hb dX7_sum_15 rfl (lv_at hl 0 rfl) ?_
      refine cl_i F (va_runU (As := []) (rest := []) ⟨hx, hb, hml, hown, hts⟩ (ct_W_hereR h _) (va_cwU (owner := RX5) 0 hts (lw_U q557 q558 q560 q440 q99 q445) rfl rfl rfl rfl (by decide +kernel) ⟨Nat.le_trans (Nat.le_of_ble_eq_true rfl) (Nat.le_trans (Nat.le_add_right 9 _) hRf), Nat.le_trans (Nat.le_of_ble_eq_true rfl) (Nat.le_trans (Nat.le_add_right 167 _) hRl)⟩) ⟨ct_blind, va_recv hK hP (ci := 3) (q0 := 0) rfl rfl, ct_at F hS hP hD⟩ rfl rfl hl.1 rfl (lv_room (Nat.le_of_ble_eq_true rfl)) dX7_sum_16 ⟨hC, hSl⟩) rfl rfl hD hS ?_
      rintro x17 _ H locs h hP hD hS
      refine lv_bipush (v := (45 : Int32)) hx hb dX7_sum_19 (by decide) ?_
      refine lv_icmp_ne (tgt := 75) hx hb dX7_sum_21 (by decide) (fun c20 => ?_) (fun c20 => ?_)
      · replace h := h.1 c20
        exact hK75 _ _ h _ _ _ hP hD hS (lv_sub hl [2] rfl)
      · replace h := h.2 c20
        refine lp_R_sum_J2 F hRf hRl hC hSl hC1 hS7 htab hlt hrec0 hrec1 hrec2 hrec3 ?hk6 _ _ h _ _ _ hP hD hS (lv_sub hl [0, 1, 2] rfl)
        case hk6 =>
          intro v2_18 pw_19 h H locs ls hP hD hS hl
          exact ih _ _ h _ _ _ hP hD hS (lv_sub hl [0, 1, 2] rfl)
set_option maxHeartbeats 4000000 in
theorem lp_R_product_J2 {p : Program} {l : Launch} {e : Env} {R : Room} {s : State} {m : MethodId} {args : Array Value} {below : List Frame} {meth : Method} {c : Code} {A : Nat → Prop} {V : evT} {D : va_G} {gI : Nat → ClassId} {o : Nat} {pt : Nat} {ox : Nat} {ax : Nat → Nat} {rn : Option (Nat × Nat)} {v1 : Int32} {tx : Nat → Int32} {sz : Int32} {en : Int32} {ak : Int32} {rt : Int32} {rm : Int32} {fd : Nat → Int32} {Q : Int32 → (Int32) → Prop} {E : Int32 → (Int32) → Prop} {d : Nat} {rec : Nat → Int32 → (Nat → Int32) → (Int32) → (Int32) → (Int32) → (Int32) → (Int32) → (Int32) → (Nat → Int32) → (Int32 → (Int32) → Prop) → (Int32 → (Int32) → Prop) → Prop} {K6 : (Int32) → (Int32) → Prop} (F : ct_F p m c meth cX7_product 5 s args RX7 (some .int) A V D vwCl (tyL gI)) (hRf : 9 + (d + 1) ≤ R.frames) (hRl : 167 + (d + 1) * 24 ≤ R.locals) (hC : 0 ≤ R.cells) (hSl : 0 ≤ R.slots) (hC1 : 1 ≤ R.cells) (hS7 : 7 ≤ R.slots) (htab : ∀ x ∈ c.exceptionTable.toList, False) (hlt : l.stackTraces = false)
    (hrec0 : ∀ {v1 : Int32} {tx : Nat → Int32} {sz : Int32} {en : Int32} {pw : Int32} {ak : Int32} {rt : Int32} {rm : Int32} {fd : Nat → Int32} {Q : Int32 → (Int32) → Prop} {E : Int32 → (Int32) → Prop}, rec 0 v1 tx sz en pw ak rt rm fd Q E → cx_i l V D (tyL gI) yX7_held cX7_held 3 .int { frames := 9 + d, cells := 1, slots := 7, locals := 167 + d * 24 } [.ref o, .int v1] (wRU gI o pt ox ax rn ak rt rm fd tx sz en pw) (fun u : (Int32) => (wRU gI o pt ox ax rn ak rt rm fd tx sz en u)) (fun (x : Int32) (u : (Int32)) => Q x u) (fun u : (Int32) => (wRU gI o pt ox ax rn ak rt rm fd tx sz en u)) (fun (v : Int32) (u : (Int32)) => E v u))
    (hrec1 : ∀ {v1 : Int32} {tx : Nat → Int32} {sz : Int32} {en : Int32} {pw : Int32} {ak : Int32} {rt : Int32} {rm : Int32} {fd : Nat → Int32} {Q : Int32 → (Int32) → Prop} {E : Int32 → (Int32) → Prop}, rec 1 v1 tx sz en pw ak rt rm fd Q E → cx_i l V D (tyL gI) yX7_sum cX7_sum 5 .int { frames := 9 + d, cells := 1, slots := 7, locals := 167 + d * 24 } [.ref o, .int v1] (wRU gI o pt ox ax rn ak rt rm fd tx sz en pw) (fun u : (Int32) => (wRU gI o pt ox ax rn ak rt rm fd tx sz en u)) (fun (x : Int32) (u : (Int32)) => Q x u) (fun u : (Int32) => (wRU gI o pt ox ax rn ak rt rm fd tx sz en u)) (fun (v : Int32) (u : (Int32)) => E v u))
    (hrec2 : ∀ {v1 : Int32} {tx : Nat → Int32} {sz : Int32} {en : Int32} {pw : Int32} {ak : Int32} {rt : Int32} {rm : Int32} {fd : Nat → Int32} {Q : Int32 → (Int32) → Prop} {E : Int32 → (Int32) → Prop}, rec 2 v1 tx sz en pw ak rt rm fd Q E → cx_i l V D (tyL gI) yX7_product cX7_product 5 .int { frames := 9 + d, cells := 1, slots := 7, locals := 167 + d * 24 } [.ref o, .int v1] (wRU gI o pt ox ax rn ak rt rm fd tx sz en pw) (fun u : (Int32) => (wRU gI o pt ox ax rn ak rt rm fd tx sz en u)) (fun (x : Int32) (u : (Int32)) => Q x u) (fun u : (Int32) => (wRU gI o pt ox ax rn ak rt rm fd tx sz en u)) (fun (v : Int32) (u : (Int32)) => E v u))
    (hrec3 : ∀ {v1 : Int32} {tx : Nat → Int32} {sz : Int32} {en : Int32} {pw : Int32} {ak : Int32} {rt : Int32} {rm : Int32} {fd : Nat → Int32} {Q : Int32 → (Int32) → Prop} {E : Int32 → (Int32) → Prop}, rec 3 v1 tx sz en pw ak rt rm fd Q E → cx_i l V D (tyL gI) yX7_thing cX7_thing 3 .int { frames := 9 + d, cells := 1, slots := 7, locals := 167 + d * 24 } [.ref o, .int v1] (wRU gI o pt ox ax rn ak rt rm fd tx sz en pw) (fun u : (Int32) => (wRU gI o pt ox ax rn ak rt rm fd tx sz en u)) (fun (x : Int32) (u : (Int32)) => Q x u) (fun u : (Int32) => (wRU gI o pt ox ax rn ak rt rm fd tx sz en u)) (fun (v : Int32) (u : (Int32)) => E v u))
    (hK6 : ∀ (v2 : Int32) (pw : Int32), K6 v2 pw → ∀ (H : Heap) (locs : List Loc) (ls : Array Slot), va_P D vwCl (wRU gI o pt ox ax rn ak rt rm fd tx sz en pw) H → va_D A (wRU gI o pt ox ax rn ak rt rm fd tx sz en pw) → va_S A s.heap H locs → lv_has ls 5 [(0, .ref o), (1, .int v1), (2, .int v2)] → W p l e R s m args below meth c H locs 0 0 (vx_MQ below (va_Qi (fun (x : Int32) (u : (Int32)) => Q x u) (fun u t => va_P D vwCl (wRU gI o pt ox ax rn ak rt rm fd tx sz en u) t.heap ∧ va_K D vwCl (tyL gI) t ∧ va_D A (wRU gI o pt ox ax rn ak rt rm fd tx sz en u)) A) (vx_X (S := Int32 × ((Int32))) (fun u => (fun (v : Int32) (u : (Int32)) => E v u) u.1 u.2) (fun E_ q u t => E_ = RX6 ∧ va_P D vwCl ((fun u : (Int32) => (wRU gI o pt ox ax rn ak rt rm fd tx sz en u)) u.2 ++ [fC q u.1]) t.heap ∧ va_K D vwCl (tyL gI) t ∧ va_D A ((fun u : (Int32) => (wRU gI o pt ox ax rn ak rt rm fd tx sz en u)) u.2 ++ [fC q u.1])) A) args s 1 7 A) (F0 m 6 ls [])) :
    ∀ (v2 : Int32) (pw : Int32), wp_R_product_J2 rec v1 tx sz en ak rt rm fd Q E K6 v2 pw → ∀ (H : Heap) (locs : List Loc) (ls : Array Slot), va_P D vwCl (wRU gI o pt ox ax rn ak rt rm fd tx sz en pw) H → va_D A (wRU gI o pt ox ax rn ak rt rm fd tx sz en pw) → va_S A s.heap H locs → lv_has ls 5 [(0, .ref o), (1, .int v1), (2, .int v2)] → W p l e R s m args below meth c H locs 0 0 (vx_MQ below (va_Qi (fun (x : Int32) (u : (Int32)) => Q x u) (fun u t => va_P D vwCl (wRU gI o pt ox ax rn ak rt rm fd tx sz en u) t.heap ∧ va_K D vwCl (tyL gI) t ∧ va_D A (wRU gI o pt ox ax rn ak rt rm fd tx sz en u)) A) (vx_X (S := Int32 × ((Int32))) (fun u => (fun (v : Int32) (u : (Int32)) => E v u) u.1 u.2) (fun E_ q u t => E_ = RX6 ∧ va_P D vwCl ((fun u : (Int32) => (wRU gI o pt ox ax rn ak rt rm fd tx sz en u)) u.2 ++ [fC q u.1]) t.heap ∧ va_K D vwCl (tyL gI) t ∧ va_D A ((fun u : (Int32) => (wRU gI o pt ox ax rn ak rt rm fd tx sz en u)) u.2 ++ [fC q u.1])) A) args s 1 7 A) (F0 m 24 ls []) := by
  obtain ⟨⟨hx, hb, hml, hown, hts⟩, hr, hlocks, hA, hK, hE⟩ := id F
  intro v2 pw h H locs ls hP hD hS hl
  unfold wp_R_product_J2 at h
  refine lv_aload_n hx hb dX7_product_24 rfl (lv_at hl 0 rfl) ?_
  refine cl_i F (va_runU (As := []) (rest := []) ⟨hx, hb, hml, hown, hts⟩ (ct_W_hereR h _) (va_cwU (owner := RX5) 0 hts (lw_U q557 q558 q560 q440 q99 q445) rfl rfl rfl rfl (by decide +kernel) ⟨Nat.le_trans (Nat.le_of_ble_eq_true rfl) (Nat.le_trans (Nat.le_add_right 9 _) hRf), Nat.le_trans (Nat.le_of_ble_eq_true rfl) (Nat.le_trans (Nat.le_add_right 167 _) hRl)⟩) ⟨ct_blind, va_recv hK hP (ci := 3) (q0 := 0) rfl rfl, ct_at F hS hP hD⟩ rfl rfl hl.1 rfl (lv_room (Nat.le_of_ble_eq_true rfl)) dX7_product_25 ⟨hC, hSl⟩) rfl rfl hD hS ?_
  rintro x5 _ H locs h hP hD hS
  refine lv_bipush (v := (42 : Int32)) hx hb dX7_product_28 (by decide) ?_
  refine lv_icmp_ne (tgt := 37) hx hb dX7_product_30 (by decide) (fun c16 => ?_) (fun c16 => ?_)
  · replace h := h.1 c16
    refine lv_iconst (v := (0 : Int32)) hx hb dX7_product_37 (by decide) ?_
    refine lv_istore_n (lv' := [(3, .int (0 : Int32)), (0, .ref o), (1, .int v1), (2, .int v2)]) hx hb dX7_product_38 rfl hl (by decide) rfl (fun ls hl => ?_)
    refine lv_aload_n hx hb dX7_product_39 rfl (lv_at hl 1 rfl) ?_
    refine lv_dup hx hb dX7_product_40 rfl ?_
    refine va_get hx hb hts in_X7 hown hK hP 0 rfl rfl 3 (Nat.le_of_ble_eq_true rfl) (hts _ q347) (u_same (hts _ q348)) (v := .int pw) rfl dX7_product_41 ?_
    refine lv_iconst (v := (1 : Int32)) hx hb dX7_product_44 (by decide) ?_
    refine lv_iadd hx hb dX7_product_45 ?_
    refine pt_put (v := .int (pw + (1 : Int32))) hx hb hts in_X7 tyX7 tyX7_ok nmX7 hown hK hP hD hS 0 rfl rfl 3 (Nat.le_of_ble_eq_true rfl) (hts _ q347) (u_same (hts _ q348)) rfl (ty := .int) (by decide +kernel) rfl rfl (Nat.le_of_ble_eq_true rfl) dX7_product_46 rfl (fun H locs hP hD hS => ?_)
    refine lv_aload_n hx hb dX7_product_49 rfl (lv_at hl 1 rfl) ?_
    refine lv_iload_n hx hb dX7_product_50 rfl (lv_at hl 2 rfl) ?_
    refine clx_i F (vx_runV (As := [.int v1]) (rest := []) ⟨hx, hb, hml, hown, hts⟩ (hrec3 h _) (cwV 1 hts (lw_V q549 q551 qs5 q105 q552) rfl rfl rfl (by decide +kernel) ⟨hRf, by have hh := hRl; show 8 + (_ + 11) + (167 + d * 24) ≤ _; omega⟩) ⟨ct_blind, va_recv hK hP (ci := 3) (q0 := 0) rfl rfl, ct_at F hS hP hD⟩ rfl rfl hl.1 rfl (lv_room (Nat.le_of_ble_eq_true rfl)) dX7_product_51 ⟨hC1, hS7⟩) hD hS ?_ ?_
    · rintro q v_ pw8 H locs h hP hD hS
      exact rx_out (wx := fun u : (Int32) => (wRU gI o pt ox ax rn ak rt rm fd tx sz en u)) (QX := (fun (v : Int32) (u : (Int32)) => E v u)) F (fun x hx => (htab x hx).elim) (pw8) h hP hD hS (Nat.le_refl _) (Nat.le_refl _)
    · rintro x6 pw7 H locs h hP hD hS
      refine lv_istore (lv' := [(4, .int x6), (3, .int (0 : Int32)), (0, .ref o), (1, .int v1), (2, .int v2)]) hx hb dX7_product_54 hl (by decide) rfl (fun ls hl => ?_)
      refine lv_iload_n hx hb dX7_product_56 rfl (lv_at hl 1 rfl) ?_
      refine lv_if_eq (tgt := 67) hx hb dX7_product_57 (by decide) (fun c10 => ?_) (fun c10 => ?_)
      · replace h := h.1 c10
        refine lv_iload hx hb dX7_product_67 (lv_at hl 0 rfl) ?_
        refine lv_if_ne (tgt := 76) hx hb dX7_product_69 (by decide) (fun c9 => ?_) (fun c9 => ?_)
        · replace h := h.1 c9
          refine lv_iload_n hx hb dX7_product_76 rfl (lv_at hl 4 rfl) ?_
          refine lv_iload hx hb dX7_product_77 (lv_at hl 0 rfl) ?_
          refine lv_idiv hx hb dX7_product_79 h.1 ?_
          replace h := h.2
          refine lv_istore_n (lv' := [(2, .int (v2 / x6)), (4, .int x6), (3, .int (0 : Int32)), (0, .ref o), (1, .int v1)]) hx hb dX7_product_80 rfl hl (by decide) rfl (fun ls hl => ?_)
          refine lv_goto (tgt := 6) hx hb dX7_product_81 (by decide) ?_
          exact hK6 _ _ h _ _ _ hP hD hS (lv_sub hl [3, 4, 0] rfl)
        · replace h := h.2 c9
          refine lv_iconst (v := (0 : Int32)) hx hb dX7_product_72 (by decide) ?_
          refine lv_goto (tgt := 80) hx hb dX7_product_73 (by decide) ?_
          refine lv_istore_n (lv' := [(2, .int (0 : Int32)), (4, .int x6), (3, .int (0 : Int32)), (0, .ref o), (1, .int v1)]) hx hb dX7_product_80 rfl hl (by decide) rfl (fun ls hl => ?_)
          refine lv_goto (tgt := 6) hx hb dX7_product_81 (by decide) ?_
          exact hK6 _ _ h _ _ _ hP hD hS (lv_sub hl [3, 4, 0] rfl)
      · replace h := h.2 c10
        refine lv_iload_n hx hb dX7_product_60 rfl (lv_at hl 4 rfl) ?_
        refine lv_iload hx hb dX7_product_61 (lv_at hl 0 rfl) ?_
        refine lv_imul hx hb dX7_product_63 ?_
        refine lv_goto (tgt := 80) hx hb dX7_product_64 (by decide) ?_
        refine lv_istore_n (lv' := [(2, .int (v2 * x6)), (4, .int x6), (3, .int (0 : Int32)), (0, .ref o), (1, .int v1)]) hx hb dX7_product_80 rfl hl (by decide) rfl (fun ls hl => ?_)
        refine lv_goto (tgt := 6) hx hb dX7_product_81 (by decide) ?_
        exact hK6 _ _ h _ _ _ hP hD hS (lv_sub hl [3, 4, 0] rfl)
  · replace h := h.2 c16
    refine lv_iconst (v := (1 : Int32)) hx hb dX7_product_33 (by decide) ?_
    refine lv_goto (tgt := 38) hx hb dX7_product_34 (by decide) ?_
    refine lv_istore_n (lv' := [(3, .int (1 : Int32)), (0, .ref o), (1, .int v1), (2, .int v2)]) hx hb dX7_product_38 rfl hl (by decide) rfl (fun ls hl => ?_)
    refine lv_aload_n hx hb dX7_product_39 rfl (lv_at hl 1 rfl) ?_
    refine lv_dup hx hb dX7_product_40 rfl ?_
    refine va_get hx hb hts in_X7 hown hK hP 0 rfl rfl 3 (Nat.le_of_ble_eq_true rfl) (hts _ q347) (u_same (hts _ q348)) (v := .int pw) rfl dX7_product_41 ?_
    refine lv_iconst (v := (1 : Int32)) hx hb dX7_product_44 (by decide) ?_
    refine lv_iadd hx hb dX7_product_45 ?_
    refine pt_put (v := .int (pw + (1 : Int32))) hx hb hts in_X7 tyX7 tyX7_ok nmX7 hown hK hP hD hS 0 rfl rfl 3 (Nat.le_of_ble_eq_true rfl) (hts _ q347) (u_same (hts _ q348)) rfl (ty := .int) (by decide +kernel) rfl rfl (Nat.le_of_ble_eq_true rfl) dX7_product_46 rfl (fun H locs hP hD hS => ?_)
    refine lv_aload_n hx hb dX7_product_49 rfl (lv_at hl 1 rfl) ?_
    refine lv_iload_n hx hb dX7_product_50 rfl (lv_at hl 2 rfl) ?_
    refine clx_i F (vx_runV (As := [.int v1]) (rest := []) ⟨hx, hb, hml, hown, hts⟩ (hrec3 h _) (cwV 1 hts (lw_V q549 q551 qs5 q105 q552) rfl rfl rfl (by decide +kernel) ⟨hRf, by have hh := hRl; show 8 + (_ + 11) + (167 + d * 24) ≤ _; omega⟩) ⟨ct_blind, va_recv hK hP (ci := 3) (q0 := 0) rfl rfl, ct_at F hS hP hD⟩ rfl rfl hl.1 rfl (lv_room (Nat.le_of_ble_eq_true rfl)) dX7_product_51 ⟨hC1, hS7⟩) hD hS ?_ ?_
    · rintro q v_ pw13 H locs h hP hD hS
      exact rx_out (wx := fun u : (Int32) => (wRU gI o pt ox ax rn ak rt rm fd tx sz en u)) (QX := (fun (v : Int32) (u : (Int32)) => E v u)) F (fun x hx => (htab x hx).elim) (pw13) h hP hD hS (Nat.le_refl _) (Nat.le_refl _)
    · rintro x11 pw12 H locs h hP hD hS
      refine lv_istore (lv' := [(4, .int x11), (3, .int (1 : Int32)), (0, .ref o), (1, .int v1), (2, .int v2)]) hx hb dX7_product_54 hl (by decide) rfl (fun ls hl => ?_)
      refine lv_iload_n hx hb dX7_product_56 rfl (lv_at hl 1 rfl) ?_
      refine lv_if_eq (tgt := 67) hx hb dX7_product_57 (by decide) (fun c15 => ?_) (fun c15 => ?_)
      · replace h := h.1 c15
        refine lv_iload hx hb dX7_product_67 (lv_at hl 0 rfl) ?_
        refine lv_if_ne (tgt := 76) hx hb dX7_product_69 (by decide) (fun c14 => ?_) (fun c14 => ?_)
        · replace h := h.1 c14
          refine lv_iload_n hx hb dX7_product_76 rfl (lv_at hl 4 rfl) ?_
          refine lv_iload hx hb dX7_product_77 (lv_at hl 0 rfl) ?_
          refine lv_idiv hx hb dX7_product_79 h.1 ?_
          replace h := h.2
          refine lv_istore_n (lv' := [(2, .int (v2 / x11)), (4, .int x11), (3, .int (1 : Int32)), (0, .ref o), (1, .int v1)]) hx hb dX7_product_80 rfl hl (by decide) rfl (fun ls hl => ?_)
          refine lv_goto (tgt := 6) hx hb dX7_product_81 (by decide) ?_
          exact hK6 _ _ h _ _ _ hP hD hS (lv_sub hl [3, 4, 0] rfl)
        · replace h := h.2 c14
          refine lv_iconst (v := (0 : Int32)) hx hb dX7_product_72 (by decide) ?_
          refine lv_goto (tgt := 80) hx hb dX7_product_73 (by decide) ?_
          refine lv_istore_n (lv' := [(2, .int (0 : Int32)), (4, .int x11), (3, .int (1 : Int32)), (0, .ref o), (1, .int v1)]) hx hb dX7_product_80 rfl hl (by decide) rfl (fun ls hl => ?_)
          refine lv_goto (tgt := 6) hx hb dX7_product_81 (by decide) ?_
          exact hK6 _ _ h _ _ _ hP hD hS (lv_sub hl [3, 4, 0] rfl)
      · replace h := h.2 c15
        refine lv_iload_n hx hb dX7_product_60 rfl (lv_at hl 4 rfl) ?_
        refine lv_iload hx hb dX7_product_61 (lv_at hl 0 rfl) ?_
        refine lv_imul hx hb dX7_product_63 ?_
        refine lv_goto (tgt := 80) hx hb dX7_product_64 (by decide) ?_
        refine lv_istore_n (lv' := [(2, .int (v2 * x11)), (4, .int x11), (3, .int (1 : Int32)), (0, .ref o), (1, .int v1)]) hx hb dX7_product_80 rfl hl (by decide) rfl (fun ls hl => ?_)
        refine lv_goto (tgt := 6) hx hb dX7_product_81 (by decide) ?_
        exact hK6 _ _ h _ _ _ hP hD hS (lv_sub hl [3, 4, 0] rfl)
set_option maxHeartbeats 4000000 in
theorem lp_R_product_L1 {p : Program} {l : Launch} {e : Env} {R : Room} {s : State} {m : MethodId} {args : Array Value} {below : List Frame} {meth : Method} {c : Code} {A : Nat → Prop} {V : evT} {D : va_G} {gI : Nat → ClassId} {o : Nat} {pt : Nat} {ox : Nat} {ax : Nat → Nat} {rn : Option (Nat × Nat)} {v1 : Int32} {tx : Nat → Int32} {sz : Int32} {en : Int32} {ak : Int32} {rt : Int32} {rm : Int32} {fd : Nat → Int32} {Q : Int32 → (Int32) → Prop} {E : Int32 → (Int32) → Prop} {d : Nat} {rec : Nat → Int32 → (Nat → Int32) → (Int32) → (Int32) → (Int32) → (Int32) → (Int32) → (Int32) → (Nat → Int32) → (Int32 → (Int32) → Prop) → (Int32 → (Int32) → Prop) → Prop} {K84 : (Int32) → (Int32) → Prop} (F : ct_F p m c meth cX7_product 5 s args RX7 (some .int) A V D vwCl (tyL gI)) (hRf : 9 + (d + 1) ≤ R.frames) (hRl : 167 + (d + 1) * 24 ≤ R.locals) (hC : 0 ≤ R.cells) (hSl : 0 ≤ R.slots) (hC1 : 1 ≤ R.cells) (hS7 : 7 ≤ R.slots) (htab : ∀ x ∈ c.exceptionTable.toList, False) (hlt : l.stackTraces = false)
    (hrec0 : ∀ {v1 : Int32} {tx : Nat → Int32} {sz : Int32} {en : Int32} {pw : Int32} {ak : Int32} {rt : Int32} {rm : Int32} {fd : Nat → Int32} {Q : Int32 → (Int32) → Prop} {E : Int32 → (Int32) → Prop}, rec 0 v1 tx sz en pw ak rt rm fd Q E → cx_i l V D (tyL gI) yX7_held cX7_held 3 .int { frames := 9 + d, cells := 1, slots := 7, locals := 167 + d * 24 } [.ref o, .int v1] (wRU gI o pt ox ax rn ak rt rm fd tx sz en pw) (fun u : (Int32) => (wRU gI o pt ox ax rn ak rt rm fd tx sz en u)) (fun (x : Int32) (u : (Int32)) => Q x u) (fun u : (Int32) => (wRU gI o pt ox ax rn ak rt rm fd tx sz en u)) (fun (v : Int32) (u : (Int32)) => E v u))
    (hrec1 : ∀ {v1 : Int32} {tx : Nat → Int32} {sz : Int32} {en : Int32} {pw : Int32} {ak : Int32} {rt : Int32} {rm : Int32} {fd : Nat → Int32} {Q : Int32 → (Int32) → Prop} {E : Int32 → (Int32) → Prop}, rec 1 v1 tx sz en pw ak rt rm fd Q E → cx_i l V D (tyL gI) yX7_sum cX7_sum 5 .int { frames := 9 + d, cells := 1, slots := 7, locals := 167 + d * 24 } [.ref o, .int v1] (wRU gI o pt ox ax rn ak rt rm fd tx sz en pw) (fun u : (Int32) => (wRU gI o pt ox ax rn ak rt rm fd tx sz en u)) (fun (x : Int32) (u : (Int32)) => Q x u) (fun u : (Int32) => (wRU gI o pt ox ax rn ak rt rm fd tx sz en u)) (fun (v : Int32) (u : (Int32)) => E v u))
    (hrec2 : ∀ {v1 : Int32} {tx : Nat → Int32} {sz : Int32} {en : Int32} {pw : Int32} {ak : Int32} {rt : Int32} {rm : Int32} {fd : Nat → Int32} {Q : Int32 → (Int32) → Prop} {E : Int32 → (Int32) → Prop}, rec 2 v1 tx sz en pw ak rt rm fd Q E → cx_i l V D (tyL gI) yX7_product cX7_product 5 .int { frames := 9 + d, cells := 1, slots := 7, locals := 167 + d * 24 } [.ref o, .int v1] (wRU gI o pt ox ax rn ak rt rm fd tx sz en pw) (fun u : (Int32) => (wRU gI o pt ox ax rn ak rt rm fd tx sz en u)) (fun (x : Int32) (u : (Int32)) => Q x u) (fun u : (Int32) => (wRU gI o pt ox ax rn ak rt rm fd tx sz en u)) (fun (v : Int32) (u : (Int32)) => E v u))
    (hrec3 : ∀ {v1 : Int32} {tx : Nat → Int32} {sz : Int32} {en : Int32} {pw : Int32} {ak : Int32} {rt : Int32} {rm : Int32} {fd : Nat → Int32} {Q : Int32 → (Int32) → Prop} {E : Int32 → (Int32) → Prop}, rec 3 v1 tx sz en pw ak rt rm fd Q E → cx_i l V D (tyL gI) yX7_thing cX7_thing 3 .int { frames := 9 + d, cells := 1, slots := 7, locals := 167 + d * 24 } [.ref o, .int v1] (wRU gI o pt ox ax rn ak rt rm fd tx sz en pw) (fun u : (Int32) => (wRU gI o pt ox ax rn ak rt rm fd tx sz en u)) (fun (x : Int32) (u : (Int32)) => Q x u) (fun u : (Int32) => (wRU gI o pt ox ax rn ak rt rm fd tx sz en u)) (fun (v : Int32) (u : (Int32)) => E v u))
    (hK84 : ∀ (v2 : Int32) (pw : Int32), K84 v2 pw → ∀ (H : Heap) (locs : List Loc) (ls : Array Slot), va_P D vwCl (wRU gI o pt ox ax rn ak rt rm fd tx sz en pw) H → va_D A (wRU gI o pt ox ax rn ak rt rm fd tx sz en pw) → va_S A s.heap H locs → lv_has ls 5 [(2, .int v2)] → W p l e R s m args below meth c H locs 0 0 (vx_MQ below (va_Qi (fun (x : Int32) (u : (Int32)) => Q x u) (fun u t => va_P D vwCl (wRU gI o pt ox ax rn ak rt rm fd tx sz en u) t.heap ∧ va_K D vwCl (tyL gI) t ∧ va_D A (wRU gI o pt ox ax rn ak rt rm fd tx sz en u)) A) (vx_X (S := Int32 × ((Int32))) (fun u => (fun (v : Int32) (u : (Int32)) => E v u) u.1 u.2) (fun E_ q u t => E_ = RX6 ∧ va_P D vwCl ((fun u : (Int32) => (wRU gI o pt ox ax rn ak rt rm fd tx sz en u)) u.2 ++ [fC q u.1]) t.heap ∧ va_K D vwCl (tyL gI) t ∧ va_D A ((fun u : (Int32) => (wRU gI o pt ox ax rn ak rt rm fd tx sz en u)) u.2 ++ [fC q u.1])) A) args s 1 7 A) (F0 m 84 ls [])) :
    ∀ (n : Nat) (v2 : Int32) (pw : Int32), wp_R_product_L1 rec v1 tx sz en ak rt rm fd Q E K84 n v2 pw → ∀ (H : Heap) (locs : List Loc) (ls : Array Slot), va_P D vwCl (wRU gI o pt ox ax rn ak rt rm fd tx sz en pw) H → va_D A (wRU gI o pt ox ax rn ak rt rm fd tx sz en pw) → va_S A s.heap H locs → lv_has ls 5 [(0, .ref o), (1, .int v1), (2, .int v2)] → W p l e R s m args below meth c H locs 0 0 (vx_MQ below (va_Qi (fun (x : Int32) (u : (Int32)) => Q x u) (fun u t => va_P D vwCl (wRU gI o pt ox ax rn ak rt rm fd tx sz en u) t.heap ∧ va_K D vwCl (tyL gI) t ∧ va_D A (wRU gI o pt ox ax rn ak rt rm fd tx sz en u)) A) (vx_X (S := Int32 × ((Int32))) (fun u => (fun (v : Int32) (u : (Int32)) => E v u) u.1 u.2) (fun E_ q u t => E_ = RX6 ∧ va_P D vwCl ((fun u : (Int32) => (wRU gI o pt ox ax rn ak rt rm fd tx sz en u)) u.2 ++ [fC q u.1]) t.heap ∧ va_K D vwCl (tyL gI) t ∧ va_D A ((fun u : (Int32) => (wRU gI o pt ox ax rn ak rt rm fd tx sz en u)) u.2 ++ [fC q u.1])) A) args s 1 7 A) (F0 m 6 ls []) := by
  obtain ⟨⟨hx, hb, hml, hown, hts⟩, hr, hlocks, hA, hK, hE⟩ := id F
  intro n
  induction n with
  | zero => intro v2 pw h; exact h.elim
  | succ n ih =>
    intro v2 pw h H locs ls hP hD hS hl
    unfold wp_R_product_L1 at h
    refine lv_aload_n hx hb dX7_product_6 rfl (lv_at hl 0 rfl) ?_
    refine cl_i F (va_runU (As := []) (rest := []) ⟨hx, hb, hml, hown, hts⟩ (ct_W_hereR h _) (va_cwU (owner := RX5) 0 hts (lw_U q557 q558 q560 q440 q99 q445) rfl rfl rfl rfl (by decide +kernel) ⟨Nat.le_trans (Nat.le_of_ble_eq_true rfl) (Nat.le_trans (Nat.le_add_right 9 _) hRf), Nat.le_trans (Nat.le_of_ble_eq_true rfl) (Nat.le_trans (Nat.le_add_right 167 _) hRl)⟩) ⟨ct_blind, va_recv hK hP (ci := 3) (q0 := 0) rfl rfl, ct_at F hS hP hD⟩ rfl rfl hl.1 rfl (lv_room (Nat.le_of_ble_eq_true rfl)) dX7_product_7 ⟨hC, hSl⟩) rfl rfl hD hS ?_
    rintro x4 _ H locs h hP hD hS
    refine lv_bipush (v := (42 : Int32)) hx hb dX7_product_10 (by decide) ?_
    refine lv_icmp_eq (tgt := 24) hx hb dX7_product_12 (by decide) (fun c23 => ?_) (fun c23 => ?_)
    · replace h := h.1 c23
      refine lp_R_product_J2 F hRf hRl hC hSl hC1 hS7 htab hlt hrec0 hrec1 hrec2 hrec3 ?hk6 _ _ h _ _ _ hP hD hS (lv_sub hl [0, 1, 2] rfl)
      case hk6 =>
        intro v2_17 pw_18 h H locs ls hP hD hS hl
        exact ih _ _ h _ _ _ hP hD hS (lv_sub hl [0, 1, 2] rfl)
    · replace h := h.2 c23
      refine lv_aload_n hx hb dX7_product_15 rfl (lv_at hl 0 rfl) ?_
      refine cl_i F (va_runU (As := []) (rest := []) ⟨hx, hb, hml, hown, hts⟩ (ct_W_hereR h _) (va_cwU (owner := RX5) 0 hts (lw_U q557 q558 q560 q440 q99 q445) rfl rfl rfl rfl (by decide +kernel) ⟨Nat.le_trans (Nat.le_of_ble_eq_true rfl) (Nat.le_trans (Nat.le_add_right 9 _) hRf), Nat.le_trans (Nat.le_of_ble_eq_true rfl) (Nat.le_trans (Nat.le_add_right 167 _) hRl)⟩) ⟨ct_blind, va_recv hK hP (ci := 3) (q0 := 0) rfl rfl, ct_at F hS hP hD⟩ rfl rfl hl.1 rfl (lv_room (Nat.le_of_ble_eq_true rfl)) dX7_product_16 ⟨hC, hSl⟩) rfl rfl hD hS ?_
      rintro x19 _ H locs h hP hD hS
      refine lv_bipush (v := (47 : Int32)) hx hb dX7_product_19 (by decide) ?_
      refine lv_icmp_ne (tgt := 84) hx hb dX7_product_21 (by decide) (fun c22 => ?_) (fun c22 => ?_)
      · replace h := h.1 c22
        exact hK84 _ _ h _ _ _ hP hD hS (lv_sub hl [2] rfl)
      · replace h := h.2 c22
        refine lp_R_product_J2 F hRf hRl hC hSl hC1 hS7 htab hlt hrec0 hrec1 hrec2 hrec3 ?hk6 _ _ h _ _ _ hP hD hS (lv_sub hl [0, 1, 2] rfl)
        case hk6 =>
          intro v2_20 pw_21 h H locs ls hP hD hS hl
          exact ih _ _ h _ _ _ hP hD hS (lv_sub hl [0, 1, 2] rfl)
set_option maxHeartbeats 4000000 in
theorem ctg_R_held {l : Launch} {V : evT} {D : va_G} {gI : Nat → ClassId} {o : Nat} {pt : Nat} {ox : Nat} {ax : Nat → Nat} {rn : Option (Nat × Nat)} (hlt : l.stackTraces = false) : ∀ d : Nat, (∀ {v1 : Int32} {tx : Nat → Int32} {sz : Int32} {en : Int32} {pw : Int32} {ak : Int32} {rt : Int32} {rm : Int32} {fd : Nat → Int32} {Q : Int32 → (Int32) → Prop} {E : Int32 → (Int32) → Prop}, wp_R_held d 0 v1 tx sz en pw ak rt rm fd Q E → cx_i l V D (tyL gI) yX7_held cX7_held 3 .int { frames := 9 + d, cells := 1, slots := 7, locals := 167 + d * 24 } [.ref o, .int v1] (wRU gI o pt ox ax rn ak rt rm fd tx sz en pw) (fun u : (Int32) => (wRU gI o pt ox ax rn ak rt rm fd tx sz en u)) (fun (x : Int32) (u : (Int32)) => Q x u) (fun u : (Int32) => (wRU gI o pt ox ax rn ak rt rm fd tx sz en u)) (fun (v : Int32) (u : (Int32)) => E v u)) ∧
    (∀ {v1 : Int32} {tx : Nat → Int32} {sz : Int32} {en : Int32} {pw : Int32} {ak : Int32} {rt : Int32} {rm : Int32} {fd : Nat → Int32} {Q : Int32 → (Int32) → Prop} {E : Int32 → (Int32) → Prop}, wp_R_held d 1 v1 tx sz en pw ak rt rm fd Q E → cx_i l V D (tyL gI) yX7_sum cX7_sum 5 .int { frames := 9 + d, cells := 1, slots := 7, locals := 167 + d * 24 } [.ref o, .int v1] (wRU gI o pt ox ax rn ak rt rm fd tx sz en pw) (fun u : (Int32) => (wRU gI o pt ox ax rn ak rt rm fd tx sz en u)) (fun (x : Int32) (u : (Int32)) => Q x u) (fun u : (Int32) => (wRU gI o pt ox ax rn ak rt rm fd tx sz en u)) (fun (v : Int32) (u : (Int32)) => E v u)) ∧
    (∀ {v1 : Int32} {tx : Nat → Int32} {sz : Int32} {en : Int32} {pw : Int32} {ak : Int32} {rt : Int32} {rm : Int32} {fd : Nat → Int32} {Q : Int32 → (Int32) → Prop} {E : Int32 → (Int32) → Prop}, wp_R_held d 2 v1 tx sz en pw ak rt rm fd Q E → cx_i l V D (tyL gI) yX7_product cX7_product 5 .int { frames := 9 + d, cells := 1, slots := 7, locals := 167 + d * 24 } [.ref o, .int v1] (wRU gI o pt ox ax rn ak rt rm fd tx sz en pw) (fun u : (Int32) => (wRU gI o pt ox ax rn ak rt rm fd tx sz en u)) (fun (x : Int32) (u : (Int32)) => Q x u) (fun u : (Int32) => (wRU gI o pt ox ax rn ak rt rm fd tx sz en u)) (fun (v : Int32) (u : (Int32)) => E v u)) ∧
    (∀ {v1 : Int32} {tx : Nat → Int32} {sz : Int32} {en : Int32} {pw : Int32} {ak : Int32} {rt : Int32} {rm : Int32} {fd : Nat → Int32} {Q : Int32 → (Int32) → Prop} {E : Int32 → (Int32) → Prop}, wp_R_held d 3 v1 tx sz en pw ak rt rm fd Q E → cx_i l V D (tyL gI) yX7_thing cX7_thing 3 .int { frames := 9 + d, cells := 1, slots := 7, locals := 167 + d * 24 } [.ref o, .int v1] (wRU gI o pt ox ax rn ak rt rm fd tx sz en pw) (fun u : (Int32) => (wRU gI o pt ox ax rn ak rt rm fd tx sz en u)) (fun (x : Int32) (u : (Int32)) => Q x u) (fun u : (Int32) => (wRU gI o pt ox ax rn ak rt rm fd tx sz en u)) (fun (v : Int32) (u : (Int32)) => E v u)) := by
  intro d
  induction d with
  | zero => exact ⟨fun h => False.elim h, fun h => False.elim h, fun h => False.elim h, fun h => False.elim h⟩
  | succ d ih =>
    obtain ⟨hrec0, hrec1, hrec2, hrec3⟩ := ih
    constructor
    · intro v1 tx sz en pw ak rt rm fd Q E h
      refine cx_ofi RX7 rfl (by decide +kernel) (Nat.le_of_ble_eq_true rfl) ?_
      intro p e s m args below meth c A F htab hP hD ls hl
      obtain ⟨⟨hx, hb, hml, hown, hts⟩, hr, hlocks, hA, hK, hE⟩ := id F
      have hS : va_S A s.heap s.heap [] := va_S.rf
      have hl : lv_has ls 3 [(0, .ref o), (1, .int v1)] := hl
      have hRf : 9 + (d + 1) ≤ ({ frames := 9 + (d + 1), cells := 1, slots := 7, locals := 167 + (d + 1) * 24 } : Room).frames := Nat.le_refl _
      have hRl : 167 + (d + 1) * 24 ≤ ({ frames := 9 + (d + 1), cells := 1, slots := 7, locals := 167 + (d + 1) * 24 } : Room).locals := Nat.le_refl _
      have hC : 0 ≤ ({ frames := 9 + (d + 1), cells := 1, slots := 7, locals := 167 + (d + 1) * 24 } : Room).cells := Nat.zero_le _
      have hSl : 0 ≤ ({ frames := 9 + (d + 1), cells := 1, slots := 7, locals := 167 + (d + 1) * 24 } : Room).slots := Nat.zero_le _
      have hC1 : 1 ≤ ({ frames := 9 + (d + 1), cells := 1, slots := 7, locals := 167 + (d + 1) * 24 } : Room).cells := Nat.le_refl _
      have hS7 : 7 ≤ ({ frames := 9 + (d + 1), cells := 1, slots := 7, locals := 167 + (d + 1) * 24 } : Room).slots := Nat.le_refl _
      unfold wp_R_held at h
      replace h := h.1 rfl
      refine lv_aload_n hx hb dX7_held_0 rfl (lv_at hl 0 rfl) ?_
      refine lv_iload_n hx hb dX7_held_1 rfl (lv_at hl 1 rfl) ?_
      refine clx_i F (vx_runV (As := [.int v1]) (rest := []) ⟨hx, hb, hml, hown, hts⟩ (hrec1 h _) (cwV 1 hts (lw_V q541 q543 qs3 q105 q544) rfl rfl rfl (by decide +kernel) ⟨hRf, by have hh := hRl; show 8 + (_ + 11) + (167 + d * 24) ≤ _; omega⟩) ⟨ct_blind, va_recv hK hP (ci := 3) (q0 := 0) rfl rfl, ct_at F hS hP hD⟩ rfl rfl hl.1 rfl (lv_room (Nat.le_of_ble_eq_true rfl)) dX7_held_2 ⟨hC1, hS7⟩) hD hS ?_ ?_
      · rintro q v_ pw3 H locs h hP hD hS
        exact rx_out (wx := fun u : (Int32) => (wRU gI o pt ox ax rn ak rt rm fd tx sz en u)) (QX := (fun (v : Int32) (u : (Int32)) => E v u)) F (fun x hx => (htab x hx).elim) (pw3) h hP hD hS (Nat.le_refl _) (Nat.le_refl _)
      · rintro x1 pw2 H locs h hP hD hS
        refine lv_istore_n (lv' := [(2, .int x1), (0, .ref o), (1, .int v1)]) hx hb dX7_held_5 rfl hl (by decide) rfl (fun ls hl => ?_)
        refine lv_aload_n hx hb dX7_held_6 rfl (lv_at hl 1 rfl) ?_
        refine lv_bipush (v := (60 : Int32)) hx hb dX7_held_7 (by decide) ?_
        refine cl_i F (va_runU (As := [.int (60 : Int32)]) (rest := []) ⟨hx, hb, hml, hown, hts⟩ (ct_W_passesR h _) (va_cwU (owner := RX5) 1 hts (lw_U q553 q554 q556 q449 q99 q454) rfl rfl rfl rfl (by decide +kernel) ⟨Nat.le_trans (Nat.le_of_ble_eq_true rfl) (Nat.le_trans (Nat.le_add_right 9 _) hRf), Nat.le_trans (Nat.le_of_ble_eq_true rfl) (Nat.le_trans (Nat.le_add_right 167 _) hRl)⟩) ⟨ct_blind, va_recv hK hP (ci := 3) (q0 := 0) rfl rfl, ct_at F hS hP hD⟩ rfl rfl hl.1 rfl (lv_room (Nat.le_of_ble_eq_true rfl)) dX7_held_9 ⟨hC, hSl⟩) rfl rfl hD hS ?_
        rintro x4 pw5 H locs h hP hD hS
        refine lv_if_eq (tgt := 30) hx hb dX7_held_12 (by decide) (fun c24 => ?_) (fun c24 => ?_)
        · replace h := h.1 c24
          refine lv_aload_n hx hb dX7_held_30 rfl (lv_at hl 1 rfl) ?_
          refine lv_bipush (v := (62 : Int32)) hx hb dX7_held_31 (by decide) ?_
          refine cl_i F (va_runU (As := [.int (62 : Int32)]) (rest := []) ⟨hx, hb, hml, hown, hts⟩ (ct_W_passesR h _) (va_cwU (owner := RX5) 1 hts (lw_U q553 q554 q556 q449 q99 q454) rfl rfl rfl rfl (by decide +kernel) ⟨Nat.le_trans (Nat.le_of_ble_eq_true rfl) (Nat.le_trans (Nat.le_add_right 9 _) hRf), Nat.le_trans (Nat.le_of_ble_eq_true rfl) (Nat.le_trans (Nat.le_add_right 167 _) hRl)⟩) ⟨ct_blind, va_recv hK hP (ci := 3) (q0 := 0) rfl rfl, ct_at F hS hP hD⟩ rfl rfl hl.1 rfl (lv_room (Nat.le_of_ble_eq_true rfl)) dX7_held_33 ⟨hC, hSl⟩) rfl rfl hD hS ?_
          rintro x6 pw7 H locs h hP hD hS
          refine lv_if_eq (tgt := 54) hx hb dX7_held_36 (by decide) (fun c19 => ?_) (fun c19 => ?_)
          · replace h := h.1 c19
            refine lv_aload_n hx hb dX7_held_54 rfl (lv_at hl 1 rfl) ?_
            refine lv_bipush (v := (61 : Int32)) hx hb dX7_held_55 (by decide) ?_
            refine cl_i F (va_runU (As := [.int (61 : Int32)]) (rest := []) ⟨hx, hb, hml, hown, hts⟩ (ct_W_passesR h _) (va_cwU (owner := RX5) 1 hts (lw_U q553 q554 q556 q449 q99 q454) rfl rfl rfl rfl (by decide +kernel) ⟨Nat.le_trans (Nat.le_of_ble_eq_true rfl) (Nat.le_trans (Nat.le_add_right 9 _) hRf), Nat.le_trans (Nat.le_of_ble_eq_true rfl) (Nat.le_trans (Nat.le_add_right 167 _) hRl)⟩) ⟨ct_blind, va_recv hK hP (ci := 3) (q0 := 0) rfl rfl, ct_at F hS hP hD⟩ rfl rfl hl.1 rfl (lv_room (Nat.le_of_ble_eq_true rfl)) dX7_held_57 ⟨hC, hSl⟩) rfl rfl hD hS ?_
            rintro x8 pw9 H locs h hP hD hS
            refine lv_if_eq (tgt := 78) hx hb dX7_held_60 (by decide) (fun c14 => ?_) (fun c14 => ?_)
            · replace h := h.1 c14
              refine lv_iload_n hx hb dX7_held_78 rfl (lv_at hl 0 rfl) ?_
              exact vx_ret (rt_i F dX7_held_79 rfl (pw9) h hP hD hS (Nat.le_refl _) (Nat.le_refl _))
            · replace h := h.2 c14
              refine lv_iload_n hx hb dX7_held_63 rfl (lv_at hl 0 rfl) ?_
              refine lv_aload_n hx hb dX7_held_64 rfl (lv_at hl 1 rfl) ?_
              refine lv_iload_n hx hb dX7_held_65 rfl (lv_at hl 2 rfl) ?_
              refine clx_i F (vx_runV (As := [.int v1]) (rest := [.int x1]) ⟨hx, hb, hml, hown, hts⟩ (hrec1 h _) (cwV 1 hts (lw_V q541 q543 qs3 q105 q544) rfl rfl rfl (by decide +kernel) ⟨hRf, by have hh := hRl; show 8 + (_ + 11) + (167 + d * 24) ≤ _; omega⟩) ⟨ct_blind, va_recv hK hP (ci := 3) (q0 := 0) rfl rfl, ct_at F hS hP hD⟩ rfl rfl hl.1 rfl (lv_room (Nat.le_of_ble_eq_true rfl)) dX7_held_66 ⟨hC1, hS7⟩) hD hS ?_ ?_
              · rintro q v_ pw12 H locs h hP hD hS
                exact rx_out (wx := fun u : (Int32) => (wRU gI o pt ox ax rn ak rt rm fd tx sz en u)) (QX := (fun (v : Int32) (u : (Int32)) => E v u)) F (fun x hx => (htab x hx).elim) (pw12) h hP hD hS (Nat.le_refl _) (Nat.le_refl _)
              · rintro x10 pw11 H locs h hP hD hS
                refine lv_icmp_ne (tgt := 76) hx hb dX7_held_69 (by decide) (fun c13 => ?_) (fun c13 => ?_)
                · replace h := h.1 c13
                  refine lv_iconst (v := (0 : Int32)) hx hb dX7_held_76 (by decide) ?_
                  exact vx_ret (rt_i F dX7_held_77 rfl (pw11) h hP hD hS (Nat.le_refl _) (Nat.le_refl _))
                · replace h := h.2 c13
                  refine lv_iconst (v := (1 : Int32)) hx hb dX7_held_72 (by decide) ?_
                  refine lv_goto (tgt := 77) hx hb dX7_held_73 (by decide) ?_
                  exact vx_ret (rt_i F dX7_held_77 rfl (pw11) h hP hD hS (Nat.le_refl _) (Nat.le_refl _))
          · replace h := h.2 c19
            refine lv_iload_n hx hb dX7_held_39 rfl (lv_at hl 0 rfl) ?_
            refine lv_aload_n hx hb dX7_held_40 rfl (lv_at hl 1 rfl) ?_
            refine lv_iload_n hx hb dX7_held_41 rfl (lv_at hl 2 rfl) ?_
            refine clx_i F (vx_runV (As := [.int v1]) (rest := [.int x1]) ⟨hx, hb, hml, hown, hts⟩ (hrec1 h _) (cwV 1 hts (lw_V q541 q543 qs3 q105 q544) rfl rfl rfl (by decide +kernel) ⟨hRf, by have hh := hRl; show 8 + (_ + 11) + (167 + d * 24) ≤ _; omega⟩) ⟨ct_blind, va_recv hK hP (ci := 3) (q0 := 0) rfl rfl, ct_at F hS hP hD⟩ rfl rfl hl.1 rfl (lv_room (Nat.le_of_ble_eq_true rfl)) dX7_held_42 ⟨hC1, hS7⟩) hD hS ?_ ?_
            · rintro q v_ pw17 H locs h hP hD hS
              exact rx_out (wx := fun u : (Int32) => (wRU gI o pt ox ax rn ak rt rm fd tx sz en u)) (QX := (fun (v : Int32) (u : (Int32)) => E v u)) F (fun x hx => (htab x hx).elim) (pw17) h hP hD hS (Nat.le_refl _) (Nat.le_refl _)
            · rintro x15 pw16 H locs h hP hD hS
              refine lv_icmp_le (tgt := 52) hx hb dX7_held_45 (by decide) (fun c18 => ?_) (fun c18 => ?_)
              · replace h := h.1 c18
                refine lv_iconst (v := (0 : Int32)) hx hb dX7_held_52 (by decide) ?_
                exact vx_ret (rt_i F dX7_held_53 rfl (pw16) h hP hD hS (Nat.le_refl _) (Nat.le_refl _))
              · replace h := h.2 c18
                refine lv_iconst (v := (1 : Int32)) hx hb dX7_held_48 (by decide) ?_
                refine lv_goto (tgt := 53) hx hb dX7_held_49 (by decide) ?_
                exact vx_ret (rt_i F dX7_held_53 rfl (pw16) h hP hD hS (Nat.le_refl _) (Nat.le_refl _))
        · replace h := h.2 c24
          refine lv_iload_n hx hb dX7_held_15 rfl (lv_at hl 0 rfl) ?_
          refine lv_aload_n hx hb dX7_held_16 rfl (lv_at hl 1 rfl) ?_
          refine lv_iload_n hx hb dX7_held_17 rfl (lv_at hl 2 rfl) ?_
          refine clx_i F (vx_runV (As := [.int v1]) (rest := [.int x1]) ⟨hx, hb, hml, hown, hts⟩ (hrec1 h _) (cwV 1 hts (lw_V q541 q543 qs3 q105 q544) rfl rfl rfl (by decide +kernel) ⟨hRf, by have hh := hRl; show 8 + (_ + 11) + (167 + d * 24) ≤ _; omega⟩) ⟨ct_blind, va_recv hK hP (ci := 3) (q0 := 0) rfl rfl, ct_at F hS hP hD⟩ rfl rfl hl.1 rfl (lv_room (Nat.le_of_ble_eq_true rfl)) dX7_held_18 ⟨hC1, hS7⟩) hD hS ?_ ?_
          · rintro q v_ pw22 H locs h hP hD hS
            exact rx_out (wx := fun u : (Int32) => (wRU gI o pt ox ax rn ak rt rm fd tx sz en u)) (QX := (fun (v : Int32) (u : (Int32)) => E v u)) F (fun x hx => (htab x hx).elim) (pw22) h hP hD hS (Nat.le_refl _) (Nat.le_refl _)
          · rintro x20 pw21 H locs h hP hD hS
            refine lv_icmp_ge (tgt := 28) hx hb dX7_held_21 (by decide) (fun c23 => ?_) (fun c23 => ?_)
            · replace h := h.1 c23
              refine lv_iconst (v := (0 : Int32)) hx hb dX7_held_28 (by decide) ?_
              exact vx_ret (rt_i F dX7_held_29 rfl (pw21) h hP hD hS (Nat.le_refl _) (Nat.le_refl _))
            · replace h := h.2 c23
              refine lv_iconst (v := (1 : Int32)) hx hb dX7_held_24 (by decide) ?_
              refine lv_goto (tgt := 29) hx hb dX7_held_25 (by decide) ?_
              exact vx_ret (rt_i F dX7_held_29 rfl (pw21) h hP hD hS (Nat.le_refl _) (Nat.le_refl _))
    constructor
    · intro v1 tx sz en pw ak rt rm fd Q E h
      refine cx_ofi RX7 rfl (by decide +kernel) (Nat.le_of_ble_eq_true rfl) ?_
      intro p e s m args below meth c A F htab hP hD ls hl
      obtain ⟨⟨hx, hb, hml, hown, hts⟩, hr, hlocks, hA, hK, hE⟩ := id F
      have hS : va_S A s.heap s.heap [] := va_S.rf
      have hl : lv_has ls 5 [(0, .ref o), (1, .int v1)] := hl
      have hRf : 9 + (d + 1) ≤ ({ frames := 9 + (d + 1), cells := 1, slots := 7, locals := 167 + (d + 1) * 24 } : Room).frames := Nat.le_refl _
      have hRl : 167 + (d + 1) * 24 ≤ ({ frames := 9 + (d + 1), cells := 1, slots := 7, locals := 167 + (d + 1) * 24 } : Room).locals := Nat.le_refl _
      have hC : 0 ≤ ({ frames := 9 + (d + 1), cells := 1, slots := 7, locals := 167 + (d + 1) * 24 } : Room).cells := Nat.zero_le _
      have hSl : 0 ≤ ({ frames := 9 + (d + 1), cells := 1, slots := 7, locals := 167 + (d + 1) * 24 } : Room).slots := Nat.zero_le _
      have hC1 : 1 ≤ ({ frames := 9 + (d + 1), cells := 1, slots := 7, locals := 167 + (d + 1) * 24 } : Room).cells := Nat.le_refl _
      have hS7 : 7 ≤ ({ frames := 9 + (d + 1), cells := 1, slots := 7, locals := 167 + (d + 1) * 24 } : Room).slots := Nat.le_refl _
      unfold wp_R_held at h
      replace h := h.2.1 rfl
      refine lv_aload_n hx hb dX7_sum_0 rfl (lv_at hl 0 rfl) ?_
      refine lv_iload_n hx hb dX7_sum_1 rfl (lv_at hl 1 rfl) ?_
      refine clx_i F (vx_runV (As := [.int v1]) (rest := []) ⟨hx, hb, hml, hown, hts⟩ (hrec2 h _) (cwV 1 hts (lw_V q545 q547 qs4 q105 q548) rfl rfl rfl (by decide +kernel) ⟨hRf, by have hh := hRl; show 8 + (_ + 11) + (167 + d * 24) ≤ _; omega⟩) ⟨ct_blind, va_recv hK hP (ci := 3) (q0 := 0) rfl rfl, ct_at F hS hP hD⟩ rfl rfl hl.1 rfl (lv_room (Nat.le_of_ble_eq_true rfl)) dX7_sum_2 ⟨hC1, hS7⟩) hD hS ?_ ?_
      · rintro q v_ pw3 H locs h hP hD hS
        exact rx_out (wx := fun u : (Int32) => (wRU gI o pt ox ax rn ak rt rm fd tx sz en u)) (QX := (fun (v : Int32) (u : (Int32)) => E v u)) F (fun x hx => (htab x hx).elim) (pw3) h hP hD hS (Nat.le_refl _) (Nat.le_refl _)
      · rintro x1 pw2 H locs h hP hD hS
        refine lv_istore_n (lv' := [(2, .int x1), (0, .ref o), (1, .int v1)]) hx hb dX7_sum_5 rfl hl (by decide) rfl (fun ls hl => ?_)
        obtain ⟨k6, h⟩ := h
        refine lp_R_sum_L1 F hRf hRl hC hSl hC1 hS7 htab hlt hrec0 hrec1 hrec2 hrec3 ?hk75 k6 _ _ h _ _ _ hP hD hS (lv_sub hl [1, 2, 0] rfl)
        case hk75 =>
          intro v2_22 pw_23 h H locs ls hP hD hS hl
          refine lv_iload_n hx hb dX7_sum_75 rfl (lv_at hl 0 rfl) ?_
          exact vx_ret (rt_i F dX7_sum_76 rfl (pw_23) h hP hD hS (Nat.le_refl _) (Nat.le_refl _))
    constructor
    · intro v1 tx sz en pw ak rt rm fd Q E h
      refine cx_ofi RX7 rfl (by decide +kernel) (Nat.le_of_ble_eq_true rfl) ?_
      intro p e s m args below meth c A F htab hP hD ls hl
      obtain ⟨⟨hx, hb, hml, hown, hts⟩, hr, hlocks, hA, hK, hE⟩ := id F
      have hS : va_S A s.heap s.heap [] := va_S.rf
      have hl : lv_has ls 5 [(0, .ref o), (1, .int v1)] := hl
      have hRf : 9 + (d + 1) ≤ ({ frames := 9 + (d + 1), cells := 1, slots := 7, locals := 167 + (d + 1) * 24 } : Room).frames := Nat.le_refl _
      have hRl : 167 + (d + 1) * 24 ≤ ({ frames := 9 + (d + 1), cells := 1, slots := 7, locals := 167 + (d + 1) * 24 } : Room).locals := Nat.le_refl _
      have hC : 0 ≤ ({ frames := 9 + (d + 1), cells := 1, slots := 7, locals := 167 + (d + 1) * 24 } : Room).cells := Nat.zero_le _
      have hSl : 0 ≤ ({ frames := 9 + (d + 1), cells := 1, slots := 7, locals := 167 + (d + 1) * 24 } : Room).slots := Nat.zero_le _
      have hC1 : 1 ≤ ({ frames := 9 + (d + 1), cells := 1, slots := 7, locals := 167 + (d + 1) * 24 } : Room).cells := Nat.le_refl _
      have hS7 : 7 ≤ ({ frames := 9 + (d + 1), cells := 1, slots := 7, locals := 167 + (d + 1) * 24 } : Room).slots := Nat.le_refl _
      unfold wp_R_held at h
      replace h := h.2.2.1 rfl
      refine lv_aload_n hx hb dX7_product_0 rfl (lv_at hl 0 rfl) ?_
      refine lv_iload_n hx hb dX7_product_1 rfl (lv_at hl 1 rfl) ?_
      refine clx_i F (vx_runV (As := [.int v1]) (rest := []) ⟨hx, hb, hml, hown, hts⟩ (hrec3 h _) (cwV 1 hts (lw_V q549 q551 qs5 q105 q552) rfl rfl rfl (by decide +kernel) ⟨hRf, by have hh := hRl; show 8 + (_ + 11) + (167 + d * 24) ≤ _; omega⟩) ⟨ct_blind, va_recv hK hP (ci := 3) (q0 := 0) rfl rfl, ct_at F hS hP hD⟩ rfl rfl hl.1 rfl (lv_room (Nat.le_of_ble_eq_true rfl)) dX7_product_2 ⟨hC1, hS7⟩) hD hS ?_ ?_
      · rintro q v_ pw3 H locs h hP hD hS
        exact rx_out (wx := fun u : (Int32) => (wRU gI o pt ox ax rn ak rt rm fd tx sz en u)) (QX := (fun (v : Int32) (u : (Int32)) => E v u)) F (fun x hx => (htab x hx).elim) (pw3) h hP hD hS (Nat.le_refl _) (Nat.le_refl _)
      · rintro x1 pw2 H locs h hP hD hS
        refine lv_istore_n (lv' := [(2, .int x1), (0, .ref o), (1, .int v1)]) hx hb dX7_product_5 rfl hl (by decide) rfl (fun ls hl => ?_)
        obtain ⟨k6, h⟩ := h
        refine lp_R_product_L1 F hRf hRl hC hSl hC1 hS7 htab hlt hrec0 hrec1 hrec2 hrec3 ?hk84 k6 _ _ h _ _ _ hP hD hS (lv_sub hl [1, 2, 0] rfl)
        case hk84 =>
          intro v2_24 pw_25 h H locs ls hP hD hS hl
          refine lv_iload_n hx hb dX7_product_84 rfl (lv_at hl 0 rfl) ?_
          exact vx_ret (rt_i F dX7_product_85 rfl (pw_25) h hP hD hS (Nat.le_refl _) (Nat.le_refl _))
    · intro v1 tx sz en pw ak rt rm fd Q E h
      refine cx_ofi RX7 rfl (by decide +kernel) (Nat.le_of_ble_eq_true rfl) ?_
      intro p e s m args below meth c A F htab hP hD ls hl
      obtain ⟨⟨hx, hb, hml, hown, hts⟩, hr, hlocks, hA, hK, hE⟩ := id F
      have hS : va_S A s.heap s.heap [] := va_S.rf
      have hl : lv_has ls 3 [(0, .ref o), (1, .int v1)] := hl
      have hRf : 9 + (d + 1) ≤ ({ frames := 9 + (d + 1), cells := 1, slots := 7, locals := 167 + (d + 1) * 24 } : Room).frames := Nat.le_refl _
      have hRl : 167 + (d + 1) * 24 ≤ ({ frames := 9 + (d + 1), cells := 1, slots := 7, locals := 167 + (d + 1) * 24 } : Room).locals := Nat.le_refl _
      have hC : 0 ≤ ({ frames := 9 + (d + 1), cells := 1, slots := 7, locals := 167 + (d + 1) * 24 } : Room).cells := Nat.zero_le _
      have hSl : 0 ≤ ({ frames := 9 + (d + 1), cells := 1, slots := 7, locals := 167 + (d + 1) * 24 } : Room).slots := Nat.zero_le _
      have hC1 : 1 ≤ ({ frames := 9 + (d + 1), cells := 1, slots := 7, locals := 167 + (d + 1) * 24 } : Room).cells := Nat.le_refl _
      have hS7 : 7 ≤ ({ frames := 9 + (d + 1), cells := 1, slots := 7, locals := 167 + (d + 1) * 24 } : Room).slots := Nat.le_refl _
      unfold wp_R_held at h
      replace h := h.2.2.2 rfl
      refine lv_aload_n hx hb dX7_thing_0 rfl (lv_at hl 0 rfl) ?_
      refine lv_bipush (v := (45 : Int32)) hx hb dX7_thing_1 (by decide) ?_
      refine cl_i F (va_runU (As := [.int (45 : Int32)]) (rest := []) ⟨hx, hb, hml, hown, hts⟩ (ct_W_passesR h _) (va_cwU (owner := RX5) 1 hts (lw_U q553 q554 q556 q449 q99 q454) rfl rfl rfl rfl (by decide +kernel) ⟨Nat.le_trans (Nat.le_of_ble_eq_true rfl) (Nat.le_trans (Nat.le_add_right 9 _) hRf), Nat.le_trans (Nat.le_of_ble_eq_true rfl) (Nat.le_trans (Nat.le_add_right 167 _) hRl)⟩) ⟨ct_blind, va_recv hK hP (ci := 3) (q0 := 0) rfl rfl, ct_at F hS hP hD⟩ rfl rfl hl.1 rfl (lv_room (Nat.le_of_ble_eq_true rfl)) dX7_thing_3 ⟨hC, hSl⟩) rfl rfl hD hS ?_
      rintro x1 pw2 H locs h hP hD hS
      refine lv_if_eq (tgt := 16) hx hb dX7_thing_6 (by decide) (fun c40 => ?_) (fun c40 => ?_)
      · replace h := h.1 c40
        refine lv_aload_n hx hb dX7_thing_16 rfl (lv_at hl 0 rfl) ?_
        refine cl_i F (va_runU (As := []) (rest := []) ⟨hx, hb, hml, hown, hts⟩ (ct_W_hereR h _) (va_cwU (owner := RX5) 0 hts (lw_U q557 q558 q560 q440 q99 q445) rfl rfl rfl rfl (by decide +kernel) ⟨Nat.le_trans (Nat.le_of_ble_eq_true rfl) (Nat.le_trans (Nat.le_add_right 9 _) hRf), Nat.le_trans (Nat.le_of_ble_eq_true rfl) (Nat.le_trans (Nat.le_add_right 167 _) hRl)⟩) ⟨ct_blind, va_recv hK hP (ci := 3) (q0 := 0) rfl rfl, ct_at F hS hP hD⟩ rfl rfl hl.1 rfl (lv_room (Nat.le_of_ble_eq_true rfl)) dX7_thing_17 ⟨hC, hSl⟩) rfl rfl hD hS ?_
        rintro x3 _ H locs h hP hD hS
        refine lv_bipush (v := (40 : Int32)) hx hb dX7_thing_20 (by decide) ?_
        refine lv_icmp_ne (tgt := 69) hx hb dX7_thing_22 (by decide) (fun c36 => ?_) (fun c36 => ?_)
        · replace h := h.1 c36
          refine lv_aload_n hx hb dX7_thing_69 rfl (lv_at hl 0 rfl) ?_
          refine cl_i F (va_runU (As := []) (rest := []) ⟨hx, hb, hml, hown, hts⟩ (ct_W_hereR h _) (va_cwU (owner := RX5) 0 hts (lw_U q557 q558 q560 q440 q99 q445) rfl rfl rfl rfl (by decide +kernel) ⟨Nat.le_trans (Nat.le_of_ble_eq_true rfl) (Nat.le_trans (Nat.le_add_right 9 _) hRf), Nat.le_trans (Nat.le_of_ble_eq_true rfl) (Nat.le_trans (Nat.le_add_right 167 _) hRl)⟩) ⟨ct_blind, va_recv hK hP (ci := 3) (q0 := 0) rfl rfl, ct_at F hS hP hD⟩ rfl rfl hl.1 rfl (lv_room (Nat.le_of_ble_eq_true rfl)) dX7_thing_70 ⟨hC, hSl⟩) rfl rfl hD hS ?_
          rintro x4 _ H locs h hP hD hS
          refine lv_i2l (v := (x4.toInt64)) hx hb dX7_thing_73 rfl ?_
          refine lv_ldc2 (v := (48 : Int64)) hx hb hown (hts _ q565) dX7_thing_74 ?_
          refine lv_ldc2 (v := (57 : Int64)) hx hb hown (hts _ q566) dX7_thing_77 ?_
          refine cl_i0 F (va_runSN (As := [.long (x4.toInt64), .long (48 : Int64), .long (57 : Int64)]) (rest := []) ⟨hx, hb, hml, hown, hts⟩ (ct_X1_in h _) ⟨va_cnB 3 hts (lw_meth q300) rfl rfl rfl (hE.1 _ q567 rfl) (hts _ q94) (by decide +kernel) ⟨Nat.le_trans (Nat.le_of_ble_eq_true rfl) (Nat.le_trans (Nat.le_add_right 9 _) hRf), Nat.le_trans (Nat.le_of_ble_eq_true rfl) (Nat.le_trans (Nat.le_add_right 167 _) hRl)⟩, hts _ q299, trivial⟩ ⟨ct_blind, ct_at F hS ct_nP ct_nD⟩ rfl rfl hl.1 rfl (lv_room (Nat.le_of_ble_eq_true rfl)) dX7_thing_80 ⟨hC, hSl⟩) rfl rfl hP hS ?_
          rintro x5 _ H locs h hP hS
          refine lv_if_eq (tgt := 92) hx hb dX7_thing_83 (by decide) (fun c24 => ?_) (fun c24 => ?_)
          · replace h := h.1 c24
            refine lv_aload_n hx hb dX7_thing_92 rfl (lv_at hl 0 rfl) ?_
            refine cl_i F (va_runU (As := []) (rest := []) ⟨hx, hb, hml, hown, hts⟩ (ct_W_hereR h _) (va_cwU (owner := RX5) 0 hts (lw_U q557 q558 q560 q440 q99 q445) rfl rfl rfl rfl (by decide +kernel) ⟨Nat.le_trans (Nat.le_of_ble_eq_true rfl) (Nat.le_trans (Nat.le_add_right 9 _) hRf), Nat.le_trans (Nat.le_of_ble_eq_true rfl) (Nat.le_trans (Nat.le_add_right 167 _) hRl)⟩) ⟨ct_blind, va_recv hK hP (ci := 3) (q0 := 0) rfl rfl, ct_at F hS hP hD⟩ rfl rfl hl.1 rfl (lv_room (Nat.le_of_ble_eq_true rfl)) dX7_thing_93 ⟨hC, hSl⟩) rfl rfl hD hS ?_
            rintro x6 _ H locs h hP hD hS
            refine lv_istore_n (lv' := [(2, .int x6), (0, .ref o), (1, .int v1)]) hx hb dX7_thing_96 rfl hl (by decide) rfl (fun ls hl => ?_)
            refine lv_aload_n hx hb dX7_thing_97 rfl (lv_at hl 1 rfl) ?_
            refine lv_iload_n hx hb dX7_thing_98 rfl (lv_at hl 0 rfl) ?_
            refine lv_bipush (v := (110 : Int32)) hx hb dX7_thing_99 (by decide) ?_
            refine lv_icmp_eq (tgt := 122) hx hb dX7_thing_101 (by decide) (fun c20 => ?_) (fun c20 => ?_)
            · replace h := h.1 c20
              refine lv_iconst (v := (1 : Int32)) hx hb dX7_thing_122 (by decide) ?_
              refine lv_goto (tgt := 127) hx hb dX7_thing_123 (by decide) ?_
              refine clx_v F (vx_runU (As := [.int (1 : Int32)]) (rest := []) ⟨hx, hb, hml, hown, hts⟩ (cx_W_needR hlt h _) (va_cwU (owner := RX5) 1 hts (lw_U q561 q562 q564 q363 q99 q368) rfl rfl rfl rfl (by decide +kernel) ⟨Nat.le_trans (Nat.le_of_ble_eq_true rfl) (Nat.le_trans (Nat.le_add_right 9 _) hRf), Nat.le_trans (Nat.le_of_ble_eq_true rfl) (Nat.le_trans (Nat.le_add_right 167 _) hRl)⟩) ⟨ct_blind, va_recv hK hP (ci := 3) (q0 := 0) rfl rfl, ct_at F hS hP hD⟩ rfl rfl hl.1 rfl (lv_room (Nat.le_of_ble_eq_true rfl)) dX7_thing_127 ⟨hC1, hS7⟩) hD hS ?_ ?_
              · rintro q v_ _ H locs h hP hD hS
                exact rx_out (wx := fun u : (Int32) => (wRU gI o pt ox ax rn ak rt rm fd tx sz en u)) (QX := (fun (v : Int32) (u : (Int32)) => E v u)) F (fun x hx => (htab x hx).elim) (pw2) h hP hD hS (Nat.le_refl _) (Nat.le_refl _)
              · rintro _ H locs h hP hD hS
                refine lv_aload_n hx hb dX7_thing_130 rfl (lv_at hl 1 rfl) ?_
                refine lv_dup hx hb dX7_thing_131 rfl ?_
                refine va_get hx hb hts in_X7 hown hK hP 0 rfl rfl 3 (Nat.le_of_ble_eq_true rfl) (hts _ q347) (u_same (hts _ q348)) (v := .int pw2) rfl dX7_thing_132 ?_
                refine lv_iconst (v := (1 : Int32)) hx hb dX7_thing_135 (by decide) ?_
                refine lv_iadd hx hb dX7_thing_136 ?_
                refine pt_put (v := .int (pw2 + (1 : Int32))) hx hb hts in_X7 tyX7 tyX7_ok nmX7 hown hK hP hD hS 0 rfl rfl 3 (Nat.le_of_ble_eq_true rfl) (hts _ q347) (u_same (hts _ q348)) rfl (ty := .int) (by decide +kernel) rfl rfl (Nat.le_of_ble_eq_true rfl) dX7_thing_137 rfl (fun H locs hP hD hS => ?_)
                refine lv_aload_n hx hb dX7_thing_140 rfl (lv_at hl 1 rfl) ?_
                refine va_get hx hb hts in_X7 hown hK hP 0 rfl rfl 4 (Nat.le_of_ble_eq_true rfl) (hts _ q516) (fun _ h => h) (v := .int ak) rfl dX7_thing_141 ?_
                refine lv_if_eq (tgt := 155) hx hb dX7_thing_144 (by decide) (fun c8 => ?_) (fun c8 => ?_)
                · replace h := h.1 c8
                  refine lv_iconst (v := (0 : Int32)) hx hb dX7_thing_155 (by decide) ?_
                  exact vx_ret (rt_i F dX7_thing_156 rfl ((pw2 + (1 : Int32))) h hP hD hS (Nat.le_refl _) (Nat.le_refl _))
                · replace h := h.2 c8
                  refine lv_aload_n hx hb dX7_thing_147 rfl (lv_at hl 1 rfl) ?_
                  refine lv_iload_n hx hb dX7_thing_148 rfl (lv_at hl 0 rfl) ?_
                  refine cl_i F (va_runV (As := [.int x6]) (rest := []) ⟨hx, hb, hml, hown, hts⟩ (ct_R_value h _) (cwV 1 hts (lw_V q572 q574 qs6 q105 q575) rfl rfl rfl (by decide +kernel) ⟨Nat.le_trans (Nat.le_of_ble_eq_true rfl) (Nat.le_trans (Nat.le_add_right 9 _) hRf), Nat.le_trans (Nat.le_of_ble_eq_true rfl) (Nat.le_trans (Nat.le_add_right 167 _) hRl)⟩) ⟨ct_blind, va_recv hK hP (ci := 3) (q0 := 0) rfl rfl, ct_at F hS hP hD⟩ rfl rfl hl.1 rfl (lv_room (Nat.le_of_ble_eq_true rfl)) dX7_thing_149 ⟨hC, hSl⟩) rfl rfl hD hS ?_
                  rintro x7 _ H locs h hP hD hS
                  refine lv_goto (tgt := 156) hx hb dX7_thing_152 (by decide) ?_
                  exact vx_ret (rt_i F dX7_thing_156 rfl ((pw2 + (1 : Int32))) h hP hD hS (Nat.le_refl _) (Nat.le_refl _))
            · replace h := h.2 c20
              refine lv_iload_n hx hb dX7_thing_104 rfl (lv_at hl 0 rfl) ?_
              refine lv_bipush (v := (119 : Int32)) hx hb dX7_thing_105 (by decide) ?_
              refine lv_icmp_eq (tgt := 122) hx hb dX7_thing_107 (by decide) (fun c19 => ?_) (fun c19 => ?_)
              · replace h := h.1 c19
                refine lv_iconst (v := (1 : Int32)) hx hb dX7_thing_122 (by decide) ?_
                refine lv_goto (tgt := 127) hx hb dX7_thing_123 (by decide) ?_
                refine clx_v F (vx_runU (As := [.int (1 : Int32)]) (rest := []) ⟨hx, hb, hml, hown, hts⟩ (cx_W_needR hlt h _) (va_cwU (owner := RX5) 1 hts (lw_U q561 q562 q564 q363 q99 q368) rfl rfl rfl rfl (by decide +kernel) ⟨Nat.le_trans (Nat.le_of_ble_eq_true rfl) (Nat.le_trans (Nat.le_add_right 9 _) hRf), Nat.le_trans (Nat.le_of_ble_eq_true rfl) (Nat.le_trans (Nat.le_add_right 167 _) hRl)⟩) ⟨ct_blind, va_recv hK hP (ci := 3) (q0 := 0) rfl rfl, ct_at F hS hP hD⟩ rfl rfl hl.1 rfl (lv_room (Nat.le_of_ble_eq_true rfl)) dX7_thing_127 ⟨hC1, hS7⟩) hD hS ?_ ?_
                · rintro q v_ _ H locs h hP hD hS
                  exact rx_out (wx := fun u : (Int32) => (wRU gI o pt ox ax rn ak rt rm fd tx sz en u)) (QX := (fun (v : Int32) (u : (Int32)) => E v u)) F (fun x hx => (htab x hx).elim) (pw2) h hP hD hS (Nat.le_refl _) (Nat.le_refl _)
                · rintro _ H locs h hP hD hS
                  refine lv_aload_n hx hb dX7_thing_130 rfl (lv_at hl 1 rfl) ?_
                  refine lv_dup hx hb dX7_thing_131 rfl ?_
                  refine va_get hx hb hts in_X7 hown hK hP 0 rfl rfl 3 (Nat.le_of_ble_eq_true rfl) (hts _ q347) (u_same (hts _ q348)) (v := .int pw2) rfl dX7_thing_132 ?_
                  refine lv_iconst (v := (1 : Int32)) hx hb dX7_thing_135 (by decide) ?_
                  refine lv_iadd hx hb dX7_thing_136 ?_
                  refine pt_put (v := .int (pw2 + (1 : Int32))) hx hb hts in_X7 tyX7 tyX7_ok nmX7 hown hK hP hD hS 0 rfl rfl 3 (Nat.le_of_ble_eq_true rfl) (hts _ q347) (u_same (hts _ q348)) rfl (ty := .int) (by decide +kernel) rfl rfl (Nat.le_of_ble_eq_true rfl) dX7_thing_137 rfl (fun H locs hP hD hS => ?_)
                  refine lv_aload_n hx hb dX7_thing_140 rfl (lv_at hl 1 rfl) ?_
                  refine va_get hx hb hts in_X7 hown hK hP 0 rfl rfl 4 (Nat.le_of_ble_eq_true rfl) (hts _ q516) (fun _ h => h) (v := .int ak) rfl dX7_thing_141 ?_
                  refine lv_if_eq (tgt := 155) hx hb dX7_thing_144 (by decide) (fun c10 => ?_) (fun c10 => ?_)
                  · replace h := h.1 c10
                    refine lv_iconst (v := (0 : Int32)) hx hb dX7_thing_155 (by decide) ?_
                    exact vx_ret (rt_i F dX7_thing_156 rfl ((pw2 + (1 : Int32))) h hP hD hS (Nat.le_refl _) (Nat.le_refl _))
                  · replace h := h.2 c10
                    refine lv_aload_n hx hb dX7_thing_147 rfl (lv_at hl 1 rfl) ?_
                    refine lv_iload_n hx hb dX7_thing_148 rfl (lv_at hl 0 rfl) ?_
                    refine cl_i F (va_runV (As := [.int x6]) (rest := []) ⟨hx, hb, hml, hown, hts⟩ (ct_R_value h _) (cwV 1 hts (lw_V q572 q574 qs6 q105 q575) rfl rfl rfl (by decide +kernel) ⟨Nat.le_trans (Nat.le_of_ble_eq_true rfl) (Nat.le_trans (Nat.le_add_right 9 _) hRf), Nat.le_trans (Nat.le_of_ble_eq_true rfl) (Nat.le_trans (Nat.le_add_right 167 _) hRl)⟩) ⟨ct_blind, va_recv hK hP (ci := 3) (q0 := 0) rfl rfl, ct_at F hS hP hD⟩ rfl rfl hl.1 rfl (lv_room (Nat.le_of_ble_eq_true rfl)) dX7_thing_149 ⟨hC, hSl⟩) rfl rfl hD hS ?_
                    rintro x9 _ H locs h hP hD hS
                    refine lv_goto (tgt := 156) hx hb dX7_thing_152 (by decide) ?_
                    exact vx_ret (rt_i F dX7_thing_156 rfl ((pw2 + (1 : Int32))) h hP hD hS (Nat.le_refl _) (Nat.le_refl _))
              · replace h := h.2 c19
                refine lv_iload_n hx hb dX7_thing_110 rfl (lv_at hl 0 rfl) ?_
                refine lv_bipush (v := (99 : Int32)) hx hb dX7_thing_111 (by decide) ?_
                refine lv_icmp_eq (tgt := 122) hx hb dX7_thing_113 (by decide) (fun c18 => ?_) (fun c18 => ?_)
                · replace h := h.1 c18
                  refine lv_iconst (v := (1 : Int32)) hx hb dX7_thing_122 (by decide) ?_
                  refine lv_goto (tgt := 127) hx hb dX7_thing_123 (by decide) ?_
                  refine clx_v F (vx_runU (As := [.int (1 : Int32)]) (rest := []) ⟨hx, hb, hml, hown, hts⟩ (cx_W_needR hlt h _) (va_cwU (owner := RX5) 1 hts (lw_U q561 q562 q564 q363 q99 q368) rfl rfl rfl rfl (by decide +kernel) ⟨Nat.le_trans (Nat.le_of_ble_eq_true rfl) (Nat.le_trans (Nat.le_add_right 9 _) hRf), Nat.le_trans (Nat.le_of_ble_eq_true rfl) (Nat.le_trans (Nat.le_add_right 167 _) hRl)⟩) ⟨ct_blind, va_recv hK hP (ci := 3) (q0 := 0) rfl rfl, ct_at F hS hP hD⟩ rfl rfl hl.1 rfl (lv_room (Nat.le_of_ble_eq_true rfl)) dX7_thing_127 ⟨hC1, hS7⟩) hD hS ?_ ?_
                  · rintro q v_ _ H locs h hP hD hS
                    exact rx_out (wx := fun u : (Int32) => (wRU gI o pt ox ax rn ak rt rm fd tx sz en u)) (QX := (fun (v : Int32) (u : (Int32)) => E v u)) F (fun x hx => (htab x hx).elim) (pw2) h hP hD hS (Nat.le_refl _) (Nat.le_refl _)
                  · rintro _ H locs h hP hD hS
                    refine lv_aload_n hx hb dX7_thing_130 rfl (lv_at hl 1 rfl) ?_
                    refine lv_dup hx hb dX7_thing_131 rfl ?_
                    refine va_get hx hb hts in_X7 hown hK hP 0 rfl rfl 3 (Nat.le_of_ble_eq_true rfl) (hts _ q347) (u_same (hts _ q348)) (v := .int pw2) rfl dX7_thing_132 ?_
                    refine lv_iconst (v := (1 : Int32)) hx hb dX7_thing_135 (by decide) ?_
                    refine lv_iadd hx hb dX7_thing_136 ?_
                    refine pt_put (v := .int (pw2 + (1 : Int32))) hx hb hts in_X7 tyX7 tyX7_ok nmX7 hown hK hP hD hS 0 rfl rfl 3 (Nat.le_of_ble_eq_true rfl) (hts _ q347) (u_same (hts _ q348)) rfl (ty := .int) (by decide +kernel) rfl rfl (Nat.le_of_ble_eq_true rfl) dX7_thing_137 rfl (fun H locs hP hD hS => ?_)
                    refine lv_aload_n hx hb dX7_thing_140 rfl (lv_at hl 1 rfl) ?_
                    refine va_get hx hb hts in_X7 hown hK hP 0 rfl rfl 4 (Nat.le_of_ble_eq_true rfl) (hts _ q516) (fun _ h => h) (v := .int ak) rfl dX7_thing_141 ?_
                    refine lv_if_eq (tgt := 155) hx hb dX7_thing_144 (by decide) (fun c12 => ?_) (fun c12 => ?_)
                    · replace h := h.1 c12
                      refine lv_iconst (v := (0 : Int32)) hx hb dX7_thing_155 (by decide) ?_
                      exact vx_ret (rt_i F dX7_thing_156 rfl ((pw2 + (1 : Int32))) h hP hD hS (Nat.le_refl _) (Nat.le_refl _))
                    · replace h := h.2 c12
                      refine lv_aload_n hx hb dX7_thing_147 rfl (lv_at hl 1 rfl) ?_
                      refine lv_iload_n hx hb dX7_thing_148 rfl (lv_at hl 0 rfl) ?_
                      refine cl_i F (va_runV (As := [.int x6]) (rest := []) ⟨hx, hb, hml, hown, hts⟩ (ct_R_value h _) (cwV 1 hts (lw_V q572 q574 qs6 q105 q575) rfl rfl rfl (by decide +kernel) ⟨Nat.le_trans (Nat.le_of_ble_eq_true rfl) (Nat.le_trans (Nat.le_add_right 9 _) hRf), Nat.le_trans (Nat.le_of_ble_eq_true rfl) (Nat.le_trans (Nat.le_add_right 167 _) hRl)⟩) ⟨ct_blind, va_recv hK hP (ci := 3) (q0 := 0) rfl rfl, ct_at F hS hP hD⟩ rfl rfl hl.1 rfl (lv_room (Nat.le_of_ble_eq_true rfl)) dX7_thing_149 ⟨hC, hSl⟩) rfl rfl hD hS ?_
                      rintro x11 _ H locs h hP hD hS
                      refine lv_goto (tgt := 156) hx hb dX7_thing_152 (by decide) ?_
                      exact vx_ret (rt_i F dX7_thing_156 rfl ((pw2 + (1 : Int32))) h hP hD hS (Nat.le_refl _) (Nat.le_refl _))
                · replace h := h.2 c18
                  refine lv_iload_n hx hb dX7_thing_116 rfl (lv_at hl 0 rfl) ?_
                  refine lv_bipush (v := (109 : Int32)) hx hb dX7_thing_117 (by decide) ?_
                  refine lv_icmp_ne (tgt := 126) hx hb dX7_thing_119 (by decide) (fun c17 => ?_) (fun c17 => ?_)
                  · replace h := h.1 c17
                    refine lv_iconst (v := (0 : Int32)) hx hb dX7_thing_126 (by decide) ?_
                    refine clx_v F (vx_runU (As := [.int (0 : Int32)]) (rest := []) ⟨hx, hb, hml, hown, hts⟩ (cx_W_needR hlt h _) (va_cwU (owner := RX5) 1 hts (lw_U q561 q562 q564 q363 q99 q368) rfl rfl rfl rfl (by decide +kernel) ⟨Nat.le_trans (Nat.le_of_ble_eq_true rfl) (Nat.le_trans (Nat.le_add_right 9 _) hRf), Nat.le_trans (Nat.le_of_ble_eq_true rfl) (Nat.le_trans (Nat.le_add_right 167 _) hRl)⟩) ⟨ct_blind, va_recv hK hP (ci := 3) (q0 := 0) rfl rfl, ct_at F hS hP hD⟩ rfl rfl hl.1 rfl (lv_room (Nat.le_of_ble_eq_true rfl)) dX7_thing_127 ⟨hC1, hS7⟩) hD hS ?_ ?_
                    · rintro q v_ _ H locs h hP hD hS
                      exact rx_out (wx := fun u : (Int32) => (wRU gI o pt ox ax rn ak rt rm fd tx sz en u)) (QX := (fun (v : Int32) (u : (Int32)) => E v u)) F (fun x hx => (htab x hx).elim) (pw2) h hP hD hS (Nat.le_refl _) (Nat.le_refl _)
                    · rintro _ H locs h hP hD hS
                      refine lv_aload_n hx hb dX7_thing_130 rfl (lv_at hl 1 rfl) ?_
                      refine lv_dup hx hb dX7_thing_131 rfl ?_
                      refine va_get hx hb hts in_X7 hown hK hP 0 rfl rfl 3 (Nat.le_of_ble_eq_true rfl) (hts _ q347) (u_same (hts _ q348)) (v := .int pw2) rfl dX7_thing_132 ?_
                      refine lv_iconst (v := (1 : Int32)) hx hb dX7_thing_135 (by decide) ?_
                      refine lv_iadd hx hb dX7_thing_136 ?_
                      refine pt_put (v := .int (pw2 + (1 : Int32))) hx hb hts in_X7 tyX7 tyX7_ok nmX7 hown hK hP hD hS 0 rfl rfl 3 (Nat.le_of_ble_eq_true rfl) (hts _ q347) (u_same (hts _ q348)) rfl (ty := .int) (by decide +kernel) rfl rfl (Nat.le_of_ble_eq_true rfl) dX7_thing_137 rfl (fun H locs hP hD hS => ?_)
                      refine lv_aload_n hx hb dX7_thing_140 rfl (lv_at hl 1 rfl) ?_
                      refine va_get hx hb hts in_X7 hown hK hP 0 rfl rfl 4 (Nat.le_of_ble_eq_true rfl) (hts _ q516) (fun _ h => h) (v := .int ak) rfl dX7_thing_141 ?_
                      refine lv_if_eq (tgt := 155) hx hb dX7_thing_144 (by decide) (fun c14 => ?_) (fun c14 => ?_)
                      · replace h := h.1 c14
                        refine lv_iconst (v := (0 : Int32)) hx hb dX7_thing_155 (by decide) ?_
                        exact vx_ret (rt_i F dX7_thing_156 rfl ((pw2 + (1 : Int32))) h hP hD hS (Nat.le_refl _) (Nat.le_refl _))
                      · replace h := h.2 c14
                        refine lv_aload_n hx hb dX7_thing_147 rfl (lv_at hl 1 rfl) ?_
                        refine lv_iload_n hx hb dX7_thing_148 rfl (lv_at hl 0 rfl) ?_
                        refine cl_i F (va_runV (As := [.int x6]) (rest := []) ⟨hx, hb, hml, hown, hts⟩ (ct_R_value h _) (cwV 1 hts (lw_V q572 q574 qs6 q105 q575) rfl rfl rfl (by decide +kernel) ⟨Nat.le_trans (Nat.le_of_ble_eq_true rfl) (Nat.le_trans (Nat.le_add_right 9 _) hRf), Nat.le_trans (Nat.le_of_ble_eq_true rfl) (Nat.le_trans (Nat.le_add_right 167 _) hRl)⟩) ⟨ct_blind, va_recv hK hP (ci := 3) (q0 := 0) rfl rfl, ct_at F hS hP hD⟩ rfl rfl hl.1 rfl (lv_room (Nat.le_of_ble_eq_true rfl)) dX7_thing_149 ⟨hC, hSl⟩) rfl rfl hD hS ?_
                        rintro x13 _ H locs h hP hD hS
                        refine lv_goto (tgt := 156) hx hb dX7_thing_152 (by decide) ?_
                        exact vx_ret (rt_i F dX7_thing_156 rfl ((pw2 + (1 : Int32))) h hP hD hS (Nat.le_refl _) (Nat.le_refl _))
                  · replace h := h.2 c17
                    refine lv_iconst (v := (1 : Int32)) hx hb dX7_thing_122 (by decide) ?_
                    refine lv_goto (tgt := 127) hx hb dX7_thing_123 (by decide) ?_
                    refine clx_v F (vx_runU (As := [.int (1 : Int32)]) (rest := []) ⟨hx, hb, hml, hown, hts⟩ (cx_W_needR hlt h _) (va_cwU (owner := RX5) 1 hts (lw_U q561 q562 q564 q363 q99 q368) rfl rfl rfl rfl (by decide +kernel) ⟨Nat.le_trans (Nat.le_of_ble_eq_true rfl) (Nat.le_trans (Nat.le_add_right 9 _) hRf), Nat.le_trans (Nat.le_of_ble_eq_true rfl) (Nat.le_trans (Nat.le_add_right 167 _) hRl)⟩) ⟨ct_blind, va_recv hK hP (ci := 3) (q0 := 0) rfl rfl, ct_at F hS hP hD⟩ rfl rfl hl.1 rfl (lv_room (Nat.le_of_ble_eq_true rfl)) dX7_thing_127 ⟨hC1, hS7⟩) hD hS ?_ ?_
                    · rintro q v_ _ H locs h hP hD hS
                      exact rx_out (wx := fun u : (Int32) => (wRU gI o pt ox ax rn ak rt rm fd tx sz en u)) (QX := (fun (v : Int32) (u : (Int32)) => E v u)) F (fun x hx => (htab x hx).elim) (pw2) h hP hD hS (Nat.le_refl _) (Nat.le_refl _)
                    · rintro _ H locs h hP hD hS
                      refine lv_aload_n hx hb dX7_thing_130 rfl (lv_at hl 1 rfl) ?_
                      refine lv_dup hx hb dX7_thing_131 rfl ?_
                      refine va_get hx hb hts in_X7 hown hK hP 0 rfl rfl 3 (Nat.le_of_ble_eq_true rfl) (hts _ q347) (u_same (hts _ q348)) (v := .int pw2) rfl dX7_thing_132 ?_
                      refine lv_iconst (v := (1 : Int32)) hx hb dX7_thing_135 (by decide) ?_
                      refine lv_iadd hx hb dX7_thing_136 ?_
                      refine pt_put (v := .int (pw2 + (1 : Int32))) hx hb hts in_X7 tyX7 tyX7_ok nmX7 hown hK hP hD hS 0 rfl rfl 3 (Nat.le_of_ble_eq_true rfl) (hts _ q347) (u_same (hts _ q348)) rfl (ty := .int) (by decide +kernel) rfl rfl (Nat.le_of_ble_eq_true rfl) dX7_thing_137 rfl (fun H locs hP hD hS => ?_)
                      refine lv_aload_n hx hb dX7_thing_140 rfl (lv_at hl 1 rfl) ?_
                      refine va_get hx hb hts in_X7 hown hK hP 0 rfl rfl 4 (Nat.le_of_ble_eq_true rfl) (hts _ q516) (fun _ h => h) (v := .int ak) rfl dX7_thing_141 ?_
                      refine lv_if_eq (tgt := 155) hx hb dX7_thing_144 (by decide) (fun c16 => ?_) (fun c16 => ?_)
                      · replace h := h.1 c16
                        refine lv_iconst (v := (0 : Int32)) hx hb dX7_thing_155 (by decide) ?_
                        exact vx_ret (rt_i F dX7_thing_156 rfl ((pw2 + (1 : Int32))) h hP hD hS (Nat.le_refl _) (Nat.le_refl _))
                      · replace h := h.2 c16
                        refine lv_aload_n hx hb dX7_thing_147 rfl (lv_at hl 1 rfl) ?_
                        refine lv_iload_n hx hb dX7_thing_148 rfl (lv_at hl 0 rfl) ?_
                        refine cl_i F (va_runV (As := [.int x6]) (rest := []) ⟨hx, hb, hml, hown, hts⟩ (ct_R_value h _) (cwV 1 hts (lw_V q572 q574 qs6 q105 q575) rfl rfl rfl (by decide +kernel) ⟨Nat.le_trans (Nat.le_of_ble_eq_true rfl) (Nat.le_trans (Nat.le_add_right 9 _) hRf), Nat.le_trans (Nat.le_of_ble_eq_true rfl) (Nat.le_trans (Nat.le_add_right 167 _) hRl)⟩) ⟨ct_blind, va_recv hK hP (ci := 3) (q0 := 0) rfl rfl, ct_at F hS hP hD⟩ rfl rfl hl.1 rfl (lv_room (Nat.le_of_ble_eq_true rfl)) dX7_thing_149 ⟨hC, hSl⟩) rfl rfl hD hS ?_
                        rintro x15 _ H locs h hP hD hS
                        refine lv_goto (tgt := 156) hx hb dX7_thing_152 (by decide) ?_
                        exact vx_ret (rt_i F dX7_thing_156 rfl ((pw2 + (1 : Int32))) h hP hD hS (Nat.le_refl _) (Nat.le_refl _))
          · replace h := h.2 c24
            refine lv_aload_n hx hb dX7_thing_86 rfl (lv_at hl 0 rfl) ?_
            refine lv_iconst (v := (3 : Int32)) hx hb dX7_thing_87 (by decide) ?_
            refine clx_i F (vx_runU (As := [.int (3 : Int32)]) (rest := []) ⟨hx, hb, hml, hown, hts⟩ (cx_W_number_2R hlt h _) (va_cwU (owner := RX5) 1 hts (lw_U q568 q569 q571 q487 q99 q492) rfl rfl rfl rfl (by decide +kernel) ⟨Nat.le_trans (Nat.le_of_ble_eq_true rfl) (Nat.le_trans (Nat.le_add_right 9 _) hRf), Nat.le_trans (Nat.le_of_ble_eq_true rfl) (Nat.le_trans (Nat.le_add_right 167 _) hRl)⟩) ⟨ct_blind, va_recv hK hP (ci := 3) (q0 := 0) rfl rfl, ct_at F hS hP hD⟩ rfl rfl hl.1 rfl (lv_room (Nat.le_of_ble_eq_true rfl)) dX7_thing_88 ⟨hC1, hS7⟩) hD hS ?_ ?_
            · rintro q v_ pw23 H locs h hP hD hS
              exact rx_out (wx := fun u : (Int32) => (wRU gI o pt ox ax rn ak rt rm fd tx sz en u)) (QX := (fun (v : Int32) (u : (Int32)) => E v u)) F (fun x hx => (htab x hx).elim) (pw23) h hP hD hS (Nat.le_refl _) (Nat.le_refl _)
            · rintro x21 pw22 H locs h hP hD hS
              exact vx_ret (rt_i F dX7_thing_91 rfl (pw22) h hP hD hS (Nat.le_refl _) (Nat.le_refl _))
        · replace h := h.2 c36
          refine lv_aload_n hx hb dX7_thing_25 rfl (lv_at hl 0 rfl) ?_
          refine lv_iload_n hx hb dX7_thing_26 rfl (lv_at hl 1 rfl) ?_
          refine lv_iconst (v := (4 : Int32)) hx hb dX7_thing_27 (by decide) ?_
          refine lv_icmp_ge (tgt := 35) hx hb dX7_thing_28 (by decide) (fun c35 => ?_) (fun c35 => ?_)
          · replace h := h.1 c35
            refine lv_iconst (v := (0 : Int32)) hx hb dX7_thing_35 (by decide) ?_
            refine clx_v F (vx_runU (As := [.int (0 : Int32)]) (rest := []) ⟨hx, hb, hml, hown, hts⟩ (cx_W_needR hlt h _) (va_cwU (owner := RX5) 1 hts (lw_U q561 q562 q564 q363 q99 q368) rfl rfl rfl rfl (by decide +kernel) ⟨Nat.le_trans (Nat.le_of_ble_eq_true rfl) (Nat.le_trans (Nat.le_add_right 9 _) hRf), Nat.le_trans (Nat.le_of_ble_eq_true rfl) (Nat.le_trans (Nat.le_add_right 167 _) hRl)⟩) ⟨ct_blind, va_recv hK hP (ci := 3) (q0 := 0) rfl rfl, ct_at F hS hP hD⟩ rfl rfl hl.1 rfl (lv_room (Nat.le_of_ble_eq_true rfl)) dX7_thing_36 ⟨hC1, hS7⟩) hD hS ?_ ?_
            · rintro q v_ _ H locs h hP hD hS
              exact rx_out (wx := fun u : (Int32) => (wRU gI o pt ox ax rn ak rt rm fd tx sz en u)) (QX := (fun (v : Int32) (u : (Int32)) => E v u)) F (fun x hx => (htab x hx).elim) (pw2) h hP hD hS (Nat.le_refl _) (Nat.le_refl _)
            · rintro _ H locs h hP hD hS
              refine lv_aload_n hx hb dX7_thing_39 rfl (lv_at hl 0 rfl) ?_
              refine lv_dup hx hb dX7_thing_40 rfl ?_
              refine va_get hx hb hts in_X7 hown hK hP 0 rfl rfl 3 (Nat.le_of_ble_eq_true rfl) (hts _ q347) (u_same (hts _ q348)) (v := .int pw2) rfl dX7_thing_41 ?_
              refine lv_iconst (v := (1 : Int32)) hx hb dX7_thing_44 (by decide) ?_
              refine lv_iadd hx hb dX7_thing_45 ?_
              refine pt_put (v := .int (pw2 + (1 : Int32))) hx hb hts in_X7 tyX7 tyX7_ok nmX7 hown hK hP hD hS 0 rfl rfl 3 (Nat.le_of_ble_eq_true rfl) (hts _ q347) (u_same (hts _ q348)) rfl (ty := .int) (by decide +kernel) rfl rfl (Nat.le_of_ble_eq_true rfl) dX7_thing_46 rfl (fun H locs hP hD hS => ?_)
              refine lv_aload_n hx hb dX7_thing_49 rfl (lv_at hl 0 rfl) ?_
              refine lv_iload_n hx hb dX7_thing_50 rfl (lv_at hl 1 rfl) ?_
              refine lv_iconst (v := (1 : Int32)) hx hb dX7_thing_51 (by decide) ?_
              refine lv_iadd hx hb dX7_thing_52 ?_
              refine clx_i F (vx_runV (As := [.int (v1 + (1 : Int32))]) (rest := []) ⟨hx, hb, hml, hown, hts⟩ (hrec0 h _) (cwV 1 hts (lw_V q537 q539 qs2 q105 q540) rfl rfl rfl (by decide +kernel) ⟨hRf, by have hh := hRl; show 8 + (_ + 11) + (167 + d * 24) ≤ _; omega⟩) ⟨ct_blind, va_recv hK hP (ci := 3) (q0 := 0) rfl rfl, ct_at F hS hP hD⟩ rfl rfl hl.1 rfl (lv_room (Nat.le_of_ble_eq_true rfl)) dX7_thing_53 ⟨hC1, hS7⟩) hD hS ?_ ?_
              · rintro q v_ pw27 H locs h hP hD hS
                exact rx_out (wx := fun u : (Int32) => (wRU gI o pt ox ax rn ak rt rm fd tx sz en u)) (QX := (fun (v : Int32) (u : (Int32)) => E v u)) F (fun x hx => (htab x hx).elim) (pw27) h hP hD hS (Nat.le_refl _) (Nat.le_refl _)
              · rintro x25 pw26 H locs h hP hD hS
                refine lv_istore_n (lv' := [(2, .int x25), (0, .ref o), (1, .int v1)]) hx hb dX7_thing_56 rfl hl (by decide) rfl (fun ls hl => ?_)
                refine lv_aload_n hx hb dX7_thing_57 rfl (lv_at hl 1 rfl) ?_
                refine lv_aload_n hx hb dX7_thing_58 rfl (lv_at hl 1 rfl) ?_
                refine lv_bipush (v := (41 : Int32)) hx hb dX7_thing_59 (by decide) ?_
                refine cl_i F (va_runU (As := [.int (41 : Int32)]) (rest := [.ref o]) ⟨hx, hb, hml, hown, hts⟩ (ct_W_passesR h _) (va_cwU (owner := RX5) 1 hts (lw_U q553 q554 q556 q449 q99 q454) rfl rfl rfl rfl (by decide +kernel) ⟨Nat.le_trans (Nat.le_of_ble_eq_true rfl) (Nat.le_trans (Nat.le_add_right 9 _) hRf), Nat.le_trans (Nat.le_of_ble_eq_true rfl) (Nat.le_trans (Nat.le_add_right 167 _) hRl)⟩) ⟨ct_blind, va_recv hK hP (ci := 3) (q0 := 0) rfl rfl, ct_at F hS hP hD⟩ rfl rfl hl.1 rfl (lv_room (Nat.le_of_ble_eq_true rfl)) dX7_thing_61 ⟨hC, hSl⟩) rfl rfl hD hS ?_
                rintro x28 pw29 H locs h hP hD hS
                refine clx_v F (vx_runU (As := [.int x28]) (rest := []) ⟨hx, hb, hml, hown, hts⟩ (cx_W_needR hlt h _) (va_cwU (owner := RX5) 1 hts (lw_U q561 q562 q564 q363 q99 q368) rfl rfl rfl rfl (by decide +kernel) ⟨Nat.le_trans (Nat.le_of_ble_eq_true rfl) (Nat.le_trans (Nat.le_add_right 9 _) hRf), Nat.le_trans (Nat.le_of_ble_eq_true rfl) (Nat.le_trans (Nat.le_add_right 167 _) hRl)⟩) ⟨ct_blind, va_recv hK hP (ci := 3) (q0 := 0) rfl rfl, ct_at F hS hP hD⟩ rfl rfl hl.1 rfl (lv_room (Nat.le_of_ble_eq_true rfl)) dX7_thing_64 ⟨hC1, hS7⟩) hD hS ?_ ?_
                · rintro q v_ _ H locs h hP hD hS
                  exact rx_out (wx := fun u : (Int32) => (wRU gI o pt ox ax rn ak rt rm fd tx sz en u)) (QX := (fun (v : Int32) (u : (Int32)) => E v u)) F (fun x hx => (htab x hx).elim) (pw29) h hP hD hS (Nat.le_refl _) (Nat.le_refl _)
                · rintro _ H locs h hP hD hS
                  refine lv_iload_n hx hb dX7_thing_67 rfl (lv_at hl 0 rfl) ?_
                  exact vx_ret (rt_i F dX7_thing_68 rfl (pw29) h hP hD hS (Nat.le_refl _) (Nat.le_refl _))
          · replace h := h.2 c35
            refine lv_iconst (v := (1 : Int32)) hx hb dX7_thing_31 (by decide) ?_
            refine lv_goto (tgt := 36) hx hb dX7_thing_32 (by decide) ?_
            refine clx_v F (vx_runU (As := [.int (1 : Int32)]) (rest := []) ⟨hx, hb, hml, hown, hts⟩ (cx_W_needR hlt h _) (va_cwU (owner := RX5) 1 hts (lw_U q561 q562 q564 q363 q99 q368) rfl rfl rfl rfl (by decide +kernel) ⟨Nat.le_trans (Nat.le_of_ble_eq_true rfl) (Nat.le_trans (Nat.le_add_right 9 _) hRf), Nat.le_trans (Nat.le_of_ble_eq_true rfl) (Nat.le_trans (Nat.le_add_right 167 _) hRl)⟩) ⟨ct_blind, va_recv hK hP (ci := 3) (q0 := 0) rfl rfl, ct_at F hS hP hD⟩ rfl rfl hl.1 rfl (lv_room (Nat.le_of_ble_eq_true rfl)) dX7_thing_36 ⟨hC1, hS7⟩) hD hS ?_ ?_
            · rintro q v_ _ H locs h hP hD hS
              exact rx_out (wx := fun u : (Int32) => (wRU gI o pt ox ax rn ak rt rm fd tx sz en u)) (QX := (fun (v : Int32) (u : (Int32)) => E v u)) F (fun x hx => (htab x hx).elim) (pw2) h hP hD hS (Nat.le_refl _) (Nat.le_refl _)
            · rintro _ H locs h hP hD hS
              refine lv_aload_n hx hb dX7_thing_39 rfl (lv_at hl 0 rfl) ?_
              refine lv_dup hx hb dX7_thing_40 rfl ?_
              refine va_get hx hb hts in_X7 hown hK hP 0 rfl rfl 3 (Nat.le_of_ble_eq_true rfl) (hts _ q347) (u_same (hts _ q348)) (v := .int pw2) rfl dX7_thing_41 ?_
              refine lv_iconst (v := (1 : Int32)) hx hb dX7_thing_44 (by decide) ?_
              refine lv_iadd hx hb dX7_thing_45 ?_
              refine pt_put (v := .int (pw2 + (1 : Int32))) hx hb hts in_X7 tyX7 tyX7_ok nmX7 hown hK hP hD hS 0 rfl rfl 3 (Nat.le_of_ble_eq_true rfl) (hts _ q347) (u_same (hts _ q348)) rfl (ty := .int) (by decide +kernel) rfl rfl (Nat.le_of_ble_eq_true rfl) dX7_thing_46 rfl (fun H locs hP hD hS => ?_)
              refine lv_aload_n hx hb dX7_thing_49 rfl (lv_at hl 0 rfl) ?_
              refine lv_iload_n hx hb dX7_thing_50 rfl (lv_at hl 1 rfl) ?_
              refine lv_iconst (v := (1 : Int32)) hx hb dX7_thing_51 (by decide) ?_
              refine lv_iadd hx hb dX7_thing_52 ?_
              refine clx_i F (vx_runV (As := [.int (v1 + (1 : Int32))]) (rest := []) ⟨hx, hb, hml, hown, hts⟩ (hrec0 h _) (cwV 1 hts (lw_V q537 q539 qs2 q105 q540) rfl rfl rfl (by decide +kernel) ⟨hRf, by have hh := hRl; show 8 + (_ + 11) + (167 + d * 24) ≤ _; omega⟩) ⟨ct_blind, va_recv hK hP (ci := 3) (q0 := 0) rfl rfl, ct_at F hS hP hD⟩ rfl rfl hl.1 rfl (lv_room (Nat.le_of_ble_eq_true rfl)) dX7_thing_53 ⟨hC1, hS7⟩) hD hS ?_ ?_
              · rintro q v_ pw32 H locs h hP hD hS
                exact rx_out (wx := fun u : (Int32) => (wRU gI o pt ox ax rn ak rt rm fd tx sz en u)) (QX := (fun (v : Int32) (u : (Int32)) => E v u)) F (fun x hx => (htab x hx).elim) (pw32) h hP hD hS (Nat.le_refl _) (Nat.le_refl _)
              · rintro x30 pw31 H locs h hP hD hS
                refine lv_istore_n (lv' := [(2, .int x30), (0, .ref o), (1, .int v1)]) hx hb dX7_thing_56 rfl hl (by decide) rfl (fun ls hl => ?_)
                refine lv_aload_n hx hb dX7_thing_57 rfl (lv_at hl 1 rfl) ?_
                refine lv_aload_n hx hb dX7_thing_58 rfl (lv_at hl 1 rfl) ?_
                refine lv_bipush (v := (41 : Int32)) hx hb dX7_thing_59 (by decide) ?_
                refine cl_i F (va_runU (As := [.int (41 : Int32)]) (rest := [.ref o]) ⟨hx, hb, hml, hown, hts⟩ (ct_W_passesR h _) (va_cwU (owner := RX5) 1 hts (lw_U q553 q554 q556 q449 q99 q454) rfl rfl rfl rfl (by decide +kernel) ⟨Nat.le_trans (Nat.le_of_ble_eq_true rfl) (Nat.le_trans (Nat.le_add_right 9 _) hRf), Nat.le_trans (Nat.le_of_ble_eq_true rfl) (Nat.le_trans (Nat.le_add_right 167 _) hRl)⟩) ⟨ct_blind, va_recv hK hP (ci := 3) (q0 := 0) rfl rfl, ct_at F hS hP hD⟩ rfl rfl hl.1 rfl (lv_room (Nat.le_of_ble_eq_true rfl)) dX7_thing_61 ⟨hC, hSl⟩) rfl rfl hD hS ?_
                rintro x33 pw34 H locs h hP hD hS
                refine clx_v F (vx_runU (As := [.int x33]) (rest := []) ⟨hx, hb, hml, hown, hts⟩ (cx_W_needR hlt h _) (va_cwU (owner := RX5) 1 hts (lw_U q561 q562 q564 q363 q99 q368) rfl rfl rfl rfl (by decide +kernel) ⟨Nat.le_trans (Nat.le_of_ble_eq_true rfl) (Nat.le_trans (Nat.le_add_right 9 _) hRf), Nat.le_trans (Nat.le_of_ble_eq_true rfl) (Nat.le_trans (Nat.le_add_right 167 _) hRl)⟩) ⟨ct_blind, va_recv hK hP (ci := 3) (q0 := 0) rfl rfl, ct_at F hS hP hD⟩ rfl rfl hl.1 rfl (lv_room (Nat.le_of_ble_eq_true rfl)) dX7_thing_64 ⟨hC1, hS7⟩) hD hS ?_ ?_
                · rintro q v_ _ H locs h hP hD hS
                  exact rx_out (wx := fun u : (Int32) => (wRU gI o pt ox ax rn ak rt rm fd tx sz en u)) (QX := (fun (v : Int32) (u : (Int32)) => E v u)) F (fun x hx => (htab x hx).elim) (pw34) h hP hD hS (Nat.le_refl _) (Nat.le_refl _)
                · rintro _ H locs h hP hD hS
                  refine lv_iload_n hx hb dX7_thing_67 rfl (lv_at hl 0 rfl) ?_
                  exact vx_ret (rt_i F dX7_thing_68 rfl (pw34) h hP hD hS (Nat.le_refl _) (Nat.le_refl _))
      · replace h := h.2 c40
        refine lv_aload_n hx hb dX7_thing_9 rfl (lv_at hl 0 rfl) ?_
        refine lv_iload_n hx hb dX7_thing_10 rfl (lv_at hl 1 rfl) ?_
        refine clx_i F (vx_runV (As := [.int v1]) (rest := []) ⟨hx, hb, hml, hown, hts⟩ (hrec3 h _) (cwV 1 hts (lw_V q549 q551 qs5 q105 q552) rfl rfl rfl (by decide +kernel) ⟨hRf, by have hh := hRl; show 8 + (_ + 11) + (167 + d * 24) ≤ _; omega⟩) ⟨ct_blind, va_recv hK hP (ci := 3) (q0 := 0) rfl rfl, ct_at F hS hP hD⟩ rfl rfl hl.1 rfl (lv_room (Nat.le_of_ble_eq_true rfl)) dX7_thing_11 ⟨hC1, hS7⟩) hD hS ?_ ?_
        · rintro q v_ pw39 H locs h hP hD hS
          exact rx_out (wx := fun u : (Int32) => (wRU gI o pt ox ax rn ak rt rm fd tx sz en u)) (QX := (fun (v : Int32) (u : (Int32)) => E v u)) F (fun x hx => (htab x hx).elim) (pw39) h hP hD hS (Nat.le_refl _) (Nat.le_refl _)
        · rintro x37 pw38 H locs h hP hD hS
          refine lv_ineg hx hb dX7_thing_14 ?_
          exact vx_ret (rt_i F dX7_thing_15 rfl (pw38) h hP hD hS (Nat.le_refl _) (Nat.le_refl _))
theorem cx_R_held {l : Launch} {V : evT} {D : va_G} {gI : Nat → ClassId} {o : Nat} {pt : Nat} {ox : Nat} {ax : Nat → Nat} {rn : Option (Nat × Nat)} (hlt : l.stackTraces = false) : ∀ {v1 : Int32} {tx : Nat → Int32} {sz : Int32} {en : Int32} {pw : Int32} {ak : Int32} {rt : Int32} {rm : Int32} {fd : Nat → Int32} {Q : Int32 → (Int32) → Prop} {E : Int32 → (Int32) → Prop}, wp_R_held 200 0 v1 tx sz en pw ak rt rm fd Q E → cx_i l V D (tyL gI) yX7_held cX7_held 3 .int { frames := 209, cells := 1, slots := 7, locals := 4967 } [.ref o, .int v1] (wRU gI o pt ox ax rn ak rt rm fd tx sz en pw) (fun u : (Int32) => (wRU gI o pt ox ax rn ak rt rm fd tx sz en u)) (fun (x : Int32) (u : (Int32)) => Q x u) (fun u : (Int32) => (wRU gI o pt ox ax rn ak rt rm fd tx sz en u)) (fun (v : Int32) (u : (Int32)) => E v u) := fun h => (ctg_R_held hlt 200).1 h
theorem cx_R_sum {l : Launch} {V : evT} {D : va_G} {gI : Nat → ClassId} {o : Nat} {pt : Nat} {ox : Nat} {ax : Nat → Nat} {rn : Option (Nat × Nat)} (hlt : l.stackTraces = false) : ∀ {v1 : Int32} {tx : Nat → Int32} {sz : Int32} {en : Int32} {pw : Int32} {ak : Int32} {rt : Int32} {rm : Int32} {fd : Nat → Int32} {Q : Int32 → (Int32) → Prop} {E : Int32 → (Int32) → Prop}, wp_R_held 200 1 v1 tx sz en pw ak rt rm fd Q E → cx_i l V D (tyL gI) yX7_sum cX7_sum 5 .int { frames := 209, cells := 1, slots := 7, locals := 4967 } [.ref o, .int v1] (wRU gI o pt ox ax rn ak rt rm fd tx sz en pw) (fun u : (Int32) => (wRU gI o pt ox ax rn ak rt rm fd tx sz en u)) (fun (x : Int32) (u : (Int32)) => Q x u) (fun u : (Int32) => (wRU gI o pt ox ax rn ak rt rm fd tx sz en u)) (fun (v : Int32) (u : (Int32)) => E v u) := fun h => (ctg_R_held hlt 200).2.1 h
theorem cx_R_product {l : Launch} {V : evT} {D : va_G} {gI : Nat → ClassId} {o : Nat} {pt : Nat} {ox : Nat} {ax : Nat → Nat} {rn : Option (Nat × Nat)} (hlt : l.stackTraces = false) : ∀ {v1 : Int32} {tx : Nat → Int32} {sz : Int32} {en : Int32} {pw : Int32} {ak : Int32} {rt : Int32} {rm : Int32} {fd : Nat → Int32} {Q : Int32 → (Int32) → Prop} {E : Int32 → (Int32) → Prop}, wp_R_held 200 2 v1 tx sz en pw ak rt rm fd Q E → cx_i l V D (tyL gI) yX7_product cX7_product 5 .int { frames := 209, cells := 1, slots := 7, locals := 4967 } [.ref o, .int v1] (wRU gI o pt ox ax rn ak rt rm fd tx sz en pw) (fun u : (Int32) => (wRU gI o pt ox ax rn ak rt rm fd tx sz en u)) (fun (x : Int32) (u : (Int32)) => Q x u) (fun u : (Int32) => (wRU gI o pt ox ax rn ak rt rm fd tx sz en u)) (fun (v : Int32) (u : (Int32)) => E v u) := fun h => (ctg_R_held hlt 200).2.2.1 h
theorem cx_R_thing {l : Launch} {V : evT} {D : va_G} {gI : Nat → ClassId} {o : Nat} {pt : Nat} {ox : Nat} {ax : Nat → Nat} {rn : Option (Nat × Nat)} (hlt : l.stackTraces = false) : ∀ {v1 : Int32} {tx : Nat → Int32} {sz : Int32} {en : Int32} {pw : Int32} {ak : Int32} {rt : Int32} {rm : Int32} {fd : Nat → Int32} {Q : Int32 → (Int32) → Prop} {E : Int32 → (Int32) → Prop}, wp_R_held 200 3 v1 tx sz en pw ak rt rm fd Q E → cx_i l V D (tyL gI) yX7_thing cX7_thing 3 .int { frames := 209, cells := 1, slots := 7, locals := 4967 } [.ref o, .int v1] (wRU gI o pt ox ax rn ak rt rm fd tx sz en pw) (fun u : (Int32) => (wRU gI o pt ox ax rn ak rt rm fd tx sz en u)) (fun (x : Int32) (u : (Int32)) => Q x u) (fun u : (Int32) => (wRU gI o pt ox ax rn ak rt rm fd tx sz en u)) (fun (v : Int32) (u : (Int32)) => E v u) := fun h => (ctg_R_held hlt 200).2.2.2 h
set_option maxHeartbeats 4000000 in
theorem cx_R_read {l : Launch} {V : evT} {D : va_G} {gI : Nat → ClassId} {o : Nat} {pt : Nat} {ox : Nat} {ax : Nat → Nat} {rn : Option (Nat × Nat)} (hlt : l.stackTraces = false) {tx : Nat → Int32} {sz : Int32} {en : Int32} {pw : Int32} {ak : Int32} {rt : Int32} {rm : Int32} {fd : Nat → Int32} {Q : (Int32) → Prop} {E : Int32 → (Int32) → Prop} (h : wp_R_read tx sz en pw ak rt rm fd Q E) : cx_r l V D (tyL gI) yX7_read cX7_read 1 (.object "SandKeepsSea$Rule") { frames := 210, cells := 1, slots := 7, locals := 4989 } [.ref o] (wRU gI o pt ox ax rn ak rt rm fd tx sz en pw) (fun _ : (Int32) => o) (fun u : (Int32) => (wRU gI o pt ox ax rn ak rt rm fd tx sz en u)) (fun (u : (Int32)) => Q u) (fun u : (Int32) => (wRU gI o pt ox ax rn ak rt rm fd tx sz en u)) (fun (v : Int32) (u : (Int32)) => E v u) := by
  refine cx_ofr RX7 rfl (by decide +kernel) (Nat.le_of_ble_eq_true rfl) ?_
  intro p e s m args below meth c A F htab hP hD ls hl
  obtain ⟨⟨hx, hb, hml, hown, hts⟩, hr, hlocks, hA, hK, hE⟩ := id F
  have hS : va_S A s.heap s.heap [] := va_S.rf
  have hl : lv_has ls 1 [(0, .ref o)] := hl
  have hRf : 210 ≤ ({ frames := 210, cells := 1, slots := 7, locals := 4989 } : Room).frames := Nat.le_refl _
  have hC1 : 1 ≤ ({ frames := 210, cells := 1, slots := 7, locals := 4989 } : Room).cells := Nat.le_refl _
  have hS7 : 7 ≤ ({ frames := 210, cells := 1, slots := 7, locals := 4989 } : Room).slots := Nat.le_refl _
  have hRl : 4989 ≤ ({ frames := 210, cells := 1, slots := 7, locals := 4989 } : Room).locals := Nat.le_refl _
  have hC : 0 ≤ ({ frames := 210, cells := 1, slots := 7, locals := 4989 } : Room).cells := Nat.zero_le _
  have hSl : 0 ≤ ({ frames := 210, cells := 1, slots := 7, locals := 4989 } : Room).slots := Nat.zero_le _
  unfold wp_R_read at h
  refine lv_aload_n hx hb dX7_read_0 rfl (lv_at hl 0 rfl) ?_
  refine lv_iconst (v := (0 : Int32)) hx hb dX7_read_1 (by decide) ?_
  refine clx_i F (vx_runV (As := [.int (0 : Int32)]) (rest := []) ⟨hx, hb, hml, hown, hts⟩ (cx_R_held hlt h _) (cwV 1 hts (lw_V q537 q539 qs2 q105 q540) rfl rfl rfl (by decide +kernel) ⟨Nat.le_trans (Nat.le_of_ble_eq_true rfl) hRf, Nat.le_trans (Nat.le_of_ble_eq_true rfl) hRl⟩) ⟨ct_blind, va_recv hK hP (ci := 3) (q0 := 0) rfl rfl, ct_at F hS hP hD⟩ rfl rfl hl.1 rfl (lv_room (Nat.le_of_ble_eq_true rfl)) dX7_read_2 ⟨hC1, hS7⟩) hD hS ?_ ?_
  · rintro q v_ pw3 H locs h hP hD hS
    exact rx_out (wx := fun u : (Int32) => (wRU gI o pt ox ax rn ak rt rm fd tx sz en u)) (QX := (fun (v : Int32) (u : (Int32)) => E v u)) F (fun x hx => (htab x hx).elim) (pw3) h hP hD hS (Nat.le_refl _) (Nat.le_refl _)
  · rintro x1 pw2 H locs h hP hD hS
    refine lv_pop hx hb dX7_read_5 rfl ?_
    refine lv_aload_n hx hb dX7_read_6 rfl (lv_at hl 0 rfl) ?_
    refine clx_v F (vx_runU (As := []) (rest := []) ⟨hx, hb, hml, hown, hts⟩ (cx_W_needEndR hlt h _) (va_cwU (owner := RX5) 0 hts (lw_U q576 q577 q579 q460 q99 q465) rfl rfl rfl rfl (by decide +kernel) ⟨Nat.le_trans (Nat.le_of_ble_eq_true rfl) hRf, Nat.le_trans (Nat.le_of_ble_eq_true rfl) hRl⟩) ⟨ct_blind, va_recv hK hP (ci := 3) (q0 := 0) rfl rfl, ct_at F hS hP hD⟩ rfl rfl hl.1 rfl (lv_room (Nat.le_of_ble_eq_true rfl)) dX7_read_7 ⟨hC1, hS7⟩) hD hS ?_ ?_
    · rintro q v_ _ H locs h hP hD hS
      exact rx_out (wx := fun u : (Int32) => (wRU gI o pt ox ax rn ak rt rm fd tx sz en u)) (QX := (fun (v : Int32) (u : (Int32)) => E v u)) F (fun x hx => (htab x hx).elim) (pw2) h hP hD hS (Nat.le_refl _) (Nat.le_refl _)
    · rintro _ H locs h hP hD hS
      refine lv_aload_n hx hb dX7_read_10 rfl (lv_at hl 0 rfl) ?_
      exact vx_ret (rt_r F dX7_read_11 (pw2) rfl h hP hD hS (Nat.le_refl _) (Nat.le_refl _))
set_option maxHeartbeats 4000000 in
theorem cz_R_of {l : Launch} {V : evT} {D : va_G} {gI : Nat → ClassId} {o : Nat} {pt : Nat} {ox : Nat} {ax : Nat → Nat} {rn : Option (Nat × Nat)} (hlt : l.stackTraces = false) {v1 : Int32} {v2 : Int32} {tx : Nat → Int32} {sz : Int32} {en : Int32} {pw : Int32} {ak : Int32} {rt : Int32} {rm : Int32} {fd : Nat → Int32} {Q : Int32 → (Int32) → (Int32) → (Int32) → (Int32) → Prop} (h : wp_R_of v1 v2 tx sz en pw ak rt rm fd Q) : czW_i l V D (tyL gI) yX7_of cX7_of 6 .int [(20, 26, 33, 37), (20, 26, 45, 0), (33, 37, 45, 0), (45, 47, 45, 0)] { frames := 210, cells := 1, slots := 7, locals := 4989 } [.ref o, .int v1, .int v2] (wRU gI o pt ox ax rn ak rt rm fd tx sz en pw) (fun u : (Int32) × (Int32) × (Int32) × (Int32) => (wRU gI o pt ox ax rn u.2.1 u.2.2.1 u.2.2.2 fd tx sz en u.1)) (fun (x : Int32) (u : (Int32) × (Int32) × (Int32) × (Int32)) => Q x u.1 u.2.1 u.2.2.1 u.2.2.2) := by
  refine czW_ofi RX7 rfl (by decide +kernel) (Nat.le_of_ble_eq_true rfl) ?_
  intro p e s m args below meth c A F hP hD ls hl
  obtain ⟨⟨hx, hb, hml, hown, hts⟩, hr, hlocks, hA, hK, hE⟩ := id F
  have hS : va_S A s.heap s.heap [] := va_S.rf
  have hl : lv_has ls 6 [(0, .ref o), (1, .int v1), (2, .int v2)] := hl
  have hRf : 210 ≤ ({ frames := 210, cells := 1, slots := 7, locals := 4989 } : Room).frames := Nat.le_refl _
  have hC1 : 1 ≤ ({ frames := 210, cells := 1, slots := 7, locals := 4989 } : Room).cells := Nat.le_refl _
  have hS7 : 7 ≤ ({ frames := 210, cells := 1, slots := 7, locals := 4989 } : Room).slots := Nat.le_refl _
  have hRl : 4989 ≤ ({ frames := 210, cells := 1, slots := 7, locals := 4989 } : Room).locals := Nat.le_refl _
  have hC : 0 ≤ ({ frames := 210, cells := 1, slots := 7, locals := 4989 } : Room).cells := Nat.zero_le _
  have hSl : 0 ≤ ({ frames := 210, cells := 1, slots := 7, locals := 4989 } : Room).slots := Nat.zero_le _
  unfold wp_R_of at h
  refine lv_aload_n hx hb dX7_of_0 rfl (lv_at hl 0 rfl) ?_
  refine lv_iconst (v := (1 : Int32)) hx hb dX7_of_1 (by decide) ?_
  refine pt_put (v := .int (1 : Int32)) hx hb hts in_X7 tyX7 tyX7_ok nmX7 hown hK hP hD hS 0 rfl rfl 4 (Nat.le_of_ble_eq_true rfl) (hts _ q516) (fun _ h => h) rfl (ty := .boolean) (by decide +kernel) rfl rfl (Nat.le_of_ble_eq_true rfl) dX7_of_2 rfl (fun H locs hP hD hS => ?_)
  refine lv_aload_n hx hb dX7_of_5 rfl (lv_at hl 0 rfl) ?_
  refine lv_iload_n hx hb dX7_of_6 rfl (lv_at hl 1 rfl) ?_
  refine pt_put (v := .int v1) hx hb hts in_X7 tyX7 tyX7_ok nmX7 hown hK hP hD hS 0 rfl rfl 5 (Nat.le_of_ble_eq_true rfl) (hts _ q517) (fun _ h => h) rfl (ty := .int) (by decide +kernel) rfl rfl (Nat.le_of_ble_eq_true rfl) dX7_of_7 rfl (fun H locs hP hD hS => ?_)
  refine lv_aload_n hx hb dX7_of_10 rfl (lv_at hl 0 rfl) ?_
  refine lv_iload_n hx hb dX7_of_11 rfl (lv_at hl 2 rfl) ?_
  refine pt_put (v := .int v2) hx hb hts in_X7 tyX7 tyX7_ok nmX7 hown hK hP hD hS 0 rfl rfl 6 (Nat.le_of_ble_eq_true rfl) (hts _ q518) (fun _ h => h) rfl (ty := .int) (by decide +kernel) rfl rfl (Nat.le_of_ble_eq_true rfl) dX7_of_12 rfl (fun H locs hP hD hS => ?_)
  refine lv_aload_n hx hb dX7_of_15 rfl (lv_at hl 0 rfl) ?_
  refine lv_iconst (v := (0 : Int32)) hx hb dX7_of_16 (by decide) ?_
  refine pt_put (v := .int (0 : Int32)) hx hb hts in_X7 tyX7 tyX7_ok nmX7 hown hK hP hD hS 0 rfl rfl 3 (Nat.le_of_ble_eq_true rfl) (hts _ q347) (u_same (hts _ q348)) rfl (ty := .int) (by decide +kernel) rfl rfl (Nat.le_of_ble_eq_true rfl) dX7_of_17 rfl (fun H locs hP hD hS => ?_)
  refine lv_aload_n hx hb dX7_of_20 rfl (lv_at hl 0 rfl) ?_
  refine lv_iconst (v := (0 : Int32)) hx hb dX7_of_21 (by decide) ?_
  refine clx_i F (vx_runV (As := [.int (0 : Int32)]) (rest := []) ⟨hx, hb, hml, hown, hts⟩ (cx_R_held hlt h _) (cwV 1 hts (lw_V q537 q539 qs2 q105 q540) rfl rfl rfl (by decide +kernel) ⟨Nat.le_trans (Nat.le_of_ble_eq_true rfl) hRf, Nat.le_trans (Nat.le_of_ble_eq_true rfl) hRl⟩) ⟨ct_blind, va_recv hK hP (ci := 3) (q0 := 0) rfl rfl, ct_at F hS hP hD⟩ rfl rfl hl.1 rfl (lv_room (Nat.le_of_ble_eq_true rfl)) dX7_of_22 ⟨hC1, hS7⟩) hD hS ?_ ?_
  · rintro q v_ pw3 H locs h hP hD hS
    exact h.elim
  · rintro x1 pw2 H locs h hP hD hS
    refine lv_istore_n (lv' := [(3, .int x1), (0, .ref o), (1, .int v1), (2, .int v2)]) hx hb dX7_of_25 rfl hl (by decide) rfl (fun ls hl => ?_)
    refine lv_aload_n hx hb dX7_of_26 rfl (lv_at hl 1 rfl) ?_
    refine lv_iconst (v := (0 : Int32)) hx hb dX7_of_27 (by decide) ?_
    refine pt_put (v := .int (0 : Int32)) hx hb hts in_X7 tyX7 tyX7_ok nmX7 hown hK hP hD hS 0 rfl rfl 4 (Nat.le_of_ble_eq_true rfl) (hts _ q516) (fun _ h => h) rfl (ty := .boolean) (by decide +kernel) rfl rfl (Nat.le_of_ble_eq_true rfl) dX7_of_28 rfl (fun H locs hP hD hS => ?_)
    refine lv_iload_n hx hb dX7_of_31 rfl (lv_at hl 0 rfl) ?_
    exact vx_ret (rt_i F dX7_of_32 rfl (pw2, (0 : Int32), v1, v2) h hP hD hS (Nat.le_refl _) (Nat.le_refl _))
