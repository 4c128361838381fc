/-! pages: walks -/
set_option maxRecDepth 100000
set_option maxHeartbeats 8000000 in
theorem ct_S_keep {l : Launch} {V : evT} {D : va_G} {gI : Nat → ClassId} {o : Nat} {ax : Nat → Nat} {tl : va_W} (hlt : l.stackTraces = false) {v1 : Int32} {fd : Nat → Int32} {ar : Nat → Nat → Int32} {lw : Nat → Int64} {hh : HT} {rn : Option (Nat × Nat)} {pq : Nat → Option Nat} {Q : Int32 → (Nat → Option Nat) → (Option PGc) → Prop} (h : wp_S_keep v1 fd ar lw hh rn pq Q) : ct_i l V D vwCl (tyL gI) yX1_keep cX1_keep 2 .boolean { frames := 3, cells := 7, slots := 57, locals := 102 } [.ref o, .int v1] (wX gI o ax rn ([((ax 31), .inl (gI 5, 3, .inr (.inr (.inr (.inr pq)))))] ++ tl) fd ar lw hh) (fun u : (Nat → Option Nat) × (Option PGc) => (wX gI o ax rn ((wNP gI o u.2 ++ [((ax 31), .inl (gI 5, 3, .inr (.inr (.inr (.inr u.1)))))]) ++ tl) fd ar lw hh)) (fun (x : Int32) (u : (Nat → Option Nat) × (Option PGc)) => Q x u.1 u.2) := by
  refine ct_ofi RX1 rfl (by decide +kernel) (Nat.le_of_ble_eq_true rfl) ?_
  intro p e s m args below meth c A F hP hD ls hl
  obtain ⟨⟨hx, hb, hml, hown, hts⟩, hr, hlocks, hA, hK, hE⟩ := id F
  have hS : va_S A s.heap s.heap [] := va_S.rf
  have hl : lv_has ls 2 [(0, .ref o), (1, .int v1)] := hl
  have hRf : 3 ≤ ({ frames := 3, cells := 7, slots := 57, locals := 102 } : Room).frames := Nat.le_refl _
  have hC : 0 ≤ ({ frames := 3, cells := 7, slots := 57, locals := 102 } : Room).cells := Nat.le_of_ble_eq_true rfl
  have hSl : 0 ≤ ({ frames := 3, cells := 7, slots := 57, locals := 102 } : Room).slots := Nat.le_of_ble_eq_true rfl
  have hC1 : 0 + 1 ≤ ({ frames := 3, cells := 7, slots := 57, locals := 102 } : Room).cells := Nat.le_of_ble_eq_true rfl
  have hS7 : 0 + 7 ≤ ({ frames := 3, cells := 7, slots := 57, locals := 102 } : Room).slots := Nat.le_of_ble_eq_true rfl
  have hM : 0 + 1 ≤ 7 := Nat.le_of_ble_eq_true rfl
  have hMs : 0 + 7 ≤ 57 := Nat.le_of_ble_eq_true rfl
  have hRl : 102 ≤ ({ frames := 3, cells := 7, slots := 57, locals := 102 } : Room).locals := Nat.le_refl _
  unfold wp_S_keep at h
  refine lv_iload_n hx hb dX1_keep_0 rfl (lv_at hl 1 rfl) ?_
  refine lv_i2l (v := (v1.toInt64)) hx hb dX1_keep_1 rfl ?_
  refine lv_lconst (v := (0 : Int64)) hx hb dX1_keep_2 (by decide) ?_
  refine lv_ldc2 (v := (2 : Int64)) hx hb hown (hts _ q1139) dX1_keep_3 ?_
  refine cl_i0 F (va_runS (As := [.long (v1.toInt64), .long (0 : Int64), .long (2 : Int64)]) (rest := []) ⟨hx, hb, hml, hown, hts⟩ (ct_X1_in h _) (va_cwS 3 hts (lw_S q298 q299 q94 q300) rfl rfl rfl (by decide +kernel) ⟨Nat.le_trans (Nat.le_of_ble_eq_true rfl) hRf, Nat.le_trans (Nat.le_of_ble_eq_true rfl) hRl⟩) ⟨ct_blind, ct_at F hS ct_nP ct_nD⟩ rfl rfl hl.1 rfl (lv_room (Nat.le_of_ble_eq_true rfl)) dX1_keep_6 ⟨hC, hSl⟩) rfl rfl hP hS ?_
  rintro x1 _ H locs h hP hS
  refine lv_if_ne (tgt := 14) hx hb dX1_keep_9 (by decide) (fun c8 => ?_) (fun c8 => ?_)
  · replace h := h.1 c8
    refine lv_aload_n hx hb dX1_keep_14 rfl (lv_at hl 0 rfl) ?_
    refine va_get hx hb hts in_X1 hown hK hP 0 rfl rfl 31 (Nat.le_of_ble_eq_true rfl) (hts _ q222) (fun _ h => h) (v := .ref (ax 31)) rfl dX1_keep_15 ?_
    refine lv_iload_n hx hb dX1_keep_18 rfl (lv_at hl 1 rfl) ?_
    refine va_new (ci := 9) (fs := [.null, .int (0 : Int32), .null]) (C := RX12) (T := TX12) (N := 3) hx hb hts in_X12 tyX12 tyX12_ok hown (hts _ q169) (hts _ q1140) (hts _ q119) hK hP hD hS hA rfl (fun j hj => by rcases (show j = 0 ∨ j = 1 ∨ j = 2 by omega) with rfl | rfl | rfl <;> rfl) (Nat.le_of_ble_eq_true rfl) (Nat.le_of_ble_eq_true rfl) dX1_keep_19 (fun q2 H hP hD hS => ?_)
    replace hP : va_P D vwCl (wX gI o ax rn ([(q2, .inr (9, [.null, .int (0 : Int32), .null])), ((ax 31), .inl (gI 5, 3, .inr (.inr (.inr (.inr pq)))))] ++ tl) fd ar lw hh) _ := frw_inP (nw := [(q2, .inr (9, [.null, .int (0 : Int32), .null]))]) hP
    replace hD : va_D A (wX gI o ax rn ([(q2, .inr (9, [.null, .int (0 : Int32), .null])), ((ax 31), .inl (gI 5, 3, .inr (.inr (.inr (.inr pq)))))] ++ tl) fd ar lw hh) := frw_inD (nw := [(q2, .inr (9, [.null, .int (0 : Int32), .null]))]) hD
    replace hC : 1 ≤ ({ frames := 3, cells := 7, slots := 57, locals := 102 } : Room).cells := Nat.le_of_ble_eq_true rfl
    replace hSl : 3 ≤ ({ frames := 3, cells := 7, slots := 57, locals := 102 } : Room).slots := Nat.le_of_ble_eq_true rfl
    replace hC1 : 1 + 1 ≤ ({ frames := 3, cells := 7, slots := 57, locals := 102 } : Room).cells := Nat.le_of_ble_eq_true rfl
    replace hS7 : 3 + 7 ≤ ({ frames := 3, cells := 7, slots := 57, locals := 102 } : Room).slots := Nat.le_of_ble_eq_true rfl
    replace hM : 1 + 1 ≤ 7 := Nat.le_of_ble_eq_true rfl
    replace hMs : 3 + 7 ≤ 57 := Nat.le_of_ble_eq_true rfl
    refine lv_dup hx hb dX1_keep_22 rfl ?_
    refine lv_aload_n hx hb dX1_keep_23 rfl (lv_at hl 0 rfl) ?_
    replace hP := fr_outP (xs := [(q2, .inr (9, [.null, .int (0 : Int32), .null])), ((ax 31), .inl (gI 5, 3, .inr (.inr (.inr (.inr pq)))))]) hP
    replace hD := fr_outD (xs := [(q2, .inr (9, [.null, .int (0 : Int32), .null])), ((ax 31), .inl (gI 5, 3, .inr (.inr (.inr (.inr pq)))))]) hD
    refine cl_vN F (va_runI (As := [.ref o]) (rest := [.ref q2, .int v1, .ref (ax 31)]) ⟨hx, hb, hml, hown, hts⟩ (ct_K_X12_init (o := q2) (ox := o) (ax := ax) (rn := rn) (fd := fd) (ar := ar) _) (cwI 1 hts (lw_meth q1143) rfl rfl rfl (hts _ q119) (hts _ q1141) (hts _ q1142) rfl (by decide +kernel) ⟨Nat.le_trans (Nat.le_of_ble_eq_true rfl) hRf, Nat.le_trans (Nat.le_of_ble_eq_true rfl) hRl⟩) ⟨ct_blind, ct_at F hS (putL_P hP (ps := [0, 2, 16, 17, 18, 19, 20]) rfl) (hD.sub ([0, 2, 16, 17, 18, 19, 20]) (by decide) rfl)⟩ rfl rfl hl.1 rfl (lv_room (Nat.le_of_ble_eq_true rfl)) dX1_keep_24 ⟨Nat.le_of_ble_eq_true rfl, Nat.le_of_ble_eq_true rfl⟩) hP hD hS (ps := [0, 2, 16, 17, 18, 19, 20]) rfl (fun _ => rfl) (fun _ => rfl) ?_
    rintro ⟨q3, q4, q5, q6, q7⟩ H locs _ hP hD hS
    replace h := h q2 q3 q4 q5 q6 q7
    replace hP : va_P D vwCl (wX gI o ax rn ([(q3, .inr (1, [.ref q4, .ref q5, .ref q6, .ref q7, .int (fd 60), .int (fd 61), .int (fd 62)])), (q4, .inl (gI 0, 12, .inl (va_cpy (ar 40) (fun _ => 0) (0 : Int32).toNatClampNeg (0 : Int32).toNatClampNeg (12 : Int32).toNatClampNeg))), (q5, .inl (gI 0, 12, .inl (va_cpy (ar 41) (fun _ => 0) (0 : Int32).toNatClampNeg (0 : Int32).toNatClampNeg (12 : Int32).toNatClampNeg))), (q6, .inl (gI 0, 8, .inl (va_cpy (ar 42) (fun _ => 0) (0 : Int32).toNatClampNeg (0 : Int32).toNatClampNeg (8 : Int32).toNatClampNeg))), (q7, .inl (gI 0, 8, .inl (va_cpy (ar 43) (fun _ => 0) (0 : Int32).toNatClampNeg (0 : Int32).toNatClampNeg (8 : Int32).toNatClampNeg))), (q2, .inr (9, [.ref q3, .int (fd 13), .ref o])), ((ax 31), .inl (gI 5, 3, .inr (.inr (.inr (.inr pq)))))] ++ tl) fd ar lw hh) _ := frn_inP (xs := [(q2, .inr (9, [.ref q3, .int (fd 13), .ref o])), ((ax 31), .inl (gI 5, 3, .inr (.inr (.inr (.inr pq)))))]) (nw := [(q3, .inr (1, [.ref q4, .ref q5, .ref q6, .ref q7, .int (fd 60), .int (fd 61), .int (fd 62)])), (q4, .inl (gI 0, 12, .inl (va_cpy (ar 40) (fun _ => 0) (0 : Int32).toNatClampNeg (0 : Int32).toNatClampNeg (12 : Int32).toNatClampNeg))), (q5, .inl (gI 0, 12, .inl (va_cpy (ar 41) (fun _ => 0) (0 : Int32).toNatClampNeg (0 : Int32).toNatClampNeg (12 : Int32).toNatClampNeg))), (q6, .inl (gI 0, 8, .inl (va_cpy (ar 42) (fun _ => 0) (0 : Int32).toNatClampNeg (0 : Int32).toNatClampNeg (8 : Int32).toNatClampNeg))), (q7, .inl (gI 0, 8, .inl (va_cpy (ar 43) (fun _ => 0) (0 : Int32).toNatClampNeg (0 : Int32).toNatClampNeg (8 : Int32).toNatClampNeg)))]) hP
    replace hD : va_D A (wX gI o ax rn ([(q3, .inr (1, [.ref q4, .ref q5, .ref q6, .ref q7, .int (fd 60), .int (fd 61), .int (fd 62)])), (q4, .inl (gI 0, 12, .inl (va_cpy (ar 40) (fun _ => 0) (0 : Int32).toNatClampNeg (0 : Int32).toNatClampNeg (12 : Int32).toNatClampNeg))), (q5, .inl (gI 0, 12, .inl (va_cpy (ar 41) (fun _ => 0) (0 : Int32).toNatClampNeg (0 : Int32).toNatClampNeg (12 : Int32).toNatClampNeg))), (q6, .inl (gI 0, 8, .inl (va_cpy (ar 42) (fun _ => 0) (0 : Int32).toNatClampNeg (0 : Int32).toNatClampNeg (8 : Int32).toNatClampNeg))), (q7, .inl (gI 0, 8, .inl (va_cpy (ar 43) (fun _ => 0) (0 : Int32).toNatClampNeg (0 : Int32).toNatClampNeg (8 : Int32).toNatClampNeg))), (q2, .inr (9, [.ref q3, .int (fd 13), .ref o])), ((ax 31), .inl (gI 5, 3, .inr (.inr (.inr (.inr pq)))))] ++ tl) fd ar lw hh) := frn_inD (xs := [(q2, .inr (9, [.ref q3, .int (fd 13), .ref o])), ((ax 31), .inl (gI 5, 3, .inr (.inr (.inr (.inr pq)))))]) (nw := [(q3, .inr (1, [.ref q4, .ref q5, .ref q6, .ref q7, .int (fd 60), .int (fd 61), .int (fd 62)])), (q4, .inl (gI 0, 12, .inl (va_cpy (ar 40) (fun _ => 0) (0 : Int32).toNatClampNeg (0 : Int32).toNatClampNeg (12 : Int32).toNatClampNeg))), (q5, .inl (gI 0, 12, .inl (va_cpy (ar 41) (fun _ => 0) (0 : Int32).toNatClampNeg (0 : Int32).toNatClampNeg (12 : Int32).toNatClampNeg))), (q6, .inl (gI 0, 8, .inl (va_cpy (ar 42) (fun _ => 0) (0 : Int32).toNatClampNeg (0 : Int32).toNatClampNeg (8 : Int32).toNatClampNeg))), (q7, .inl (gI 0, 8, .inl (va_cpy (ar 43) (fun _ => 0) (0 : Int32).toNatClampNeg (0 : Int32).toNatClampNeg (8 : Int32).toNatClampNeg)))]) hD
    replace hC : 6 ≤ ({ frames := 3, cells := 7, slots := 57, locals := 102 } : Room).cells := Nat.le_of_ble_eq_true rfl
    replace hSl : 50 ≤ ({ frames := 3, cells := 7, slots := 57, locals := 102 } : Room).slots := Nat.le_of_ble_eq_true rfl
    replace hC1 : 6 + 1 ≤ ({ frames := 3, cells := 7, slots := 57, locals := 102 } : Room).cells := Nat.le_of_ble_eq_true rfl
    replace hS7 : 50 + 7 ≤ ({ frames := 3, cells := 7, slots := 57, locals := 102 } : Room).slots := Nat.le_of_ble_eq_true rfl
    replace hM : 6 + 1 ≤ 7 := Nat.le_of_ble_eq_true rfl
    replace hMs : 50 + 7 ≤ 57 := Nat.le_of_ble_eq_true rfl
    replace hP := fr_outP (xs := [(q3, .inr (1, [.ref q4, .ref q5, .ref q6, .ref q7, .int (fd 60), .int (fd 61), .int (fd 62)])), (q4, .inl (gI 0, 12, .inl (va_cpy (ar 40) (fun _ => 0) (0 : Int32).toNatClampNeg (0 : Int32).toNatClampNeg (12 : Int32).toNatClampNeg))), (q5, .inl (gI 0, 12, .inl (va_cpy (ar 41) (fun _ => 0) (0 : Int32).toNatClampNeg (0 : Int32).toNatClampNeg (12 : Int32).toNatClampNeg))), (q6, .inl (gI 0, 8, .inl (va_cpy (ar 42) (fun _ => 0) (0 : Int32).toNatClampNeg (0 : Int32).toNatClampNeg (8 : Int32).toNatClampNeg))), (q7, .inl (gI 0, 8, .inl (va_cpy (ar 43) (fun _ => 0) (0 : Int32).toNatClampNeg (0 : Int32).toNatClampNeg (8 : Int32).toNatClampNeg))), (q2, .inr (9, [.ref q3, .int (fd 13), .ref o])), ((ax 31), .inl (gI 5, 3, .inr (.inr (.inr (.inr pq)))))]) hP
    replace hD := fr_outD (xs := [(q3, .inr (1, [.ref q4, .ref q5, .ref q6, .ref q7, .int (fd 60), .int (fd 61), .int (fd 62)])), (q4, .inl (gI 0, 12, .inl (va_cpy (ar 40) (fun _ => 0) (0 : Int32).toNatClampNeg (0 : Int32).toNatClampNeg (12 : Int32).toNatClampNeg))), (q5, .inl (gI 0, 12, .inl (va_cpy (ar 41) (fun _ => 0) (0 : Int32).toNatClampNeg (0 : Int32).toNatClampNeg (12 : Int32).toNatClampNeg))), (q6, .inl (gI 0, 8, .inl (va_cpy (ar 42) (fun _ => 0) (0 : Int32).toNatClampNeg (0 : Int32).toNatClampNeg (8 : Int32).toNatClampNeg))), (q7, .inl (gI 0, 8, .inl (va_cpy (ar 43) (fun _ => 0) (0 : Int32).toNatClampNeg (0 : Int32).toNatClampNeg (8 : Int32).toNatClampNeg))), (q2, .inr (9, [.ref q3, .int (fd 13), .ref o])), ((ax 31), .inl (gI 5, 3, .inr (.inr (.inr (.inr pq)))))]) hD
    refine va_astq (f := pq) hx hb hK hP hD hS 6 5 5 9 rfl rfl rfl rfl h.1 dX1_keep_27 (fun H locs hP hD hS => ?_)
    replace h := h.2
    replace hP := fr_inP (xs := [(q3, .inr (1, [.ref q4, .ref q5, .ref q6, .ref q7, .int (fd 60), .int (fd 61), .int (fd 62)])), (q4, .inl (gI 0, 12, .inl (va_cpy (ar 40) (fun _ => 0) (0 : Int32).toNatClampNeg (0 : Int32).toNatClampNeg (12 : Int32).toNatClampNeg))), (q5, .inl (gI 0, 12, .inl (va_cpy (ar 41) (fun _ => 0) (0 : Int32).toNatClampNeg (0 : Int32).toNatClampNeg (12 : Int32).toNatClampNeg))), (q6, .inl (gI 0, 8, .inl (va_cpy (ar 42) (fun _ => 0) (0 : Int32).toNatClampNeg (0 : Int32).toNatClampNeg (8 : Int32).toNatClampNeg))), (q7, .inl (gI 0, 8, .inl (va_cpy (ar 43) (fun _ => 0) (0 : Int32).toNatClampNeg (0 : Int32).toNatClampNeg (8 : Int32).toNatClampNeg))), (q2, .inr (9, [.ref q3, .int (fd 13), .ref o])), ((ax 31), .inl (gI 5, 3, .inr (.inr (.inr (.inr (va_up pq v1.toNatClampNeg (some q2)))))))]) hP
    replace hD := fr_inD (xs := [(q3, .inr (1, [.ref q4, .ref q5, .ref q6, .ref q7, .int (fd 60), .int (fd 61), .int (fd 62)])), (q4, .inl (gI 0, 12, .inl (va_cpy (ar 40) (fun _ => 0) (0 : Int32).toNatClampNeg (0 : Int32).toNatClampNeg (12 : Int32).toNatClampNeg))), (q5, .inl (gI 0, 12, .inl (va_cpy (ar 41) (fun _ => 0) (0 : Int32).toNatClampNeg (0 : Int32).toNatClampNeg (12 : Int32).toNatClampNeg))), (q6, .inl (gI 0, 8, .inl (va_cpy (ar 42) (fun _ => 0) (0 : Int32).toNatClampNeg (0 : Int32).toNatClampNeg (8 : Int32).toNatClampNeg))), (q7, .inl (gI 0, 8, .inl (va_cpy (ar 43) (fun _ => 0) (0 : Int32).toNatClampNeg (0 : Int32).toNatClampNeg (8 : Int32).toNatClampNeg))), (q2, .inr (9, [.ref q3, .int (fd 13), .ref o])), ((ax 31), .inl (gI 5, 3, .inr (.inr (.inr (.inr (va_up pq v1.toNatClampNeg (some q2)))))))]) hD
    refine lv_iconst (v := (1 : Int32)) hx hb dX1_keep_28 (by decide) ?_
    exact rt_i F dX1_keep_29 rfl ((va_up pq v1.toNatClampNeg (some q2)), (some ((q2, pgA q3 q4 q5 q6 q7), pgR (va_cpy (ar 40) (fun _ => 0) (0 : Int32).toNatClampNeg (0 : Int32).toNatClampNeg (12 : Int32).toNatClampNeg) (va_cpy (ar 41) (fun _ => 0) (0 : Int32).toNatClampNeg (0 : Int32).toNatClampNeg (12 : Int32).toNatClampNeg) (va_cpy (ar 42) (fun _ => 0) (0 : Int32).toNatClampNeg (0 : Int32).toNatClampNeg (8 : Int32).toNatClampNeg) (va_cpy (ar 43) (fun _ => 0) (0 : Int32).toNatClampNeg (0 : Int32).toNatClampNeg (8 : Int32).toNatClampNeg), pgN (fd 60) (fd 61) (fd 62) (fd 13)))) h hP hD hS (Nat.le_of_ble_eq_true rfl) (Nat.le_of_ble_eq_true rfl)
  · replace h := h.2 c8
    refine lv_iconst (v := (0 : Int32)) hx hb dX1_keep_12 (by decide) ?_
    exact rt_i F dX1_keep_13 rfl (pq, none) h hP hD hS (Nat.le_of_ble_eq_true rfl) (Nat.le_of_ble_eq_true rfl)
set_option maxHeartbeats 4000000 in
theorem ct_So_again {l : Launch} {V : evT} {D : va_G} {gI : Nat → ClassId} {o : Nat} {ax : Nat → Nat} {tl : va_W} {v1 : Int32} {fd : Nat → Int32} {ar : Nat → Nat → Int32} {lw : Nat → Int64} {hh : HT} {rn : Option (Nat × Nat)} {pq : Nat → Option Nat} {Q : Int32 → Prop} (h : wp_So_again v1 fd ar lw hh rn pq Q) : ct_i l V D vwCl (tyL gI) yX1_again cX1_again 2 .boolean { frames := 2, cells := 0, slots := 0, locals := 37 } [.ref o, .int v1] (wX gI o ax rn ([((ax 31), .inl (gI 5, 3, .inr (.inr (.inr (.inr pq)))))] ++ tl) fd ar lw hh) (fun u : Unit => (wX gI o ax rn ([((ax 31), .inl (gI 5, 3, .inr (.inr (.inr (.inr pq)))))] ++ tl) fd ar lw hh)) (fun (x : Int32) (u : Unit) => Q x) := by
  refine ct_ofi RX1 rfl (by decide +kernel) (Nat.le_of_ble_eq_true rfl) ?_
  intro p e s m args below meth c A F hP hD ls hl
  obtain ⟨⟨hx, hb, hml, hown, hts⟩, hr, hlocks, hA, hK, hE⟩ := id F
  have hS : va_S A s.heap s.heap [] := va_S.rf
  have hl : lv_has ls 2 [(0, .ref o), (1, .int v1)] := hl
  have hRf : 2 ≤ ({ frames := 2, cells := 0, slots := 0, locals := 37 } : Room).frames := Nat.le_refl _
  have hRl : 37 ≤ ({ frames := 2, cells := 0, slots := 0, locals := 37 } : Room).locals := Nat.le_refl _
  have hC : 0 ≤ ({ frames := 2, cells := 0, slots := 0, locals := 37 } : Room).cells := Nat.le_refl _
  have hSl : 0 ≤ ({ frames := 2, cells := 0, slots := 0, locals := 37 } : Room).slots := Nat.le_refl _
  unfold wp_So_again at h
  refine lv_iload_n hx hb dX1_again_0 rfl (lv_at hl 1 rfl) ?_
  refine lv_i2l (v := (v1.toInt64)) hx hb dX1_again_1 rfl ?_
  refine lv_lconst (v := (0 : Int64)) hx hb dX1_again_2 (by decide) ?_
  refine lv_ldc2 (v := (2 : Int64)) hx hb hown (hts _ q1139) dX1_again_3 ?_
  refine cl_i0 F (va_runS (As := [.long (v1.toInt64), .long (0 : Int64), .long (2 : Int64)]) (rest := []) ⟨hx, hb, hml, hown, hts⟩ (ct_X1_in h _) (va_cwS 3 hts (lw_S q298 q299 q94 q300) rfl rfl rfl (by decide +kernel) ⟨Nat.le_trans (Nat.le_of_ble_eq_true rfl) hRf, Nat.le_trans (Nat.le_of_ble_eq_true rfl) hRl⟩) ⟨ct_blind, ct_at F hS ct_nP ct_nD⟩ rfl rfl hl.1 rfl (lv_room (Nat.le_of_ble_eq_true rfl)) dX1_again_6 ⟨hC, hSl⟩) rfl rfl hP hS ?_
  rintro x1 _ H locs h hP hS
  refine lv_if_eq (tgt := 37) hx hb dX1_again_9 (by decide) (fun c3 => ?_) (fun c3 => ?_)
  · replace h := h.1 c3
    refine lv_iconst (v := (0 : Int32)) hx hb dX1_again_37 (by decide) ?_
    exact rt_i F dX1_again_38 rfl () h hP hD hS (Nat.le_refl _) (Nat.le_refl _)
  · replace h := h.2 c3
    refine lv_aload_n hx hb dX1_again_12 rfl (lv_at hl 0 rfl) ?_
    refine va_get hx hb hts in_X1 hown hK hP 0 rfl rfl 31 (Nat.le_of_ble_eq_true rfl) (hts _ q222) (fun _ h => h) (v := .ref (ax 31)) rfl dX1_again_13 ?_
    refine lv_iload_n hx hb dX1_again_16 rfl (lv_at hl 1 rfl) ?_
    refine va_aldq (f := pq) hx hb hK (fr_outP (xs := [((ax 31), .inl (gI 5, 3, .inr (.inr (.inr (.inr pq)))))]) hP) 0 5 rfl rfl h.1 dX1_again_17 ?_
    obtain ⟨-, hn2, h⟩ := h
    rw [hn2]
    refine lv_ifnullN (tgt := 37) hx hb dX1_again_18 (by decide) ?_
    refine lv_iconst (v := (0 : Int32)) hx hb dX1_again_37 (by decide) ?_
    exact rt_i F dX1_again_38 rfl () h hP hD hS (Nat.le_refl _) (Nat.le_refl _)
set_option maxHeartbeats 4000000 in
theorem ct_Sp_again {l : Launch} {V : evT} {D : va_G} {gI : Nat → ClassId} {o : Nat} {ax : Nat → Nat} {tl : va_W} {pa : Nat → Nat} {v1 : Int32} {fd : Nat → Int32} {ar : Nat → Nat → Int32} {lw : Nat → Int64} {hh : HT} {rn : Option (Nat × Nat)} {pq : Nat → Option Nat} {pp : Nat} {pmo : Int32} {psp : Int32} {pti : Int32} {psi : Int32} {pr0 : Nat → Int32} {pr1 : Nat → Int32} {pr2 : Nat → Int32} {pr3 : Nat → Int32} {Q : Int32 → (Nat → Int32) → (Nat → Nat → Int32) → Prop} (h : wp_Sp_again v1 fd ar lw hh rn pq pp pmo psp pti psi pr0 pr1 pr2 pr3 Q) : ct_i l V D vwCl (tyL gI) yX1_again cX1_again 2 .boolean { frames := 2, cells := 0, slots := 0, locals := 81 } [.ref o, .int v1] (wX gI o ax rn ([((pa 0), .inr (1, [.ref (pa 1), .ref (pa 2), .ref (pa 3), .ref (pa 4), .int pmo, .int psp, .int pti])), ((pa 1), .inl (gI 0, 12, .inl pr0)), ((pa 2), .inl (gI 0, 12, .inl pr1)), ((pa 3), .inl (gI 0, 8, .inl pr2)), ((pa 4), .inl (gI 0, 8, .inl pr3)), (pp, .inr (9, [.ref (pa 0), .int psi, .ref o])), ((ax 31), .inl (gI 5, 3, .inr (.inr (.inr (.inr pq)))))] ++ tl) fd ar lw hh) (fun u : (Nat → Int32) × (Nat → Nat → Int32) => (wX gI o ax rn ([((pa 0), .inr (1, [.ref (pa 1), .ref (pa 2), .ref (pa 3), .ref (pa 4), .int pmo, .int psp, .int pti])), ((pa 1), .inl (gI 0, 12, .inl pr0)), ((pa 2), .inl (gI 0, 12, .inl pr1)), ((pa 3), .inl (gI 0, 8, .inl pr2)), ((pa 4), .inl (gI 0, 8, .inl pr3)), (pp, .inr (9, [.ref (pa 0), .int psi, .ref o])), ((ax 31), .inl (gI 5, 3, .inr (.inr (.inr (.inr pq)))))] ++ tl) u.1 u.2 lw hh)) (fun (x : Int32) (u : (Nat → Int32) × (Nat → Nat → Int32)) => Q x u.1 u.2) := by
  refine ct_ofi RX1 rfl (by decide +kernel) (Nat.le_of_ble_eq_true rfl) ?_
  intro p e s m args below meth c A F hP hD ls hl
  obtain ⟨⟨hx, hb, hml, hown, hts⟩, hr, hlocks, hA, hK, hE⟩ := id F
  have hS : va_S A s.heap s.heap [] := va_S.rf
  have hl : lv_has ls 2 [(0, .ref o), (1, .int v1)] := hl
  have hRf : 2 ≤ ({ frames := 2, cells := 0, slots := 0, locals := 81 } : Room).frames := Nat.le_refl _
  have hRl : 81 ≤ ({ frames := 2, cells := 0, slots := 0, locals := 81 } : Room).locals := Nat.le_refl _
  have hC : 0 ≤ ({ frames := 2, cells := 0, slots := 0, locals := 81 } : Room).cells := Nat.le_refl _
  have hSl : 0 ≤ ({ frames := 2, cells := 0, slots := 0, locals := 81 } : Room).slots := Nat.le_refl _
  unfold wp_Sp_again at h
  refine lv_iload_n hx hb dX1_again_0 rfl (lv_at hl 1 rfl) ?_
  refine lv_i2l (v := (v1.toInt64)) hx hb dX1_again_1 rfl ?_
  refine lv_lconst (v := (0 : Int64)) hx hb dX1_again_2 (by decide) ?_
  refine lv_ldc2 (v := (2 : Int64)) hx hb hown (hts _ q1139) dX1_again_3 ?_
  refine cl_i0 F (va_runS (As := [.long (v1.toInt64), .long (0 : Int64), .long (2 : Int64)]) (rest := []) ⟨hx, hb, hml, hown, hts⟩ (ct_X1_in h _) (va_cwS 3 hts (lw_S q298 q299 q94 q300) rfl rfl rfl (by decide +kernel) ⟨Nat.le_trans (Nat.le_of_ble_eq_true rfl) hRf, Nat.le_trans (Nat.le_of_ble_eq_true rfl) hRl⟩) ⟨ct_blind, ct_at F hS ct_nP ct_nD⟩ rfl rfl hl.1 rfl (lv_room (Nat.le_of_ble_eq_true rfl)) dX1_again_6 ⟨hC, hSl⟩) rfl rfl hP hS ?_
  rintro x1 _ H locs h hP hS
  refine lv_if_eq (tgt := 37) hx hb dX1_again_9 (by decide) (fun c6 => ?_) (fun c6 => ?_)
  · replace h := h.1 c6
    refine lv_iconst (v := (0 : Int32)) hx hb dX1_again_37 (by decide) ?_
    exact rt_i F dX1_again_38 rfl (fd, ar) h hP hD hS (Nat.le_refl _) (Nat.le_refl _)
  · replace h := h.2 c6
    refine lv_aload_n hx hb dX1_again_12 rfl (lv_at hl 0 rfl) ?_
    refine va_get hx hb hts in_X1 hown hK hP 0 rfl rfl 31 (Nat.le_of_ble_eq_true rfl) (hts _ q222) (fun _ h => h) (v := .ref (ax 31)) rfl dX1_again_13 ?_
    refine lv_iload_n hx hb dX1_again_16 rfl (lv_at hl 1 rfl) ?_
    refine va_aldq (f := pq) hx hb hK (fr_outP (xs := [((pa 0), .inr (1, [.ref (pa 1), .ref (pa 2), .ref (pa 3), .ref (pa 4), .int pmo, .int psp, .int pti])), ((pa 1), .inl (gI 0, 12, .inl pr0)), ((pa 2), .inl (gI 0, 12, .inl pr1)), ((pa 3), .inl (gI 0, 8, .inl pr2)), ((pa 4), .inl (gI 0, 8, .inl pr3)), (pp, .inr (9, [.ref (pa 0), .int psi, .ref o])), ((ax 31), .inl (gI 5, 3, .inr (.inr (.inr (.inr pq)))))]) hP) 6 5 rfl rfl h.1 dX1_again_17 ?_
    obtain ⟨-, hn2, h⟩ := h
    rw [hn2]
    refine lv_ifnull hx hb dX1_again_18 ?_
    refine lv_aload_n hx hb dX1_again_21 rfl (lv_at hl 0 rfl) ?_
    refine va_get hx hb hts in_X1 hown hK hP 0 rfl rfl 31 (Nat.le_of_ble_eq_true rfl) (hts _ q222) (fun _ h => h) (v := .ref (ax 31)) rfl dX1_again_22 ?_
    refine lv_iload_n hx hb dX1_again_25 rfl (lv_at hl 1 rfl) ?_
    refine va_aldq (f := pq) hx hb hK (fr_outP (xs := [((pa 0), .inr (1, [.ref (pa 1), .ref (pa 2), .ref (pa 3), .ref (pa 4), .int pmo, .int psp, .int pti])), ((pa 1), .inl (gI 0, 12, .inl pr0)), ((pa 2), .inl (gI 0, 12, .inl pr1)), ((pa 3), .inl (gI 0, 8, .inl pr2)), ((pa 4), .inl (gI 0, 8, .inl pr3)), (pp, .inr (9, [.ref (pa 0), .int psi, .ref o])), ((ax 31), .inl (gI 5, 3, .inr (.inr (.inr (.inr pq)))))]) hP) 6 5 rfl rfl h.1 dX1_again_26 ?_
    obtain ⟨-, hn3, h⟩ := h
    rw [hn3]
    refine va_getN hx hb hts in_X12 hown hK (fr_outP (xs := [((pa 0), .inr (1, [.ref (pa 1), .ref (pa 2), .ref (pa 3), .ref (pa 4), .int pmo, .int psp, .int pti])), ((pa 1), .inl (gI 0, 12, .inl pr0)), ((pa 2), .inl (gI 0, 12, .inl pr1)), ((pa 3), .inl (gI 0, 8, .inl pr2)), ((pa 4), .inl (gI 0, 8, .inl pr3)), (pp, .inr (9, [.ref (pa 0), .int psi, .ref o])), ((ax 31), .inl (gI 5, 3, .inr (.inr (.inr (.inr pq)))))]) hP) 5 rfl rfl 1 (Nat.le_of_ble_eq_true rfl) (va_Nw.use rfl (hE.1 _ q1151 rfl)) (fun _ h => h) (v := .int psi) rfl dX1_again_27 ?_
    refine lv_aload_n hx hb dX1_again_30 rfl (lv_at hl 0 rfl) ?_
    refine va_get hx hb hts in_X1 hown hK hP 0 rfl rfl 13 (Nat.le_of_ble_eq_true rfl) (hts _ q204) (fun _ h => h) (v := .int (fd 13)) rfl dX1_again_31 ?_
    refine lv_icmp_eq (tgt := 39) hx hb dX1_again_34 (by decide) (fun c5 => ?_) (fun c5 => ?_)
    · replace h := h.1 c5
      refine lv_aload_n hx hb dX1_again_39 rfl (lv_at hl 0 rfl) ?_
      refine va_get hx hb hts in_X1 hown hK hP 0 rfl rfl 0 (Nat.le_of_ble_eq_true rfl) (hts _ q180) (fun _ h => h) (v := .ref (ax 0)) rfl dX1_again_40 ?_
      refine lv_aload_n hx hb dX1_again_43 rfl (lv_at hl 0 rfl) ?_
      refine va_get hx hb hts in_X1 hown hK hP 0 rfl rfl 31 (Nat.le_of_ble_eq_true rfl) (hts _ q222) (fun _ h => h) (v := .ref (ax 31)) rfl dX1_again_44 ?_
      refine lv_iload_n hx hb dX1_again_47 rfl (lv_at hl 1 rfl) ?_
      refine va_aldq (f := pq) hx hb hK (fr_outP (xs := [((pa 0), .inr (1, [.ref (pa 1), .ref (pa 2), .ref (pa 3), .ref (pa 4), .int pmo, .int psp, .int pti])), ((pa 1), .inl (gI 0, 12, .inl pr0)), ((pa 2), .inl (gI 0, 12, .inl pr1)), ((pa 3), .inl (gI 0, 8, .inl pr2)), ((pa 4), .inl (gI 0, 8, .inl pr3)), (pp, .inr (9, [.ref (pa 0), .int psi, .ref o])), ((ax 31), .inl (gI 5, 3, .inr (.inr (.inr (.inr pq)))))]) hP) 6 5 rfl rfl h.1 dX1_again_48 ?_
      obtain ⟨-, hn4, h⟩ := h
      rw [hn4]
      refine va_getN hx hb hts in_X12 hown hK (fr_outP (xs := [((pa 0), .inr (1, [.ref (pa 1), .ref (pa 2), .ref (pa 3), .ref (pa 4), .int pmo, .int psp, .int pti])), ((pa 1), .inl (gI 0, 12, .inl pr0)), ((pa 2), .inl (gI 0, 12, .inl pr1)), ((pa 3), .inl (gI 0, 8, .inl pr2)), ((pa 4), .inl (gI 0, 8, .inl pr3)), (pp, .inr (9, [.ref (pa 0), .int psi, .ref o])), ((ax 31), .inl (gI 5, 3, .inr (.inr (.inr (.inr pq)))))]) hP) 5 rfl rfl 0 (Nat.le_of_ble_eq_true rfl) (va_Nw.use rfl (hE.1 _ q1149 rfl)) (fun _ h => h) (v := .ref (pa 0)) rfl dX1_again_49 ?_
      replace hP := fr_outP (xs := [((pa 0), .inr (1, [.ref (pa 1), .ref (pa 2), .ref (pa 3), .ref (pa 4), .int pmo, .int psp, .int pti])), ((pa 1), .inl (gI 0, 12, .inl pr0)), ((pa 2), .inl (gI 0, 12, .inl pr1)), ((pa 3), .inl (gI 0, 8, .inl pr2)), ((pa 4), .inl (gI 0, 8, .inl pr3)), (pp, .inr (9, [.ref (pa 0), .int psi, .ref o])), ((ax 31), .inl (gI 5, 3, .inr (.inr (.inr (.inr pq)))))]) hP
      replace hD := fr_outD (xs := [((pa 0), .inr (1, [.ref (pa 1), .ref (pa 2), .ref (pa 3), .ref (pa 4), .int pmo, .int psp, .int pti])), ((pa 1), .inl (gI 0, 12, .inl pr0)), ((pa 2), .inl (gI 0, 12, .inl pr1)), ((pa 3), .inl (gI 0, 8, .inl pr2)), ((pa 4), .inl (gI 0, 8, .inl pr3)), (pp, .inr (9, [.ref (pa 0), .int psi, .ref o])), ((ax 31), .inl (gI 5, 3, .inr (.inr (.inr (.inr pq)))))]) hD
      refine cl_vL F (va_runV (As := [.ref (pa 0)]) (rest := []) ⟨hx, hb, hml, hown, hts⟩ (ct_B_be (o := (ax 0)) (ab := (axb ax 0)) (o2 := (pa 0)) (ab2 := (fun j => pa (j + 1))) (show wp_B_be (ar 40) (ar 41) (ar 42) (ar 43) (fd 60) (fd 61) (fd 62) pr0 pr1 pr2 pr3 pmo psp pti (fun z1 z2 z3 z4 z5 z6 z7 => (va_cpy pr0 (ar 40) (0 : Int32).toNatClampNeg (0 : Int32).toNatClampNeg (12 : Int32).toNatClampNeg) = z1 ∧ (va_cpy pr1 (ar 41) (0 : Int32).toNatClampNeg (0 : Int32).toNatClampNeg (12 : Int32).toNatClampNeg) = z2 ∧ (va_cpy pr2 (ar 42) (0 : Int32).toNatClampNeg (0 : Int32).toNatClampNeg (8 : Int32).toNatClampNeg) = z3 ∧ (va_cpy pr3 (ar 43) (0 : Int32).toNatClampNeg (0 : Int32).toNatClampNeg (8 : Int32).toNatClampNeg) = z4 ∧ pmo = z5 ∧ psp = z6 ∧ pti = z7) from ⟨rfl, rfl, rfl, rfl, rfl, rfl, rfl⟩) _) (cwV 1 hts (lw_V q659 q660 q661 q95 q662) rfl rfl rfl (by decide +kernel) ⟨Nat.le_trans (Nat.le_of_ble_eq_true rfl) hRf, Nat.le_trans (Nat.le_of_ble_eq_true rfl) hRl⟩) ⟨ct_blind, va_recv hK hP (ci := 1) (q0 := 21) rfl rfl, ct_at F hS (putL_P hP (ps := [21, 22, 23, 24, 25, 0, 1, 2, 3, 4]) rfl) (hD.sub ([21, 22, 23, 24, 25, 0, 1, 2, 3, 4]) (by decide) rfl)⟩ rfl rfl hl.1 rfl (lv_room (Nat.le_of_ble_eq_true rfl)) dX1_again_52 ⟨hC, hSl⟩) rfl rfl hP hD hS (ps := [21, 22, 23, 24, 25, 0, 1, 2, 3, 4]) rfl (fun _ => rfl) (fun _ => rfl) ?_
      rintro ⟨z1, z2, z3, z4, z5, z6, z7⟩ H locs ⟨rfl, rfl, rfl, rfl, rfl, rfl, rfl⟩ hP hD hS
      replace hP : va_P D vwCl ([((pa 0), .inr (1, [.ref (pa 1), .ref (pa 2), .ref (pa 3), .ref (pa 4), .int pmo, .int psp, .int pti])), ((pa 1), .inl (gI 0, 12, .inl pr0)), ((pa 2), .inl (gI 0, 12, .inl pr1)), ((pa 3), .inl (gI 0, 8, .inl pr2)), ((pa 4), .inl (gI 0, 8, .inl pr3)), (pp, .inr (9, [.ref (pa 0), .int psi, .ref o])), ((ax 31), .inl (gI 5, 3, .inr (.inr (.inr (.inr pq)))))] ++ wX gI o ax rn tl (upd (upd (upd fd 60 pmo) 61 psp) 62 pti) (va_up (va_up (va_up (va_up ar 40 (va_cpy pr0 (ar 40) (0 : Int32).toNatClampNeg (0 : Int32).toNatClampNeg (12 : Int32).toNatClampNeg)) 41 (va_cpy pr1 (ar 41) (0 : Int32).toNatClampNeg (0 : Int32).toNatClampNeg (12 : Int32).toNatClampNeg)) 42 (va_cpy pr2 (ar 42) (0 : Int32).toNatClampNeg (0 : Int32).toNatClampNeg (8 : Int32).toNatClampNeg)) 43 (va_cpy pr3 (ar 43) (0 : Int32).toNatClampNeg (0 : Int32).toNatClampNeg (8 : Int32).toNatClampNeg)) lw hh) _ := hP
      replace hD : va_D A ([((pa 0), .inr (1, [.ref (pa 1), .ref (pa 2), .ref (pa 3), .ref (pa 4), .int pmo, .int psp, .int pti])), ((pa 1), .inl (gI 0, 12, .inl pr0)), ((pa 2), .inl (gI 0, 12, .inl pr1)), ((pa 3), .inl (gI 0, 8, .inl pr2)), ((pa 4), .inl (gI 0, 8, .inl pr3)), (pp, .inr (9, [.ref (pa 0), .int psi, .ref o])), ((ax 31), .inl (gI 5, 3, .inr (.inr (.inr (.inr pq)))))] ++ wX gI o ax rn tl (upd (upd (upd fd 60 pmo) 61 psp) 62 pti) (va_up (va_up (va_up (va_up ar 40 (va_cpy pr0 (ar 40) (0 : Int32).toNatClampNeg (0 : Int32).toNatClampNeg (12 : Int32).toNatClampNeg)) 41 (va_cpy pr1 (ar 41) (0 : Int32).toNatClampNeg (0 : Int32).toNatClampNeg (12 : Int32).toNatClampNeg)) 42 (va_cpy pr2 (ar 42) (0 : Int32).toNatClampNeg (0 : Int32).toNatClampNeg (8 : Int32).toNatClampNeg)) 43 (va_cpy pr3 (ar 43) (0 : Int32).toNatClampNeg (0 : Int32).toNatClampNeg (8 : Int32).toNatClampNeg)) lw hh) := hD
      replace hP := fr_inP (xs := [((pa 0), .inr (1, [.ref (pa 1), .ref (pa 2), .ref (pa 3), .ref (pa 4), .int pmo, .int psp, .int pti])), ((pa 1), .inl (gI 0, 12, .inl pr0)), ((pa 2), .inl (gI 0, 12, .inl pr1)), ((pa 3), .inl (gI 0, 8, .inl pr2)), ((pa 4), .inl (gI 0, 8, .inl pr3)), (pp, .inr (9, [.ref (pa 0), .int psi, .ref o])), ((ax 31), .inl (gI 5, 3, .inr (.inr (.inr (.inr pq)))))]) hP
      replace hD := fr_inD (xs := [((pa 0), .inr (1, [.ref (pa 1), .ref (pa 2), .ref (pa 3), .ref (pa 4), .int pmo, .int psp, .int pti])), ((pa 1), .inl (gI 0, 12, .inl pr0)), ((pa 2), .inl (gI 0, 12, .inl pr1)), ((pa 3), .inl (gI 0, 8, .inl pr2)), ((pa 4), .inl (gI 0, 8, .inl pr3)), (pp, .inr (9, [.ref (pa 0), .int psi, .ref o])), ((ax 31), .inl (gI 5, 3, .inr (.inr (.inr (.inr pq)))))]) hD
      refine lv_aload_n hx hb dX1_again_55 rfl (lv_at hl 0 rfl) ?_
      refine lv_iconst (v := (0 : Int32)) hx hb dX1_again_56 (by decide) ?_
      refine pt_put (v := .int (0 : Int32)) hx hb hts in_X1 tyX1 tyX1_ok nmX1 hown hK hP hD hS 0 rfl rfl 14 (Nat.le_of_ble_eq_true rfl) (hts _ q205) (fun _ h => h) rfl (ty := .int) (by decide +kernel) rfl rfl (Nat.le_of_ble_eq_true rfl) dX1_again_57 wXF_14 (fun H locs hP hD hS => ?_)
      refine lv_iconst (v := (1 : Int32)) hx hb dX1_again_60 (by decide) ?_
      exact rt_i F dX1_again_61 rfl ((upd (upd (upd (upd fd 60 pmo) 61 psp) 62 pti) 14 (0 : Int32)), (va_up (va_up (va_up (va_up ar 40 (va_cpy pr0 (ar 40) (0 : Int32).toNatClampNeg (0 : Int32).toNatClampNeg (12 : Int32).toNatClampNeg)) 41 (va_cpy pr1 (ar 41) (0 : Int32).toNatClampNeg (0 : Int32).toNatClampNeg (12 : Int32).toNatClampNeg)) 42 (va_cpy pr2 (ar 42) (0 : Int32).toNatClampNeg (0 : Int32).toNatClampNeg (8 : Int32).toNatClampNeg)) 43 (va_cpy pr3 (ar 43) (0 : Int32).toNatClampNeg (0 : Int32).toNatClampNeg (8 : Int32).toNatClampNeg))) h hP hD hS (Nat.le_refl _) (Nat.le_refl _)
    · replace h := h.2 c5
      refine lv_iconst (v := (0 : Int32)) hx hb dX1_again_37 (by decide) ?_
      exact rt_i F dX1_again_38 rfl (fd, ar) h hP hD hS (Nat.le_refl _) (Nat.le_refl _)
