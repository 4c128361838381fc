/-! the law, case 42: walk -/
set_option maxRecDepth 100000
set_option maxHeartbeats 8000000 in
theorem lc_42 {p : Program} {l : Launch} {e : Env} {s : State} {m : MethodId} {args : Array Value} {below : List Frame} {meth : Method} {c : Code} {A : Nat → Prop} {V : evT} {D : va_G} {gI : Nat → ClassId} {ret0 : Option FieldType} {Qf : State → Prop} {b L : Nat} {xs : Nat → Int32} {o po om : Nat} {ax ad : Nat → Nat} (F : ct_F p m c meth cL_law 8 s args RX0 ret0 A V D vwCl (tyL gI)) (hlt : l.stackTraces = false) (hX : va_X b L xs s s.heap) (hbl : b < s.heap.size) (hbA : ¬ A b) {v4 : Int32} {cells slots : Nat} (hCA : cells + 1000 ≤ room_1.cells) (hSA : slots + 10000 ≤ room_1.slots) {K : (Nat → Int32) → (Nat → Nat → Int32) → (Nat → Int64) → (HT) → (Option (Nat × Nat)) → (Nat → Int64) → (Nat → Option Nat) → (List PGc) → (Nat → Int32) → (Nat → Nat → Int32) → (Nat → Int64) → Prop}
    (hK : ∀ (fd : Nat → Int32) (ar : Nat → Nat → Int32) (lw : Nat → Int64) (hh : HT) (rn : Option (Nat × Nat)) (ot : Nat → Int64) (pq : Nat → Option Nat) (pl : List PGc) (fm : Nat → Int32) (am : Nat → Nat → Int32) (lm : Nat → Int64), K fd ar lw hh rn ot pq pl fm am lm → ∀ (H : Heap) (locs : List Loc) (ls : Array Slot), va_P D vwCl (wX gI o ax rn (wOut gI po ot ++ (wm gI om ad fm am lm ++ (wPA gI ax pq ++ wPL gI o pl))) fd ar lw hh) H → va_D A (wX gI o ax rn (wOut gI po ot ++ (wm gI om ad fm am lm ++ (wPA gI ax pq ++ wPL gI o pl))) fd ar lw hh) → va_S A s.heap H locs → lv_has ls 8 [(0, .ref b), (1, .ref o), (2, .ref om), (3, .ref po), (4, .int v4)] → W p l e room_1 s m args below meth c H locs (cells + 1000) (slots + 10000) Qf (F0 m 1439 ls [])) :
    ∀ (fd : Nat → Int32) (ar : Nat → Nat → Int32) (lw : Nat → Int64) (hh : HT) (rn : Option (Nat × Nat)) (ot : Nat → Int64) (pq : Nat → Option Nat) (pl : List PGc) (fm : Nat → Int32) (am : Nat → Nat → Int32) (lm : Nat → Int64), wp_LL_c42 xs L v4 fd ar lw hh rn ot pq pl fm am lm K → ∀ (H : Heap) (locs : List Loc) (ls : Array Slot), va_P D vwCl (wX gI o ax rn (wOut gI po ot ++ (wm gI om ad fm am lm ++ (wPA gI ax pq ++ wPL gI o pl))) fd ar lw hh) H → va_D A (wX gI o ax rn (wOut gI po ot ++ (wm gI om ad fm am lm ++ (wPA gI ax pq ++ wPL gI o pl))) fd ar lw hh) → va_S A s.heap H locs → lv_has ls 8 [(0, .ref b), (1, .ref o), (2, .ref om), (3, .ref po), (4, .int v4)] → W p l e room_1 s m args below meth c H locs cells slots Qf (F0 m 1384 ls []) := by
  have hKK := hK
  obtain ⟨⟨hx, hb, hml, hown, hts⟩, hr, hlocks, hA, hK, hE⟩ := id F
  intro fd ar lw hh rn ot pq pl fm am lm h H locs ls hP hD hS hl
  unfold wp_LL_c42 at h
  have hC : cells ≤ room_1.cells := Nat.le_trans (Nat.le_add_right _ _) hCA
  have hSl : slots ≤ room_1.slots := Nat.le_trans (Nat.le_add_right _ _) hSA
  refine lv_aload_n hx hb dL_law_1384 rfl (lv_at hl 1 rfl) ?_
  refine lv_aload_n hx hb dL_law_1385 rfl (lv_at hl 0 rfl) ?_
  refine lv_iload hx hb dL_law_1386 (lv_at hl 4 rfl) ?_
  refine lv_iconst (v := (1 : Int32)) hx hb dL_law_1388 (by decide) ?_
  refine lv_iadd hx hb dL_law_1389 ?_
  refine va_sld hx hb hX hbl hbA hS h.1 dL_law_1390 ?_
  replace h := h.2
  refine lv_aload_n hx hb dL_law_1391 rfl (lv_at hl 3 rfl) ?_
  refine cl_iA (kc := 1000) (ks := 10000) (Nat.le_of_ble_eq_true rfl) (Nat.le_of_ble_eq_true rfl) F (vx_runSW (As := [.ref o, .int (xs (v4 + (1 : Int32)).toNatClampNeg), .ref po]) (rest := []) ⟨hx, hb, hml, hown, hts⟩ (ct_L_row hlt h _) (vx_cwSW 3 hts (lw_SW q1205 q1206 q93 q1207) rfl rfl rfl (by decide +kernel) ⟨Nat.le_of_ble_eq_true rfl, Nat.le_of_ble_eq_true rfl⟩) ⟨ct_blind, ct_at F hS hP hD⟩ rfl rfl hl.1 rfl (lv_room (Nat.le_of_ble_eq_true rfl)) dL_law_1392 ⟨Nat.le_trans (Nat.add_le_add_left (Nat.le_of_ble_eq_true rfl) _) hCA, Nat.le_trans (Nat.add_le_add_left (Nat.le_of_ble_eq_true rfl) _) hSA⟩) hD hS ?_
  rintro x1 ot2 H locs h hP hD hS
  replace hC := hCA
  replace hSl := hSA
  refine lv_istore (lv' := [(5, .int x1), (0, .ref b), (1, .ref o), (2, .ref om), (3, .ref po), (4, .int v4)]) hx hb dL_law_1395 hl (by decide) rfl (fun ls hl => ?_)
  refine lv_aload_n hx hb dL_law_1397 rfl (lv_at hl 3 rfl) ?_
  refine lv_aload_n hx hb dL_law_1398 rfl (lv_at hl 1 rfl) ?_
  refine lv_iload hx hb dL_law_1399 (lv_at hl 5 rfl) ?_
  refine lv_iconst (v := (1 : Int32)) hx hb dL_law_1401 (by decide) ?_
  refine lv_iadd hx hb dL_law_1402 ?_
  refine va_sld hx hb hX hbl hbA hS h.1 dL_law_1403 ?_
  replace h := h.2
  replace hP := lwm_outP hP
  replace hD := lwm_outD hD
  refine cl_lL F (va_runV (As := [.int (xs (v4 + (1 : Int32)).toNatClampNeg)]) (rest := []) ⟨hx, hb, hml, hown, hts⟩ (ct_M_row h _) (cwV 1 hts (lw_V q1858 q1859 q1860 q97 q1861) rfl rfl rfl (by decide +kernel) ⟨Nat.le_of_ble_eq_true rfl, Nat.le_of_ble_eq_true rfl⟩) ⟨ct_blind, va_recv hK hP (ci := 2) (q0 := 0) rfl rfl, ct_at F hS (putL_P hP (ps := [0, 1, 2, 3, 4, 5, 6, 7, 8, 9, 10, 11, 12, 13, 14, 15, 16, 17, 18, 19, 20, 21, 22, 23, 24, 25, 26, 27, 28, 29, 30, 31, 32]) rfl) (hD.sub ([0, 1, 2, 3, 4, 5, 6, 7, 8, 9, 10, 11, 12, 13, 14, 15, 16, 17, 18, 19, 20, 21, 22, 23, 24, 25, 26, 27, 28, 29, 30, 31, 32]) (by decide) rfl)⟩ rfl rfl hl.1 rfl (lv_room (Nat.le_of_ble_eq_true rfl)) dL_law_1404 ⟨hC, hSl⟩) rfl rfl hP hD hS (ps := [0, 1, 2, 3, 4, 5, 6, 7, 8, 9, 10, 11, 12, 13, 14, 15, 16, 17, 18, 19, 20, 21, 22, 23, 24, 25, 26, 27, 28, 29, 30, 31, 32]) rfl (fun _ => rfl) (fun _ => rfl) ?_
  rintro y3 fm4 H locs h hP hD hS
  replace hP : va_P D vwCl (wm gI om ad fm4 am lm ++ wX gI o ax rn (wOut gI po ot2 ++ (wPA gI ax pq ++ wPL gI o pl)) fd ar lw hh) _ := hP
  replace hD : va_D A (wm gI om ad fm4 am lm ++ wX gI o ax rn (wOut gI po ot2 ++ (wPA gI ax pq ++ wPL gI o pl)) fd ar lw hh) := hD
  replace hP := lwm_inP hP
  replace hD := lwm_inD hD
  refine lv_lstore (lv' := [(6, .long y3), (5, .int x1), (0, .ref b), (1, .ref o), (2, .ref om), (3, .ref po), (4, .int v4)]) hx hb dL_law_1407 hl (by decide) rfl (fun ls hl => ?_)
  refine lv_aload_n hx hb dL_law_1409 rfl (lv_at hl 4 rfl) ?_
  replace hP := lwm_outP hP
  replace hD := lwm_outD hD
  refine cl_iL F (va_runV (As := []) (rest := []) ⟨hx, hb, hml, hown, hts⟩ (ct_M_thrown h _) (cwV 0 hts (lw_V q1379 q1380 q1381 q97 q1382) rfl rfl rfl (by decide +kernel) ⟨Nat.le_of_ble_eq_true rfl, Nat.le_of_ble_eq_true rfl⟩) ⟨ct_blind, va_recv hK hP (ci := 2) (q0 := 0) rfl rfl, ct_at F hS (putL_P hP (ps := [0, 1, 2, 3, 4, 5, 6, 7, 8, 9, 10, 11, 12, 13, 14, 15, 16, 17, 18, 19, 20, 21, 22, 23, 24, 25, 26, 27, 28, 29, 30, 31, 32]) rfl) (hD.sub ([0, 1, 2, 3, 4, 5, 6, 7, 8, 9, 10, 11, 12, 13, 14, 15, 16, 17, 18, 19, 20, 21, 22, 23, 24, 25, 26, 27, 28, 29, 30, 31, 32]) (by decide) rfl)⟩ rfl rfl hl.1 rfl (lv_room (Nat.le_of_ble_eq_true rfl)) dL_law_1410 ⟨hC, hSl⟩) rfl rfl hP hD hS (ps := [0, 1, 2, 3, 4, 5, 6, 7, 8, 9, 10, 11, 12, 13, 14, 15, 16, 17, 18, 19, 20, 21, 22, 23, 24, 25, 26, 27, 28, 29, 30, 31, 32]) rfl (fun _ => rfl) (fun _ => rfl) ?_
  rintro y5 _ H locs h hP hD hS
  replace hP : va_P D vwCl (wm gI om ad fm4 am lm ++ wX gI o ax rn (wOut gI po ot2 ++ (wPA gI ax pq ++ wPL gI o pl)) fd ar lw hh) _ := hP
  replace hD : va_D A (wm gI om ad fm4 am lm ++ wX gI o ax rn (wOut gI po ot2 ++ (wPA gI ax pq ++ wPL gI o pl)) fd ar lw hh) := hD
  replace hP := lwm_inP hP
  replace hD := lwm_inD hD
  refine lv_iload hx hb dL_law_1413 (lv_at hl 1 rfl) ?_
  refine lv_icmp_eq (tgt := 1420) hx hb dL_law_1415 (by decide) (fun c8 => ?_) (fun c8 => ?_)
  · replace h := h.1 c8
    refine lv_iload hx hb dL_law_1420 (lv_at hl 1 rfl) ?_
    refine lv_if_ne (tgt := 1436) hx hb dL_law_1422 (by decide) (fun c7 => ?_) (fun c7 => ?_)
    · replace h := h.1 c7
      refine lv_goto (tgt := 1439) hx hb dL_law_1436 (by decide) ?_
      exact hKK _ _ _ _ _ _ _ _ _ _ _ h _ _ _ hP hD hS (lv_sub hl [2, 3, 4, 5, 6] rfl)
    · replace h := h.2 c7
      refine lv_aload_n hx hb dL_law_1425 rfl (lv_at hl 5 rfl) ?_
      refine lv_iconst (v := (0 : Int32)) hx hb dL_law_1426 (by decide) ?_
      refine va_lald (f := ot2) hx hb hK (fr_outP (xs := wOut gI po ot2) hP) 0 1 rfl rfl (by unfold vp_in; decide) dL_law_1427 ?_
      refine lv_lload hx hb dL_law_1428 (lv_at hl 0 rfl) ?_
      refine W.lcmp hx hb dL_law_1430 ?_
      refine lv_if_eq (tgt := 1436) hx hb dL_law_1431 (by decide) (fun c6 => ?_) (fun c6 => ?_)
      · replace h := h.1 c6
        refine lv_goto (tgt := 1439) hx hb dL_law_1436 (by decide) ?_
        exact hKK _ _ _ _ _ _ _ _ _ _ _ h _ _ _ hP hD hS (lv_sub hl [2, 3, 4, 5, 6] rfl)
      · replace h := h.2 c6
        refine lv_iconst (v := (0 : Int32)) hx hb dL_law_1434 (by decide) ?_
        exact rt_i F dL_law_1435 rfl () h hP hD hS (Nat.le_of_ble_eq_true rfl) (Nat.le_of_ble_eq_true rfl)
  · replace h := h.2 c8
    refine lv_iconst (v := (0 : Int32)) hx hb dL_law_1418 (by decide) ?_
    exact rt_i F dL_law_1419 rfl () h hP hD hS (Nat.le_of_ble_eq_true rfl) (Nat.le_of_ble_eq_true rfl)
