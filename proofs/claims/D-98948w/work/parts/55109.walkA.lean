/-! X1_rule -/
set_option maxRecDepth 100000
set_option maxHeartbeats 8000000 in
theorem ct_S_rule {l : Launch} {V : evT} {D : va_G} {gI : Nat → ClassId} {o : Nat} {ax : Nat → Nat} {tl : va_W} (hlt : l.stackTraces = false) {fd : Nat → Int32} {ar : Nat → Nat → Int32} {lw : Nat → Int64} {hh : HT} {rn : Option (Nat × Nat)} {Q : Int32 → (Nat → Int32) → (Nat → Nat → Int32) → (Option (Nat × Nat)) → Prop} (h : wp_S_rule fd ar lw hh rn Q) : ctW_i l V D (tyL gI) yX1_rule cX1_rule 4 .int [(32, 50, 51, 113)] { frames := 211, cells := 3, slots := 95, locals := 5009 } [.ref o] (wX gI o ax rn tl fd ar lw hh) (fun u : (Nat → Int32) × (Nat → Nat → Int32) × (Option (Nat × Nat)) => (wX gI o ax u.2.2 tl u.1 u.2.1 lw hh)) (fun (x : Int32) (u : (Nat → Int32) × (Nat → Nat → Int32) × (Option (Nat × Nat))) => Q x u.1 u.2.1 u.2.2) := by
  refine ctW_ofi RX1 rfl (by decide +kernel) (Nat.le_of_ble_eq_true rfl) ?_
  intro p e s m args below meth c A F htab hP hD ls hl
  obtain ⟨⟨hx, hb, hml, hown, hts⟩, hr, hlocks, hA, hK, hE⟩ := id F
  have hS : va_S A s.heap s.heap [] := va_S.rf
  have hl : lv_has ls 4 [(0, .ref o)] := hl
  have hRf : 211 ≤ ({ frames := 211, cells := 3, slots := 95, locals := 5009 } : Room).frames := Nat.le_refl _
  have hC : 0 ≤ ({ frames := 211, cells := 3, slots := 95, locals := 5009 } : Room).cells := Nat.le_of_ble_eq_true rfl
  have hSl : 0 ≤ ({ frames := 211, cells := 3, slots := 95, locals := 5009 } : Room).slots := Nat.le_of_ble_eq_true rfl
  have hC1 : 0 + 1 ≤ ({ frames := 211, cells := 3, slots := 95, locals := 5009 } : Room).cells := Nat.le_of_ble_eq_true rfl
  have hS7 : 0 + 7 ≤ ({ frames := 211, cells := 3, slots := 95, locals := 5009 } : Room).slots := Nat.le_of_ble_eq_true rfl
  have hM : 0 + 1 ≤ 3 := Nat.le_of_ble_eq_true rfl
  have hMs : 0 + 7 ≤ 95 := Nat.le_of_ble_eq_true rfl
  have hRl : 5009 ≤ ({ frames := 211, cells := 3, slots := 95, locals := 5009 } : Room).locals := Nat.le_refl _
  unfold wp_S_rule at h
  refine lv_aload_n hx hb dX1_rule_0 rfl (lv_at hl 0 rfl) ?_
  refine va_get hx hb hts in_X1 hown hK hP 0 rfl rfl 15 (Nat.le_of_ble_eq_true rfl) (hts _ q206) (fun _ h => h) (v := .ref (ax 15)) rfl dX1_rule_1 ?_
  refine va_clone hx hb (hml.trans hl.1.symm) hown (hts _ q503) (hts _ q504) (hts _ q505) (hts _ q506) (hts _ q507) (hE.1 _ q508 rfl) hK hP hD hS hA 6 3 rfl rfl (hK.2 3 _ rfl).2 (byte_fit h.1) (Nat.le_trans (Nat.le_of_ble_eq_true rfl) hRf) (Nat.le_trans (Nat.le_of_ble_eq_true rfl) hRl) (Nat.le_of_ble_eq_true rfl) (Nat.le_of_ble_eq_true rfl) dX1_rule_4 (fun q1 H _ hP hD hS => ?_)
  replace h := h.2 q1
  replace hP : va_P D vwCl (wX gI o ax rn ([(q1, .inl (gI 3, 80, .inl (ar 15)))] ++ tl) fd ar lw hh) _ := frw_inP (nw := [(q1, .inl (gI 3, 80, .inl (ar 15)))]) hP
  replace hD : va_D A (wX gI o ax rn ([(q1, .inl (gI 3, 80, .inl (ar 15)))] ++ tl) fd ar lw hh) := frw_inD (nw := [(q1, .inl (gI 3, 80, .inl (ar 15)))]) hD
  replace hC : 1 ≤ ({ frames := 211, cells := 3, slots := 95, locals := 5009 } : Room).cells := Nat.le_of_ble_eq_true rfl
  replace hSl : 80 ≤ ({ frames := 211, cells := 3, slots := 95, locals := 5009 } : Room).slots := Nat.le_of_ble_eq_true rfl
  replace hC1 : 1 + 1 ≤ ({ frames := 211, cells := 3, slots := 95, locals := 5009 } : Room).cells := Nat.le_of_ble_eq_true rfl
  replace hS7 : 80 + 7 ≤ ({ frames := 211, cells := 3, slots := 95, locals := 5009 } : Room).slots := Nat.le_of_ble_eq_true rfl
  replace hM : 1 + 1 ≤ 3 := Nat.le_of_ble_eq_true rfl
  replace hMs : 80 + 7 ≤ 95 := Nat.le_of_ble_eq_true rfl
  refine va_castA hx hb hown (hts _ q509) (fr_outP (xs := [(q1, .inl (gI 3, 80, .inl (ar 15)))]) hP) 0 rfl (hK.2 3 _ rfl).2 dX1_rule_7 ?_
  refine lv_astore_n (lv' := [(1, .ref q1), (0, .ref o)]) hx hb dX1_rule_10 rfl hl (by decide) rfl (fun ls hl => ?_)
  refine lv_aload_n hx hb dX1_rule_11 rfl (lv_at hl 1 rfl) ?_
  refine va_get hx hb hts in_X1 hown hK hP 0 rfl rfl 16 (Nat.le_of_ble_eq_true rfl) (hts _ q207) (fun _ h => h) (v := .int (fd 16)) rfl dX1_rule_12 ?_
  refine lv_istore_n (lv' := [(2, .int (fd 16)), (1, .ref q1), (0, .ref o)]) hx hb dX1_rule_15 rfl hl (by decide) rfl (fun ls hl => ?_)
  refine lv_aload_n hx hb dX1_rule_16 rfl (lv_at hl 2 rfl) ?_
  refine lv_iconst (v := (0 : Int32)) hx hb dX1_rule_17 (by decide) ?_
  refine pt_put (v := .int (0 : Int32)) hx hb hts in_X1 tyX1 tyX1_ok nmX1 hown hK hP hD hS 0 rfl rfl 16 (Nat.le_of_ble_eq_true rfl) (hts _ q207) (fun _ h => h) rfl (ty := .int) (by decide +kernel) rfl rfl (Nat.le_of_ble_eq_true rfl) dX1_rule_18 wXF_16 (fun H locs hP hD hS => ?_)
  refine lv_iload_n hx hb dX1_rule_21 rfl (lv_at hl 0 rfl) ?_
  refine lv_if_ne (tgt := 32) hx hb dX1_rule_22 (by decide) (fun c7 => ?_) (fun c7 => ?_)
  · replace h := h.1 c7
    refine lv_aload_n hx hb dX1_rule_32 rfl (lv_at hl 2 rfl) ?_
    refine va_new (ci := 3) (fs := [.null, .int (0 : Int32), .int (0 : Int32), .int (0 : Int32), .int (0 : Int32), .int (0 : Int32), .int (0 : Int32), .null]) (C := RX7) (T := TX7) (N := 8) hx hb hts in_X7 tyX7 tyX7_ok hown (hts _ q510) (hts _ q511) (hts _ q105) hK hP hD hS hA rfl (fun j hj => by rcases (show j = 0 ∨ j = 1 ∨ j = 2 ∨ j = 3 ∨ j = 4 ∨ j = 5 ∨ j = 6 ∨ j = 7 by omega) with rfl | rfl | rfl | rfl | rfl | rfl | rfl | rfl <;> rfl) (Nat.le_of_ble_eq_true rfl) (Nat.le_of_ble_eq_true rfl) dX1_rule_33 (fun q2 H hP hD hS => ?_)
    replace h := h q2
    replace hP : va_P D vwCl (wX gI o ax rn ([(q2, .inr (3, [.null, .int (0 : Int32), .int (0 : Int32), .int (0 : Int32), .int (0 : Int32), .int (0 : Int32), .int (0 : Int32), .null])), (q1, .inl (gI 3, 80, .inl (ar 15)))] ++ tl) (upd fd 16 (0 : Int32)) ar lw hh) _ := frw_inP (nw := [(q2, .inr (3, [.null, .int (0 : Int32), .int (0 : Int32), .int (0 : Int32), .int (0 : Int32), .int (0 : Int32), .int (0 : Int32), .null]))]) hP
    replace hD : va_D A (wX gI o ax rn ([(q2, .inr (3, [.null, .int (0 : Int32), .int (0 : Int32), .int (0 : Int32), .int (0 : Int32), .int (0 : Int32), .int (0 : Int32), .null])), (q1, .inl (gI 3, 80, .inl (ar 15)))] ++ tl) (upd fd 16 (0 : Int32)) ar lw hh) := frw_inD (nw := [(q2, .inr (3, [.null, .int (0 : Int32), .int (0 : Int32), .int (0 : Int32), .int (0 : Int32), .int (0 : Int32), .int (0 : Int32), .null]))]) hD
    replace hC : 2 ≤ ({ frames := 211, cells := 3, slots := 95, locals := 5009 } : Room).cells := Nat.le_of_ble_eq_true rfl
    replace hSl : 88 ≤ ({ frames := 211, cells := 3, slots := 95, locals := 5009 } : Room).slots := Nat.le_of_ble_eq_true rfl
    replace hC1 : 2 + 1 ≤ ({ frames := 211, cells := 3, slots := 95, locals := 5009 } : Room).cells := Nat.le_of_ble_eq_true rfl
    replace hS7 : 88 + 7 ≤ ({ frames := 211, cells := 3, slots := 95, locals := 5009 } : Room).slots := Nat.le_of_ble_eq_true rfl
    replace hM : 2 + 1 ≤ 3 := Nat.le_of_ble_eq_true rfl
    replace hMs : 88 + 7 ≤ 95 := Nat.le_of_ble_eq_true rfl
    refine lv_dup hx hb dX1_rule_36 rfl ?_
    refine lv_aload_n hx hb dX1_rule_37 rfl (lv_at hl 2 rfl) ?_
    refine lv_aload_n hx hb dX1_rule_38 rfl (lv_at hl 1 rfl) ?_
    refine lv_iload_n hx hb dX1_rule_39 rfl (lv_at hl 0 rfl) ?_
    replace hP := fr_outP (xs := [(q2, .inr (3, [.null, .int (0 : Int32), .int (0 : Int32), .int (0 : Int32), .int (0 : Int32), .int (0 : Int32), .int (0 : Int32), .null])), (q1, .inl (gI 3, 80, .inl (ar 15)))]) hP
    replace hD := fr_outD (xs := [(q2, .inr (3, [.null, .int (0 : Int32), .int (0 : Int32), .int (0 : Int32), .int (0 : Int32), .int (0 : Int32), .int (0 : Int32), .null])), (q1, .inl (gI 3, 80, .inl (ar 15)))]) hD
    refine cl_vL F (va_runI (As := [.ref o, .ref q1, .int (fd 16)]) (rest := [.ref q2, .ref o]) ⟨hx, hb, hml, hown, hts⟩ (ct_K_X7_init (o := q2) (ox := o) (pt := q1) (v3 := (fd 16)) _) (cwI 3 hts (lw_meth q514) rfl rfl rfl (hts _ q105) (hts _ q512) (hts _ q513) rfl (by decide +kernel) ⟨Nat.le_trans (Nat.le_of_ble_eq_true rfl) hRf, Nat.le_trans (Nat.le_of_ble_eq_true rfl) hRl⟩) ⟨ct_blind, ct_at F hS (putL_P hP (ps := [0]) rfl) (hD.sub ([0]) (by decide) rfl)⟩ rfl rfl hl.1 rfl (lv_room (Nat.le_of_ble_eq_true rfl)) dX1_rule_40 ⟨Nat.le_of_ble_eq_true rfl, Nat.le_of_ble_eq_true rfl⟩) rfl rfl hP hD hS (ps := [0]) rfl (fun _ => rfl) (fun _ => rfl) ?_
    rintro _ H locs _ hP hD hS
    replace hP := fr_inP (xs := [(q2, .inr (3, [.ref q1, .int (fd 16), .int (mnI (fd 16) (40 : Int32)), .int (0 : Int32), .int (0 : Int32), .int (0 : Int32), .int (0 : Int32), .ref o])), (q1, .inl (gI 3, 80, .inl (ar 15)))]) hP
    replace hD := fr_inD (xs := [(q2, .inr (3, [.ref q1, .int (fd 16), .int (mnI (fd 16) (40 : Int32)), .int (0 : Int32), .int (0 : Int32), .int (0 : Int32), .int (0 : Int32), .ref o])), (q1, .inl (gI 3, 80, .inl (ar 15)))]) hD
    replace hP := fr_outP (xs := [(q2, .inr (3, [.ref q1, .int (fd 16), .int (mnI (fd 16) (40 : Int32)), .int (0 : Int32), .int (0 : Int32), .int (0 : Int32), .int (0 : Int32), .ref o])), (q1, .inl (gI 3, 80, .inl (ar 15)))]) hP
    replace hD := fr_outD (xs := [(q2, .inr (3, [.ref q1, .int (fd 16), .int (mnI (fd 16) (40 : Int32)), .int (0 : Int32), .int (0 : Int32), .int (0 : Int32), .int (0 : Int32), .ref o])), (q1, .inl (gI 3, 80, .inl (ar 15)))]) hD
    refine clx_rL F (vx_runV (As := []) (rest := [.ref o]) ⟨hx, hb, hml, hown, hts⟩ (cx_R_read hlt (o := q2) (pt := q1) (ox := o) (ax := ax) (rn := rn) h _) (cwV 0 hts (lw_V q533 q534 q535 q105 q536) rfl rfl rfl (by decide +kernel) ⟨Nat.le_trans (Nat.le_of_ble_eq_true rfl) hRf, Nat.le_trans (Nat.le_of_ble_eq_true rfl) hRl⟩) ⟨ct_blind, va_recv hK hP (ci := 3) (q0 := 0) rfl rfl, ct_at F hS (putL_P hP (ps := [0, 1, 2]) rfl) (hD.sub ([0, 1, 2]) (by decide) rfl)⟩ rfl rfl hl.1 rfl (lv_room (Nat.le_of_ble_eq_true rfl)) dX1_rule_43 ⟨hC1, hS7⟩) hP hD hS (ps := [0, 1, 2]) rfl (fun _ => rfl) (fun _ => rfl) (fun _ => rfl) (fun _ => rfl) ?_ ?_
    · rintro q6 z5 pw4 H locs h hP hD hS
      obtain ⟨ce, hce, hcv, hcl⟩ := fC_cell hK hP
      have hPf := pl_last hP
      replace hP := fr_inP (xs := [(q2, .inr (3, [.ref q1, .int (fd 16), .int (mnI (fd 16) (40 : Int32)), .int pw4, .int (0 : Int32), .int (0 : Int32), .int (0 : Int32), .ref o])), (q1, .inl (gI 3, 80, .inl (ar 15)))]) (pl_init hP)
      replace hD := fr_inD (xs := [(q2, .inr (3, [.ref q1, .int (fd 16), .int (mnI (fd 16) (40 : Int32)), .int pw4, .int (0 : Int32), .int (0 : Int32), .int (0 : Int32), .ref o])), (q1, .inl (gI 3, 80, .inl (ar 15)))]) (dl_init hD)
      refine vx_catch hown [] ⟨32, 50, 51, 113⟩ [] htab (fun z hz => absurd hz List.not_mem_nil) (by decide) (by decide) (hts _ q305) (va_Nw.use rfl (hE.1 _ q371 rfl)) hce hcv hcl ?_
      refine lv_astore_n (lv' := [(3, .ref q6), (2, .int (fd 16)), (1, .ref q1), (0, .ref o)]) hx hb dX1_rule_51 rfl hl (by decide) rfl (fun ls hl => ?_)
      refine lv_iconst (v := (-1 : Int32)) hx hb dX1_rule_52 (by decide) ?_
      refine lv_aload_n hx hb dX1_rule_53 rfl (lv_at hl 0 rfl) ?_
      refine va_getN (v := .int z5) hx hb hts in_F6 hown hK hPf 0 rfl rfl 0 (Nat.le_refl _) (va_Nw.use rfl (hE.1 _ q416 rfl)) (fun _ h => h) rfl dX1_rule_54 ?_
      refine lv_isub hx hb dX1_rule_57 ?_
      replace hP := fr_dropP (xs := [(q2, .inr (3, [.ref q1, .int (fd 16), .int (mnI (fd 16) (40 : Int32)), .int pw4, .int (0 : Int32), .int (0 : Int32), .int (0 : Int32), .ref o])), (q1, .inl (gI 3, 80, .inl (ar 15)))]) (tl := tl) hP
      replace hD := fr_dropD (xs := [(q2, .inr (3, [.ref q1, .int (fd 16), .int (mnI (fd 16) (40 : Int32)), .int pw4, .int (0 : Int32), .int (0 : Int32), .int (0 : Int32), .ref o])), (q1, .inl (gI 3, 80, .inl (ar 15)))]) (tl := tl) hD
      exact rt_i F dX1_rule_58 rfl ((upd fd 16 (0 : Int32)), ar, rn) h hP hD hS (Nat.le_of_ble_eq_true rfl) (Nat.le_of_ble_eq_true rfl)
    · rintro pw3 H locs h hP hD hS
      replace hP := fr_inP (xs := [(q2, .inr (3, [.ref q1, .int (fd 16), .int (mnI (fd 16) (40 : Int32)), .int pw3, .int (0 : Int32), .int (0 : Int32), .int (0 : Int32), .ref o])), (q1, .inl (gI 3, 80, .inl (ar 15)))]) hP
      replace hD := fr_inD (xs := [(q2, .inr (3, [.ref q1, .int (fd 16), .int (mnI (fd 16) (40 : Int32)), .int pw3, .int (0 : Int32), .int (0 : Int32), .int (0 : Int32), .ref o])), (q1, .inl (gI 3, 80, .inl (ar 15)))]) hD
      refine va_put (v := .ref q2) hx hb hts in_X1 tyX1 tyX1_ok nmX1 hown hK hP hD hS 0 rfl rfl 19 (Nat.le_of_ble_eq_true rfl) (hts _ q210) (fun _ h => h) rfl (ty := (.object "SandKeepsSea$Rule")) (by decide +kernel) rfl rfl (Nat.le_of_ble_eq_true rfl) dX1_rule_46 (fun H locs hP hD hS => ?_)
      replace hP : va_P D vwCl (wX gI o ax (some (q2, q1)) (wR gI o rn (upd fd 16 (0 : Int32)) ar ++ tl) (upd (upd (upd (upd (upd (upd (upd fd 16 (0 : Int32)) 70 (fd 16)) 71 (mnI (fd 16) (40 : Int32))) 72 pw3) 73 (0 : Int32)) 74 (0 : Int32)) 75 (0 : Int32)) (va_up ar 60 (ar 15)) lw hh) _ := va_P_perm hP (wXR_some (gI := gI) (o := o) (ax := ax) (rn := rn) (fd := (upd fd 16 (0 : Int32))) (ar := ar) (lw := lw) (hh := hh) (tl := tl))
      replace hD : va_D A (wX gI o ax (some (q2, q1)) (wR gI o rn (upd fd 16 (0 : Int32)) ar ++ tl) (upd (upd (upd (upd (upd (upd (upd fd 16 (0 : Int32)) 70 (fd 16)) 71 (mnI (fd 16) (40 : Int32))) 72 pw3) 73 (0 : Int32)) 74 (0 : Int32)) 75 (0 : Int32)) (va_up ar 60 (ar 15)) lw hh) := va_D_perm hD (wXR_some (gI := gI) (o := o) (ax := ax) (rn := rn) (fd := (upd fd 16 (0 : Int32))) (ar := ar) (lw := lw) (hh := hh) (tl := tl))
      replace hP := fr_dropP (xs := wR gI o rn (upd fd 16 (0 : Int32)) ar) hP
      replace hD := fr_dropD (xs := wR gI o rn (upd fd 16 (0 : Int32)) ar) hD
      refine lv_iconst (v := (0 : Int32)) hx hb dX1_rule_49 (by decide) ?_
      exact rt_i F dX1_rule_50 rfl ((upd (upd (upd (upd (upd (upd (upd fd 16 (0 : Int32)) 70 (fd 16)) 71 (mnI (fd 16) (40 : Int32))) 72 pw3) 73 (0 : Int32)) 74 (0 : Int32)) 75 (0 : Int32)), (va_up ar 60 (ar 15)), (some (q2, q1))) h hP hD hS (Nat.le_of_ble_eq_true rfl) (Nat.le_of_ble_eq_true rfl)
  · replace h := h.2 c7
    refine lv_aload_n hx hb dX1_rule_25 rfl (lv_at hl 2 rfl) ?_
    refine lv_null hx hb dX1_rule_26 ?_
    refine pt_put (v := .null) hx hb hts in_X1 tyX1 tyX1_ok nmX1 hown hK hP hD hS 0 rfl rfl 19 (Nat.le_of_ble_eq_true rfl) (hts _ q210) (fun _ h => h) rfl (ty := (.object "SandKeepsSea$Rule")) (by decide +kernel) rfl rfl (Nat.le_of_ble_eq_true rfl) dX1_rule_27 wXR_none (fun H locs hP hD hS => ?_)
    replace hP := fr_dropP (xs := wR gI o rn (upd fd 16 (0 : Int32)) ar) hP
    replace hD := fr_dropD (xs := wR gI o rn (upd fd 16 (0 : Int32)) ar) hD
    refine lv_iconst (v := (0 : Int32)) hx hb dX1_rule_30 (by decide) ?_
    replace hP := fr_dropP (xs := [(q1, .inl (gI 3, 80, .inl (ar 15)))]) (tl := tl) hP
    replace hD := fr_dropD (xs := [(q1, .inl (gI 3, 80, .inl (ar 15)))]) (tl := tl) hD
    exact rt_i F dX1_rule_31 rfl ((upd fd 16 (0 : Int32)), ar, none) h hP hD hS (Nat.le_of_ble_eq_true rfl) (Nat.le_of_ble_eq_true rfl)
