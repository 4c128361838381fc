/-! X1_law -/
set_option maxRecDepth 100000
set_option maxHeartbeats 8000000 in
theorem ct_S_law {l : Launch} {V : evT} {D : va_G} {gI : Nat → ClassId} {o : Nat} {ax : Nat → Nat} {tl : va_W} (hlt : l.stackTraces = false) {fd : Nat → Int32} {ar : Nat → Nat → Int32} {lw : Nat → Int64} {hh : HT} {rn : Option (Nat × Nat)} {Q : Int32 → (Nat → Int32) → (Nat → Nat → Int32) → (Nat → Int64) → Prop} (h : wp_S_law fd ar lw hh rn Q) : ctW_i l V D (tyL gI) yX1_law cX1_law 9 .int [(45, 89, 97, 113), (45, 89, 118, 0), (97, 110, 118, 0), (118, 120, 118, 0)] { frames := 214, cells := 3, slots := 95, locals := 5085 } [.ref o] (wX gI o ax rn tl fd ar lw hh) (fun u : (Nat → Int32) × (Nat → Nat → Int32) × (Nat → Int64) => (wX gI o ax rn tl u.1 u.2.1 u.2.2 hh)) (fun (x : Int32) (u : (Nat → Int32) × (Nat → Nat → Int32) × (Nat → Int64)) => Q x u.1 u.2.1 u.2.2) := by
  refine ctW_ofi RX1 rfl (by decide +kernel) (Nat.le_of_ble_eq_true rfl) ?_
  intro p e s m args below meth c A F htab hP hD ls hl
  obtain ⟨⟨hx, hb, hml, hown, hts⟩, hr, hlocks, hA, hK, hE⟩ := id F
  have hS : va_S A s.heap s.heap [] := va_S.rf
  have hl : lv_has ls 9 [(0, .ref o)] := hl
  have hRf : 214 ≤ ({ frames := 214, cells := 3, slots := 95, locals := 5085 } : Room).frames := Nat.le_refl _
  have hC : 0 ≤ ({ frames := 214, cells := 3, slots := 95, locals := 5085 } : Room).cells := Nat.le_of_ble_eq_true rfl
  have hSl : 0 ≤ ({ frames := 214, cells := 3, slots := 95, locals := 5085 } : Room).slots := Nat.le_of_ble_eq_true rfl
  have hC1 : 0 + 1 ≤ ({ frames := 214, cells := 3, slots := 95, locals := 5085 } : Room).cells := Nat.le_of_ble_eq_true rfl
  have hS7 : 0 + 7 ≤ ({ frames := 214, cells := 3, slots := 95, locals := 5085 } : Room).slots := Nat.le_of_ble_eq_true rfl
  have hM : 0 + 1 ≤ 3 := Nat.le_of_ble_eq_true rfl
  have hMs : 0 + 7 ≤ 95 := Nat.le_of_ble_eq_true rfl
  have hRl : 5085 ≤ ({ frames := 214, cells := 3, slots := 95, locals := 5085 } : Room).locals := Nat.le_refl _
  unfold wp_S_law at h
  refine lv_aload_n hx hb dX1_law_0 rfl (lv_at hl 0 rfl) ?_
  rcases rn with _ | ⟨rp, rq⟩
  · replace h := h.1 rfl
    refine va_get hx hb hts in_X1 hown hK hP 0 rfl rfl 19 (Nat.le_of_ble_eq_true rfl) (hts _ q210) (fun _ h => h) (v := .null) rfl dX1_law_1 ?_
    refine lv_astore_nN (lv' := [(1, .null), (0, .ref o)]) hx hb dX1_law_4 rfl hl (by decide) rfl (fun ls hl => ?_)
    refine lv_aload_n hx hb dX1_law_5 rfl (lv_at hl 1 rfl) ?_
    refine va_get hx hb hts in_X1 hown hK hP 0 rfl rfl 15 (Nat.le_of_ble_eq_true rfl) (hts _ q206) (fun _ h => h) (v := .ref (ax 15)) rfl dX1_law_6 ?_
    refine va_clone hx hb (hml.trans hl.1.symm) hown (hts _ q503) (hts _ q504) (hts _ q505) (hts _ q506) (hts _ q507) (hE.1 _ q508 rfl) hK hP hD hS hA 6 3 rfl rfl (hK.2 3 _ rfl).2 (byte_fit h.1) (Nat.le_trans (Nat.le_of_ble_eq_true rfl) hRf) (Nat.le_trans (Nat.le_of_ble_eq_true rfl) hRl) (Nat.le_of_ble_eq_true rfl) (Nat.le_of_ble_eq_true rfl) dX1_law_9 (fun q1 H _ hP hD hS => ?_)
    replace h := h.2 q1
    replace hP : va_P D vwCl (wX gI o ax none ([(q1, .inl (gI 3, 80, .inl (ar 15)))] ++ tl) fd ar lw hh) _ := frw_inP (nw := [(q1, .inl (gI 3, 80, .inl (ar 15)))]) hP
    replace hD : va_D A (wX gI o ax none ([(q1, .inl (gI 3, 80, .inl (ar 15)))] ++ tl) fd ar lw hh) := frw_inD (nw := [(q1, .inl (gI 3, 80, .inl (ar 15)))]) hD
    replace hC : 1 ≤ ({ frames := 214, cells := 3, slots := 95, locals := 5085 } : Room).cells := Nat.le_of_ble_eq_true rfl
    replace hSl : 80 ≤ ({ frames := 214, cells := 3, slots := 95, locals := 5085 } : Room).slots := Nat.le_of_ble_eq_true rfl
    replace hC1 : 1 + 1 ≤ ({ frames := 214, cells := 3, slots := 95, locals := 5085 } : Room).cells := Nat.le_of_ble_eq_true rfl
    replace hS7 : 80 + 7 ≤ ({ frames := 214, cells := 3, slots := 95, locals := 5085 } : Room).slots := Nat.le_of_ble_eq_true rfl
    replace hM : 1 + 1 ≤ 3 := Nat.le_of_ble_eq_true rfl
    replace hMs : 80 + 7 ≤ 95 := Nat.le_of_ble_eq_true rfl
    refine va_castA hx hb hown (hts _ q509) (fr_outP (xs := [(q1, .inl (gI 3, 80, .inl (ar 15)))]) hP) 0 rfl (hK.2 3 _ rfl).2 dX1_law_12 ?_
    refine lv_astore_n (lv' := [(2, .ref q1), (1, .null), (0, .ref o)]) hx hb dX1_law_15 rfl hl (by decide) rfl (fun ls hl => ?_)
    refine lv_aload_n hx hb dX1_law_16 rfl (lv_at hl 2 rfl) ?_
    refine va_get hx hb hts in_X1 hown hK hP 0 rfl rfl 16 (Nat.le_of_ble_eq_true rfl) (hts _ q207) (fun _ h => h) (v := .int (fd 16)) rfl dX1_law_17 ?_
    refine lv_istore_n (lv' := [(3, .int (fd 16)), (2, .ref q1), (1, .null), (0, .ref o)]) hx hb dX1_law_20 rfl hl (by decide) rfl (fun ls hl => ?_)
    refine lv_aload_n hx hb dX1_law_21 rfl (lv_at hl 3 rfl) ?_
    refine lv_iconst (v := (0 : Int32)) hx hb dX1_law_22 (by decide) ?_
    refine pt_put (v := .int (0 : Int32)) hx hb hts in_X1 tyX1 tyX1_ok nmX1 hown hK hP hD hS 0 rfl rfl 16 (Nat.le_of_ble_eq_true rfl) (hts _ q207) (fun _ h => h) rfl (ty := .int) (by decide +kernel) rfl rfl (Nat.le_of_ble_eq_true rfl) dX1_law_23 wXF_16 (fun H locs hP hD hS => ?_)
    refine lv_aload_n hx hb dX1_law_26 rfl (lv_at hl 3 rfl) ?_
    refine va_get hx hb hts in_X1 hown hK hP 0 rfl rfl 2 (Nat.le_of_ble_eq_true rfl) (hts _ q186) (fun _ h => h) (v := .ref (ax 2)) rfl dX1_law_27 ?_
    refine lv_aload_n hx hb dX1_law_30 rfl (lv_at hl 3 rfl) ?_
    refine va_get hx hb hts in_X1 hown hK hP 0 rfl rfl 0 (Nat.le_of_ble_eq_true rfl) (hts _ q180) (fun _ h => h) (v := .ref (ax 0)) rfl dX1_law_31 ?_
    refine cl_vL F (va_runV (As := [.ref (ax 0)]) (rest := []) ⟨hx, hb, hml, hown, hts⟩ (ct_B_be (o := (ax 2)) (ab := axb ax 2) (o2 := (ax 0)) (ab2 := axb ax 0) h _) (cwV 1 hts (lw_V q659 q660 q661 q95 q662) rfl rfl rfl (by decide +kernel) ⟨Nat.le_trans (Nat.le_of_ble_eq_true rfl) hRf, Nat.le_trans (Nat.le_of_ble_eq_true rfl) hRl⟩) ⟨ct_blind, va_recv hK hP (ci := 1) (q0 := 24) rfl rfl, ct_at F hS (putL_P hP (ps := [24, 25, 26, 27, 28, 14, 15, 16, 17, 18]) rfl) (hD.sub ([24, 25, 26, 27, 28, 14, 15, 16, 17, 18]) (by decide) rfl)⟩ rfl rfl hl.1 rfl (lv_room (Nat.le_of_ble_eq_true rfl)) dX1_law_34 ⟨hC, hSl⟩) rfl rfl hP hD hS (ps := [24, 25, 26, 27, 28, 14, 15, 16, 17, 18]) rfl (fun _ => rfl) (fun _ => wXPP_2_0) ?_
    rintro ⟨wl2, dp3, aa4, md5, mo6, sp7, ti8⟩ H locs h hP hD hS
    refine lv_aload_n hx hb dX1_law_37 rfl (lv_at hl 3 rfl) ?_
    refine lv_bipush (v := (20 : Int32)) hx hb dX1_law_38 (by decide) ?_
    refine clz_i F (vx_runV (As := [.int (20 : Int32)]) (rest := []) ⟨hx, hb, hml, hown, hts⟩ (cz_S_breaks hlt h _) (cwV 1 hts (lw_V q938 q940 qs28 q94 q941) rfl rfl rfl (by decide +kernel) ⟨Nat.le_trans (Nat.le_of_ble_eq_true rfl) hRf, Nat.le_trans (Nat.le_of_ble_eq_true rfl) hRl⟩) ⟨ct_blind, va_recv hK hP (ci := 0) (q0 := 0) rfl rfl, ct_at F hS hP hD⟩ rfl rfl hl.1 rfl (lv_room (Nat.le_of_ble_eq_true rfl)) dX1_law_40 ⟨hC1, hS7⟩) hD hS ?_
    rintro x9 ⟨fd10, ar11⟩ H locs h hP hD hS
    refine lv_istore (lv' := [(4, .int x9), (3, .int (fd 16)), (2, .ref q1), (1, .null), (0, .ref o)]) hx hb dX1_law_43 hl (by decide) rfl (fun ls hl => ?_)
    refine lv_aload_n hx hb dX1_law_45 rfl (lv_at hl 4 rfl) ?_
    refine lv_iload_n hx hb dX1_law_46 rfl (lv_at hl 1 rfl) ?_
    refine lv_if_ne (tgt := 54) hx hb dX1_law_47 (by decide) (fun c45 => ?_) (fun c45 => ?_)
    · replace h := h.1 c45
      refine va_new (ci := 3) (fs := [.null, .int (0 : Int32), .int (0 : Int32), .int (0 : Int32), .int (0 : Int32), .int (0 : Int32), .int (0 : Int32), .null]) (C := RX7) (T := TX7) (N := 8) hx hb hts in_X7 tyX7 tyX7_ok hown (hts _ q510) (hts _ q511) (hts _ q105) hK hP hD hS hA rfl (fun j hj => by rcases (show j = 0 ∨ j = 1 ∨ j = 2 ∨ j = 3 ∨ j = 4 ∨ j = 5 ∨ j = 6 ∨ j = 7 by omega) with rfl | rfl | rfl | rfl | rfl | rfl | rfl | rfl <;> rfl) (Nat.le_of_ble_eq_true rfl) (Nat.le_of_ble_eq_true rfl) dX1_law_54 (fun q12 H hP hD hS => ?_)
      replace h := h q12
      replace hP : va_P D vwCl (wX gI o ax none ([(q12, .inr (3, [.null, .int (0 : Int32), .int (0 : Int32), .int (0 : Int32), .int (0 : Int32), .int (0 : Int32), .int (0 : Int32), .null])), (q1, .inl (gI 3, 80, .inl (ar 15)))] ++ tl) fd10 ar11 lw hh) _ := frw_inP (nw := [(q12, .inr (3, [.null, .int (0 : Int32), .int (0 : Int32), .int (0 : Int32), .int (0 : Int32), .int (0 : Int32), .int (0 : Int32), .null]))]) hP
      replace hD : va_D A (wX gI o ax none ([(q12, .inr (3, [.null, .int (0 : Int32), .int (0 : Int32), .int (0 : Int32), .int (0 : Int32), .int (0 : Int32), .int (0 : Int32), .null])), (q1, .inl (gI 3, 80, .inl (ar 15)))] ++ tl) fd10 ar11 lw hh) := frw_inD (nw := [(q12, .inr (3, [.null, .int (0 : Int32), .int (0 : Int32), .int (0 : Int32), .int (0 : Int32), .int (0 : Int32), .int (0 : Int32), .null]))]) hD
      replace hC : 2 ≤ ({ frames := 214, cells := 3, slots := 95, locals := 5085 } : Room).cells := Nat.le_of_ble_eq_true rfl
      replace hSl : 88 ≤ ({ frames := 214, cells := 3, slots := 95, locals := 5085 } : Room).slots := Nat.le_of_ble_eq_true rfl
      replace hC1 : 2 + 1 ≤ ({ frames := 214, cells := 3, slots := 95, locals := 5085 } : Room).cells := Nat.le_of_ble_eq_true rfl
      replace hS7 : 88 + 7 ≤ ({ frames := 214, cells := 3, slots := 95, locals := 5085 } : Room).slots := Nat.le_of_ble_eq_true rfl
      replace hM : 2 + 1 ≤ 3 := Nat.le_of_ble_eq_true rfl
      replace hMs : 88 + 7 ≤ 95 := Nat.le_of_ble_eq_true rfl
      refine lv_dup hx hb dX1_law_57 rfl ?_
      refine lv_aload_n hx hb dX1_law_58 rfl (lv_at hl 4 rfl) ?_
      refine lv_aload_n hx hb dX1_law_59 rfl (lv_at hl 2 rfl) ?_
      refine lv_iload_n hx hb dX1_law_60 rfl (lv_at hl 1 rfl) ?_
      replace hP := fr_outP (xs := [(q12, .inr (3, [.null, .int (0 : Int32), .int (0 : Int32), .int (0 : Int32), .int (0 : Int32), .int (0 : Int32), .int (0 : Int32), .null])), (q1, .inl (gI 3, 80, .inl (ar 15)))]) hP
      replace hD := fr_outD (xs := [(q12, .inr (3, [.null, .int (0 : Int32), .int (0 : Int32), .int (0 : Int32), .int (0 : Int32), .int (0 : Int32), .int (0 : Int32), .null])), (q1, .inl (gI 3, 80, .inl (ar 15)))]) hD
      refine cl_vL F (va_runI (As := [.ref o, .ref q1, .int (fd 16)]) (rest := [.ref q12, .ref o]) ⟨hx, hb, hml, hown, hts⟩ (ct_K_X7_init (o := q12) (ox := o) (pt := q1) (v3 := (fd 16)) _) (cwI 3 hts (lw_meth q514) rfl rfl rfl (hts _ q105) (hts _ q512) (hts _ q513) rfl (by decide +kernel) ⟨Nat.le_trans (Nat.le_of_ble_eq_true rfl) hRf, Nat.le_trans (Nat.le_of_ble_eq_true rfl) hRl⟩) ⟨ct_blind, ct_at F hS (putL_P hP (ps := [0]) rfl) (hD.sub ([0]) (by decide) rfl)⟩ rfl rfl hl.1 rfl (lv_room (Nat.le_of_ble_eq_true rfl)) dX1_law_61 ⟨Nat.le_of_ble_eq_true rfl, Nat.le_of_ble_eq_true rfl⟩) rfl rfl hP hD hS (ps := [0]) rfl (fun _ => rfl) (fun _ => rfl) ?_
      rintro _ H locs _ hP hD hS
      replace hP := fr_inP (xs := [(q12, .inr (3, [.ref q1, .int (fd 16), .int (mnI (fd 16) (40 : Int32)), .int (0 : Int32), .int (0 : Int32), .int (0 : Int32), .int (0 : Int32), .ref o])), (q1, .inl (gI 3, 80, .inl (ar 15)))]) hP
      replace hD := fr_inD (xs := [(q12, .inr (3, [.ref q1, .int (fd 16), .int (mnI (fd 16) (40 : Int32)), .int (0 : Int32), .int (0 : Int32), .int (0 : Int32), .int (0 : Int32), .ref o])), (q1, .inl (gI 3, 80, .inl (ar 15)))]) hD
      replace hP := fr_outP (xs := [(q12, .inr (3, [.ref q1, .int (fd 16), .int (mnI (fd 16) (40 : Int32)), .int (0 : Int32), .int (0 : Int32), .int (0 : Int32), .int (0 : Int32), .ref o])), (q1, .inl (gI 3, 80, .inl (ar 15)))]) hP
      replace hD := fr_outD (xs := [(q12, .inr (3, [.ref q1, .int (fd 16), .int (mnI (fd 16) (40 : Int32)), .int (0 : Int32), .int (0 : Int32), .int (0 : Int32), .int (0 : Int32), .ref o])), (q1, .inl (gI 3, 80, .inl (ar 15)))]) hD
      refine clx_rL F (vx_runV (As := []) (rest := [.ref o]) ⟨hx, hb, hml, hown, hts⟩ (cx_R_read hlt (o := q12) (pt := q1) (ox := o) (ax := ax) (rn := none) h _) (cwV 0 hts (lw_V q533 q534 q535 q105 q536) rfl rfl rfl (by decide +kernel) ⟨Nat.le_trans (Nat.le_of_ble_eq_true rfl) hRf, Nat.le_trans (Nat.le_of_ble_eq_true rfl) hRl⟩) ⟨ct_blind, va_recv hK hP (ci := 3) (q0 := 0) rfl rfl, ct_at F hS (putL_P hP (ps := [0, 1, 2]) rfl) (hD.sub ([0, 1, 2]) (by decide) rfl)⟩ rfl rfl hl.1 rfl (lv_room (Nat.le_of_ble_eq_true rfl)) dX1_law_64 ⟨hC1, hS7⟩) hP hD hS (ps := [0, 1, 2]) rfl (fun _ => rfl) (fun _ => rfl) (fun _ => rfl) (fun _ => rfl) ?_ ?_
      · rintro q16 z15 pw14 H locs h hP hD hS
        obtain ⟨ce, hce, hcv, hcl⟩ := fC_cell hK hP
        have hPf := pl_last hP
        replace hP := fr_inP (xs := [(q12, .inr (3, [.ref q1, .int (fd 16), .int (mnI (fd 16) (40 : Int32)), .int pw14, .int (0 : Int32), .int (0 : Int32), .int (0 : Int32), .ref o])), (q1, .inl (gI 3, 80, .inl (ar 15)))]) (pl_init hP)
        replace hD := fr_inD (xs := [(q12, .inr (3, [.ref q1, .int (fd 16), .int (mnI (fd 16) (40 : Int32)), .int pw14, .int (0 : Int32), .int (0 : Int32), .int (0 : Int32), .ref o])), (q1, .inl (gI 3, 80, .inl (ar 15)))]) (dl_init hD)
        refine vx_catch hown [] ⟨45, 89, 97, 113⟩ [⟨45, 89, 118, 0⟩, ⟨97, 110, 118, 0⟩, ⟨118, 120, 118, 0⟩] htab (fun z hz => absurd hz List.not_mem_nil) (by decide) (by decide) (hts _ q305) (va_Nw.use rfl (hE.1 _ q371 rfl)) hce hcv hcl ?_
        refine lv_astore (lv' := [(6, .ref q16), (4, .int x9), (3, .int (fd 16)), (2, .ref q1), (1, .null), (0, .ref o)]) hx hb dX1_law_97 hl (by decide) rfl (fun ls hl => ?_)
        refine lv_sipush (v := (-10000 : Int32)) hx hb dX1_law_99 (by decide) ?_
        refine lv_aload hx hb dX1_law_102 (lv_at hl 0 rfl) ?_
        refine va_getN (v := .int z15) hx hb hts in_F6 hown hK hPf 0 rfl rfl 0 (Nat.le_refl _) (va_Nw.use rfl (hE.1 _ q416 rfl)) (fun _ h => h) rfl dX1_law_104 ?_
        refine lv_isub hx hb dX1_law_107 ?_
        refine lv_istore (lv' := [(7, .int ((-10000 : Int32) - z15)), (6, .ref q16), (4, .int x9), (3, .int (fd 16)), (2, .ref q1), (1, .null), (0, .ref o)]) hx hb dX1_law_108 hl (by decide) rfl (fun ls hl => ?_)
        refine lv_aload_n hx hb dX1_law_110 rfl (lv_at hl 6 rfl) ?_
        refine lv_aload_nN hx hb dX1_law_111 rfl (lv_at hl 5 rfl) ?_
        refine pt_put (v := .null) hx hb hts in_X1 tyX1 tyX1_ok nmX1 hown hK hP hD hS 0 rfl rfl 19 (Nat.le_of_ble_eq_true rfl) (hts _ q210) (fun _ h => h) rfl (ty := (.object "SandKeepsSea$Rule")) (by decide +kernel) rfl rfl (Nat.le_of_ble_eq_true rfl) dX1_law_112 rfl (fun H locs hP hD hS => ?_)
        replace hP : va_P D vwCl (wX gI o ax none ([(q12, .inr (3, [.ref q1, .int (fd 16), .int (mnI (fd 16) (40 : Int32)), .int pw14, .int (0 : Int32), .int (0 : Int32), .int (0 : Int32), .ref o])), (q1, .inl (gI 3, 80, .inl (ar 15)))] ++ tl) fd10 ar11 lw hh) _ := hP
        replace hD : va_D A (wX gI o ax none ([(q12, .inr (3, [.ref q1, .int (fd 16), .int (mnI (fd 16) (40 : Int32)), .int pw14, .int (0 : Int32), .int (0 : Int32), .int (0 : Int32), .ref o])), (q1, .inl (gI 3, 80, .inl (ar 15)))] ++ tl) fd10 ar11 lw hh) := hD
        refine lv_iload hx hb dX1_law_115 (lv_at hl 0 rfl) ?_
        replace hP := fr_dropP (xs := [(q12, .inr (3, [.ref q1, .int (fd 16), .int (mnI (fd 16) (40 : Int32)), .int pw14, .int (0 : Int32), .int (0 : Int32), .int (0 : Int32), .ref o])), (q1, .inl (gI 3, 80, .inl (ar 15)))]) (tl := tl) hP
        replace hD := fr_dropD (xs := [(q12, .inr (3, [.ref q1, .int (fd 16), .int (mnI (fd 16) (40 : Int32)), .int pw14, .int (0 : Int32), .int (0 : Int32), .int (0 : Int32), .ref o])), (q1, .inl (gI 3, 80, .inl (ar 15)))]) (tl := tl) hD
        exact rt_i F dX1_law_117 rfl (fd10, ar11, lw) h hP hD hS (Nat.le_of_ble_eq_true rfl) (Nat.le_of_ble_eq_true rfl)
      · rintro pw13 H locs h hP hD hS
        replace hP := fr_inP (xs := [(q12, .inr (3, [.ref q1, .int (fd 16), .int (mnI (fd 16) (40 : Int32)), .int pw13, .int (0 : Int32), .int (0 : Int32), .int (0 : Int32), .ref o])), (q1, .inl (gI 3, 80, .inl (ar 15)))]) hP
        replace hD := fr_inD (xs := [(q12, .inr (3, [.ref q1, .int (fd 16), .int (mnI (fd 16) (40 : Int32)), .int pw13, .int (0 : Int32), .int (0 : Int32), .int (0 : Int32), .ref o])), (q1, .inl (gI 3, 80, .inl (ar 15)))]) hD
        refine va_put (v := .ref q12) hx hb hts in_X1 tyX1 tyX1_ok nmX1 hown hK hP hD hS 0 rfl rfl 19 (Nat.le_of_ble_eq_true rfl) (hts _ q210) (fun _ h => h) rfl (ty := (.object "SandKeepsSea$Rule")) (by decide +kernel) rfl rfl (Nat.le_of_ble_eq_true rfl) dX1_law_67 (fun H locs hP hD hS => ?_)
        replace hP : va_P D vwCl (wX gI o ax (some (q12, q1)) tl (upd (upd (upd (upd (upd (upd fd10 70 (fd 16)) 71 (mnI (fd 16) (40 : Int32))) 72 pw13) 73 (0 : Int32)) 74 (0 : Int32)) 75 (0 : Int32)) (va_up ar11 60 (ar 15)) lw hh) _ := va_P_perm hP (wXR_some (gI := gI) (o := o) (ax := ax) (rn := none) (fd := fd10) (ar := ar11) (lw := lw) (hh := hh) (tl := tl))
        replace hD : va_D A (wX gI o ax (some (q12, q1)) tl (upd (upd (upd (upd (upd (upd fd10 70 (fd 16)) 71 (mnI (fd 16) (40 : Int32))) 72 pw13) 73 (0 : Int32)) 74 (0 : Int32)) 75 (0 : Int32)) (va_up ar11 60 (ar 15)) lw hh) := va_D_perm hD (wXR_some (gI := gI) (o := o) (ax := ax) (rn := none) (fd := fd10) (ar := ar11) (lw := lw) (hh := hh) (tl := tl))
        refine lv_aload_n hx hb dX1_law_70 rfl (lv_at hl 4 rfl) ?_
        refine va_get hx hb hts in_X1 hown hK hP 0 rfl rfl 2 (Nat.le_of_ble_eq_true rfl) (hts _ q186) (fun _ h => h) (v := .ref (ax 2)) rfl dX1_law_71 ?_
        refine lv_aload_n hx hb dX1_law_74 rfl (lv_at hl 4 rfl) ?_
        refine va_get hx hb hts in_X1 hown hK hP 0 rfl rfl 0 (Nat.le_of_ble_eq_true rfl) (hts _ q180) (fun _ h => h) (v := .ref (ax 0)) rfl dX1_law_75 ?_
        refine cl_vL F (va_runV (As := [.ref (ax 0)]) (rest := []) ⟨hx, hb, hml, hown, hts⟩ (ct_B_be (o := (ax 2)) (ab := axb ax 2) (o2 := (ax 0)) (ab2 := axb ax 0) h _) (cwV 1 hts (lw_V q659 q660 q661 q95 q662) rfl rfl rfl (by decide +kernel) ⟨Nat.le_trans (Nat.le_of_ble_eq_true rfl) hRf, Nat.le_trans (Nat.le_of_ble_eq_true rfl) hRl⟩) ⟨ct_blind, va_recv hK hP (ci := 1) (q0 := 24) rfl rfl, ct_at F hS (putL_P hP (ps := [24, 25, 26, 27, 28, 14, 15, 16, 17, 18]) rfl) (hD.sub ([24, 25, 26, 27, 28, 14, 15, 16, 17, 18]) (by decide) rfl)⟩ rfl rfl hl.1 rfl (lv_room (Nat.le_of_ble_eq_true rfl)) dX1_law_78 ⟨hC, hSl⟩) rfl rfl hP hD hS (ps := [24, 25, 26, 27, 28, 14, 15, 16, 17, 18]) rfl (fun _ => rfl) (fun _ => wXPP_2_0) ?_
        rintro ⟨wl17, dp18, aa19, md20, mo21, sp22, ti23⟩ H locs h hP hD hS
        refine lv_aload_n hx hb dX1_law_81 rfl (lv_at hl 4 rfl) ?_
        refine lv_bipush (v := (20 : Int32)) hx hb dX1_law_82 (by decide) ?_
        refine clz_i F (vx_runV (As := [.int (20 : Int32)]) (rest := []) ⟨hx, hb, hml, hown, hts⟩ (cz_S_breaks hlt h _) (cwV 1 hts (lw_V q938 q940 qs28 q94 q941) rfl rfl rfl (by decide +kernel) ⟨Nat.le_trans (Nat.le_of_ble_eq_true rfl) hRf, Nat.le_trans (Nat.le_of_ble_eq_true rfl) hRl⟩) ⟨ct_blind, va_recv hK hP (ci := 0) (q0 := 0) rfl rfl, ct_at F hS hP hD⟩ rfl rfl hl.1 rfl (lv_room (Nat.le_of_ble_eq_true rfl)) dX1_law_84 ⟨hC1, hS7⟩) hD hS ?_
        rintro x24 ⟨fd25, ar26⟩ H locs h hP hD hS
        refine lv_istore (lv' := [(5, .int x24), (4, .int x9), (3, .int (fd 16)), (2, .ref q1), (1, .null), (0, .ref o)]) hx hb dX1_law_87 hl (by decide) rfl (fun ls hl => ?_)
        refine lv_aload_n hx hb dX1_law_89 rfl (lv_at hl 5 rfl) ?_
        refine lv_aload_nN hx hb dX1_law_90 rfl (lv_at hl 4 rfl) ?_
        refine pt_put (v := .null) hx hb hts in_X1 tyX1 tyX1_ok nmX1 hown hK hP hD hS 0 rfl rfl 19 (Nat.le_of_ble_eq_true rfl) (hts _ q210) (fun _ h => h) rfl (ty := (.object "SandKeepsSea$Rule")) (by decide +kernel) rfl rfl (Nat.le_of_ble_eq_true rfl) dX1_law_91 wXR_none (fun H locs hP hD hS => ?_)
        replace hP := fr_dropP (xs := wR gI o (some (q12, q1)) fd25 ar26) hP
        replace hD := fr_dropD (xs := wR gI o (some (q12, q1)) fd25 ar26) hD
        refine lv_goto (tgt := 128) hx hb dX1_law_94 (by decide) ?_
        refine lv_aload_n hx hb dX1_law_128 rfl (lv_at hl 5 rfl) ?_
        refine lv_iconst (v := (0 : Int32)) hx hb dX1_law_129 (by decide) ?_
        refine pt_put (v := .int (0 : Int32)) hx hb hts in_X1 tyX1 tyX1_ok nmX1 hown hK hP hD hS 0 rfl rfl 18 (Nat.le_of_ble_eq_true rfl) (hts _ q209) (fun _ h => h) rfl (ty := .int) (by decide +kernel) rfl rfl (Nat.le_of_ble_eq_true rfl) dX1_law_130 wXF_18 (fun H locs hP hD hS => ?_)
        refine lv_aload_n hx hb dX1_law_133 rfl (lv_at hl 5 rfl) ?_
        refine lv_iload hx hb dX1_law_134 (lv_at hl 0 rfl) ?_
        refine lv_i2l (v := (x24.toInt64)) hx hb dX1_law_136 rfl ?_
        refine cl_v F (va_runV (As := [.long (x24.toInt64)]) (rest := []) ⟨hx, hb, hml, hown, hts⟩ (ct_S_tell h _) (cwV 1 hts (lw_V q728 q730 qs19 q94 q731) rfl rfl rfl (by decide +kernel) ⟨Nat.le_trans (Nat.le_of_ble_eq_true rfl) hRf, Nat.le_trans (Nat.le_of_ble_eq_true rfl) hRl⟩) ⟨ct_blind, va_recv hK hP (ci := 0) (q0 := 0) rfl rfl, ct_at F hS hP hD⟩ rfl rfl hl.1 rfl (lv_room (Nat.le_of_ble_eq_true rfl)) dX1_law_137 ⟨hC, hSl⟩) rfl rfl hD hS ?_
        rintro ⟨fd27, lw28⟩ H locs h hP hD hS
        refine lv_aload_n hx hb dX1_law_140 rfl (lv_at hl 5 rfl) ?_
        refine lv_iload hx hb dX1_law_141 (lv_at hl 1 rfl) ?_
        refine lv_i2l (v := (x9.toInt64)) hx hb dX1_law_143 rfl ?_
        refine cl_v F (va_runV (As := [.long (x9.toInt64)]) (rest := []) ⟨hx, hb, hml, hown, hts⟩ (ct_S_tell h _) (cwV 1 hts (lw_V q728 q730 qs19 q94 q731) rfl rfl rfl (by decide +kernel) ⟨Nat.le_trans (Nat.le_of_ble_eq_true rfl) hRf, Nat.le_trans (Nat.le_of_ble_eq_true rfl) hRl⟩) ⟨ct_blind, va_recv hK hP (ci := 0) (q0 := 0) rfl rfl, ct_at F hS hP hD⟩ rfl rfl hl.1 rfl (lv_room (Nat.le_of_ble_eq_true rfl)) dX1_law_144 ⟨hC, hSl⟩) rfl rfl hD hS ?_
        rintro ⟨fd29, lw30⟩ H locs h hP hD hS
        refine lv_iload hx hb dX1_law_147 (lv_at hl 0 rfl) ?_
        refine lv_iload hx hb dX1_law_149 (lv_at hl 1 rfl) ?_
        refine lv_isub hx hb dX1_law_151 ?_
        exact rt_i F dX1_law_152 rfl (fd29, ar26, lw30) h hP hD hS (Nat.le_of_ble_eq_true rfl) (Nat.le_of_ble_eq_true rfl)
    · replace h := h.2 c45
      refine lv_null hx hb dX1_law_50 ?_
      refine lv_goto (tgt := 67) hx hb dX1_law_51 (by decide) ?_
      refine pt_put (v := .null) hx hb hts in_X1 tyX1 tyX1_ok nmX1 hown hK hP hD hS 0 rfl rfl 19 (Nat.le_of_ble_eq_true rfl) (hts _ q210) (fun _ h => h) rfl (ty := (.object "SandKeepsSea$Rule")) (by decide +kernel) rfl rfl (Nat.le_of_ble_eq_true rfl) dX1_law_67 rfl (fun H locs hP hD hS => ?_)
      replace hP : va_P D vwCl (wX gI o ax none ([(q1, .inl (gI 3, 80, .inl (ar 15)))] ++ tl) fd10 ar11 lw hh) _ := hP
      replace hD : va_D A (wX gI o ax none ([(q1, .inl (gI 3, 80, .inl (ar 15)))] ++ tl) fd10 ar11 lw hh) := hD
      refine lv_aload_n hx hb dX1_law_70 rfl (lv_at hl 4 rfl) ?_
      refine va_get hx hb hts in_X1 hown hK hP 0 rfl rfl 2 (Nat.le_of_ble_eq_true rfl) (hts _ q186) (fun _ h => h) (v := .ref (ax 2)) rfl dX1_law_71 ?_
      refine lv_aload_n hx hb dX1_law_74 rfl (lv_at hl 4 rfl) ?_
      refine va_get hx hb hts in_X1 hown hK hP 0 rfl rfl 0 (Nat.le_of_ble_eq_true rfl) (hts _ q180) (fun _ h => h) (v := .ref (ax 0)) rfl dX1_law_75 ?_
      refine cl_vL F (va_runV (As := [.ref (ax 0)]) (rest := []) ⟨hx, hb, hml, hown, hts⟩ (ct_B_be (o := (ax 2)) (ab := axb ax 2) (o2 := (ax 0)) (ab2 := axb ax 0) h _) (cwV 1 hts (lw_V q659 q660 q661 q95 q662) rfl rfl rfl (by decide +kernel) ⟨Nat.le_trans (Nat.le_of_ble_eq_true rfl) hRf, Nat.le_trans (Nat.le_of_ble_eq_true rfl) hRl⟩) ⟨ct_blind, va_recv hK hP (ci := 1) (q0 := 24) rfl rfl, ct_at F hS (putL_P hP (ps := [24, 25, 26, 27, 28, 14, 15, 16, 17, 18]) rfl) (hD.sub ([24, 25, 26, 27, 28, 14, 15, 16, 17, 18]) (by decide) rfl)⟩ rfl rfl hl.1 rfl (lv_room (Nat.le_of_ble_eq_true rfl)) dX1_law_78 ⟨hC, hSl⟩) rfl rfl hP hD hS (ps := [24, 25, 26, 27, 28, 14, 15, 16, 17, 18]) rfl (fun _ => rfl) (fun _ => wXPP_2_0) ?_
      rintro ⟨wl31, dp32, aa33, md34, mo35, sp36, ti37⟩ H locs h hP hD hS
      refine lv_aload_n hx hb dX1_law_81 rfl (lv_at hl 4 rfl) ?_
      refine lv_bipush (v := (20 : Int32)) hx hb dX1_law_82 (by decide) ?_
      refine clz_i F (vx_runV (As := [.int (20 : Int32)]) (rest := []) ⟨hx, hb, hml, hown, hts⟩ (cz_S_breaks hlt h _) (cwV 1 hts (lw_V q938 q940 qs28 q94 q941) rfl rfl rfl (by decide +kernel) ⟨Nat.le_trans (Nat.le_of_ble_eq_true rfl) hRf, Nat.le_trans (Nat.le_of_ble_eq_true rfl) hRl⟩) ⟨ct_blind, va_recv hK hP (ci := 0) (q0 := 0) rfl rfl, ct_at F hS hP hD⟩ rfl rfl hl.1 rfl (lv_room (Nat.le_of_ble_eq_true rfl)) dX1_law_84 ⟨hC1, hS7⟩) hD hS ?_
      rintro x38 ⟨fd39, ar40⟩ H locs h hP hD hS
      refine lv_istore (lv' := [(5, .int x38), (4, .int x9), (3, .int (fd 16)), (2, .ref q1), (1, .null), (0, .ref o)]) hx hb dX1_law_87 hl (by decide) rfl (fun ls hl => ?_)
      refine lv_aload_n hx hb dX1_law_89 rfl (lv_at hl 5 rfl) ?_
      refine lv_aload_nN hx hb dX1_law_90 rfl (lv_at hl 4 rfl) ?_
      refine pt_put (v := .null) hx hb hts in_X1 tyX1 tyX1_ok nmX1 hown hK hP hD hS 0 rfl rfl 19 (Nat.le_of_ble_eq_true rfl) (hts _ q210) (fun _ h => h) rfl (ty := (.object "SandKeepsSea$Rule")) (by decide +kernel) rfl rfl (Nat.le_of_ble_eq_true rfl) dX1_law_91 rfl (fun H locs hP hD hS => ?_)
      replace hP : va_P D vwCl (wX gI o ax none ([(q1, .inl (gI 3, 80, .inl (ar 15)))] ++ tl) fd39 ar40 lw hh) _ := hP
      replace hD : va_D A (wX gI o ax none ([(q1, .inl (gI 3, 80, .inl (ar 15)))] ++ tl) fd39 ar40 lw hh) := hD
      refine lv_goto (tgt := 128) hx hb dX1_law_94 (by decide) ?_
      refine lv_aload_n hx hb dX1_law_128 rfl (lv_at hl 5 rfl) ?_
      refine lv_iconst (v := (0 : Int32)) hx hb dX1_law_129 (by decide) ?_
      refine pt_put (v := .int (0 : Int32)) hx hb hts in_X1 tyX1 tyX1_ok nmX1 hown hK hP hD hS 0 rfl rfl 18 (Nat.le_of_ble_eq_true rfl) (hts _ q209) (fun _ h => h) rfl (ty := .int) (by decide +kernel) rfl rfl (Nat.le_of_ble_eq_true rfl) dX1_law_130 wXF_18 (fun H locs hP hD hS => ?_)
      refine lv_aload_n hx hb dX1_law_133 rfl (lv_at hl 5 rfl) ?_
      refine lv_iload hx hb dX1_law_134 (lv_at hl 0 rfl) ?_
      refine lv_i2l (v := (x38.toInt64)) hx hb dX1_law_136 rfl ?_
      refine cl_v F (va_runV (As := [.long (x38.toInt64)]) (rest := []) ⟨hx, hb, hml, hown, hts⟩ (ct_S_tell h _) (cwV 1 hts (lw_V q728 q730 qs19 q94 q731) rfl rfl rfl (by decide +kernel) ⟨Nat.le_trans (Nat.le_of_ble_eq_true rfl) hRf, Nat.le_trans (Nat.le_of_ble_eq_true rfl) hRl⟩) ⟨ct_blind, va_recv hK hP (ci := 0) (q0 := 0) rfl rfl, ct_at F hS hP hD⟩ rfl rfl hl.1 rfl (lv_room (Nat.le_of_ble_eq_true rfl)) dX1_law_137 ⟨hC, hSl⟩) rfl rfl hD hS ?_
      rintro ⟨fd41, lw42⟩ H locs h hP hD hS
      refine lv_aload_n hx hb dX1_law_140 rfl (lv_at hl 5 rfl) ?_
      refine lv_iload hx hb dX1_law_141 (lv_at hl 1 rfl) ?_
      refine lv_i2l (v := (x9.toInt64)) hx hb dX1_law_143 rfl ?_
      refine cl_v F (va_runV (As := [.long (x9.toInt64)]) (rest := []) ⟨hx, hb, hml, hown, hts⟩ (ct_S_tell h _) (cwV 1 hts (lw_V q728 q730 qs19 q94 q731) rfl rfl rfl (by decide +kernel) ⟨Nat.le_trans (Nat.le_of_ble_eq_true rfl) hRf, Nat.le_trans (Nat.le_of_ble_eq_true rfl) hRl⟩) ⟨ct_blind, va_recv hK hP (ci := 0) (q0 := 0) rfl rfl, ct_at F hS hP hD⟩ rfl rfl hl.1 rfl (lv_room (Nat.le_of_ble_eq_true rfl)) dX1_law_144 ⟨hC, hSl⟩) rfl rfl hD hS ?_
      rintro ⟨fd43, lw44⟩ H locs h hP hD hS
      refine lv_iload hx hb dX1_law_147 (lv_at hl 0 rfl) ?_
      refine lv_iload hx hb dX1_law_149 (lv_at hl 1 rfl) ?_
      refine lv_isub hx hb dX1_law_151 ?_
      replace hP := fr_dropP (xs := [(q1, .inl (gI 3, 80, .inl (ar 15)))]) (tl := tl) hP
      replace hD := fr_dropD (xs := [(q1, .inl (gI 3, 80, .inl (ar 15)))]) (tl := tl) hD
      exact rt_i F dX1_law_152 rfl (fd43, ar40, lw44) h hP hD hS (Nat.le_of_ble_eq_true rfl) (Nat.le_of_ble_eq_true rfl)
  · replace h := h.2 (by simp)
    refine va_get hx hb hts in_X1 hown hK hP 0 rfl rfl 19 (Nat.le_of_ble_eq_true rfl) (hts _ q210) (fun _ h => h) (v := .ref rp) rfl dX1_law_1 ?_
    refine lv_astore_n (lv' := [(1, .ref rp), (0, .ref o)]) hx hb dX1_law_4 rfl hl (by decide) rfl (fun ls hl => ?_)
    refine lv_aload_n hx hb dX1_law_5 rfl (lv_at hl 1 rfl) ?_
    refine va_get hx hb hts in_X1 hown hK hP 0 rfl rfl 15 (Nat.le_of_ble_eq_true rfl) (hts _ q206) (fun _ h => h) (v := .ref (ax 15)) rfl dX1_law_6 ?_
    refine va_clone hx hb (hml.trans hl.1.symm) hown (hts _ q503) (hts _ q504) (hts _ q505) (hts _ q506) (hts _ q507) (hE.1 _ q508 rfl) hK hP hD hS hA 6 3 rfl rfl (hK.2 3 _ rfl).2 (byte_fit h.1) (Nat.le_trans (Nat.le_of_ble_eq_true rfl) hRf) (Nat.le_trans (Nat.le_of_ble_eq_true rfl) hRl) (Nat.le_of_ble_eq_true rfl) (Nat.le_of_ble_eq_true rfl) dX1_law_9 (fun q46 H _ hP hD hS => ?_)
    replace h := h.2 q46
    replace hP : va_P D vwCl (wX gI o ax (some (rp, rq)) ([(q46, .inl (gI 3, 80, .inl (ar 15)))] ++ tl) fd ar lw hh) _ := frw_inP (nw := [(q46, .inl (gI 3, 80, .inl (ar 15)))]) hP
    replace hD : va_D A (wX gI o ax (some (rp, rq)) ([(q46, .inl (gI 3, 80, .inl (ar 15)))] ++ tl) fd ar lw hh) := frw_inD (nw := [(q46, .inl (gI 3, 80, .inl (ar 15)))]) hD
    replace hC : 1 ≤ ({ frames := 214, cells := 3, slots := 95, locals := 5085 } : Room).cells := Nat.le_of_ble_eq_true rfl
    replace hSl : 80 ≤ ({ frames := 214, cells := 3, slots := 95, locals := 5085 } : Room).slots := Nat.le_of_ble_eq_true rfl
    replace hC1 : 1 + 1 ≤ ({ frames := 214, cells := 3, slots := 95, locals := 5085 } : Room).cells := Nat.le_of_ble_eq_true rfl
    replace hS7 : 80 + 7 ≤ ({ frames := 214, cells := 3, slots := 95, locals := 5085 } : Room).slots := Nat.le_of_ble_eq_true rfl
    replace hM : 1 + 1 ≤ 3 := Nat.le_of_ble_eq_true rfl
    replace hMs : 80 + 7 ≤ 95 := Nat.le_of_ble_eq_true rfl
    refine va_castA hx hb hown (hts _ q509) (fr_outP (xs := [(q46, .inl (gI 3, 80, .inl (ar 15)))]) hP) 0 rfl (hK.2 3 _ rfl).2 dX1_law_12 ?_
    refine lv_astore_n (lv' := [(2, .ref q46), (1, .ref rp), (0, .ref o)]) hx hb dX1_law_15 rfl hl (by decide) rfl (fun ls hl => ?_)
    refine lv_aload_n hx hb dX1_law_16 rfl (lv_at hl 2 rfl) ?_
    refine va_get hx hb hts in_X1 hown hK hP 0 rfl rfl 16 (Nat.le_of_ble_eq_true rfl) (hts _ q207) (fun _ h => h) (v := .int (fd 16)) rfl dX1_law_17 ?_
    refine lv_istore_n (lv' := [(3, .int (fd 16)), (2, .ref q46), (1, .ref rp), (0, .ref o)]) hx hb dX1_law_20 rfl hl (by decide) rfl (fun ls hl => ?_)
    refine lv_aload_n hx hb dX1_law_21 rfl (lv_at hl 3 rfl) ?_
    refine lv_iconst (v := (0 : Int32)) hx hb dX1_law_22 (by decide) ?_
    refine pt_put (v := .int (0 : Int32)) hx hb hts in_X1 tyX1 tyX1_ok nmX1 hown hK hP hD hS 0 rfl rfl 16 (Nat.le_of_ble_eq_true rfl) (hts _ q207) (fun _ h => h) rfl (ty := .int) (by decide +kernel) rfl rfl (Nat.le_of_ble_eq_true rfl) dX1_law_23 wXF_16 (fun H locs hP hD hS => ?_)
    refine lv_aload_n hx hb dX1_law_26 rfl (lv_at hl 3 rfl) ?_
    refine va_get hx hb hts in_X1 hown hK hP 0 rfl rfl 2 (Nat.le_of_ble_eq_true rfl) (hts _ q186) (fun _ h => h) (v := .ref (ax 2)) rfl dX1_law_27 ?_
    refine lv_aload_n hx hb dX1_law_30 rfl (lv_at hl 3 rfl) ?_
    refine va_get hx hb hts in_X1 hown hK hP 0 rfl rfl 0 (Nat.le_of_ble_eq_true rfl) (hts _ q180) (fun _ h => h) (v := .ref (ax 0)) rfl dX1_law_31 ?_
    refine cl_vL F (va_runV (As := [.ref (ax 0)]) (rest := []) ⟨hx, hb, hml, hown, hts⟩ (ct_B_be (o := (ax 2)) (ab := axb ax 2) (o2 := (ax 0)) (ab2 := axb ax 0) h _) (cwV 1 hts (lw_V q659 q660 q661 q95 q662) rfl rfl rfl (by decide +kernel) ⟨Nat.le_trans (Nat.le_of_ble_eq_true rfl) hRf, Nat.le_trans (Nat.le_of_ble_eq_true rfl) hRl⟩) ⟨ct_blind, va_recv hK hP (ci := 1) (q0 := 24) rfl rfl, ct_at F hS (putL_P hP (ps := [24, 25, 26, 27, 28, 14, 15, 16, 17, 18]) rfl) (hD.sub ([24, 25, 26, 27, 28, 14, 15, 16, 17, 18]) (by decide) rfl)⟩ rfl rfl hl.1 rfl (lv_room (Nat.le_of_ble_eq_true rfl)) dX1_law_34 ⟨hC, hSl⟩) rfl rfl hP hD hS (ps := [24, 25, 26, 27, 28, 14, 15, 16, 17, 18]) rfl (fun _ => rfl) (fun _ => wXPP_2_0) ?_
    rintro ⟨wl47, dp48, aa49, md50, mo51, sp52, ti53⟩ H locs h hP hD hS
    refine lv_aload_n hx hb dX1_law_37 rfl (lv_at hl 3 rfl) ?_
    refine lv_bipush (v := (20 : Int32)) hx hb dX1_law_38 (by decide) ?_
    refine clz_i F (vx_runV (As := [.int (20 : Int32)]) (rest := []) ⟨hx, hb, hml, hown, hts⟩ (cz_S_breaks hlt h _) (cwV 1 hts (lw_V q938 q940 qs28 q94 q941) rfl rfl rfl (by decide +kernel) ⟨Nat.le_trans (Nat.le_of_ble_eq_true rfl) hRf, Nat.le_trans (Nat.le_of_ble_eq_true rfl) hRl⟩) ⟨ct_blind, va_recv hK hP (ci := 0) (q0 := 0) rfl rfl, ct_at F hS hP hD⟩ rfl rfl hl.1 rfl (lv_room (Nat.le_of_ble_eq_true rfl)) dX1_law_40 ⟨hC1, hS7⟩) hD hS ?_
    rintro x54 ⟨fd55, ar56⟩ H locs h hP hD hS
    refine lv_istore (lv' := [(4, .int x54), (3, .int (fd 16)), (2, .ref q46), (1, .ref rp), (0, .ref o)]) hx hb dX1_law_43 hl (by decide) rfl (fun ls hl => ?_)
    refine lv_aload_n hx hb dX1_law_45 rfl (lv_at hl 4 rfl) ?_
    refine lv_iload_n hx hb dX1_law_46 rfl (lv_at hl 1 rfl) ?_
    refine lv_if_ne (tgt := 54) hx hb dX1_law_47 (by decide) (fun c90 => ?_) (fun c90 => ?_)
    · replace h := h.1 c90
      refine va_new (ci := 3) (fs := [.null, .int (0 : Int32), .int (0 : Int32), .int (0 : Int32), .int (0 : Int32), .int (0 : Int32), .int (0 : Int32), .null]) (C := RX7) (T := TX7) (N := 8) hx hb hts in_X7 tyX7 tyX7_ok hown (hts _ q510) (hts _ q511) (hts _ q105) hK hP hD hS hA rfl (fun j hj => by rcases (show j = 0 ∨ j = 1 ∨ j = 2 ∨ j = 3 ∨ j = 4 ∨ j = 5 ∨ j = 6 ∨ j = 7 by omega) with rfl | rfl | rfl | rfl | rfl | rfl | rfl | rfl <;> rfl) (Nat.le_of_ble_eq_true rfl) (Nat.le_of_ble_eq_true rfl) dX1_law_54 (fun q57 H hP hD hS => ?_)
      replace h := h q57
      replace hP : va_P D vwCl (wX gI o ax (some (rp, rq)) ([(q57, .inr (3, [.null, .int (0 : Int32), .int (0 : Int32), .int (0 : Int32), .int (0 : Int32), .int (0 : Int32), .int (0 : Int32), .null])), (q46, .inl (gI 3, 80, .inl (ar 15)))] ++ tl) fd55 ar56 lw hh) _ := frw_inP (nw := [(q57, .inr (3, [.null, .int (0 : Int32), .int (0 : Int32), .int (0 : Int32), .int (0 : Int32), .int (0 : Int32), .int (0 : Int32), .null]))]) hP
      replace hD : va_D A (wX gI o ax (some (rp, rq)) ([(q57, .inr (3, [.null, .int (0 : Int32), .int (0 : Int32), .int (0 : Int32), .int (0 : Int32), .int (0 : Int32), .int (0 : Int32), .null])), (q46, .inl (gI 3, 80, .inl (ar 15)))] ++ tl) fd55 ar56 lw hh) := frw_inD (nw := [(q57, .inr (3, [.null, .int (0 : Int32), .int (0 : Int32), .int (0 : Int32), .int (0 : Int32), .int (0 : Int32), .int (0 : Int32), .null]))]) hD
      replace hC : 2 ≤ ({ frames := 214, cells := 3, slots := 95, locals := 5085 } : Room).cells := Nat.le_of_ble_eq_true rfl
      replace hSl : 88 ≤ ({ frames := 214, cells := 3, slots := 95, locals := 5085 } : Room).slots := Nat.le_of_ble_eq_true rfl
      replace hC1 : 2 + 1 ≤ ({ frames := 214, cells := 3, slots := 95, locals := 5085 } : Room).cells := Nat.le_of_ble_eq_true rfl
      replace hS7 : 88 + 7 ≤ ({ frames := 214, cells := 3, slots := 95, locals := 5085 } : Room).slots := Nat.le_of_ble_eq_true rfl
      replace hM : 2 + 1 ≤ 3 := Nat.le_of_ble_eq_true rfl
      replace hMs : 88 + 7 ≤ 95 := Nat.le_of_ble_eq_true rfl
      refine lv_dup hx hb dX1_law_57 rfl ?_
      refine lv_aload_n hx hb dX1_law_58 rfl (lv_at hl 4 rfl) ?_
      refine lv_aload_n hx hb dX1_law_59 rfl (lv_at hl 2 rfl) ?_
      refine lv_iload_n hx hb dX1_law_60 rfl (lv_at hl 1 rfl) ?_
      replace hP := fr_outP (xs := [(q57, .inr (3, [.null, .int (0 : Int32), .int (0 : Int32), .int (0 : Int32), .int (0 : Int32), .int (0 : Int32), .int (0 : Int32), .null])), (q46, .inl (gI 3, 80, .inl (ar 15)))]) hP
      replace hD := fr_outD (xs := [(q57, .inr (3, [.null, .int (0 : Int32), .int (0 : Int32), .int (0 : Int32), .int (0 : Int32), .int (0 : Int32), .int (0 : Int32), .null])), (q46, .inl (gI 3, 80, .inl (ar 15)))]) hD
      refine cl_vL F (va_runI (As := [.ref o, .ref q46, .int (fd 16)]) (rest := [.ref q57, .ref o]) ⟨hx, hb, hml, hown, hts⟩ (ct_K_X7_init (o := q57) (ox := o) (pt := q46) (v3 := (fd 16)) _) (cwI 3 hts (lw_meth q514) rfl rfl rfl (hts _ q105) (hts _ q512) (hts _ q513) rfl (by decide +kernel) ⟨Nat.le_trans (Nat.le_of_ble_eq_true rfl) hRf, Nat.le_trans (Nat.le_of_ble_eq_true rfl) hRl⟩) ⟨ct_blind, ct_at F hS (putL_P hP (ps := [0]) rfl) (hD.sub ([0]) (by decide) rfl)⟩ rfl rfl hl.1 rfl (lv_room (Nat.le_of_ble_eq_true rfl)) dX1_law_61 ⟨Nat.le_of_ble_eq_true rfl, Nat.le_of_ble_eq_true rfl⟩) rfl rfl hP hD hS (ps := [0]) rfl (fun _ => rfl) (fun _ => rfl) ?_
      rintro _ H locs _ hP hD hS
      replace hP := fr_inP (xs := [(q57, .inr (3, [.ref q46, .int (fd 16), .int (mnI (fd 16) (40 : Int32)), .int (0 : Int32), .int (0 : Int32), .int (0 : Int32), .int (0 : Int32), .ref o])), (q46, .inl (gI 3, 80, .inl (ar 15)))]) hP
      replace hD := fr_inD (xs := [(q57, .inr (3, [.ref q46, .int (fd 16), .int (mnI (fd 16) (40 : Int32)), .int (0 : Int32), .int (0 : Int32), .int (0 : Int32), .int (0 : Int32), .ref o])), (q46, .inl (gI 3, 80, .inl (ar 15)))]) hD
      replace hP := fr_outP (xs := [(q57, .inr (3, [.ref q46, .int (fd 16), .int (mnI (fd 16) (40 : Int32)), .int (0 : Int32), .int (0 : Int32), .int (0 : Int32), .int (0 : Int32), .ref o])), (q46, .inl (gI 3, 80, .inl (ar 15)))]) hP
      replace hD := fr_outD (xs := [(q57, .inr (3, [.ref q46, .int (fd 16), .int (mnI (fd 16) (40 : Int32)), .int (0 : Int32), .int (0 : Int32), .int (0 : Int32), .int (0 : Int32), .ref o])), (q46, .inl (gI 3, 80, .inl (ar 15)))]) hD
      refine clx_rL F (vx_runV (As := []) (rest := [.ref o]) ⟨hx, hb, hml, hown, hts⟩ (cx_R_read hlt (o := q57) (pt := q46) (ox := o) (ax := ax) (rn := (some (rp, rq))) h _) (cwV 0 hts (lw_V q533 q534 q535 q105 q536) rfl rfl rfl (by decide +kernel) ⟨Nat.le_trans (Nat.le_of_ble_eq_true rfl) hRf, Nat.le_trans (Nat.le_of_ble_eq_true rfl) hRl⟩) ⟨ct_blind, va_recv hK hP (ci := 3) (q0 := 0) rfl rfl, ct_at F hS (putL_P hP (ps := [0, 1, 2]) rfl) (hD.sub ([0, 1, 2]) (by decide) rfl)⟩ rfl rfl hl.1 rfl (lv_room (Nat.le_of_ble_eq_true rfl)) dX1_law_64 ⟨hC1, hS7⟩) hP hD hS (ps := [0, 1, 2]) rfl (fun _ => rfl) (fun _ => rfl) (fun _ => rfl) (fun _ => rfl) ?_ ?_
      · rintro q61 z60 pw59 H locs h hP hD hS
        obtain ⟨ce, hce, hcv, hcl⟩ := fC_cell hK hP
        have hPf := pl_last hP
        replace hP := fr_inP (xs := [(q57, .inr (3, [.ref q46, .int (fd 16), .int (mnI (fd 16) (40 : Int32)), .int pw59, .int (0 : Int32), .int (0 : Int32), .int (0 : Int32), .ref o])), (q46, .inl (gI 3, 80, .inl (ar 15)))]) (pl_init hP)
        replace hD := fr_inD (xs := [(q57, .inr (3, [.ref q46, .int (fd 16), .int (mnI (fd 16) (40 : Int32)), .int pw59, .int (0 : Int32), .int (0 : Int32), .int (0 : Int32), .ref o])), (q46, .inl (gI 3, 80, .inl (ar 15)))]) (dl_init hD)
        refine vx_catch hown [] ⟨45, 89, 97, 113⟩ [⟨45, 89, 118, 0⟩, ⟨97, 110, 118, 0⟩, ⟨118, 120, 118, 0⟩] htab (fun z hz => absurd hz List.not_mem_nil) (by decide) (by decide) (hts _ q305) (va_Nw.use rfl (hE.1 _ q371 rfl)) hce hcv hcl ?_
        refine lv_astore (lv' := [(6, .ref q61), (4, .int x54), (3, .int (fd 16)), (2, .ref q46), (1, .ref rp), (0, .ref o)]) hx hb dX1_law_97 hl (by decide) rfl (fun ls hl => ?_)
        refine lv_sipush (v := (-10000 : Int32)) hx hb dX1_law_99 (by decide) ?_
        refine lv_aload hx hb dX1_law_102 (lv_at hl 0 rfl) ?_
        refine va_getN (v := .int z60) hx hb hts in_F6 hown hK hPf 0 rfl rfl 0 (Nat.le_refl _) (va_Nw.use rfl (hE.1 _ q416 rfl)) (fun _ h => h) rfl dX1_law_104 ?_
        refine lv_isub hx hb dX1_law_107 ?_
        refine lv_istore (lv' := [(7, .int ((-10000 : Int32) - z60)), (6, .ref q61), (4, .int x54), (3, .int (fd 16)), (2, .ref q46), (1, .ref rp), (0, .ref o)]) hx hb dX1_law_108 hl (by decide) rfl (fun ls hl => ?_)
        refine lv_aload_n hx hb dX1_law_110 rfl (lv_at hl 6 rfl) ?_
        refine lv_aload_n hx hb dX1_law_111 rfl (lv_at hl 5 rfl) ?_
        refine pt_put (v := .ref rp) hx hb hts in_X1 tyX1 tyX1_ok nmX1 hown hK hP hD hS 0 rfl rfl 19 (Nat.le_of_ble_eq_true rfl) (hts _ q210) (fun _ h => h) rfl (ty := (.object "SandKeepsSea$Rule")) (by decide +kernel) rfl rfl (Nat.le_of_ble_eq_true rfl) dX1_law_112 wXR_same (fun H locs hP hD hS => ?_)
        refine lv_iload hx hb dX1_law_115 (lv_at hl 0 rfl) ?_
        replace hP := fr_dropP (xs := [(q57, .inr (3, [.ref q46, .int (fd 16), .int (mnI (fd 16) (40 : Int32)), .int pw59, .int (0 : Int32), .int (0 : Int32), .int (0 : Int32), .ref o])), (q46, .inl (gI 3, 80, .inl (ar 15)))]) (tl := tl) hP
        replace hD := fr_dropD (xs := [(q57, .inr (3, [.ref q46, .int (fd 16), .int (mnI (fd 16) (40 : Int32)), .int pw59, .int (0 : Int32), .int (0 : Int32), .int (0 : Int32), .ref o])), (q46, .inl (gI 3, 80, .inl (ar 15)))]) (tl := tl) hD
        exact rt_i F dX1_law_117 rfl (fd55, ar56, lw) h hP hD hS (Nat.le_of_ble_eq_true rfl) (Nat.le_of_ble_eq_true rfl)
      · rintro pw58 H locs h hP hD hS
        replace hP := fr_inP (xs := [(q57, .inr (3, [.ref q46, .int (fd 16), .int (mnI (fd 16) (40 : Int32)), .int pw58, .int (0 : Int32), .int (0 : Int32), .int (0 : Int32), .ref o])), (q46, .inl (gI 3, 80, .inl (ar 15)))]) hP
        replace hD := fr_inD (xs := [(q57, .inr (3, [.ref q46, .int (fd 16), .int (mnI (fd 16) (40 : Int32)), .int pw58, .int (0 : Int32), .int (0 : Int32), .int (0 : Int32), .ref o])), (q46, .inl (gI 3, 80, .inl (ar 15)))]) hD
        refine va_put (v := .ref q57) hx hb hts in_X1 tyX1 tyX1_ok nmX1 hown hK hP hD hS 0 rfl rfl 19 (Nat.le_of_ble_eq_true rfl) (hts _ q210) (fun _ h => h) rfl (ty := (.object "SandKeepsSea$Rule")) (by decide +kernel) rfl rfl (Nat.le_of_ble_eq_true rfl) dX1_law_67 (fun H locs hP hD hS => ?_)
        replace hP : va_P D vwCl (wX gI o ax (some (q57, q46)) ([(rp, .inr (3, [.ref rq, .int (fd55 70), .int (fd55 71), .int (fd55 72), .int (fd55 73), .int (fd55 74), .int (fd55 75), .ref o])), (rq, .inl (gI 3, 80, .inl (ar56 60)))] ++ tl) (upd (upd (upd (upd (upd (upd fd55 70 (fd 16)) 71 (mnI (fd 16) (40 : Int32))) 72 pw58) 73 (0 : Int32)) 74 (0 : Int32)) 75 (0 : Int32)) (va_up ar56 60 (ar 15)) lw hh) _ := va_P_perm hP (wXR_some (gI := gI) (o := o) (ax := ax) (rn := (some (rp, rq))) (fd := fd55) (ar := ar56) (lw := lw) (hh := hh) (tl := tl))
        replace hD : va_D A (wX gI o ax (some (q57, q46)) ([(rp, .inr (3, [.ref rq, .int (fd55 70), .int (fd55 71), .int (fd55 72), .int (fd55 73), .int (fd55 74), .int (fd55 75), .ref o])), (rq, .inl (gI 3, 80, .inl (ar56 60)))] ++ tl) (upd (upd (upd (upd (upd (upd fd55 70 (fd 16)) 71 (mnI (fd 16) (40 : Int32))) 72 pw58) 73 (0 : Int32)) 74 (0 : Int32)) 75 (0 : Int32)) (va_up ar56 60 (ar 15)) lw hh) := va_D_perm hD (wXR_some (gI := gI) (o := o) (ax := ax) (rn := (some (rp, rq))) (fd := fd55) (ar := ar56) (lw := lw) (hh := hh) (tl := tl))
        refine lv_aload_n hx hb dX1_law_70 rfl (lv_at hl 4 rfl) ?_
        refine va_get hx hb hts in_X1 hown hK hP 0 rfl rfl 2 (Nat.le_of_ble_eq_true rfl) (hts _ q186) (fun _ h => h) (v := .ref (ax 2)) rfl dX1_law_71 ?_
        refine lv_aload_n hx hb dX1_law_74 rfl (lv_at hl 4 rfl) ?_
        refine va_get hx hb hts in_X1 hown hK hP 0 rfl rfl 0 (Nat.le_of_ble_eq_true rfl) (hts _ q180) (fun _ h => h) (v := .ref (ax 0)) rfl dX1_law_75 ?_
        refine cl_vL F (va_runV (As := [.ref (ax 0)]) (rest := []) ⟨hx, hb, hml, hown, hts⟩ (ct_B_be (o := (ax 2)) (ab := axb ax 2) (o2 := (ax 0)) (ab2 := axb ax 0) h _) (cwV 1 hts (lw_V q659 q660 q661 q95 q662) rfl rfl rfl (by decide +kernel) ⟨Nat.le_trans (Nat.le_of_ble_eq_true rfl) hRf, Nat.le_trans (Nat.le_of_ble_eq_true rfl) hRl⟩) ⟨ct_blind, va_recv hK hP (ci := 1) (q0 := 24) rfl rfl, ct_at F hS (putL_P hP (ps := [24, 25, 26, 27, 28, 14, 15, 16, 17, 18]) rfl) (hD.sub ([24, 25, 26, 27, 28, 14, 15, 16, 17, 18]) (by decide) rfl)⟩ rfl rfl hl.1 rfl (lv_room (Nat.le_of_ble_eq_true rfl)) dX1_law_78 ⟨hC, hSl⟩) rfl rfl hP hD hS (ps := [24, 25, 26, 27, 28, 14, 15, 16, 17, 18]) rfl (fun _ => rfl) (fun _ => wXPP_2_0) ?_
        rintro ⟨wl62, dp63, aa64, md65, mo66, sp67, ti68⟩ H locs h hP hD hS
        refine lv_aload_n hx hb dX1_law_81 rfl (lv_at hl 4 rfl) ?_
        refine lv_bipush (v := (20 : Int32)) hx hb dX1_law_82 (by decide) ?_
        refine clz_i F (vx_runV (As := [.int (20 : Int32)]) (rest := []) ⟨hx, hb, hml, hown, hts⟩ (cz_S_breaks hlt h _) (cwV 1 hts (lw_V q938 q940 qs28 q94 q941) rfl rfl rfl (by decide +kernel) ⟨Nat.le_trans (Nat.le_of_ble_eq_true rfl) hRf, Nat.le_trans (Nat.le_of_ble_eq_true rfl) hRl⟩) ⟨ct_blind, va_recv hK hP (ci := 0) (q0 := 0) rfl rfl, ct_at F hS hP hD⟩ rfl rfl hl.1 rfl (lv_room (Nat.le_of_ble_eq_true rfl)) dX1_law_84 ⟨hC1, hS7⟩) hD hS ?_
        rintro x69 ⟨fd70, ar71⟩ H locs h hP hD hS
        refine lv_istore (lv' := [(5, .int x69), (4, .int x54), (3, .int (fd 16)), (2, .ref q46), (1, .ref rp), (0, .ref o)]) hx hb dX1_law_87 hl (by decide) rfl (fun ls hl => ?_)
        refine lv_aload_n hx hb dX1_law_89 rfl (lv_at hl 5 rfl) ?_
        refine lv_aload_n hx hb dX1_law_90 rfl (lv_at hl 4 rfl) ?_
        refine va_put (v := .ref rp) hx hb hts in_X1 tyX1 tyX1_ok nmX1 hown hK hP hD hS 0 rfl rfl 19 (Nat.le_of_ble_eq_true rfl) (hts _ q210) (fun _ h => h) rfl (ty := (.object "SandKeepsSea$Rule")) (by decide +kernel) rfl rfl (Nat.le_of_ble_eq_true rfl) dX1_law_91 (fun H locs hP hD hS => ?_)
        replace hP : va_P D vwCl (wX gI o ax (some (rp, rq)) (wR gI o (some (q57, q46)) fd70 ar71 ++ tl) (upd (upd (upd (upd (upd (upd fd70 70 (fd55 70)) 71 (fd55 71)) 72 (fd55 72)) 73 (fd55 73)) 74 (fd55 74)) 75 (fd55 75)) (va_up ar71 60 (ar56 60)) lw hh) _ := va_P_perm hP (wXR_some (gI := gI) (o := o) (ax := ax) (rn := (some (q57, q46))) (fd := fd70) (ar := ar71) (lw := lw) (hh := hh) (tl := tl))
        replace hD : va_D A (wX gI o ax (some (rp, rq)) (wR gI o (some (q57, q46)) fd70 ar71 ++ tl) (upd (upd (upd (upd (upd (upd fd70 70 (fd55 70)) 71 (fd55 71)) 72 (fd55 72)) 73 (fd55 73)) 74 (fd55 74)) 75 (fd55 75)) (va_up ar71 60 (ar56 60)) lw hh) := va_D_perm hD (wXR_some (gI := gI) (o := o) (ax := ax) (rn := (some (q57, q46))) (fd := fd70) (ar := ar71) (lw := lw) (hh := hh) (tl := tl))
        replace hP := fr_dropP (xs := wR gI o (some (q57, q46)) fd70 ar71) hP
        replace hD := fr_dropD (xs := wR gI o (some (q57, q46)) fd70 ar71) hD
        refine lv_goto (tgt := 128) hx hb dX1_law_94 (by decide) ?_
        refine lv_aload_n hx hb dX1_law_128 rfl (lv_at hl 5 rfl) ?_
        refine lv_iconst (v := (0 : Int32)) hx hb dX1_law_129 (by decide) ?_
        refine pt_put (v := .int (0 : Int32)) hx hb hts in_X1 tyX1 tyX1_ok nmX1 hown hK hP hD hS 0 rfl rfl 18 (Nat.le_of_ble_eq_true rfl) (hts _ q209) (fun _ h => h) rfl (ty := .int) (by decide +kernel) rfl rfl (Nat.le_of_ble_eq_true rfl) dX1_law_130 wXF_18 (fun H locs hP hD hS => ?_)
        refine lv_aload_n hx hb dX1_law_133 rfl (lv_at hl 5 rfl) ?_
        refine lv_iload hx hb dX1_law_134 (lv_at hl 0 rfl) ?_
        refine lv_i2l (v := (x69.toInt64)) hx hb dX1_law_136 rfl ?_
        refine cl_v F (va_runV (As := [.long (x69.toInt64)]) (rest := []) ⟨hx, hb, hml, hown, hts⟩ (ct_S_tell h _) (cwV 1 hts (lw_V q728 q730 qs19 q94 q731) rfl rfl rfl (by decide +kernel) ⟨Nat.le_trans (Nat.le_of_ble_eq_true rfl) hRf, Nat.le_trans (Nat.le_of_ble_eq_true rfl) hRl⟩) ⟨ct_blind, va_recv hK hP (ci := 0) (q0 := 0) rfl rfl, ct_at F hS hP hD⟩ rfl rfl hl.1 rfl (lv_room (Nat.le_of_ble_eq_true rfl)) dX1_law_137 ⟨hC, hSl⟩) rfl rfl hD hS ?_
        rintro ⟨fd72, lw73⟩ H locs h hP hD hS
        refine lv_aload_n hx hb dX1_law_140 rfl (lv_at hl 5 rfl) ?_
        refine lv_iload hx hb dX1_law_141 (lv_at hl 1 rfl) ?_
        refine lv_i2l (v := (x54.toInt64)) hx hb dX1_law_143 rfl ?_
        refine cl_v F (va_runV (As := [.long (x54.toInt64)]) (rest := []) ⟨hx, hb, hml, hown, hts⟩ (ct_S_tell h _) (cwV 1 hts (lw_V q728 q730 qs19 q94 q731) rfl rfl rfl (by decide +kernel) ⟨Nat.le_trans (Nat.le_of_ble_eq_true rfl) hRf, Nat.le_trans (Nat.le_of_ble_eq_true rfl) hRl⟩) ⟨ct_blind, va_recv hK hP (ci := 0) (q0 := 0) rfl rfl, ct_at F hS hP hD⟩ rfl rfl hl.1 rfl (lv_room (Nat.le_of_ble_eq_true rfl)) dX1_law_144 ⟨hC, hSl⟩) rfl rfl hD hS ?_
        rintro ⟨fd74, lw75⟩ H locs h hP hD hS
        refine lv_iload hx hb dX1_law_147 (lv_at hl 0 rfl) ?_
        refine lv_iload hx hb dX1_law_149 (lv_at hl 1 rfl) ?_
        refine lv_isub hx hb dX1_law_151 ?_
        exact rt_i F dX1_law_152 rfl (fd74, (va_up ar71 60 (ar56 60)), lw75) h hP hD hS (Nat.le_of_ble_eq_true rfl) (Nat.le_of_ble_eq_true rfl)
    · replace h := h.2 c90
      refine lv_null hx hb dX1_law_50 ?_
      refine lv_goto (tgt := 67) hx hb dX1_law_51 (by decide) ?_
      refine pt_put (v := .null) hx hb hts in_X1 tyX1 tyX1_ok nmX1 hown hK hP hD hS 0 rfl rfl 19 (Nat.le_of_ble_eq_true rfl) (hts _ q210) (fun _ h => h) rfl (ty := (.object "SandKeepsSea$Rule")) (by decide +kernel) rfl rfl (Nat.le_of_ble_eq_true rfl) dX1_law_67 wXR_none (fun H locs hP hD hS => ?_)
      replace hP : va_P D vwCl (wX gI o ax none ([(rp, .inr (3, [.ref rq, .int (fd55 70), .int (fd55 71), .int (fd55 72), .int (fd55 73), .int (fd55 74), .int (fd55 75), .ref o])), (rq, .inl (gI 3, 80, .inl (ar56 60))), (q46, .inl (gI 3, 80, .inl (ar 15)))] ++ tl) fd55 ar56 lw hh) _ := hP
      replace hD : va_D A (wX gI o ax none ([(rp, .inr (3, [.ref rq, .int (fd55 70), .int (fd55 71), .int (fd55 72), .int (fd55 73), .int (fd55 74), .int (fd55 75), .ref o])), (rq, .inl (gI 3, 80, .inl (ar56 60))), (q46, .inl (gI 3, 80, .inl (ar 15)))] ++ tl) fd55 ar56 lw hh) := hD
      refine lv_aload_n hx hb dX1_law_70 rfl (lv_at hl 4 rfl) ?_
      refine va_get hx hb hts in_X1 hown hK hP 0 rfl rfl 2 (Nat.le_of_ble_eq_true rfl) (hts _ q186) (fun _ h => h) (v := .ref (ax 2)) rfl dX1_law_71 ?_
      refine lv_aload_n hx hb dX1_law_74 rfl (lv_at hl 4 rfl) ?_
      refine va_get hx hb hts in_X1 hown hK hP 0 rfl rfl 0 (Nat.le_of_ble_eq_true rfl) (hts _ q180) (fun _ h => h) (v := .ref (ax 0)) rfl dX1_law_75 ?_
      refine cl_vL F (va_runV (As := [.ref (ax 0)]) (rest := []) ⟨hx, hb, hml, hown, hts⟩ (ct_B_be (o := (ax 2)) (ab := axb ax 2) (o2 := (ax 0)) (ab2 := axb ax 0) h _) (cwV 1 hts (lw_V q659 q660 q661 q95 q662) rfl rfl rfl (by decide +kernel) ⟨Nat.le_trans (Nat.le_of_ble_eq_true rfl) hRf, Nat.le_trans (Nat.le_of_ble_eq_true rfl) hRl⟩) ⟨ct_blind, va_recv hK hP (ci := 1) (q0 := 24) rfl rfl, ct_at F hS (putL_P hP (ps := [24, 25, 26, 27, 28, 14, 15, 16, 17, 18]) rfl) (hD.sub ([24, 25, 26, 27, 28, 14, 15, 16, 17, 18]) (by decide) rfl)⟩ rfl rfl hl.1 rfl (lv_room (Nat.le_of_ble_eq_true rfl)) dX1_law_78 ⟨hC, hSl⟩) rfl rfl hP hD hS (ps := [24, 25, 26, 27, 28, 14, 15, 16, 17, 18]) rfl (fun _ => rfl) (fun _ => wXPP_2_0) ?_
      rintro ⟨wl76, dp77, aa78, md79, mo80, sp81, ti82⟩ H locs h hP hD hS
      refine lv_aload_n hx hb dX1_law_81 rfl (lv_at hl 4 rfl) ?_
      refine lv_bipush (v := (20 : Int32)) hx hb dX1_law_82 (by decide) ?_
      refine clz_i F (vx_runV (As := [.int (20 : Int32)]) (rest := []) ⟨hx, hb, hml, hown, hts⟩ (cz_S_breaks hlt h _) (cwV 1 hts (lw_V q938 q940 qs28 q94 q941) rfl rfl rfl (by decide +kernel) ⟨Nat.le_trans (Nat.le_of_ble_eq_true rfl) hRf, Nat.le_trans (Nat.le_of_ble_eq_true rfl) hRl⟩) ⟨ct_blind, va_recv hK hP (ci := 0) (q0 := 0) rfl rfl, ct_at F hS hP hD⟩ rfl rfl hl.1 rfl (lv_room (Nat.le_of_ble_eq_true rfl)) dX1_law_84 ⟨hC1, hS7⟩) hD hS ?_
      rintro x83 ⟨fd84, ar85⟩ H locs h hP hD hS
      refine lv_istore (lv' := [(5, .int x83), (4, .int x54), (3, .int (fd 16)), (2, .ref q46), (1, .ref rp), (0, .ref o)]) hx hb dX1_law_87 hl (by decide) rfl (fun ls hl => ?_)
      refine lv_aload_n hx hb dX1_law_89 rfl (lv_at hl 5 rfl) ?_
      refine lv_aload_n hx hb dX1_law_90 rfl (lv_at hl 4 rfl) ?_
      refine va_put (v := .ref rp) hx hb hts in_X1 tyX1 tyX1_ok nmX1 hown hK hP hD hS 0 rfl rfl 19 (Nat.le_of_ble_eq_true rfl) (hts _ q210) (fun _ h => h) rfl (ty := (.object "SandKeepsSea$Rule")) (by decide +kernel) rfl rfl (Nat.le_of_ble_eq_true rfl) dX1_law_91 (fun H locs hP hD hS => ?_)
      replace hP : va_P D vwCl (wX gI o ax (some (rp, rq)) ([(q46, .inl (gI 3, 80, .inl (ar 15)))] ++ tl) (upd (upd (upd (upd (upd (upd fd84 70 (fd55 70)) 71 (fd55 71)) 72 (fd55 72)) 73 (fd55 73)) 74 (fd55 74)) 75 (fd55 75)) (va_up ar85 60 (ar56 60)) lw hh) _ := va_P_perm hP (wXR_some (gI := gI) (o := o) (ax := ax) (rn := none) (fd := fd84) (ar := ar85) (lw := lw) (hh := hh) (tl := ([(q46, .inl (gI 3, 80, .inl (ar 15)))] ++ tl)))
      replace hD : va_D A (wX gI o ax (some (rp, rq)) ([(q46, .inl (gI 3, 80, .inl (ar 15)))] ++ tl) (upd (upd (upd (upd (upd (upd fd84 70 (fd55 70)) 71 (fd55 71)) 72 (fd55 72)) 73 (fd55 73)) 74 (fd55 74)) 75 (fd55 75)) (va_up ar85 60 (ar56 60)) lw hh) := va_D_perm hD (wXR_some (gI := gI) (o := o) (ax := ax) (rn := none) (fd := fd84) (ar := ar85) (lw := lw) (hh := hh) (tl := ([(q46, .inl (gI 3, 80, .inl (ar 15)))] ++ tl)))
      refine lv_goto (tgt := 128) hx hb dX1_law_94 (by decide) ?_
      refine lv_aload_n hx hb dX1_law_128 rfl (lv_at hl 5 rfl) ?_
      refine lv_iconst (v := (0 : Int32)) hx hb dX1_law_129 (by decide) ?_
      refine pt_put (v := .int (0 : Int32)) hx hb hts in_X1 tyX1 tyX1_ok nmX1 hown hK hP hD hS 0 rfl rfl 18 (Nat.le_of_ble_eq_true rfl) (hts _ q209) (fun _ h => h) rfl (ty := .int) (by decide +kernel) rfl rfl (Nat.le_of_ble_eq_true rfl) dX1_law_130 wXF_18 (fun H locs hP hD hS => ?_)
      refine lv_aload_n hx hb dX1_law_133 rfl (lv_at hl 5 rfl) ?_
      refine lv_iload hx hb dX1_law_134 (lv_at hl 0 rfl) ?_
      refine lv_i2l (v := (x83.toInt64)) hx hb dX1_law_136 rfl ?_
      refine cl_v F (va_runV (As := [.long (x83.toInt64)]) (rest := []) ⟨hx, hb, hml, hown, hts⟩ (ct_S_tell h _) (cwV 1 hts (lw_V q728 q730 qs19 q94 q731) rfl rfl rfl (by decide +kernel) ⟨Nat.le_trans (Nat.le_of_ble_eq_true rfl) hRf, Nat.le_trans (Nat.le_of_ble_eq_true rfl) hRl⟩) ⟨ct_blind, va_recv hK hP (ci := 0) (q0 := 0) rfl rfl, ct_at F hS hP hD⟩ rfl rfl hl.1 rfl (lv_room (Nat.le_of_ble_eq_true rfl)) dX1_law_137 ⟨hC, hSl⟩) rfl rfl hD hS ?_
      rintro ⟨fd86, lw87⟩ H locs h hP hD hS
      refine lv_aload_n hx hb dX1_law_140 rfl (lv_at hl 5 rfl) ?_
      refine lv_iload hx hb dX1_law_141 (lv_at hl 1 rfl) ?_
      refine lv_i2l (v := (x54.toInt64)) hx hb dX1_law_143 rfl ?_
      refine cl_v F (va_runV (As := [.long (x54.toInt64)]) (rest := []) ⟨hx, hb, hml, hown, hts⟩ (ct_S_tell h _) (cwV 1 hts (lw_V q728 q730 qs19 q94 q731) rfl rfl rfl (by decide +kernel) ⟨Nat.le_trans (Nat.le_of_ble_eq_true rfl) hRf, Nat.le_trans (Nat.le_of_ble_eq_true rfl) hRl⟩) ⟨ct_blind, va_recv hK hP (ci := 0) (q0 := 0) rfl rfl, ct_at F hS hP hD⟩ rfl rfl hl.1 rfl (lv_room (Nat.le_of_ble_eq_true rfl)) dX1_law_144 ⟨hC, hSl⟩) rfl rfl hD hS ?_
      rintro ⟨fd88, lw89⟩ H locs h hP hD hS
      refine lv_iload hx hb dX1_law_147 (lv_at hl 0 rfl) ?_
      refine lv_iload hx hb dX1_law_149 (lv_at hl 1 rfl) ?_
      refine lv_isub hx hb dX1_law_151 ?_
      replace hP := fr_dropP (xs := [(q46, .inl (gI 3, 80, .inl (ar 15)))]) (tl := tl) hP
      replace hD := fr_dropD (xs := [(q46, .inl (gI 3, 80, .inl (ar 15)))]) (tl := tl) hD
      exact rt_i F dX1_law_152 rfl (fd88, (va_up ar85 60 (ar56 60)), lw89) h hP hD hS (Nat.le_of_ble_eq_true rfl) (Nat.le_of_ble_eq_true rfl)
