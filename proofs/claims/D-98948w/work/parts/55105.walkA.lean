/-! X1_children -/
set_option maxRecDepth 100000
set_option maxHeartbeats 4000000 in
theorem lp_S_children_J2 {p : Program} {l : Launch} {e : Env} {R : Room} {s : State} {m : MethodId} {args : Array Value} {below : List Frame} {meth : Method} {c : Code} {cells slots : Nat} {A : Nat → Prop} {V : evT} {D : va_G} {gI : Nat → ClassId} {o : Nat} {ax : Nat → Nat} {tl : va_W} {fd : Nat → Int32} {ar : Nat → Nat → Int32} {lw : Nat → Int64} {hh : HT} {rn : Option (Nat × Nat)} {sz : Int32} {en : Int32} {Q : Int32 → (Nat → Int32) → (Nat → Nat → Int32) → Prop} {q2 q1 : Nat} {K26 : (Int32) → (Int32) → (Nat → Nat → Int32) → Prop} {K126 : (Int32) → (Int32) → (Nat → Nat → Int32) → Prop} (F : ct_F p m c meth cX1_children 5 s args RX1 (some .int) A V D vwCl (tyL gI)) (hRf : 10 ≤ R.frames) (hRl : 191 ≤ R.locals) (hC : cells ≤ R.cells) (hSl : slots ≤ R.slots) (hC1 : cells + 1 ≤ R.cells) (hS7 : slots + 7 ≤ R.slots) (hM : cells + 1 ≤ 11) (hMs : slots + 7 ≤ 43) (htab : c.exceptionTable.toList = tableOf [(26, 130, 133, 113)]) (hlt : l.stackTraces = false)
    (hK26 : ∀ (v3 : Int32) (pw : Int32) (tg : Nat → Nat → Int32), K26 v3 pw tg → ∀ (H : Heap) (locs : List Loc) (ls : Array Slot), va_P D vwCl (wX gI o ax rn ((wGc gI q2 tg [(q1, .inr (4, [.ref (ax 15), .int sz, .int en, .int pw]))]) ++ tl) fd ar lw hh) H → va_D A (wX gI o ax rn ((wGc gI q2 tg [(q1, .inr (4, [.ref (ax 15), .int sz, .int en, .int pw]))]) ++ tl) fd ar lw hh) → va_S A s.heap H locs → lv_has ls 5 [(0, .ref o), (1, .ref q1), (2, .ref q2), (3, .int v3)] → W p l e R s m args below meth c H locs cells slots (MQ below (va_Qi (fun (x : Int32) (u : (Nat → Int32) × (Nat → Nat → Int32)) => Q x u.1 u.2) (fun u t => va_P D vwCl (wX gI o ax rn tl u.1 u.2 lw hh) t.heap ∧ va_K D vwCl (tyL gI) t ∧ va_D A (wX gI o ax rn tl u.1 u.2 lw hh)) A) args s 11 43 A) (F0 m 26 ls []))
    (hK126 : ∀ (v3 : Int32) (pw : Int32) (tg : Nat → Nat → Int32), K126 v3 pw tg → ∀ (H : Heap) (locs : List Loc) (ls : Array Slot), va_P D vwCl (wX gI o ax rn ((wGc gI q2 tg [(q1, .inr (4, [.ref (ax 15), .int sz, .int en, .int pw]))]) ++ tl) fd ar lw hh) H → va_D A (wX gI o ax rn ((wGc gI q2 tg [(q1, .inr (4, [.ref (ax 15), .int sz, .int en, .int pw]))]) ++ tl) fd ar lw hh) → va_S A s.heap H locs → lv_has ls 5 [(0, .ref o), (1, .ref q1), (2, .ref q2), (3, .int v3)] → W p l e R s m args below meth c H locs cells slots (MQ below (va_Qi (fun (x : Int32) (u : (Nat → Int32) × (Nat → Nat → Int32)) => Q x u.1 u.2) (fun u t => va_P D vwCl (wX gI o ax rn tl u.1 u.2 lw hh) t.heap ∧ va_K D vwCl (tyL gI) t ∧ va_D A (wX gI o ax rn tl u.1 u.2 lw hh)) A) args s 11 43 A) (F0 m 126 ls [])) :
    ∀ (v3 : Int32) (t0 : Int32) (pw : Int32) (tg : Nat → Nat → Int32), wp_S_children_J2 fd ar lw hh rn sz en Q K26 K126 v3 t0 pw tg → ∀ (H : Heap) (locs : List Loc) (ls : Array Slot), va_P D vwCl (wX gI o ax rn ((wGc gI q2 tg [(q1, .inr (4, [.ref (ax 15), .int sz, .int en, .int pw]))]) ++ tl) fd ar lw hh) H → va_D A (wX gI o ax rn ((wGc gI q2 tg [(q1, .inr (4, [.ref (ax 15), .int sz, .int en, .int pw]))]) ++ tl) fd ar lw hh) → va_S A s.heap H locs → lv_has ls 5 [(0, .ref o), (1, .ref q1), (2, .ref q2), (3, .int v3)] → W p l e R s m args below meth c H locs cells slots (MQ below (va_Qi (fun (x : Int32) (u : (Nat → Int32) × (Nat → Nat → Int32)) => Q x u.1 u.2) (fun u t => va_P D vwCl (wX gI o ax rn tl u.1 u.2 lw hh) t.heap ∧ va_K D vwCl (tyL gI) t ∧ va_D A (wX gI o ax rn tl u.1 u.2 lw hh)) A) args s 11 43 A) (F0 m 43 ls [.int t0, .ref q1]) := by
  obtain ⟨⟨hx, hb, hml, hown, hts⟩, hr, hlocks, hA, hK, hE⟩ := id F
  intro v3 t0 pw tg h H locs ls hP hD hS hl
  unfold wp_S_children_J2 at h
  replace hP := fr_outP (xs := (wGc gI q2 tg [(q1, .inr (4, [.ref (ax 15), .int sz, .int en, .int pw]))])) hP
  replace hD := fr_outD (xs := (wGc gI q2 tg [(q1, .inr (4, [.ref (ax 15), .int sz, .int en, .int pw]))])) hD
  refine clx_vL F (vx_runV (As := [.int t0]) (rest := []) ⟨hx, hb, hml, hown, hts⟩ (cx_W_need hlt (o := q1) (pt := (ax 15)) h _) (cwV 1 hts (lw_V q478 q363 q364 q99 q368) rfl rfl rfl (by decide +kernel) ⟨Nat.le_trans (Nat.le_of_ble_eq_true rfl) hRf, Nat.le_trans (Nat.le_of_ble_eq_true rfl) hRl⟩) ⟨ct_blind, va_recv hK hP (ci := 4) (q0 := 9) rfl rfl, ct_at F hS (putL_P hP (ps := [9, 16]) rfl) (hD.sub ([9, 16]) (by decide) rfl)⟩ rfl rfl hl.1 rfl (lv_room (Nat.le_of_ble_eq_true rfl)) dX1_children_43 ⟨hC1, hS7⟩) hP hD hS (ps := [9, 16]) rfl (fun _ => rfl) (fun _ => putL_2s rfl) (fun _ => rfl) (fun _ => putL_2s rfl) ?_ ?_
  · rintro q4 z3 _ H locs h hP hD hS
    obtain ⟨ce, hce, hcv, hcl⟩ := fC_cell hK hP
    have hPf := pl_last hP
    replace hP := fr_inP (xs := (wGc gI q2 tg [(q1, .inr (4, [.ref (ax 15), .int sz, .int en, .int pw]))])) (pl_init hP)
    replace hD := fr_inD (xs := (wGc gI q2 tg [(q1, .inr (4, [.ref (ax 15), .int sz, .int en, .int pw]))])) (dl_init hD)
    refine vx_catch hown [] ⟨26, 130, 133, 113⟩ [] htab (fun z hz => absurd hz List.not_mem_nil) (by decide) (by decide) (hts _ q305) (va_Nw.use rfl (hE.1 _ q371 rfl)) hce hcv hcl ?_
    refine lv_astore (lv' := [(4, .ref q4), (0, .ref o), (1, .ref q1), (2, .ref q2), (3, .int v3)]) hx hb dX1_children_133 hl (by decide) rfl (fun ls hl => ?_)
    refine lv_iconst (v := (-1 : Int32)) hx hb dX1_children_135 (by decide) ?_
    refine lv_aload hx hb dX1_children_136 (lv_at hl 0 rfl) ?_
    refine va_getN (v := .int z3) hx hb hts in_F6 hown hK hPf 0 rfl rfl 0 (Nat.le_refl _) (va_Nw.use rfl (hE.1 _ q416 rfl)) (fun _ h => h) rfl dX1_children_138 ?_
    refine lv_isub hx hb dX1_children_141 ?_
    replace hP := fr_dropP (xs := (wGc gI q2 tg [(q1, .inr (4, [.ref (ax 15), .int sz, .int en, .int pw]))])) (tl := tl) hP
    replace hD := fr_dropD (xs := (wGc gI q2 tg [(q1, .inr (4, [.ref (ax 15), .int sz, .int en, .int pw]))])) (tl := tl) hD
    exact rt_i F dX1_children_142 rfl (fd, ar) h hP hD hS hM hMs
  · rintro _ H locs h hP hD hS
    replace hP := fr_inP (xs := (wGc gI q2 tg [(q1, .inr (4, [.ref (ax 15), .int sz, .int en, .int pw]))])) hP
    replace hD := fr_inD (xs := (wGc gI q2 tg [(q1, .inr (4, [.ref (ax 15), .int sz, .int en, .int pw]))])) hD
    refine lv_aload_n hx hb dX1_children_46 rfl (lv_at hl 2 rfl) ?_
    refine lv_iload_n hx hb dX1_children_47 rfl (lv_at hl 3 rfl) ?_
    refine pt_aldA (f := fun j => some (q2 + 1 + j)) hx hb hK (fr_outP (xs := (wGc gI q2 tg [(q1, .inr (4, [.ref (ax 15), .int sz, .int en, .int pw]))])) hP) 0 6 rfl rfl h.1 dX1_children_48 ?_
    have hi5 := vp_ltN h.1
    replace h := h.2
    refine lv_iconst (v := (0 : Int32)) hx hb dX1_children_49 (by decide) ?_
    refine lv_aload_n hx hb dX1_children_50 rfl (lv_at hl 1 rfl) ?_
    refine lv_iconst (v := (2 : Int32)) hx hb dX1_children_51 (by decide) ?_
    refine lv_iconst (v := (4 : Int32)) hx hb dX1_children_52 (by decide) ?_
    refine lv_bipush (v := (13 : Int32)) hx hb dX1_children_53 (by decide) ?_
    replace hP := fr_outP (xs := (wGc gI q2 tg [(q1, .inr (4, [.ref (ax 15), .int sz, .int en, .int pw]))])) hP
    replace hD := fr_outD (xs := (wGc gI q2 tg [(q1, .inr (4, [.ref (ax 15), .int sz, .int en, .int pw]))])) hD
    refine clx_iL F (vx_runV (As := [.int (2 : Int32), .int (4 : Int32), .int (13 : Int32)]) (rest := [.int (0 : Int32), .ref (q2 + 1 + v3.toNatClampNeg)]) ⟨hx, hb, hml, hown, hts⟩ (cx_W_number hlt (o := q1) (pt := (ax 15)) h _) (cwV 3 hts (lw_V q479 q480 q481 q99 q485) rfl rfl rfl (by decide +kernel) ⟨Nat.le_trans (Nat.le_of_ble_eq_true rfl) hRf, Nat.le_trans (Nat.le_of_ble_eq_true rfl) hRl⟩) ⟨ct_blind, va_recv hK hP (ci := 4) (q0 := 9) rfl rfl, ct_at F hS (putL_P hP (ps := [9, 16]) rfl) (hD.sub ([9, 16]) (by decide) rfl)⟩ rfl rfl hl.1 rfl (lv_room (Nat.le_of_ble_eq_true rfl)) dX1_children_55 ⟨hC1, hS7⟩) hP hD hS (ps := [9, 16]) rfl (fun _ => rfl) (fun _ => putL_2s rfl) (fun _ => rfl) (fun _ => putL_2s rfl) ?_ ?_
    · rintro q10 z9 pw8 H locs h hP hD hS
      obtain ⟨ce, hce, hcv, hcl⟩ := fC_cell hK hP
      have hPf := pl_last hP
      replace hP := fr_inP (xs := (wGc gI q2 tg [(q1, .inr (4, [.ref (ax 15), .int sz, .int en, .int pw8]))])) (pl_init hP)
      replace hD := fr_inD (xs := (wGc gI q2 tg [(q1, .inr (4, [.ref (ax 15), .int sz, .int en, .int pw8]))])) (dl_init hD)
      refine vx_catch hown [] ⟨26, 130, 133, 113⟩ [] htab (fun z hz => absurd hz List.not_mem_nil) (by decide) (by decide) (hts _ q305) (va_Nw.use rfl (hE.1 _ q371 rfl)) hce hcv hcl ?_
      refine lv_astore (lv' := [(4, .ref q10), (0, .ref o), (1, .ref q1), (2, .ref q2), (3, .int v3)]) hx hb dX1_children_133 hl (by decide) rfl (fun ls hl => ?_)
      refine lv_iconst (v := (-1 : Int32)) hx hb dX1_children_135 (by decide) ?_
      refine lv_aload hx hb dX1_children_136 (lv_at hl 0 rfl) ?_
      refine va_getN (v := .int z9) hx hb hts in_F6 hown hK hPf 0 rfl rfl 0 (Nat.le_refl _) (va_Nw.use rfl (hE.1 _ q416 rfl)) (fun _ h => h) rfl dX1_children_138 ?_
      refine lv_isub hx hb dX1_children_141 ?_
      replace hP := fr_dropP (xs := (wGc gI q2 tg [(q1, .inr (4, [.ref (ax 15), .int sz, .int en, .int pw8]))])) (tl := tl) hP
      replace hD := fr_dropD (xs := (wGc gI q2 tg [(q1, .inr (4, [.ref (ax 15), .int sz, .int en, .int pw8]))])) (tl := tl) hD
      exact rt_i F dX1_children_142 rfl (fd, ar) h hP hD hS hM hMs
    · rintro x6 pw7 H locs h hP hD hS
      replace hP := fr_inP (xs := (wGc gI q2 tg [(q1, .inr (4, [.ref (ax 15), .int sz, .int en, .int pw7]))])) hP
      replace hD := fr_inD (xs := (wGc gI q2 tg [(q1, .inr (4, [.ref (ax 15), .int sz, .int en, .int pw7]))])) hD
      replace hP := fr_outP (xs := (wGc gI q2 tg [(q1, .inr (4, [.ref (ax 15), .int sz, .int en, .int pw7]))])) hP
      replace hD := fr_outD (xs := (wGc gI q2 tg [(q1, .inr (4, [.ref (ax 15), .int sz, .int en, .int pw7]))])) hD
      rw [wGc_app] at hP hD
      refine pt_iast (f := tg v3.toNatClampNeg) hx hb hK hP hD hS (1 + v3.toNatClampNeg) 0 (wGr_o hi5) rfl (by unfold vp_in; decide) dX1_children_58 (wGr_s hi5) (fun H locs hP hD hS => ?_)
      rw [← wGc_app] at hP hD
      replace hP := fr_inP (xs := (wGc gI q2 (va_up tg v3.toNatClampNeg (upd (tg v3.toNatClampNeg) (0 : Int32).toNatClampNeg x6)) [(q1, .inr (4, [.ref (ax 15), .int sz, .int en, .int pw7]))])) hP
      replace hD := fr_inD (xs := (wGc gI q2 (va_up tg v3.toNatClampNeg (upd (tg v3.toNatClampNeg) (0 : Int32).toNatClampNeg x6)) [(q1, .inr (4, [.ref (ax 15), .int sz, .int en, .int pw7]))])) hD
      refine lv_aload_n hx hb dX1_children_59 rfl (lv_at hl 1 rfl) ?_
      refine lv_aload_n hx hb dX1_children_60 rfl (lv_at hl 1 rfl) ?_
      refine lv_bipush (v := (44 : Int32)) hx hb dX1_children_61 (by decide) ?_
      replace hP := fr_outP (xs := (wGc gI q2 (va_up tg v3.toNatClampNeg (upd (tg v3.toNatClampNeg) (0 : Int32).toNatClampNeg x6)) [(q1, .inr (4, [.ref (ax 15), .int sz, .int en, .int pw7]))])) hP
      replace hD := fr_outD (xs := (wGc gI q2 (va_up tg v3.toNatClampNeg (upd (tg v3.toNatClampNeg) (0 : Int32).toNatClampNeg x6)) [(q1, .inr (4, [.ref (ax 15), .int sz, .int en, .int pw7]))])) hD
      refine cl_iL F (va_runV (As := [.int (44 : Int32)]) (rest := [.ref q1]) ⟨hx, hb, hml, hown, hts⟩ (ct_W_passes (o := q1) (pt := (ax 15)) h _) (cwV 1 hts (lw_V q496 q449 q450 q99 q454) rfl rfl rfl (by decide +kernel) ⟨Nat.le_trans (Nat.le_of_ble_eq_true rfl) hRf, Nat.le_trans (Nat.le_of_ble_eq_true rfl) hRl⟩) ⟨ct_blind, va_recv hK hP (ci := 4) (q0 := 9) rfl rfl, ct_at F hS (putL_P hP (ps := [9, 16]) rfl) (hD.sub ([9, 16]) (by decide) rfl)⟩ rfl rfl hl.1 rfl (lv_room (Nat.le_of_ble_eq_true rfl)) dX1_children_63 ⟨hC, hSl⟩) rfl rfl hP hD hS (ps := [9, 16]) rfl (fun _ => rfl) (fun _ => putL_2s rfl) ?_
      rintro x11 pw12 H locs h hP hD hS
      replace hP := fr_inP (xs := (wGc gI q2 (va_up tg v3.toNatClampNeg (upd (tg v3.toNatClampNeg) (0 : Int32).toNatClampNeg x6)) [(q1, .inr (4, [.ref (ax 15), .int sz, .int en, .int pw12]))])) hP
      replace hD := fr_inD (xs := (wGc gI q2 (va_up tg v3.toNatClampNeg (upd (tg v3.toNatClampNeg) (0 : Int32).toNatClampNeg x6)) [(q1, .inr (4, [.ref (ax 15), .int sz, .int en, .int pw12]))])) hD
      replace hP := fr_outP (xs := (wGc gI q2 (va_up tg v3.toNatClampNeg (upd (tg v3.toNatClampNeg) (0 : Int32).toNatClampNeg x6)) [(q1, .inr (4, [.ref (ax 15), .int sz, .int en, .int pw12]))])) hP
      replace hD := fr_outD (xs := (wGc gI q2 (va_up tg v3.toNatClampNeg (upd (tg v3.toNatClampNeg) (0 : Int32).toNatClampNeg x6)) [(q1, .inr (4, [.ref (ax 15), .int sz, .int en, .int pw12]))])) hD
      refine clx_vL F (vx_runV (As := [.int x11]) (rest := []) ⟨hx, hb, hml, hown, hts⟩ (cx_W_need hlt (o := q1) (pt := (ax 15)) h _) (cwV 1 hts (lw_V q478 q363 q364 q99 q368) rfl rfl rfl (by decide +kernel) ⟨Nat.le_trans (Nat.le_of_ble_eq_true rfl) hRf, Nat.le_trans (Nat.le_of_ble_eq_true rfl) hRl⟩) ⟨ct_blind, va_recv hK hP (ci := 4) (q0 := 9) rfl rfl, ct_at F hS (putL_P hP (ps := [9, 16]) rfl) (hD.sub ([9, 16]) (by decide) rfl)⟩ rfl rfl hl.1 rfl (lv_room (Nat.le_of_ble_eq_true rfl)) dX1_children_66 ⟨hC1, hS7⟩) hP hD hS (ps := [9, 16]) rfl (fun _ => rfl) (fun _ => putL_2s rfl) (fun _ => rfl) (fun _ => putL_2s rfl) ?_ ?_
      · rintro q14 z13 _ H locs h hP hD hS
        obtain ⟨ce, hce, hcv, hcl⟩ := fC_cell hK hP
        have hPf := pl_last hP
        replace hP := fr_inP (xs := (wGc gI q2 (va_up tg v3.toNatClampNeg (upd (tg v3.toNatClampNeg) (0 : Int32).toNatClampNeg x6)) [(q1, .inr (4, [.ref (ax 15), .int sz, .int en, .int pw12]))])) (pl_init hP)
        replace hD := fr_inD (xs := (wGc gI q2 (va_up tg v3.toNatClampNeg (upd (tg v3.toNatClampNeg) (0 : Int32).toNatClampNeg x6)) [(q1, .inr (4, [.ref (ax 15), .int sz, .int en, .int pw12]))])) (dl_init hD)
        refine vx_catch hown [] ⟨26, 130, 133, 113⟩ [] htab (fun z hz => absurd hz List.not_mem_nil) (by decide) (by decide) (hts _ q305) (va_Nw.use rfl (hE.1 _ q371 rfl)) hce hcv hcl ?_
        refine lv_astore (lv' := [(4, .ref q14), (0, .ref o), (1, .ref q1), (2, .ref q2), (3, .int v3)]) hx hb dX1_children_133 hl (by decide) rfl (fun ls hl => ?_)
        refine lv_iconst (v := (-1 : Int32)) hx hb dX1_children_135 (by decide) ?_
        refine lv_aload hx hb dX1_children_136 (lv_at hl 0 rfl) ?_
        refine va_getN (v := .int z13) hx hb hts in_F6 hown hK hPf 0 rfl rfl 0 (Nat.le_refl _) (va_Nw.use rfl (hE.1 _ q416 rfl)) (fun _ h => h) rfl dX1_children_138 ?_
        refine lv_isub hx hb dX1_children_141 ?_
        replace hP := fr_dropP (xs := (wGc gI q2 (va_up tg v3.toNatClampNeg (upd (tg v3.toNatClampNeg) (0 : Int32).toNatClampNeg x6)) [(q1, .inr (4, [.ref (ax 15), .int sz, .int en, .int pw12]))])) (tl := tl) hP
        replace hD := fr_dropD (xs := (wGc gI q2 (va_up tg v3.toNatClampNeg (upd (tg v3.toNatClampNeg) (0 : Int32).toNatClampNeg x6)) [(q1, .inr (4, [.ref (ax 15), .int sz, .int en, .int pw12]))])) (tl := tl) hD
        exact rt_i F dX1_children_142 rfl (fd, ar) h hP hD hS hM hMs
      · rintro _ H locs h hP hD hS
        replace hP := fr_inP (xs := (wGc gI q2 (va_up tg v3.toNatClampNeg (upd (tg v3.toNatClampNeg) (0 : Int32).toNatClampNeg x6)) [(q1, .inr (4, [.ref (ax 15), .int sz, .int en, .int pw12]))])) hP
        replace hD := fr_inD (xs := (wGc gI q2 (va_up tg v3.toNatClampNeg (upd (tg v3.toNatClampNeg) (0 : Int32).toNatClampNeg x6)) [(q1, .inr (4, [.ref (ax 15), .int sz, .int en, .int pw12]))])) hD
        refine lv_aload_n hx hb dX1_children_69 rfl (lv_at hl 2 rfl) ?_
        refine lv_iload_n hx hb dX1_children_70 rfl (lv_at hl 3 rfl) ?_
        refine pt_aldA (f := fun j => some (q2 + 1 + j)) hx hb hK (fr_outP (xs := (wGc gI q2 (va_up tg v3.toNatClampNeg (upd (tg v3.toNatClampNeg) (0 : Int32).toNatClampNeg x6)) [(q1, .inr (4, [.ref (ax 15), .int sz, .int en, .int pw12]))])) hP) 0 6 rfl rfl h.1 dX1_children_71 ?_
        have hi15 := vp_ltN h.1
        replace h := h.2
        refine lv_iconst (v := (1 : Int32)) hx hb dX1_children_72 (by decide) ?_
        refine lv_aload_n hx hb dX1_children_73 rfl (lv_at hl 1 rfl) ?_
        refine lv_bipush (v := (49 : Int32)) hx hb dX1_children_74 (by decide) ?_
        refine lv_bipush (v := (9 : Int32)) hx hb dX1_children_76 (by decide) ?_
        replace hP := fr_outP (xs := (wGc gI q2 (va_up tg v3.toNatClampNeg (upd (tg v3.toNatClampNeg) (0 : Int32).toNatClampNeg x6)) [(q1, .inr (4, [.ref (ax 15), .int sz, .int en, .int pw12]))])) hP
        replace hD := fr_outD (xs := (wGc gI q2 (va_up tg v3.toNatClampNeg (upd (tg v3.toNatClampNeg) (0 : Int32).toNatClampNeg x6)) [(q1, .inr (4, [.ref (ax 15), .int sz, .int en, .int pw12]))])) hD
        refine clx_iL F (vx_runV (As := [.int (49 : Int32), .int (9 : Int32)]) (rest := [.int (1 : Int32), .ref (q2 + 1 + v3.toNatClampNeg)]) ⟨hx, hb, hml, hown, hts⟩ (cx_W_one hlt (o := q1) (pt := (ax 15)) h _) (cwV 2 hts (lw_V q497 q433 q434 q99 q438) rfl rfl rfl (by decide +kernel) ⟨Nat.le_trans (Nat.le_of_ble_eq_true rfl) hRf, Nat.le_trans (Nat.le_of_ble_eq_true rfl) hRl⟩) ⟨ct_blind, va_recv hK hP (ci := 4) (q0 := 9) rfl rfl, ct_at F hS (putL_P hP (ps := [9, 16]) rfl) (hD.sub ([9, 16]) (by decide) rfl)⟩ rfl rfl hl.1 rfl (lv_room (Nat.le_of_ble_eq_true rfl)) dX1_children_78 ⟨hC1, hS7⟩) hP hD hS (ps := [9, 16]) rfl (fun _ => rfl) (fun _ => putL_2s rfl) (fun _ => rfl) (fun _ => putL_2s rfl) ?_ ?_
        · rintro q20 z19 pw18 H locs h hP hD hS
          obtain ⟨ce, hce, hcv, hcl⟩ := fC_cell hK hP
          have hPf := pl_last hP
          replace hP := fr_inP (xs := (wGc gI q2 (va_up tg v3.toNatClampNeg (upd (tg v3.toNatClampNeg) (0 : Int32).toNatClampNeg x6)) [(q1, .inr (4, [.ref (ax 15), .int sz, .int en, .int pw18]))])) (pl_init hP)
          replace hD := fr_inD (xs := (wGc gI q2 (va_up tg v3.toNatClampNeg (upd (tg v3.toNatClampNeg) (0 : Int32).toNatClampNeg x6)) [(q1, .inr (4, [.ref (ax 15), .int sz, .int en, .int pw18]))])) (dl_init hD)
          refine vx_catch hown [] ⟨26, 130, 133, 113⟩ [] htab (fun z hz => absurd hz List.not_mem_nil) (by decide) (by decide) (hts _ q305) (va_Nw.use rfl (hE.1 _ q371 rfl)) hce hcv hcl ?_
          refine lv_astore (lv' := [(4, .ref q20), (0, .ref o), (1, .ref q1), (2, .ref q2), (3, .int v3)]) hx hb dX1_children_133 hl (by decide) rfl (fun ls hl => ?_)
          refine lv_iconst (v := (-1 : Int32)) hx hb dX1_children_135 (by decide) ?_
          refine lv_aload hx hb dX1_children_136 (lv_at hl 0 rfl) ?_
          refine va_getN (v := .int z19) hx hb hts in_F6 hown hK hPf 0 rfl rfl 0 (Nat.le_refl _) (va_Nw.use rfl (hE.1 _ q416 rfl)) (fun _ h => h) rfl dX1_children_138 ?_
          refine lv_isub hx hb dX1_children_141 ?_
          replace hP := fr_dropP (xs := (wGc gI q2 (va_up tg v3.toNatClampNeg (upd (tg v3.toNatClampNeg) (0 : Int32).toNatClampNeg x6)) [(q1, .inr (4, [.ref (ax 15), .int sz, .int en, .int pw18]))])) (tl := tl) hP
          replace hD := fr_dropD (xs := (wGc gI q2 (va_up tg v3.toNatClampNeg (upd (tg v3.toNatClampNeg) (0 : Int32).toNatClampNeg x6)) [(q1, .inr (4, [.ref (ax 15), .int sz, .int en, .int pw18]))])) (tl := tl) hD
          exact rt_i F dX1_children_142 rfl (fd, ar) h hP hD hS hM hMs
        · rintro x16 pw17 H locs h hP hD hS
          replace hP := fr_inP (xs := (wGc gI q2 (va_up tg v3.toNatClampNeg (upd (tg v3.toNatClampNeg) (0 : Int32).toNatClampNeg x6)) [(q1, .inr (4, [.ref (ax 15), .int sz, .int en, .int pw17]))])) hP
          replace hD := fr_inD (xs := (wGc gI q2 (va_up tg v3.toNatClampNeg (upd (tg v3.toNatClampNeg) (0 : Int32).toNatClampNeg x6)) [(q1, .inr (4, [.ref (ax 15), .int sz, .int en, .int pw17]))])) hD
          refine lv_iconst (v := (1 : Int32)) hx hb dX1_children_81 (by decide) ?_
          refine lv_iadd hx hb dX1_children_82 ?_
          replace hP := fr_outP (xs := (wGc gI q2 (va_up tg v3.toNatClampNeg (upd (tg v3.toNatClampNeg) (0 : Int32).toNatClampNeg x6)) [(q1, .inr (4, [.ref (ax 15), .int sz, .int en, .int pw17]))])) hP
          replace hD := fr_outD (xs := (wGc gI q2 (va_up tg v3.toNatClampNeg (upd (tg v3.toNatClampNeg) (0 : Int32).toNatClampNeg x6)) [(q1, .inr (4, [.ref (ax 15), .int sz, .int en, .int pw17]))])) hD
          rw [wGc_app] at hP hD
          refine pt_iast (f := (va_up tg v3.toNatClampNeg (upd (tg v3.toNatClampNeg) (0 : Int32).toNatClampNeg x6)) v3.toNatClampNeg) hx hb hK hP hD hS (1 + v3.toNatClampNeg) 0 (wGr_o hi15) rfl (by unfold vp_in; decide) dX1_children_83 (wGr_s hi15) (fun H locs hP hD hS => ?_)
          rw [← wGc_app] at hP hD
          replace hP := fr_inP (xs := (wGc gI q2 (va_up (va_up tg v3.toNatClampNeg (upd (tg v3.toNatClampNeg) (0 : Int32).toNatClampNeg x6)) v3.toNatClampNeg (upd ((va_up tg v3.toNatClampNeg (upd (tg v3.toNatClampNeg) (0 : Int32).toNatClampNeg x6)) v3.toNatClampNeg) (1 : Int32).toNatClampNeg (x16 + (1 : Int32)))) [(q1, .inr (4, [.ref (ax 15), .int sz, .int en, .int pw17]))])) hP
          replace hD := fr_inD (xs := (wGc gI q2 (va_up (va_up tg v3.toNatClampNeg (upd (tg v3.toNatClampNeg) (0 : Int32).toNatClampNeg x6)) v3.toNatClampNeg (upd ((va_up tg v3.toNatClampNeg (upd (tg v3.toNatClampNeg) (0 : Int32).toNatClampNeg x6)) v3.toNatClampNeg) (1 : Int32).toNatClampNeg (x16 + (1 : Int32)))) [(q1, .inr (4, [.ref (ax 15), .int sz, .int en, .int pw17]))])) hD
          refine lv_aload_n hx hb dX1_children_84 rfl (lv_at hl 2 rfl) ?_
          refine lv_iload_n hx hb dX1_children_85 rfl (lv_at hl 3 rfl) ?_
          refine pt_aldA (f := fun j => some (q2 + 1 + j)) hx hb hK (fr_outP (xs := (wGc gI q2 (va_up (va_up tg v3.toNatClampNeg (upd (tg v3.toNatClampNeg) (0 : Int32).toNatClampNeg x6)) v3.toNatClampNeg (upd ((va_up tg v3.toNatClampNeg (upd (tg v3.toNatClampNeg) (0 : Int32).toNatClampNeg x6)) v3.toNatClampNeg) (1 : Int32).toNatClampNeg (x16 + (1 : Int32)))) [(q1, .inr (4, [.ref (ax 15), .int sz, .int en, .int pw17]))])) hP) 0 6 rfl rfl h.1 dX1_children_86 ?_
          have hi21 := vp_ltN h.1
          replace h := h.2
          refine lv_iconst (v := (2 : Int32)) hx hb dX1_children_87 (by decide) ?_
          refine lv_aload_n hx hb dX1_children_88 rfl (lv_at hl 1 rfl) ?_
          refine lv_bipush (v := (45 : Int32)) hx hb dX1_children_89 (by decide) ?_
          replace hP := fr_outP (xs := (wGc gI q2 (va_up (va_up tg v3.toNatClampNeg (upd (tg v3.toNatClampNeg) (0 : Int32).toNatClampNeg x6)) v3.toNatClampNeg (upd ((va_up tg v3.toNatClampNeg (upd (tg v3.toNatClampNeg) (0 : Int32).toNatClampNeg x6)) v3.toNatClampNeg) (1 : Int32).toNatClampNeg (x16 + (1 : Int32)))) [(q1, .inr (4, [.ref (ax 15), .int sz, .int en, .int pw17]))])) hP
          replace hD := fr_outD (xs := (wGc gI q2 (va_up (va_up tg v3.toNatClampNeg (upd (tg v3.toNatClampNeg) (0 : Int32).toNatClampNeg x6)) v3.toNatClampNeg (upd ((va_up tg v3.toNatClampNeg (upd (tg v3.toNatClampNeg) (0 : Int32).toNatClampNeg x6)) v3.toNatClampNeg) (1 : Int32).toNatClampNeg (x16 + (1 : Int32)))) [(q1, .inr (4, [.ref (ax 15), .int sz, .int en, .int pw17]))])) hD
          refine cl_iL F (va_runV (As := [.int (45 : Int32)]) (rest := [.int (2 : Int32), .ref (q2 + 1 + v3.toNatClampNeg)]) ⟨hx, hb, hml, hown, hts⟩ (ct_W_passes (o := q1) (pt := (ax 15)) h _) (cwV 1 hts (lw_V q496 q449 q450 q99 q454) rfl rfl rfl (by decide +kernel) ⟨Nat.le_trans (Nat.le_of_ble_eq_true rfl) hRf, Nat.le_trans (Nat.le_of_ble_eq_true rfl) hRl⟩) ⟨ct_blind, va_recv hK hP (ci := 4) (q0 := 9) rfl rfl, ct_at F hS (putL_P hP (ps := [9, 16]) rfl) (hD.sub ([9, 16]) (by decide) rfl)⟩ rfl rfl hl.1 rfl (lv_room (Nat.le_of_ble_eq_true rfl)) dX1_children_91 ⟨hC, hSl⟩) rfl rfl hP hD hS (ps := [9, 16]) rfl (fun _ => rfl) (fun _ => putL_2s rfl) ?_
          rintro x22 pw23 H locs h hP hD hS
          replace hP := fr_inP (xs := (wGc gI q2 (va_up (va_up tg v3.toNatClampNeg (upd (tg v3.toNatClampNeg) (0 : Int32).toNatClampNeg x6)) v3.toNatClampNeg (upd ((va_up tg v3.toNatClampNeg (upd (tg v3.toNatClampNeg) (0 : Int32).toNatClampNeg x6)) v3.toNatClampNeg) (1 : Int32).toNatClampNeg (x16 + (1 : Int32)))) [(q1, .inr (4, [.ref (ax 15), .int sz, .int en, .int pw23]))])) hP
          replace hD := fr_inD (xs := (wGc gI q2 (va_up (va_up tg v3.toNatClampNeg (upd (tg v3.toNatClampNeg) (0 : Int32).toNatClampNeg x6)) v3.toNatClampNeg (upd ((va_up tg v3.toNatClampNeg (upd (tg v3.toNatClampNeg) (0 : Int32).toNatClampNeg x6)) v3.toNatClampNeg) (1 : Int32).toNatClampNeg (x16 + (1 : Int32)))) [(q1, .inr (4, [.ref (ax 15), .int sz, .int en, .int pw23]))])) hD
          refine lv_if_eq (tgt := 101) hx hb dX1_children_94 (by decide) (fun c35 => ?_) (fun c35 => ?_)
          · replace h := h.1 c35
            refine lv_aload_n hx hb dX1_children_101 rfl (lv_at hl 1 rfl) ?_
            refine lv_bipush (v := (97 : Int32)) hx hb dX1_children_102 (by decide) ?_
            refine lv_aload_n hx hb dX1_children_104 rfl (lv_at hl 0 rfl) ?_
            refine va_get hx hb hts in_X1 hown hK hP 0 rfl rfl 10 (Nat.le_of_ble_eq_true rfl) (hts _ q199) (fun _ h => h) (v := .int (fd 10)) rfl dX1_children_105 ?_
            refine lv_iload_n hx hb dX1_children_108 rfl (lv_at hl 3 rfl) ?_
            refine lv_iadd hx hb dX1_children_109 ?_
            replace hP := fr_outP (xs := (wGc gI q2 (va_up (va_up tg v3.toNatClampNeg (upd (tg v3.toNatClampNeg) (0 : Int32).toNatClampNeg x6)) v3.toNatClampNeg (upd ((va_up tg v3.toNatClampNeg (upd (tg v3.toNatClampNeg) (0 : Int32).toNatClampNeg x6)) v3.toNatClampNeg) (1 : Int32).toNatClampNeg (x16 + (1 : Int32)))) [(q1, .inr (4, [.ref (ax 15), .int sz, .int en, .int pw23]))])) hP
            replace hD := fr_outD (xs := (wGc gI q2 (va_up (va_up tg v3.toNatClampNeg (upd (tg v3.toNatClampNeg) (0 : Int32).toNatClampNeg x6)) v3.toNatClampNeg (upd ((va_up tg v3.toNatClampNeg (upd (tg v3.toNatClampNeg) (0 : Int32).toNatClampNeg x6)) v3.toNatClampNeg) (1 : Int32).toNatClampNeg (x16 + (1 : Int32)))) [(q1, .inr (4, [.ref (ax 15), .int sz, .int en, .int pw23]))])) hD
            refine clx_iL F (vx_runV (As := [.int (97 : Int32), .int ((fd 10) + v3)]) (rest := [.int (2 : Int32), .ref (q2 + 1 + v3.toNatClampNeg)]) ⟨hx, hb, hml, hown, hts⟩ (cx_W_one hlt (o := q1) (pt := (ax 15)) h _) (cwV 2 hts (lw_V q497 q433 q434 q99 q438) rfl rfl rfl (by decide +kernel) ⟨Nat.le_trans (Nat.le_of_ble_eq_true rfl) hRf, Nat.le_trans (Nat.le_of_ble_eq_true rfl) hRl⟩) ⟨ct_blind, va_recv hK hP (ci := 4) (q0 := 9) rfl rfl, ct_at F hS (putL_P hP (ps := [9, 16]) rfl) (hD.sub ([9, 16]) (by decide) rfl)⟩ rfl rfl hl.1 rfl (lv_room (Nat.le_of_ble_eq_true rfl)) dX1_children_110 ⟨hC1, hS7⟩) hP hD hS (ps := [9, 16]) rfl (fun _ => rfl) (fun _ => putL_2s rfl) (fun _ => rfl) (fun _ => putL_2s rfl) ?_ ?_
            · rintro q28 z27 pw26 H locs h hP hD hS
              obtain ⟨ce, hce, hcv, hcl⟩ := fC_cell hK hP
              have hPf := pl_last hP
              replace hP := fr_inP (xs := (wGc gI q2 (va_up (va_up tg v3.toNatClampNeg (upd (tg v3.toNatClampNeg) (0 : Int32).toNatClampNeg x6)) v3.toNatClampNeg (upd ((va_up tg v3.toNatClampNeg (upd (tg v3.toNatClampNeg) (0 : Int32).toNatClampNeg x6)) v3.toNatClampNeg) (1 : Int32).toNatClampNeg (x16 + (1 : Int32)))) [(q1, .inr (4, [.ref (ax 15), .int sz, .int en, .int pw26]))])) (pl_init hP)
              replace hD := fr_inD (xs := (wGc gI q2 (va_up (va_up tg v3.toNatClampNeg (upd (tg v3.toNatClampNeg) (0 : Int32).toNatClampNeg x6)) v3.toNatClampNeg (upd ((va_up tg v3.toNatClampNeg (upd (tg v3.toNatClampNeg) (0 : Int32).toNatClampNeg x6)) v3.toNatClampNeg) (1 : Int32).toNatClampNeg (x16 + (1 : Int32)))) [(q1, .inr (4, [.ref (ax 15), .int sz, .int en, .int pw26]))])) (dl_init hD)
              refine vx_catch hown [] ⟨26, 130, 133, 113⟩ [] htab (fun z hz => absurd hz List.not_mem_nil) (by decide) (by decide) (hts _ q305) (va_Nw.use rfl (hE.1 _ q371 rfl)) hce hcv hcl ?_
              refine lv_astore (lv' := [(4, .ref q28), (0, .ref o), (1, .ref q1), (2, .ref q2), (3, .int v3)]) hx hb dX1_children_133 hl (by decide) rfl (fun ls hl => ?_)
              refine lv_iconst (v := (-1 : Int32)) hx hb dX1_children_135 (by decide) ?_
              refine lv_aload hx hb dX1_children_136 (lv_at hl 0 rfl) ?_
              refine va_getN (v := .int z27) hx hb hts in_F6 hown hK hPf 0 rfl rfl 0 (Nat.le_refl _) (va_Nw.use rfl (hE.1 _ q416 rfl)) (fun _ h => h) rfl dX1_children_138 ?_
              refine lv_isub hx hb dX1_children_141 ?_
              replace hP := fr_dropP (xs := (wGc gI q2 (va_up (va_up tg v3.toNatClampNeg (upd (tg v3.toNatClampNeg) (0 : Int32).toNatClampNeg x6)) v3.toNatClampNeg (upd ((va_up tg v3.toNatClampNeg (upd (tg v3.toNatClampNeg) (0 : Int32).toNatClampNeg x6)) v3.toNatClampNeg) (1 : Int32).toNatClampNeg (x16 + (1 : Int32)))) [(q1, .inr (4, [.ref (ax 15), .int sz, .int en, .int pw26]))])) (tl := tl) hP
              replace hD := fr_dropD (xs := (wGc gI q2 (va_up (va_up tg v3.toNatClampNeg (upd (tg v3.toNatClampNeg) (0 : Int32).toNatClampNeg x6)) v3.toNatClampNeg (upd ((va_up tg v3.toNatClampNeg (upd (tg v3.toNatClampNeg) (0 : Int32).toNatClampNeg x6)) v3.toNatClampNeg) (1 : Int32).toNatClampNeg (x16 + (1 : Int32)))) [(q1, .inr (4, [.ref (ax 15), .int sz, .int en, .int pw26]))])) (tl := tl) hD
              exact rt_i F dX1_children_142 rfl (fd, ar) h hP hD hS hM hMs
            · rintro x24 pw25 H locs h hP hD hS
              replace hP := fr_inP (xs := (wGc gI q2 (va_up (va_up tg v3.toNatClampNeg (upd (tg v3.toNatClampNeg) (0 : Int32).toNatClampNeg x6)) v3.toNatClampNeg (upd ((va_up tg v3.toNatClampNeg (upd (tg v3.toNatClampNeg) (0 : Int32).toNatClampNeg x6)) v3.toNatClampNeg) (1 : Int32).toNatClampNeg (x16 + (1 : Int32)))) [(q1, .inr (4, [.ref (ax 15), .int sz, .int en, .int pw25]))])) hP
              replace hD := fr_inD (xs := (wGc gI q2 (va_up (va_up tg v3.toNatClampNeg (upd (tg v3.toNatClampNeg) (0 : Int32).toNatClampNeg x6)) v3.toNatClampNeg (upd ((va_up tg v3.toNatClampNeg (upd (tg v3.toNatClampNeg) (0 : Int32).toNatClampNeg x6)) v3.toNatClampNeg) (1 : Int32).toNatClampNeg (x16 + (1 : Int32)))) [(q1, .inr (4, [.ref (ax 15), .int sz, .int en, .int pw25]))])) hD
              replace hP := fr_outP (xs := (wGc gI q2 (va_up (va_up tg v3.toNatClampNeg (upd (tg v3.toNatClampNeg) (0 : Int32).toNatClampNeg x6)) v3.toNatClampNeg (upd ((va_up tg v3.toNatClampNeg (upd (tg v3.toNatClampNeg) (0 : Int32).toNatClampNeg x6)) v3.toNatClampNeg) (1 : Int32).toNatClampNeg (x16 + (1 : Int32)))) [(q1, .inr (4, [.ref (ax 15), .int sz, .int en, .int pw25]))])) hP
              replace hD := fr_outD (xs := (wGc gI q2 (va_up (va_up tg v3.toNatClampNeg (upd (tg v3.toNatClampNeg) (0 : Int32).toNatClampNeg x6)) v3.toNatClampNeg (upd ((va_up tg v3.toNatClampNeg (upd (tg v3.toNatClampNeg) (0 : Int32).toNatClampNeg x6)) v3.toNatClampNeg) (1 : Int32).toNatClampNeg (x16 + (1 : Int32)))) [(q1, .inr (4, [.ref (ax 15), .int sz, .int en, .int pw25]))])) hD
              rw [wGc_app] at hP hD
              refine pt_iast (f := (va_up (va_up tg v3.toNatClampNeg (upd (tg v3.toNatClampNeg) (0 : Int32).toNatClampNeg x6)) v3.toNatClampNeg (upd ((va_up tg v3.toNatClampNeg (upd (tg v3.toNatClampNeg) (0 : Int32).toNatClampNeg x6)) v3.toNatClampNeg) (1 : Int32).toNatClampNeg (x16 + (1 : Int32)))) v3.toNatClampNeg) hx hb hK hP hD hS (1 + v3.toNatClampNeg) 0 (wGr_o hi21) rfl (by unfold vp_in; decide) dX1_children_113 (wGr_s hi21) (fun H locs hP hD hS => ?_)
              rw [← wGc_app] at hP hD
              replace hP := fr_inP (xs := (wGc gI q2 (va_up (va_up (va_up tg v3.toNatClampNeg (upd (tg v3.toNatClampNeg) (0 : Int32).toNatClampNeg x6)) v3.toNatClampNeg (upd ((va_up tg v3.toNatClampNeg (upd (tg v3.toNatClampNeg) (0 : Int32).toNatClampNeg x6)) v3.toNatClampNeg) (1 : Int32).toNatClampNeg (x16 + (1 : Int32)))) v3.toNatClampNeg (upd ((va_up (va_up tg v3.toNatClampNeg (upd (tg v3.toNatClampNeg) (0 : Int32).toNatClampNeg x6)) v3.toNatClampNeg (upd ((va_up tg v3.toNatClampNeg (upd (tg v3.toNatClampNeg) (0 : Int32).toNatClampNeg x6)) v3.toNatClampNeg) (1 : Int32).toNatClampNeg (x16 + (1 : Int32)))) v3.toNatClampNeg) (2 : Int32).toNatClampNeg x24)) [(q1, .inr (4, [.ref (ax 15), .int sz, .int en, .int pw25]))])) hP
              replace hD := fr_inD (xs := (wGc gI q2 (va_up (va_up (va_up tg v3.toNatClampNeg (upd (tg v3.toNatClampNeg) (0 : Int32).toNatClampNeg x6)) v3.toNatClampNeg (upd ((va_up tg v3.toNatClampNeg (upd (tg v3.toNatClampNeg) (0 : Int32).toNatClampNeg x6)) v3.toNatClampNeg) (1 : Int32).toNatClampNeg (x16 + (1 : Int32)))) v3.toNatClampNeg (upd ((va_up (va_up tg v3.toNatClampNeg (upd (tg v3.toNatClampNeg) (0 : Int32).toNatClampNeg x6)) v3.toNatClampNeg (upd ((va_up tg v3.toNatClampNeg (upd (tg v3.toNatClampNeg) (0 : Int32).toNatClampNeg x6)) v3.toNatClampNeg) (1 : Int32).toNatClampNeg (x16 + (1 : Int32)))) v3.toNatClampNeg) (2 : Int32).toNatClampNeg x24)) [(q1, .inr (4, [.ref (ax 15), .int sz, .int en, .int pw25]))])) hD
              refine lv_iinc (v := (v3 + (1 : Int32))) (lv' := [(3, .int (v3 + (1 : Int32))), (0, .ref o), (1, .ref q1), (2, .ref q2)]) hx hb dX1_children_114 hl (k := 3) rfl rfl (by decide) rfl (fun ls hl => ?_)
              refine lv_aload_n hx hb dX1_children_117 rfl (lv_at hl 2 rfl) ?_
              refine lv_bipush (v := (59 : Int32)) hx hb dX1_children_118 (by decide) ?_
              replace hP := fr_outP (xs := (wGc gI q2 (va_up (va_up (va_up tg v3.toNatClampNeg (upd (tg v3.toNatClampNeg) (0 : Int32).toNatClampNeg x6)) v3.toNatClampNeg (upd ((va_up tg v3.toNatClampNeg (upd (tg v3.toNatClampNeg) (0 : Int32).toNatClampNeg x6)) v3.toNatClampNeg) (1 : Int32).toNatClampNeg (x16 + (1 : Int32)))) v3.toNatClampNeg (upd ((va_up (va_up tg v3.toNatClampNeg (upd (tg v3.toNatClampNeg) (0 : Int32).toNatClampNeg x6)) v3.toNatClampNeg (upd ((va_up tg v3.toNatClampNeg (upd (tg v3.toNatClampNeg) (0 : Int32).toNatClampNeg x6)) v3.toNatClampNeg) (1 : Int32).toNatClampNeg (x16 + (1 : Int32)))) v3.toNatClampNeg) (2 : Int32).toNatClampNeg x24)) [(q1, .inr (4, [.ref (ax 15), .int sz, .int en, .int pw25]))])) hP
              replace hD := fr_outD (xs := (wGc gI q2 (va_up (va_up (va_up tg v3.toNatClampNeg (upd (tg v3.toNatClampNeg) (0 : Int32).toNatClampNeg x6)) v3.toNatClampNeg (upd ((va_up tg v3.toNatClampNeg (upd (tg v3.toNatClampNeg) (0 : Int32).toNatClampNeg x6)) v3.toNatClampNeg) (1 : Int32).toNatClampNeg (x16 + (1 : Int32)))) v3.toNatClampNeg (upd ((va_up (va_up tg v3.toNatClampNeg (upd (tg v3.toNatClampNeg) (0 : Int32).toNatClampNeg x6)) v3.toNatClampNeg (upd ((va_up tg v3.toNatClampNeg (upd (tg v3.toNatClampNeg) (0 : Int32).toNatClampNeg x6)) v3.toNatClampNeg) (1 : Int32).toNatClampNeg (x16 + (1 : Int32)))) v3.toNatClampNeg) (2 : Int32).toNatClampNeg x24)) [(q1, .inr (4, [.ref (ax 15), .int sz, .int en, .int pw25]))])) hD
              refine cl_iL F (va_runV (As := [.int (59 : Int32)]) (rest := []) ⟨hx, hb, hml, hown, hts⟩ (ct_W_passes (o := q1) (pt := (ax 15)) h _) (cwV 1 hts (lw_V q496 q449 q450 q99 q454) rfl rfl rfl (by decide +kernel) ⟨Nat.le_trans (Nat.le_of_ble_eq_true rfl) hRf, Nat.le_trans (Nat.le_of_ble_eq_true rfl) hRl⟩) ⟨ct_blind, va_recv hK hP (ci := 4) (q0 := 9) rfl rfl, ct_at F hS (putL_P hP (ps := [9, 16]) rfl) (hD.sub ([9, 16]) (by decide) rfl)⟩ rfl rfl hl.1 rfl (lv_room (Nat.le_of_ble_eq_true rfl)) dX1_children_120 ⟨hC, hSl⟩) rfl rfl hP hD hS (ps := [9, 16]) rfl (fun _ => rfl) (fun _ => putL_2s rfl) ?_
              rintro x29 pw30 H locs h hP hD hS
              replace hP := fr_inP (xs := (wGc gI q2 (va_up (va_up (va_up tg v3.toNatClampNeg (upd (tg v3.toNatClampNeg) (0 : Int32).toNatClampNeg x6)) v3.toNatClampNeg (upd ((va_up tg v3.toNatClampNeg (upd (tg v3.toNatClampNeg) (0 : Int32).toNatClampNeg x6)) v3.toNatClampNeg) (1 : Int32).toNatClampNeg (x16 + (1 : Int32)))) v3.toNatClampNeg (upd ((va_up (va_up tg v3.toNatClampNeg (upd (tg v3.toNatClampNeg) (0 : Int32).toNatClampNeg x6)) v3.toNatClampNeg (upd ((va_up tg v3.toNatClampNeg (upd (tg v3.toNatClampNeg) (0 : Int32).toNatClampNeg x6)) v3.toNatClampNeg) (1 : Int32).toNatClampNeg (x16 + (1 : Int32)))) v3.toNatClampNeg) (2 : Int32).toNatClampNeg x24)) [(q1, .inr (4, [.ref (ax 15), .int sz, .int en, .int pw30]))])) hP
              replace hD := fr_inD (xs := (wGc gI q2 (va_up (va_up (va_up tg v3.toNatClampNeg (upd (tg v3.toNatClampNeg) (0 : Int32).toNatClampNeg x6)) v3.toNatClampNeg (upd ((va_up tg v3.toNatClampNeg (upd (tg v3.toNatClampNeg) (0 : Int32).toNatClampNeg x6)) v3.toNatClampNeg) (1 : Int32).toNatClampNeg (x16 + (1 : Int32)))) v3.toNatClampNeg (upd ((va_up (va_up tg v3.toNatClampNeg (upd (tg v3.toNatClampNeg) (0 : Int32).toNatClampNeg x6)) v3.toNatClampNeg (upd ((va_up tg v3.toNatClampNeg (upd (tg v3.toNatClampNeg) (0 : Int32).toNatClampNeg x6)) v3.toNatClampNeg) (1 : Int32).toNatClampNeg (x16 + (1 : Int32)))) v3.toNatClampNeg) (2 : Int32).toNatClampNeg x24)) [(q1, .inr (4, [.ref (ax 15), .int sz, .int en, .int pw30]))])) hD
              refine lv_if_ne (tgt := 26) hx hb dX1_children_123 (by decide) (fun c31 => ?_) (fun c31 => ?_)
              · replace h := h.1 c31
                exact hK26 _ _ _ h _ _ _ hP hD hS (lv_sub hl [1, 2, 3, 0] rfl)
              · replace h := h.2 c31
                exact hK126 _ _ _ h _ _ _ hP hD hS (lv_sub hl [1, 2, 3, 0] rfl)
          · replace h := h.2 c35
            refine lv_iconst (v := (-1 : Int32)) hx hb dX1_children_97 (by decide) ?_
            refine lv_goto (tgt := 113) hx hb dX1_children_98 (by decide) ?_
            replace hP := fr_outP (xs := (wGc gI q2 (va_up (va_up tg v3.toNatClampNeg (upd (tg v3.toNatClampNeg) (0 : Int32).toNatClampNeg x6)) v3.toNatClampNeg (upd ((va_up tg v3.toNatClampNeg (upd (tg v3.toNatClampNeg) (0 : Int32).toNatClampNeg x6)) v3.toNatClampNeg) (1 : Int32).toNatClampNeg (x16 + (1 : Int32)))) [(q1, .inr (4, [.ref (ax 15), .int sz, .int en, .int pw23]))])) hP
            replace hD := fr_outD (xs := (wGc gI q2 (va_up (va_up tg v3.toNatClampNeg (upd (tg v3.toNatClampNeg) (0 : Int32).toNatClampNeg x6)) v3.toNatClampNeg (upd ((va_up tg v3.toNatClampNeg (upd (tg v3.toNatClampNeg) (0 : Int32).toNatClampNeg x6)) v3.toNatClampNeg) (1 : Int32).toNatClampNeg (x16 + (1 : Int32)))) [(q1, .inr (4, [.ref (ax 15), .int sz, .int en, .int pw23]))])) hD
            rw [wGc_app] at hP hD
            refine pt_iast (f := (va_up (va_up tg v3.toNatClampNeg (upd (tg v3.toNatClampNeg) (0 : Int32).toNatClampNeg x6)) v3.toNatClampNeg (upd ((va_up tg v3.toNatClampNeg (upd (tg v3.toNatClampNeg) (0 : Int32).toNatClampNeg x6)) v3.toNatClampNeg) (1 : Int32).toNatClampNeg (x16 + (1 : Int32)))) v3.toNatClampNeg) hx hb hK hP hD hS (1 + v3.toNatClampNeg) 0 (wGr_o hi21) rfl (by unfold vp_in; decide) dX1_children_113 (wGr_s hi21) (fun H locs hP hD hS => ?_)
            rw [← wGc_app] at hP hD
            replace hP := fr_inP (xs := (wGc gI q2 (va_up (va_up (va_up tg v3.toNatClampNeg (upd (tg v3.toNatClampNeg) (0 : Int32).toNatClampNeg x6)) v3.toNatClampNeg (upd ((va_up tg v3.toNatClampNeg (upd (tg v3.toNatClampNeg) (0 : Int32).toNatClampNeg x6)) v3.toNatClampNeg) (1 : Int32).toNatClampNeg (x16 + (1 : Int32)))) v3.toNatClampNeg (upd ((va_up (va_up tg v3.toNatClampNeg (upd (tg v3.toNatClampNeg) (0 : Int32).toNatClampNeg x6)) v3.toNatClampNeg (upd ((va_up tg v3.toNatClampNeg (upd (tg v3.toNatClampNeg) (0 : Int32).toNatClampNeg x6)) v3.toNatClampNeg) (1 : Int32).toNatClampNeg (x16 + (1 : Int32)))) v3.toNatClampNeg) (2 : Int32).toNatClampNeg (-1 : Int32))) [(q1, .inr (4, [.ref (ax 15), .int sz, .int en, .int pw23]))])) hP
            replace hD := fr_inD (xs := (wGc gI q2 (va_up (va_up (va_up tg v3.toNatClampNeg (upd (tg v3.toNatClampNeg) (0 : Int32).toNatClampNeg x6)) v3.toNatClampNeg (upd ((va_up tg v3.toNatClampNeg (upd (tg v3.toNatClampNeg) (0 : Int32).toNatClampNeg x6)) v3.toNatClampNeg) (1 : Int32).toNatClampNeg (x16 + (1 : Int32)))) v3.toNatClampNeg (upd ((va_up (va_up tg v3.toNatClampNeg (upd (tg v3.toNatClampNeg) (0 : Int32).toNatClampNeg x6)) v3.toNatClampNeg (upd ((va_up tg v3.toNatClampNeg (upd (tg v3.toNatClampNeg) (0 : Int32).toNatClampNeg x6)) v3.toNatClampNeg) (1 : Int32).toNatClampNeg (x16 + (1 : Int32)))) v3.toNatClampNeg) (2 : Int32).toNatClampNeg (-1 : Int32))) [(q1, .inr (4, [.ref (ax 15), .int sz, .int en, .int pw23]))])) hD
            refine lv_iinc (v := (v3 + (1 : Int32))) (lv' := [(3, .int (v3 + (1 : Int32))), (0, .ref o), (1, .ref q1), (2, .ref q2)]) hx hb dX1_children_114 hl (k := 3) rfl rfl (by decide) rfl (fun ls hl => ?_)
            refine lv_aload_n hx hb dX1_children_117 rfl (lv_at hl 2 rfl) ?_
            refine lv_bipush (v := (59 : Int32)) hx hb dX1_children_118 (by decide) ?_
            replace hP := fr_outP (xs := (wGc gI q2 (va_up (va_up (va_up tg v3.toNatClampNeg (upd (tg v3.toNatClampNeg) (0 : Int32).toNatClampNeg x6)) v3.toNatClampNeg (upd ((va_up tg v3.toNatClampNeg (upd (tg v3.toNatClampNeg) (0 : Int32).toNatClampNeg x6)) v3.toNatClampNeg) (1 : Int32).toNatClampNeg (x16 + (1 : Int32)))) v3.toNatClampNeg (upd ((va_up (va_up tg v3.toNatClampNeg (upd (tg v3.toNatClampNeg) (0 : Int32).toNatClampNeg x6)) v3.toNatClampNeg (upd ((va_up tg v3.toNatClampNeg (upd (tg v3.toNatClampNeg) (0 : Int32).toNatClampNeg x6)) v3.toNatClampNeg) (1 : Int32).toNatClampNeg (x16 + (1 : Int32)))) v3.toNatClampNeg) (2 : Int32).toNatClampNeg (-1 : Int32))) [(q1, .inr (4, [.ref (ax 15), .int sz, .int en, .int pw23]))])) hP
            replace hD := fr_outD (xs := (wGc gI q2 (va_up (va_up (va_up tg v3.toNatClampNeg (upd (tg v3.toNatClampNeg) (0 : Int32).toNatClampNeg x6)) v3.toNatClampNeg (upd ((va_up tg v3.toNatClampNeg (upd (tg v3.toNatClampNeg) (0 : Int32).toNatClampNeg x6)) v3.toNatClampNeg) (1 : Int32).toNatClampNeg (x16 + (1 : Int32)))) v3.toNatClampNeg (upd ((va_up (va_up tg v3.toNatClampNeg (upd (tg v3.toNatClampNeg) (0 : Int32).toNatClampNeg x6)) v3.toNatClampNeg (upd ((va_up tg v3.toNatClampNeg (upd (tg v3.toNatClampNeg) (0 : Int32).toNatClampNeg x6)) v3.toNatClampNeg) (1 : Int32).toNatClampNeg (x16 + (1 : Int32)))) v3.toNatClampNeg) (2 : Int32).toNatClampNeg (-1 : Int32))) [(q1, .inr (4, [.ref (ax 15), .int sz, .int en, .int pw23]))])) hD
            refine cl_iL F (va_runV (As := [.int (59 : Int32)]) (rest := []) ⟨hx, hb, hml, hown, hts⟩ (ct_W_passes (o := q1) (pt := (ax 15)) h _) (cwV 1 hts (lw_V q496 q449 q450 q99 q454) rfl rfl rfl (by decide +kernel) ⟨Nat.le_trans (Nat.le_of_ble_eq_true rfl) hRf, Nat.le_trans (Nat.le_of_ble_eq_true rfl) hRl⟩) ⟨ct_blind, va_recv hK hP (ci := 4) (q0 := 9) rfl rfl, ct_at F hS (putL_P hP (ps := [9, 16]) rfl) (hD.sub ([9, 16]) (by decide) rfl)⟩ rfl rfl hl.1 rfl (lv_room (Nat.le_of_ble_eq_true rfl)) dX1_children_120 ⟨hC, hSl⟩) rfl rfl hP hD hS (ps := [9, 16]) rfl (fun _ => rfl) (fun _ => putL_2s rfl) ?_
            rintro x32 pw33 H locs h hP hD hS
            replace hP := fr_inP (xs := (wGc gI q2 (va_up (va_up (va_up tg v3.toNatClampNeg (upd (tg v3.toNatClampNeg) (0 : Int32).toNatClampNeg x6)) v3.toNatClampNeg (upd ((va_up tg v3.toNatClampNeg (upd (tg v3.toNatClampNeg) (0 : Int32).toNatClampNeg x6)) v3.toNatClampNeg) (1 : Int32).toNatClampNeg (x16 + (1 : Int32)))) v3.toNatClampNeg (upd ((va_up (va_up tg v3.toNatClampNeg (upd (tg v3.toNatClampNeg) (0 : Int32).toNatClampNeg x6)) v3.toNatClampNeg (upd ((va_up tg v3.toNatClampNeg (upd (tg v3.toNatClampNeg) (0 : Int32).toNatClampNeg x6)) v3.toNatClampNeg) (1 : Int32).toNatClampNeg (x16 + (1 : Int32)))) v3.toNatClampNeg) (2 : Int32).toNatClampNeg (-1 : Int32))) [(q1, .inr (4, [.ref (ax 15), .int sz, .int en, .int pw33]))])) hP
            replace hD := fr_inD (xs := (wGc gI q2 (va_up (va_up (va_up tg v3.toNatClampNeg (upd (tg v3.toNatClampNeg) (0 : Int32).toNatClampNeg x6)) v3.toNatClampNeg (upd ((va_up tg v3.toNatClampNeg (upd (tg v3.toNatClampNeg) (0 : Int32).toNatClampNeg x6)) v3.toNatClampNeg) (1 : Int32).toNatClampNeg (x16 + (1 : Int32)))) v3.toNatClampNeg (upd ((va_up (va_up tg v3.toNatClampNeg (upd (tg v3.toNatClampNeg) (0 : Int32).toNatClampNeg x6)) v3.toNatClampNeg (upd ((va_up tg v3.toNatClampNeg (upd (tg v3.toNatClampNeg) (0 : Int32).toNatClampNeg x6)) v3.toNatClampNeg) (1 : Int32).toNatClampNeg (x16 + (1 : Int32)))) v3.toNatClampNeg) (2 : Int32).toNatClampNeg (-1 : Int32))) [(q1, .inr (4, [.ref (ax 15), .int sz, .int en, .int pw33]))])) hD
            refine lv_if_ne (tgt := 26) hx hb dX1_children_123 (by decide) (fun c34 => ?_) (fun c34 => ?_)
            · replace h := h.1 c34
              exact hK26 _ _ _ h _ _ _ hP hD hS (lv_sub hl [1, 2, 3, 0] rfl)
            · replace h := h.2 c34
              exact hK126 _ _ _ h _ _ _ hP hD hS (lv_sub hl [1, 2, 3, 0] rfl)
set_option maxHeartbeats 4000000 in
theorem lp_S_children_L1 {p : Program} {l : Launch} {e : Env} {R : Room} {s : State} {m : MethodId} {args : Array Value} {below : List Frame} {meth : Method} {c : Code} {cells slots : Nat} {A : Nat → Prop} {V : evT} {D : va_G} {gI : Nat → ClassId} {o : Nat} {ax : Nat → Nat} {tl : va_W} {fd : Nat → Int32} {ar : Nat → Nat → Int32} {lw : Nat → Int64} {hh : HT} {rn : Option (Nat × Nat)} {sz : Int32} {en : Int32} {Q : Int32 → (Nat → Int32) → (Nat → Nat → Int32) → Prop} {q2 q1 : Nat} {K126 : (Int32) → (Int32) → (Nat → Nat → Int32) → Prop} (F : ct_F p m c meth cX1_children 5 s args RX1 (some .int) A V D vwCl (tyL gI)) (hRf : 10 ≤ R.frames) (hRl : 191 ≤ R.locals) (hC : cells ≤ R.cells) (hSl : slots ≤ R.slots) (hC1 : cells + 1 ≤ R.cells) (hS7 : slots + 7 ≤ R.slots) (hM : cells + 1 ≤ 11) (hMs : slots + 7 ≤ 43) (htab : c.exceptionTable.toList = tableOf [(26, 130, 133, 113)]) (hlt : l.stackTraces = false)
    (hK126 : ∀ (v3 : Int32) (pw : Int32) (tg : Nat → Nat → Int32), K126 v3 pw tg → ∀ (H : Heap) (locs : List Loc) (ls : Array Slot), va_P D vwCl (wX gI o ax rn ((wGc gI q2 tg [(q1, .inr (4, [.ref (ax 15), .int sz, .int en, .int pw]))]) ++ tl) fd ar lw hh) H → va_D A (wX gI o ax rn ((wGc gI q2 tg [(q1, .inr (4, [.ref (ax 15), .int sz, .int en, .int pw]))]) ++ tl) fd ar lw hh) → va_S A s.heap H locs → lv_has ls 5 [(0, .ref o), (1, .ref q1), (2, .ref q2), (3, .int v3)] → W p l e R s m args below meth c H locs cells slots (MQ below (va_Qi (fun (x : Int32) (u : (Nat → Int32) × (Nat → Nat → Int32)) => Q x u.1 u.2) (fun u t => va_P D vwCl (wX gI o ax rn tl u.1 u.2 lw hh) t.heap ∧ va_K D vwCl (tyL gI) t ∧ va_D A (wX gI o ax rn tl u.1 u.2 lw hh)) A) args s 11 43 A) (F0 m 126 ls [])) :
    ∀ (n : Nat) (v3 : Int32) (pw : Int32) (tg : Nat → Nat → Int32), wp_S_children_L1 fd ar lw hh rn sz en Q K126 n v3 pw tg → ∀ (H : Heap) (locs : List Loc) (ls : Array Slot), va_P D vwCl (wX gI o ax rn ((wGc gI q2 tg [(q1, .inr (4, [.ref (ax 15), .int sz, .int en, .int pw]))]) ++ tl) fd ar lw hh) H → va_D A (wX gI o ax rn ((wGc gI q2 tg [(q1, .inr (4, [.ref (ax 15), .int sz, .int en, .int pw]))]) ++ tl) fd ar lw hh) → va_S A s.heap H locs → lv_has ls 5 [(0, .ref o), (1, .ref q1), (2, .ref q2), (3, .int v3)] → W p l e R s m args below meth c H locs cells slots (MQ below (va_Qi (fun (x : Int32) (u : (Nat → Int32) × (Nat → Nat → Int32)) => Q x u.1 u.2) (fun u t => va_P D vwCl (wX gI o ax rn tl u.1 u.2 lw hh) t.heap ∧ va_K D vwCl (tyL gI) t ∧ va_D A (wX gI o ax rn tl u.1 u.2 lw hh)) A) args s 11 43 A) (F0 m 26 ls []) := by
  obtain ⟨⟨hx, hb, hml, hown, hts⟩, hr, hlocks, hA, hK, hE⟩ := id F
  intro n
  induction n with
  | zero => intro v3 pw tg h; exact h.elim
  | succ n ih =>
    intro v3 pw tg h H locs ls hP hD hS hl
    unfold wp_S_children_L1 at h
    refine lv_aload_n hx hb dX1_children_26 rfl (lv_at hl 1 rfl) ?_
    refine lv_aload_n hx hb dX1_children_27 rfl (lv_at hl 0 rfl) ?_
    refine va_get hx hb hts in_X1 hown hK hP 0 rfl rfl 10 (Nat.le_of_ble_eq_true rfl) (hts _ q199) (fun _ h => h) (v := .int (fd 10)) rfl dX1_children_28 ?_
    refine lv_iload_n hx hb dX1_children_31 rfl (lv_at hl 3 rfl) ?_
    refine lv_iadd hx hb dX1_children_32 ?_
    refine lv_bipush (v := (8 : Int32)) hx hb dX1_children_33 (by decide) ?_
    refine lv_icmp_ge (tgt := 42) hx hb dX1_children_35 (by decide) (fun c48 => ?_) (fun c48 => ?_)
    · replace h := h.1 c48
      refine lv_iconst (v := (0 : Int32)) hx hb dX1_children_42 (by decide) ?_
      refine lp_S_children_J2 F hRf hRl hC hSl hC1 hS7 hM hMs htab hlt ?hk26 ?hk126 _ _ _ _ h _ _ _ hP hD hS (lv_sub hl [0, 1, 2, 3] rfl)
      case hk26 =>
        intro v3_36 pw_37 tg_38 h H locs ls hP hD hS hl
        exact ih _ _ _ h _ _ _ hP hD hS (lv_sub hl [0, 1, 2, 3] rfl)
      case hk126 =>
        intro v3_39 pw_40 tg_41 h H locs ls hP hD hS hl
        exact hK126 _ _ _ h _ _ _ hP hD hS (lv_sub hl [0, 1, 2, 3] rfl)
    · replace h := h.2 c48
      refine lv_iconst (v := (1 : Int32)) hx hb dX1_children_38 (by decide) ?_
      refine lv_goto (tgt := 43) hx hb dX1_children_39 (by decide) ?_
      refine lp_S_children_J2 F hRf hRl hC hSl hC1 hS7 hM hMs htab hlt ?hk26 ?hk126 _ _ _ _ h _ _ _ hP hD hS (lv_sub hl [0, 1, 2, 3] rfl)
      case hk26 =>
        intro v3_42 pw_43 tg_44 h H locs ls hP hD hS hl
        exact ih _ _ _ h _ _ _ hP hD hS (lv_sub hl [0, 1, 2, 3] rfl)
      case hk126 =>
        intro v3_45 pw_46 tg_47 h H locs ls hP hD hS hl
        exact hK126 _ _ _ h _ _ _ hP hD hS (lv_sub hl [0, 1, 2, 3] rfl)
set_option maxHeartbeats 4000000 in
theorem lp_S_children_L3 {p : Program} {l : Launch} {e : Env} {R : Room} {s : State} {m : MethodId} {args : Array Value} {below : List Frame} {meth : Method} {c : Code} {cells slots : Nat} {A : Nat → Prop} {Qf : State → Prop} {V : evT} {D : va_G} {gI : Nat → ClassId} {o : Nat} {ax : Nat → Nat} {tl : va_W} {v3 : Int32} {lw : Nat → Int64} {hh : HT} {rn : Option (Nat × Nat)} {sz : Int32} {en : Int32} {pw : Int32} {tg : Nat → Nat → Int32} {q2 q1 : Nat} {K239 : (Nat → Int32) → (Nat → Nat → Int32) → Prop} (F : ct_F p m c meth cX1_children 5 s args RX1 (some .int) A V D vwCl (tyL gI)) (hRf : 10 ≤ R.frames) (hRl : 191 ≤ R.locals) (hC : cells ≤ R.cells) (hSl : slots ≤ R.slots) (hC1 : cells + 1 ≤ R.cells) (hS7 : slots + 7 ≤ R.slots) (hM : cells + 1 ≤ 11) (hMs : slots + 7 ≤ 43) (htab : c.exceptionTable.toList = tableOf [(26, 130, 133, 113)]) (hlt : l.stackTraces = false)
    (hK239 : ∀ (fd : Nat → Int32) (ar : Nat → Nat → Int32), K239 fd ar → ∀ (H : Heap) (locs : List Loc) (ls : Array Slot), va_P D vwCl (wX gI o ax rn ((wGc gI q2 tg [(q1, .inr (4, [.ref (ax 15), .int sz, .int en, .int pw]))]) ++ tl) fd ar lw hh) H → va_D A (wX gI o ax rn ((wGc gI q2 tg [(q1, .inr (4, [.ref (ax 15), .int sz, .int en, .int pw]))]) ++ tl) fd ar lw hh) → va_S A s.heap H locs → lv_has ls 5 [(0, .ref o), (3, .int v3)] → W p l e R s m args below meth c H locs cells slots Qf (F0 m 239 ls [])) :
    ∀ (n : Nat) (v4 : Int32) (fd : Nat → Int32) (ar : Nat → Nat → Int32), wp_S_children_L3 v3 lw hh rn sz en pw tg K239 n v4 fd ar → ∀ (H : Heap) (locs : List Loc) (ls : Array Slot), va_P D vwCl (wX gI o ax rn ((wGc gI q2 tg [(q1, .inr (4, [.ref (ax 15), .int sz, .int en, .int pw]))]) ++ tl) fd ar lw hh) H → va_D A (wX gI o ax rn ((wGc gI q2 tg [(q1, .inr (4, [.ref (ax 15), .int sz, .int en, .int pw]))]) ++ tl) fd ar lw hh) → va_S A s.heap H locs → lv_has ls 5 [(0, .ref o), (2, .ref q2), (3, .int v3), (4, .int v4)] → W p l e R s m args below meth c H locs cells slots Qf (F0 m 146 ls []) := by
  obtain ⟨⟨hx, hb, hml, hown, hts⟩, hr, hlocks, hA, hK, hE⟩ := id F
  intro n
  induction n with
  | zero => intro v4 fd ar h; exact h.elim
  | succ n ih =>
    intro v4 fd ar h H locs ls hP hD hS hl
    unfold wp_S_children_L3 at h
    refine lv_iload hx hb dX1_children_146 (lv_at hl 3 rfl) ?_
    refine lv_iload_n hx hb dX1_children_148 rfl (lv_at hl 2 rfl) ?_
    refine lv_icmp_ge (tgt := 239) hx hb dX1_children_149 (by decide) (fun c57 => ?_) (fun c57 => ?_)
    · replace h := h.1 c57
      exact hK239 _ _ h _ _ _ hP hD hS (lv_sub hl [0, 2] rfl)
    · replace h := h.2 c57
      refine lv_aload_n hx hb dX1_children_152 rfl (lv_at hl 0 rfl) ?_
      refine va_get hx hb hts in_X1 hown hK hP 0 rfl rfl 6 (Nat.le_of_ble_eq_true rfl) (hts _ q190) (fun _ h => h) (v := .ref (ax 6)) rfl dX1_children_153 ?_
      refine lv_aload_n hx hb dX1_children_156 rfl (lv_at hl 0 rfl) ?_
      refine va_get hx hb hts in_X1 hown hK hP 0 rfl rfl 10 (Nat.le_of_ble_eq_true rfl) (hts _ q199) (fun _ h => h) (v := .int (fd 10)) rfl dX1_children_157 ?_
      refine lv_aload_n hx hb dX1_children_160 rfl (lv_at hl 1 rfl) ?_
      refine lv_iload hx hb dX1_children_161 (lv_at hl 3 rfl) ?_
      refine pt_aldA (f := fun j => some (q2 + 1 + j)) hx hb hK (fr_outP (xs := (wGc gI q2 tg [(q1, .inr (4, [.ref (ax 15), .int sz, .int en, .int pw]))])) hP) 0 6 rfl rfl h.1 dX1_children_163 ?_
      have hi54 := vp_ltN h.1
      replace h := h.2
      refine lv_iconst (v := (0 : Int32)) hx hb dX1_children_164 (by decide) ?_
      refine va_iald (f := tg v4.toNatClampNeg) hx hb hK (fr_outP (xs := (wGc gI q2 tg [(q1, .inr (4, [.ref (ax 15), .int sz, .int en, .int pw]))])) hP) (1 + v4.toNatClampNeg) 0 (wGr_o hi54) rfl (by unfold vp_in; decide) dX1_children_165 ?_
      refine pt_iast (f := (ar 6)) hx hb hK hP hD hS 3 0 rfl rfl h.1 dX1_children_166 wXA_6 (fun H locs hP hD hS => ?_)
      replace h := h.2
      refine lv_aload_n hx hb dX1_children_167 rfl (lv_at hl 0 rfl) ?_
      refine va_get hx hb hts in_X1 hown hK hP 0 rfl rfl 7 (Nat.le_of_ble_eq_true rfl) (hts _ q191) (fun _ h => h) (v := .ref (ax 7)) rfl dX1_children_168 ?_
      refine lv_aload_n hx hb dX1_children_171 rfl (lv_at hl 0 rfl) ?_
      refine va_get hx hb hts in_X1 hown hK hP 0 rfl rfl 10 (Nat.le_of_ble_eq_true rfl) (hts _ q199) (fun _ h => h) (v := .int (fd 10)) rfl dX1_children_172 ?_
      refine lv_aload_n hx hb dX1_children_175 rfl (lv_at hl 1 rfl) ?_
      refine lv_iload hx hb dX1_children_176 (lv_at hl 3 rfl) ?_
      refine pt_aldA (f := fun j => some (q2 + 1 + j)) hx hb hK (fr_outP (xs := (wGc gI q2 tg [(q1, .inr (4, [.ref (ax 15), .int sz, .int en, .int pw]))])) hP) 0 6 rfl rfl h.1 dX1_children_178 ?_
      have hi55 := vp_ltN h.1
      replace h := h.2
      refine lv_iconst (v := (1 : Int32)) hx hb dX1_children_179 (by decide) ?_
      refine va_iald (f := tg v4.toNatClampNeg) hx hb hK (fr_outP (xs := (wGc gI q2 tg [(q1, .inr (4, [.ref (ax 15), .int sz, .int en, .int pw]))])) hP) (1 + v4.toNatClampNeg) 0 (wGr_o hi55) rfl (by unfold vp_in; decide) dX1_children_180 ?_
      refine pt_iast (f := (ar 7)) hx hb hK hP hD hS 4 0 rfl rfl h.1 dX1_children_181 wXA_7 (fun H locs hP hD hS => ?_)
      replace h := h.2
      refine lv_aload_n hx hb dX1_children_182 rfl (lv_at hl 0 rfl) ?_
      refine va_get hx hb hts in_X1 hown hK hP 0 rfl rfl 8 (Nat.le_of_ble_eq_true rfl) (hts _ q192) (fun _ h => h) (v := .ref (ax 8)) rfl dX1_children_183 ?_
      refine lv_aload_n hx hb dX1_children_186 rfl (lv_at hl 0 rfl) ?_
      refine va_get hx hb hts in_X1 hown hK hP 0 rfl rfl 10 (Nat.le_of_ble_eq_true rfl) (hts _ q199) (fun _ h => h) (v := .int (fd 10)) rfl dX1_children_187 ?_
      refine lv_aload_n hx hb dX1_children_190 rfl (lv_at hl 1 rfl) ?_
      refine lv_iload hx hb dX1_children_191 (lv_at hl 3 rfl) ?_
      refine pt_aldA (f := fun j => some (q2 + 1 + j)) hx hb hK (fr_outP (xs := (wGc gI q2 tg [(q1, .inr (4, [.ref (ax 15), .int sz, .int en, .int pw]))])) hP) 0 6 rfl rfl h.1 dX1_children_193 ?_
      have hi56 := vp_ltN h.1
      replace h := h.2
      refine lv_iconst (v := (2 : Int32)) hx hb dX1_children_194 (by decide) ?_
      refine va_iald (f := tg v4.toNatClampNeg) hx hb hK (fr_outP (xs := (wGc gI q2 tg [(q1, .inr (4, [.ref (ax 15), .int sz, .int en, .int pw]))])) hP) (1 + v4.toNatClampNeg) 0 (wGr_o hi56) rfl (by unfold vp_in; decide) dX1_children_195 ?_
      refine pt_iast (f := (ar 8)) hx hb hK hP hD hS 5 0 rfl rfl h.1 dX1_children_196 wXA_8 (fun H locs hP hD hS => ?_)
      replace h := h.2
      refine lv_aload_n hx hb dX1_children_197 rfl (lv_at hl 0 rfl) ?_
      refine va_get hx hb hts in_X1 hown hK hP 0 rfl rfl 0 (Nat.le_of_ble_eq_true rfl) (hts _ q180) (fun _ h => h) (v := .ref (ax 0)) rfl dX1_children_198 ?_
      refine va_get hx hb hts in_X2 hown hK hP 14 rfl rfl 2 (Nat.le_of_ble_eq_true rfl) (hts _ q141) (fun _ h => h) (v := .ref (ax 42)) rfl dX1_children_201 ?_
      refine lv_aload_n hx hb dX1_children_204 rfl (lv_at hl 0 rfl) ?_
      refine va_get hx hb hts in_X1 hown hK hP 0 rfl rfl 10 (Nat.le_of_ble_eq_true rfl) (hts _ q199) (fun _ h => h) (v := .int (fd 10)) rfl dX1_children_205 ?_
      refine lv_iconst (v := (-1 : Int32)) hx hb dX1_children_208 (by decide) ?_
      refine pt_iast (f := (ar 42)) hx hb hK hP hD hS 17 0 rfl rfl h.1 dX1_children_209 wXA_42 (fun H locs hP hD hS => ?_)
      replace h := h.2
      refine lv_aload_n hx hb dX1_children_210 rfl (lv_at hl 0 rfl) ?_
      refine va_get hx hb hts in_X1 hown hK hP 0 rfl rfl 0 (Nat.le_of_ble_eq_true rfl) (hts _ q180) (fun _ h => h) (v := .ref (ax 0)) rfl dX1_children_211 ?_
      refine va_get hx hb hts in_X2 hown hK hP 14 rfl rfl 3 (Nat.le_of_ble_eq_true rfl) (hts _ q144) (fun _ h => h) (v := .ref (ax 43)) rfl dX1_children_214 ?_
      refine lv_aload_n hx hb dX1_children_217 rfl (lv_at hl 0 rfl) ?_
      refine va_get hx hb hts in_X1 hown hK hP 0 rfl rfl 10 (Nat.le_of_ble_eq_true rfl) (hts _ q199) (fun _ h => h) (v := .int (fd 10)) rfl dX1_children_218 ?_
      refine lv_iconst (v := (5 : Int32)) hx hb dX1_children_221 (by decide) ?_
      refine pt_iast (f := (ar 43)) hx hb hK hP hD hS 18 0 rfl rfl h.1 dX1_children_222 wXA_43 (fun H locs hP hD hS => ?_)
      replace h := h.2
      refine lv_iinc (v := (v4 + (1 : Int32))) (lv' := [(4, .int (v4 + (1 : Int32))), (0, .ref o), (2, .ref q2), (3, .int v3)]) hx hb dX1_children_223 hl (k := 3) rfl rfl (by decide) rfl (fun ls hl => ?_)
      refine lv_aload_n hx hb dX1_children_226 rfl (lv_at hl 1 rfl) ?_
      refine lv_dup hx hb dX1_children_227 rfl ?_
      refine va_get hx hb hts in_X1 hown hK hP 0 rfl rfl 10 (Nat.le_of_ble_eq_true rfl) (hts _ q199) (fun _ h => h) (v := .int (fd 10)) rfl dX1_children_228 ?_
      refine lv_iconst (v := (1 : Int32)) hx hb dX1_children_231 (by decide) ?_
      refine lv_iadd hx hb dX1_children_232 ?_
      refine pt_put (v := .int ((fd 10) + (1 : Int32))) hx hb hts in_X1 tyX1 tyX1_ok nmX1 hown hK hP hD hS 0 rfl rfl 10 (Nat.le_of_ble_eq_true rfl) (hts _ q199) (fun _ h => h) rfl (ty := .int) (by decide +kernel) rfl rfl (Nat.le_of_ble_eq_true rfl) dX1_children_233 wXF_10 (fun H locs hP hD hS => ?_)
      refine lv_goto (tgt := 146) hx hb dX1_children_236 (by decide) ?_
      exact ih _ _ _ h _ _ _ hP hD hS (lv_sub hl [1, 2, 3, 0] rfl)
set_option maxHeartbeats 8000000 in
theorem ct_S_children {l : Launch} {V : evT} {D : va_G} {gI : Nat → ClassId} {o : Nat} {ax : Nat → Nat} {tl : va_W} (hlt : l.stackTraces = false) {fd : Nat → Int32} {ar : Nat → Nat → Int32} {lw : Nat → Int64} {hh : HT} {rn : Option (Nat × Nat)} {Q : Int32 → (Nat → Int32) → (Nat → Nat → Int32) → Prop} (h : wp_S_children fd ar lw hh rn Q) : ctW_i l V D (tyL gI) yX1_children cX1_children 5 .int [(26, 130, 133, 113)] { frames := 10, cells := 11, slots := 43, locals := 191 } [.ref o] (wX gI o ax rn tl fd ar lw hh) (fun u : (Nat → Int32) × (Nat → Nat → Int32) => (wX gI o ax rn tl u.1 u.2 lw hh)) (fun (x : Int32) (u : (Nat → Int32) × (Nat → Nat → Int32)) => Q x u.1 u.2) := by
  refine ctW_ofi RX1 rfl (by decide +kernel) (Nat.le_of_ble_eq_true rfl) ?_
  intro p e s m args below meth c A F htab hP hD ls hl
  obtain ⟨⟨hx, hb, hml, hown, hts⟩, hr, hlocks, hA, hK, hE⟩ := id F
  have hS : va_S A s.heap s.heap [] := va_S.rf
  have hl : lv_has ls 5 [(0, .ref o)] := hl
  have hRf : 10 ≤ ({ frames := 10, cells := 11, slots := 43, locals := 191 } : Room).frames := Nat.le_refl _
  have hC : 0 ≤ ({ frames := 10, cells := 11, slots := 43, locals := 191 } : Room).cells := Nat.le_of_ble_eq_true rfl
  have hSl : 0 ≤ ({ frames := 10, cells := 11, slots := 43, locals := 191 } : Room).slots := Nat.le_of_ble_eq_true rfl
  have hC1 : 0 + 1 ≤ ({ frames := 10, cells := 11, slots := 43, locals := 191 } : Room).cells := Nat.le_of_ble_eq_true rfl
  have hS7 : 0 + 7 ≤ ({ frames := 10, cells := 11, slots := 43, locals := 191 } : Room).slots := Nat.le_of_ble_eq_true rfl
  have hM : 0 + 1 ≤ 11 := Nat.le_of_ble_eq_true rfl
  have hMs : 0 + 7 ≤ 43 := Nat.le_of_ble_eq_true rfl
  have hRl : 191 ≤ ({ frames := 10, cells := 11, slots := 43, locals := 191 } : Room).locals := Nat.le_refl _
  unfold wp_S_children at h
  refine lv_aload_n hx hb dX1_children_0 rfl (lv_at hl 0 rfl) ?_
  refine lv_bipush (v := (47 : Int32)) hx hb dX1_children_1 (by decide) ?_
  refine cl_rN F (va_runV (As := [.int (47 : Int32)]) (rest := []) ⟨hx, hb, hml, hown, hts⟩ (ct_K_X1_words (o := o) (ax := ax) (rn := rn) (fd := fd) (v1 := (47 : Int32)) _) (cwV 1 hts (lw_V q325 q327 qs0 q94 q328) rfl rfl rfl (by decide +kernel) ⟨Nat.le_trans (Nat.le_of_ble_eq_true rfl) hRf, Nat.le_trans (Nat.le_of_ble_eq_true rfl) hRl⟩) ⟨ct_blind, va_recv hK hP (ci := 0) (q0 := 0) rfl rfl, ct_at F hS (putL_P hP (ps := [0]) rfl) (hD.sub ([0]) (by decide) rfl)⟩ rfl rfl hl.1 rfl (lv_room (Nat.le_of_ble_eq_true rfl)) dX1_children_3 ⟨Nat.le_of_ble_eq_true rfl, Nat.le_of_ble_eq_true rfl⟩) hP hD hS (ps := [0]) rfl (fun _ => rfl) (fun _ => wXF_16) ?_
  rintro q1 H locs _ hP hD hS
  replace hP : va_P D vwCl (wX gI o ax rn ([(q1, .inr (4, [.ref (ax 15), .int (fd 16), .int (mnI (fd 16) (47 : Int32)), .int (0 : Int32)]))] ++ tl) (upd fd 16 (0 : Int32)) ar lw hh) _ := frn_inP (xs := []) (nw := [(q1, .inr (4, [.ref (ax 15), .int (fd 16), .int (mnI (fd 16) (47 : Int32)), .int (0 : Int32)]))]) hP
  replace hD : va_D A (wX gI o ax rn ([(q1, .inr (4, [.ref (ax 15), .int (fd 16), .int (mnI (fd 16) (47 : Int32)), .int (0 : Int32)]))] ++ tl) (upd fd 16 (0 : Int32)) ar lw hh) := frn_inD (xs := []) (nw := [(q1, .inr (4, [.ref (ax 15), .int (fd 16), .int (mnI (fd 16) (47 : Int32)), .int (0 : Int32)]))]) hD
  replace hC : 1 ≤ ({ frames := 10, cells := 11, slots := 43, locals := 191 } : Room).cells := Nat.le_of_ble_eq_true rfl
  replace hSl : 4 ≤ ({ frames := 10, cells := 11, slots := 43, locals := 191 } : Room).slots := Nat.le_of_ble_eq_true rfl
  replace hC1 : 1 + 1 ≤ ({ frames := 10, cells := 11, slots := 43, locals := 191 } : Room).cells := Nat.le_of_ble_eq_true rfl
  replace hS7 : 4 + 7 ≤ ({ frames := 10, cells := 11, slots := 43, locals := 191 } : Room).slots := Nat.le_of_ble_eq_true rfl
  replace hM : 1 + 1 ≤ 11 := Nat.le_of_ble_eq_true rfl
  replace hMs : 4 + 7 ≤ 43 := Nat.le_of_ble_eq_true rfl
  refine lv_astore_n (lv' := [(1, .ref q1), (0, .ref o)]) hx hb dX1_children_6 rfl hl (by decide) rfl (fun ls hl => ?_)
  refine lv_aload_n hx hb dX1_children_7 rfl (lv_at hl 0 rfl) ?_
  refine va_get hx hb hts in_X5 hown hK (fr_outP (xs := [(q1, .inr (4, [.ref (ax 15), .int (fd 16), .int (mnI (fd 16) (47 : Int32)), .int (0 : Int32)]))]) hP) 0 rfl rfl 1 (Nat.le_of_ble_eq_true rfl) (hts _ q340) (fun _ h => h) (v := .int (fd 16)) rfl dX1_children_8 ?_
  refine lv_if_ne (tgt := 16) hx hb dX1_children_11 (by decide) (fun c60 => ?_) (fun c60 => ?_)
  · replace h := h.1 c60
    refine lv_bipush (v := (8 : Int32)) hx hb dX1_children_16 (by decide) ?_
    refine lv_iconst (v := (3 : Int32)) hx hb dX1_children_18 (by decide) ?_
    refine pt_mnew hx hb hown (hts _ q476) hE.2.2.2.2.2.2.2.1 (hts _ q167) hK 6 0 rfl rfl hP hD hS hA (Nat.le_of_ble_eq_true rfl) (Nat.le_of_ble_eq_true rfl) dX1_children_19 (fun q2 H hP hD hS => ?_)
    replace hP : va_P D vwCl (wX gI o ax rn ((wGc gI q2 (fun _ _ => 0) [(q1, .inr (4, [.ref (ax 15), .int (fd 16), .int (mnI (fd 16) (47 : Int32)), .int (0 : Int32)]))]) ++ tl) (upd fd 16 (0 : Int32)) ar lw hh) _ := frw_inP (nw := wGr gI q2 (fun _ _ => 0)) hP
    replace hD : va_D A (wX gI o ax rn ((wGc gI q2 (fun _ _ => 0) [(q1, .inr (4, [.ref (ax 15), .int (fd 16), .int (mnI (fd 16) (47 : Int32)), .int (0 : Int32)]))]) ++ tl) (upd fd 16 (0 : Int32)) ar lw hh) := frw_inD (nw := wGr gI q2 (fun _ _ => 0)) hD
    replace hC : 10 ≤ ({ frames := 10, cells := 11, slots := 43, locals := 191 } : Room).cells := Nat.le_of_ble_eq_true rfl
    replace hSl : 36 ≤ ({ frames := 10, cells := 11, slots := 43, locals := 191 } : Room).slots := Nat.le_of_ble_eq_true rfl
    replace hC1 : 10 + 1 ≤ ({ frames := 10, cells := 11, slots := 43, locals := 191 } : Room).cells := Nat.le_of_ble_eq_true rfl
    replace hS7 : 36 + 7 ≤ ({ frames := 10, cells := 11, slots := 43, locals := 191 } : Room).slots := Nat.le_of_ble_eq_true rfl
    replace hM : 10 + 1 ≤ 11 := Nat.le_of_ble_eq_true rfl
    replace hMs : 36 + 7 ≤ 43 := Nat.le_of_ble_eq_true rfl
    refine lv_astore_n (lv' := [(2, .ref q2), (1, .ref q1), (0, .ref o)]) hx hb dX1_children_23 rfl hl (by decide) rfl (fun ls hl => ?_)
    refine lv_iconst (v := (0 : Int32)) hx hb dX1_children_24 (by decide) ?_
    refine lv_istore_n (lv' := [(3, .int (0 : Int32)), (2, .ref q2), (1, .ref q1), (0, .ref o)]) hx hb dX1_children_25 rfl hl (by decide) rfl (fun ls hl => ?_)
    obtain ⟨k26, h⟩ := h
    refine lp_S_children_L1 F hRf hRl hC hSl hC1 hS7 hM hMs htab hlt ?hk126 k26 _ _ _ h _ _ _ hP hD hS (lv_sub hl [3, 2, 1, 0] rfl)
    case hk126 =>
      intro v3_49 pw_50 tg_51 h H locs ls hP hD hS hl
      refine lv_aload_n hx hb dX1_children_126 rfl (lv_at hl 1 rfl) ?_
      replace hP := fr_outP (xs := (wGc gI q2 tg_51 [(q1, .inr (4, [.ref (ax 15), .int (fd 16), .int (mnI (fd 16) (47 : Int32)), .int pw_50]))])) hP
      replace hD := fr_outD (xs := (wGc gI q2 tg_51 [(q1, .inr (4, [.ref (ax 15), .int (fd 16), .int (mnI (fd 16) (47 : Int32)), .int pw_50]))])) hD
      refine clx_vL F (vx_runV (As := []) (rest := []) ⟨hx, hb, hml, hown, hts⟩ (cx_W_needEnd hlt (o := q1) (pt := (ax 15)) h _) (cwV 0 hts (lw_V q498 q460 q461 q99 q465) rfl rfl rfl (by decide +kernel) ⟨Nat.le_trans (Nat.le_of_ble_eq_true rfl) hRf, Nat.le_trans (Nat.le_of_ble_eq_true rfl) hRl⟩) ⟨ct_blind, va_recv hK hP (ci := 4) (q0 := 9) rfl rfl, ct_at F hS (putL_P hP (ps := [9, 16]) rfl) (hD.sub ([9, 16]) (by decide) rfl)⟩ rfl rfl hl.1 rfl (lv_room (Nat.le_of_ble_eq_true rfl)) dX1_children_127 ⟨hC1, hS7⟩) hP hD hS (ps := [9, 16]) rfl (fun _ => rfl) (fun _ => putL_2s rfl) (fun _ => rfl) (fun _ => putL_2s rfl) ?_ ?_
      · rintro q53 z52 _ H locs h hP hD hS
        obtain ⟨ce, hce, hcv, hcl⟩ := fC_cell hK hP
        have hPf := pl_last hP
        replace hP := fr_inP (xs := (wGc gI q2 tg_51 [(q1, .inr (4, [.ref (ax 15), .int (fd 16), .int (mnI (fd 16) (47 : Int32)), .int pw_50]))])) (pl_init hP)
        replace hD := fr_inD (xs := (wGc gI q2 tg_51 [(q1, .inr (4, [.ref (ax 15), .int (fd 16), .int (mnI (fd 16) (47 : Int32)), .int pw_50]))])) (dl_init hD)
        refine vx_catch hown [] ⟨26, 130, 133, 113⟩ [] htab (fun z hz => absurd hz List.not_mem_nil) (by decide) (by decide) (hts _ q305) (va_Nw.use rfl (hE.1 _ q371 rfl)) hce hcv hcl ?_
        refine lv_astore (lv' := [(4, .ref q53), (0, .ref o), (1, .ref q1), (2, .ref q2), (3, .int v3_49)]) hx hb dX1_children_133 hl (by decide) rfl (fun ls hl => ?_)
        refine lv_iconst (v := (-1 : Int32)) hx hb dX1_children_135 (by decide) ?_
        refine lv_aload hx hb dX1_children_136 (lv_at hl 0 rfl) ?_
        refine va_getN (v := .int z52) hx hb hts in_F6 hown hK hPf 0 rfl rfl 0 (Nat.le_refl _) (va_Nw.use rfl (hE.1 _ q416 rfl)) (fun _ h => h) rfl dX1_children_138 ?_
        refine lv_isub hx hb dX1_children_141 ?_
        replace hP := fr_dropP (xs := (wGc gI q2 tg_51 [(q1, .inr (4, [.ref (ax 15), .int (fd 16), .int (mnI (fd 16) (47 : Int32)), .int pw_50]))])) (tl := tl) hP
        replace hD := fr_dropD (xs := (wGc gI q2 tg_51 [(q1, .inr (4, [.ref (ax 15), .int (fd 16), .int (mnI (fd 16) (47 : Int32)), .int pw_50]))])) (tl := tl) hD
        exact rt_i F dX1_children_142 rfl ((upd fd 16 (0 : Int32)), ar) h hP hD hS (Nat.le_of_ble_eq_true rfl) (Nat.le_of_ble_eq_true rfl)
      · rintro _ H locs h hP hD hS
        replace hP := fr_inP (xs := (wGc gI q2 tg_51 [(q1, .inr (4, [.ref (ax 15), .int (fd 16), .int (mnI (fd 16) (47 : Int32)), .int pw_50]))])) hP
        replace hD := fr_inD (xs := (wGc gI q2 tg_51 [(q1, .inr (4, [.ref (ax 15), .int (fd 16), .int (mnI (fd 16) (47 : Int32)), .int pw_50]))])) hD
        refine lv_goto (tgt := 143) hx hb dX1_children_130 (by decide) ?_
        refine lv_iconst (v := (0 : Int32)) hx hb dX1_children_143 (by decide) ?_
        refine lv_istore (lv' := [(4, .int (0 : Int32)), (0, .ref o), (1, .ref q1), (2, .ref q2), (3, .int v3_49)]) hx hb dX1_children_144 hl (by decide) rfl (fun ls hl => ?_)
        obtain ⟨k146, h⟩ := h
        refine lp_S_children_L3 F hRf hRl hC hSl hC1 hS7 hM hMs htab hlt ?hk239 k146 _ _ _ h _ _ _ hP hD hS (lv_sub hl [1, 3, 4, 0] rfl)
        case hk239 =>
          intro fd_58 ar_59 h H locs ls hP hD hS hl
          refine lv_aload_n hx hb dX1_children_239 rfl (lv_at hl 0 rfl) ?_
          refine lv_iconst (v := (0 : Int32)) hx hb dX1_children_240 (by decide) ?_
          refine pt_put (v := .int (0 : Int32)) hx hb hts in_X1 tyX1 tyX1_ok nmX1 hown hK hP hD hS 0 rfl rfl 14 (Nat.le_of_ble_eq_true rfl) (hts _ q205) (fun _ h => h) rfl (ty := .int) (by decide +kernel) rfl rfl (Nat.le_of_ble_eq_true rfl) dX1_children_241 wXF_14 (fun H locs hP hD hS => ?_)
          refine lv_aload_n hx hb dX1_children_244 rfl (lv_at hl 0 rfl) ?_
          refine lv_dup hx hb dX1_children_245 rfl ?_
          refine va_get hx hb hts in_X1 hown hK hP 0 rfl rfl 13 (Nat.le_of_ble_eq_true rfl) (hts _ q204) (fun _ h => h) (v := .int (fd_58 13)) rfl dX1_children_246 ?_
          refine lv_iconst (v := (1 : Int32)) hx hb dX1_children_249 (by decide) ?_
          refine lv_iadd hx hb dX1_children_250 ?_
          refine pt_put (v := .int ((fd_58 13) + (1 : Int32))) hx hb hts in_X1 tyX1 tyX1_ok nmX1 hown hK hP hD hS 0 rfl rfl 13 (Nat.le_of_ble_eq_true rfl) (hts _ q204) (fun _ h => h) rfl (ty := .int) (by decide +kernel) rfl rfl (Nat.le_of_ble_eq_true rfl) dX1_children_251 wXF_13 (fun H locs hP hD hS => ?_)
          refine lv_iload_n hx hb dX1_children_254 rfl (lv_at hl 1 rfl) ?_
          replace hP := fr_dropP (xs := (wGc gI q2 tg_51 [(q1, .inr (4, [.ref (ax 15), .int (fd 16), .int (mnI (fd 16) (47 : Int32)), .int pw_50]))])) (tl := tl) hP
          replace hD := fr_dropD (xs := (wGc gI q2 tg_51 [(q1, .inr (4, [.ref (ax 15), .int (fd 16), .int (mnI (fd 16) (47 : Int32)), .int pw_50]))])) (tl := tl) hD
          exact rt_i F dX1_children_255 rfl ((upd (upd fd_58 14 (0 : Int32)) 13 ((fd_58 13) + (1 : Int32))), ar_59) h hP hD hS (Nat.le_of_ble_eq_true rfl) (Nat.le_of_ble_eq_true rfl)
  · replace h := h.2 c60
    refine lv_iconst (v := (0 : Int32)) hx hb dX1_children_14 (by decide) ?_
    replace hP := fr_dropP (xs := [(q1, .inr (4, [.ref (ax 15), .int (fd 16), .int (mnI (fd 16) (47 : Int32)), .int (0 : Int32)]))]) (tl := tl) hP
    replace hD := fr_dropD (xs := [(q1, .inr (4, [.ref (ax 15), .int (fd 16), .int (mnI (fd 16) (47 : Int32)), .int (0 : Int32)]))]) (tl := tl) hD
    exact rt_i F dX1_children_15 rfl ((upd fd 16 (0 : Int32)), ar) h hP hD hS (Nat.le_of_ble_eq_true rfl) (Nat.le_of_ble_eq_true rfl)
