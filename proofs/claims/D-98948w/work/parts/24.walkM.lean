/-! walks of the model (printed by gen/mk.py) -/
set_option maxRecDepth 100000
set_option maxHeartbeats 4000000 in
theorem lp_M_spadeFor_J1 {p : Program} {l : Launch} {e : Env} {R : Room} {s : State} {m : MethodId} {args : Array Value} {below : List Frame} {meth : Method} {c : Code} {cells slots : Nat} {A : Nat → Prop} {V : evT} {D : va_G} {gI : Nat → ClassId} {o : Nat} {ad : Nat → Nat} {v1 : Int32} {fd : Nat → Int32} {lw : Nat → Int64} {Q : Int32 → (Nat → Nat → Int32) → Prop} (F : ct_F p m c meth cX3_spadeFor 2 s args RX3 (some .int) A V D vwCl (tyL gI)) (hRf : 3 ≤ R.frames) (hRl : 58 ≤ R.locals) (hC : cells ≤ R.cells) (hSl : slots ≤ R.slots) :
    ∀ (ar : Nat → Nat → Int32), wp_M_spadeFor_J1 v1 fd lw Q ar → ∀ (H : Heap) (locs : List Loc) (ls : Array Slot), va_P D vwCl (wm gI o ad fd ar lw) H → va_D A (wm gI o ad fd ar lw) → va_S A s.heap H locs → lv_has ls 2 [(0, .ref o), (1, .int v1)] → W p l e R s m args below meth c H locs cells slots (MQ below (va_Qi (fun (x : Int32) (u : (Nat → Nat → Int32)) => Q x u) (fun u t => va_P D vwCl (wm gI o ad fd u lw) t.heap ∧ va_K D vwCl (tyL gI) t ∧ va_D A (wm gI o ad fd u lw)) A) args s cells slots A) (F0 m 46 ls []) := by
  obtain ⟨⟨hx, hb, hml, hown, hts⟩, hr, hlocks, hA, hK, hE⟩ := id F
  intro ar h H locs ls hP hD hS hl
  unfold wp_M_spadeFor_J1 at h
  refine lv_aload_n hx hb dX3_spadeFor_46 rfl (lv_at hl 0 rfl) ?_
  refine va_get hx hb hts in_X3 hown hK hP 0 rfl rfl 12 (Nat.le_of_ble_eq_true rfl) (hts _ q1230) (fun _ h => h) (v := .ref (ad 12)) rfl dX3_spadeFor_47 ?_
  refine lv_bipush (v := (41 : Int32)) hx hb dX3_spadeFor_50 (by decide) ?_
  refine lv_dup2_11 hx hb dX3_spadeFor_52 rfl rfl ?_
  refine va_iald (f := (ar 12)) hx hb hK hP 8 0 rfl rfl (by unfold vp_in; decide) dX3_spadeFor_53 ?_
  refine lv_iconst (v := (1 : Int32)) hx hb dX3_spadeFor_54 (by decide) ?_
  refine lv_iload_n hx hb dX3_spadeFor_55 rfl (lv_at hl 1 rfl) ?_
  refine lv_ishl hx hb dX3_spadeFor_56 ?_
  refine lv_ixor hx hb dX3_spadeFor_57 ?_
  refine pt_iast (f := (ar 12)) hx hb hK hP hD hS 8 0 rfl rfl (by unfold vp_in; decide) dX3_spadeFor_58 wmA_12 (fun H locs hP hD hS => ?_)
  refine lv_aload_n hx hb dX3_spadeFor_59 rfl (lv_at hl 0 rfl) ?_
  refine va_get hx hb hts in_X3 hown hK hP 0 rfl rfl 12 (Nat.le_of_ble_eq_true rfl) (hts _ q1230) (fun _ h => h) (v := .ref (ad 12)) rfl dX3_spadeFor_60 ?_
  refine lv_bipush (v := (41 : Int32)) hx hb dX3_spadeFor_63 (by decide) ?_
  refine va_iald (f := (upd (ar 12) (41 : Int32).toNatClampNeg ((ar 12 (41 : Int32).toNatClampNeg) ^^^ ((1 : Int32) <<< (v1 &&& 31))))) hx hb hK hP 8 0 rfl rfl (by unfold vp_in; decide) dX3_spadeFor_65 ?_
  refine cl_i0 F (va_runS (As := [.int ((upd (ar 12) (41 : Int32).toNatClampNeg ((ar 12 (41 : Int32).toNatClampNeg) ^^^ ((1 : Int32) <<< (v1 &&& 31)))) (41 : Int32).toNatClampNeg)]) (rest := []) ⟨hx, hb, hml, hown, hts⟩ (ct_J10_bitCount h _) (va_cwS 1 hts (lw_S q1552 q586 q112 q587) rfl rfl rfl (by decide +kernel) ⟨Nat.le_trans (Nat.le_of_ble_eq_true rfl) hRf, Nat.le_trans (Nat.le_of_ble_eq_true rfl) hRl⟩) ⟨ct_blind, ct_at F hS ct_nP ct_nD⟩ rfl rfl hl.1 rfl (lv_room (Nat.le_of_ble_eq_true rfl)) dX3_spadeFor_66 ⟨hC, hSl⟩) rfl rfl hP hS ?_
  rintro x3 _ H locs h hP hS
  exact rt_i F dX3_spadeFor_69 rfl ((va_up ar 12 (upd (ar 12) (41 : Int32).toNatClampNeg ((ar 12 (41 : Int32).toNatClampNeg) ^^^ ((1 : Int32) <<< (v1 &&& 31)))))) h hP hD hS (Nat.le_refl _) (Nat.le_refl _)
set_option maxHeartbeats 4000000 in
theorem ct_M_spadeFor {l : Launch} {V : evT} {D : va_G} {gI : Nat → ClassId} {o : Nat} {ad : Nat → Nat} {v1 : Int32} {fd : Nat → Int32} {ar : Nat → Nat → Int32} {lw : Nat → Int64} {Q : Int32 → (Nat → Nat → Int32) → Prop} (h : wp_M_spadeFor v1 fd ar lw Q) : ct_i l V D vwCl (tyL gI) yX3_spadeFor cX3_spadeFor 2 .int { frames := 3, cells := 0, slots := 0, locals := 58 } [.ref o, .int v1] (wm gI o ad fd ar lw) (fun u : (Nat → Nat → Int32) => (wm gI o ad fd u lw)) (fun (x : Int32) (u : (Nat → Nat → Int32)) => Q x u) := by
  refine ct_ofi RX3 rfl (by decide +kernel) (Nat.le_of_ble_eq_true rfl) ?_
  intro p e s m args below meth c A F hP hD ls hl
  obtain ⟨⟨hx, hb, hml, hown, hts⟩, hr, hlocks, hA, hK, hE⟩ := id F
  have hS : va_S A s.heap s.heap [] := va_S.rf
  have hl : lv_has ls 2 [(0, .ref o), (1, .int v1)] := hl
  have hRf : 3 ≤ ({ frames := 3, cells := 0, slots := 0, locals := 58 } : Room).frames := Nat.le_refl _
  have hRl : 58 ≤ ({ frames := 3, cells := 0, slots := 0, locals := 58 } : Room).locals := Nat.le_refl _
  have hC : 0 ≤ ({ frames := 3, cells := 0, slots := 0, locals := 58 } : Room).cells := Nat.le_refl _
  have hSl : 0 ≤ ({ frames := 3, cells := 0, slots := 0, locals := 58 } : Room).slots := Nat.le_refl _
  unfold wp_M_spadeFor at h
  refine lv_aload_n hx hb dX3_spadeFor_0 rfl (lv_at hl 0 rfl) ?_
  refine lv_iload_n hx hb dX3_spadeFor_1 rfl (lv_at hl 1 rfl) ?_
  refine cl_i F (va_runV (As := [.int v1]) (rest := []) ⟨hx, hb, hml, hown, hts⟩ (ct_M_isChild h _) (cwV 1 hts (lw_V q1528 q1530 qs55 q97 q1531) rfl rfl rfl (by decide +kernel) ⟨Nat.le_trans (Nat.le_of_ble_eq_true rfl) hRf, Nat.le_trans (Nat.le_of_ble_eq_true rfl) hRl⟩) ⟨ct_blind, va_recv hK hP (ci := 2) (q0 := 0) rfl rfl, ct_at F hS hP hD⟩ rfl rfl hl.1 rfl (lv_room (Nat.le_of_ble_eq_true rfl)) dX3_spadeFor_2 ⟨hC, hSl⟩) rfl rfl hD hS ?_
  rintro x1 _ H locs h hP hD hS
  refine lv_if_ne (tgt := 10) hx hb dX3_spadeFor_5 (by decide) (fun c7 => ?_) (fun c7 => ?_)
  · replace h := h.1 c7
    refine lv_aload_n hx hb dX3_spadeFor_10 rfl (lv_at hl 0 rfl) ?_
    refine va_get hx hb hts in_X3 hown hK hP 0 rfl rfl 12 (Nat.le_of_ble_eq_true rfl) (hts _ q1230) (fun _ h => h) (v := .ref (ad 12)) rfl dX3_spadeFor_11 ?_
    refine lv_bipush (v := (41 : Int32)) hx hb dX3_spadeFor_14 (by decide) ?_
    refine va_iald (f := (ar 12)) hx hb hK hP 8 0 rfl rfl (by unfold vp_in; decide) dX3_spadeFor_16 ?_
    refine lv_iload_n hx hb dX3_spadeFor_17 rfl (lv_at hl 1 rfl) ?_
    refine cl_i0 F (va_runS (As := [.int (ar 12 (41 : Int32).toNatClampNeg), .int v1]) (rest := []) ⟨hx, hb, hml, hown, hts⟩ (ct_X3_has h _) (va_cwS 2 hts (lw_S q1510 q1511 q97 q1512) rfl rfl rfl (by decide +kernel) ⟨Nat.le_trans (Nat.le_of_ble_eq_true rfl) hRf, Nat.le_trans (Nat.le_of_ble_eq_true rfl) hRl⟩) ⟨ct_blind, ct_at F hS ct_nP ct_nD⟩ rfl rfl hl.1 rfl (lv_room (Nat.le_of_ble_eq_true rfl)) dX3_spadeFor_18 ⟨hC, hSl⟩) rfl rfl hP hS ?_
    rintro x2 _ H locs h hP hS
    refine lv_if_ne (tgt := 46) hx hb dX3_spadeFor_21 (by decide) (fun c6 => ?_) (fun c6 => ?_)
    · replace h := h.1 c6
      refine lp_M_spadeFor_J1 F hRf hRl hC hSl  _ h _ _ _ hP hD hS (lv_sub hl [0, 1] rfl)
    · replace h := h.2 c6
      refine lv_aload_n hx hb dX3_spadeFor_24 rfl (lv_at hl 0 rfl) ?_
      refine va_get hx hb hts in_X3 hown hK hP 0 rfl rfl 12 (Nat.le_of_ble_eq_true rfl) (hts _ q1230) (fun _ h => h) (v := .ref (ad 12)) rfl dX3_spadeFor_25 ?_
      refine lv_bipush (v := (41 : Int32)) hx hb dX3_spadeFor_28 (by decide) ?_
      refine va_iald (f := (ar 12)) hx hb hK hP 8 0 rfl rfl (by unfold vp_in; decide) dX3_spadeFor_30 ?_
      refine cl_i0 F (va_runS (As := [.int (ar 12 (41 : Int32).toNatClampNeg)]) (rest := []) ⟨hx, hb, hml, hown, hts⟩ (ct_J10_bitCount h _) (va_cwS 1 hts (lw_S q1552 q586 q112 q587) rfl rfl rfl (by decide +kernel) ⟨Nat.le_trans (Nat.le_of_ble_eq_true rfl) hRf, Nat.le_trans (Nat.le_of_ble_eq_true rfl) hRl⟩) ⟨ct_blind, ct_at F hS ct_nP ct_nD⟩ rfl rfl hl.1 rfl (lv_room (Nat.le_of_ble_eq_true rfl)) dX3_spadeFor_31 ⟨hC, hSl⟩) rfl rfl hP hS ?_
      rintro x4 _ H locs h hP hS
      refine lv_aload_n hx hb dX3_spadeFor_34 rfl (lv_at hl 0 rfl) ?_
      refine va_get hx hb hts in_X3 hown hK hP 0 rfl rfl 11 (Nat.le_of_ble_eq_true rfl) (hts _ q1229) (fun _ h => h) (v := .ref (ad 11)) rfl dX3_spadeFor_35 ?_
      refine lv_iconst (v := (1 : Int32)) hx hb dX3_spadeFor_38 (by decide) ?_
      refine va_iald (f := (ar 11)) hx hb hK hP 7 0 rfl rfl (by unfold vp_in; decide) dX3_spadeFor_39 ?_
      refine lv_icmp_lt (tgt := 46) hx hb dX3_spadeFor_40 (by decide) (fun c5 => ?_) (fun c5 => ?_)
      · replace h := h.1 c5
        refine lp_M_spadeFor_J1 F hRf hRl hC hSl  _ h _ _ _ hP hD hS (lv_sub hl [0, 1] rfl)
      · replace h := h.2 c5
        refine lv_bipush (v := (-2 : Int32)) hx hb dX3_spadeFor_43 (by decide) ?_
        exact rt_i F dX3_spadeFor_45 rfl (ar) h hP hD hS (Nat.le_refl _) (Nat.le_refl _)
  · replace h := h.2 c7
    refine lv_iconst (v := (-1 : Int32)) hx hb dX3_spadeFor_8 (by decide) ?_
    exact rt_i F dX3_spadeFor_9 rfl (ar) h hP hD hS (Nat.le_refl _) (Nat.le_refl _)
set_option maxHeartbeats 4000000 in
theorem ct_M_treatsOne {l : Launch} {V : evT} {D : va_G} {gI : Nat → ClassId} {o : Nat} {ad : Nat → Nat} {v1 : Int32} {fd : Nat → Int32} {ar : Nat → Nat → Int32} {lw : Nat → Int64} {Q : Int32 → (Nat → Nat → Int32) → Prop} (h : wp_M_treatsOne v1 fd ar lw Q) : ct_i l V D vwCl (tyL gI) yX3_treatsOne cX3_treatsOne 2 .int { frames := 3, cells := 0, slots := 0, locals := 58 } [.ref o, .int v1] (wm gI o ad fd ar lw) (fun u : (Nat → Nat → Int32) => (wm gI o ad fd u lw)) (fun (x : Int32) (u : (Nat → Nat → Int32)) => Q x u) := by
  refine ct_ofi RX3 rfl (by decide +kernel) (Nat.le_of_ble_eq_true rfl) ?_
  intro p e s m args below meth c A F hP hD ls hl
  obtain ⟨⟨hx, hb, hml, hown, hts⟩, hr, hlocks, hA, hK, hE⟩ := id F
  have hS : va_S A s.heap s.heap [] := va_S.rf
  have hl : lv_has ls 2 [(0, .ref o), (1, .int v1)] := hl
  have hRf : 3 ≤ ({ frames := 3, cells := 0, slots := 0, locals := 58 } : Room).frames := Nat.le_refl _
  have hRl : 58 ≤ ({ frames := 3, cells := 0, slots := 0, locals := 58 } : Room).locals := Nat.le_refl _
  have hC : 0 ≤ ({ frames := 3, cells := 0, slots := 0, locals := 58 } : Room).cells := Nat.le_refl _
  have hSl : 0 ≤ ({ frames := 3, cells := 0, slots := 0, locals := 58 } : Room).slots := Nat.le_refl _
  unfold wp_M_treatsOne at h
  refine lv_aload_n hx hb dX3_treatsOne_0 rfl (lv_at hl 0 rfl) ?_
  refine lv_iload_n hx hb dX3_treatsOne_1 rfl (lv_at hl 1 rfl) ?_
  refine cl_i F (va_runV (As := [.int v1]) (rest := []) ⟨hx, hb, hml, hown, hts⟩ (ct_M_isChild h _) (cwV 1 hts (lw_V q1528 q1530 qs55 q97 q1531) rfl rfl rfl (by decide +kernel) ⟨Nat.le_trans (Nat.le_of_ble_eq_true rfl) hRf, Nat.le_trans (Nat.le_of_ble_eq_true rfl) hRl⟩) ⟨ct_blind, va_recv hK hP (ci := 2) (q0 := 0) rfl rfl, ct_at F hS hP hD⟩ rfl rfl hl.1 rfl (lv_room (Nat.le_of_ble_eq_true rfl)) dX3_treatsOne_2 ⟨hC, hSl⟩) rfl rfl hD hS ?_
  rintro x1 _ H locs h hP hD hS
  refine lv_if_ne (tgt := 10) hx hb dX3_treatsOne_5 (by decide) (fun c4 => ?_) (fun c4 => ?_)
  · replace h := h.1 c4
    refine lv_aload_n hx hb dX3_treatsOne_10 rfl (lv_at hl 0 rfl) ?_
    refine va_get hx hb hts in_X3 hown hK hP 0 rfl rfl 12 (Nat.le_of_ble_eq_true rfl) (hts _ q1230) (fun _ h => h) (v := .ref (ad 12)) rfl dX3_treatsOne_11 ?_
    refine lv_bipush (v := (25 : Int32)) hx hb dX3_treatsOne_14 (by decide) ?_
    refine lv_iconst (v := (2 : Int32)) hx hb dX3_treatsOne_16 (by decide) ?_
    refine lv_iload_n hx hb dX3_treatsOne_17 rfl (lv_at hl 1 rfl) ?_
    refine lv_imul hx hb dX3_treatsOne_18 ?_
    refine lv_iadd hx hb dX3_treatsOne_19 ?_
    refine lv_iconst (v := (1 : Int32)) hx hb dX3_treatsOne_20 (by decide) ?_
    refine lv_iadd hx hb dX3_treatsOne_21 ?_
    refine lv_bipush (v := (9 : Int32)) hx hb dX3_treatsOne_22 (by decide) ?_
    refine lv_aload_n hx hb dX3_treatsOne_24 rfl (lv_at hl 0 rfl) ?_
    refine va_get hx hb hts in_X3 hown hK hP 0 rfl rfl 12 (Nat.le_of_ble_eq_true rfl) (hts _ q1230) (fun _ h => h) (v := .ref (ad 12)) rfl dX3_treatsOne_25 ?_
    refine lv_iload_n hx hb dX3_treatsOne_28 rfl (lv_at hl 1 rfl) ?_
    refine cl_i F (va_runS (As := [.ref (ad 12), .int v1]) (rest := [.int (9 : Int32), .int (((25 : Int32) + ((2 : Int32) * v1)) + (1 : Int32)), .ref (ad 12)]) ⟨hx, hb, hml, hown, hts⟩ (ct_M_moodOf_i12 h _) (va_cwS 2 hts (lw_S q1532 q1533 q97 q1534) rfl rfl rfl (by decide +kernel) ⟨Nat.le_trans (Nat.le_of_ble_eq_true rfl) hRf, Nat.le_trans (Nat.le_of_ble_eq_true rfl) hRl⟩) ⟨ct_blind, ct_at F hS hP hD⟩ rfl rfl hl.1 rfl (lv_room (Nat.le_of_ble_eq_true rfl)) dX3_treatsOne_29 ⟨hC, hSl⟩) rfl rfl hD hS ?_
    rintro x2 _ H locs h hP hD hS
    refine lv_iconst (v := (3 : Int32)) hx hb dX3_treatsOne_32 (by decide) ?_
    refine lv_iadd hx hb dX3_treatsOne_33 ?_
    refine va_mmin hx hb (hml.trans hl.1.symm) hown (hts _ q1402) (hts _ q336) (hts _ q100) (hts _ q337) (Nat.le_trans (Nat.le_of_ble_eq_true rfl) hRf) (Nat.le_trans (Nat.le_of_ble_eq_true rfl) hRl) hC hSl dX3_treatsOne_34 ?_
    refine pt_iast (f := (ar 12)) hx hb hK hP hD hS 8 0 rfl rfl h.1 dX3_treatsOne_37 wmA_12 (fun H locs hP hD hS => ?_)
    replace h := h.2
    refine lv_aload_n hx hb dX3_treatsOne_38 rfl (lv_at hl 0 rfl) ?_
    refine va_get hx hb hts in_X3 hown hK hP 0 rfl rfl 12 (Nat.le_of_ble_eq_true rfl) (hts _ q1230) (fun _ h => h) (v := .ref (ad 12)) rfl dX3_treatsOne_39 ?_
    refine lv_iload_n hx hb dX3_treatsOne_42 rfl (lv_at hl 1 rfl) ?_
    refine cl_i F (va_runS (As := [.ref (ad 12), .int v1]) (rest := []) ⟨hx, hb, hml, hown, hts⟩ (ct_M_moodOf_i12 h _) (va_cwS 2 hts (lw_S q1532 q1533 q97 q1534) rfl rfl rfl (by decide +kernel) ⟨Nat.le_trans (Nat.le_of_ble_eq_true rfl) hRf, Nat.le_trans (Nat.le_of_ble_eq_true rfl) hRl⟩) ⟨ct_blind, ct_at F hS hP hD⟩ rfl rfl hl.1 rfl (lv_room (Nat.le_of_ble_eq_true rfl)) dX3_treatsOne_43 ⟨hC, hSl⟩) rfl rfl hD hS ?_
    rintro x3 _ H locs h hP hD hS
    exact rt_i F dX3_treatsOne_46 rfl ((va_up ar 12 (upd (ar 12) (((25 : Int32) + ((2 : Int32) * v1)) + (1 : Int32)).toNatClampNeg (mnI (9 : Int32) (x2 + (3 : Int32)))))) h hP hD hS (Nat.le_refl _) (Nat.le_refl _)
  · replace h := h.2 c4
    refine lv_iconst (v := (-1 : Int32)) hx hb dX3_treatsOne_8 (by decide) ?_
    exact rt_i F dX3_treatsOne_9 rfl (ar) h hP hD hS (Nat.le_refl _) (Nat.le_refl _)
set_option maxHeartbeats 4000000 in
theorem ct_M_digs {l : Launch} {V : evT} {D : va_G} {gI : Nat → ClassId} {o : Nat} {ad : Nat → Nat} {v1 : Int32} {fd : Nat → Int32} {ar : Nat → Nat → Int32} {lw : Nat → Int64} {Q : Int32 → (Nat → Nat → Int32) → Prop} (h : wp_M_digs v1 fd ar lw Q) : ct_i l V D vwCl (tyL gI) yX3_digs cX3_digs 2 .int { frames := 3, cells := 0, slots := 0, locals := 58 } [.ref o, .int v1] (wm gI o ad fd ar lw) (fun u : (Nat → Nat → Int32) => (wm gI o ad fd u lw)) (fun (x : Int32) (u : (Nat → Nat → Int32)) => Q x u) := by
  refine ct_ofi RX3 rfl (by decide +kernel) (Nat.le_of_ble_eq_true rfl) ?_
  intro p e s m args below meth c A F hP hD ls hl
  obtain ⟨⟨hx, hb, hml, hown, hts⟩, hr, hlocks, hA, hK, hE⟩ := id F
  have hS : va_S A s.heap s.heap [] := va_S.rf
  have hl : lv_has ls 2 [(0, .ref o), (1, .int v1)] := hl
  have hRf : 3 ≤ ({ frames := 3, cells := 0, slots := 0, locals := 58 } : Room).frames := Nat.le_refl _
  have hRl : 58 ≤ ({ frames := 3, cells := 0, slots := 0, locals := 58 } : Room).locals := Nat.le_refl _
  have hC : 0 ≤ ({ frames := 3, cells := 0, slots := 0, locals := 58 } : Room).cells := Nat.le_refl _
  have hSl : 0 ≤ ({ frames := 3, cells := 0, slots := 0, locals := 58 } : Room).slots := Nat.le_refl _
  unfold wp_M_digs at h
  refine lv_aload_n hx hb dX3_digs_0 rfl (lv_at hl 0 rfl) ?_
  refine lv_iload_n hx hb dX3_digs_1 rfl (lv_at hl 1 rfl) ?_
  refine cl_i F (va_runV (As := [.int v1]) (rest := []) ⟨hx, hb, hml, hown, hts⟩ (ct_M_isCell h _) (cwV 1 hts (lw_V q1501 q1503 qs51 q97 q1504) rfl rfl rfl (by decide +kernel) ⟨Nat.le_trans (Nat.le_of_ble_eq_true rfl) hRf, Nat.le_trans (Nat.le_of_ble_eq_true rfl) hRl⟩) ⟨ct_blind, va_recv hK hP (ci := 2) (q0 := 0) rfl rfl, ct_at F hS hP hD⟩ rfl rfl hl.1 rfl (lv_room (Nat.le_of_ble_eq_true rfl)) dX3_digs_2 ⟨hC, hSl⟩) rfl rfl hD hS ?_
  rintro x1 _ H locs h hP hD hS
  refine lv_if_ne (tgt := 10) hx hb dX3_digs_5 (by decide) (fun c3 => ?_) (fun c3 => ?_)
  · replace h := h.1 c3
    refine lv_aload_n hx hb dX3_digs_10 rfl (lv_at hl 0 rfl) ?_
    refine va_get hx hb hts in_X3 hown hK hP 0 rfl rfl 12 (Nat.le_of_ble_eq_true rfl) (hts _ q1230) (fun _ h => h) (v := .ref (ad 12)) rfl dX3_digs_11 ?_
    refine lv_bipush (v := (12 : Int32)) hx hb dX3_digs_14 (by decide) ?_
    refine lv_dup2_11 hx hb dX3_digs_16 rfl rfl ?_
    refine va_iald (f := (ar 12)) hx hb hK hP 8 0 rfl rfl (by unfold vp_in; decide) dX3_digs_17 ?_
    refine lv_iconst (v := (1 : Int32)) hx hb dX3_digs_18 (by decide) ?_
    refine lv_iload_n hx hb dX3_digs_19 rfl (lv_at hl 1 rfl) ?_
    refine lv_ishl hx hb dX3_digs_20 ?_
    refine lv_ixor hx hb dX3_digs_21 ?_
    refine pt_iast (f := (ar 12)) hx hb hK hP hD hS 8 0 rfl rfl (by unfold vp_in; decide) dX3_digs_22 wmA_12 (fun H locs hP hD hS => ?_)
    refine lv_aload_n hx hb dX3_digs_23 rfl (lv_at hl 0 rfl) ?_
    refine va_get hx hb hts in_X3 hown hK hP 0 rfl rfl 12 (Nat.le_of_ble_eq_true rfl) (hts _ q1230) (fun _ h => h) (v := .ref (ad 12)) rfl dX3_digs_24 ?_
    refine lv_bipush (v := (12 : Int32)) hx hb dX3_digs_27 (by decide) ?_
    refine va_iald (f := (upd (ar 12) (12 : Int32).toNatClampNeg ((ar 12 (12 : Int32).toNatClampNeg) ^^^ ((1 : Int32) <<< (v1 &&& 31))))) hx hb hK hP 8 0 rfl rfl (by unfold vp_in; decide) dX3_digs_29 ?_
    refine cl_i0 F (va_runS (As := [.int ((upd (ar 12) (12 : Int32).toNatClampNeg ((ar 12 (12 : Int32).toNatClampNeg) ^^^ ((1 : Int32) <<< (v1 &&& 31)))) (12 : Int32).toNatClampNeg)]) (rest := []) ⟨hx, hb, hml, hown, hts⟩ (ct_J10_bitCount h _) (va_cwS 1 hts (lw_S q1552 q586 q112 q587) rfl rfl rfl (by decide +kernel) ⟨Nat.le_trans (Nat.le_of_ble_eq_true rfl) hRf, Nat.le_trans (Nat.le_of_ble_eq_true rfl) hRl⟩) ⟨ct_blind, ct_at F hS ct_nP ct_nD⟩ rfl rfl hl.1 rfl (lv_room (Nat.le_of_ble_eq_true rfl)) dX3_digs_30 ⟨hC, hSl⟩) rfl rfl hP hS ?_
    rintro x2 _ H locs h hP hS
    exact rt_i F dX3_digs_33 rfl ((va_up ar 12 (upd (ar 12) (12 : Int32).toNatClampNeg ((ar 12 (12 : Int32).toNatClampNeg) ^^^ ((1 : Int32) <<< (v1 &&& 31)))))) h hP hD hS (Nat.le_refl _) (Nat.le_refl _)
  · replace h := h.2 c3
    refine lv_iconst (v := (-1 : Int32)) hx hb dX3_digs_8 (by decide) ?_
    exact rt_i F dX3_digs_9 rfl (ar) h hP hD hS (Nat.le_refl _) (Nat.le_refl _)
set_option maxHeartbeats 4000000 in
theorem lp_M_ruled_L1 {p : Program} {l : Launch} {e : Env} {R : Room} {s : State} {m : MethodId} {args : Array Value} {below : List Frame} {meth : Method} {c : Code} {cells slots : Nat} {A : Nat → Prop} {Qf : State → Prop} {V : evT} {D : va_G} {gI : Nat → ClassId} {o : Nat} {ad : Nat → Nat} {fd : Nat → Int32} {lw : Nat → Int64} {K125 : (Nat → Nat → Int32) → Prop} (F : ct_F p m c meth cX3_ruled 4 s args RX3 (some .int) A V D vwCl (tyL gI)) (hRf : 3 ≤ R.frames) (hRl : 54 ≤ R.locals) (hC : cells ≤ R.cells) (hSl : slots ≤ R.slots)
    (hK125 : ∀ (ar : Nat → Nat → Int32), K125 ar → ∀ (H : Heap) (locs : List Loc) (ls : Array Slot), va_P D vwCl (wm gI o ad fd ar lw) H → va_D A (wm gI o ad fd ar lw) → va_S A s.heap H locs → lv_has ls 4 [(0, .ref o)] → W p l e R s m args below meth c H locs cells slots Qf (F0 m 125 ls [])) :
    ∀ (n : Nat) (v1 : Int32) (v2 : Int32) (ar : Nat → Nat → Int32), wp_M_ruled_L1 fd lw K125 n v1 v2 ar → ∀ (H : Heap) (locs : List Loc) (ls : Array Slot), va_P D vwCl (wm gI o ad fd ar lw) H → va_D A (wm gI o ad fd ar lw) → va_S A s.heap H locs → lv_has ls 4 [(0, .ref o), (1, .int v1), (2, .int v2)] → W p l e R s m args below meth c H locs cells slots Qf (F0 m 4 ls []) := by
  obtain ⟨⟨hx, hb, hml, hown, hts⟩, hr, hlocks, hA, hK, hE⟩ := id F
  intro n
  induction n with
  | zero => intro v1 v2 ar h; exact h.elim
  | succ n ih =>
    intro v1 v2 ar h H locs ls hP hD hS hl
    unfold wp_M_ruled_L1 at h
    refine lv_iload_n hx hb dX3_ruled_4 rfl (lv_at hl 2 rfl) ?_
    refine lv_aload_n hx hb dX3_ruled_5 rfl (lv_at hl 0 rfl) ?_
    refine va_get hx hb hts in_X3 hown hK hP 0 rfl rfl 23 (Nat.le_of_ble_eq_true rfl) (hts _ q1241) (fun _ h => h) (v := .int (fd 23)) rfl dX3_ruled_6 ?_
    refine lv_icmp_ge (tgt := 125) hx hb dX3_ruled_9 (by decide) (fun c5 => ?_) (fun c5 => ?_)
    · replace h := h.1 c5
      exact hK125 _ h _ _ _ hP hD hS (lv_sub hl [0] rfl)
    · replace h := h.2 c5
      refine lv_aload_n hx hb dX3_ruled_12 rfl (lv_at hl 0 rfl) ?_
      refine va_get hx hb hts in_X3 hown hK hP 0 rfl rfl 21 (Nat.le_of_ble_eq_true rfl) (hts _ q1239) (fun _ h => h) (v := .ref (ad 21)) rfl dX3_ruled_13 ?_
      refine lv_iload_n hx hb dX3_ruled_16 rfl (lv_at hl 2 rfl) ?_
      refine va_iald (f := (ar 21)) hx hb hK hP 12 0 rfl rfl h.1 dX3_ruled_17 ?_
      replace h := h.2
      refine lv_istore_n (lv' := [(3, .int (ar 21 v2.toNatClampNeg)), (0, .ref o), (1, .int v1), (2, .int v2)]) hx hb dX3_ruled_18 rfl hl (by decide) rfl (fun ls hl => ?_)
      refine lv_iload_n hx hb dX3_ruled_19 rfl (lv_at hl 0 rfl) ?_
      refine lv_sipush (v := (3000 : Int32)) hx hb dX3_ruled_20 (by decide) ?_
      refine lv_icmp_ne (tgt := 46) hx hb dX3_ruled_23 (by decide) (fun c4 => ?_) (fun c4 => ?_)
      · replace h := h.1 c4
        refine lv_iload_n hx hb dX3_ruled_46 rfl (lv_at hl 0 rfl) ?_
        refine lv_sipush (v := (2000 : Int32)) hx hb dX3_ruled_47 (by decide) ?_
        refine lv_icmp_lt (tgt := 89) hx hb dX3_ruled_50 (by decide) (fun c3 => ?_) (fun c3 => ?_)
        · replace h := h.1 c3
          refine lv_aload_n hx hb dX3_ruled_89 rfl (lv_at hl 1 rfl) ?_
          refine va_get hx hb hts in_X3 hown hK hP 0 rfl rfl 25 (Nat.le_of_ble_eq_true rfl) (hts _ q1243) (fun _ h => h) (v := .ref (ad 25)) rfl dX3_ruled_90 ?_
          refine lv_iload_n hx hb dX3_ruled_93 rfl (lv_at hl 2 rfl) ?_
          refine lv_iload_n hx hb dX3_ruled_94 rfl (lv_at hl 0 rfl) ?_
          refine lv_sipush (v := (1000 : Int32)) hx hb dX3_ruled_95 (by decide) ?_
          refine lv_icmp_lt (tgt := 114) hx hb dX3_ruled_98 (by decide) (fun c1 => ?_) (fun c1 => ?_)
          · replace h := h.1 c1
            refine lv_iload_n hx hb dX3_ruled_114 rfl (lv_at hl 0 rfl) ?_
            refine pt_iast (f := (ar 25)) hx hb hK hP hD hS 14 0 rfl rfl h.1 dX3_ruled_115 wmA_25 (fun H locs hP hD hS => ?_)
            replace h := h.2
            refine lv_iinc (v := (v1 + (1 : Int32))) (lv' := [(1, .int (v1 + (1 : Int32))), (3, .int (ar 21 v2.toNatClampNeg)), (0, .ref o), (2, .int v2)]) hx hb dX3_ruled_116 hl (k := 2) rfl rfl (by decide) rfl (fun ls hl => ?_)
            refine lv_iinc (v := (v2 + (1 : Int32))) (lv' := [(2, .int (v2 + (1 : Int32))), (1, .int (v1 + (1 : Int32))), (3, .int (ar 21 v2.toNatClampNeg)), (0, .ref o)]) hx hb dX3_ruled_119 hl (k := 3) rfl rfl (by decide) rfl (fun ls hl => ?_)
            refine lv_goto (tgt := 4) hx hb dX3_ruled_122 (by decide) ?_
            exact ih _ _ _ h _ _ _ hP hD hS (lv_sub hl [3, 1, 0] rfl)
          · replace h := h.2 c1
            refine lv_aload_n hx hb dX3_ruled_101 rfl (lv_at hl 1 rfl) ?_
            refine va_get hx hb hts in_X3 hown hK hP 0 rfl rfl 26 (Nat.le_of_ble_eq_true rfl) (hts _ q1244) (fun _ h => h) (v := .ref (ad 26)) rfl dX3_ruled_102 ?_
            refine lv_iload_n hx hb dX3_ruled_105 rfl (lv_at hl 0 rfl) ?_
            refine lv_sipush (v := (1000 : Int32)) hx hb dX3_ruled_106 (by decide) ?_
            refine lv_isub hx hb dX3_ruled_109 ?_
            refine va_iald (f := (ar 26)) hx hb hK hP 15 0 rfl rfl h.1 dX3_ruled_110 ?_
            replace h := h.2
            refine lv_goto (tgt := 115) hx hb dX3_ruled_111 (by decide) ?_
            refine pt_iast (f := (ar 25)) hx hb hK hP hD hS 14 0 rfl rfl h.1 dX3_ruled_115 wmA_25 (fun H locs hP hD hS => ?_)
            replace h := h.2
            refine lv_iinc (v := (v1 + (1 : Int32))) (lv' := [(1, .int (v1 + (1 : Int32))), (3, .int (ar 21 v2.toNatClampNeg)), (0, .ref o), (2, .int v2)]) hx hb dX3_ruled_116 hl (k := 2) rfl rfl (by decide) rfl (fun ls hl => ?_)
            refine lv_iinc (v := (v2 + (1 : Int32))) (lv' := [(2, .int (v2 + (1 : Int32))), (1, .int (v1 + (1 : Int32))), (3, .int (ar 21 v2.toNatClampNeg)), (0, .ref o)]) hx hb dX3_ruled_119 hl (k := 3) rfl rfl (by decide) rfl (fun ls hl => ?_)
            refine lv_goto (tgt := 4) hx hb dX3_ruled_122 (by decide) ?_
            exact ih _ _ _ h _ _ _ hP hD hS (lv_sub hl [3, 1, 0] rfl)
        · replace h := h.2 c3
          refine lv_iinc (v := (v1 + (-1 : Int32))) (lv' := [(1, .int (v1 + (-1 : Int32))), (3, .int (ar 21 v2.toNatClampNeg)), (0, .ref o), (2, .int v2)]) hx hb dX3_ruled_53 hl (k := 2) rfl rfl (by decide) rfl (fun ls hl => ?_)
          refine lv_aload_n hx hb dX3_ruled_56 rfl (lv_at hl 2 rfl) ?_
          refine va_get hx hb hts in_X3 hown hK hP 0 rfl rfl 25 (Nat.le_of_ble_eq_true rfl) (hts _ q1243) (fun _ h => h) (v := .ref (ad 25)) rfl dX3_ruled_57 ?_
          refine lv_iload_n hx hb dX3_ruled_60 rfl (lv_at hl 0 rfl) ?_
          refine lv_iconst (v := (1 : Int32)) hx hb dX3_ruled_61 (by decide) ?_
          refine lv_isub hx hb dX3_ruled_62 ?_
          refine lv_iload_n hx hb dX3_ruled_63 rfl (lv_at hl 1 rfl) ?_
          refine lv_sipush (v := (2000 : Int32)) hx hb dX3_ruled_64 (by decide) ?_
          refine lv_isub hx hb dX3_ruled_67 ?_
          refine lv_aload_n hx hb dX3_ruled_68 rfl (lv_at hl 2 rfl) ?_
          refine va_get hx hb hts in_X3 hown hK hP 0 rfl rfl 25 (Nat.le_of_ble_eq_true rfl) (hts _ q1243) (fun _ h => h) (v := .ref (ad 25)) rfl dX3_ruled_69 ?_
          refine lv_iload_n hx hb dX3_ruled_72 rfl (lv_at hl 0 rfl) ?_
          refine lv_iconst (v := (1 : Int32)) hx hb dX3_ruled_73 (by decide) ?_
          refine lv_isub hx hb dX3_ruled_74 ?_
          refine va_iald (f := (ar 25)) hx hb hK hP 14 0 rfl rfl h.1 dX3_ruled_75 ?_
          replace h := h.2
          refine lv_aload_n hx hb dX3_ruled_76 rfl (lv_at hl 2 rfl) ?_
          refine va_get hx hb hts in_X3 hown hK hP 0 rfl rfl 25 (Nat.le_of_ble_eq_true rfl) (hts _ q1243) (fun _ h => h) (v := .ref (ad 25)) rfl dX3_ruled_77 ?_
          refine lv_iload_n hx hb dX3_ruled_80 rfl (lv_at hl 0 rfl) ?_
          refine va_iald (f := (ar 25)) hx hb hK hP 14 0 rfl rfl h.1 dX3_ruled_81 ?_
          replace h := h.2
          refine cl_i0 F (va_runS (As := [.int ((ar 21 v2.toNatClampNeg) - (2000 : Int32)), .int (ar 25 ((v1 + (-1 : Int32)) - (1 : Int32)).toNatClampNeg), .int (ar 25 (v1 + (-1 : Int32)).toNatClampNeg)]) (rest := [.int ((v1 + (-1 : Int32)) - (1 : Int32)), .ref (ad 25)]) ⟨hx, hb, hml, hown, hts⟩ (ct_X3_worked h _) (va_cwS 3 hts (lw_S q1658 q1659 q97 q1660) rfl rfl rfl (by decide +kernel) ⟨Nat.le_trans (Nat.le_of_ble_eq_true rfl) hRf, Nat.le_trans (Nat.le_of_ble_eq_true rfl) hRl⟩) ⟨ct_blind, ct_at F hS ct_nP ct_nD⟩ rfl rfl hl.1 rfl (lv_room (Nat.le_of_ble_eq_true rfl)) dX3_ruled_82 ⟨hC, hSl⟩) rfl rfl hP hS ?_
          rintro x2 _ H locs h hP hS
          refine pt_iast (f := (ar 25)) hx hb hK hP hD hS 14 0 rfl rfl h.1 dX3_ruled_85 wmA_25 (fun H locs hP hD hS => ?_)
          replace h := h.2
          refine lv_goto (tgt := 119) hx hb dX3_ruled_86 (by decide) ?_
          refine lv_iinc (v := (v2 + (1 : Int32))) (lv' := [(2, .int (v2 + (1 : Int32))), (1, .int (v1 + (-1 : Int32))), (3, .int (ar 21 v2.toNatClampNeg)), (0, .ref o)]) hx hb dX3_ruled_119 hl (k := 3) rfl rfl (by decide) rfl (fun ls hl => ?_)
          refine lv_goto (tgt := 4) hx hb dX3_ruled_122 (by decide) ?_
          exact ih _ _ _ h _ _ _ hP hD hS (lv_sub hl [3, 1, 0] rfl)
      · replace h := h.2 c4
        refine lv_aload_n hx hb dX3_ruled_26 rfl (lv_at hl 1 rfl) ?_
        refine va_get hx hb hts in_X3 hown hK hP 0 rfl rfl 25 (Nat.le_of_ble_eq_true rfl) (hts _ q1243) (fun _ h => h) (v := .ref (ad 25)) rfl dX3_ruled_27 ?_
        refine lv_iload_n hx hb dX3_ruled_30 rfl (lv_at hl 2 rfl) ?_
        refine lv_iconst (v := (1 : Int32)) hx hb dX3_ruled_31 (by decide) ?_
        refine lv_isub hx hb dX3_ruled_32 ?_
        refine lv_aload_n hx hb dX3_ruled_33 rfl (lv_at hl 1 rfl) ?_
        refine va_get hx hb hts in_X3 hown hK hP 0 rfl rfl 25 (Nat.le_of_ble_eq_true rfl) (hts _ q1243) (fun _ h => h) (v := .ref (ad 25)) rfl dX3_ruled_34 ?_
        refine lv_iload_n hx hb dX3_ruled_37 rfl (lv_at hl 2 rfl) ?_
        refine lv_iconst (v := (1 : Int32)) hx hb dX3_ruled_38 (by decide) ?_
        refine lv_isub hx hb dX3_ruled_39 ?_
        refine va_iald (f := (ar 25)) hx hb hK hP 14 0 rfl rfl h.1 dX3_ruled_40 ?_
        replace h := h.2
        refine lv_ineg hx hb dX3_ruled_41 ?_
        refine pt_iast (f := (ar 25)) hx hb hK hP hD hS 14 0 rfl rfl h.1 dX3_ruled_42 wmA_25 (fun H locs hP hD hS => ?_)
        replace h := h.2
        refine lv_goto (tgt := 119) hx hb dX3_ruled_43 (by decide) ?_
        refine lv_iinc (v := (v2 + (1 : Int32))) (lv' := [(2, .int (v2 + (1 : Int32))), (3, .int (ar 21 v2.toNatClampNeg)), (0, .ref o), (1, .int v1)]) hx hb dX3_ruled_119 hl (k := 3) rfl rfl (by decide) rfl (fun ls hl => ?_)
        refine lv_goto (tgt := 4) hx hb dX3_ruled_122 (by decide) ?_
        exact ih _ _ _ h _ _ _ hP hD hS (lv_sub hl [2, 3, 0] rfl)
set_option maxHeartbeats 4000000 in
theorem ct_M_ruled {l : Launch} {V : evT} {D : va_G} {gI : Nat → ClassId} {o : Nat} {ad : Nat → Nat} {fd : Nat → Int32} {ar : Nat → Nat → Int32} {lw : Nat → Int64} {Q : Int32 → (Nat → Nat → Int32) → Prop} (h : wp_M_ruled fd ar lw Q) : ct_i l V D vwCl (tyL gI) yX3_ruled cX3_ruled 4 .int { frames := 3, cells := 0, slots := 0, locals := 54 } [.ref o] (wm gI o ad fd ar lw) (fun u : (Nat → Nat → Int32) => (wm gI o ad fd u lw)) (fun (x : Int32) (u : (Nat → Nat → Int32)) => Q x u) := by
  refine ct_ofi RX3 rfl (by decide +kernel) (Nat.le_of_ble_eq_true rfl) ?_
  intro p e s m args below meth c A F hP hD ls hl
  obtain ⟨⟨hx, hb, hml, hown, hts⟩, hr, hlocks, hA, hK, hE⟩ := id F
  have hS : va_S A s.heap s.heap [] := va_S.rf
  have hl : lv_has ls 4 [(0, .ref o)] := hl
  have hRf : 3 ≤ ({ frames := 3, cells := 0, slots := 0, locals := 54 } : Room).frames := Nat.le_refl _
  have hRl : 54 ≤ ({ frames := 3, cells := 0, slots := 0, locals := 54 } : Room).locals := Nat.le_refl _
  have hC : 0 ≤ ({ frames := 3, cells := 0, slots := 0, locals := 54 } : Room).cells := Nat.le_refl _
  have hSl : 0 ≤ ({ frames := 3, cells := 0, slots := 0, locals := 54 } : Room).slots := Nat.le_refl _
  unfold wp_M_ruled at h
  refine lv_iconst (v := (0 : Int32)) hx hb dX3_ruled_0 (by decide) ?_
  refine lv_istore_n (lv' := [(1, .int (0 : Int32)), (0, .ref o)]) hx hb dX3_ruled_1 rfl hl (by decide) rfl (fun ls hl => ?_)
  refine lv_iconst (v := (0 : Int32)) hx hb dX3_ruled_2 (by decide) ?_
  refine lv_istore_n (lv' := [(2, .int (0 : Int32)), (1, .int (0 : Int32)), (0, .ref o)]) hx hb dX3_ruled_3 rfl hl (by decide) rfl (fun ls hl => ?_)
  obtain ⟨k4, h⟩ := h
  refine lp_M_ruled_L1 F hRf hRl hC hSl ?hk125 k4 _ _ _ h _ _ _ hP hD hS (lv_sub hl [2, 1, 0] rfl)
  case hk125 =>
    intro ar_6 h H locs ls hP hD hS hl
    refine lv_aload_n hx hb dX3_ruled_125 rfl (lv_at hl 0 rfl) ?_
    refine va_get hx hb hts in_X3 hown hK hP 0 rfl rfl 23 (Nat.le_of_ble_eq_true rfl) (hts _ q1241) (fun _ h => h) (v := .int (fd 23)) rfl dX3_ruled_126 ?_
    refine lv_if_ne (tgt := 156) hx hb dX3_ruled_129 (by decide) (fun c7 => ?_) (fun c7 => ?_)
    · replace h := h.1 c7
      refine lv_aload_n hx hb dX3_ruled_156 rfl (lv_at hl 0 rfl) ?_
      refine va_get hx hb hts in_X3 hown hK hP 0 rfl rfl 25 (Nat.le_of_ble_eq_true rfl) (hts _ q1243) (fun _ h => h) (v := .ref (ad 25)) rfl dX3_ruled_157 ?_
      refine lv_iconst (v := (0 : Int32)) hx hb dX3_ruled_160 (by decide) ?_
      refine va_iald (f := (ar_6 25)) hx hb hK hP 14 0 rfl rfl (by unfold vp_in; decide) dX3_ruled_161 ?_
      exact rt_i F dX3_ruled_162 rfl (ar_6) h hP hD hS (Nat.le_refl _) (Nat.le_refl _)
    · replace h := h.2 c7
      refine lv_bipush (v := (30 : Int32)) hx hb dX3_ruled_132 (by decide) ?_
      refine lv_bipush (v := (10 : Int32)) hx hb dX3_ruled_134 (by decide) ?_
      refine lv_aload_n hx hb dX3_ruled_136 rfl (lv_at hl 0 rfl) ?_
      refine va_get hx hb hts in_X3 hown hK hP 0 rfl rfl 26 (Nat.le_of_ble_eq_true rfl) (hts _ q1244) (fun _ h => h) (v := .ref (ad 26)) rfl dX3_ruled_137 ?_
      refine lv_iconst (v := (1 : Int32)) hx hb dX3_ruled_140 (by decide) ?_
      refine va_iald (f := (ar_6 26)) hx hb hK hP 15 0 rfl rfl (by unfold vp_in; decide) dX3_ruled_141 ?_
      refine lv_imul hx hb dX3_ruled_142 ?_
      refine lv_iadd hx hb dX3_ruled_143 ?_
      refine lv_iconst (v := (5 : Int32)) hx hb dX3_ruled_144 (by decide) ?_
      refine lv_aload_n hx hb dX3_ruled_145 rfl (lv_at hl 0 rfl) ?_
      refine va_get hx hb hts in_X3 hown hK hP 0 rfl rfl 26 (Nat.le_of_ble_eq_true rfl) (hts _ q1244) (fun _ h => h) (v := .ref (ad 26)) rfl dX3_ruled_146 ?_
      refine lv_iconst (v := (0 : Int32)) hx hb dX3_ruled_149 (by decide) ?_
      refine va_iald (f := (ar_6 26)) hx hb hK hP 15 0 rfl rfl (by unfold vp_in; decide) dX3_ruled_150 ?_
      refine lv_imul hx hb dX3_ruled_151 ?_
      refine lv_iadd hx hb dX3_ruled_152 ?_
      refine lv_goto (tgt := 162) hx hb dX3_ruled_153 (by decide) ?_
      exact rt_i F dX3_ruled_162 rfl (ar_6) h hP hD hS (Nat.le_refl _) (Nat.le_refl _)
set_option maxHeartbeats 4000000 in
theorem ct_M_canFlood {l : Launch} {V : evT} {D : va_G} {gI : Nat → ClassId} {o : Nat} {ad : Nat → Nat} {v1 : Int32} {v2 : Int32} {fd : Nat → Int32} {ar : Nat → Nat → Int32} {lw : Nat → Int64} {Q : Int32 → Prop} (h : wp_M_canFlood v1 v2 fd ar lw Q) : ct_i l V D vwCl (tyL gI) yX3_canFlood cX3_canFlood 3 .boolean { frames := 3, cells := 0, slots := 0, locals := 58 } [.ref o, .int v1, .int v2] (wm gI o ad fd ar lw) (fun u : Unit => (wm gI o ad fd ar lw)) (fun (x : Int32) (u : Unit) => Q x) := by
  refine ct_ofi RX3 rfl (by decide +kernel) (Nat.le_of_ble_eq_true rfl) ?_
  intro p e s m args below meth c A F hP hD ls hl
  obtain ⟨⟨hx, hb, hml, hown, hts⟩, hr, hlocks, hA, hK, hE⟩ := id F
  have hS : va_S A s.heap s.heap [] := va_S.rf
  have hl : lv_has ls 3 [(0, .ref o), (1, .int v1), (2, .int v2)] := hl
  have hRf : 3 ≤ ({ frames := 3, cells := 0, slots := 0, locals := 58 } : Room).frames := Nat.le_refl _
  have hRl : 58 ≤ ({ frames := 3, cells := 0, slots := 0, locals := 58 } : Room).locals := Nat.le_refl _
  have hC : 0 ≤ ({ frames := 3, cells := 0, slots := 0, locals := 58 } : Room).cells := Nat.le_refl _
  have hSl : 0 ≤ ({ frames := 3, cells := 0, slots := 0, locals := 58 } : Room).slots := Nat.le_refl _
  unfold wp_M_canFlood at h
  refine lv_aload_n hx hb dX3_canFlood_0 rfl (lv_at hl 0 rfl) ?_
  refine lv_iload_n hx hb dX3_canFlood_1 rfl (lv_at hl 1 rfl) ?_
  refine cl_i F (va_runV (As := [.int v1]) (rest := []) ⟨hx, hb, hml, hown, hts⟩ (ct_M_isCell h _) (cwV 1 hts (lw_V q1501 q1503 qs51 q97 q1504) rfl rfl rfl (by decide +kernel) ⟨Nat.le_trans (Nat.le_of_ble_eq_true rfl) hRf, Nat.le_trans (Nat.le_of_ble_eq_true rfl) hRl⟩) ⟨ct_blind, va_recv hK hP (ci := 2) (q0 := 0) rfl rfl, ct_at F hS hP hD⟩ rfl rfl hl.1 rfl (lv_room (Nat.le_of_ble_eq_true rfl)) dX3_canFlood_2 ⟨hC, hSl⟩) rfl rfl hD hS ?_
  rintro x1 _ H locs h hP hD hS
  refine lv_if_eq (tgt := 24) hx hb dX3_canFlood_5 (by decide) (fun c4 => ?_) (fun c4 => ?_)
  · replace h := h.1 c4
    refine lv_iconst (v := (0 : Int32)) hx hb dX3_canFlood_24 (by decide) ?_
    exact rt_i F dX3_canFlood_25 rfl () h hP hD hS (Nat.le_refl _) (Nat.le_refl _)
  · replace h := h.2 c4
    refine lv_iload_n hx hb dX3_canFlood_8 rfl (lv_at hl 2 rfl) ?_
    refine lv_i2l (v := (v2.toInt64)) hx hb dX3_canFlood_9 rfl ?_
    refine lv_lconst (v := (1 : Int64)) hx hb dX3_canFlood_10 (by decide) ?_
    refine lv_ldc2 (v := (999 : Int64)) hx hb hown (hts _ q1734) dX3_canFlood_11 ?_
    refine cl_i0 F (va_runS (As := [.long (v2.toInt64), .long (1 : Int64), .long (999 : Int64)]) (rest := []) ⟨hx, hb, hml, hown, hts⟩ (ct_X3_in h _) (va_cwS 3 hts (lw_S q1391 q1392 q97 q1393) rfl rfl rfl (by decide +kernel) ⟨Nat.le_trans (Nat.le_of_ble_eq_true rfl) hRf, Nat.le_trans (Nat.le_of_ble_eq_true rfl) hRl⟩) ⟨ct_blind, ct_at F hS ct_nP ct_nD⟩ rfl rfl hl.1 rfl (lv_room (Nat.le_of_ble_eq_true rfl)) dX3_canFlood_14 ⟨hC, hSl⟩) rfl rfl hP hS ?_
    rintro x2 _ H locs h hP hS
    refine lv_if_eq (tgt := 24) hx hb dX3_canFlood_17 (by decide) (fun c3 => ?_) (fun c3 => ?_)
    · replace h := h.1 c3
      refine lv_iconst (v := (0 : Int32)) hx hb dX3_canFlood_24 (by decide) ?_
      exact rt_i F dX3_canFlood_25 rfl () h hP hD hS (Nat.le_refl _) (Nat.le_refl _)
    · replace h := h.2 c3
      refine lv_iconst (v := (1 : Int32)) hx hb dX3_canFlood_20 (by decide) ?_
      refine lv_goto (tgt := 25) hx hb dX3_canFlood_21 (by decide) ?_
      exact rt_i F dX3_canFlood_25 rfl () h hP hD hS (Nat.le_refl _) (Nat.le_refl _)
set_option maxHeartbeats 4000000 in
theorem lp_M_seen_J1 {p : Program} {l : Launch} {e : Env} {R : Room} {s : State} {m : MethodId} {args : Array Value} {below : List Frame} {meth : Method} {c : Code} {cells slots : Nat} {A : Nat → Prop} {V : evT} {D : va_G} {gI : Nat → ClassId} {o : Nat} {ad : Nat → Nat} {v1 : Int32} {v2 : Int32} {lw : Nat → Int64} {Q : Int32 → (Nat → Int32) → (Nat → Nat → Int32) → Prop} (F : ct_F p m c meth cX3_seen 3 s args RX3 (some .int) A V D vwCl (tyL gI)) (hRf : 3 ≤ R.frames) (hRl : 58 ≤ R.locals) (hC : cells ≤ R.cells) (hSl : slots ≤ R.slots) :
    ∀ (fd : Nat → Int32) (ar : Nat → Nat → Int32), wp_M_seen_J1 v1 v2 lw Q fd ar → ∀ (H : Heap) (locs : List Loc) (ls : Array Slot), va_P D vwCl (wm gI o ad fd ar lw) H → va_D A (wm gI o ad fd ar lw) → va_S A s.heap H locs → lv_has ls 3 [(0, .ref o), (1, .int v1), (2, .int v2)] → W p l e R s m args below meth c H locs cells slots (MQ below (va_Qi (fun (x : Int32) (u : (Nat → Int32) × (Nat → Nat → Int32)) => Q x u.1 u.2) (fun u t => va_P D vwCl (wm gI o ad u.1 u.2 lw) t.heap ∧ va_K D vwCl (tyL gI) t ∧ va_D A (wm gI o ad u.1 u.2 lw)) A) args s cells slots A) (F0 m 49 ls []) := by
  obtain ⟨⟨hx, hb, hml, hown, hts⟩, hr, hlocks, hA, hK, hE⟩ := id F
  intro fd ar h H locs ls hP hD hS hl
  unfold wp_M_seen_J1 at h
  refine lv_aload_n hx hb dX3_seen_49 rfl (lv_at hl 0 rfl) ?_
  refine lv_dup hx hb dX3_seen_50 rfl ?_
  refine va_get hx hb hts in_X3 hown hK hP 0 rfl rfl 42 (Nat.le_of_ble_eq_true rfl) (hts _ q1260) (fun _ h => h) (v := .int (fd 42)) rfl dX3_seen_51 ?_
  refine lv_iconst (v := (1 : Int32)) hx hb dX3_seen_54 (by decide) ?_
  refine lv_iload_n hx hb dX3_seen_55 rfl (lv_at hl 1 rfl) ?_
  refine lv_ishl hx hb dX3_seen_56 ?_
  refine lv_ior hx hb dX3_seen_57 ?_
  refine pt_put (v := .int ((fd 42) ||| ((1 : Int32) <<< (v1 &&& 31)))) hx hb hts in_X3 tyX3 tyX3_ok nmX3 hown hK hP hD hS 0 rfl rfl 42 (Nat.le_of_ble_eq_true rfl) (hts _ q1260) (fun _ h => h) rfl (ty := .int) (by decide +kernel) rfl rfl (Nat.le_of_ble_eq_true rfl) dX3_seen_58 wmF_42 (fun H locs hP hD hS => ?_)
  refine lv_aload_n hx hb dX3_seen_61 rfl (lv_at hl 0 rfl) ?_
  refine va_get hx hb hts in_X3 hown hK hP 0 rfl rfl 43 (Nat.le_of_ble_eq_true rfl) (hts _ q1261) (fun _ h => h) (v := .ref (ad 43)) rfl dX3_seen_62 ?_
  refine lv_iload_n hx hb dX3_seen_65 rfl (lv_at hl 1 rfl) ?_
  refine lv_iload_n hx hb dX3_seen_66 rfl (lv_at hl 2 rfl) ?_
  refine pt_iast (f := (ar 43)) hx hb hK hP hD hS 25 0 rfl rfl h.1 dX3_seen_67 wmA_43 (fun H locs hP hD hS => ?_)
  replace h := h.2
  refine lv_aload_n hx hb dX3_seen_68 rfl (lv_at hl 0 rfl) ?_
  refine va_get hx hb hts in_X3 hown hK hP 0 rfl rfl 42 (Nat.le_of_ble_eq_true rfl) (hts _ q1260) (fun _ h => h) (v := .int ((fd 42) ||| ((1 : Int32) <<< (v1 &&& 31)))) rfl dX3_seen_69 ?_
  refine cl_i0 F (va_runS (As := [.int ((fd 42) ||| ((1 : Int32) <<< (v1 &&& 31)))]) (rest := []) ⟨hx, hb, hml, hown, hts⟩ (ct_J10_bitCount h _) (va_cwS 1 hts (lw_S q1552 q586 q112 q587) rfl rfl rfl (by decide +kernel) ⟨Nat.le_trans (Nat.le_of_ble_eq_true rfl) hRf, Nat.le_trans (Nat.le_of_ble_eq_true rfl) hRl⟩) ⟨ct_blind, ct_at F hS ct_nP ct_nD⟩ rfl rfl hl.1 rfl (lv_room (Nat.le_of_ble_eq_true rfl)) dX3_seen_72 ⟨hC, hSl⟩) rfl rfl hP hS ?_
  rintro x4 _ H locs h hP hS
  exact rt_i F dX3_seen_75 rfl ((upd fd 42 ((fd 42) ||| ((1 : Int32) <<< (v1 &&& 31)))), (va_up ar 43 (upd (ar 43) v1.toNatClampNeg v2))) h hP hD hS (Nat.le_refl _) (Nat.le_refl _)
set_option maxHeartbeats 4000000 in
theorem ct_M_seen {l : Launch} {V : evT} {D : va_G} {gI : Nat → ClassId} {o : Nat} {ad : Nat → Nat} {v1 : Int32} {v2 : Int32} {fd : Nat → Int32} {ar : Nat → Nat → Int32} {lw : Nat → Int64} {Q : Int32 → (Nat → Int32) → (Nat → Nat → Int32) → Prop} (h : wp_M_seen v1 v2 fd ar lw Q) : ct_i l V D vwCl (tyL gI) yX3_seen cX3_seen 3 .int { frames := 3, cells := 0, slots := 0, locals := 58 } [.ref o, .int v1, .int v2] (wm gI o ad fd ar lw) (fun u : (Nat → Int32) × (Nat → Nat → Int32) => (wm gI o ad u.1 u.2 lw)) (fun (x : Int32) (u : (Nat → Int32) × (Nat → Nat → Int32)) => Q x u.1 u.2) := by
  refine ct_ofi RX3 rfl (by decide +kernel) (Nat.le_of_ble_eq_true rfl) ?_
  intro p e s m args below meth c A F hP hD ls hl
  obtain ⟨⟨hx, hb, hml, hown, hts⟩, hr, hlocks, hA, hK, hE⟩ := id F
  have hS : va_S A s.heap s.heap [] := va_S.rf
  have hl : lv_has ls 3 [(0, .ref o), (1, .int v1), (2, .int v2)] := hl
  have hRf : 3 ≤ ({ frames := 3, cells := 0, slots := 0, locals := 58 } : Room).frames := Nat.le_refl _
  have hRl : 58 ≤ ({ frames := 3, cells := 0, slots := 0, locals := 58 } : Room).locals := Nat.le_refl _
  have hC : 0 ≤ ({ frames := 3, cells := 0, slots := 0, locals := 58 } : Room).cells := Nat.le_refl _
  have hSl : 0 ≤ ({ frames := 3, cells := 0, slots := 0, locals := 58 } : Room).slots := Nat.le_refl _
  unfold wp_M_seen at h
  refine lv_aload_n hx hb dX3_seen_0 rfl (lv_at hl 0 rfl) ?_
  refine lv_iconst (v := (0 : Int32)) hx hb dX3_seen_1 (by decide) ?_
  refine pt_put (v := .int (0 : Int32)) hx hb hts in_X3 tyX3 tyX3_ok nmX3 hown hK hP hD hS 0 rfl rfl 0 (Nat.le_of_ble_eq_true rfl) (hts _ q1218) (fun _ h => h) rfl (ty := .int) (by decide +kernel) rfl rfl (Nat.le_of_ble_eq_true rfl) dX3_seen_2 wmF_0 (fun H locs hP hD hS => ?_)
  refine lv_aload_n hx hb dX3_seen_5 rfl (lv_at hl 0 rfl) ?_
  refine lv_iload_n hx hb dX3_seen_6 rfl (lv_at hl 1 rfl) ?_
  refine cl_i F (va_runV (As := [.int v1]) (rest := []) ⟨hx, hb, hml, hown, hts⟩ (ct_M_isCell h _) (cwV 1 hts (lw_V q1501 q1503 qs51 q97 q1504) rfl rfl rfl (by decide +kernel) ⟨Nat.le_trans (Nat.le_of_ble_eq_true rfl) hRf, Nat.le_trans (Nat.le_of_ble_eq_true rfl) hRl⟩) ⟨ct_blind, va_recv hK hP (ci := 2) (q0 := 0) rfl rfl, ct_at F hS hP hD⟩ rfl rfl hl.1 rfl (lv_room (Nat.le_of_ble_eq_true rfl)) dX3_seen_7 ⟨hC, hSl⟩) rfl rfl hD hS ?_
  rintro x1 _ H locs h hP hD hS
  refine lv_if_eq (tgt := 47) hx hb dX3_seen_10 (by decide) (fun c9 => ?_) (fun c9 => ?_)
  · replace h := h.1 c9
    refine lv_iconst (v := (-1 : Int32)) hx hb dX3_seen_47 (by decide) ?_
    exact rt_i F dX3_seen_48 rfl ((upd fd 0 (0 : Int32)), ar) h hP hD hS (Nat.le_refl _) (Nat.le_refl _)
  · replace h := h.2 c9
    refine lv_iload_n hx hb dX3_seen_13 rfl (lv_at hl 2 rfl) ?_
    refine lv_i2l (v := (v2.toInt64)) hx hb dX3_seen_14 rfl ?_
    refine lv_lconst (v := (0 : Int64)) hx hb dX3_seen_15 (by decide) ?_
    refine lv_ldc2 (v := (99 : Int64)) hx hb hown (hts _ q1673) dX3_seen_16 ?_
    refine cl_i0 F (va_runS (As := [.long (v2.toInt64), .long (0 : Int64), .long (99 : Int64)]) (rest := []) ⟨hx, hb, hml, hown, hts⟩ (ct_X3_in h _) (va_cwS 3 hts (lw_S q1391 q1392 q97 q1393) rfl rfl rfl (by decide +kernel) ⟨Nat.le_trans (Nat.le_of_ble_eq_true rfl) hRf, Nat.le_trans (Nat.le_of_ble_eq_true rfl) hRl⟩) ⟨ct_blind, ct_at F hS ct_nP ct_nD⟩ rfl rfl hl.1 rfl (lv_room (Nat.le_of_ble_eq_true rfl)) dX3_seen_19 ⟨hC, hSl⟩) rfl rfl hP hS ?_
    rintro x2 _ H locs h hP hS
    refine lv_if_eq (tgt := 47) hx hb dX3_seen_22 (by decide) (fun c8 => ?_) (fun c8 => ?_)
    · replace h := h.1 c8
      refine lv_iconst (v := (-1 : Int32)) hx hb dX3_seen_47 (by decide) ?_
      exact rt_i F dX3_seen_48 rfl ((upd fd 0 (0 : Int32)), ar) h hP hD hS (Nat.le_refl _) (Nat.le_refl _)
    · replace h := h.2 c8
      refine lv_aload_n hx hb dX3_seen_25 rfl (lv_at hl 0 rfl) ?_
      refine va_get hx hb hts in_X3 hown hK hP 0 rfl rfl 42 (Nat.le_of_ble_eq_true rfl) (hts _ q1260) (fun _ h => h) (v := .int (fd 42)) rfl dX3_seen_26 ?_
      refine lv_iload_n hx hb dX3_seen_29 rfl (lv_at hl 1 rfl) ?_
      refine cl_i0 F (va_runS (As := [.int (fd 42), .int v1]) (rest := []) ⟨hx, hb, hml, hown, hts⟩ (ct_X3_has h _) (va_cwS 2 hts (lw_S q1510 q1511 q97 q1512) rfl rfl rfl (by decide +kernel) ⟨Nat.le_trans (Nat.le_of_ble_eq_true rfl) hRf, Nat.le_trans (Nat.le_of_ble_eq_true rfl) hRl⟩) ⟨ct_blind, ct_at F hS ct_nP ct_nD⟩ rfl rfl hl.1 rfl (lv_room (Nat.le_of_ble_eq_true rfl)) dX3_seen_30 ⟨hC, hSl⟩) rfl rfl hP hS ?_
      rintro x3 _ H locs h hP hS
      refine lv_if_ne (tgt := 49) hx hb dX3_seen_33 (by decide) (fun c7 => ?_) (fun c7 => ?_)
      · replace h := h.1 c7
        refine lp_M_seen_J1 F hRf hRl hC hSl  _ _ h _ _ _ hP hD hS (lv_sub hl [0, 1, 2] rfl)
      · replace h := h.2 c7
        refine lv_aload_n hx hb dX3_seen_36 rfl (lv_at hl 0 rfl) ?_
        refine va_get hx hb hts in_X3 hown hK hP 0 rfl rfl 42 (Nat.le_of_ble_eq_true rfl) (hts _ q1260) (fun _ h => h) (v := .int (fd 42)) rfl dX3_seen_37 ?_
        refine cl_i0 F (va_runS (As := [.int (fd 42)]) (rest := []) ⟨hx, hb, hml, hown, hts⟩ (ct_J10_bitCount h _) (va_cwS 1 hts (lw_S q1552 q586 q112 q587) rfl rfl rfl (by decide +kernel) ⟨Nat.le_trans (Nat.le_of_ble_eq_true rfl) hRf, Nat.le_trans (Nat.le_of_ble_eq_true rfl) hRl⟩) ⟨ct_blind, ct_at F hS ct_nP ct_nD⟩ rfl rfl hl.1 rfl (lv_room (Nat.le_of_ble_eq_true rfl)) dX3_seen_40 ⟨hC, hSl⟩) rfl rfl hP hS ?_
        rintro x5 _ H locs h hP hS
        refine lv_iconst (v := (4 : Int32)) hx hb dX3_seen_43 (by decide) ?_
        refine lv_icmp_ne (tgt := 49) hx hb dX3_seen_44 (by decide) (fun c6 => ?_) (fun c6 => ?_)
        · replace h := h.1 c6
          refine lp_M_seen_J1 F hRf hRl hC hSl  _ _ h _ _ _ hP hD hS (lv_sub hl [0, 1, 2] rfl)
        · replace h := h.2 c6
          refine lv_iconst (v := (-1 : Int32)) hx hb dX3_seen_47 (by decide) ?_
          exact rt_i F dX3_seen_48 rfl ((upd fd 0 (0 : Int32)), ar) h hP hD hS (Nat.le_refl _) (Nat.le_refl _)
set_option maxHeartbeats 4000000 in
theorem lp_M_rests_L2 {p : Program} {l : Launch} {e : Env} {R : Room} {s : State} {m : MethodId} {args : Array Value} {below : List Frame} {meth : Method} {c : Code} {cells slots : Nat} {A : Nat → Prop} {Qf : State → Prop} {V : evT} {D : va_G} {gI : Nat → ClassId} {o : Nat} {ad : Nat → Nat} {v1 : Int32} {v2 : Int32} {v4 : Int32} {ar : Nat → Nat → Int32} {K109 : (Int32) → (Nat → Int32) → (Nat → Int64) → Prop} (F : ct_F p m c meth cX3_rests 6 s args RX3 (some .int) A V D vwCl (tyL gI)) (hRf : 3 ≤ R.frames) (hRl : 60 ≤ R.locals) (hC : cells ≤ R.cells) (hSl : slots ≤ R.slots)
    (hK109 : ∀ (v3 : Int32) (fd : Nat → Int32) (lw : Nat → Int64), K109 v3 fd lw → ∀ (H : Heap) (locs : List Loc) (ls : Array Slot), va_P D vwCl (wm gI o ad fd ar lw) H → va_D A (wm gI o ad fd ar lw) → va_S A s.heap H locs → lv_has ls 6 [(0, .ref o), (1, .int v1), (2, .int v2), (3, .int v3), (4, .int v4)] → W p l e R s m args below meth c H locs cells slots Qf (F0 m 109 ls [])) :
    ∀ (n : Nat) (v3 : Int32) (v5 : Int32) (fd : Nat → Int32) (lw : Nat → Int64), wp_M_rests_L2 v1 v2 v4 ar K109 n v3 v5 fd lw → ∀ (H : Heap) (locs : List Loc) (ls : Array Slot), va_P D vwCl (wm gI o ad fd ar lw) H → va_D A (wm gI o ad fd ar lw) → va_S A s.heap H locs → lv_has ls 6 [(0, .ref o), (1, .int v1), (2, .int v2), (3, .int v3), (4, .int v4), (5, .int v5)] → W p l e R s m args below meth c H locs cells slots Qf (F0 m 51 ls []) := by
  obtain ⟨⟨hx, hb, hml, hown, hts⟩, hr, hlocks, hA, hK, hE⟩ := id F
  intro n
  induction n with
  | zero => intro v3 v5 fd lw h; exact h.elim
  | succ n ih =>
    intro v3 v5 fd lw h H locs ls hP hD hS hl
    unfold wp_M_rests_L2 at h
    refine lv_iload hx hb dX3_rests_51 (lv_at hl 5 rfl) ?_
    refine lv_bipush (v := (9 : Int32)) hx hb dX3_rests_53 (by decide) ?_
    refine lv_icmp_gt (tgt := 109) hx hb dX3_rests_55 (by decide) (fun c12 => ?_) (fun c12 => ?_)
    · replace h := h.1 c12
      exact hK109 _ _ _ h _ _ _ hP hD hS (lv_sub hl [0, 1, 2, 3, 4] rfl)
    · replace h := h.2 c12
      refine lv_iload hx hb dX3_rests_58 (lv_at hl 4 rfl) ?_
      refine lv_iload hx hb dX3_rests_60 (lv_at hl 5 rfl) ?_
      refine lv_iload_n hx hb dX3_rests_62 rfl (lv_at hl 1 rfl) ?_
      refine lv_iload_n hx hb dX3_rests_63 rfl (lv_at hl 2 rfl) ?_
      refine cl_i0 F (va_runS (As := [.int v4, .int v5, .int v1, .int v2]) (rest := []) ⟨hx, hb, hml, hown, hts⟩ (ct_X3_isRest h _) (va_cwS 4 hts (lw_S q1830 q1831 q97 q1832) rfl rfl rfl (by decide +kernel) ⟨Nat.le_trans (Nat.le_of_ble_eq_true rfl) hRf, Nat.le_trans (Nat.le_of_ble_eq_true rfl) hRl⟩) ⟨ct_blind, ct_at F hS ct_nP ct_nD⟩ rfl rfl hl.1 rfl (lv_room (Nat.le_of_ble_eq_true rfl)) dX3_rests_64 ⟨hC, hSl⟩) rfl rfl hP hS ?_
      rintro x3 _ H locs h hP hS
      refine lv_if_eq (tgt := 103) hx hb dX3_rests_67 (by decide) (fun c11 => ?_) (fun c11 => ?_)
      · replace h := h.1 c11
        refine lv_iinc (v := (v5 + (1 : Int32))) (lv' := [(5, .int (v5 + (1 : Int32))), (0, .ref o), (1, .int v1), (2, .int v2), (3, .int v3), (4, .int v4)]) hx hb dX3_rests_103 hl (k := 5) rfl rfl (by decide) rfl (fun ls hl => ?_)
        refine lv_goto (tgt := 51) hx hb dX3_rests_106 (by decide) ?_
        exact ih _ _ _ _ h _ _ _ hP hD hS (lv_sub hl [1, 2, 3, 4, 5, 0] rfl)
      · replace h := h.2 c11
        refine lv_iload hx hb dX3_rests_70 (lv_at hl 5 rfl) ?_
        refine lv_iload hx hb dX3_rests_72 (lv_at hl 4 rfl) ?_
        refine lv_iload_n hx hb dX3_rests_74 rfl (lv_at hl 1 rfl) ?_
        refine lv_iload_n hx hb dX3_rests_75 rfl (lv_at hl 2 rfl) ?_
        refine cl_i0 F (va_runS (As := [.int v5, .int v4, .int v1, .int v2]) (rest := []) ⟨hx, hb, hml, hown, hts⟩ (ct_X3_isRest h _) (va_cwS 4 hts (lw_S q1830 q1831 q97 q1832) rfl rfl rfl (by decide +kernel) ⟨Nat.le_trans (Nat.le_of_ble_eq_true rfl) hRf, Nat.le_trans (Nat.le_of_ble_eq_true rfl) hRl⟩) ⟨ct_blind, ct_at F hS ct_nP ct_nD⟩ rfl rfl hl.1 rfl (lv_room (Nat.le_of_ble_eq_true rfl)) dX3_rests_76 ⟨hC, hSl⟩) rfl rfl hP hS ?_
        rintro x4 _ H locs h hP hS
        refine lv_if_eq (tgt := 103) hx hb dX3_rests_79 (by decide) (fun c10 => ?_) (fun c10 => ?_)
        · replace h := h.1 c10
          refine lv_iinc (v := (v5 + (1 : Int32))) (lv' := [(5, .int (v5 + (1 : Int32))), (0, .ref o), (1, .int v1), (2, .int v2), (3, .int v3), (4, .int v4)]) hx hb dX3_rests_103 hl (k := 5) rfl rfl (by decide) rfl (fun ls hl => ?_)
          refine lv_goto (tgt := 51) hx hb dX3_rests_106 (by decide) ?_
          exact ih _ _ _ _ h _ _ _ hP hD hS (lv_sub hl [1, 2, 3, 4, 5, 0] rfl)
        · replace h := h.2 c10
          refine lv_iload_n hx hb dX3_rests_82 rfl (lv_at hl 3 rfl) ?_
          refine lv_if_ne (tgt := 100) hx hb dX3_rests_83 (by decide) (fun c9 => ?_) (fun c9 => ?_)
          · replace h := h.1 c9
            refine lv_iinc (v := (v3 + (1 : Int32))) (lv' := [(3, .int (v3 + (1 : Int32))), (0, .ref o), (1, .int v1), (2, .int v2), (4, .int v4), (5, .int v5)]) hx hb dX3_rests_100 hl (k := 3) rfl rfl (by decide) rfl (fun ls hl => ?_)
            refine lv_iinc (v := (v5 + (1 : Int32))) (lv' := [(5, .int (v5 + (1 : Int32))), (3, .int (v3 + (1 : Int32))), (0, .ref o), (1, .int v1), (2, .int v2), (4, .int v4)]) hx hb dX3_rests_103 hl (k := 5) rfl rfl (by decide) rfl (fun ls hl => ?_)
            refine lv_goto (tgt := 51) hx hb dX3_rests_106 (by decide) ?_
            exact ih _ _ _ _ h _ _ _ hP hD hS (lv_sub hl [2, 3, 4, 1, 5, 0] rfl)
          · replace h := h.2 c9
            refine lv_aload_n hx hb dX3_rests_86 rfl (lv_at hl 0 rfl) ?_
            refine lv_iload hx hb dX3_rests_87 (lv_at hl 4 rfl) ?_
            refine lv_i2l (v := (v4.toInt64)) hx hb dX3_rests_89 rfl ?_
            refine cl_v F (va_runV (As := [.long (v4.toInt64)]) (rest := []) ⟨hx, hb, hml, hown, hts⟩ (ct_M_enters h _) (cwV 1 hts (lw_V q1634 q1636 qs70 q97 q1637) rfl rfl rfl (by decide +kernel) ⟨Nat.le_trans (Nat.le_of_ble_eq_true rfl) hRf, Nat.le_trans (Nat.le_of_ble_eq_true rfl) hRl⟩) ⟨ct_blind, va_recv hK hP (ci := 2) (q0 := 0) rfl rfl, ct_at F hS hP hD⟩ rfl rfl hl.1 rfl (lv_room (Nat.le_of_ble_eq_true rfl)) dX3_rests_90 ⟨hC, hSl⟩) rfl rfl hD hS ?_
            rintro ⟨fd5, lw6⟩ H locs h hP hD hS
            refine lv_aload_n hx hb dX3_rests_93 rfl (lv_at hl 0 rfl) ?_
            refine lv_iload hx hb dX3_rests_94 (lv_at hl 5 rfl) ?_
            refine lv_i2l (v := (v5.toInt64)) hx hb dX3_rests_96 rfl ?_
            refine cl_v F (va_runV (As := [.long (v5.toInt64)]) (rest := []) ⟨hx, hb, hml, hown, hts⟩ (ct_M_enters h _) (cwV 1 hts (lw_V q1634 q1636 qs70 q97 q1637) rfl rfl rfl (by decide +kernel) ⟨Nat.le_trans (Nat.le_of_ble_eq_true rfl) hRf, Nat.le_trans (Nat.le_of_ble_eq_true rfl) hRl⟩) ⟨ct_blind, va_recv hK hP (ci := 2) (q0 := 0) rfl rfl, ct_at F hS hP hD⟩ rfl rfl hl.1 rfl (lv_room (Nat.le_of_ble_eq_true rfl)) dX3_rests_97 ⟨hC, hSl⟩) rfl rfl hD hS ?_
            rintro ⟨fd7, lw8⟩ H locs h hP hD hS
            refine lv_iinc (v := (v3 + (1 : Int32))) (lv' := [(3, .int (v3 + (1 : Int32))), (0, .ref o), (1, .int v1), (2, .int v2), (4, .int v4), (5, .int v5)]) hx hb dX3_rests_100 hl (k := 3) rfl rfl (by decide) rfl (fun ls hl => ?_)
            refine lv_iinc (v := (v5 + (1 : Int32))) (lv' := [(5, .int (v5 + (1 : Int32))), (3, .int (v3 + (1 : Int32))), (0, .ref o), (1, .int v1), (2, .int v2), (4, .int v4)]) hx hb dX3_rests_103 hl (k := 5) rfl rfl (by decide) rfl (fun ls hl => ?_)
            refine lv_goto (tgt := 51) hx hb dX3_rests_106 (by decide) ?_
            exact ih _ _ _ _ h _ _ _ hP hD hS (lv_sub hl [2, 3, 4, 1, 5, 0] rfl)
set_option maxHeartbeats 4000000 in
theorem lp_M_rests_L1 {p : Program} {l : Launch} {e : Env} {R : Room} {s : State} {m : MethodId} {args : Array Value} {below : List Frame} {meth : Method} {c : Code} {cells slots : Nat} {A : Nat → Prop} {Qf : State → Prop} {V : evT} {D : va_G} {gI : Nat → ClassId} {o : Nat} {ad : Nat → Nat} {v1 : Int32} {v2 : Int32} {ar : Nat → Nat → Int32} {K115 : (Int32) → (Nat → Int32) → (Nat → Int64) → Prop} (F : ct_F p m c meth cX3_rests 6 s args RX3 (some .int) A V D vwCl (tyL gI)) (hRf : 3 ≤ R.frames) (hRl : 60 ≤ R.locals) (hC : cells ≤ R.cells) (hSl : slots ≤ R.slots)
    (hK115 : ∀ (v3 : Int32) (fd : Nat → Int32) (lw : Nat → Int64), K115 v3 fd lw → ∀ (H : Heap) (locs : List Loc) (ls : Array Slot), va_P D vwCl (wm gI o ad fd ar lw) H → va_D A (wm gI o ad fd ar lw) → va_S A s.heap H locs → lv_has ls 6 [(3, .int v3)] → W p l e R s m args below meth c H locs cells slots Qf (F0 m 115 ls [])) :
    ∀ (n : Nat) (v3 : Int32) (v4 : Int32) (fd : Nat → Int32) (lw : Nat → Int64), wp_M_rests_L1 v1 v2 ar K115 n v3 v4 fd lw → ∀ (H : Heap) (locs : List Loc) (ls : Array Slot), va_P D vwCl (wm gI o ad fd ar lw) H → va_D A (wm gI o ad fd ar lw) → va_S A s.heap H locs → lv_has ls 6 [(0, .ref o), (1, .int v1), (2, .int v2), (3, .int v3), (4, .int v4)] → W p l e R s m args below meth c H locs cells slots Qf (F0 m 41 ls []) := by
  obtain ⟨⟨hx, hb, hml, hown, hts⟩, hr, hlocks, hA, hK, hE⟩ := id F
  intro n
  induction n with
  | zero => intro v3 v4 fd lw h; exact h.elim
  | succ n ih =>
    intro v3 v4 fd lw h H locs ls hP hD hS hl
    unfold wp_M_rests_L1 at h
    refine lv_iload hx hb dX3_rests_41 (lv_at hl 4 rfl) ?_
    refine lv_bipush (v := (9 : Int32)) hx hb dX3_rests_43 (by decide) ?_
    refine lv_icmp_gt (tgt := 115) hx hb dX3_rests_45 (by decide) (fun c16 => ?_) (fun c16 => ?_)
    · replace h := h.1 c16
      exact hK115 _ _ _ h _ _ _ hP hD hS (lv_sub hl [3] rfl)
    · replace h := h.2 c16
      refine lv_iconst (v := (0 : Int32)) hx hb dX3_rests_48 (by decide) ?_
      refine lv_istore (lv' := [(5, .int (0 : Int32)), (0, .ref o), (1, .int v1), (2, .int v2), (3, .int v3), (4, .int v4)]) hx hb dX3_rests_49 hl (by decide) rfl (fun ls hl => ?_)
      obtain ⟨k51, h⟩ := h
      refine lp_M_rests_L2 F hRf hRl hC hSl ?hk109 k51 _ _ _ _ h _ _ _ hP hD hS (lv_sub hl [1, 2, 3, 4, 5, 0] rfl)
      case hk109 =>
        intro v3_13 fd_14 lw_15 h H locs ls hP hD hS hl
        refine lv_iinc (v := (v4 + (1 : Int32))) (lv' := [(4, .int (v4 + (1 : Int32))), (0, .ref o), (1, .int v1), (2, .int v2), (3, .int v3_13)]) hx hb dX3_rests_109 hl (k := 4) rfl rfl (by decide) rfl (fun ls hl => ?_)
        refine lv_goto (tgt := 41) hx hb dX3_rests_112 (by decide) ?_
        exact ih _ _ _ _ h _ _ _ hP hD hS (lv_sub hl [1, 2, 3, 4, 0] rfl)
set_option maxHeartbeats 4000000 in
theorem ct_M_rests {l : Launch} {V : evT} {D : va_G} {gI : Nat → ClassId} {o : Nat} {ad : Nat → Nat} {v1 : Int32} {v2 : Int32} {fd : Nat → Int32} {ar : Nat → Nat → Int32} {lw : Nat → Int64} {Q : Int32 → (Nat → Int32) → (Nat → Int64) → Prop} (h : wp_M_rests v1 v2 fd ar lw Q) : ct_i l V D vwCl (tyL gI) yX3_rests cX3_rests 6 .int { frames := 3, cells := 0, slots := 0, locals := 60 } [.ref o, .int v1, .int v2] (wm gI o ad fd ar lw) (fun u : (Nat → Int32) × (Nat → Int64) => (wm gI o ad u.1 ar u.2)) (fun (x : Int32) (u : (Nat → Int32) × (Nat → Int64)) => Q x u.1 u.2) := by
  refine ct_ofi RX3 rfl (by decide +kernel) (Nat.le_of_ble_eq_true rfl) ?_
  intro p e s m args below meth c A F hP hD ls hl
  obtain ⟨⟨hx, hb, hml, hown, hts⟩, hr, hlocks, hA, hK, hE⟩ := id F
  have hS : va_S A s.heap s.heap [] := va_S.rf
  have hl : lv_has ls 6 [(0, .ref o), (1, .int v1), (2, .int v2)] := hl
  have hRf : 3 ≤ ({ frames := 3, cells := 0, slots := 0, locals := 60 } : Room).frames := Nat.le_refl _
  have hRl : 60 ≤ ({ frames := 3, cells := 0, slots := 0, locals := 60 } : Room).locals := Nat.le_refl _
  have hC : 0 ≤ ({ frames := 3, cells := 0, slots := 0, locals := 60 } : Room).cells := Nat.le_refl _
  have hSl : 0 ≤ ({ frames := 3, cells := 0, slots := 0, locals := 60 } : Room).slots := Nat.le_refl _
  unfold wp_M_rests at h
  refine lv_aload_n hx hb dX3_rests_0 rfl (lv_at hl 0 rfl) ?_
  refine lv_iconst (v := (0 : Int32)) hx hb dX3_rests_1 (by decide) ?_
  refine pt_put (v := .int (0 : Int32)) hx hb hts in_X3 tyX3 tyX3_ok nmX3 hown hK hP hD hS 0 rfl rfl 0 (Nat.le_of_ble_eq_true rfl) (hts _ q1218) (fun _ h => h) rfl (ty := .int) (by decide +kernel) rfl rfl (Nat.le_of_ble_eq_true rfl) dX3_rests_2 wmF_0 (fun H locs hP hD hS => ?_)
  refine lv_iload_n hx hb dX3_rests_5 rfl (lv_at hl 1 rfl) ?_
  refine lv_i2l (v := (v1.toInt64)) hx hb dX3_rests_6 rfl ?_
  refine lv_lconst (v := (1 : Int64)) hx hb dX3_rests_7 (by decide) ?_
  refine lv_ldc2 (v := (99 : Int64)) hx hb hown (hts _ q1673) dX3_rests_8 ?_
  refine cl_i0 F (va_runS (As := [.long (v1.toInt64), .long (1 : Int64), .long (99 : Int64)]) (rest := []) ⟨hx, hb, hml, hown, hts⟩ (ct_X3_in h _) (va_cwS 3 hts (lw_S q1391 q1392 q97 q1393) rfl rfl rfl (by decide +kernel) ⟨Nat.le_trans (Nat.le_of_ble_eq_true rfl) hRf, Nat.le_trans (Nat.le_of_ble_eq_true rfl) hRl⟩) ⟨ct_blind, ct_at F hS ct_nP ct_nD⟩ rfl rfl hl.1 rfl (lv_room (Nat.le_of_ble_eq_true rfl)) dX3_rests_11 ⟨hC, hSl⟩) rfl rfl hP hS ?_
  rintro x1 _ H locs h hP hS
  refine lv_if_eq (tgt := 29) hx hb dX3_rests_14 (by decide) (fun c21 => ?_) (fun c21 => ?_)
  · replace h := h.1 c21
    refine lv_iconst (v := (-1 : Int32)) hx hb dX3_rests_29 (by decide) ?_
    exact rt_i F dX3_rests_30 rfl ((upd fd 0 (0 : Int32)), lw) h hP hD hS (Nat.le_refl _) (Nat.le_refl _)
  · replace h := h.2 c21
    refine lv_iload_n hx hb dX3_rests_17 rfl (lv_at hl 2 rfl) ?_
    refine lv_i2l (v := (v2.toInt64)) hx hb dX3_rests_18 rfl ?_
    refine lv_lconst (v := (0 : Int64)) hx hb dX3_rests_19 (by decide) ?_
    refine lv_ldc2 (v := (9 : Int64)) hx hb hown (hts _ q1554) dX3_rests_20 ?_
    refine cl_i0 F (va_runS (As := [.long (v2.toInt64), .long (0 : Int64), .long (9 : Int64)]) (rest := []) ⟨hx, hb, hml, hown, hts⟩ (ct_X3_in h _) (va_cwS 3 hts (lw_S q1391 q1392 q97 q1393) rfl rfl rfl (by decide +kernel) ⟨Nat.le_trans (Nat.le_of_ble_eq_true rfl) hRf, Nat.le_trans (Nat.le_of_ble_eq_true rfl) hRl⟩) ⟨ct_blind, ct_at F hS ct_nP ct_nD⟩ rfl rfl hl.1 rfl (lv_room (Nat.le_of_ble_eq_true rfl)) dX3_rests_23 ⟨hC, hSl⟩) rfl rfl hP hS ?_
    rintro x2 _ H locs h hP hS
    refine lv_if_ne (tgt := 31) hx hb dX3_rests_26 (by decide) (fun c20 => ?_) (fun c20 => ?_)
    · replace h := h.1 c20
      refine lv_iconst (v := (0 : Int32)) hx hb dX3_rests_31 (by decide) ?_
      refine lv_istore_n (lv' := [(3, .int (0 : Int32)), (0, .ref o), (1, .int v1), (2, .int v2)]) hx hb dX3_rests_32 rfl hl (by decide) rfl (fun ls hl => ?_)
      refine lv_aload_n hx hb dX3_rests_33 rfl (lv_at hl 1 rfl) ?_
      refine lv_iconst (v := (0 : Int32)) hx hb dX3_rests_34 (by decide) ?_
      refine pt_put (v := .int (0 : Int32)) hx hb hts in_X3 tyX3 tyX3_ok nmX3 hown hK hP hD hS 0 rfl rfl 1 (Nat.le_of_ble_eq_true rfl) (hts _ q1219) (fun _ h => h) rfl (ty := .int) (by decide +kernel) rfl rfl (Nat.le_of_ble_eq_true rfl) dX3_rests_35 wmF_1 (fun H locs hP hD hS => ?_)
      refine lv_iconst (v := (0 : Int32)) hx hb dX3_rests_38 (by decide) ?_
      refine lv_istore (lv' := [(4, .int (0 : Int32)), (3, .int (0 : Int32)), (0, .ref o), (1, .int v1), (2, .int v2)]) hx hb dX3_rests_39 hl (by decide) rfl (fun ls hl => ?_)
      obtain ⟨k41, h⟩ := h
      refine lp_M_rests_L1 F hRf hRl hC hSl ?hk115 k41 _ _ _ _ h _ _ _ hP hD hS (lv_sub hl [2, 3, 4, 1, 0] rfl)
      case hk115 =>
        intro v3_17 fd_18 lw_19 h H locs ls hP hD hS hl
        refine lv_iload_n hx hb dX3_rests_115 rfl (lv_at hl 0 rfl) ?_
        exact rt_i F dX3_rests_116 rfl (fd_18, lw_19) h hP hD hS (Nat.le_refl _) (Nat.le_refl _)
    · replace h := h.2 c20
      refine lv_iconst (v := (-1 : Int32)) hx hb dX3_rests_29 (by decide) ?_
      exact rt_i F dX3_rests_30 rfl ((upd fd 0 (0 : Int32)), lw) h hP hD hS (Nat.le_refl _) (Nat.le_refl _)
set_option maxHeartbeats 4000000 in
theorem ct_M_count {l : Launch} {V : evT} {D : va_G} {gI : Nat → ClassId} {o : Nat} {ad : Nat → Nat} {v1 : Int32} {fd : Nat → Int32} {ar : Nat → Nat → Int32} {lw : Nat → Int64} {Q : Int32 → (Nat → Int32) → Prop} (h : wp_M_count v1 fd ar lw Q) : ct_i l V D vwCl (tyL gI) yX3_count cX3_count 2 .int { frames := 3, cells := 0, slots := 0, locals := 57 } [.ref o, .int v1] (wm gI o ad fd ar lw) (fun u : (Nat → Int32) => (wm gI o ad u ar lw)) (fun (x : Int32) (u : (Nat → Int32)) => Q x u) := by
  refine ct_ofi RX3 rfl (by decide +kernel) (Nat.le_of_ble_eq_true rfl) ?_
  intro p e s m args below meth c A F hP hD ls hl
  obtain ⟨⟨hx, hb, hml, hown, hts⟩, hr, hlocks, hA, hK, hE⟩ := id F
  have hS : va_S A s.heap s.heap [] := va_S.rf
  have hl : lv_has ls 2 [(0, .ref o), (1, .int v1)] := hl
  have hRf : 3 ≤ ({ frames := 3, cells := 0, slots := 0, locals := 57 } : Room).frames := Nat.le_refl _
  have hRl : 57 ≤ ({ frames := 3, cells := 0, slots := 0, locals := 57 } : Room).locals := Nat.le_refl _
  have hC : 0 ≤ ({ frames := 3, cells := 0, slots := 0, locals := 57 } : Room).cells := Nat.le_refl _
  have hSl : 0 ≤ ({ frames := 3, cells := 0, slots := 0, locals := 57 } : Room).slots := Nat.le_refl _
  unfold wp_M_count at h
  refine lv_aload_n hx hb dX3_count_0 rfl (lv_at hl 0 rfl) ?_
  refine lv_iconst (v := (0 : Int32)) hx hb dX3_count_1 (by decide) ?_
  refine pt_put (v := .int (0 : Int32)) hx hb hts in_X3 tyX3 tyX3_ok nmX3 hown hK hP hD hS 0 rfl rfl 0 (Nat.le_of_ble_eq_true rfl) (hts _ q1218) (fun _ h => h) rfl (ty := .int) (by decide +kernel) rfl rfl (Nat.le_of_ble_eq_true rfl) dX3_count_2 wmF_0 (fun H locs hP hD hS => ?_)
  refine lv_iload_n hx hb dX3_count_5 rfl (lv_at hl 1 rfl) ?_
  by_cases c1 : v1 = (0 : Int32)
  · replace h := h.1 c1
    refine lv_tableIn (off := 70) (tgt := 76) hx hb dX3_count_6 (by rw [c1]; decide) (by rw [c1]; decide) (by rw [c1]; rfl) (by decide) ?_
    refine lv_aload_n hx hb dX3_count_76 rfl (lv_at hl 0 rfl) ?_
    refine va_get hx hb hts in_X3 hown hK hP 0 rfl rfl 3 (Nat.le_of_ble_eq_true rfl) (hts _ q1221) (fun _ h => h) (v := .int (fd 3)) rfl dX3_count_77 ?_
    exact rt_i F dX3_count_80 rfl ((upd fd 0 (0 : Int32))) h hP hD hS (Nat.le_refl _) (Nat.le_refl _)
  replace h := h.2 c1
  by_cases c2 : v1 = (1 : Int32)
  · replace h := h.1 c2
    refine lv_tableIn (off := 75) (tgt := 81) hx hb dX3_count_6 (by rw [c2]; decide) (by rw [c2]; decide) (by rw [c2]; rfl) (by decide) ?_
    refine lv_aload_n hx hb dX3_count_81 rfl (lv_at hl 0 rfl) ?_
    refine va_get hx hb hts in_X3 hown hK hP 0 rfl rfl 4 (Nat.le_of_ble_eq_true rfl) (hts _ q1222) (fun _ h => h) (v := .int (fd 4)) rfl dX3_count_82 ?_
    exact rt_i F dX3_count_85 rfl ((upd fd 0 (0 : Int32))) h hP hD hS (Nat.le_refl _) (Nat.le_refl _)
  replace h := h.2 c2
  by_cases c3 : v1 = (2 : Int32)
  · replace h := h.1 c3
    refine lv_tableIn (off := 80) (tgt := 86) hx hb dX3_count_6 (by rw [c3]; decide) (by rw [c3]; decide) (by rw [c3]; rfl) (by decide) ?_
    refine lv_aload_n hx hb dX3_count_86 rfl (lv_at hl 0 rfl) ?_
    refine va_get hx hb hts in_X3 hown hK hP 0 rfl rfl 12 (Nat.le_of_ble_eq_true rfl) (hts _ q1230) (fun _ h => h) (v := .ref (ad 12)) rfl dX3_count_87 ?_
    refine lv_bipush (v := (42 : Int32)) hx hb dX3_count_90 (by decide) ?_
    refine va_iald (f := (ar 12)) hx hb hK hP 8 0 rfl rfl (by unfold vp_in; decide) dX3_count_92 ?_
    exact rt_i F dX3_count_93 rfl ((upd fd 0 (0 : Int32))) h hP hD hS (Nat.le_refl _) (Nat.le_refl _)
  replace h := h.2 c3
  by_cases c4 : v1 = (3 : Int32)
  · replace h := h.1 c4
    refine lv_tableIn (off := 88) (tgt := 94) hx hb dX3_count_6 (by rw [c4]; decide) (by rw [c4]; decide) (by rw [c4]; rfl) (by decide) ?_
    refine lv_aload_n hx hb dX3_count_94 rfl (lv_at hl 0 rfl) ?_
    refine va_get hx hb hts in_X3 hown hK hP 0 rfl rfl 11 (Nat.le_of_ble_eq_true rfl) (hts _ q1229) (fun _ h => h) (v := .ref (ad 11)) rfl dX3_count_95 ?_
    refine lv_iconst (v := (0 : Int32)) hx hb dX3_count_98 (by decide) ?_
    refine va_iald (f := (ar 11)) hx hb hK hP 7 0 rfl rfl (by unfold vp_in; decide) dX3_count_99 ?_
    exact rt_i F dX3_count_100 rfl ((upd fd 0 (0 : Int32))) h hP hD hS (Nat.le_refl _) (Nat.le_refl _)
  replace h := h.2 c4
  by_cases c5 : v1 = (4 : Int32)
  · replace h := h.1 c5
    refine lv_tableIn (off := 95) (tgt := 101) hx hb dX3_count_6 (by rw [c5]; decide) (by rw [c5]; decide) (by rw [c5]; rfl) (by decide) ?_
    refine lv_aload_n hx hb dX3_count_101 rfl (lv_at hl 0 rfl) ?_
    refine va_get hx hb hts in_X3 hown hK hP 0 rfl rfl 11 (Nat.le_of_ble_eq_true rfl) (hts _ q1229) (fun _ h => h) (v := .ref (ad 11)) rfl dX3_count_102 ?_
    refine lv_iconst (v := (1 : Int32)) hx hb dX3_count_105 (by decide) ?_
    refine va_iald (f := (ar 11)) hx hb hK hP 7 0 rfl rfl (by unfold vp_in; decide) dX3_count_106 ?_
    exact rt_i F dX3_count_107 rfl ((upd fd 0 (0 : Int32))) h hP hD hS (Nat.le_refl _) (Nat.le_refl _)
  replace h := h.2 c5
  by_cases c6 : v1 = (5 : Int32)
  · replace h := h.1 c6
    refine lv_tableIn (off := 102) (tgt := 108) hx hb dX3_count_6 (by rw [c6]; decide) (by rw [c6]; decide) (by rw [c6]; rfl) (by decide) ?_
    refine lv_aload_n hx hb dX3_count_108 rfl (lv_at hl 0 rfl) ?_
    refine va_get hx hb hts in_X3 hown hK hP 0 rfl rfl 12 (Nat.le_of_ble_eq_true rfl) (hts _ q1230) (fun _ h => h) (v := .ref (ad 12)) rfl dX3_count_109 ?_
    refine lv_bipush (v := (41 : Int32)) hx hb dX3_count_112 (by decide) ?_
    refine va_iald (f := (ar 12)) hx hb hK hP 8 0 rfl rfl (by unfold vp_in; decide) dX3_count_114 ?_
    exact rt_i F dX3_count_115 rfl ((upd fd 0 (0 : Int32))) h hP hD hS (Nat.le_refl _) (Nat.le_refl _)
  replace h := h.2 c6
  by_cases c7 : v1 = (6 : Int32)
  · replace h := h.1 c7
    refine lv_tableIn (off := 110) (tgt := 116) hx hb dX3_count_6 (by rw [c7]; decide) (by rw [c7]; decide) (by rw [c7]; rfl) (by decide) ?_
    refine lv_aload_n hx hb dX3_count_116 rfl (lv_at hl 0 rfl) ?_
    refine va_get hx hb hts in_X3 hown hK hP 0 rfl rfl 12 (Nat.le_of_ble_eq_true rfl) (hts _ q1230) (fun _ h => h) (v := .ref (ad 12)) rfl dX3_count_117 ?_
    refine lv_bipush (v := (12 : Int32)) hx hb dX3_count_120 (by decide) ?_
    refine va_iald (f := (ar 12)) hx hb hK hP 8 0 rfl rfl (by unfold vp_in; decide) dX3_count_122 ?_
    exact rt_i F dX3_count_123 rfl ((upd fd 0 (0 : Int32))) h hP hD hS (Nat.le_refl _) (Nat.le_refl _)
  replace h := h.2 c7
  by_cases c8 : v1 = (7 : Int32)
  · replace h := h.1 c8
    refine lv_tableIn (off := 118) (tgt := 124) hx hb dX3_count_6 (by rw [c8]; decide) (by rw [c8]; decide) (by rw [c8]; rfl) (by decide) ?_
    refine lv_aload_n hx hb dX3_count_124 rfl (lv_at hl 0 rfl) ?_
    refine lv_aload_n hx hb dX3_count_125 rfl (lv_at hl 0 rfl) ?_
    refine va_get hx hb hts in_X3 hown hK hP 0 rfl rfl 12 (Nat.le_of_ble_eq_true rfl) (hts _ q1230) (fun _ h => h) (v := .ref (ad 12)) rfl dX3_count_126 ?_
    refine cl_i F (va_runV (As := [.ref (ad 12)]) (rest := []) ⟨hx, hb, hml, hown, hts⟩ (ct_M_wet_i12 h _) (cwV 1 hts (lw_V q1674 q1676 qs77 q97 q1677) rfl rfl rfl (by decide +kernel) ⟨Nat.le_trans (Nat.le_of_ble_eq_true rfl) hRf, Nat.le_trans (Nat.le_of_ble_eq_true rfl) hRl⟩) ⟨ct_blind, va_recv hK hP (ci := 2) (q0 := 0) rfl rfl, ct_at F hS hP hD⟩ rfl rfl hl.1 rfl (lv_room (Nat.le_of_ble_eq_true rfl)) dX3_count_129 ⟨hC, hSl⟩) rfl rfl hD hS ?_
    rintro x9 _ H locs h hP hD hS
    exact rt_i F dX3_count_132 rfl ((upd fd 0 (0 : Int32))) h hP hD hS (Nat.le_refl _) (Nat.le_refl _)
  replace h := h.2 c8
  by_cases c10 : v1 = (8 : Int32)
  · replace h := h.1 c10
    refine lv_tableIn (off := 127) (tgt := 133) hx hb dX3_count_6 (by rw [c10]; decide) (by rw [c10]; decide) (by rw [c10]; rfl) (by decide) ?_
    refine lv_aload_n hx hb dX3_count_133 rfl (lv_at hl 0 rfl) ?_
    refine lv_aload_n hx hb dX3_count_134 rfl (lv_at hl 0 rfl) ?_
    refine va_get hx hb hts in_X3 hown hK hP 0 rfl rfl 12 (Nat.le_of_ble_eq_true rfl) (hts _ q1230) (fun _ h => h) (v := .ref (ad 12)) rfl dX3_count_135 ?_
    refine lv_iconst (v := (-1 : Int32)) hx hb dX3_count_138 (by decide) ?_
    refine cl_i F (va_runV (As := [.ref (ad 12), .int (-1 : Int32)]) (rest := []) ⟨hx, hb, hml, hown, hts⟩ (ct_M_childrenAt_i12 h _) (cwV 2 hts (lw_V q1513 q1515 qs53 q97 q1516) rfl rfl rfl (by decide +kernel) ⟨Nat.le_trans (Nat.le_of_ble_eq_true rfl) hRf, Nat.le_trans (Nat.le_of_ble_eq_true rfl) hRl⟩) ⟨ct_blind, va_recv hK hP (ci := 2) (q0 := 0) rfl rfl, ct_at F hS hP hD⟩ rfl rfl hl.1 rfl (lv_room (Nat.le_of_ble_eq_true rfl)) dX3_count_139 ⟨hC, hSl⟩) rfl rfl hD hS ?_
    rintro x11 _ H locs h hP hD hS
    exact rt_i F dX3_count_142 rfl ((upd fd 0 (0 : Int32))) h hP hD hS (Nat.le_refl _) (Nat.le_refl _)
  replace h := h.2 c10
  by_cases c12 : v1 = (9 : Int32)
  · replace h := h.1 c12
    refine lv_tableIn (off := 137) (tgt := 143) hx hb dX3_count_6 (by rw [c12]; decide) (by rw [c12]; decide) (by rw [c12]; rfl) (by decide) ?_
    refine lv_aload_n hx hb dX3_count_143 rfl (lv_at hl 0 rfl) ?_
    refine lv_aload_n hx hb dX3_count_144 rfl (lv_at hl 0 rfl) ?_
    refine va_get hx hb hts in_X3 hown hK hP 0 rfl rfl 12 (Nat.le_of_ble_eq_true rfl) (hts _ q1230) (fun _ h => h) (v := .ref (ad 12)) rfl dX3_count_145 ?_
    refine cl_i F (va_runV (As := [.ref (ad 12)]) (rest := []) ⟨hx, hb, hml, hown, hts⟩ (ct_M_wallAll_i12 h _) (cwV 1 hts (lw_V q1622 q1624 qs67 q97 q1625) rfl rfl rfl (by decide +kernel) ⟨Nat.le_trans (Nat.le_of_ble_eq_true rfl) hRf, Nat.le_trans (Nat.le_of_ble_eq_true rfl) hRl⟩) ⟨ct_blind, va_recv hK hP (ci := 2) (q0 := 0) rfl rfl, ct_at F hS hP hD⟩ rfl rfl hl.1 rfl (lv_room (Nat.le_of_ble_eq_true rfl)) dX3_count_148 ⟨hC, hSl⟩) rfl rfl hD hS ?_
    rintro x13 _ H locs h hP hD hS
    exact rt_i F dX3_count_151 rfl ((upd fd 0 (0 : Int32))) h hP hD hS (Nat.le_refl _) (Nat.le_refl _)
  replace h := h.2 c12
  by_cases c14 : v1 = (10 : Int32)
  · replace h := h.1 c14
    refine lv_tableIn (off := 146) (tgt := 152) hx hb dX3_count_6 (by rw [c14]; decide) (by rw [c14]; decide) (by rw [c14]; rfl) (by decide) ?_
    refine lv_aload_n hx hb dX3_count_152 rfl (lv_at hl 0 rfl) ?_
    refine va_get hx hb hts in_X3 hown hK hP 0 rfl rfl 42 (Nat.le_of_ble_eq_true rfl) (hts _ q1260) (fun _ h => h) (v := .int (fd 42)) rfl dX3_count_153 ?_
    exact rt_i F dX3_count_156 rfl ((upd fd 0 (0 : Int32))) h hP hD hS (Nat.le_refl _) (Nat.le_refl _)
  replace h := h.2 c14
  by_cases c15 : v1 = (11 : Int32)
  · replace h := h.1 c15
    refine lv_tableIn (off := 151) (tgt := 157) hx hb dX3_count_6 (by rw [c15]; decide) (by rw [c15]; decide) (by rw [c15]; rfl) (by decide) ?_
    refine lv_aload_n hx hb dX3_count_157 rfl (lv_at hl 0 rfl) ?_
    refine va_get hx hb hts in_X3 hown hK hP 0 rfl rfl 27 (Nat.le_of_ble_eq_true rfl) (hts _ q1245) (fun _ h => h) (v := .int (fd 27)) rfl dX3_count_158 ?_
    exact rt_i F dX3_count_161 rfl ((upd fd 0 (0 : Int32))) h hP hD hS (Nat.le_refl _) (Nat.le_refl _)
  replace h := h.2 c15
  by_cases c16 : v1 = (12 : Int32)
  · replace h := h.1 c16
    refine lv_tableIn (off := 156) (tgt := 162) hx hb dX3_count_6 (by rw [c16]; decide) (by rw [c16]; decide) (by rw [c16]; rfl) (by decide) ?_
    refine lv_aload_n hx hb dX3_count_162 rfl (lv_at hl 0 rfl) ?_
    refine va_get hx hb hts in_X3 hown hK hP 0 rfl rfl 1 (Nat.le_of_ble_eq_true rfl) (hts _ q1219) (fun _ h => h) (v := .int (fd 1)) rfl dX3_count_163 ?_
    exact rt_i F dX3_count_166 rfl ((upd fd 0 (0 : Int32))) h hP hD hS (Nat.le_refl _) (Nat.le_refl _)
  replace h := h.2 c16
  by_cases c17 : v1 = (13 : Int32)
  · replace h := h.1 c17
    refine lv_tableIn (off := 161) (tgt := 167) hx hb dX3_count_6 (by rw [c17]; decide) (by rw [c17]; decide) (by rw [c17]; rfl) (by decide) ?_
    refine lv_aload_n hx hb dX3_count_167 rfl (lv_at hl 0 rfl) ?_
    refine va_get hx hb hts in_X3 hown hK hP 0 rfl rfl 15 (Nat.le_of_ble_eq_true rfl) (hts _ q1233) (fun _ h => h) (v := .int (fd 15)) rfl dX3_count_168 ?_
    exact rt_i F dX3_count_171 rfl ((upd fd 0 (0 : Int32))) h hP hD hS (Nat.le_refl _) (Nat.le_refl _)
  replace h := h.2 c17
  have hsw : v1.toInt < (0 : Int) ∨ (13 : Int) < v1.toInt := by
    have := lv_neT (a := 0) c1 (by decide)
    have := lv_neT (a := 1) c2 (by decide)
    have := lv_neT (a := 2) c3 (by decide)
    have := lv_neT (a := 3) c4 (by decide)
    have := lv_neT (a := 4) c5 (by decide)
    have := lv_neT (a := 5) c6 (by decide)
    have := lv_neT (a := 6) c7 (by decide)
    have := lv_neT (a := 7) c8 (by decide)
    have := lv_neT (a := 8) c10 (by decide)
    have := lv_neT (a := 9) c12 (by decide)
    have := lv_neT (a := 10) c14 (by decide)
    have := lv_neT (a := 11) c15 (by decide)
    have := lv_neT (a := 12) c16 (by decide)
    have := lv_neT (a := 13) c17 (by decide)
    omega
  refine lv_tableOut (tgt := 172) hx hb dX3_count_6 hsw (by decide) ?_
  refine lv_bipush (v := (-100 : Int32)) hx hb dX3_count_172 (by decide) ?_
  exact rt_i F dX3_count_174 rfl ((upd fd 0 (0 : Int32))) h hP hD hS (Nat.le_refl _) (Nat.le_refl _)
set_option maxHeartbeats 4000000 in
theorem lp_M_shore_J5 {p : Program} {l : Launch} {e : Env} {R : Room} {s : State} {m : MethodId} {args : Array Value} {below : List Frame} {meth : Method} {c : Code} {cells slots : Nat} {A : Nat → Prop} {Qf : State → Prop} {V : evT} {D : va_G} {gI : Nat → ClassId} {o : Nat} {ad : Nat → Nat} {fd : Nat → Int32} {ar : Nat → Nat → Int32} {lw : Nat → Int64} {K16 : (Int32) → (Int32) → Prop} (F : ct_F p m c meth cX3_shore 4 s args RX3 (some .int) A V D vwCl (tyL gI)) (hRf : 4 ≤ R.frames) (hRl : 80 ≤ R.locals) (hC : cells ≤ R.cells) (hSl : slots ≤ R.slots)
    (hK16 : ∀ (v1 : Int32) (v2 : Int32), K16 v1 v2 → ∀ (H : Heap) (locs : List Loc) (ls : Array Slot), va_P D vwCl (wm gI o ad fd ar lw) H → va_D A (wm gI o ad fd ar lw) → va_S A s.heap H locs → lv_has ls 4 [(0, .ref o), (1, .int v1), (2, .int v2)] → W p l e R s m args below meth c H locs cells slots Qf (F0 m 16 ls [])) :
    ∀ (v1 : Int32) (t0 : Int32), wp_M_shore_J5 fd ar lw K16 v1 t0 → ∀ (H : Heap) (locs : List Loc) (ls : Array Slot), va_P D vwCl (wm gI o ad fd ar lw) H → va_D A (wm gI o ad fd ar lw) → va_S A s.heap H locs → lv_has ls 4 [(0, .ref o), (1, .int v1)] → W p l e R s m args below meth c H locs cells slots Qf (F0 m 151 ls [.int t0]) := by
  obtain ⟨⟨hx, hb, hml, hown, hts⟩, hr, hlocks, hA, hK, hE⟩ := id F
  intro v1 t0 h H locs ls hP hD hS hl
  unfold wp_M_shore_J5 at h
  refine lv_istore_n (lv' := [(2, .int t0), (0, .ref o), (1, .int v1)]) hx hb dX3_shore_151 rfl hl (by decide) rfl (fun ls hl => ?_)
  refine lv_iload_n hx hb dX3_shore_152 rfl (lv_at hl 2 rfl) ?_
  refine lv_iload_n hx hb dX3_shore_153 rfl (lv_at hl 0 rfl) ?_
  refine cl_i0 F (va_runS (As := [.int t0]) (rest := [.int v1]) ⟨hx, hb, hml, hown, hts⟩ (ct_X3_flag h _) (va_cwS 1 hts (lw_S q1407 q1408 q97 q1409) rfl rfl rfl (by decide +kernel) ⟨Nat.le_trans (Nat.le_of_ble_eq_true rfl) hRf, Nat.le_trans (Nat.le_of_ble_eq_true rfl) hRl⟩) ⟨ct_blind, ct_at F hS ct_nP ct_nD⟩ rfl rfl hl.1 rfl (lv_room (Nat.le_of_ble_eq_true rfl)) dX3_shore_154 ⟨hC, hSl⟩) rfl rfl hP hS ?_
  rintro x5 _ H locs h hP hS
  refine lv_iadd hx hb dX3_shore_157 ?_
  refine lv_istore_n (lv' := [(1, .int (v1 + x5)), (2, .int t0), (0, .ref o)]) hx hb dX3_shore_158 rfl hl (by decide) rfl (fun ls hl => ?_)
  refine lv_goto (tgt := 16) hx hb dX3_shore_159 (by decide) ?_
  exact hK16 _ _ h _ _ _ hP hD hS (lv_sub hl [2, 0, 1] rfl)
set_option maxHeartbeats 4000000 in
theorem lp_M_shore_J4 {p : Program} {l : Launch} {e : Env} {R : Room} {s : State} {m : MethodId} {args : Array Value} {below : List Frame} {meth : Method} {c : Code} {cells slots : Nat} {A : Nat → Prop} {Qf : State → Prop} {V : evT} {D : va_G} {gI : Nat → ClassId} {o : Nat} {ad : Nat → Nat} {lw : Nat → Int64} {K16 : (Int32) → (Int32) → (Nat → Int32) → (Nat → Nat → Int32) → Prop} (F : ct_F p m c meth cX3_shore 4 s args RX3 (some .int) A V D vwCl (tyL gI)) (hRf : 4 ≤ R.frames) (hRl : 80 ≤ R.locals) (hC : cells ≤ R.cells) (hSl : slots ≤ R.slots)
    (hK16 : ∀ (v1 : Int32) (v2 : Int32) (fd : Nat → Int32) (ar : Nat → Nat → Int32), K16 v1 v2 fd ar → ∀ (H : Heap) (locs : List Loc) (ls : Array Slot), va_P D vwCl (wm gI o ad fd ar lw) H → va_D A (wm gI o ad fd ar lw) → va_S A s.heap H locs → lv_has ls 4 [(0, .ref o), (1, .int v1), (2, .int v2)] → W p l e R s m args below meth c H locs cells slots Qf (F0 m 16 ls [])) :
    ∀ (v1 : Int32) (v2 : Int32) (fd : Nat → Int32) (ar : Nat → Nat → Int32), wp_M_shore_J4 lw K16 v1 v2 fd ar → ∀ (H : Heap) (locs : List Loc) (ls : Array Slot), va_P D vwCl (wm gI o ad fd ar lw) H → va_D A (wm gI o ad fd ar lw) → va_S A s.heap H locs → lv_has ls 4 [(0, .ref o), (1, .int v1), (2, .int v2)] → W p l e R s m args below meth c H locs cells slots Qf (F0 m 118 ls []) := by
  obtain ⟨⟨hx, hb, hml, hown, hts⟩, hr, hlocks, hA, hK, hE⟩ := id F
  intro v1 v2 fd ar h H locs ls hP hD hS hl
  unfold wp_M_shore_J4 at h
  refine lv_iload_n hx hb dX3_shore_118 rfl (lv_at hl 2 rfl) ?_
  refine lv_if_eq (tgt := 16) hx hb dX3_shore_119 (by decide) (fun c11 => ?_) (fun c11 => ?_)
  · replace h := h.1 c11
    exact hK16 _ _ _ _ h _ _ _ hP hD hS (lv_sub hl [0, 1, 2] rfl)
  · replace h := h.2 c11
    refine lv_aload_n hx hb dX3_shore_122 rfl (lv_at hl 0 rfl) ?_
    refine va_get hx hb hts in_X3 hown hK hP 0 rfl rfl 19 (Nat.le_of_ble_eq_true rfl) (hts _ q1237) (fun _ h => h) (v := .ref (ad 19)) rfl dX3_shore_123 ?_
    refine lv_iconst (v := (2 : Int32)) hx hb dX3_shore_126 (by decide) ?_
    refine lv_iload_n hx hb dX3_shore_127 rfl (lv_at hl 1 rfl) ?_
    refine lv_imul hx hb dX3_shore_128 ?_
    refine lv_aload_n hx hb dX3_shore_129 rfl (lv_at hl 0 rfl) ?_
    refine lv_iconst (v := (1 : Int32)) hx hb dX3_shore_130 (by decide) ?_
    refine cl_i F (va_runV (As := [.int (1 : Int32)]) (rest := [.int ((2 : Int32) * v1), .ref (ad 19)]) ⟨hx, hb, hml, hown, hts⟩ (ct_M_number h _) (cwV 1 hts (lw_V q1410 q1412 qs38 q97 q1413) rfl rfl rfl (by decide +kernel) ⟨Nat.le_trans (Nat.le_of_ble_eq_true rfl) hRf, Nat.le_trans (Nat.le_of_ble_eq_true rfl) hRl⟩) ⟨ct_blind, va_recv hK hP (ci := 2) (q0 := 0) rfl rfl, ct_at F hS hP hD⟩ rfl rfl hl.1 rfl (lv_room (Nat.le_of_ble_eq_true rfl)) dX3_shore_131 ⟨hC, hSl⟩) rfl rfl hD hS ?_
    rintro x3 fd4 H locs h hP hD hS
    refine pt_iast (f := (ar 19)) hx hb hK hP hD hS 11 0 rfl rfl h.1 dX3_shore_134 wmA_19 (fun H locs hP hD hS => ?_)
    replace h := h.2
    refine lv_aload_n hx hb dX3_shore_135 rfl (lv_at hl 0 rfl) ?_
    refine va_get hx hb hts in_X3 hown hK hP 0 rfl rfl 19 (Nat.le_of_ble_eq_true rfl) (hts _ q1237) (fun _ h => h) (v := .ref (ad 19)) rfl dX3_shore_136 ?_
    refine lv_iconst (v := (2 : Int32)) hx hb dX3_shore_139 (by decide) ?_
    refine lv_iload_n hx hb dX3_shore_140 rfl (lv_at hl 1 rfl) ?_
    refine lv_imul hx hb dX3_shore_141 ?_
    refine va_iald (f := (upd (ar 19) ((2 : Int32) * v1).toNatClampNeg x3)) hx hb hK hP 11 0 rfl rfl h.1 dX3_shore_142 ?_
    replace h := h.2
    refine lv_if_lt (tgt := 150) hx hb dX3_shore_143 (by decide) (fun c10 => ?_) (fun c10 => ?_)
    · replace h := h.1 c10
      refine lv_iconst (v := (0 : Int32)) hx hb dX3_shore_150 (by decide) ?_
      refine lp_M_shore_J5 F hRf hRl hC hSl ?hk16 _ _ h _ _ _ hP hD hS (lv_sub hl [0, 1] rfl)
      case hk16 =>
        intro v1_6 v2_7 h H locs ls hP hD hS hl
        exact hK16 _ _ _ _ h _ _ _ hP hD hS (lv_sub hl [0, 1, 2] rfl)
    · replace h := h.2 c10
      refine lv_iconst (v := (1 : Int32)) hx hb dX3_shore_146 (by decide) ?_
      refine lv_goto (tgt := 151) hx hb dX3_shore_147 (by decide) ?_
      refine lp_M_shore_J5 F hRf hRl hC hSl ?hk16 _ _ h _ _ _ hP hD hS (lv_sub hl [0, 1] rfl)
      case hk16 =>
        intro v1_8 v2_9 h H locs ls hP hD hS hl
        exact hK16 _ _ _ _ h _ _ _ hP hD hS (lv_sub hl [0, 1, 2] rfl)
set_option maxHeartbeats 4000000 in
theorem lp_M_shore_J6 {p : Program} {l : Launch} {e : Env} {R : Room} {s : State} {m : MethodId} {args : Array Value} {below : List Frame} {meth : Method} {c : Code} {cells slots : Nat} {A : Nat → Prop} {Qf : State → Prop} {V : evT} {D : va_G} {gI : Nat → ClassId} {o : Nat} {ad : Nat → Nat} {lw : Nat → Int64} {K16 : (Int32) → (Int32) → (Nat → Int32) → (Nat → Nat → Int32) → Prop} (F : ct_F p m c meth cX3_shore 4 s args RX3 (some .int) A V D vwCl (tyL gI)) (hRf : 4 ≤ R.frames) (hRl : 80 ≤ R.locals) (hC : cells ≤ R.cells) (hSl : slots ≤ R.slots)
    (hK16 : ∀ (v1 : Int32) (v2 : Int32) (fd : Nat → Int32) (ar : Nat → Nat → Int32), K16 v1 v2 fd ar → ∀ (H : Heap) (locs : List Loc) (ls : Array Slot), va_P D vwCl (wm gI o ad fd ar lw) H → va_D A (wm gI o ad fd ar lw) → va_S A s.heap H locs → lv_has ls 4 [(0, .ref o), (1, .int v1), (2, .int v2)] → W p l e R s m args below meth c H locs cells slots Qf (F0 m 16 ls [])) :
    ∀ (v1 : Int32) (t0 : Int32) (fd : Nat → Int32) (ar : Nat → Nat → Int32), wp_M_shore_J6 lw K16 v1 t0 fd ar → ∀ (H : Heap) (locs : List Loc) (ls : Array Slot), va_P D vwCl (wm gI o ad fd ar lw) H → va_D A (wm gI o ad fd ar lw) → va_S A s.heap H locs → lv_has ls 4 [(0, .ref o), (1, .int v1)] → W p l e R s m args below meth c H locs cells slots Qf (F0 m 117 ls [.int t0]) := by
  obtain ⟨⟨hx, hb, hml, hown, hts⟩, hr, hlocks, hA, hK, hE⟩ := id F
  intro v1 t0 fd ar h H locs ls hP hD hS hl
  unfold wp_M_shore_J6 at h
  refine lv_istore_n (lv' := [(2, .int t0), (0, .ref o), (1, .int v1)]) hx hb dX3_shore_117 rfl hl (by decide) rfl (fun ls hl => ?_)
  refine lp_M_shore_J4 F hRf hRl hC hSl ?hk16 _ _ _ _ h _ _ _ hP hD hS (lv_sub hl [1, 2, 0] rfl)
  case hk16 =>
    intro v1_28 v2_29 fd_30 ar_31 h H locs ls hP hD hS hl
    exact hK16 _ _ _ _ h _ _ _ hP hD hS (lv_sub hl [0, 1, 2] rfl)
set_option maxHeartbeats 4000000 in
theorem lp_M_shore_J3 {p : Program} {l : Launch} {e : Env} {R : Room} {s : State} {m : MethodId} {args : Array Value} {below : List Frame} {meth : Method} {c : Code} {cells slots : Nat} {A : Nat → Prop} {Qf : State → Prop} {V : evT} {D : va_G} {gI : Nat → ClassId} {o : Nat} {ad : Nat → Nat} {lw : Nat → Int64} {K16 : (Int32) → (Int32) → (Nat → Int32) → (Nat → Nat → Int32) → Prop} (F : ct_F p m c meth cX3_shore 4 s args RX3 (some .int) A V D vwCl (tyL gI)) (hRf : 4 ≤ R.frames) (hRl : 80 ≤ R.locals) (hC : cells ≤ R.cells) (hSl : slots ≤ R.slots)
    (hK16 : ∀ (v1 : Int32) (v2 : Int32) (fd : Nat → Int32) (ar : Nat → Nat → Int32), K16 v1 v2 fd ar → ∀ (H : Heap) (locs : List Loc) (ls : Array Slot), va_P D vwCl (wm gI o ad fd ar lw) H → va_D A (wm gI o ad fd ar lw) → va_S A s.heap H locs → lv_has ls 4 [(0, .ref o), (1, .int v1), (2, .int v2)] → W p l e R s m args below meth c H locs cells slots Qf (F0 m 16 ls [])) :
    ∀ (v1 : Int32) (t0 : Int32) (fd : Nat → Int32) (ar : Nat → Nat → Int32), wp_M_shore_J3 lw K16 v1 t0 fd ar → ∀ (H : Heap) (locs : List Loc) (ls : Array Slot), va_P D vwCl (wm gI o ad fd ar lw) H → va_D A (wm gI o ad fd ar lw) → va_S A s.heap H locs → lv_has ls 4 [(0, .ref o), (1, .int v1)] → W p l e R s m args below meth c H locs cells slots Qf (F0 m 66 ls [.int t0]) := by
  obtain ⟨⟨hx, hb, hml, hown, hts⟩, hr, hlocks, hA, hK, hE⟩ := id F
  intro v1 t0 fd ar h H locs ls hP hD hS hl
  unfold wp_M_shore_J3 at h
  refine lv_istore_n (lv' := [(2, .int t0), (0, .ref o), (1, .int v1)]) hx hb dX3_shore_66 rfl hl (by decide) rfl (fun ls hl => ?_)
  refine lv_iload_n hx hb dX3_shore_67 rfl (lv_at hl 0 rfl) ?_
  refine lv_if_eq (tgt := 118) hx hb dX3_shore_68 (by decide) (fun c43 => ?_) (fun c43 => ?_)
  · replace h := h.1 c43
    refine lp_M_shore_J4 F hRf hRl hC hSl ?hk16 _ _ _ _ h _ _ _ hP hD hS (lv_sub hl [1, 2, 0] rfl)
    case hk16 =>
      intro v1_12 v2_13 fd_14 ar_15 h H locs ls hP hD hS hl
      exact hK16 _ _ _ _ h _ _ _ hP hD hS (lv_sub hl [0, 1, 2] rfl)
  · replace h := h.2 c43
    refine lv_iload_n hx hb dX3_shore_71 rfl (lv_at hl 2 rfl) ?_
    refine lv_if_le (tgt := 118) hx hb dX3_shore_72 (by decide) (fun c42 => ?_) (fun c42 => ?_)
    · replace h := h.1 c42
      refine lp_M_shore_J4 F hRf hRl hC hSl ?hk16 _ _ _ _ h _ _ _ hP hD hS (lv_sub hl [1, 2, 0] rfl)
      case hk16 =>
        intro v1_16 v2_17 fd_18 ar_19 h H locs ls hP hD hS hl
        exact hK16 _ _ _ _ h _ _ _ hP hD hS (lv_sub hl [0, 1, 2] rfl)
    · replace h := h.2 c42
      refine lv_aload_n hx hb dX3_shore_75 rfl (lv_at hl 1 rfl) ?_
      refine lv_bipush (v := (124 : Int32)) hx hb dX3_shore_76 (by decide) ?_
      refine cl_i F (va_runV (As := [.int (124 : Int32)]) (rest := []) ⟨hx, hb, hml, hown, hts⟩ (ct_M_takes h _) (cwV 1 hts (lw_V q1403 q1405 qs37 q97 q1406) rfl rfl rfl (by decide +kernel) ⟨Nat.le_trans (Nat.le_of_ble_eq_true rfl) hRf, Nat.le_trans (Nat.le_of_ble_eq_true rfl) hRl⟩) ⟨ct_blind, va_recv hK hP (ci := 2) (q0 := 0) rfl rfl, ct_at F hS hP hD⟩ rfl rfl hl.1 rfl (lv_room (Nat.le_of_ble_eq_true rfl)) dX3_shore_78 ⟨hC, hSl⟩) rfl rfl hD hS ?_
      rintro x20 fd21 H locs h hP hD hS
      refine lv_if_eq (tgt := 118) hx hb dX3_shore_81 (by decide) (fun c41 => ?_) (fun c41 => ?_)
      · replace h := h.1 c41
        refine lp_M_shore_J4 F hRf hRl hC hSl ?hk16 _ _ _ _ h _ _ _ hP hD hS (lv_sub hl [1, 2, 0] rfl)
        case hk16 =>
          intro v1_22 v2_23 fd_24 ar_25 h H locs ls hP hD hS hl
          exact hK16 _ _ _ _ h _ _ _ hP hD hS (lv_sub hl [0, 1, 2] rfl)
      · replace h := h.2 c41
        refine lv_aload_n hx hb dX3_shore_84 rfl (lv_at hl 1 rfl) ?_
        refine va_get hx hb hts in_X3 hown hK hP 0 rfl rfl 19 (Nat.le_of_ble_eq_true rfl) (hts _ q1237) (fun _ h => h) (v := .ref (ad 19)) rfl dX3_shore_85 ?_
        refine lv_iconst (v := (2 : Int32)) hx hb dX3_shore_88 (by decide) ?_
        refine lv_iload_n hx hb dX3_shore_89 rfl (lv_at hl 2 rfl) ?_
        refine lv_imul hx hb dX3_shore_90 ?_
        refine lv_iconst (v := (1 : Int32)) hx hb dX3_shore_91 (by decide) ?_
        refine lv_isub hx hb dX3_shore_92 ?_
        refine lv_aload_n hx hb dX3_shore_93 rfl (lv_at hl 1 rfl) ?_
        refine lv_iconst (v := (1 : Int32)) hx hb dX3_shore_94 (by decide) ?_
        refine cl_i F (va_runV (As := [.int (1 : Int32)]) (rest := [.int (((2 : Int32) * v1) - (1 : Int32)), .ref (ad 19)]) ⟨hx, hb, hml, hown, hts⟩ (ct_M_number h _) (cwV 1 hts (lw_V q1410 q1412 qs38 q97 q1413) rfl rfl rfl (by decide +kernel) ⟨Nat.le_trans (Nat.le_of_ble_eq_true rfl) hRf, Nat.le_trans (Nat.le_of_ble_eq_true rfl) hRl⟩) ⟨ct_blind, va_recv hK hP (ci := 2) (q0 := 0) rfl rfl, ct_at F hS hP hD⟩ rfl rfl hl.1 rfl (lv_room (Nat.le_of_ble_eq_true rfl)) dX3_shore_95 ⟨hC, hSl⟩) rfl rfl hD hS ?_
        rintro x26 fd27 H locs h hP hD hS
        refine pt_iast (f := (ar 19)) hx hb hK hP hD hS 11 0 rfl rfl h.1 dX3_shore_98 wmA_19 (fun H locs hP hD hS => ?_)
        replace h := h.2
        refine lv_aload_n hx hb dX3_shore_99 rfl (lv_at hl 1 rfl) ?_
        refine va_get hx hb hts in_X3 hown hK hP 0 rfl rfl 19 (Nat.le_of_ble_eq_true rfl) (hts _ q1237) (fun _ h => h) (v := .ref (ad 19)) rfl dX3_shore_100 ?_
        refine lv_iconst (v := (2 : Int32)) hx hb dX3_shore_103 (by decide) ?_
        refine lv_iload_n hx hb dX3_shore_104 rfl (lv_at hl 2 rfl) ?_
        refine lv_imul hx hb dX3_shore_105 ?_
        refine lv_iconst (v := (1 : Int32)) hx hb dX3_shore_106 (by decide) ?_
        refine lv_isub hx hb dX3_shore_107 ?_
        refine va_iald (f := (upd (ar 19) (((2 : Int32) * v1) - (1 : Int32)).toNatClampNeg x26)) hx hb hK hP 11 0 rfl rfl h.1 dX3_shore_108 ?_
        replace h := h.2
        refine lv_if_lt (tgt := 116) hx hb dX3_shore_109 (by decide) (fun c40 => ?_) (fun c40 => ?_)
        · replace h := h.1 c40
          refine lv_iconst (v := (0 : Int32)) hx hb dX3_shore_116 (by decide) ?_
          refine lp_M_shore_J6 F hRf hRl hC hSl ?hk16 _ _ _ _ h _ _ _ hP hD hS (lv_sub hl [1, 2] rfl)
          case hk16 =>
            intro v1_32 v2_33 fd_34 ar_35 h H locs ls hP hD hS hl
            exact hK16 _ _ _ _ h _ _ _ hP hD hS (lv_sub hl [0, 1, 2] rfl)
        · replace h := h.2 c40
          refine lv_iconst (v := (1 : Int32)) hx hb dX3_shore_112 (by decide) ?_
          refine lv_goto (tgt := 117) hx hb dX3_shore_113 (by decide) ?_
          refine lp_M_shore_J6 F hRf hRl hC hSl ?hk16 _ _ _ _ h _ _ _ hP hD hS (lv_sub hl [1, 2] rfl)
          case hk16 =>
            intro v1_36 v2_37 fd_38 ar_39 h H locs ls hP hD hS hl
            exact hK16 _ _ _ _ h _ _ _ hP hD hS (lv_sub hl [0, 1, 2] rfl)
set_option maxHeartbeats 4000000 in
theorem lp_M_shore_J2 {p : Program} {l : Launch} {e : Env} {R : Room} {s : State} {m : MethodId} {args : Array Value} {below : List Frame} {meth : Method} {c : Code} {cells slots : Nat} {A : Nat → Prop} {Qf : State → Prop} {V : evT} {D : va_G} {gI : Nat → ClassId} {o : Nat} {ad : Nat → Nat} {lw : Nat → Int64} {K16 : (Int32) → (Int32) → (Nat → Int32) → (Nat → Nat → Int32) → Prop} (F : ct_F p m c meth cX3_shore 4 s args RX3 (some .int) A V D vwCl (tyL gI)) (hRf : 4 ≤ R.frames) (hRl : 80 ≤ R.locals) (hC : cells ≤ R.cells) (hSl : slots ≤ R.slots)
    (hK16 : ∀ (v1 : Int32) (v2 : Int32) (fd : Nat → Int32) (ar : Nat → Nat → Int32), K16 v1 v2 fd ar → ∀ (H : Heap) (locs : List Loc) (ls : Array Slot), va_P D vwCl (wm gI o ad fd ar lw) H → va_D A (wm gI o ad fd ar lw) → va_S A s.heap H locs → lv_has ls 4 [(0, .ref o), (1, .int v1), (2, .int v2)] → W p l e R s m args below meth c H locs cells slots Qf (F0 m 16 ls [])) :
    ∀ (v1 : Int32) (fd : Nat → Int32) (ar : Nat → Nat → Int32), wp_M_shore_J2 lw K16 v1 fd ar → ∀ (H : Heap) (locs : List Loc) (ls : Array Slot), va_P D vwCl (wm gI o ad fd ar lw) H → va_D A (wm gI o ad fd ar lw) → va_S A s.heap H locs → lv_has ls 4 [(0, .ref o), (1, .int v1)] → W p l e R s m args below meth c H locs cells slots Qf (F0 m 35 ls []) := by
  obtain ⟨⟨hx, hb, hml, hown, hts⟩, hr, hlocks, hA, hK, hE⟩ := id F
  intro v1 fd ar h H locs ls hP hD hS hl
  unfold wp_M_shore_J2 at h
  refine lv_aload_n hx hb dX3_shore_35 rfl (lv_at hl 0 rfl) ?_
  refine va_get hx hb hts in_X3 hown hK hP 0 rfl rfl 19 (Nat.le_of_ble_eq_true rfl) (hts _ q1237) (fun _ h => h) (v := .ref (ad 19)) rfl dX3_shore_36 ?_
  refine lv_iconst (v := (2 : Int32)) hx hb dX3_shore_39 (by decide) ?_
  refine lv_iload_n hx hb dX3_shore_40 rfl (lv_at hl 1 rfl) ?_
  refine lv_imul hx hb dX3_shore_41 ?_
  refine lv_iconst (v := (1 : Int32)) hx hb dX3_shore_42 (by decide) ?_
  refine lv_iadd hx hb dX3_shore_43 ?_
  refine lv_iconst (v := (0 : Int32)) hx hb dX3_shore_44 (by decide) ?_
  refine pt_iast (f := (ar 19)) hx hb hK hP hD hS 11 0 rfl rfl h.1 dX3_shore_45 wmA_19 (fun H locs hP hD hS => ?_)
  replace h := h.2
  refine lv_aload_n hx hb dX3_shore_46 rfl (lv_at hl 0 rfl) ?_
  refine va_get hx hb hts in_X3 hown hK hP 0 rfl rfl 19 (Nat.le_of_ble_eq_true rfl) (hts _ q1237) (fun _ h => h) (v := .ref (ad 19)) rfl dX3_shore_47 ?_
  refine lv_iconst (v := (2 : Int32)) hx hb dX3_shore_50 (by decide) ?_
  refine lv_iload_n hx hb dX3_shore_51 rfl (lv_at hl 1 rfl) ?_
  refine lv_imul hx hb dX3_shore_52 ?_
  refine lv_iconst (v := (-1 : Int32)) hx hb dX3_shore_53 (by decide) ?_
  refine pt_iast (f := (upd (ar 19) (((2 : Int32) * v1) + (1 : Int32)).toNatClampNeg (0 : Int32))) hx hb hK hP hD hS 11 0 rfl rfl h.1 dX3_shore_54 (wmA_19.trans (wmrA (va_rm0 ..))) (fun H locs hP hD hS => ?_)
  replace h := h.2
  refine lv_iload_n hx hb dX3_shore_55 rfl (lv_at hl 1 rfl) ?_
  refine lv_bipush (v := (12 : Int32)) hx hb dX3_shore_56 (by decide) ?_
  refine lv_icmp_ge (tgt := 65) hx hb dX3_shore_58 (by decide) (fun c52 => ?_) (fun c52 => ?_)
  · replace h := h.1 c52
    refine lv_iconst (v := (0 : Int32)) hx hb dX3_shore_65 (by decide) ?_
    refine lp_M_shore_J3 F hRf hRl hC hSl ?hk16 _ _ _ _ h _ _ _ hP hD hS (lv_sub hl [0, 1] rfl)
    case hk16 =>
      intro v1_44 v2_45 fd_46 ar_47 h H locs ls hP hD hS hl
      exact hK16 _ _ _ _ h _ _ _ hP hD hS (lv_sub hl [0, 1, 2] rfl)
  · replace h := h.2 c52
    refine lv_iconst (v := (1 : Int32)) hx hb dX3_shore_61 (by decide) ?_
    refine lv_goto (tgt := 66) hx hb dX3_shore_62 (by decide) ?_
    refine lp_M_shore_J3 F hRf hRl hC hSl ?hk16 _ _ _ _ h _ _ _ hP hD hS (lv_sub hl [0, 1] rfl)
    case hk16 =>
      intro v1_48 v2_49 fd_50 ar_51 h H locs ls hP hD hS hl
      exact hK16 _ _ _ _ h _ _ _ hP hD hS (lv_sub hl [0, 1, 2] rfl)
set_option maxHeartbeats 4000000 in
theorem lp_M_shore_L1 {p : Program} {l : Launch} {e : Env} {R : Room} {s : State} {m : MethodId} {args : Array Value} {below : List Frame} {meth : Method} {c : Code} {cells slots : Nat} {A : Nat → Prop} {Qf : State → Prop} {V : evT} {D : va_G} {gI : Nat → ClassId} {o : Nat} {ad : Nat → Nat} {lw : Nat → Int64} {K162 : (Int32) → (Int32) → (Nat → Int32) → (Nat → Nat → Int32) → Prop} (F : ct_F p m c meth cX3_shore 4 s args RX3 (some .int) A V D vwCl (tyL gI)) (hRf : 4 ≤ R.frames) (hRl : 80 ≤ R.locals) (hC : cells ≤ R.cells) (hSl : slots ≤ R.slots)
    (hK162 : ∀ (v1 : Int32) (v2 : Int32) (fd : Nat → Int32) (ar : Nat → Nat → Int32), K162 v1 v2 fd ar → ∀ (H : Heap) (locs : List Loc) (ls : Array Slot), va_P D vwCl (wm gI o ad fd ar lw) H → va_D A (wm gI o ad fd ar lw) → va_S A s.heap H locs → lv_has ls 4 [(0, .ref o), (1, .int v1), (2, .int v2)] → W p l e R s m args below meth c H locs cells slots Qf (F0 m 162 ls [])) :
    ∀ (n : Nat) (v1 : Int32) (v2 : Int32) (fd : Nat → Int32) (ar : Nat → Nat → Int32), wp_M_shore_L1 lw K162 n v1 v2 fd ar → ∀ (H : Heap) (locs : List Loc) (ls : Array Slot), va_P D vwCl (wm gI o ad fd ar lw) H → va_D A (wm gI o ad fd ar lw) → va_S A s.heap H locs → lv_has ls 4 [(0, .ref o), (1, .int v1), (2, .int v2)] → W p l e R s m args below meth c H locs cells slots Qf (F0 m 16 ls []) := by
  obtain ⟨⟨hx, hb, hml, hown, hts⟩, hr, hlocks, hA, hK, hE⟩ := id F
  intro n
  induction n with
  | zero => intro v1 v2 fd ar h; exact h.elim
  | succ n ih =>
    intro v1 v2 fd ar h H locs ls hP hD hS hl
    unfold wp_M_shore_L1 at h
    refine lv_iload_n hx hb dX3_shore_16 rfl (lv_at hl 2 rfl) ?_
    refine lv_if_eq (tgt := 162) hx hb dX3_shore_17 (by decide) (fun c63 => ?_) (fun c63 => ?_)
    · replace h := h.1 c63
      exact hK162 _ _ _ _ h _ _ _ hP hD hS (lv_sub hl [0, 1, 2] rfl)
    · replace h := h.2 c63
      refine lv_iload_n hx hb dX3_shore_20 rfl (lv_at hl 1 rfl) ?_
      refine lv_if_eq (tgt := 35) hx hb dX3_shore_21 (by decide) (fun c62 => ?_) (fun c62 => ?_)
      · replace h := h.1 c62
        refine lp_M_shore_J2 F hRf hRl hC hSl ?hk16 _ _ _ h _ _ _ hP hD hS (lv_sub hl [0, 1] rfl)
        case hk16 =>
          intro v1_53 v2_54 fd_55 ar_56 h H locs ls hP hD hS hl
          exact ih _ _ _ _ h _ _ _ hP hD hS (lv_sub hl [0, 1, 2] rfl)
      · replace h := h.2 c62
        refine lv_aload_n hx hb dX3_shore_24 rfl (lv_at hl 0 rfl) ?_
        refine va_get hx hb hts in_X3 hown hK hP 0 rfl rfl 16 (Nat.le_of_ble_eq_true rfl) (hts _ q1234) (fun _ h => h) (v := .int (fd 16)) rfl dX3_shore_25 ?_
        refine lv_aload_n hx hb dX3_shore_28 rfl (lv_at hl 0 rfl) ?_
        refine va_get hx hb hts in_X3 hown hK hP 0 rfl rfl 17 (Nat.le_of_ble_eq_true rfl) (hts _ q1235) (fun _ h => h) (v := .int (fd 17)) rfl dX3_shore_29 ?_
        refine lv_icmp_ge (tgt := 162) hx hb dX3_shore_32 (by decide) (fun c61 => ?_) (fun c61 => ?_)
        · replace h := h.1 c61
          exact hK162 _ _ _ _ h _ _ _ hP hD hS (lv_sub hl [0, 1, 2] rfl)
        · replace h := h.2 c61
          refine lp_M_shore_J2 F hRf hRl hC hSl ?hk16 _ _ _ h _ _ _ hP hD hS (lv_sub hl [0, 1] rfl)
          case hk16 =>
            intro v1_57 v2_58 fd_59 ar_60 h H locs ls hP hD hS hl
            exact ih _ _ _ _ h _ _ _ hP hD hS (lv_sub hl [0, 1, 2] rfl)
set_option maxHeartbeats 4000000 in
theorem lp_M_shore_J10 {p : Program} {l : Launch} {e : Env} {R : Room} {s : State} {m : MethodId} {args : Array Value} {below : List Frame} {meth : Method} {c : Code} {cells slots : Nat} {A : Nat → Prop} {Qf : State → Prop} {V : evT} {D : va_G} {gI : Nat → ClassId} {o : Nat} {ad : Nat → Nat} {v1 : Int32} {fd : Nat → Int32} {lw : Nat → Int64} {K180 : (Int32) → (Nat → Nat → Int32) → Prop} (F : ct_F p m c meth cX3_shore 4 s args RX3 (some .int) A V D vwCl (tyL gI)) (hRf : 4 ≤ R.frames) (hRl : 80 ≤ R.locals) (hC : cells ≤ R.cells) (hSl : slots ≤ R.slots)
    (hK180 : ∀ (v3 : Int32) (ar : Nat → Nat → Int32), K180 v3 ar → ∀ (H : Heap) (locs : List Loc) (ls : Array Slot), va_P D vwCl (wm gI o ad fd ar lw) H → va_D A (wm gI o ad fd ar lw) → va_S A s.heap H locs → lv_has ls 4 [(0, .ref o), (1, .int v1), (3, .int v3)] → W p l e R s m args below meth c H locs cells slots Qf (F0 m 180 ls [])) :
    ∀ (v3 : Int32) (t0 : Int32) (t1 : Int32) (ar : Nat → Nat → Int32), wp_M_shore_J10 v1 fd lw K180 v3 t0 t1 ar → ∀ (H : Heap) (locs : List Loc) (ls : Array Slot), va_P D vwCl (wm gI o ad fd ar lw) H → va_D A (wm gI o ad fd ar lw) → va_S A s.heap H locs → lv_has ls 4 [(0, .ref o), (1, .int v1), (3, .int v3)] → W p l e R s m args below meth c H locs cells slots Qf (F0 m 235 ls [.int t0, .int t1, .ref (ad 7)]) := by
  obtain ⟨⟨hx, hb, hml, hown, hts⟩, hr, hlocks, hA, hK, hE⟩ := id F
  intro v3 t0 t1 ar h H locs ls hP hD hS hl
  unfold wp_M_shore_J10 at h
  refine pt_iast (f := (ar 7)) hx hb hK hP hD hS 3 0 rfl rfl h.1 dX3_shore_235 wmA_7 (fun H locs hP hD hS => ?_)
  replace h := h.2
  refine lv_aload_n hx hb dX3_shore_236 rfl (lv_at hl 0 rfl) ?_
  refine va_get hx hb hts in_X3 hown hK hP 0 rfl rfl 12 (Nat.le_of_ble_eq_true rfl) (hts _ q1230) (fun _ h => h) (v := .ref (ad 12)) rfl dX3_shore_237 ?_
  refine lv_iload_n hx hb dX3_shore_240 rfl (lv_at hl 2 rfl) ?_
  refine lv_iconst (v := (0 : Int32)) hx hb dX3_shore_241 (by decide) ?_
  refine pt_iast (f := (ar 12)) hx hb hK hP hD hS 8 0 rfl rfl h.1 dX3_shore_242 wmA_12 (fun H locs hP hD hS => ?_)
  replace h := h.2
  refine lv_aload_n hx hb dX3_shore_243 rfl (lv_at hl 0 rfl) ?_
  refine va_get hx hb hts in_X3 hown hK hP 0 rfl rfl 12 (Nat.le_of_ble_eq_true rfl) (hts _ q1230) (fun _ h => h) (v := .ref (ad 12)) rfl dX3_shore_244 ?_
  refine lv_bipush (v := (13 : Int32)) hx hb dX3_shore_247 (by decide) ?_
  refine lv_iload_n hx hb dX3_shore_249 rfl (lv_at hl 2 rfl) ?_
  refine lv_iadd hx hb dX3_shore_250 ?_
  refine lv_iconst (v := (0 : Int32)) hx hb dX3_shore_251 (by decide) ?_
  refine pt_iast (f := (upd (ar 12) v3.toNatClampNeg (0 : Int32))) hx hb hK hP hD hS 8 0 rfl rfl h.1 dX3_shore_252 (wmA_12.trans (wmrA (va_rm0 ..))) (fun H locs hP hD hS => ?_)
  replace h := h.2
  refine lv_iinc (v := (v3 + (1 : Int32))) (lv' := [(3, .int (v3 + (1 : Int32))), (0, .ref o), (1, .int v1)]) hx hb dX3_shore_253 hl (k := 2) rfl rfl (by decide) rfl (fun ls hl => ?_)
  refine lv_goto (tgt := 180) hx hb dX3_shore_256 (by decide) ?_
  exact hK180 _ _ h _ _ _ hP hD hS (lv_sub hl [1, 2, 0] rfl)
set_option maxHeartbeats 4000000 in
theorem lp_M_shore_J9 {p : Program} {l : Launch} {e : Env} {R : Room} {s : State} {m : MethodId} {args : Array Value} {below : List Frame} {meth : Method} {c : Code} {cells slots : Nat} {A : Nat → Prop} {Qf : State → Prop} {V : evT} {D : va_G} {gI : Nat → ClassId} {o : Nat} {ad : Nat → Nat} {v1 : Int32} {fd : Nat → Int32} {lw : Nat → Int64} {K180 : (Int32) → (Nat → Nat → Int32) → Prop} (F : ct_F p m c meth cX3_shore 4 s args RX3 (some .int) A V D vwCl (tyL gI)) (hRf : 4 ≤ R.frames) (hRl : 80 ≤ R.locals) (hC : cells ≤ R.cells) (hSl : slots ≤ R.slots)
    (hK180 : ∀ (v3 : Int32) (ar : Nat → Nat → Int32), K180 v3 ar → ∀ (H : Heap) (locs : List Loc) (ls : Array Slot), va_P D vwCl (wm gI o ad fd ar lw) H → va_D A (wm gI o ad fd ar lw) → va_S A s.heap H locs → lv_has ls 4 [(0, .ref o), (1, .int v1), (3, .int v3)] → W p l e R s m args below meth c H locs cells slots Qf (F0 m 180 ls [])) :
    ∀ (v3 : Int32) (t0 : Int32) (t1 : Int32) (ar : Nat → Nat → Int32), wp_M_shore_J9 v1 fd lw K180 v3 t0 t1 ar → ∀ (H : Heap) (locs : List Loc) (ls : Array Slot), va_P D vwCl (wm gI o ad fd ar lw) H → va_D A (wm gI o ad fd ar lw) → va_S A s.heap H locs → lv_has ls 4 [(0, .ref o), (1, .int v1), (3, .int v3)] → W p l e R s m args below meth c H locs cells slots Qf (F0 m 208 ls [.int t0, .int t1, .ref (ad 6)]) := by
  obtain ⟨⟨hx, hb, hml, hown, hts⟩, hr, hlocks, hA, hK, hE⟩ := id F
  intro v3 t0 t1 ar h H locs ls hP hD hS hl
  unfold wp_M_shore_J9 at h
  refine pt_iast (f := (ar 6)) hx hb hK hP hD hS 2 0 rfl rfl h.1 dX3_shore_208 wmA_6 (fun H locs hP hD hS => ?_)
  replace h := h.2
  refine lv_aload_n hx hb dX3_shore_209 rfl (lv_at hl 0 rfl) ?_
  refine va_get hx hb hts in_X3 hown hK hP 0 rfl rfl 7 (Nat.le_of_ble_eq_true rfl) (hts _ q1225) (fun _ h => h) (v := .ref (ad 7)) rfl dX3_shore_210 ?_
  refine lv_iload_n hx hb dX3_shore_213 rfl (lv_at hl 2 rfl) ?_
  refine lv_iload_n hx hb dX3_shore_214 rfl (lv_at hl 2 rfl) ?_
  refine lv_iload_n hx hb dX3_shore_215 rfl (lv_at hl 1 rfl) ?_
  refine lv_iconst (v := (1 : Int32)) hx hb dX3_shore_216 (by decide) ?_
  refine lv_isub hx hb dX3_shore_217 ?_
  refine lv_icmp_ge (tgt := 234) hx hb dX3_shore_218 (by decide) (fun c72 => ?_) (fun c72 => ?_)
  · replace h := h.1 c72
    refine lv_iconst (v := (0 : Int32)) hx hb dX3_shore_234 (by decide) ?_
    refine lp_M_shore_J10 F hRf hRl hC hSl ?hk180 _ _ _ _ h _ _ _ hP hD hS (lv_sub hl [0, 1, 2] rfl)
    case hk180 =>
      intro v3_68 ar_69 h H locs ls hP hD hS hl
      exact hK180 _ _ h _ _ _ hP hD hS (lv_sub hl [0, 1, 2] rfl)
  · replace h := h.2 c72
    refine lv_aload_n hx hb dX3_shore_221 rfl (lv_at hl 0 rfl) ?_
    refine va_get hx hb hts in_X3 hown hK hP 0 rfl rfl 19 (Nat.le_of_ble_eq_true rfl) (hts _ q1237) (fun _ h => h) (v := .ref (ad 19)) rfl dX3_shore_222 ?_
    refine lv_iconst (v := (2 : Int32)) hx hb dX3_shore_225 (by decide) ?_
    refine lv_iload_n hx hb dX3_shore_226 rfl (lv_at hl 2 rfl) ?_
    refine lv_imul hx hb dX3_shore_227 ?_
    refine lv_iconst (v := (1 : Int32)) hx hb dX3_shore_228 (by decide) ?_
    refine lv_iadd hx hb dX3_shore_229 ?_
    refine va_iald (f := (ar 19)) hx hb hK hP 11 0 rfl rfl h.1 dX3_shore_230 ?_
    replace h := h.2
    refine lv_goto (tgt := 235) hx hb dX3_shore_231 (by decide) ?_
    refine lp_M_shore_J10 F hRf hRl hC hSl ?hk180 _ _ _ _ h _ _ _ hP hD hS (lv_sub hl [0, 1, 2] rfl)
    case hk180 =>
      intro v3_70 ar_71 h H locs ls hP hD hS hl
      exact hK180 _ _ h _ _ _ hP hD hS (lv_sub hl [0, 1, 2] rfl)
set_option maxHeartbeats 4000000 in
theorem lp_M_shore_L8 {p : Program} {l : Launch} {e : Env} {R : Room} {s : State} {m : MethodId} {args : Array Value} {below : List Frame} {meth : Method} {c : Code} {cells slots : Nat} {A : Nat → Prop} {Qf : State → Prop} {V : evT} {D : va_G} {gI : Nat → ClassId} {o : Nat} {ad : Nat → Nat} {v1 : Int32} {fd : Nat → Int32} {lw : Nat → Int64} {K259 : (Nat → Nat → Int32) → Prop} (F : ct_F p m c meth cX3_shore 4 s args RX3 (some .int) A V D vwCl (tyL gI)) (hRf : 4 ≤ R.frames) (hRl : 80 ≤ R.locals) (hC : cells ≤ R.cells) (hSl : slots ≤ R.slots)
    (hK259 : ∀ (ar : Nat → Nat → Int32), K259 ar → ∀ (H : Heap) (locs : List Loc) (ls : Array Slot), va_P D vwCl (wm gI o ad fd ar lw) H → va_D A (wm gI o ad fd ar lw) → va_S A s.heap H locs → lv_has ls 4 [(0, .ref o)] → W p l e R s m args below meth c H locs cells slots Qf (F0 m 259 ls [])) :
    ∀ (n : Nat) (v3 : Int32) (ar : Nat → Nat → Int32), wp_M_shore_L8 v1 fd lw K259 n v3 ar → ∀ (H : Heap) (locs : List Loc) (ls : Array Slot), va_P D vwCl (wm gI o ad fd ar lw) H → va_D A (wm gI o ad fd ar lw) → va_S A s.heap H locs → lv_has ls 4 [(0, .ref o), (1, .int v1), (3, .int v3)] → W p l e R s m args below meth c H locs cells slots Qf (F0 m 180 ls []) := by
  obtain ⟨⟨hx, hb, hml, hown, hts⟩, hr, hlocks, hA, hK, hE⟩ := id F
  intro n
  induction n with
  | zero => intro v3 ar h; exact h.elim
  | succ n ih =>
    intro v3 ar h H locs ls hP hD hS hl
    unfold wp_M_shore_L8 at h
    refine lv_iload_n hx hb dX3_shore_180 rfl (lv_at hl 2 rfl) ?_
    refine lv_bipush (v := (12 : Int32)) hx hb dX3_shore_181 (by decide) ?_
    refine lv_icmp_ge (tgt := 259) hx hb dX3_shore_183 (by decide) (fun c78 => ?_) (fun c78 => ?_)
    · replace h := h.1 c78
      exact hK259 _ h _ _ _ hP hD hS (lv_sub hl [0] rfl)
    · replace h := h.2 c78
      refine lv_aload_n hx hb dX3_shore_186 rfl (lv_at hl 0 rfl) ?_
      refine va_get hx hb hts in_X3 hown hK hP 0 rfl rfl 6 (Nat.le_of_ble_eq_true rfl) (hts _ q1224) (fun _ h => h) (v := .ref (ad 6)) rfl dX3_shore_187 ?_
      refine lv_iload_n hx hb dX3_shore_190 rfl (lv_at hl 2 rfl) ?_
      refine lv_iload_n hx hb dX3_shore_191 rfl (lv_at hl 2 rfl) ?_
      refine lv_iload_n hx hb dX3_shore_192 rfl (lv_at hl 1 rfl) ?_
      refine lv_icmp_ge (tgt := 207) hx hb dX3_shore_193 (by decide) (fun c77 => ?_) (fun c77 => ?_)
      · replace h := h.1 c77
        refine lv_iconst (v := (0 : Int32)) hx hb dX3_shore_207 (by decide) ?_
        refine lp_M_shore_J9 F hRf hRl hC hSl ?hk180 _ _ _ _ h _ _ _ hP hD hS (lv_sub hl [0, 1, 2] rfl)
        case hk180 =>
          intro v3_73 ar_74 h H locs ls hP hD hS hl
          exact ih _ _ h _ _ _ hP hD hS (lv_sub hl [0, 1, 2] rfl)
      · replace h := h.2 c77
        refine lv_aload_n hx hb dX3_shore_196 rfl (lv_at hl 0 rfl) ?_
        refine va_get hx hb hts in_X3 hown hK hP 0 rfl rfl 19 (Nat.le_of_ble_eq_true rfl) (hts _ q1237) (fun _ h => h) (v := .ref (ad 19)) rfl dX3_shore_197 ?_
        refine lv_iconst (v := (2 : Int32)) hx hb dX3_shore_200 (by decide) ?_
        refine lv_iload_n hx hb dX3_shore_201 rfl (lv_at hl 2 rfl) ?_
        refine lv_imul hx hb dX3_shore_202 ?_
        refine va_iald (f := (ar 19)) hx hb hK hP 11 0 rfl rfl h.1 dX3_shore_203 ?_
        replace h := h.2
        refine lv_goto (tgt := 208) hx hb dX3_shore_204 (by decide) ?_
        refine lp_M_shore_J9 F hRf hRl hC hSl ?hk180 _ _ _ _ h _ _ _ hP hD hS (lv_sub hl [0, 1, 2] rfl)
        case hk180 =>
          intro v3_75 ar_76 h H locs ls hP hD hS hl
          exact ih _ _ h _ _ _ hP hD hS (lv_sub hl [0, 1, 2] rfl)
set_option maxHeartbeats 4000000 in
theorem lp_M_shore_L11 {p : Program} {l : Launch} {e : Env} {R : Room} {s : State} {m : MethodId} {args : Array Value} {below : List Frame} {meth : Method} {c : Code} {cells slots : Nat} {A : Nat → Prop} {Qf : State → Prop} {V : evT} {D : va_G} {gI : Nat → ClassId} {o : Nat} {ad : Nat → Nat} {fd : Nat → Int32} {lw : Nat → Int64} {K305 : (Nat → Nat → Int32) → Prop} (F : ct_F p m c meth cX3_shore 4 s args RX3 (some .int) A V D vwCl (tyL gI)) (hRf : 4 ≤ R.frames) (hRl : 80 ≤ R.locals) (hC : cells ≤ R.cells) (hSl : slots ≤ R.slots)
    (hK305 : ∀ (ar : Nat → Nat → Int32), K305 ar → ∀ (H : Heap) (locs : List Loc) (ls : Array Slot), va_P D vwCl (wm gI o ad fd ar lw) H → va_D A (wm gI o ad fd ar lw) → va_S A s.heap H locs → lv_has ls 4 [(0, .ref o)] → W p l e R s m args below meth c H locs cells slots Qf (F0 m 305 ls [])) :
    ∀ (n : Nat) (v3 : Int32) (ar : Nat → Nat → Int32), wp_M_shore_L11 fd lw K305 n v3 ar → ∀ (H : Heap) (locs : List Loc) (ls : Array Slot), va_P D vwCl (wm gI o ad fd ar lw) H → va_D A (wm gI o ad fd ar lw) → va_S A s.heap H locs → lv_has ls 4 [(0, .ref o), (3, .int v3)] → W p l e R s m args below meth c H locs cells slots Qf (F0 m 277 ls []) := by
  obtain ⟨⟨hx, hb, hml, hown, hts⟩, hr, hlocks, hA, hK, hE⟩ := id F
  intro n
  induction n with
  | zero => intro v3 ar h; exact h.elim
  | succ n ih =>
    intro v3 ar h H locs ls hP hD hS hl
    unfold wp_M_shore_L11 at h
    refine lv_iload_n hx hb dX3_shore_277 rfl (lv_at hl 1 rfl) ?_
    refine lv_aload_n hx hb dX3_shore_278 rfl (lv_at hl 0 rfl) ?_
    refine va_get hx hb hts in_X3 hown hK hP 0 rfl rfl 4 (Nat.le_of_ble_eq_true rfl) (hts _ q1222) (fun _ h => h) (v := .int (fd 4)) rfl dX3_shore_279 ?_
    refine lv_icmp_ge (tgt := 305) hx hb dX3_shore_282 (by decide) (fun c80 => ?_) (fun c80 => ?_)
    · replace h := h.1 c80
      exact hK305 _ h _ _ _ hP hD hS (lv_sub hl [0] rfl)
    · replace h := h.2 c80
      refine lv_aload_n hx hb dX3_shore_285 rfl (lv_at hl 0 rfl) ?_
      refine va_get hx hb hts in_X3 hown hK hP 0 rfl rfl 12 (Nat.le_of_ble_eq_true rfl) (hts _ q1230) (fun _ h => h) (v := .ref (ad 12)) rfl dX3_shore_286 ?_
      refine lv_bipush (v := (25 : Int32)) hx hb dX3_shore_289 (by decide) ?_
      refine lv_iconst (v := (2 : Int32)) hx hb dX3_shore_291 (by decide) ?_
      refine lv_iload_n hx hb dX3_shore_292 rfl (lv_at hl 1 rfl) ?_
      refine lv_imul hx hb dX3_shore_293 ?_
      refine lv_iadd hx hb dX3_shore_294 ?_
      refine lv_iconst (v := (0 : Int32)) hx hb dX3_shore_295 (by decide) ?_
      refine lv_iadd hx hb dX3_shore_296 ?_
      refine lv_iconst (v := (-1 : Int32)) hx hb dX3_shore_297 (by decide) ?_
      refine pt_iast (f := (ar 12)) hx hb hK hP hD hS 8 0 rfl rfl h.1 dX3_shore_298 wmA_12 (fun H locs hP hD hS => ?_)
      replace h := h.2
      refine lv_iinc (v := (v3 + (1 : Int32))) (lv' := [(3, .int (v3 + (1 : Int32))), (0, .ref o)]) hx hb dX3_shore_299 hl (k := 1) rfl rfl (by decide) rfl (fun ls hl => ?_)
      refine lv_goto (tgt := 277) hx hb dX3_shore_302 (by decide) ?_
      exact ih _ _ h _ _ _ hP hD hS (lv_sub hl [1, 0] rfl)
set_option maxHeartbeats 4000000 in
theorem lp_M_shore_J7 {p : Program} {l : Launch} {e : Env} {R : Room} {s : State} {m : MethodId} {args : Array Value} {below : List Frame} {meth : Method} {c : Code} {cells slots : Nat} {A : Nat → Prop} {V : evT} {D : va_G} {gI : Nat → ClassId} {o : Nat} {ad : Nat → Nat} {v1 : Int32} {v2 : Int32} {lw : Nat → Int64} {Q : Int32 → (Nat → Int32) → (Nat → Nat → Int32) → Prop} (F : ct_F p m c meth cX3_shore 4 s args RX3 (some .int) A V D vwCl (tyL gI)) (hRf : 4 ≤ R.frames) (hRl : 80 ≤ R.locals) (hC : cells ≤ R.cells) (hSl : slots ≤ R.slots) :
    ∀ (fd : Nat → Int32) (ar : Nat → Nat → Int32), wp_M_shore_J7 v1 v2 lw Q fd ar → ∀ (H : Heap) (locs : List Loc) (ls : Array Slot), va_P D vwCl (wm gI o ad fd ar lw) H → va_D A (wm gI o ad fd ar lw) → va_S A s.heap H locs → lv_has ls 4 [(0, .ref o), (1, .int v1), (2, .int v2)] → W p l e R s m args below meth c H locs cells slots (MQ below (va_Qi (fun (x : Int32) (u : (Nat → Int32) × (Nat → Nat → Int32)) => Q x u.1 u.2) (fun u t => va_P D vwCl (wm gI o ad u.1 u.2 lw) t.heap ∧ va_K D vwCl (tyL gI) t ∧ va_D A (wm gI o ad u.1 u.2 lw)) A) args s cells slots A) (F0 m 162 ls []) := by
  obtain ⟨⟨hx, hb, hml, hown, hts⟩, hr, hlocks, hA, hK, hE⟩ := id F
  intro fd ar h H locs ls hP hD hS hl
  unfold wp_M_shore_J7 at h
  refine lv_iload_n hx hb dX3_shore_162 rfl (lv_at hl 2 rfl) ?_
  refine lv_if_ne (tgt := 173) hx hb dX3_shore_163 (by decide) (fun c82 => ?_) (fun c82 => ?_)
  · replace h := h.1 c82
    refine lv_aload_n hx hb dX3_shore_173 rfl (lv_at hl 0 rfl) ?_
    refine lv_iload_n hx hb dX3_shore_174 rfl (lv_at hl 1 rfl) ?_
    refine pt_put (v := .int v1) hx hb hts in_X3 tyX3 tyX3_ok nmX3 hown hK hP hD hS 0 rfl rfl 3 (Nat.le_of_ble_eq_true rfl) (hts _ q1221) (fun _ h => h) rfl (ty := .int) (by decide +kernel) rfl rfl (Nat.le_of_ble_eq_true rfl) dX3_shore_175 wmF_3 (fun H locs hP hD hS => ?_)
    refine lv_iconst (v := (0 : Int32)) hx hb dX3_shore_178 (by decide) ?_
    refine lv_istore_n (lv' := [(3, .int (0 : Int32)), (0, .ref o), (1, .int v1), (2, .int v2)]) hx hb dX3_shore_179 rfl hl (by decide) rfl (fun ls hl => ?_)
    obtain ⟨k180, h⟩ := h
    refine lp_M_shore_L8 F hRf hRl hC hSl ?hk259 k180 _ _ h _ _ _ hP hD hS (lv_sub hl [1, 2, 0] rfl)
    case hk259 =>
      intro ar_79 h H locs ls hP hD hS hl
      refine lv_aload_n hx hb dX3_shore_259 rfl (lv_at hl 0 rfl) ?_
      refine va_get hx hb hts in_X3 hown hK hP 0 rfl rfl 12 (Nat.le_of_ble_eq_true rfl) (hts _ q1230) (fun _ h => h) (v := .ref (ad 12)) rfl dX3_shore_260 ?_
      refine lv_bipush (v := (12 : Int32)) hx hb dX3_shore_263 (by decide) ?_
      refine lv_iconst (v := (0 : Int32)) hx hb dX3_shore_265 (by decide) ?_
      refine pt_iast (f := (ar_79 12)) hx hb hK hP hD hS 8 0 rfl rfl (by unfold vp_in; decide) dX3_shore_266 wmA_12 (fun H locs hP hD hS => ?_)
      refine lv_aload_n hx hb dX3_shore_267 rfl (lv_at hl 0 rfl) ?_
      refine va_get hx hb hts in_X3 hown hK hP 0 rfl rfl 12 (Nat.le_of_ble_eq_true rfl) (hts _ q1230) (fun _ h => h) (v := .ref (ad 12)) rfl dX3_shore_268 ?_
      refine lv_bipush (v := (42 : Int32)) hx hb dX3_shore_271 (by decide) ?_
      refine lv_iconst (v := (0 : Int32)) hx hb dX3_shore_273 (by decide) ?_
      refine pt_iast (f := (upd (ar_79 12) (12 : Int32).toNatClampNeg (0 : Int32))) hx hb hK hP hD hS 8 0 rfl rfl (by unfold vp_in; decide) dX3_shore_274 (wmA_12.trans (wmrA (va_rm0 ..))) (fun H locs hP hD hS => ?_)
      refine lv_iconst (v := (0 : Int32)) hx hb dX3_shore_275 (by decide) ?_
      refine lv_istore_n (lv' := [(3, .int (0 : Int32)), (0, .ref o)]) hx hb dX3_shore_276 rfl hl (by decide) rfl (fun ls hl => ?_)
      obtain ⟨k277, h⟩ := h
      refine lp_M_shore_L11 F hRf hRl hC hSl ?hk305 k277 _ _ h _ _ _ hP hD hS (lv_sub hl [1, 0] rfl)
      case hk305 =>
        intro ar_81 h H locs ls hP hD hS hl
        refine lv_aload_n hx hb dX3_shore_305 rfl (lv_at hl 0 rfl) ?_
        refine lv_iconst (v := (0 : Int32)) hx hb dX3_shore_306 (by decide) ?_
        refine pt_put (v := .int (0 : Int32)) hx hb hts in_X3 tyX3 tyX3_ok nmX3 hown hK hP hD hS 0 rfl rfl 42 (Nat.le_of_ble_eq_true rfl) (hts _ q1260) (fun _ h => h) rfl (ty := .int) (by decide +kernel) rfl rfl (Nat.le_of_ble_eq_true rfl) dX3_shore_307 wmF_42 (fun H locs hP hD hS => ?_)
        refine lv_aload_n hx hb dX3_shore_310 rfl (lv_at hl 0 rfl) ?_
        refine lv_iconst (v := (0 : Int32)) hx hb dX3_shore_311 (by decide) ?_
        refine pt_put (v := .int (0 : Int32)) hx hb hts in_X3 tyX3 tyX3_ok nmX3 hown hK hP hD hS 0 rfl rfl 27 (Nat.le_of_ble_eq_true rfl) (hts _ q1245) (fun _ h => h) rfl (ty := .int) (by decide +kernel) rfl rfl (Nat.le_of_ble_eq_true rfl) dX3_shore_312 wmF_27 (fun H locs hP hD hS => ?_)
        refine lv_aload_n hx hb dX3_shore_315 rfl (lv_at hl 0 rfl) ?_
        refine lv_dup hx hb dX3_shore_316 rfl ?_
        refine va_get hx hb hts in_X3 hown hK hP 0 rfl rfl 5 (Nat.le_of_ble_eq_true rfl) (hts _ q1223) (fun _ h => h) (v := .int (fd 5)) rfl dX3_shore_317 ?_
        refine lv_iconst (v := (1 : Int32)) hx hb dX3_shore_320 (by decide) ?_
        refine lv_iadd hx hb dX3_shore_321 ?_
        refine pt_put (v := .int ((fd 5) + (1 : Int32))) hx hb hts in_X3 tyX3 tyX3_ok nmX3 hown hK hP hD hS 0 rfl rfl 5 (Nat.le_of_ble_eq_true rfl) (hts _ q1223) (fun _ h => h) rfl (ty := .int) (by decide +kernel) rfl rfl (Nat.le_of_ble_eq_true rfl) dX3_shore_322 wmF_5 (fun H locs hP hD hS => ?_)
        refine lv_aload_n hx hb dX3_shore_325 rfl (lv_at hl 0 rfl) ?_
        refine va_get hx hb hts in_X3 hown hK hP 0 rfl rfl 3 (Nat.le_of_ble_eq_true rfl) (hts _ q1221) (fun _ h => h) (v := .int v1) rfl dX3_shore_326 ?_
        exact rt_i F dX3_shore_329 rfl ((upd (upd (upd (upd fd 3 v1) 42 (0 : Int32)) 27 (0 : Int32)) 5 ((fd 5) + (1 : Int32))), ar_81) h hP hD hS (Nat.le_refl _) (Nat.le_refl _)
  · replace h := h.2 c82
    refine lv_iconst (v := (-1 : Int32)) hx hb dX3_shore_166 (by decide) ?_
    refine lv_aload_n hx hb dX3_shore_167 rfl (lv_at hl 0 rfl) ?_
    refine va_get hx hb hts in_X3 hown hK hP 0 rfl rfl 16 (Nat.le_of_ble_eq_true rfl) (hts _ q1234) (fun _ h => h) (v := .int (fd 16)) rfl dX3_shore_168 ?_
    refine lv_isub hx hb dX3_shore_171 ?_
    exact rt_i F dX3_shore_172 rfl (fd, ar) h hP hD hS (Nat.le_refl _) (Nat.le_refl _)
set_option maxHeartbeats 4000000 in
theorem ct_M_shore {l : Launch} {V : evT} {D : va_G} {gI : Nat → ClassId} {o : Nat} {ad : Nat → Nat} {fd : Nat → Int32} {ar : Nat → Nat → Int32} {lw : Nat → Int64} {Q : Int32 → (Nat → Int32) → (Nat → Nat → Int32) → Prop} (h : wp_M_shore fd ar lw Q) : ct_i l V D vwCl (tyL gI) yX3_shore cX3_shore 4 .int { frames := 4, cells := 0, slots := 0, locals := 80 } [.ref o] (wm gI o ad fd ar lw) (fun u : (Nat → Int32) × (Nat → Nat → Int32) => (wm gI o ad u.1 u.2 lw)) (fun (x : Int32) (u : (Nat → Int32) × (Nat → Nat → Int32)) => Q x u.1 u.2) := by
  refine ct_ofi RX3 rfl (by decide +kernel) (Nat.le_of_ble_eq_true rfl) ?_
  intro p e s m args below meth c A F hP hD ls hl
  obtain ⟨⟨hx, hb, hml, hown, hts⟩, hr, hlocks, hA, hK, hE⟩ := id F
  have hS : va_S A s.heap s.heap [] := va_S.rf
  have hl : lv_has ls 4 [(0, .ref o)] := hl
  have hRf : 4 ≤ ({ frames := 4, cells := 0, slots := 0, locals := 80 } : Room).frames := Nat.le_refl _
  have hRl : 80 ≤ ({ frames := 4, cells := 0, slots := 0, locals := 80 } : Room).locals := Nat.le_refl _
  have hC : 0 ≤ ({ frames := 4, cells := 0, slots := 0, locals := 80 } : Room).cells := Nat.le_refl _
  have hSl : 0 ≤ ({ frames := 4, cells := 0, slots := 0, locals := 80 } : Room).slots := Nat.le_refl _
  unfold wp_M_shore at h
  refine lv_aload_n hx hb dX3_shore_0 rfl (lv_at hl 0 rfl) ?_
  refine lv_iconst (v := (0 : Int32)) hx hb dX3_shore_1 (by decide) ?_
  refine pt_put (v := .int (0 : Int32)) hx hb hts in_X3 tyX3 tyX3_ok nmX3 hown hK hP hD hS 0 rfl rfl 0 (Nat.le_of_ble_eq_true rfl) (hts _ q1218) (fun _ h => h) rfl (ty := .int) (by decide +kernel) rfl rfl (Nat.le_of_ble_eq_true rfl) dX3_shore_2 wmF_0 (fun H locs hP hD hS => ?_)
  refine lv_aload_n hx hb dX3_shore_5 rfl (lv_at hl 0 rfl) ?_
  refine lv_bipush (v := (80 : Int32)) hx hb dX3_shore_6 (by decide) ?_
  refine cl_i F (va_runV (As := [.int (80 : Int32)]) (rest := []) ⟨hx, hb, hml, hown, hts⟩ (ct_M_begins h _) (cwV 1 hts (lw_V q1398 q1400 qs36 q97 q1401) rfl rfl rfl (by decide +kernel) ⟨Nat.le_trans (Nat.le_of_ble_eq_true rfl) hRf, Nat.le_trans (Nat.le_of_ble_eq_true rfl) hRl⟩) ⟨ct_blind, va_recv hK hP (ci := 2) (q0 := 0) rfl rfl, ct_at F hS hP hD⟩ rfl rfl hl.1 rfl (lv_room (Nat.le_of_ble_eq_true rfl)) dX3_shore_8 ⟨hC, hSl⟩) rfl rfl hD hS ?_
  rintro x1 fd2 H locs h hP hD hS
  refine lv_pop hx hb dX3_shore_11 rfl ?_
  refine lv_iconst (v := (0 : Int32)) hx hb dX3_shore_12 (by decide) ?_
  refine lv_istore_n (lv' := [(1, .int (0 : Int32)), (0, .ref o)]) hx hb dX3_shore_13 rfl hl (by decide) rfl (fun ls hl => ?_)
  refine lv_iconst (v := (1 : Int32)) hx hb dX3_shore_14 (by decide) ?_
  refine lv_istore_n (lv' := [(2, .int (1 : Int32)), (1, .int (0 : Int32)), (0, .ref o)]) hx hb dX3_shore_15 rfl hl (by decide) rfl (fun ls hl => ?_)
  obtain ⟨k16, h⟩ := h
  refine lp_M_shore_L1 F hRf hRl hC hSl ?hk162 k16 _ _ _ _ h _ _ _ hP hD hS (lv_sub hl [2, 1, 0] rfl)
  case hk162 =>
    intro v1_64 v2_65 fd_66 ar_67 h H locs ls hP hD hS hl
    refine lp_M_shore_J7 F hRf hRl hC hSl  _ _ h _ _ _ hP hD hS (lv_sub hl [0, 1, 2] rfl)
set_option maxHeartbeats 4000000 in
theorem ct_M_numberIn {l : Launch} {V : evT} {D : va_G} {gI : Nat → ClassId} {o : Nat} {ad : Nat → Nat} {v1 : Int32} {v2 : Int32} {v3 : Int32} {fd : Nat → Int32} {ar : Nat → Nat → Int32} {lw : Nat → Int64} {Q : Int32 → (Nat → Int32) → Prop} (h : wp_M_numberIn v1 v2 v3 fd ar lw Q) : ct_i l V D vwCl (tyL gI) yX3_numberIn cX3_numberIn 5 .int { frames := 4, cells := 0, slots := 0, locals := 80 } [.ref o, .int v1, .int v2, .int v3] (wm gI o ad fd ar lw) (fun u : (Nat → Int32) => (wm gI o ad u ar lw)) (fun (x : Int32) (u : (Nat → Int32)) => Q x u) := by
  refine ct_ofi RX3 rfl (by decide +kernel) (Nat.le_of_ble_eq_true rfl) ?_
  intro p e s m args below meth c A F hP hD ls hl
  obtain ⟨⟨hx, hb, hml, hown, hts⟩, hr, hlocks, hA, hK, hE⟩ := id F
  have hS : va_S A s.heap s.heap [] := va_S.rf
  have hl : lv_has ls 5 [(0, .ref o), (1, .int v1), (2, .int v2), (3, .int v3)] := hl
  have hRf : 4 ≤ ({ frames := 4, cells := 0, slots := 0, locals := 80 } : Room).frames := Nat.le_refl _
  have hRl : 80 ≤ ({ frames := 4, cells := 0, slots := 0, locals := 80 } : Room).locals := Nat.le_refl _
  have hC : 0 ≤ ({ frames := 4, cells := 0, slots := 0, locals := 80 } : Room).cells := Nat.le_refl _
  have hSl : 0 ≤ ({ frames := 4, cells := 0, slots := 0, locals := 80 } : Room).slots := Nat.le_refl _
  unfold wp_M_numberIn at h
  refine lv_aload_n hx hb dX3_numberIn_0 rfl (lv_at hl 0 rfl) ?_
  refine lv_iload_n hx hb dX3_numberIn_1 rfl (lv_at hl 1 rfl) ?_
  refine cl_i F (va_runV (As := [.int v1]) (rest := []) ⟨hx, hb, hml, hown, hts⟩ (ct_M_number h _) (cwV 1 hts (lw_V q1410 q1412 qs38 q97 q1413) rfl rfl rfl (by decide +kernel) ⟨Nat.le_trans (Nat.le_of_ble_eq_true rfl) hRf, Nat.le_trans (Nat.le_of_ble_eq_true rfl) hRl⟩) ⟨ct_blind, va_recv hK hP (ci := 2) (q0 := 0) rfl rfl, ct_at F hS hP hD⟩ rfl rfl hl.1 rfl (lv_room (Nat.le_of_ble_eq_true rfl)) dX3_numberIn_2 ⟨hC, hSl⟩) rfl rfl hD hS ?_
  rintro x1 fd2 H locs h hP hD hS
  refine lv_istore (lv' := [(4, .int x1), (0, .ref o), (1, .int v1), (2, .int v2), (3, .int v3)]) hx hb dX3_numberIn_5 hl (by decide) rfl (fun ls hl => ?_)
  refine lv_iload hx hb dX3_numberIn_7 (lv_at hl 0 rfl) ?_
  refine lv_if_lt (tgt := 25) hx hb dX3_numberIn_9 (by decide) (fun c5 => ?_) (fun c5 => ?_)
  · replace h := h.1 c5
    refine lv_iload hx hb dX3_numberIn_25 (lv_at hl 0 rfl) ?_
    exact rt_i F dX3_numberIn_27 rfl (fd2) h hP hD hS (Nat.le_refl _) (Nat.le_refl _)
  · replace h := h.2 c5
    refine lv_iload hx hb dX3_numberIn_12 (lv_at hl 0 rfl) ?_
    refine lv_i2l (v := (x1.toInt64)) hx hb dX3_numberIn_14 rfl ?_
    refine lv_iload_n hx hb dX3_numberIn_15 rfl (lv_at hl 3 rfl) ?_
    refine lv_i2l (v := (v2.toInt64)) hx hb dX3_numberIn_16 rfl ?_
    refine lv_iload_n hx hb dX3_numberIn_17 rfl (lv_at hl 4 rfl) ?_
    refine lv_i2l (v := (v3.toInt64)) hx hb dX3_numberIn_18 rfl ?_
    refine cl_i0 F (va_runS (As := [.long (x1.toInt64), .long (v2.toInt64), .long (v3.toInt64)]) (rest := []) ⟨hx, hb, hml, hown, hts⟩ (ct_X3_in h _) (va_cwS 3 hts (lw_S q1391 q1392 q97 q1393) rfl rfl rfl (by decide +kernel) ⟨Nat.le_trans (Nat.le_of_ble_eq_true rfl) hRf, Nat.le_trans (Nat.le_of_ble_eq_true rfl) hRl⟩) ⟨ct_blind, ct_at F hS ct_nP ct_nD⟩ rfl rfl hl.1 rfl (lv_room (Nat.le_of_ble_eq_true rfl)) dX3_numberIn_19 ⟨hC, hSl⟩) rfl rfl hP hS ?_
    rintro x3 _ H locs h hP hS
    refine lv_if_eq (tgt := 28) hx hb dX3_numberIn_22 (by decide) (fun c4 => ?_) (fun c4 => ?_)
    · replace h := h.1 c4
      refine lv_aload_n hx hb dX3_numberIn_28 rfl (lv_at hl 1 rfl) ?_
      refine lv_dup hx hb dX3_numberIn_29 rfl ?_
      refine va_get hx hb hts in_X3 hown hK hP 0 rfl rfl 16 (Nat.le_of_ble_eq_true rfl) (hts _ q1234) (fun _ h => h) (v := .int (fd2 16)) rfl dX3_numberIn_30 ?_
      refine lv_iconst (v := (1 : Int32)) hx hb dX3_numberIn_33 (by decide) ?_
      refine lv_isub hx hb dX3_numberIn_34 ?_
      refine pt_put (v := .int ((fd2 16) - (1 : Int32))) hx hb hts in_X3 tyX3 tyX3_ok nmX3 hown hK hP hD hS 0 rfl rfl 16 (Nat.le_of_ble_eq_true rfl) (hts _ q1234) (fun _ h => h) rfl (ty := .int) (by decide +kernel) rfl rfl (Nat.le_of_ble_eq_true rfl) dX3_numberIn_35 wmF_16 (fun H locs hP hD hS => ?_)
      refine lv_iconst (v := (-1 : Int32)) hx hb dX3_numberIn_38 (by decide) ?_
      exact rt_i F dX3_numberIn_39 rfl ((upd fd2 16 ((fd2 16) - (1 : Int32)))) h hP hD hS (Nat.le_refl _) (Nat.le_refl _)
    · replace h := h.2 c4
      refine lv_iload hx hb dX3_numberIn_25 (lv_at hl 0 rfl) ?_
      exact rt_i F dX3_numberIn_27 rfl (fd2) h hP hD hS (Nat.le_refl _) (Nat.le_refl _)
set_option maxHeartbeats 4000000 in
theorem ct_M_bucketsOf_i12 {l : Launch} {V : evT} {D : va_G} {gI : Nat → ClassId} {o : Nat} {ad : Nat → Nat} {v2 : Int32} {fd : Nat → Int32} {ar : Nat → Nat → Int32} {lw : Nat → Int64} {Q : Int32 → Prop} (h : wp_M_bucketsOf 12 v2 fd ar lw Q) : ct_i l V D vwCl (tyL gI) yX3_bucketsOf cX3_bucketsOf 4 .int { frames := 4, cells := 0, slots := 0, locals := 80 } [.ref o, .ref (ad 12), .int v2] (wm gI o ad fd ar lw) (fun u : Unit => (wm gI o ad fd ar lw)) (fun (x : Int32) (u : Unit) => Q x) := by
  refine ct_ofi RX3 rfl (by decide +kernel) (Nat.le_of_ble_eq_true rfl) ?_
  intro p e s m args below meth c A F hP hD ls hl
  obtain ⟨⟨hx, hb, hml, hown, hts⟩, hr, hlocks, hA, hK, hE⟩ := id F
  have hS : va_S A s.heap s.heap [] := va_S.rf
  have hl : lv_has ls 4 [(0, .ref o), (1, .ref (ad 12)), (2, .int v2)] := hl
  have hRf : 4 ≤ ({ frames := 4, cells := 0, slots := 0, locals := 80 } : Room).frames := Nat.le_refl _
  have hRl : 80 ≤ ({ frames := 4, cells := 0, slots := 0, locals := 80 } : Room).locals := Nat.le_refl _
  have hC : 0 ≤ ({ frames := 4, cells := 0, slots := 0, locals := 80 } : Room).cells := Nat.le_refl _
  have hSl : 0 ≤ ({ frames := 4, cells := 0, slots := 0, locals := 80 } : Room).slots := Nat.le_refl _
  unfold wp_M_bucketsOf at h
  refine lv_aload_n hx hb dX3_bucketsOf_0 rfl (lv_at hl 1 rfl) ?_
  refine lv_iload_n hx hb dX3_bucketsOf_1 rfl (lv_at hl 2 rfl) ?_
  refine cl_i F (va_runS (As := [.ref (ad 12), .int v2]) (rest := []) ⟨hx, hb, hml, hown, hts⟩ (ct_M_atOf_i12 h _) (va_cwS 2 hts (lw_S q1517 q1518 q97 q1519) rfl rfl rfl (by decide +kernel) ⟨Nat.le_trans (Nat.le_of_ble_eq_true rfl) hRf, Nat.le_trans (Nat.le_of_ble_eq_true rfl) hRl⟩) ⟨ct_blind, ct_at F hS hP hD⟩ rfl rfl hl.1 rfl (lv_room (Nat.le_of_ble_eq_true rfl)) dX3_bucketsOf_2 ⟨hC, hSl⟩) rfl rfl hD hS ?_
  rintro x1 _ H locs h hP hD hS
  refine lv_if_ge (tgt := 10) hx hb dX3_bucketsOf_5 (by decide) (fun c11 => ?_) (fun c11 => ?_)
  · replace h := h.1 c11
    refine lv_aload_n hx hb dX3_bucketsOf_10 rfl (lv_at hl 0 rfl) ?_
    refine va_get hx hb hts in_X3 hown hK hP 0 rfl rfl 9 (Nat.le_of_ble_eq_true rfl) (hts _ q1227) (fun _ h => h) (v := .ref (ad 9)) rfl dX3_bucketsOf_11 ?_
    refine lv_iload_n hx hb dX3_bucketsOf_14 rfl (lv_at hl 2 rfl) ?_
    refine va_iald (f := (ar 9)) hx hb hK hP 5 0 rfl rfl h.1 dX3_bucketsOf_15 ?_
    replace h := h.2
    refine lv_iconst (v := (2 : Int32)) hx hb dX3_bucketsOf_16 (by decide) ?_
    refine lv_aload_n hx hb dX3_bucketsOf_17 rfl (lv_at hl 1 rfl) ?_
    refine lv_bipush (v := (41 : Int32)) hx hb dX3_bucketsOf_18 (by decide) ?_
    refine va_iald (f := (ar 12)) hx hb hK hP 8 0 rfl rfl (by unfold vp_in; decide) dX3_bucketsOf_20 ?_
    refine lv_iload_n hx hb dX3_bucketsOf_21 rfl (lv_at hl 2 rfl) ?_
    refine cl_i0 F (va_runS (As := [.int (ar 12 (41 : Int32).toNatClampNeg), .int v2]) (rest := [.int (2 : Int32), .int (ar 9 v2.toNatClampNeg)]) ⟨hx, hb, hml, hown, hts⟩ (ct_X3_has h _) (va_cwS 2 hts (lw_S q1510 q1511 q97 q1512) rfl rfl rfl (by decide +kernel) ⟨Nat.le_trans (Nat.le_of_ble_eq_true rfl) hRf, Nat.le_trans (Nat.le_of_ble_eq_true rfl) hRl⟩) ⟨ct_blind, ct_at F hS ct_nP ct_nD⟩ rfl rfl hl.1 rfl (lv_room (Nat.le_of_ble_eq_true rfl)) dX3_bucketsOf_22 ⟨hC, hSl⟩) rfl rfl hP hS ?_
    rintro x2 _ H locs h hP hS
    refine cl_i0 F (va_runS (As := [.int x2]) (rest := [.int (2 : Int32), .int (ar 9 v2.toNatClampNeg)]) ⟨hx, hb, hml, hown, hts⟩ (ct_X3_flag h _) (va_cwS 1 hts (lw_S q1407 q1408 q97 q1409) rfl rfl rfl (by decide +kernel) ⟨Nat.le_trans (Nat.le_of_ble_eq_true rfl) hRf, Nat.le_trans (Nat.le_of_ble_eq_true rfl) hRl⟩) ⟨ct_blind, ct_at F hS ct_nP ct_nD⟩ rfl rfl hl.1 rfl (lv_room (Nat.le_of_ble_eq_true rfl)) dX3_bucketsOf_25 ⟨hC, hSl⟩) rfl rfl hP hS ?_
    rintro x3 _ H locs h hP hS
    refine lv_imul hx hb dX3_bucketsOf_28 ?_
    refine lv_iadd hx hb dX3_bucketsOf_29 ?_
    refine lv_aload_n hx hb dX3_bucketsOf_30 rfl (lv_at hl 0 rfl) ?_
    refine lv_aload_n hx hb dX3_bucketsOf_31 rfl (lv_at hl 1 rfl) ?_
    refine lv_iload_n hx hb dX3_bucketsOf_32 rfl (lv_at hl 2 rfl) ?_
    refine cl_i F (va_runV (As := [.ref (ad 12), .int v2]) (rest := [.int ((ar 9 v2.toNatClampNeg) + ((2 : Int32) * x3))]) ⟨hx, hb, hml, hown, hts⟩ (ct_M_hasFriend_i12 h _) (cwV 2 hts (lw_V q1539 q1541 qs57 q97 q1542) rfl rfl rfl (by decide +kernel) ⟨Nat.le_trans (Nat.le_of_ble_eq_true rfl) hRf, Nat.le_trans (Nat.le_of_ble_eq_true rfl) hRl⟩) ⟨ct_blind, va_recv hK hP (ci := 2) (q0 := 0) rfl rfl, ct_at F hS hP hD⟩ rfl rfl hl.1 rfl (lv_room (Nat.le_of_ble_eq_true rfl)) dX3_bucketsOf_33 ⟨hC, hSl⟩) rfl rfl hD hS ?_
    rintro x4 _ H locs h hP hD hS
    refine cl_i0 F (va_runS (As := [.int x4]) (rest := [.int ((ar 9 v2.toNatClampNeg) + ((2 : Int32) * x3))]) ⟨hx, hb, hml, hown, hts⟩ (ct_X3_flag h _) (va_cwS 1 hts (lw_S q1407 q1408 q97 q1409) rfl rfl rfl (by decide +kernel) ⟨Nat.le_trans (Nat.le_of_ble_eq_true rfl) hRf, Nat.le_trans (Nat.le_of_ble_eq_true rfl) hRl⟩) ⟨ct_blind, ct_at F hS ct_nP ct_nD⟩ rfl rfl hl.1 rfl (lv_room (Nat.le_of_ble_eq_true rfl)) dX3_bucketsOf_36 ⟨hC, hSl⟩) rfl rfl hP hS ?_
    rintro x5 _ H locs h hP hS
    refine lv_iadd hx hb dX3_bucketsOf_39 ?_
    refine lv_istore_n (lv' := [(3, .int (((ar 9 v2.toNatClampNeg) + ((2 : Int32) * x3)) + x5)), (0, .ref o), (1, .ref (ad 12)), (2, .int v2)]) hx hb dX3_bucketsOf_40 rfl hl (by decide) rfl (fun ls hl => ?_)
    refine lv_aload_n hx hb dX3_bucketsOf_41 rfl (lv_at hl 2 rfl) ?_
    refine lv_iload_n hx hb dX3_bucketsOf_42 rfl (lv_at hl 3 rfl) ?_
    refine cl_i F (va_runS (As := [.ref (ad 12), .int v2]) (rest := []) ⟨hx, hb, hml, hown, hts⟩ (ct_M_moodOf_i12 h _) (va_cwS 2 hts (lw_S q1532 q1533 q97 q1534) rfl rfl rfl (by decide +kernel) ⟨Nat.le_trans (Nat.le_of_ble_eq_true rfl) hRf, Nat.le_trans (Nat.le_of_ble_eq_true rfl) hRl⟩) ⟨ct_blind, ct_at F hS hP hD⟩ rfl rfl hl.1 rfl (lv_room (Nat.le_of_ble_eq_true rfl)) dX3_bucketsOf_43 ⟨hC, hSl⟩) rfl rfl hD hS ?_
    rintro x6 _ H locs h hP hD hS
    refine lv_iconst (v := (3 : Int32)) hx hb dX3_bucketsOf_46 (by decide) ?_
    refine lv_icmp_ge (tgt := 56) hx hb dX3_bucketsOf_47 (by decide) (fun c10 => ?_) (fun c10 => ?_)
    · replace h := h.1 c10
      refine lv_iload_n hx hb dX3_bucketsOf_56 rfl (lv_at hl 0 rfl) ?_
      refine lv_istore_n (lv' := [(3, .int (((ar 9 v2.toNatClampNeg) + ((2 : Int32) * x3)) + x5)), (0, .ref o), (1, .ref (ad 12)), (2, .int v2)]) hx hb dX3_bucketsOf_57 rfl hl (by decide) rfl (fun ls hl => ?_)
      refine lv_aload_n hx hb dX3_bucketsOf_58 rfl (lv_at hl 1 rfl) ?_
      refine va_get hx hb hts in_X3 hown hK hP 0 rfl rfl 8 (Nat.le_of_ble_eq_true rfl) (hts _ q1226) (fun _ h => h) (v := .ref (ad 8)) rfl dX3_bucketsOf_59 ?_
      refine lv_iload_n hx hb dX3_bucketsOf_62 rfl (lv_at hl 3 rfl) ?_
      refine va_iald (f := (ar 8)) hx hb hK hP 4 0 rfl rfl h.1 dX3_bucketsOf_63 ?_
      replace h := h.2
      refine lv_bipush (v := (13 : Int32)) hx hb dX3_bucketsOf_64 (by decide) ?_
      refine lv_icmp_ne (tgt := 75) hx hb dX3_bucketsOf_66 (by decide) (fun c7 => ?_) (fun c7 => ?_)
      · replace h := h.1 c7
        refine lv_iload_n hx hb dX3_bucketsOf_75 rfl (lv_at hl 0 rfl) ?_
        exact rt_i F dX3_bucketsOf_76 rfl () h hP hD hS (Nat.le_refl _) (Nat.le_refl _)
      · replace h := h.2 c7
        refine lv_iload_n hx hb dX3_bucketsOf_69 rfl (lv_at hl 0 rfl) ?_
        refine lv_iconst (v := (2 : Int32)) hx hb dX3_bucketsOf_70 (by decide) ?_
        refine lv_idiv hx hb dX3_bucketsOf_71 (by decide) ?_
        refine lv_goto (tgt := 76) hx hb dX3_bucketsOf_72 (by decide) ?_
        exact rt_i F dX3_bucketsOf_76 rfl () h hP hD hS (Nat.le_refl _) (Nat.le_refl _)
    · replace h := h.2 c10
      refine lv_iload_n hx hb dX3_bucketsOf_50 rfl (lv_at hl 0 rfl) ?_
      refine lv_iconst (v := (2 : Int32)) hx hb dX3_bucketsOf_51 (by decide) ?_
      refine lv_idiv hx hb dX3_bucketsOf_52 (by decide) ?_
      refine lv_goto (tgt := 57) hx hb dX3_bucketsOf_53 (by decide) ?_
      refine lv_topi (fun x8 ex8 => ?_)
      replace h := h x8 ex8
      refine lv_istore_n (lv' := [(3, .int x8), (0, .ref o), (1, .ref (ad 12)), (2, .int v2)]) hx hb dX3_bucketsOf_57 rfl hl (by decide) rfl (fun ls hl => ?_)
      refine lv_aload_n hx hb dX3_bucketsOf_58 rfl (lv_at hl 1 rfl) ?_
      refine va_get hx hb hts in_X3 hown hK hP 0 rfl rfl 8 (Nat.le_of_ble_eq_true rfl) (hts _ q1226) (fun _ h => h) (v := .ref (ad 8)) rfl dX3_bucketsOf_59 ?_
      refine lv_iload_n hx hb dX3_bucketsOf_62 rfl (lv_at hl 3 rfl) ?_
      refine va_iald (f := (ar 8)) hx hb hK hP 4 0 rfl rfl h.1 dX3_bucketsOf_63 ?_
      replace h := h.2
      refine lv_bipush (v := (13 : Int32)) hx hb dX3_bucketsOf_64 (by decide) ?_
      refine lv_icmp_ne (tgt := 75) hx hb dX3_bucketsOf_66 (by decide) (fun c9 => ?_) (fun c9 => ?_)
      · replace h := h.1 c9
        refine lv_iload_n hx hb dX3_bucketsOf_75 rfl (lv_at hl 0 rfl) ?_
        exact rt_i F dX3_bucketsOf_76 rfl () h hP hD hS (Nat.le_refl _) (Nat.le_refl _)
      · replace h := h.2 c9
        refine lv_iload_n hx hb dX3_bucketsOf_69 rfl (lv_at hl 0 rfl) ?_
        refine lv_iconst (v := (2 : Int32)) hx hb dX3_bucketsOf_70 (by decide) ?_
        refine lv_idiv hx hb dX3_bucketsOf_71 (by decide) ?_
        refine lv_goto (tgt := 76) hx hb dX3_bucketsOf_72 (by decide) ?_
        exact rt_i F dX3_bucketsOf_76 rfl () h hP hD hS (Nat.le_refl _) (Nat.le_refl _)
  · replace h := h.2 c11
    refine lv_iconst (v := (0 : Int32)) hx hb dX3_bucketsOf_8 (by decide) ?_
    exact rt_i F dX3_bucketsOf_9 rfl () h hP hD hS (Nat.le_refl _) (Nat.le_refl _)
set_option maxHeartbeats 4000000 in
theorem ct_M_bucketsOf_i13 {l : Launch} {V : evT} {D : va_G} {gI : Nat → ClassId} {o : Nat} {ad : Nat → Nat} {v2 : Int32} {fd : Nat → Int32} {ar : Nat → Nat → Int32} {lw : Nat → Int64} {Q : Int32 → Prop} (h : wp_M_bucketsOf 13 v2 fd ar lw Q) : ct_i l V D vwCl (tyL gI) yX3_bucketsOf cX3_bucketsOf 4 .int { frames := 4, cells := 0, slots := 0, locals := 80 } [.ref o, .ref (ad 13), .int v2] (wm gI o ad fd ar lw) (fun u : Unit => (wm gI o ad fd ar lw)) (fun (x : Int32) (u : Unit) => Q x) := by
  refine ct_ofi RX3 rfl (by decide +kernel) (Nat.le_of_ble_eq_true rfl) ?_
  intro p e s m args below meth c A F hP hD ls hl
  obtain ⟨⟨hx, hb, hml, hown, hts⟩, hr, hlocks, hA, hK, hE⟩ := id F
  have hS : va_S A s.heap s.heap [] := va_S.rf
  have hl : lv_has ls 4 [(0, .ref o), (1, .ref (ad 13)), (2, .int v2)] := hl
  have hRf : 4 ≤ ({ frames := 4, cells := 0, slots := 0, locals := 80 } : Room).frames := Nat.le_refl _
  have hRl : 80 ≤ ({ frames := 4, cells := 0, slots := 0, locals := 80 } : Room).locals := Nat.le_refl _
  have hC : 0 ≤ ({ frames := 4, cells := 0, slots := 0, locals := 80 } : Room).cells := Nat.le_refl _
  have hSl : 0 ≤ ({ frames := 4, cells := 0, slots := 0, locals := 80 } : Room).slots := Nat.le_refl _
  unfold wp_M_bucketsOf at h
  refine lv_aload_n hx hb dX3_bucketsOf_0 rfl (lv_at hl 1 rfl) ?_
  refine lv_iload_n hx hb dX3_bucketsOf_1 rfl (lv_at hl 2 rfl) ?_
  refine cl_i F (va_runS (As := [.ref (ad 13), .int v2]) (rest := []) ⟨hx, hb, hml, hown, hts⟩ (ct_M_atOf_i13 h _) (va_cwS 2 hts (lw_S q1517 q1518 q97 q1519) rfl rfl rfl (by decide +kernel) ⟨Nat.le_trans (Nat.le_of_ble_eq_true rfl) hRf, Nat.le_trans (Nat.le_of_ble_eq_true rfl) hRl⟩) ⟨ct_blind, ct_at F hS hP hD⟩ rfl rfl hl.1 rfl (lv_room (Nat.le_of_ble_eq_true rfl)) dX3_bucketsOf_2 ⟨hC, hSl⟩) rfl rfl hD hS ?_
  rintro x1 _ H locs h hP hD hS
  refine lv_if_ge (tgt := 10) hx hb dX3_bucketsOf_5 (by decide) (fun c11 => ?_) (fun c11 => ?_)
  · replace h := h.1 c11
    refine lv_aload_n hx hb dX3_bucketsOf_10 rfl (lv_at hl 0 rfl) ?_
    refine va_get hx hb hts in_X3 hown hK hP 0 rfl rfl 9 (Nat.le_of_ble_eq_true rfl) (hts _ q1227) (fun _ h => h) (v := .ref (ad 9)) rfl dX3_bucketsOf_11 ?_
    refine lv_iload_n hx hb dX3_bucketsOf_14 rfl (lv_at hl 2 rfl) ?_
    refine va_iald (f := (ar 9)) hx hb hK hP 5 0 rfl rfl h.1 dX3_bucketsOf_15 ?_
    replace h := h.2
    refine lv_iconst (v := (2 : Int32)) hx hb dX3_bucketsOf_16 (by decide) ?_
    refine lv_aload_n hx hb dX3_bucketsOf_17 rfl (lv_at hl 1 rfl) ?_
    refine lv_bipush (v := (41 : Int32)) hx hb dX3_bucketsOf_18 (by decide) ?_
    refine va_iald (f := (ar 13)) hx hb hK hP 9 0 rfl rfl (by unfold vp_in; decide) dX3_bucketsOf_20 ?_
    refine lv_iload_n hx hb dX3_bucketsOf_21 rfl (lv_at hl 2 rfl) ?_
    refine cl_i0 F (va_runS (As := [.int (ar 13 (41 : Int32).toNatClampNeg), .int v2]) (rest := [.int (2 : Int32), .int (ar 9 v2.toNatClampNeg)]) ⟨hx, hb, hml, hown, hts⟩ (ct_X3_has h _) (va_cwS 2 hts (lw_S q1510 q1511 q97 q1512) rfl rfl rfl (by decide +kernel) ⟨Nat.le_trans (Nat.le_of_ble_eq_true rfl) hRf, Nat.le_trans (Nat.le_of_ble_eq_true rfl) hRl⟩) ⟨ct_blind, ct_at F hS ct_nP ct_nD⟩ rfl rfl hl.1 rfl (lv_room (Nat.le_of_ble_eq_true rfl)) dX3_bucketsOf_22 ⟨hC, hSl⟩) rfl rfl hP hS ?_
    rintro x2 _ H locs h hP hS
    refine cl_i0 F (va_runS (As := [.int x2]) (rest := [.int (2 : Int32), .int (ar 9 v2.toNatClampNeg)]) ⟨hx, hb, hml, hown, hts⟩ (ct_X3_flag h _) (va_cwS 1 hts (lw_S q1407 q1408 q97 q1409) rfl rfl rfl (by decide +kernel) ⟨Nat.le_trans (Nat.le_of_ble_eq_true rfl) hRf, Nat.le_trans (Nat.le_of_ble_eq_true rfl) hRl⟩) ⟨ct_blind, ct_at F hS ct_nP ct_nD⟩ rfl rfl hl.1 rfl (lv_room (Nat.le_of_ble_eq_true rfl)) dX3_bucketsOf_25 ⟨hC, hSl⟩) rfl rfl hP hS ?_
    rintro x3 _ H locs h hP hS
    refine lv_imul hx hb dX3_bucketsOf_28 ?_
    refine lv_iadd hx hb dX3_bucketsOf_29 ?_
    refine lv_aload_n hx hb dX3_bucketsOf_30 rfl (lv_at hl 0 rfl) ?_
    refine lv_aload_n hx hb dX3_bucketsOf_31 rfl (lv_at hl 1 rfl) ?_
    refine lv_iload_n hx hb dX3_bucketsOf_32 rfl (lv_at hl 2 rfl) ?_
    refine cl_i F (va_runV (As := [.ref (ad 13), .int v2]) (rest := [.int ((ar 9 v2.toNatClampNeg) + ((2 : Int32) * x3))]) ⟨hx, hb, hml, hown, hts⟩ (ct_M_hasFriend_i13 h _) (cwV 2 hts (lw_V q1539 q1541 qs57 q97 q1542) rfl rfl rfl (by decide +kernel) ⟨Nat.le_trans (Nat.le_of_ble_eq_true rfl) hRf, Nat.le_trans (Nat.le_of_ble_eq_true rfl) hRl⟩) ⟨ct_blind, va_recv hK hP (ci := 2) (q0 := 0) rfl rfl, ct_at F hS hP hD⟩ rfl rfl hl.1 rfl (lv_room (Nat.le_of_ble_eq_true rfl)) dX3_bucketsOf_33 ⟨hC, hSl⟩) rfl rfl hD hS ?_
    rintro x4 _ H locs h hP hD hS
    refine cl_i0 F (va_runS (As := [.int x4]) (rest := [.int ((ar 9 v2.toNatClampNeg) + ((2 : Int32) * x3))]) ⟨hx, hb, hml, hown, hts⟩ (ct_X3_flag h _) (va_cwS 1 hts (lw_S q1407 q1408 q97 q1409) rfl rfl rfl (by decide +kernel) ⟨Nat.le_trans (Nat.le_of_ble_eq_true rfl) hRf, Nat.le_trans (Nat.le_of_ble_eq_true rfl) hRl⟩) ⟨ct_blind, ct_at F hS ct_nP ct_nD⟩ rfl rfl hl.1 rfl (lv_room (Nat.le_of_ble_eq_true rfl)) dX3_bucketsOf_36 ⟨hC, hSl⟩) rfl rfl hP hS ?_
    rintro x5 _ H locs h hP hS
    refine lv_iadd hx hb dX3_bucketsOf_39 ?_
    refine lv_istore_n (lv' := [(3, .int (((ar 9 v2.toNatClampNeg) + ((2 : Int32) * x3)) + x5)), (0, .ref o), (1, .ref (ad 13)), (2, .int v2)]) hx hb dX3_bucketsOf_40 rfl hl (by decide) rfl (fun ls hl => ?_)
    refine lv_aload_n hx hb dX3_bucketsOf_41 rfl (lv_at hl 2 rfl) ?_
    refine lv_iload_n hx hb dX3_bucketsOf_42 rfl (lv_at hl 3 rfl) ?_
    refine cl_i F (va_runS (As := [.ref (ad 13), .int v2]) (rest := []) ⟨hx, hb, hml, hown, hts⟩ (ct_M_moodOf_i13 h _) (va_cwS 2 hts (lw_S q1532 q1533 q97 q1534) rfl rfl rfl (by decide +kernel) ⟨Nat.le_trans (Nat.le_of_ble_eq_true rfl) hRf, Nat.le_trans (Nat.le_of_ble_eq_true rfl) hRl⟩) ⟨ct_blind, ct_at F hS hP hD⟩ rfl rfl hl.1 rfl (lv_room (Nat.le_of_ble_eq_true rfl)) dX3_bucketsOf_43 ⟨hC, hSl⟩) rfl rfl hD hS ?_
    rintro x6 _ H locs h hP hD hS
    refine lv_iconst (v := (3 : Int32)) hx hb dX3_bucketsOf_46 (by decide) ?_
    refine lv_icmp_ge (tgt := 56) hx hb dX3_bucketsOf_47 (by decide) (fun c10 => ?_) (fun c10 => ?_)
    · replace h := h.1 c10
      refine lv_iload_n hx hb dX3_bucketsOf_56 rfl (lv_at hl 0 rfl) ?_
      refine lv_istore_n (lv' := [(3, .int (((ar 9 v2.toNatClampNeg) + ((2 : Int32) * x3)) + x5)), (0, .ref o), (1, .ref (ad 13)), (2, .int v2)]) hx hb dX3_bucketsOf_57 rfl hl (by decide) rfl (fun ls hl => ?_)
      refine lv_aload_n hx hb dX3_bucketsOf_58 rfl (lv_at hl 1 rfl) ?_
      refine va_get hx hb hts in_X3 hown hK hP 0 rfl rfl 8 (Nat.le_of_ble_eq_true rfl) (hts _ q1226) (fun _ h => h) (v := .ref (ad 8)) rfl dX3_bucketsOf_59 ?_
      refine lv_iload_n hx hb dX3_bucketsOf_62 rfl (lv_at hl 3 rfl) ?_
      refine va_iald (f := (ar 8)) hx hb hK hP 4 0 rfl rfl h.1 dX3_bucketsOf_63 ?_
      replace h := h.2
      refine lv_bipush (v := (13 : Int32)) hx hb dX3_bucketsOf_64 (by decide) ?_
      refine lv_icmp_ne (tgt := 75) hx hb dX3_bucketsOf_66 (by decide) (fun c7 => ?_) (fun c7 => ?_)
      · replace h := h.1 c7
        refine lv_iload_n hx hb dX3_bucketsOf_75 rfl (lv_at hl 0 rfl) ?_
        exact rt_i F dX3_bucketsOf_76 rfl () h hP hD hS (Nat.le_refl _) (Nat.le_refl _)
      · replace h := h.2 c7
        refine lv_iload_n hx hb dX3_bucketsOf_69 rfl (lv_at hl 0 rfl) ?_
        refine lv_iconst (v := (2 : Int32)) hx hb dX3_bucketsOf_70 (by decide) ?_
        refine lv_idiv hx hb dX3_bucketsOf_71 (by decide) ?_
        refine lv_goto (tgt := 76) hx hb dX3_bucketsOf_72 (by decide) ?_
        exact rt_i F dX3_bucketsOf_76 rfl () h hP hD hS (Nat.le_refl _) (Nat.le_refl _)
    · replace h := h.2 c10
      refine lv_iload_n hx hb dX3_bucketsOf_50 rfl (lv_at hl 0 rfl) ?_
      refine lv_iconst (v := (2 : Int32)) hx hb dX3_bucketsOf_51 (by decide) ?_
      refine lv_idiv hx hb dX3_bucketsOf_52 (by decide) ?_
      refine lv_goto (tgt := 57) hx hb dX3_bucketsOf_53 (by decide) ?_
      refine lv_topi (fun x8 ex8 => ?_)
      replace h := h x8 ex8
      refine lv_istore_n (lv' := [(3, .int x8), (0, .ref o), (1, .ref (ad 13)), (2, .int v2)]) hx hb dX3_bucketsOf_57 rfl hl (by decide) rfl (fun ls hl => ?_)
      refine lv_aload_n hx hb dX3_bucketsOf_58 rfl (lv_at hl 1 rfl) ?_
      refine va_get hx hb hts in_X3 hown hK hP 0 rfl rfl 8 (Nat.le_of_ble_eq_true rfl) (hts _ q1226) (fun _ h => h) (v := .ref (ad 8)) rfl dX3_bucketsOf_59 ?_
      refine lv_iload_n hx hb dX3_bucketsOf_62 rfl (lv_at hl 3 rfl) ?_
      refine va_iald (f := (ar 8)) hx hb hK hP 4 0 rfl rfl h.1 dX3_bucketsOf_63 ?_
      replace h := h.2
      refine lv_bipush (v := (13 : Int32)) hx hb dX3_bucketsOf_64 (by decide) ?_
      refine lv_icmp_ne (tgt := 75) hx hb dX3_bucketsOf_66 (by decide) (fun c9 => ?_) (fun c9 => ?_)
      · replace h := h.1 c9
        refine lv_iload_n hx hb dX3_bucketsOf_75 rfl (lv_at hl 0 rfl) ?_
        exact rt_i F dX3_bucketsOf_76 rfl () h hP hD hS (Nat.le_refl _) (Nat.le_refl _)
      · replace h := h.2 c9
        refine lv_iload_n hx hb dX3_bucketsOf_69 rfl (lv_at hl 0 rfl) ?_
        refine lv_iconst (v := (2 : Int32)) hx hb dX3_bucketsOf_70 (by decide) ?_
        refine lv_idiv hx hb dX3_bucketsOf_71 (by decide) ?_
        refine lv_goto (tgt := 76) hx hb dX3_bucketsOf_72 (by decide) ?_
        exact rt_i F dX3_bucketsOf_76 rfl () h hP hD hS (Nat.le_refl _) (Nat.le_refl _)
  · replace h := h.2 c11
    refine lv_iconst (v := (0 : Int32)) hx hb dX3_bucketsOf_8 (by decide) ?_
    exact rt_i F dX3_bucketsOf_9 rfl () h hP hD hS (Nat.le_refl _) (Nat.le_refl _)
set_option maxHeartbeats 4000000 in
theorem ct_M_go {l : Launch} {V : evT} {D : va_G} {gI : Nat → ClassId} {o : Nat} {ad : Nat → Nat} {v1 : Int32} {v2 : Int32} {fd : Nat → Int32} {ar : Nat → Nat → Int32} {lw : Nat → Int64} {Q : Int32 → (Nat → Int32) → (Nat → Nat → Int32) → Prop} (h : wp_M_go v1 v2 fd ar lw Q) : ct_i l V D vwCl (tyL gI) yX3_go cX3_go 3 .int { frames := 4, cells := 0, slots := 0, locals := 82 } [.ref o, .int v1, .int v2] (wm gI o ad fd ar lw) (fun u : (Nat → Int32) × (Nat → Nat → Int32) => (wm gI o ad u.1 u.2 lw)) (fun (x : Int32) (u : (Nat → Int32) × (Nat → Nat → Int32)) => Q x u.1 u.2) := by
  refine ct_ofi RX3 rfl (by decide +kernel) (Nat.le_of_ble_eq_true rfl) ?_
  intro p e s m args below meth c A F hP hD ls hl
  obtain ⟨⟨hx, hb, hml, hown, hts⟩, hr, hlocks, hA, hK, hE⟩ := id F
  have hS : va_S A s.heap s.heap [] := va_S.rf
  have hl : lv_has ls 3 [(0, .ref o), (1, .int v1), (2, .int v2)] := hl
  have hRf : 4 ≤ ({ frames := 4, cells := 0, slots := 0, locals := 82 } : Room).frames := Nat.le_refl _
  have hRl : 82 ≤ ({ frames := 4, cells := 0, slots := 0, locals := 82 } : Room).locals := Nat.le_refl _
  have hC : 0 ≤ ({ frames := 4, cells := 0, slots := 0, locals := 82 } : Room).cells := Nat.le_refl _
  have hSl : 0 ≤ ({ frames := 4, cells := 0, slots := 0, locals := 82 } : Room).slots := Nat.le_refl _
  unfold wp_M_go at h
  refine lv_aload_n hx hb dX3_go_0 rfl (lv_at hl 0 rfl) ?_
  refine lv_iconst (v := (0 : Int32)) hx hb dX3_go_1 (by decide) ?_
  refine pt_put (v := .int (0 : Int32)) hx hb hts in_X3 tyX3 tyX3_ok nmX3 hown hK hP hD hS 0 rfl rfl 0 (Nat.le_of_ble_eq_true rfl) (hts _ q1218) (fun _ h => h) rfl (ty := .int) (by decide +kernel) rfl rfl (Nat.le_of_ble_eq_true rfl) dX3_go_2 wmF_0 (fun H locs hP hD hS => ?_)
  refine lv_aload_n hx hb dX3_go_5 rfl (lv_at hl 0 rfl) ?_
  refine cl_v F (va_runV (As := []) (rest := []) ⟨hx, hb, hml, hown, hts⟩ (ct_M_putsBy h _) (cwV 0 hts (lw_V q1569 q1571 qs59 q97 q1572) rfl rfl rfl (by decide +kernel) ⟨Nat.le_trans (Nat.le_of_ble_eq_true rfl) hRf, Nat.le_trans (Nat.le_of_ble_eq_true rfl) hRl⟩) ⟨ct_blind, va_recv hK hP (ci := 2) (q0 := 0) rfl rfl, ct_at F hS hP hD⟩ rfl rfl hl.1 rfl (lv_room (Nat.le_of_ble_eq_true rfl)) dX3_go_6 ⟨hC, hSl⟩) rfl rfl hD hS ?_
  rintro ar1 H locs h hP hD hS
  refine lv_aload_n hx hb dX3_go_9 rfl (lv_at hl 0 rfl) ?_
  refine lv_aload_n hx hb dX3_go_10 rfl (lv_at hl 0 rfl) ?_
  refine lv_aload_n hx hb dX3_go_11 rfl (lv_at hl 0 rfl) ?_
  refine va_get hx hb hts in_X3 hown hK hP 0 rfl rfl 12 (Nat.le_of_ble_eq_true rfl) (hts _ q1230) (fun _ h => h) (v := .ref (ad 12)) rfl dX3_go_12 ?_
  refine lv_iload_n hx hb dX3_go_15 rfl (lv_at hl 1 rfl) ?_
  refine lv_iload_n hx hb dX3_go_16 rfl (lv_at hl 2 rfl) ?_
  refine cl_i F (va_runV (As := [.ref (ad 12), .int v1, .int v2]) (rest := [.ref o]) ⟨hx, hb, hml, hown, hts⟩ (ct_M_goes_i12 h _) (cwV 3 hts (lw_V q1573 q1575 qs60 q97 q1576) rfl rfl rfl (by decide +kernel) ⟨Nat.le_trans (Nat.le_of_ble_eq_true rfl) hRf, Nat.le_trans (Nat.le_of_ble_eq_true rfl) hRl⟩) ⟨ct_blind, va_recv hK hP (ci := 2) (q0 := 0) rfl rfl, ct_at F hS hP hD⟩ rfl rfl hl.1 rfl (lv_room (Nat.le_of_ble_eq_true rfl)) dX3_go_17 ⟨hC, hSl⟩) rfl rfl hD hS ?_
  rintro x2 ar3 H locs h hP hD hS
  refine cl_i F (va_runV (As := [.int x2]) (rest := []) ⟨hx, hb, hml, hown, hts⟩ (ct_M_counts h _) (cwV 1 hts (lw_V q1577 q1579 qs61 q97 q1580) rfl rfl rfl (by decide +kernel) ⟨Nat.le_trans (Nat.le_of_ble_eq_true rfl) hRf, Nat.le_trans (Nat.le_of_ble_eq_true rfl) hRl⟩) ⟨ct_blind, va_recv hK hP (ci := 2) (q0 := 0) rfl rfl, ct_at F hS hP hD⟩ rfl rfl hl.1 rfl (lv_room (Nat.le_of_ble_eq_true rfl)) dX3_go_20 ⟨hC, hSl⟩) rfl rfl hD hS ?_
  rintro x4 ⟨fd5, ar6⟩ H locs h hP hD hS
  exact rt_i F dX3_go_23 rfl (fd5, ar6) h hP hD hS (Nat.le_refl _) (Nat.le_refl _)
set_option maxHeartbeats 4000000 in
theorem ct_M_home {l : Launch} {V : evT} {D : va_G} {gI : Nat → ClassId} {o : Nat} {ad : Nat → Nat} {v1 : Int32} {fd : Nat → Int32} {ar : Nat → Nat → Int32} {lw : Nat → Int64} {Q : Int32 → (Nat → Int32) → (Nat → Nat → Int32) → Prop} (h : wp_M_home v1 fd ar lw Q) : ct_i l V D vwCl (tyL gI) yX3_home cX3_home 2 .int { frames := 4, cells := 0, slots := 0, locals := 80 } [.ref o, .int v1] (wm gI o ad fd ar lw) (fun u : (Nat → Int32) × (Nat → Nat → Int32) => (wm gI o ad u.1 u.2 lw)) (fun (x : Int32) (u : (Nat → Int32) × (Nat → Nat → Int32)) => Q x u.1 u.2) := by
  refine ct_ofi RX3 rfl (by decide +kernel) (Nat.le_of_ble_eq_true rfl) ?_
  intro p e s m args below meth c A F hP hD ls hl
  obtain ⟨⟨hx, hb, hml, hown, hts⟩, hr, hlocks, hA, hK, hE⟩ := id F
  have hS : va_S A s.heap s.heap [] := va_S.rf
  have hl : lv_has ls 2 [(0, .ref o), (1, .int v1)] := hl
  have hRf : 4 ≤ ({ frames := 4, cells := 0, slots := 0, locals := 80 } : Room).frames := Nat.le_refl _
  have hRl : 80 ≤ ({ frames := 4, cells := 0, slots := 0, locals := 80 } : Room).locals := Nat.le_refl _
  have hC : 0 ≤ ({ frames := 4, cells := 0, slots := 0, locals := 80 } : Room).cells := Nat.le_refl _
  have hSl : 0 ≤ ({ frames := 4, cells := 0, slots := 0, locals := 80 } : Room).slots := Nat.le_refl _
  unfold wp_M_home at h
  refine lv_aload_n hx hb dX3_home_0 rfl (lv_at hl 0 rfl) ?_
  refine lv_iconst (v := (0 : Int32)) hx hb dX3_home_1 (by decide) ?_
  refine pt_put (v := .int (0 : Int32)) hx hb hts in_X3 tyX3 tyX3_ok nmX3 hown hK hP hD hS 0 rfl rfl 0 (Nat.le_of_ble_eq_true rfl) (hts _ q1218) (fun _ h => h) rfl (ty := .int) (by decide +kernel) rfl rfl (Nat.le_of_ble_eq_true rfl) dX3_home_2 wmF_0 (fun H locs hP hD hS => ?_)
  refine lv_aload_n hx hb dX3_home_5 rfl (lv_at hl 0 rfl) ?_
  refine cl_v F (va_runV (As := []) (rest := []) ⟨hx, hb, hml, hown, hts⟩ (ct_M_putsBy h _) (cwV 0 hts (lw_V q1569 q1571 qs59 q97 q1572) rfl rfl rfl (by decide +kernel) ⟨Nat.le_trans (Nat.le_of_ble_eq_true rfl) hRf, Nat.le_trans (Nat.le_of_ble_eq_true rfl) hRl⟩) ⟨ct_blind, va_recv hK hP (ci := 2) (q0 := 0) rfl rfl, ct_at F hS hP hD⟩ rfl rfl hl.1 rfl (lv_room (Nat.le_of_ble_eq_true rfl)) dX3_home_6 ⟨hC, hSl⟩) rfl rfl hD hS ?_
  rintro ar1 H locs h hP hD hS
  refine lv_aload_n hx hb dX3_home_9 rfl (lv_at hl 0 rfl) ?_
  refine lv_aload_n hx hb dX3_home_10 rfl (lv_at hl 0 rfl) ?_
  refine lv_iload_n hx hb dX3_home_11 rfl (lv_at hl 1 rfl) ?_
  refine cl_i F (va_runV (As := [.int v1]) (rest := [.ref o]) ⟨hx, hb, hml, hown, hts⟩ (ct_M_goesHome h _) (cwV 1 hts (lw_V q1589 q1591 qs63 q97 q1592) rfl rfl rfl (by decide +kernel) ⟨Nat.le_trans (Nat.le_of_ble_eq_true rfl) hRf, Nat.le_trans (Nat.le_of_ble_eq_true rfl) hRl⟩) ⟨ct_blind, va_recv hK hP (ci := 2) (q0 := 0) rfl rfl, ct_at F hS hP hD⟩ rfl rfl hl.1 rfl (lv_room (Nat.le_of_ble_eq_true rfl)) dX3_home_12 ⟨hC, hSl⟩) rfl rfl hD hS ?_
  rintro x2 ar3 H locs h hP hD hS
  refine cl_i F (va_runV (As := [.int x2]) (rest := []) ⟨hx, hb, hml, hown, hts⟩ (ct_M_counts h _) (cwV 1 hts (lw_V q1577 q1579 qs61 q97 q1580) rfl rfl rfl (by decide +kernel) ⟨Nat.le_trans (Nat.le_of_ble_eq_true rfl) hRf, Nat.le_trans (Nat.le_of_ble_eq_true rfl) hRl⟩) ⟨ct_blind, va_recv hK hP (ci := 2) (q0 := 0) rfl rfl, ct_at F hS hP hD⟩ rfl rfl hl.1 rfl (lv_room (Nat.le_of_ble_eq_true rfl)) dX3_home_15 ⟨hC, hSl⟩) rfl rfl hD hS ?_
  rintro x4 ⟨fd5, ar6⟩ H locs h hP hD hS
  exact rt_i F dX3_home_18 rfl (fd5, ar6) h hP hD hS (Nat.le_refl _) (Nat.le_refl _)
set_option maxHeartbeats 4000000 in
theorem ct_M_spade {l : Launch} {V : evT} {D : va_G} {gI : Nat → ClassId} {o : Nat} {ad : Nat → Nat} {v1 : Int32} {fd : Nat → Int32} {ar : Nat → Nat → Int32} {lw : Nat → Int64} {Q : Int32 → (Nat → Int32) → (Nat → Nat → Int32) → Prop} (h : wp_M_spade v1 fd ar lw Q) : ct_i l V D vwCl (tyL gI) yX3_spade cX3_spade 2 .int { frames := 4, cells := 0, slots := 0, locals := 79 } [.ref o, .int v1] (wm gI o ad fd ar lw) (fun u : (Nat → Int32) × (Nat → Nat → Int32) => (wm gI o ad u.1 u.2 lw)) (fun (x : Int32) (u : (Nat → Int32) × (Nat → Nat → Int32)) => Q x u.1 u.2) := by
  refine ct_ofi RX3 rfl (by decide +kernel) (Nat.le_of_ble_eq_true rfl) ?_
  intro p e s m args below meth c A F hP hD ls hl
  obtain ⟨⟨hx, hb, hml, hown, hts⟩, hr, hlocks, hA, hK, hE⟩ := id F
  have hS : va_S A s.heap s.heap [] := va_S.rf
  have hl : lv_has ls 2 [(0, .ref o), (1, .int v1)] := hl
  have hRf : 4 ≤ ({ frames := 4, cells := 0, slots := 0, locals := 79 } : Room).frames := Nat.le_refl _
  have hRl : 79 ≤ ({ frames := 4, cells := 0, slots := 0, locals := 79 } : Room).locals := Nat.le_refl _
  have hC : 0 ≤ ({ frames := 4, cells := 0, slots := 0, locals := 79 } : Room).cells := Nat.le_refl _
  have hSl : 0 ≤ ({ frames := 4, cells := 0, slots := 0, locals := 79 } : Room).slots := Nat.le_refl _
  unfold wp_M_spade at h
  refine lv_aload_n hx hb dX3_spade_0 rfl (lv_at hl 0 rfl) ?_
  refine lv_iconst (v := (0 : Int32)) hx hb dX3_spade_1 (by decide) ?_
  refine pt_put (v := .int (0 : Int32)) hx hb hts in_X3 tyX3 tyX3_ok nmX3 hown hK hP hD hS 0 rfl rfl 0 (Nat.le_of_ble_eq_true rfl) (hts _ q1218) (fun _ h => h) rfl (ty := .int) (by decide +kernel) rfl rfl (Nat.le_of_ble_eq_true rfl) dX3_spade_2 wmF_0 (fun H locs hP hD hS => ?_)
  refine lv_aload_n hx hb dX3_spade_5 rfl (lv_at hl 0 rfl) ?_
  refine cl_v F (va_runV (As := []) (rest := []) ⟨hx, hb, hml, hown, hts⟩ (ct_M_putsBy h _) (cwV 0 hts (lw_V q1569 q1571 qs59 q97 q1572) rfl rfl rfl (by decide +kernel) ⟨Nat.le_trans (Nat.le_of_ble_eq_true rfl) hRf, Nat.le_trans (Nat.le_of_ble_eq_true rfl) hRl⟩) ⟨ct_blind, va_recv hK hP (ci := 2) (q0 := 0) rfl rfl, ct_at F hS hP hD⟩ rfl rfl hl.1 rfl (lv_room (Nat.le_of_ble_eq_true rfl)) dX3_spade_6 ⟨hC, hSl⟩) rfl rfl hD hS ?_
  rintro ar1 H locs h hP hD hS
  refine lv_aload_n hx hb dX3_spade_9 rfl (lv_at hl 0 rfl) ?_
  refine lv_aload_n hx hb dX3_spade_10 rfl (lv_at hl 0 rfl) ?_
  refine lv_iload_n hx hb dX3_spade_11 rfl (lv_at hl 1 rfl) ?_
  refine cl_i F (va_runV (As := [.int v1]) (rest := [.ref o]) ⟨hx, hb, hml, hown, hts⟩ (ct_M_spadeFor h _) (cwV 1 hts (lw_V q1597 q1599 qs64 q97 q1600) rfl rfl rfl (by decide +kernel) ⟨Nat.le_trans (Nat.le_of_ble_eq_true rfl) hRf, Nat.le_trans (Nat.le_of_ble_eq_true rfl) hRl⟩) ⟨ct_blind, va_recv hK hP (ci := 2) (q0 := 0) rfl rfl, ct_at F hS hP hD⟩ rfl rfl hl.1 rfl (lv_room (Nat.le_of_ble_eq_true rfl)) dX3_spade_12 ⟨hC, hSl⟩) rfl rfl hD hS ?_
  rintro x2 ar3 H locs h hP hD hS
  refine cl_i F (va_runV (As := [.int x2]) (rest := []) ⟨hx, hb, hml, hown, hts⟩ (ct_M_counts h _) (cwV 1 hts (lw_V q1577 q1579 qs61 q97 q1580) rfl rfl rfl (by decide +kernel) ⟨Nat.le_trans (Nat.le_of_ble_eq_true rfl) hRf, Nat.le_trans (Nat.le_of_ble_eq_true rfl) hRl⟩) ⟨ct_blind, va_recv hK hP (ci := 2) (q0 := 0) rfl rfl, ct_at F hS hP hD⟩ rfl rfl hl.1 rfl (lv_room (Nat.le_of_ble_eq_true rfl)) dX3_spade_15 ⟨hC, hSl⟩) rfl rfl hD hS ?_
  rintro x4 ⟨fd5, ar6⟩ H locs h hP hD hS
  exact rt_i F dX3_spade_18 rfl (fd5, ar6) h hP hD hS (Nat.le_refl _) (Nat.le_refl _)
