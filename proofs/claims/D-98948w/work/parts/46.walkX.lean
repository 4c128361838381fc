/-! walks of the sea -/
set_option maxRecDepth 100000
set_option maxHeartbeats 4000000 in
theorem lp_S_bucketsBy_L1 {p : Program} {l : Launch} {e : Env} {R : Room} {s : State} {m : MethodId} {args : Array Value} {below : List Frame} {meth : Method} {c : Code} {cells slots : Nat} {A : Nat → Prop} {Qf : State → Prop} {V : evT} {D : va_G} {gI : Nat → ClassId} {o : Nat} {ax : Nat → Nat} {rn : Option (Nat × Nat)} {tl : va_W} {fd : Nat → Int32} {ar : Nat → Nat → Int32} {lw : Nat → Int64} {hh : HT} {K49 : (Int32) → Prop} (F : ct_F p m c meth cX1_bucketsBy 4 s args RX1 (some .int) A V D vwCl (tyL gI)) (hRf : 4 ≤ R.frames) (hRl : 81 ≤ R.locals) (hC : cells ≤ R.cells) (hSl : slots ≤ R.slots)
    (hK49 : ∀ (v2 : Int32), K49 v2 → ∀ (H : Heap) (locs : List Loc) (ls : Array Slot), va_P D vwCl (wX gI o ax rn tl fd ar lw hh) H → va_D A (wX gI o ax rn tl fd ar lw hh) → va_S A s.heap H locs → lv_has ls 4 [(2, .int v2)] → W p l e R s m args below meth c H locs cells slots Qf (F0 m 49 ls [])) :
    ∀ (n : Nat) (v2 : Int32) (v3 : Int32), wp_S_bucketsBy_L1 fd ar lw hh K49 n v2 v3 → ∀ (H : Heap) (locs : List Loc) (ls : Array Slot), va_P D vwCl (wX gI o ax rn tl fd ar lw hh) H → va_D A (wX gI o ax rn tl fd ar lw hh) → va_S A s.heap H locs → lv_has ls 4 [(0, .ref o), (2, .int v2), (3, .int v3)] → W p l e R s m args below meth c H locs cells slots Qf (F0 m 23 ls []) := by
  obtain ⟨⟨hx, hb, hml, hown, hts⟩, hr, hlocks, hA, hK, hE⟩ := id F
  intro n
  induction n with
  | zero => intro v2 v3 h; exact h.elim
  | succ n ih =>
    intro v2 v3 h H locs ls hP hD hS hl
    unfold wp_S_bucketsBy_L1 at h
    refine lv_iload_n hx hb dX1_bucketsBy_23 rfl (lv_at hl 2 rfl) ?_
    refine lv_aload_n hx hb dX1_bucketsBy_24 rfl (lv_at hl 0 rfl) ?_
    refine va_get hx hb hts in_X1 hown hK hP 0 rfl rfl 10 (Nat.le_of_ble_eq_true rfl) (hts _ q199) (fun _ h => h) (v := .int (fd 10)) rfl dX1_bucketsBy_25 ?_
    refine lv_icmp_ge (tgt := 49) hx hb dX1_bucketsBy_28 (by decide) (fun c9 => ?_) (fun c9 => ?_)
    · replace h := h.1 c9
      exact hK49 _ h _ _ _ hP hD hS (lv_sub hl [1] rfl)
    · replace h := h.2 c9
      refine lv_iload_n hx hb dX1_bucketsBy_31 rfl (lv_at hl 1 rfl) ?_
      refine lv_aload_n hx hb dX1_bucketsBy_32 rfl (lv_at hl 0 rfl) ?_
      refine lv_aload_n hx hb dX1_bucketsBy_33 rfl (lv_at hl 0 rfl) ?_
      refine va_get hx hb hts in_X1 hown hK hP 0 rfl rfl 2 (Nat.le_of_ble_eq_true rfl) (hts _ q186) (fun _ h => h) (v := .ref (ax 2)) rfl dX1_bucketsBy_34 ?_
      refine lv_iload_n hx hb dX1_bucketsBy_37 rfl (lv_at hl 2 rfl) ?_
      refine cl_i F (va_runV (As := [.ref (ax 2), .int v3]) (rest := [.int v2]) ⟨hx, hb, hml, hown, hts⟩ (ct_S_bucketsOf_i2 h _) (cwV 2 hts (lw_V q713 q715 qs16 q94 q716) rfl rfl rfl (by decide +kernel) ⟨Nat.le_trans (Nat.le_of_ble_eq_true rfl) hRf, Nat.le_trans (Nat.le_of_ble_eq_true rfl) hRl⟩) ⟨ct_blind, va_recv hK hP (ci := 0) (q0 := 0) rfl rfl, ct_at F hS hP hD⟩ rfl rfl hl.1 rfl (lv_room (Nat.le_of_ble_eq_true rfl)) dX1_bucketsBy_38 ⟨hC, hSl⟩) rfl rfl hD hS ?_
      rintro x8 _ H locs h hP hD hS
      refine lv_iadd hx hb dX1_bucketsBy_41 ?_
      refine lv_istore_n (lv' := [(2, .int (v2 + x8)), (0, .ref o), (3, .int v3)]) hx hb dX1_bucketsBy_42 rfl hl (by decide) rfl (fun ls hl => ?_)
      refine lv_iinc (v := (v3 + (1 : Int32))) (lv' := [(3, .int (v3 + (1 : Int32))), (2, .int (v2 + x8)), (0, .ref o)]) hx hb dX1_bucketsBy_43 hl (k := 2) rfl rfl (by decide) rfl (fun ls hl => ?_)
      refine lv_goto (tgt := 23) hx hb dX1_bucketsBy_46 (by decide) ?_
      exact ih _ _ h _ _ _ hP hD hS (lv_sub hl [2, 1, 0] rfl)
set_option maxHeartbeats 4000000 in
theorem ct_S_bucketsBy {l : Launch} {V : evT} {D : va_G} {gI : Nat → ClassId} {o : Nat} {ax : Nat → Nat} {rn : Option (Nat × Nat)} {tl : va_W} {v1 : Int32} {fd : Nat → Int32} {ar : Nat → Nat → Int32} {lw : Nat → Int64} {hh : HT} {Q : Int32 → (Nat → Int32) → (Nat → Nat → Int32) → Prop} (h : wp_S_bucketsBy v1 fd ar lw hh Q) : ct_i l V D vwCl (tyL gI) yX1_bucketsBy cX1_bucketsBy 4 .int { frames := 4, cells := 0, slots := 0, locals := 81 } [.ref o, .int v1] (wX gI o ax rn tl fd ar lw hh) (fun u : (Nat → Int32) × (Nat → Nat → Int32) => (wX gI o ax rn tl u.1 u.2 lw hh)) (fun (x : Int32) (u : (Nat → Int32) × (Nat → Nat → Int32)) => Q x u.1 u.2) := by
  refine ct_ofi RX1 rfl (by decide +kernel) (Nat.le_of_ble_eq_true rfl) ?_
  intro p e s m args below meth c A F hP hD ls hl
  obtain ⟨⟨hx, hb, hml, hown, hts⟩, hr, hlocks, hA, hK, hE⟩ := id F
  have hS : va_S A s.heap s.heap [] := va_S.rf
  have hl : lv_has ls 4 [(0, .ref o), (1, .int v1)] := hl
  have hRf : 4 ≤ ({ frames := 4, cells := 0, slots := 0, locals := 81 } : Room).frames := Nat.le_refl _
  have hRl : 81 ≤ ({ frames := 4, cells := 0, slots := 0, locals := 81 } : Room).locals := Nat.le_refl _
  have hC : 0 ≤ ({ frames := 4, cells := 0, slots := 0, locals := 81 } : Room).cells := Nat.le_refl _
  have hSl : 0 ≤ ({ frames := 4, cells := 0, slots := 0, locals := 81 } : Room).slots := Nat.le_refl _
  unfold wp_S_bucketsBy at h
  refine lv_aload_n hx hb dX1_bucketsBy_0 rfl (lv_at hl 0 rfl) ?_
  refine va_get hx hb hts in_X1 hown hK hP 0 rfl rfl 2 (Nat.le_of_ble_eq_true rfl) (hts _ q186) (fun _ h => h) (v := .ref (ax 2)) rfl dX1_bucketsBy_1 ?_
  refine lv_aload_n hx hb dX1_bucketsBy_4 rfl (lv_at hl 0 rfl) ?_
  refine va_get hx hb hts in_X1 hown hK hP 0 rfl rfl 0 (Nat.le_of_ble_eq_true rfl) (hts _ q180) (fun _ h => h) (v := .ref (ax 0)) rfl dX1_bucketsBy_5 ?_
  refine cl_vL F (va_runV (As := [.ref (ax 0)]) (rest := []) ⟨hx, hb, hml, hown, hts⟩ (ct_B_be (o := (ax 2)) (ab := axb ax 2) (o2 := (ax 0)) (ab2 := axb ax 0) h _) (cwV 1 hts (lw_V q659 q660 q661 q95 q662) rfl rfl rfl (by decide +kernel) ⟨Nat.le_trans (Nat.le_of_ble_eq_true rfl) hRf, Nat.le_trans (Nat.le_of_ble_eq_true rfl) hRl⟩) ⟨ct_blind, va_recv hK hP (ci := 1) (q0 := 24) rfl rfl, ct_at F hS (putL_P hP (ps := [24, 25, 26, 27, 28, 14, 15, 16, 17, 18]) rfl) (hD.sub ([24, 25, 26, 27, 28, 14, 15, 16, 17, 18]) (by decide) rfl)⟩ rfl rfl hl.1 rfl (lv_room (Nat.le_of_ble_eq_true rfl)) dX1_bucketsBy_8 ⟨hC, hSl⟩) rfl rfl hP hD hS (ps := [24, 25, 26, 27, 28, 14, 15, 16, 17, 18]) rfl (fun _ => rfl) (fun _ => wXPP_2_0) ?_
  rintro ⟨wl1, dp2, aa3, md4, mo5, sp6, ti7⟩ H locs h hP hD hS
  refine lv_aload_n hx hb dX1_bucketsBy_11 rfl (lv_at hl 0 rfl) ?_
  refine va_get hx hb hts in_X1 hown hK hP 0 rfl rfl 2 (Nat.le_of_ble_eq_true rfl) (hts _ q186) (fun _ h => h) (v := .ref (ax 2)) rfl dX1_bucketsBy_12 ?_
  refine lv_iload_n hx hb dX1_bucketsBy_15 rfl (lv_at hl 1 rfl) ?_
  refine pt_put (v := .int v1) hx hb hts in_X2 tyX2 tyX2_ok nmX2 hown hK hP hD hS 24 rfl rfl 5 (Nat.le_of_ble_eq_true rfl) (hts _ q148) (fun _ h => h) rfl (ty := .int) (by decide +kernel) rfl rfl (Nat.le_of_ble_eq_true rfl) dX1_bucketsBy_16 (wXB_2_sp.trans (wXrF (up_rm1 ..))) (fun H locs hP hD hS => ?_)
  refine lv_iconst (v := (0 : Int32)) hx hb dX1_bucketsBy_19 (by decide) ?_
  refine lv_istore_n (lv' := [(2, .int (0 : Int32)), (0, .ref o), (1, .int v1)]) hx hb dX1_bucketsBy_20 rfl hl (by decide) rfl (fun ls hl => ?_)
  refine lv_iconst (v := (0 : Int32)) hx hb dX1_bucketsBy_21 (by decide) ?_
  refine lv_istore_n (lv' := [(3, .int (0 : Int32)), (2, .int (0 : Int32)), (0, .ref o), (1, .int v1)]) hx hb dX1_bucketsBy_22 rfl hl (by decide) rfl (fun ls hl => ?_)
  obtain ⟨k23, h⟩ := h
  refine lp_S_bucketsBy_L1 F hRf hRl hC hSl ?hk49 k23 _ _ h _ _ _ hP hD hS (lv_sub hl [2, 1, 0] rfl)
  case hk49 =>
    intro v2_10 h H locs ls hP hD hS hl
    refine lv_iload_n hx hb dX1_bucketsBy_49 rfl (lv_at hl 0 rfl) ?_
    exact rt_i F dX1_bucketsBy_50 rfl ((upd (upd (upd fd 66 mo5) 68 ti7) 67 v1), (va_up (va_up (va_up (va_up ar 48 wl1) 49 dp2) 50 aa3) 51 md4)) h hP hD hS (Nat.le_refl _) (Nat.le_refl _)
set_option maxHeartbeats 4000000 in
theorem lp_S_ways_L1 {p : Program} {l : Launch} {e : Env} {R : Room} {s : State} {m : MethodId} {args : Array Value} {below : List Frame} {meth : Method} {c : Code} {cells slots : Nat} {A : Nat → Prop} {Qf : State → Prop} {V : evT} {D : va_G} {gI : Nat → ClassId} {o : Nat} {ax : Nat → Nat} {rn : Option (Nat × Nat)} {tl : va_W} {ar : Nat → Nat → Int32} {hh : HT} {K43 : (Nat → Int32) → (Nat → Int64) → Prop} (F : ct_F p m c meth cX1_ways 2 s args RX1 (some .int) A V D vwCl (tyL gI)) (hRf : 14 ≤ R.frames) (hRl : 322 ≤ R.locals) (hC : cells ≤ R.cells) (hSl : slots ≤ R.slots)
    (hK43 : ∀ (fd : Nat → Int32) (lw : Nat → Int64), K43 fd lw → ∀ (H : Heap) (locs : List Loc) (ls : Array Slot), va_P D vwCl (wX gI o ax rn tl fd ar lw hh) H → va_D A (wX gI o ax rn tl fd ar lw hh) → va_S A s.heap H locs → lv_has ls 2 [(0, .ref o)] → W p l e R s m args below meth c H locs cells slots Qf (F0 m 43 ls [])) :
    ∀ (n : Nat) (v1 : Int32) (fd : Nat → Int32) (lw : Nat → Int64), wp_S_ways_L1 ar hh K43 n v1 fd lw → ∀ (H : Heap) (locs : List Loc) (ls : Array Slot), va_P D vwCl (wX gI o ax rn tl fd ar lw hh) H → va_D A (wX gI o ax rn tl fd ar lw hh) → va_S A s.heap H locs → lv_has ls 2 [(0, .ref o), (1, .int v1)] → W p l e R s m args below meth c H locs cells slots Qf (F0 m 11 ls []) := by
  obtain ⟨⟨hx, hb, hml, hown, hts⟩, hr, hlocks, hA, hK, hE⟩ := id F
  intro n
  induction n with
  | zero => intro v1 fd lw h; exact h.elim
  | succ n ih =>
    intro v1 fd lw h H locs ls hP hD hS hl
    unfold wp_S_ways_L1 at h
    refine lv_iload_n hx hb dX1_ways_11 rfl (lv_at hl 1 rfl) ?_
    refine lv_aload_n hx hb dX1_ways_12 rfl (lv_at hl 0 rfl) ?_
    refine va_get hx hb hts in_X1 hown hK hP 0 rfl rfl 10 (Nat.le_of_ble_eq_true rfl) (hts _ q199) (fun _ h => h) (v := .int (fd 10)) rfl dX1_ways_13 ?_
    refine lv_icmp_ge (tgt := 43) hx hb dX1_ways_16 (by decide) (fun c6 => ?_) (fun c6 => ?_)
    · replace h := h.1 c6
      exact hK43 _ _ h _ _ _ hP hD hS (lv_sub hl [0] rfl)
    · replace h := h.2 c6
      refine lv_aload_n hx hb dX1_ways_19 rfl (lv_at hl 0 rfl) ?_
      refine va_get hx hb hts in_X1 hown hK hP 0 rfl rfl 29 (Nat.le_of_ble_eq_true rfl) (hts _ q220) (fun _ h => h) (v := .int (fd 29)) rfl dX1_ways_20 ?_
      refine lv_if_le (tgt := 43) hx hb dX1_ways_23 (by decide) (fun c5 => ?_) (fun c5 => ?_)
      · replace h := h.1 c5
        exact hK43 _ _ h _ _ _ hP hD hS (lv_sub hl [0] rfl)
      · replace h := h.2 c5
        refine lv_aload_n hx hb dX1_ways_26 rfl (lv_at hl 0 rfl) ?_
        refine lv_aload_n hx hb dX1_ways_27 rfl (lv_at hl 0 rfl) ?_
        refine va_get hx hb hts in_X1 hown hK hP 0 rfl rfl 26 (Nat.le_of_ble_eq_true rfl) (hts _ q217) (fun _ h => h) (v := .ref (ax 26)) rfl dX1_ways_28 ?_
        refine lv_iload_n hx hb dX1_ways_31 rfl (lv_at hl 1 rfl) ?_
        refine va_iald (f := (ar 26)) hx hb hK hP 12 0 rfl rfl h.1 dX1_ways_32 ?_
        replace h := h.2
        refine lv_i2l (v := ((ar 26 v1.toNatClampNeg).toInt64)) hx hb dX1_ways_33 rfl ?_
        refine cl_v F (va_runV (As := [.long ((ar 26 v1.toNatClampNeg).toInt64)]) (rest := []) ⟨hx, hb, hml, hown, hts⟩ (ct_S_tell h _) (cwV 1 hts (lw_V q728 q730 qs19 q94 q731) rfl rfl rfl (by decide +kernel) ⟨Nat.le_trans (Nat.le_of_ble_eq_true rfl) hRf, Nat.le_trans (Nat.le_of_ble_eq_true rfl) hRl⟩) ⟨ct_blind, va_recv hK hP (ci := 0) (q0 := 0) rfl rfl, ct_at F hS hP hD⟩ rfl rfl hl.1 rfl (lv_room (Nat.le_of_ble_eq_true rfl)) dX1_ways_34 ⟨hC, hSl⟩) rfl rfl hD hS ?_
        rintro ⟨fd3, lw4⟩ H locs h hP hD hS
        refine lv_iinc (v := (v1 + (1 : Int32))) (lv' := [(1, .int (v1 + (1 : Int32))), (0, .ref o)]) hx hb dX1_ways_37 hl (k := 1) rfl rfl (by decide) rfl (fun ls hl => ?_)
        refine lv_goto (tgt := 11) hx hb dX1_ways_40 (by decide) ?_
        exact ih _ _ _ h _ _ _ hP hD hS (lv_sub hl [1, 0] rfl)
set_option maxHeartbeats 4000000 in
theorem ct_S_ways {l : Launch} {V : evT} {D : va_G} {gI : Nat → ClassId} {o : Nat} {ax : Nat → Nat} {rn : Option (Nat × Nat)} {tl : va_W} {fd : Nat → Int32} {ar : Nat → Nat → Int32} {lw : Nat → Int64} {hh : HT} {Q : Int32 → (Nat → Int32) → (Nat → Nat → Int32) → (Nat → Int64) → Prop} (h : wp_S_ways fd ar lw hh Q) : ct_i l V D vwCl (tyL gI) yX1_ways cX1_ways 2 .int { frames := 14, cells := 0, slots := 0, locals := 322 } [.ref o] (wX gI o ax rn tl fd ar lw hh) (fun u : (Nat → Int32) × (Nat → Nat → Int32) × (Nat → Int64) => (wX gI o ax rn tl u.1 u.2.1 u.2.2 hh)) (fun (x : Int32) (u : (Nat → Int32) × (Nat → Nat → Int32) × (Nat → Int64)) => Q x u.1 u.2.1 u.2.2) := by
  refine ct_ofi RX1 rfl (by decide +kernel) (Nat.le_of_ble_eq_true rfl) ?_
  intro p e s m args below meth c A F hP hD ls hl
  obtain ⟨⟨hx, hb, hml, hown, hts⟩, hr, hlocks, hA, hK, hE⟩ := id F
  have hS : va_S A s.heap s.heap [] := va_S.rf
  have hl : lv_has ls 2 [(0, .ref o)] := hl
  have hRf : 14 ≤ ({ frames := 14, cells := 0, slots := 0, locals := 322 } : Room).frames := Nat.le_refl _
  have hRl : 322 ≤ ({ frames := 14, cells := 0, slots := 0, locals := 322 } : Room).locals := Nat.le_refl _
  have hC : 0 ≤ ({ frames := 14, cells := 0, slots := 0, locals := 322 } : Room).cells := Nat.le_refl _
  have hSl : 0 ≤ ({ frames := 14, cells := 0, slots := 0, locals := 322 } : Room).slots := Nat.le_refl _
  unfold wp_S_ways at h
  refine lv_aload_n hx hb dX1_ways_0 rfl (lv_at hl 0 rfl) ?_
  refine cl_v F (va_runV (As := []) (rest := []) ⟨hx, hb, hml, hown, hts⟩ (ct_S_findWays h _) (cwV 0 hts (lw_V q1092 q1094 qs33 q94 q1095) rfl rfl rfl (by decide +kernel) ⟨Nat.le_trans (Nat.le_of_ble_eq_true rfl) hRf, Nat.le_trans (Nat.le_of_ble_eq_true rfl) hRl⟩) ⟨ct_blind, va_recv hK hP (ci := 0) (q0 := 0) rfl rfl, ct_at F hS hP hD⟩ rfl rfl hl.1 rfl (lv_room (Nat.le_of_ble_eq_true rfl)) dX1_ways_1 ⟨hC, hSl⟩) rfl rfl hD hS ?_
  rintro ⟨fd1, ar2⟩ H locs h hP hD hS
  refine lv_aload_n hx hb dX1_ways_4 rfl (lv_at hl 0 rfl) ?_
  refine lv_iconst (v := (0 : Int32)) hx hb dX1_ways_5 (by decide) ?_
  refine pt_put (v := .int (0 : Int32)) hx hb hts in_X1 tyX1 tyX1_ok nmX1 hown hK hP hD hS 0 rfl rfl 18 (Nat.le_of_ble_eq_true rfl) (hts _ q209) (fun _ h => h) rfl (ty := .int) (by decide +kernel) rfl rfl (Nat.le_of_ble_eq_true rfl) dX1_ways_6 wXF_18 (fun H locs hP hD hS => ?_)
  refine lv_iconst (v := (0 : Int32)) hx hb dX1_ways_9 (by decide) ?_
  refine lv_istore_n (lv' := [(1, .int (0 : Int32)), (0, .ref o)]) hx hb dX1_ways_10 rfl hl (by decide) rfl (fun ls hl => ?_)
  obtain ⟨k11, h⟩ := h
  refine lp_S_ways_L1 F hRf hRl hC hSl ?hk43 k11 _ _ _ h _ _ _ hP hD hS (lv_sub hl [1, 0] rfl)
  case hk43 =>
    intro fd_7 lw_8 h H locs ls hP hD hS hl
    refine lv_aload_n hx hb dX1_ways_43 rfl (lv_at hl 0 rfl) ?_
    refine va_get hx hb hts in_X1 hown hK hP 0 rfl rfl 29 (Nat.le_of_ble_eq_true rfl) (hts _ q220) (fun _ h => h) (v := .int (fd_7 29)) rfl dX1_ways_44 ?_
    exact rt_i F dX1_ways_47 rfl (fd_7, ar2, lw_8) h hP hD hS (Nat.le_refl _) (Nat.le_refl _)
set_option maxHeartbeats 4000000 in
theorem lp_S_rests_L2 {p : Program} {l : Launch} {e : Env} {R : Room} {s : State} {m : MethodId} {args : Array Value} {below : List Frame} {meth : Method} {c : Code} {cells slots : Nat} {A : Nat → Prop} {Qf : State → Prop} {V : evT} {D : va_G} {gI : Nat → ClassId} {o : Nat} {ax : Nat → Nat} {rn : Option (Nat × Nat)} {tl : va_W} {v1 : Int32} {v2 : Int32} {v4 : Int32} {ar : Nat → Nat → Int32} {hh : HT} {K107 : (Int32) → (Nat → Int32) → (Nat → Int64) → Prop} (F : ct_F p m c meth cX1_rests 6 s args RX1 (some .int) A V D vwCl (tyL gI)) (hRf : 3 ≤ R.frames) (hRl : 59 ≤ R.locals) (hC : cells ≤ R.cells) (hSl : slots ≤ R.slots)
    (hK107 : ∀ (v3 : Int32) (fd : Nat → Int32) (lw : Nat → Int64), K107 v3 fd lw → ∀ (H : Heap) (locs : List Loc) (ls : Array Slot), va_P D vwCl (wX gI o ax rn tl fd ar lw hh) H → va_D A (wX gI o ax rn tl fd ar lw hh) → va_S A s.heap H locs → lv_has ls 6 [(0, .ref o), (1, .int v1), (2, .int v2), (3, .int v3), (4, .int v4)] → W p l e R s m args below meth c H locs cells slots Qf (F0 m 107 ls [])) :
    ∀ (n : Nat) (v3 : Int32) (v5 : Int32) (fd : Nat → Int32) (lw : Nat → Int64), wp_S_rests_L2 v1 v2 v4 ar hh K107 n v3 v5 fd lw → ∀ (H : Heap) (locs : List Loc) (ls : Array Slot), va_P D vwCl (wX gI o ax rn tl fd ar lw hh) H → va_D A (wX gI o ax rn tl fd ar lw hh) → va_S A s.heap H locs → lv_has ls 6 [(0, .ref o), (1, .int v1), (2, .int v2), (3, .int v3), (4, .int v4), (5, .int v5)] → W p l e R s m args below meth c H locs cells slots Qf (F0 m 46 ls []) := by
  obtain ⟨⟨hx, hb, hml, hown, hts⟩, hr, hlocks, hA, hK, hE⟩ := id F
  intro n
  induction n with
  | zero => intro v3 v5 fd lw h; exact h.elim
  | succ n ih =>
    intro v3 v5 fd lw h H locs ls hP hD hS hl
    unfold wp_S_rests_L2 at h
    refine lv_iload hx hb dX1_rests_46 (lv_at hl 5 rfl) ?_
    refine lv_bipush (v := (9 : Int32)) hx hb dX1_rests_48 (by decide) ?_
    refine lv_icmp_gt (tgt := 107) hx hb dX1_rests_50 (by decide) (fun c12 => ?_) (fun c12 => ?_)
    · replace h := h.1 c12
      exact hK107 _ _ _ h _ _ _ hP hD hS (lv_sub hl [0, 1, 2, 3, 4] rfl)
    · replace h := h.2 c12
      refine lv_iload hx hb dX1_rests_53 (lv_at hl 4 rfl) ?_
      refine lv_iload hx hb dX1_rests_55 (lv_at hl 5 rfl) ?_
      refine lv_iload_n hx hb dX1_rests_57 rfl (lv_at hl 1 rfl) ?_
      refine lv_iload_n hx hb dX1_rests_58 rfl (lv_at hl 2 rfl) ?_
      refine cl_i0 F (va_runS (As := [.int v4, .int v5, .int v1, .int v2]) (rest := []) ⟨hx, hb, hml, hown, hts⟩ (ct_X1_isBest h _) (va_cwS 4 hts (lw_S q1120 q1121 q94 q1122) rfl rfl rfl (by decide +kernel) ⟨Nat.le_trans (Nat.le_of_ble_eq_true rfl) hRf, Nat.le_trans (Nat.le_of_ble_eq_true rfl) hRl⟩) ⟨ct_blind, ct_at F hS ct_nP ct_nD⟩ rfl rfl hl.1 rfl (lv_room (Nat.le_of_ble_eq_true rfl)) dX1_rests_59 ⟨hC, hSl⟩) rfl rfl hP hS ?_
      rintro x3 _ H locs h hP hS
      refine lv_if_eq (tgt := 101) hx hb dX1_rests_62 (by decide) (fun c11 => ?_) (fun c11 => ?_)
      · replace h := h.1 c11
        refine lv_iinc (v := (v5 + (1 : Int32))) (lv' := [(5, .int (v5 + (1 : Int32))), (0, .ref o), (1, .int v1), (2, .int v2), (3, .int v3), (4, .int v4)]) hx hb dX1_rests_101 hl (k := 5) rfl rfl (by decide) rfl (fun ls hl => ?_)
        refine lv_goto (tgt := 46) hx hb dX1_rests_104 (by decide) ?_
        exact ih _ _ _ _ h _ _ _ hP hD hS (lv_sub hl [1, 2, 3, 4, 5, 0] rfl)
      · replace h := h.2 c11
        refine lv_iload hx hb dX1_rests_65 (lv_at hl 5 rfl) ?_
        refine lv_iload hx hb dX1_rests_67 (lv_at hl 4 rfl) ?_
        refine lv_iload_n hx hb dX1_rests_69 rfl (lv_at hl 1 rfl) ?_
        refine lv_iload_n hx hb dX1_rests_70 rfl (lv_at hl 2 rfl) ?_
        refine cl_i0 F (va_runS (As := [.int v5, .int v4, .int v1, .int v2]) (rest := []) ⟨hx, hb, hml, hown, hts⟩ (ct_X1_isBest h _) (va_cwS 4 hts (lw_S q1120 q1121 q94 q1122) rfl rfl rfl (by decide +kernel) ⟨Nat.le_trans (Nat.le_of_ble_eq_true rfl) hRf, Nat.le_trans (Nat.le_of_ble_eq_true rfl) hRl⟩) ⟨ct_blind, ct_at F hS ct_nP ct_nD⟩ rfl rfl hl.1 rfl (lv_room (Nat.le_of_ble_eq_true rfl)) dX1_rests_71 ⟨hC, hSl⟩) rfl rfl hP hS ?_
        rintro x4 _ H locs h hP hS
        refine lv_if_ne (tgt := 80) hx hb dX1_rests_74 (by decide) (fun c10 => ?_) (fun c10 => ?_)
        · replace h := h.1 c10
          refine lv_iload_n hx hb dX1_rests_80 rfl (lv_at hl 3 rfl) ?_
          refine lv_if_ne (tgt := 98) hx hb dX1_rests_81 (by decide) (fun c9 => ?_) (fun c9 => ?_)
          · replace h := h.1 c9
            refine lv_iinc (v := (v3 + (1 : Int32))) (lv' := [(3, .int (v3 + (1 : Int32))), (0, .ref o), (1, .int v1), (2, .int v2), (4, .int v4), (5, .int v5)]) hx hb dX1_rests_98 hl (k := 3) rfl rfl (by decide) rfl (fun ls hl => ?_)
            refine lv_iinc (v := (v5 + (1 : Int32))) (lv' := [(5, .int (v5 + (1 : Int32))), (3, .int (v3 + (1 : Int32))), (0, .ref o), (1, .int v1), (2, .int v2), (4, .int v4)]) hx hb dX1_rests_101 hl (k := 5) rfl rfl (by decide) rfl (fun ls hl => ?_)
            refine lv_goto (tgt := 46) hx hb dX1_rests_104 (by decide) ?_
            exact ih _ _ _ _ h _ _ _ hP hD hS (lv_sub hl [2, 3, 4, 1, 5, 0] rfl)
          · replace h := h.2 c9
            refine lv_aload_n hx hb dX1_rests_84 rfl (lv_at hl 0 rfl) ?_
            refine lv_iload hx hb dX1_rests_85 (lv_at hl 4 rfl) ?_
            refine lv_i2l (v := (v4.toInt64)) hx hb dX1_rests_87 rfl ?_
            refine cl_v F (va_runV (As := [.long (v4.toInt64)]) (rest := []) ⟨hx, hb, hml, hown, hts⟩ (ct_S_tell h _) (cwV 1 hts (lw_V q728 q730 qs19 q94 q731) rfl rfl rfl (by decide +kernel) ⟨Nat.le_trans (Nat.le_of_ble_eq_true rfl) hRf, Nat.le_trans (Nat.le_of_ble_eq_true rfl) hRl⟩) ⟨ct_blind, va_recv hK hP (ci := 0) (q0 := 0) rfl rfl, ct_at F hS hP hD⟩ rfl rfl hl.1 rfl (lv_room (Nat.le_of_ble_eq_true rfl)) dX1_rests_88 ⟨hC, hSl⟩) rfl rfl hD hS ?_
            rintro ⟨fd5, lw6⟩ H locs h hP hD hS
            refine lv_aload_n hx hb dX1_rests_91 rfl (lv_at hl 0 rfl) ?_
            refine lv_iload hx hb dX1_rests_92 (lv_at hl 5 rfl) ?_
            refine lv_i2l (v := (v5.toInt64)) hx hb dX1_rests_94 rfl ?_
            refine cl_v F (va_runV (As := [.long (v5.toInt64)]) (rest := []) ⟨hx, hb, hml, hown, hts⟩ (ct_S_tell h _) (cwV 1 hts (lw_V q728 q730 qs19 q94 q731) rfl rfl rfl (by decide +kernel) ⟨Nat.le_trans (Nat.le_of_ble_eq_true rfl) hRf, Nat.le_trans (Nat.le_of_ble_eq_true rfl) hRl⟩) ⟨ct_blind, va_recv hK hP (ci := 0) (q0 := 0) rfl rfl, ct_at F hS hP hD⟩ rfl rfl hl.1 rfl (lv_room (Nat.le_of_ble_eq_true rfl)) dX1_rests_95 ⟨hC, hSl⟩) rfl rfl hD hS ?_
            rintro ⟨fd7, lw8⟩ H locs h hP hD hS
            refine lv_iinc (v := (v3 + (1 : Int32))) (lv' := [(3, .int (v3 + (1 : Int32))), (0, .ref o), (1, .int v1), (2, .int v2), (4, .int v4), (5, .int v5)]) hx hb dX1_rests_98 hl (k := 3) rfl rfl (by decide) rfl (fun ls hl => ?_)
            refine lv_iinc (v := (v5 + (1 : Int32))) (lv' := [(5, .int (v5 + (1 : Int32))), (3, .int (v3 + (1 : Int32))), (0, .ref o), (1, .int v1), (2, .int v2), (4, .int v4)]) hx hb dX1_rests_101 hl (k := 5) rfl rfl (by decide) rfl (fun ls hl => ?_)
            refine lv_goto (tgt := 46) hx hb dX1_rests_104 (by decide) ?_
            exact ih _ _ _ _ h _ _ _ hP hD hS (lv_sub hl [2, 3, 4, 1, 5, 0] rfl)
        · replace h := h.2 c10
          refine lv_goto (tgt := 101) hx hb dX1_rests_77 (by decide) ?_
          refine lv_iinc (v := (v5 + (1 : Int32))) (lv' := [(5, .int (v5 + (1 : Int32))), (0, .ref o), (1, .int v1), (2, .int v2), (3, .int v3), (4, .int v4)]) hx hb dX1_rests_101 hl (k := 5) rfl rfl (by decide) rfl (fun ls hl => ?_)
          refine lv_goto (tgt := 46) hx hb dX1_rests_104 (by decide) ?_
          exact ih _ _ _ _ h _ _ _ hP hD hS (lv_sub hl [1, 2, 3, 4, 5, 0] rfl)
set_option maxHeartbeats 4000000 in
theorem lp_S_rests_L1 {p : Program} {l : Launch} {e : Env} {R : Room} {s : State} {m : MethodId} {args : Array Value} {below : List Frame} {meth : Method} {c : Code} {cells slots : Nat} {A : Nat → Prop} {Qf : State → Prop} {V : evT} {D : va_G} {gI : Nat → ClassId} {o : Nat} {ax : Nat → Nat} {rn : Option (Nat × Nat)} {tl : va_W} {v1 : Int32} {v2 : Int32} {ar : Nat → Nat → Int32} {hh : HT} {K113 : (Int32) → (Nat → Int32) → (Nat → Int64) → Prop} (F : ct_F p m c meth cX1_rests 6 s args RX1 (some .int) A V D vwCl (tyL gI)) (hRf : 3 ≤ R.frames) (hRl : 59 ≤ R.locals) (hC : cells ≤ R.cells) (hSl : slots ≤ R.slots)
    (hK113 : ∀ (v3 : Int32) (fd : Nat → Int32) (lw : Nat → Int64), K113 v3 fd lw → ∀ (H : Heap) (locs : List Loc) (ls : Array Slot), va_P D vwCl (wX gI o ax rn tl fd ar lw hh) H → va_D A (wX gI o ax rn tl fd ar lw hh) → va_S A s.heap H locs → lv_has ls 6 [(3, .int v3)] → W p l e R s m args below meth c H locs cells slots Qf (F0 m 113 ls [])) :
    ∀ (n : Nat) (v3 : Int32) (v4 : Int32) (fd : Nat → Int32) (lw : Nat → Int64), wp_S_rests_L1 v1 v2 ar hh K113 n v3 v4 fd lw → ∀ (H : Heap) (locs : List Loc) (ls : Array Slot), va_P D vwCl (wX gI o ax rn tl fd ar lw hh) H → va_D A (wX gI o ax rn tl fd ar lw hh) → va_S A s.heap H locs → lv_has ls 6 [(0, .ref o), (1, .int v1), (2, .int v2), (3, .int v3), (4, .int v4)] → W p l e R s m args below meth c H locs cells slots Qf (F0 m 36 ls []) := by
  obtain ⟨⟨hx, hb, hml, hown, hts⟩, hr, hlocks, hA, hK, hE⟩ := id F
  intro n
  induction n with
  | zero => intro v3 v4 fd lw h; exact h.elim
  | succ n ih =>
    intro v3 v4 fd lw h H locs ls hP hD hS hl
    unfold wp_S_rests_L1 at h
    refine lv_iload hx hb dX1_rests_36 (lv_at hl 4 rfl) ?_
    refine lv_bipush (v := (9 : Int32)) hx hb dX1_rests_38 (by decide) ?_
    refine lv_icmp_gt (tgt := 113) hx hb dX1_rests_40 (by decide) (fun c16 => ?_) (fun c16 => ?_)
    · replace h := h.1 c16
      exact hK113 _ _ _ h _ _ _ hP hD hS (lv_sub hl [3] rfl)
    · replace h := h.2 c16
      refine lv_iconst (v := (0 : Int32)) hx hb dX1_rests_43 (by decide) ?_
      refine lv_istore (lv' := [(5, .int (0 : Int32)), (0, .ref o), (1, .int v1), (2, .int v2), (3, .int v3), (4, .int v4)]) hx hb dX1_rests_44 hl (by decide) rfl (fun ls hl => ?_)
      obtain ⟨k46, h⟩ := h
      refine lp_S_rests_L2 F hRf hRl hC hSl ?hk107 k46 _ _ _ _ h _ _ _ hP hD hS (lv_sub hl [1, 2, 3, 4, 5, 0] rfl)
      case hk107 =>
        intro v3_13 fd_14 lw_15 h H locs ls hP hD hS hl
        refine lv_iinc (v := (v4 + (1 : Int32))) (lv' := [(4, .int (v4 + (1 : Int32))), (0, .ref o), (1, .int v1), (2, .int v2), (3, .int v3_13)]) hx hb dX1_rests_107 hl (k := 4) rfl rfl (by decide) rfl (fun ls hl => ?_)
        refine lv_goto (tgt := 36) hx hb dX1_rests_110 (by decide) ?_
        exact ih _ _ _ _ h _ _ _ hP hD hS (lv_sub hl [1, 2, 3, 4, 0] rfl)
set_option maxHeartbeats 4000000 in
theorem ct_S_rests {l : Launch} {V : evT} {D : va_G} {gI : Nat → ClassId} {o : Nat} {ax : Nat → Nat} {rn : Option (Nat × Nat)} {tl : va_W} {v1 : Int32} {v2 : Int32} {fd : Nat → Int32} {ar : Nat → Nat → Int32} {lw : Nat → Int64} {hh : HT} {Q : Int32 → (Nat → Int32) → (Nat → Int64) → Prop} (h : wp_S_rests v1 v2 fd ar lw hh Q) : ct_i l V D vwCl (tyL gI) yX1_rests cX1_rests 6 .int { frames := 3, cells := 0, slots := 0, locals := 59 } [.ref o, .int v1, .int v2] (wX gI o ax rn tl fd ar lw hh) (fun u : (Nat → Int32) × (Nat → Int64) => (wX gI o ax rn tl u.1 ar u.2 hh)) (fun (x : Int32) (u : (Nat → Int32) × (Nat → Int64)) => Q x u.1 u.2) := by
  refine ct_ofi RX1 rfl (by decide +kernel) (Nat.le_of_ble_eq_true rfl) ?_
  intro p e s m args below meth c A F hP hD ls hl
  obtain ⟨⟨hx, hb, hml, hown, hts⟩, hr, hlocks, hA, hK, hE⟩ := id F
  have hS : va_S A s.heap s.heap [] := va_S.rf
  have hl : lv_has ls 6 [(0, .ref o), (1, .int v1), (2, .int v2)] := hl
  have hRf : 3 ≤ ({ frames := 3, cells := 0, slots := 0, locals := 59 } : Room).frames := Nat.le_refl _
  have hRl : 59 ≤ ({ frames := 3, cells := 0, slots := 0, locals := 59 } : Room).locals := Nat.le_refl _
  have hC : 0 ≤ ({ frames := 3, cells := 0, slots := 0, locals := 59 } : Room).cells := Nat.le_refl _
  have hSl : 0 ≤ ({ frames := 3, cells := 0, slots := 0, locals := 59 } : Room).slots := Nat.le_refl _
  unfold wp_S_rests at h
  refine lv_iload_n hx hb dX1_rests_0 rfl (lv_at hl 1 rfl) ?_
  refine lv_i2l (v := (v1.toInt64)) hx hb dX1_rests_1 rfl ?_
  refine lv_lconst (v := (1 : Int64)) hx hb dX1_rests_2 (by decide) ?_
  refine lv_ldc2 (v := (99 : Int64)) hx hb hown (hts _ q772) dX1_rests_3 ?_
  refine cl_i0 F (va_runS (As := [.long (v1.toInt64), .long (1 : Int64), .long (99 : Int64)]) (rest := []) ⟨hx, hb, hml, hown, hts⟩ (ct_X1_in h _) (va_cwS 3 hts (lw_S q298 q299 q94 q300) rfl rfl rfl (by decide +kernel) ⟨Nat.le_trans (Nat.le_of_ble_eq_true rfl) hRf, Nat.le_trans (Nat.le_of_ble_eq_true rfl) hRl⟩) ⟨ct_blind, ct_at F hS ct_nP ct_nD⟩ rfl rfl hl.1 rfl (lv_room (Nat.le_of_ble_eq_true rfl)) dX1_rests_6 ⟨hC, hSl⟩) rfl rfl hP hS ?_
  rintro x1 _ H locs h hP hS
  refine lv_if_eq (tgt := 24) hx hb dX1_rests_9 (by decide) (fun c21 => ?_) (fun c21 => ?_)
  · replace h := h.1 c21
    refine lv_iconst (v := (-1 : Int32)) hx hb dX1_rests_24 (by decide) ?_
    exact rt_i F dX1_rests_25 rfl (fd, lw) h hP hD hS (Nat.le_refl _) (Nat.le_refl _)
  · replace h := h.2 c21
    refine lv_iload_n hx hb dX1_rests_12 rfl (lv_at hl 2 rfl) ?_
    refine lv_i2l (v := (v2.toInt64)) hx hb dX1_rests_13 rfl ?_
    refine lv_lconst (v := (0 : Int64)) hx hb dX1_rests_14 (by decide) ?_
    refine lv_ldc2 (v := (9 : Int64)) hx hb hown (hts _ q584) dX1_rests_15 ?_
    refine cl_i0 F (va_runS (As := [.long (v2.toInt64), .long (0 : Int64), .long (9 : Int64)]) (rest := []) ⟨hx, hb, hml, hown, hts⟩ (ct_X1_in h _) (va_cwS 3 hts (lw_S q298 q299 q94 q300) rfl rfl rfl (by decide +kernel) ⟨Nat.le_trans (Nat.le_of_ble_eq_true rfl) hRf, Nat.le_trans (Nat.le_of_ble_eq_true rfl) hRl⟩) ⟨ct_blind, ct_at F hS ct_nP ct_nD⟩ rfl rfl hl.1 rfl (lv_room (Nat.le_of_ble_eq_true rfl)) dX1_rests_18 ⟨hC, hSl⟩) rfl rfl hP hS ?_
    rintro x2 _ H locs h hP hS
    refine lv_if_ne (tgt := 26) hx hb dX1_rests_21 (by decide) (fun c20 => ?_) (fun c20 => ?_)
    · replace h := h.1 c20
      refine lv_iconst (v := (0 : Int32)) hx hb dX1_rests_26 (by decide) ?_
      refine lv_istore_n (lv' := [(3, .int (0 : Int32)), (0, .ref o), (1, .int v1), (2, .int v2)]) hx hb dX1_rests_27 rfl hl (by decide) rfl (fun ls hl => ?_)
      refine lv_aload_n hx hb dX1_rests_28 rfl (lv_at hl 1 rfl) ?_
      refine lv_iconst (v := (0 : Int32)) hx hb dX1_rests_29 (by decide) ?_
      refine pt_put (v := .int (0 : Int32)) hx hb hts in_X1 tyX1 tyX1_ok nmX1 hown hK hP hD hS 0 rfl rfl 18 (Nat.le_of_ble_eq_true rfl) (hts _ q209) (fun _ h => h) rfl (ty := .int) (by decide +kernel) rfl rfl (Nat.le_of_ble_eq_true rfl) dX1_rests_30 wXF_18 (fun H locs hP hD hS => ?_)
      refine lv_iconst (v := (0 : Int32)) hx hb dX1_rests_33 (by decide) ?_
      refine lv_istore (lv' := [(4, .int (0 : Int32)), (3, .int (0 : Int32)), (0, .ref o), (1, .int v1), (2, .int v2)]) hx hb dX1_rests_34 hl (by decide) rfl (fun ls hl => ?_)
      obtain ⟨k36, h⟩ := h
      refine lp_S_rests_L1 F hRf hRl hC hSl ?hk113 k36 _ _ _ _ h _ _ _ hP hD hS (lv_sub hl [2, 3, 4, 1, 0] rfl)
      case hk113 =>
        intro v3_17 fd_18 lw_19 h H locs ls hP hD hS hl
        refine lv_iload_n hx hb dX1_rests_113 rfl (lv_at hl 0 rfl) ?_
        exact rt_i F dX1_rests_114 rfl (fd_18, lw_19) h hP hD hS (Nat.le_refl _) (Nat.le_refl _)
    · replace h := h.2 c20
      refine lv_iconst (v := (-1 : Int32)) hx hb dX1_rests_24 (by decide) ?_
      exact rt_i F dX1_rests_25 rfl (fd, lw) h hP hD hS (Nat.le_refl _) (Nat.le_refl _)
set_option maxHeartbeats 4000000 in
theorem lp_S_goSpell_L1_i0 {p : Program} {l : Launch} {e : Env} {R : Room} {s : State} {m : MethodId} {args : Array Value} {below : List Frame} {meth : Method} {c : Code} {cells slots : Nat} {A : Nat → Prop} {Qf : State → Prop} {V : evT} {D : va_G} {gI : Nat → ClassId} {o : Nat} {ax : Nat → Nat} {rn : Option (Nat × Nat)} {tl : va_W} {fd : Nat → Int32} {lw : Nat → Int64} {hh : HT} {K54 : (Nat → Nat → Int32) → Prop} (F : ct_F p m c meth cX1_goSpell 5 s args RX1 (some .int) A V D vwCl (tyL gI)) (hRf : 4 ≤ R.frames) (hRl : 80 ≤ R.locals) (hC : cells ≤ R.cells) (hSl : slots ≤ R.slots)
    (hK54 : ∀ (ar : Nat → Nat → Int32), K54 ar → ∀ (H : Heap) (locs : List Loc) (ls : Array Slot), va_P D vwCl (wX gI o ax rn tl fd ar lw hh) H → va_D A (wX gI o ax rn tl fd ar lw hh) → va_S A s.heap H locs → lv_has ls 5 [(0, .ref o), (1, .ref (ax 0))] → W p l e R s m args below meth c H locs cells slots Qf (F0 m 54 ls [])) :
    ∀ (n : Nat) (v2 : Int32) (ar : Nat → Nat → Int32), wp_S_goSpell_L1 0 fd lw hh K54 n v2 ar → ∀ (H : Heap) (locs : List Loc) (ls : Array Slot), va_P D vwCl (wX gI o ax rn tl fd ar lw hh) H → va_D A (wX gI o ax rn tl fd ar lw hh) → va_S A s.heap H locs → lv_has ls 5 [(0, .ref o), (1, .ref (ax 0)), (2, .int v2)] → W p l e R s m args below meth c H locs cells slots Qf (F0 m 10 ls []) := by
  obtain ⟨⟨hx, hb, hml, hown, hts⟩, hr, hlocks, hA, hK, hE⟩ := id F
  intro n
  induction n with
  | zero => intro v2 ar h; exact h.elim
  | succ n ih =>
    intro v2 ar h H locs ls hP hD hS hl
    unfold wp_S_goSpell_L1 at h
    refine lv_iload_n hx hb dX1_goSpell_10 rfl (lv_at hl 2 rfl) ?_
    refine lv_aload_n hx hb dX1_goSpell_11 rfl (lv_at hl 0 rfl) ?_
    refine va_get hx hb hts in_X1 hown hK hP 0 rfl rfl 10 (Nat.le_of_ble_eq_true rfl) (hts _ q199) (fun _ h => h) (v := .int (fd 10)) rfl dX1_goSpell_12 ?_
    refine lv_icmp_ge (tgt := 54) hx hb dX1_goSpell_15 (by decide) (fun c4 => ?_) (fun c4 => ?_)
    · replace h := h.1 c4
      exact hK54 _ h _ _ _ hP hD hS (lv_sub hl [0, 1] rfl)
    · replace h := h.2 c4
      refine lv_aload_n hx hb dX1_goSpell_18 rfl (lv_at hl 1 rfl) ?_
      refine va_get hx hb hts in_X2 hown hK hP 14 rfl rfl 2 (Nat.le_of_ble_eq_true rfl) (hts _ q141) (fun _ h => h) (v := .ref (ax 42)) rfl dX1_goSpell_19 ?_
      refine lv_iload_n hx hb dX1_goSpell_22 rfl (lv_at hl 2 rfl) ?_
      refine va_iald (f := (ar 42)) hx hb hK hP 17 0 rfl rfl h.1 dX1_goSpell_23 ?_
      replace h := h.2
      refine lv_iconst (v := (-1 : Int32)) hx hb dX1_goSpell_24 (by decide) ?_
      refine lv_icmp_eq (tgt := 48) hx hb dX1_goSpell_25 (by decide) (fun c3 => ?_) (fun c3 => ?_)
      · replace h := h.1 c3
        refine lv_iinc (v := (v2 + (1 : Int32))) (lv' := [(2, .int (v2 + (1 : Int32))), (0, .ref o), (1, .ref (ax 0))]) hx hb dX1_goSpell_48 hl (k := 2) rfl rfl (by decide) rfl (fun ls hl => ?_)
        refine lv_goto (tgt := 10) hx hb dX1_goSpell_51 (by decide) ?_
        exact ih _ _ h _ _ _ hP hD hS (lv_sub hl [1, 2, 0] rfl)
      · replace h := h.2 c3
        refine lv_aload_n hx hb dX1_goSpell_28 rfl (lv_at hl 0 rfl) ?_
        refine va_get hx hb hts in_X1 hown hK hP 0 rfl rfl 20 (Nat.le_of_ble_eq_true rfl) (hts _ q211) (fun _ h => h) (v := .ref (ax 20)) rfl dX1_goSpell_29 ?_
        refine lv_aload_n hx hb dX1_goSpell_32 rfl (lv_at hl 1 rfl) ?_
        refine va_get hx hb hts in_X2 hown hK hP 14 rfl rfl 2 (Nat.le_of_ble_eq_true rfl) (hts _ q141) (fun _ h => h) (v := .ref (ax 42)) rfl dX1_goSpell_33 ?_
        refine lv_iload_n hx hb dX1_goSpell_36 rfl (lv_at hl 2 rfl) ?_
        refine va_iald (f := (ar 42)) hx hb hK hP 17 0 rfl rfl h.1 dX1_goSpell_37 ?_
        replace h := h.2
        refine lv_dup2_11 hx hb dX1_goSpell_38 rfl rfl ?_
        refine va_iald (f := (ar 20)) hx hb hK hP 8 0 rfl rfl h.1 dX1_goSpell_39 ?_
        replace h := h.2
        refine lv_aload_n hx hb dX1_goSpell_40 rfl (lv_at hl 0 rfl) ?_
        refine lv_aload_n hx hb dX1_goSpell_41 rfl (lv_at hl 1 rfl) ?_
        refine lv_iload_n hx hb dX1_goSpell_42 rfl (lv_at hl 2 rfl) ?_
        refine cl_i F (va_runV (As := [.ref (ax 0), .int v2]) (rest := [.int (ar 20 ((ar 42) v2.toNatClampNeg).toNatClampNeg), .int ((ar 42) v2.toNatClampNeg), .ref (ax 20)]) ⟨hx, hb, hml, hown, hts⟩ (ct_S_bucketsOf_i0 h _) (cwV 2 hts (lw_V q713 q715 qs16 q94 q716) rfl rfl rfl (by decide +kernel) ⟨Nat.le_trans (Nat.le_of_ble_eq_true rfl) hRf, Nat.le_trans (Nat.le_of_ble_eq_true rfl) hRl⟩) ⟨ct_blind, va_recv hK hP (ci := 0) (q0 := 0) rfl rfl, ct_at F hS hP hD⟩ rfl rfl hl.1 rfl (lv_room (Nat.le_of_ble_eq_true rfl)) dX1_goSpell_43 ⟨hC, hSl⟩) rfl rfl hD hS ?_
        rintro x2 _ H locs h hP hD hS
        refine lv_iadd hx hb dX1_goSpell_46 ?_
        refine pt_iast (f := (ar 20)) hx hb hK hP hD hS 8 0 rfl rfl h.1 dX1_goSpell_47 wXA_20 (fun H locs hP hD hS => ?_)
        replace h := h.2
        refine lv_iinc (v := (v2 + (1 : Int32))) (lv' := [(2, .int (v2 + (1 : Int32))), (0, .ref o), (1, .ref (ax 0))]) hx hb dX1_goSpell_48 hl (k := 2) rfl rfl (by decide) rfl (fun ls hl => ?_)
        refine lv_goto (tgt := 10) hx hb dX1_goSpell_51 (by decide) ?_
        exact ih _ _ h _ _ _ hP hD hS (lv_sub hl [1, 2, 0] rfl)
set_option maxHeartbeats 4000000 in
theorem lp_S_goSpell_L2_i0 {p : Program} {l : Launch} {e : Env} {R : Room} {s : State} {m : MethodId} {args : Array Value} {below : List Frame} {meth : Method} {c : Code} {cells slots : Nat} {A : Nat → Prop} {Qf : State → Prop} {V : evT} {D : va_G} {gI : Nat → ClassId} {o : Nat} {ax : Nat → Nat} {rn : Option (Nat × Nat)} {tl : va_W} {fd : Nat → Int32} {lw : Nat → Int64} {hh : HT} {K113 : (Int32) → (Nat → Nat → Int32) → Prop} (F : ct_F p m c meth cX1_goSpell 5 s args RX1 (some .int) A V D vwCl (tyL gI)) (hRf : 4 ≤ R.frames) (hRl : 80 ≤ R.locals) (hC : cells ≤ R.cells) (hSl : slots ≤ R.slots)
    (hK113 : ∀ (v2 : Int32) (ar : Nat → Nat → Int32), K113 v2 ar → ∀ (H : Heap) (locs : List Loc) (ls : Array Slot), va_P D vwCl (wX gI o ax rn tl fd ar lw hh) H → va_D A (wX gI o ax rn tl fd ar lw hh) → va_S A s.heap H locs → lv_has ls 5 [(0, .ref o), (1, .ref (ax 0)), (2, .int v2)] → W p l e R s m args below meth c H locs cells slots Qf (F0 m 113 ls [])) :
    ∀ (n : Nat) (v2 : Int32) (v3 : Int32) (ar : Nat → Nat → Int32), wp_S_goSpell_L2 0 fd lw hh K113 n v2 v3 ar → ∀ (H : Heap) (locs : List Loc) (ls : Array Slot), va_P D vwCl (wX gI o ax rn tl fd ar lw hh) H → va_D A (wX gI o ax rn tl fd ar lw hh) → va_S A s.heap H locs → lv_has ls 5 [(0, .ref o), (1, .ref (ax 0)), (2, .int v2), (3, .int v3)] → W p l e R s m args below meth c H locs cells slots Qf (F0 m 58 ls []) := by
  obtain ⟨⟨hx, hb, hml, hown, hts⟩, hr, hlocks, hA, hK, hE⟩ := id F
  intro n
  induction n with
  | zero => intro v2 v3 ar h; exact h.elim
  | succ n ih =>
    intro v2 v3 ar h H locs ls hP hD hS hl
    unfold wp_S_goSpell_L2 at h
    refine lv_iload_n hx hb dX1_goSpell_58 rfl (lv_at hl 3 rfl) ?_
    refine lv_aload_n hx hb dX1_goSpell_59 rfl (lv_at hl 0 rfl) ?_
    refine va_get hx hb hts in_X1 hown hK hP 0 rfl rfl 9 (Nat.le_of_ble_eq_true rfl) (hts _ q195) (fun _ h => h) (v := .int (fd 9)) rfl dX1_goSpell_60 ?_
    refine lv_icmp_ge (tgt := 113) hx hb dX1_goSpell_63 (by decide) (fun c7 => ?_) (fun c7 => ?_)
    · replace h := h.1 c7
      exact hK113 _ _ h _ _ _ hP hD hS (lv_sub hl [0, 1, 2] rfl)
    · replace h := h.2 c7
      refine lv_aload_n hx hb dX1_goSpell_66 rfl (lv_at hl 1 rfl) ?_
      refine va_get hx hb hts in_X2 hown hK hP 14 rfl rfl 0 (Nat.le_of_ble_eq_true rfl) (hts _ q135) (fun _ h => h) (v := .ref (ax 40)) rfl dX1_goSpell_67 ?_
      refine lv_iload_n hx hb dX1_goSpell_70 rfl (lv_at hl 3 rfl) ?_
      refine va_iald (f := (ar 40)) hx hb hK hP 15 0 rfl rfl h.1 dX1_goSpell_71 ?_
      replace h := h.2
      refine lv_istore (lv' := [(4, .int ((ar 40) v3.toNatClampNeg)), (0, .ref o), (1, .ref (ax 0)), (2, .int v2), (3, .int v3)]) hx hb dX1_goSpell_72 hl (by decide) rfl (fun ls hl => ?_)
      refine lv_aload_n hx hb dX1_goSpell_74 rfl (lv_at hl 2 rfl) ?_
      refine va_get hx hb hts in_X2 hown hK hP 14 rfl rfl 0 (Nat.le_of_ble_eq_true rfl) (hts _ q135) (fun _ h => h) (v := .ref (ax 40)) rfl dX1_goSpell_75 ?_
      refine lv_iload_n hx hb dX1_goSpell_78 rfl (lv_at hl 4 rfl) ?_
      refine lv_sipush (v := (999 : Int32)) hx hb dX1_goSpell_79 (by decide) ?_
      refine lv_iload hx hb dX1_goSpell_82 (lv_at hl 0 rfl) ?_
      refine lv_aload_n hx hb dX1_goSpell_84 rfl (lv_at hl 1 rfl) ?_
      refine va_get hx hb hts in_X1 hown hK hP 0 rfl rfl 20 (Nat.le_of_ble_eq_true rfl) (hts _ q211) (fun _ h => h) (v := .ref (ax 20)) rfl dX1_goSpell_85 ?_
      refine lv_iload_n hx hb dX1_goSpell_88 rfl (lv_at hl 4 rfl) ?_
      refine va_iald (f := (ar 20)) hx hb hK hP 8 0 rfl rfl h.1 dX1_goSpell_89 ?_
      replace h := h.2
      refine lv_iadd hx hb dX1_goSpell_90 ?_
      refine va_mmin hx hb (hml.trans hl.1.symm) hown (hts _ q634) (hts _ q336) (hts _ q100) (hts _ q337) (Nat.le_trans (Nat.le_of_ble_eq_true rfl) hRf) (Nat.le_trans (Nat.le_of_ble_eq_true rfl) hRl) hC hSl dX1_goSpell_91 ?_
      refine pt_iast (f := (ar 40)) hx hb hK hP hD hS 15 0 rfl rfl h.1 dX1_goSpell_94 wXA_40 (fun H locs hP hD hS => ?_)
      replace h := h.2
      refine lv_iload_n hx hb dX1_goSpell_95 rfl (lv_at hl 3 rfl) ?_
      refine lv_aload_n hx hb dX1_goSpell_96 rfl (lv_at hl 2 rfl) ?_
      refine va_get hx hb hts in_X2 hown hK hP 14 rfl rfl 0 (Nat.le_of_ble_eq_true rfl) (hts _ q135) (fun _ h => h) (v := .ref (ax 40)) rfl dX1_goSpell_97 ?_
      refine lv_iload_n hx hb dX1_goSpell_100 rfl (lv_at hl 4 rfl) ?_
      refine va_iald (f := (upd (ar 40) v3.toNatClampNeg (mnI (999 : Int32) (((ar 40) v3.toNatClampNeg) + (ar 20 v3.toNatClampNeg))))) hx hb hK hP 15 0 rfl rfl h.1 dX1_goSpell_101 ?_
      replace h := h.2
      refine lv_iload hx hb dX1_goSpell_102 (lv_at hl 0 rfl) ?_
      refine lv_isub hx hb dX1_goSpell_104 ?_
      refine lv_iadd hx hb dX1_goSpell_105 ?_
      refine lv_topi (fun x6 ex6 => ?_)
      replace h := h x6 ex6
      refine lv_istore_n (lv' := [(2, .int x6), (4, .int ((ar 40) v3.toNatClampNeg)), (0, .ref o), (1, .ref (ax 0)), (3, .int v3)]) hx hb dX1_goSpell_106 rfl hl (by decide) rfl (fun ls hl => ?_)
      refine lv_iinc (v := (v3 + (1 : Int32))) (lv' := [(3, .int (v3 + (1 : Int32))), (2, .int x6), (4, .int ((ar 40) v3.toNatClampNeg)), (0, .ref o), (1, .ref (ax 0))]) hx hb dX1_goSpell_107 hl (k := 4) rfl rfl (by decide) rfl (fun ls hl => ?_)
      refine lv_goto (tgt := 58) hx hb dX1_goSpell_110 (by decide) ?_
      exact ih _ _ _ h _ _ _ hP hD hS (lv_sub hl [3, 4, 1, 0] rfl)
set_option maxHeartbeats 4000000 in
theorem lp_S_goSpell_L3_i0 {p : Program} {l : Launch} {e : Env} {R : Room} {s : State} {m : MethodId} {args : Array Value} {below : List Frame} {meth : Method} {c : Code} {cells slots : Nat} {A : Nat → Prop} {Qf : State → Prop} {V : evT} {D : va_G} {gI : Nat → ClassId} {o : Nat} {ax : Nat → Nat} {rn : Option (Nat × Nat)} {tl : va_W} {v2 : Int32} {fd : Nat → Int32} {lw : Nat → Int64} {hh : HT} {K185 : (Nat → Nat → Int32) → Prop} (F : ct_F p m c meth cX1_goSpell 5 s args RX1 (some .int) A V D vwCl (tyL gI)) (hRf : 4 ≤ R.frames) (hRl : 80 ≤ R.locals) (hC : cells ≤ R.cells) (hSl : slots ≤ R.slots)
    (hK185 : ∀ (ar : Nat → Nat → Int32), K185 ar → ∀ (H : Heap) (locs : List Loc) (ls : Array Slot), va_P D vwCl (wX gI o ax rn tl fd ar lw hh) H → va_D A (wX gI o ax rn tl fd ar lw hh) → va_S A s.heap H locs → lv_has ls 5 [(2, .int v2)] → W p l e R s m args below meth c H locs cells slots Qf (F0 m 185 ls [])) :
    ∀ (n : Nat) (v3 : Int32) (ar : Nat → Nat → Int32), wp_S_goSpell_L3 0 v2 fd lw hh K185 n v3 ar → ∀ (H : Heap) (locs : List Loc) (ls : Array Slot), va_P D vwCl (wX gI o ax rn tl fd ar lw hh) H → va_D A (wX gI o ax rn tl fd ar lw hh) → va_S A s.heap H locs → lv_has ls 5 [(0, .ref o), (1, .ref (ax 0)), (2, .int v2), (3, .int v3)] → W p l e R s m args below meth c H locs cells slots Qf (F0 m 115 ls []) := by
  obtain ⟨⟨hx, hb, hml, hown, hts⟩, hr, hlocks, hA, hK, hE⟩ := id F
  intro n
  induction n with
  | zero => intro v3 ar h; exact h.elim
  | succ n ih =>
    intro v3 ar h H locs ls hP hD hS hl
    unfold wp_S_goSpell_L3 at h
    refine lv_iload_n hx hb dX1_goSpell_115 rfl (lv_at hl 3 rfl) ?_
    refine lv_aload_n hx hb dX1_goSpell_116 rfl (lv_at hl 0 rfl) ?_
    refine va_get hx hb hts in_X1 hown hK hP 0 rfl rfl 10 (Nat.le_of_ble_eq_true rfl) (hts _ q199) (fun _ h => h) (v := .int (fd 10)) rfl dX1_goSpell_117 ?_
    refine lv_icmp_ge (tgt := 185) hx hb dX1_goSpell_120 (by decide) (fun c12 => ?_) (fun c12 => ?_)
    · replace h := h.1 c12
      exact hK185 _ h _ _ _ hP hD hS (lv_sub hl [2] rfl)
    · replace h := h.2 c12
      refine lv_aload_n hx hb dX1_goSpell_123 rfl (lv_at hl 1 rfl) ?_
      refine va_get hx hb hts in_X2 hown hK hP 14 rfl rfl 2 (Nat.le_of_ble_eq_true rfl) (hts _ q141) (fun _ h => h) (v := .ref (ax 42)) rfl dX1_goSpell_124 ?_
      refine lv_iload_n hx hb dX1_goSpell_127 rfl (lv_at hl 3 rfl) ?_
      refine va_iald (f := (ar 42)) hx hb hK hP 17 0 rfl rfl h.1 dX1_goSpell_128 ?_
      replace h := h.2
      refine lv_iconst (v := (-1 : Int32)) hx hb dX1_goSpell_129 (by decide) ?_
      refine lv_icmp_ne (tgt := 136) hx hb dX1_goSpell_130 (by decide) (fun c11 => ?_) (fun c11 => ?_)
      · replace h := h.1 c11
        refine lv_aload_n hx hb dX1_goSpell_136 rfl (lv_at hl 1 rfl) ?_
        refine va_get hx hb hts in_X2 hown hK hP 14 rfl rfl 3 (Nat.le_of_ble_eq_true rfl) (hts _ q144) (fun _ h => h) (v := .ref (ax 43)) rfl dX1_goSpell_137 ?_
        refine lv_iload_n hx hb dX1_goSpell_140 rfl (lv_at hl 3 rfl) ?_
        refine lv_iconst (v := (0 : Int32)) hx hb dX1_goSpell_141 (by decide) ?_
        refine lv_aload_n hx hb dX1_goSpell_142 rfl (lv_at hl 1 rfl) ?_
        refine va_get hx hb hts in_X2 hown hK hP 14 rfl rfl 3 (Nat.le_of_ble_eq_true rfl) (hts _ q144) (fun _ h => h) (v := .ref (ax 43)) rfl dX1_goSpell_143 ?_
        refine lv_iload_n hx hb dX1_goSpell_146 rfl (lv_at hl 3 rfl) ?_
        refine va_iald (f := (ar 43)) hx hb hK hP 18 0 rfl rfl h.1 dX1_goSpell_147 ?_
        replace h := h.2
        refine lv_iconst (v := (1 : Int32)) hx hb dX1_goSpell_148 (by decide) ?_
        refine lv_isub hx hb dX1_goSpell_149 ?_
        refine va_mmax hx hb (hml.trans hl.1.symm) hown (hts _ q635) (hts _ q636) (hts _ q100) (hts _ q637) (Nat.le_trans (Nat.le_of_ble_eq_true rfl) hRf) (Nat.le_trans (Nat.le_of_ble_eq_true rfl) hRl) hC hSl dX1_goSpell_150 ?_
        refine pt_iast (f := (ar 43)) hx hb hK hP hD hS 18 0 rfl rfl h.1 dX1_goSpell_153 wXA_43 (fun H locs hP hD hS => ?_)
        replace h := h.2
        refine lv_aload_n hx hb dX1_goSpell_154 rfl (lv_at hl 1 rfl) ?_
        refine va_get hx hb hts in_X2 hown hK hP 14 rfl rfl 2 (Nat.le_of_ble_eq_true rfl) (hts _ q141) (fun _ h => h) (v := .ref (ax 42)) rfl dX1_goSpell_155 ?_
        refine lv_iload_n hx hb dX1_goSpell_158 rfl (lv_at hl 3 rfl) ?_
        refine lv_aload_n hx hb dX1_goSpell_159 rfl (lv_at hl 1 rfl) ?_
        refine va_get hx hb hts in_X2 hown hK hP 14 rfl rfl 3 (Nat.le_of_ble_eq_true rfl) (hts _ q144) (fun _ h => h) (v := .ref (ax 43)) rfl dX1_goSpell_160 ?_
        refine lv_iload_n hx hb dX1_goSpell_163 rfl (lv_at hl 3 rfl) ?_
        refine va_iald (f := (upd (ar 43) v3.toNatClampNeg (mxI (0 : Int32) (((ar 43) v3.toNatClampNeg) - (1 : Int32))))) hx hb hK hP 18 0 rfl rfl h.1 dX1_goSpell_164 ?_
        replace h := h.2
        refine lv_if_ne (tgt := 172) hx hb dX1_goSpell_165 (by decide) (fun c10 => ?_) (fun c10 => ?_)
        · replace h := h.1 c10
          refine lv_aload_n hx hb dX1_goSpell_172 rfl (lv_at hl 1 rfl) ?_
          refine va_get hx hb hts in_X2 hown hK hP 14 rfl rfl 2 (Nat.le_of_ble_eq_true rfl) (hts _ q141) (fun _ h => h) (v := .ref (ax 42)) rfl dX1_goSpell_173 ?_
          refine lv_iload_n hx hb dX1_goSpell_176 rfl (lv_at hl 3 rfl) ?_
          refine va_iald (f := (ar 42)) hx hb hK hP 17 0 rfl rfl h.1 dX1_goSpell_177 ?_
          replace h := h.2
          refine pt_iast (f := (ar 42)) hx hb hK hP hD hS 17 0 rfl rfl h.1 dX1_goSpell_178 wXA_42 (fun H locs hP hD hS => ?_)
          replace h := h.2
          refine lv_iinc (v := (v3 + (1 : Int32))) (lv' := [(3, .int (v3 + (1 : Int32))), (0, .ref o), (1, .ref (ax 0)), (2, .int v2)]) hx hb dX1_goSpell_179 hl (k := 3) rfl rfl (by decide) rfl (fun ls hl => ?_)
          refine lv_goto (tgt := 115) hx hb dX1_goSpell_182 (by decide) ?_
          exact ih _ _ h _ _ _ hP hD hS (lv_sub hl [1, 2, 3, 0] rfl)
        · replace h := h.2 c10
          refine lv_iconst (v := (-1 : Int32)) hx hb dX1_goSpell_168 (by decide) ?_
          refine lv_goto (tgt := 178) hx hb dX1_goSpell_169 (by decide) ?_
          refine pt_iast (f := (ar 42)) hx hb hK hP hD hS 17 0 rfl rfl h.1 dX1_goSpell_178 wXA_42 (fun H locs hP hD hS => ?_)
          replace h := h.2
          refine lv_iinc (v := (v3 + (1 : Int32))) (lv' := [(3, .int (v3 + (1 : Int32))), (0, .ref o), (1, .ref (ax 0)), (2, .int v2)]) hx hb dX1_goSpell_179 hl (k := 3) rfl rfl (by decide) rfl (fun ls hl => ?_)
          refine lv_goto (tgt := 115) hx hb dX1_goSpell_182 (by decide) ?_
          exact ih _ _ h _ _ _ hP hD hS (lv_sub hl [1, 2, 3, 0] rfl)
      · replace h := h.2 c11
        refine lv_goto (tgt := 179) hx hb dX1_goSpell_133 (by decide) ?_
        refine lv_iinc (v := (v3 + (1 : Int32))) (lv' := [(3, .int (v3 + (1 : Int32))), (0, .ref o), (1, .ref (ax 0)), (2, .int v2)]) hx hb dX1_goSpell_179 hl (k := 3) rfl rfl (by decide) rfl (fun ls hl => ?_)
        refine lv_goto (tgt := 115) hx hb dX1_goSpell_182 (by decide) ?_
        exact ih _ _ h _ _ _ hP hD hS (lv_sub hl [1, 2, 3, 0] rfl)
set_option maxHeartbeats 4000000 in
theorem ct_S_goSpell_i0 {l : Launch} {V : evT} {D : va_G} {gI : Nat → ClassId} {o : Nat} {ax : Nat → Nat} {rn : Option (Nat × Nat)} {tl : va_W} {fd : Nat → Int32} {ar : Nat → Nat → Int32} {lw : Nat → Int64} {hh : HT} {Q : Int32 → (Nat → Nat → Int32) → Prop} (h : wp_S_goSpell 0 fd ar lw hh Q) : ct_i l V D vwCl (tyL gI) yX1_goSpell cX1_goSpell 5 .int { frames := 4, cells := 0, slots := 0, locals := 80 } [.ref o, .ref (ax 0)] (wX gI o ax rn tl fd ar lw hh) (fun u : (Nat → Nat → Int32) => (wX gI o ax rn tl fd u lw hh)) (fun (x : Int32) (u : (Nat → Nat → Int32)) => Q x u) := by
  refine ct_ofi RX1 rfl (by decide +kernel) (Nat.le_of_ble_eq_true rfl) ?_
  intro p e s m args below meth c A F hP hD ls hl
  obtain ⟨⟨hx, hb, hml, hown, hts⟩, hr, hlocks, hA, hK, hE⟩ := id F
  have hS : va_S A s.heap s.heap [] := va_S.rf
  have hl : lv_has ls 5 [(0, .ref o), (1, .ref (ax 0))] := hl
  have hRf : 4 ≤ ({ frames := 4, cells := 0, slots := 0, locals := 80 } : Room).frames := Nat.le_refl _
  have hRl : 80 ≤ ({ frames := 4, cells := 0, slots := 0, locals := 80 } : Room).locals := Nat.le_refl _
  have hC : 0 ≤ ({ frames := 4, cells := 0, slots := 0, locals := 80 } : Room).cells := Nat.le_refl _
  have hSl : 0 ≤ ({ frames := 4, cells := 0, slots := 0, locals := 80 } : Room).slots := Nat.le_refl _
  unfold wp_S_goSpell at h
  refine lv_aload_n hx hb dX1_goSpell_0 rfl (lv_at hl 0 rfl) ?_
  refine va_get hx hb hts in_X1 hown hK hP 0 rfl rfl 20 (Nat.le_of_ble_eq_true rfl) (hts _ q211) (fun _ h => h) (v := .ref (ax 20)) rfl dX1_goSpell_1 ?_
  refine lv_iconst (v := (0 : Int32)) hx hb dX1_goSpell_4 (by decide) ?_
  refine cl_vL F (va_runS (As := [.ref (ax 20), .int (0 : Int32)]) (rest := []) ⟨hx, hb, hml, hown, hts⟩ (ct_A_fill  h _) (va_cwS 2 hts (lw_S q712 q176 q96 q177) rfl rfl rfl (by decide +kernel) ⟨Nat.le_trans (Nat.le_of_ble_eq_true rfl) hRf, Nat.le_trans (Nat.le_of_ble_eq_true rfl) hRl⟩) ⟨ct_blind, ct_at F hS (putL_P hP (ps := [8]) rfl) (hD.sub ([8]) (by decide) rfl)⟩ rfl rfl hl.1 rfl (lv_room (Nat.le_of_ble_eq_true rfl)) dX1_goSpell_5 ⟨hC, hSl⟩) rfl rfl hP hD hS (ps := [8]) rfl (fun _ => rfl) (fun _ => wXS_20) ?_
  rintro f1 H locs h hP hD hS
  refine lv_iconst (v := (0 : Int32)) hx hb dX1_goSpell_8 (by decide) ?_
  refine lv_istore_n (lv' := [(2, .int (0 : Int32)), (0, .ref o), (1, .ref (ax 0))]) hx hb dX1_goSpell_9 rfl hl (by decide) rfl (fun ls hl => ?_)
  obtain ⟨k10, h⟩ := h
  refine lp_S_goSpell_L1_i0 F hRf hRl hC hSl ?hk54 k10 _ _ h _ _ _ hP hD hS (lv_sub hl [1, 2, 0] rfl)
  case hk54 =>
    intro ar_5 h H locs ls hP hD hS hl
    refine lv_iconst (v := (0 : Int32)) hx hb dX1_goSpell_54 (by decide) ?_
    refine lv_istore_n (lv' := [(2, .int (0 : Int32)), (0, .ref o), (1, .ref (ax 0))]) hx hb dX1_goSpell_55 rfl hl (by decide) rfl (fun ls hl => ?_)
    refine lv_iconst (v := (0 : Int32)) hx hb dX1_goSpell_56 (by decide) ?_
    refine lv_istore_n (lv' := [(3, .int (0 : Int32)), (2, .int (0 : Int32)), (0, .ref o), (1, .ref (ax 0))]) hx hb dX1_goSpell_57 rfl hl (by decide) rfl (fun ls hl => ?_)
    obtain ⟨k58, h⟩ := h
    refine lp_S_goSpell_L2_i0 F hRf hRl hC hSl ?hk113 k58 _ _ _ h _ _ _ hP hD hS (lv_sub hl [2, 3, 1, 0] rfl)
    case hk113 =>
      intro v2_8 ar_9 h H locs ls hP hD hS hl
      refine lv_iconst (v := (0 : Int32)) hx hb dX1_goSpell_113 (by decide) ?_
      refine lv_istore_n (lv' := [(3, .int (0 : Int32)), (0, .ref o), (1, .ref (ax 0)), (2, .int v2_8)]) hx hb dX1_goSpell_114 rfl hl (by decide) rfl (fun ls hl => ?_)
      obtain ⟨k115, h⟩ := h
      refine lp_S_goSpell_L3_i0 F hRf hRl hC hSl ?hk185 k115 _ _ h _ _ _ hP hD hS (lv_sub hl [1, 2, 3, 0] rfl)
      case hk185 =>
        intro ar_13 h H locs ls hP hD hS hl
        refine lv_iload_n hx hb dX1_goSpell_185 rfl (lv_at hl 0 rfl) ?_
        exact rt_i F dX1_goSpell_186 rfl (ar_13) h hP hD hS (Nat.le_refl _) (Nat.le_refl _)
set_option maxHeartbeats 4000000 in
theorem lp_S_goSpell_L1_i2 {p : Program} {l : Launch} {e : Env} {R : Room} {s : State} {m : MethodId} {args : Array Value} {below : List Frame} {meth : Method} {c : Code} {cells slots : Nat} {A : Nat → Prop} {Qf : State → Prop} {V : evT} {D : va_G} {gI : Nat → ClassId} {o : Nat} {ax : Nat → Nat} {rn : Option (Nat × Nat)} {tl : va_W} {fd : Nat → Int32} {lw : Nat → Int64} {hh : HT} {K54 : (Nat → Nat → Int32) → Prop} (F : ct_F p m c meth cX1_goSpell 5 s args RX1 (some .int) A V D vwCl (tyL gI)) (hRf : 4 ≤ R.frames) (hRl : 80 ≤ R.locals) (hC : cells ≤ R.cells) (hSl : slots ≤ R.slots)
    (hK54 : ∀ (ar : Nat → Nat → Int32), K54 ar → ∀ (H : Heap) (locs : List Loc) (ls : Array Slot), va_P D vwCl (wX gI o ax rn tl fd ar lw hh) H → va_D A (wX gI o ax rn tl fd ar lw hh) → va_S A s.heap H locs → lv_has ls 5 [(0, .ref o), (1, .ref (ax 2))] → W p l e R s m args below meth c H locs cells slots Qf (F0 m 54 ls [])) :
    ∀ (n : Nat) (v2 : Int32) (ar : Nat → Nat → Int32), wp_S_goSpell_L1 2 fd lw hh K54 n v2 ar → ∀ (H : Heap) (locs : List Loc) (ls : Array Slot), va_P D vwCl (wX gI o ax rn tl fd ar lw hh) H → va_D A (wX gI o ax rn tl fd ar lw hh) → va_S A s.heap H locs → lv_has ls 5 [(0, .ref o), (1, .ref (ax 2)), (2, .int v2)] → W p l e R s m args below meth c H locs cells slots Qf (F0 m 10 ls []) := by
  obtain ⟨⟨hx, hb, hml, hown, hts⟩, hr, hlocks, hA, hK, hE⟩ := id F
  intro n
  induction n with
  | zero => intro v2 ar h; exact h.elim
  | succ n ih =>
    intro v2 ar h H locs ls hP hD hS hl
    unfold wp_S_goSpell_L1 at h
    refine lv_iload_n hx hb dX1_goSpell_10 rfl (lv_at hl 2 rfl) ?_
    refine lv_aload_n hx hb dX1_goSpell_11 rfl (lv_at hl 0 rfl) ?_
    refine va_get hx hb hts in_X1 hown hK hP 0 rfl rfl 10 (Nat.le_of_ble_eq_true rfl) (hts _ q199) (fun _ h => h) (v := .int (fd 10)) rfl dX1_goSpell_12 ?_
    refine lv_icmp_ge (tgt := 54) hx hb dX1_goSpell_15 (by decide) (fun c4 => ?_) (fun c4 => ?_)
    · replace h := h.1 c4
      exact hK54 _ h _ _ _ hP hD hS (lv_sub hl [0, 1] rfl)
    · replace h := h.2 c4
      refine lv_aload_n hx hb dX1_goSpell_18 rfl (lv_at hl 1 rfl) ?_
      refine va_get hx hb hts in_X2 hown hK hP 24 rfl rfl 2 (Nat.le_of_ble_eq_true rfl) (hts _ q141) (fun _ h => h) (v := .ref (ax 50)) rfl dX1_goSpell_19 ?_
      refine lv_iload_n hx hb dX1_goSpell_22 rfl (lv_at hl 2 rfl) ?_
      refine va_iald (f := (ar 50)) hx hb hK hP 27 0 rfl rfl h.1 dX1_goSpell_23 ?_
      replace h := h.2
      refine lv_iconst (v := (-1 : Int32)) hx hb dX1_goSpell_24 (by decide) ?_
      refine lv_icmp_eq (tgt := 48) hx hb dX1_goSpell_25 (by decide) (fun c3 => ?_) (fun c3 => ?_)
      · replace h := h.1 c3
        refine lv_iinc (v := (v2 + (1 : Int32))) (lv' := [(2, .int (v2 + (1 : Int32))), (0, .ref o), (1, .ref (ax 2))]) hx hb dX1_goSpell_48 hl (k := 2) rfl rfl (by decide) rfl (fun ls hl => ?_)
        refine lv_goto (tgt := 10) hx hb dX1_goSpell_51 (by decide) ?_
        exact ih _ _ h _ _ _ hP hD hS (lv_sub hl [1, 2, 0] rfl)
      · replace h := h.2 c3
        refine lv_aload_n hx hb dX1_goSpell_28 rfl (lv_at hl 0 rfl) ?_
        refine va_get hx hb hts in_X1 hown hK hP 0 rfl rfl 20 (Nat.le_of_ble_eq_true rfl) (hts _ q211) (fun _ h => h) (v := .ref (ax 20)) rfl dX1_goSpell_29 ?_
        refine lv_aload_n hx hb dX1_goSpell_32 rfl (lv_at hl 1 rfl) ?_
        refine va_get hx hb hts in_X2 hown hK hP 24 rfl rfl 2 (Nat.le_of_ble_eq_true rfl) (hts _ q141) (fun _ h => h) (v := .ref (ax 50)) rfl dX1_goSpell_33 ?_
        refine lv_iload_n hx hb dX1_goSpell_36 rfl (lv_at hl 2 rfl) ?_
        refine va_iald (f := (ar 50)) hx hb hK hP 27 0 rfl rfl h.1 dX1_goSpell_37 ?_
        replace h := h.2
        refine lv_dup2_11 hx hb dX1_goSpell_38 rfl rfl ?_
        refine va_iald (f := (ar 20)) hx hb hK hP 8 0 rfl rfl h.1 dX1_goSpell_39 ?_
        replace h := h.2
        refine lv_aload_n hx hb dX1_goSpell_40 rfl (lv_at hl 0 rfl) ?_
        refine lv_aload_n hx hb dX1_goSpell_41 rfl (lv_at hl 1 rfl) ?_
        refine lv_iload_n hx hb dX1_goSpell_42 rfl (lv_at hl 2 rfl) ?_
        refine cl_i F (va_runV (As := [.ref (ax 2), .int v2]) (rest := [.int (ar 20 ((ar 50) v2.toNatClampNeg).toNatClampNeg), .int ((ar 50) v2.toNatClampNeg), .ref (ax 20)]) ⟨hx, hb, hml, hown, hts⟩ (ct_S_bucketsOf_i2 h _) (cwV 2 hts (lw_V q713 q715 qs16 q94 q716) rfl rfl rfl (by decide +kernel) ⟨Nat.le_trans (Nat.le_of_ble_eq_true rfl) hRf, Nat.le_trans (Nat.le_of_ble_eq_true rfl) hRl⟩) ⟨ct_blind, va_recv hK hP (ci := 0) (q0 := 0) rfl rfl, ct_at F hS hP hD⟩ rfl rfl hl.1 rfl (lv_room (Nat.le_of_ble_eq_true rfl)) dX1_goSpell_43 ⟨hC, hSl⟩) rfl rfl hD hS ?_
        rintro x2 _ H locs h hP hD hS
        refine lv_iadd hx hb dX1_goSpell_46 ?_
        refine pt_iast (f := (ar 20)) hx hb hK hP hD hS 8 0 rfl rfl h.1 dX1_goSpell_47 wXA_20 (fun H locs hP hD hS => ?_)
        replace h := h.2
        refine lv_iinc (v := (v2 + (1 : Int32))) (lv' := [(2, .int (v2 + (1 : Int32))), (0, .ref o), (1, .ref (ax 2))]) hx hb dX1_goSpell_48 hl (k := 2) rfl rfl (by decide) rfl (fun ls hl => ?_)
        refine lv_goto (tgt := 10) hx hb dX1_goSpell_51 (by decide) ?_
        exact ih _ _ h _ _ _ hP hD hS (lv_sub hl [1, 2, 0] rfl)
set_option maxHeartbeats 4000000 in
theorem lp_S_goSpell_L2_i2 {p : Program} {l : Launch} {e : Env} {R : Room} {s : State} {m : MethodId} {args : Array Value} {below : List Frame} {meth : Method} {c : Code} {cells slots : Nat} {A : Nat → Prop} {Qf : State → Prop} {V : evT} {D : va_G} {gI : Nat → ClassId} {o : Nat} {ax : Nat → Nat} {rn : Option (Nat × Nat)} {tl : va_W} {fd : Nat → Int32} {lw : Nat → Int64} {hh : HT} {K113 : (Int32) → (Nat → Nat → Int32) → Prop} (F : ct_F p m c meth cX1_goSpell 5 s args RX1 (some .int) A V D vwCl (tyL gI)) (hRf : 4 ≤ R.frames) (hRl : 80 ≤ R.locals) (hC : cells ≤ R.cells) (hSl : slots ≤ R.slots)
    (hK113 : ∀ (v2 : Int32) (ar : Nat → Nat → Int32), K113 v2 ar → ∀ (H : Heap) (locs : List Loc) (ls : Array Slot), va_P D vwCl (wX gI o ax rn tl fd ar lw hh) H → va_D A (wX gI o ax rn tl fd ar lw hh) → va_S A s.heap H locs → lv_has ls 5 [(0, .ref o), (1, .ref (ax 2)), (2, .int v2)] → W p l e R s m args below meth c H locs cells slots Qf (F0 m 113 ls [])) :
    ∀ (n : Nat) (v2 : Int32) (v3 : Int32) (ar : Nat → Nat → Int32), wp_S_goSpell_L2 2 fd lw hh K113 n v2 v3 ar → ∀ (H : Heap) (locs : List Loc) (ls : Array Slot), va_P D vwCl (wX gI o ax rn tl fd ar lw hh) H → va_D A (wX gI o ax rn tl fd ar lw hh) → va_S A s.heap H locs → lv_has ls 5 [(0, .ref o), (1, .ref (ax 2)), (2, .int v2), (3, .int v3)] → W p l e R s m args below meth c H locs cells slots Qf (F0 m 58 ls []) := by
  obtain ⟨⟨hx, hb, hml, hown, hts⟩, hr, hlocks, hA, hK, hE⟩ := id F
  intro n
  induction n with
  | zero => intro v2 v3 ar h; exact h.elim
  | succ n ih =>
    intro v2 v3 ar h H locs ls hP hD hS hl
    unfold wp_S_goSpell_L2 at h
    refine lv_iload_n hx hb dX1_goSpell_58 rfl (lv_at hl 3 rfl) ?_
    refine lv_aload_n hx hb dX1_goSpell_59 rfl (lv_at hl 0 rfl) ?_
    refine va_get hx hb hts in_X1 hown hK hP 0 rfl rfl 9 (Nat.le_of_ble_eq_true rfl) (hts _ q195) (fun _ h => h) (v := .int (fd 9)) rfl dX1_goSpell_60 ?_
    refine lv_icmp_ge (tgt := 113) hx hb dX1_goSpell_63 (by decide) (fun c7 => ?_) (fun c7 => ?_)
    · replace h := h.1 c7
      exact hK113 _ _ h _ _ _ hP hD hS (lv_sub hl [0, 1, 2] rfl)
    · replace h := h.2 c7
      refine lv_aload_n hx hb dX1_goSpell_66 rfl (lv_at hl 1 rfl) ?_
      refine va_get hx hb hts in_X2 hown hK hP 24 rfl rfl 0 (Nat.le_of_ble_eq_true rfl) (hts _ q135) (fun _ h => h) (v := .ref (ax 48)) rfl dX1_goSpell_67 ?_
      refine lv_iload_n hx hb dX1_goSpell_70 rfl (lv_at hl 3 rfl) ?_
      refine va_iald (f := (ar 48)) hx hb hK hP 25 0 rfl rfl h.1 dX1_goSpell_71 ?_
      replace h := h.2
      refine lv_istore (lv' := [(4, .int ((ar 48) v3.toNatClampNeg)), (0, .ref o), (1, .ref (ax 2)), (2, .int v2), (3, .int v3)]) hx hb dX1_goSpell_72 hl (by decide) rfl (fun ls hl => ?_)
      refine lv_aload_n hx hb dX1_goSpell_74 rfl (lv_at hl 2 rfl) ?_
      refine va_get hx hb hts in_X2 hown hK hP 24 rfl rfl 0 (Nat.le_of_ble_eq_true rfl) (hts _ q135) (fun _ h => h) (v := .ref (ax 48)) rfl dX1_goSpell_75 ?_
      refine lv_iload_n hx hb dX1_goSpell_78 rfl (lv_at hl 4 rfl) ?_
      refine lv_sipush (v := (999 : Int32)) hx hb dX1_goSpell_79 (by decide) ?_
      refine lv_iload hx hb dX1_goSpell_82 (lv_at hl 0 rfl) ?_
      refine lv_aload_n hx hb dX1_goSpell_84 rfl (lv_at hl 1 rfl) ?_
      refine va_get hx hb hts in_X1 hown hK hP 0 rfl rfl 20 (Nat.le_of_ble_eq_true rfl) (hts _ q211) (fun _ h => h) (v := .ref (ax 20)) rfl dX1_goSpell_85 ?_
      refine lv_iload_n hx hb dX1_goSpell_88 rfl (lv_at hl 4 rfl) ?_
      refine va_iald (f := (ar 20)) hx hb hK hP 8 0 rfl rfl h.1 dX1_goSpell_89 ?_
      replace h := h.2
      refine lv_iadd hx hb dX1_goSpell_90 ?_
      refine va_mmin hx hb (hml.trans hl.1.symm) hown (hts _ q634) (hts _ q336) (hts _ q100) (hts _ q337) (Nat.le_trans (Nat.le_of_ble_eq_true rfl) hRf) (Nat.le_trans (Nat.le_of_ble_eq_true rfl) hRl) hC hSl dX1_goSpell_91 ?_
      refine pt_iast (f := (ar 48)) hx hb hK hP hD hS 25 0 rfl rfl h.1 dX1_goSpell_94 wXA_48 (fun H locs hP hD hS => ?_)
      replace h := h.2
      refine lv_iload_n hx hb dX1_goSpell_95 rfl (lv_at hl 3 rfl) ?_
      refine lv_aload_n hx hb dX1_goSpell_96 rfl (lv_at hl 2 rfl) ?_
      refine va_get hx hb hts in_X2 hown hK hP 24 rfl rfl 0 (Nat.le_of_ble_eq_true rfl) (hts _ q135) (fun _ h => h) (v := .ref (ax 48)) rfl dX1_goSpell_97 ?_
      refine lv_iload_n hx hb dX1_goSpell_100 rfl (lv_at hl 4 rfl) ?_
      refine va_iald (f := (upd (ar 48) v3.toNatClampNeg (mnI (999 : Int32) (((ar 48) v3.toNatClampNeg) + (ar 20 v3.toNatClampNeg))))) hx hb hK hP 25 0 rfl rfl h.1 dX1_goSpell_101 ?_
      replace h := h.2
      refine lv_iload hx hb dX1_goSpell_102 (lv_at hl 0 rfl) ?_
      refine lv_isub hx hb dX1_goSpell_104 ?_
      refine lv_iadd hx hb dX1_goSpell_105 ?_
      refine lv_topi (fun x6 ex6 => ?_)
      replace h := h x6 ex6
      refine lv_istore_n (lv' := [(2, .int x6), (4, .int ((ar 48) v3.toNatClampNeg)), (0, .ref o), (1, .ref (ax 2)), (3, .int v3)]) hx hb dX1_goSpell_106 rfl hl (by decide) rfl (fun ls hl => ?_)
      refine lv_iinc (v := (v3 + (1 : Int32))) (lv' := [(3, .int (v3 + (1 : Int32))), (2, .int x6), (4, .int ((ar 48) v3.toNatClampNeg)), (0, .ref o), (1, .ref (ax 2))]) hx hb dX1_goSpell_107 hl (k := 4) rfl rfl (by decide) rfl (fun ls hl => ?_)
      refine lv_goto (tgt := 58) hx hb dX1_goSpell_110 (by decide) ?_
      exact ih _ _ _ h _ _ _ hP hD hS (lv_sub hl [3, 4, 1, 0] rfl)
set_option maxHeartbeats 4000000 in
theorem lp_S_goSpell_L3_i2 {p : Program} {l : Launch} {e : Env} {R : Room} {s : State} {m : MethodId} {args : Array Value} {below : List Frame} {meth : Method} {c : Code} {cells slots : Nat} {A : Nat → Prop} {Qf : State → Prop} {V : evT} {D : va_G} {gI : Nat → ClassId} {o : Nat} {ax : Nat → Nat} {rn : Option (Nat × Nat)} {tl : va_W} {v2 : Int32} {fd : Nat → Int32} {lw : Nat → Int64} {hh : HT} {K185 : (Nat → Nat → Int32) → Prop} (F : ct_F p m c meth cX1_goSpell 5 s args RX1 (some .int) A V D vwCl (tyL gI)) (hRf : 4 ≤ R.frames) (hRl : 80 ≤ R.locals) (hC : cells ≤ R.cells) (hSl : slots ≤ R.slots)
    (hK185 : ∀ (ar : Nat → Nat → Int32), K185 ar → ∀ (H : Heap) (locs : List Loc) (ls : Array Slot), va_P D vwCl (wX gI o ax rn tl fd ar lw hh) H → va_D A (wX gI o ax rn tl fd ar lw hh) → va_S A s.heap H locs → lv_has ls 5 [(2, .int v2)] → W p l e R s m args below meth c H locs cells slots Qf (F0 m 185 ls [])) :
    ∀ (n : Nat) (v3 : Int32) (ar : Nat → Nat → Int32), wp_S_goSpell_L3 2 v2 fd lw hh K185 n v3 ar → ∀ (H : Heap) (locs : List Loc) (ls : Array Slot), va_P D vwCl (wX gI o ax rn tl fd ar lw hh) H → va_D A (wX gI o ax rn tl fd ar lw hh) → va_S A s.heap H locs → lv_has ls 5 [(0, .ref o), (1, .ref (ax 2)), (2, .int v2), (3, .int v3)] → W p l e R s m args below meth c H locs cells slots Qf (F0 m 115 ls []) := by
  obtain ⟨⟨hx, hb, hml, hown, hts⟩, hr, hlocks, hA, hK, hE⟩ := id F
  intro n
  induction n with
  | zero => intro v3 ar h; exact h.elim
  | succ n ih =>
    intro v3 ar h H locs ls hP hD hS hl
    unfold wp_S_goSpell_L3 at h
    refine lv_iload_n hx hb dX1_goSpell_115 rfl (lv_at hl 3 rfl) ?_
    refine lv_aload_n hx hb dX1_goSpell_116 rfl (lv_at hl 0 rfl) ?_
    refine va_get hx hb hts in_X1 hown hK hP 0 rfl rfl 10 (Nat.le_of_ble_eq_true rfl) (hts _ q199) (fun _ h => h) (v := .int (fd 10)) rfl dX1_goSpell_117 ?_
    refine lv_icmp_ge (tgt := 185) hx hb dX1_goSpell_120 (by decide) (fun c12 => ?_) (fun c12 => ?_)
    · replace h := h.1 c12
      exact hK185 _ h _ _ _ hP hD hS (lv_sub hl [2] rfl)
    · replace h := h.2 c12
      refine lv_aload_n hx hb dX1_goSpell_123 rfl (lv_at hl 1 rfl) ?_
      refine va_get hx hb hts in_X2 hown hK hP 24 rfl rfl 2 (Nat.le_of_ble_eq_true rfl) (hts _ q141) (fun _ h => h) (v := .ref (ax 50)) rfl dX1_goSpell_124 ?_
      refine lv_iload_n hx hb dX1_goSpell_127 rfl (lv_at hl 3 rfl) ?_
      refine va_iald (f := (ar 50)) hx hb hK hP 27 0 rfl rfl h.1 dX1_goSpell_128 ?_
      replace h := h.2
      refine lv_iconst (v := (-1 : Int32)) hx hb dX1_goSpell_129 (by decide) ?_
      refine lv_icmp_ne (tgt := 136) hx hb dX1_goSpell_130 (by decide) (fun c11 => ?_) (fun c11 => ?_)
      · replace h := h.1 c11
        refine lv_aload_n hx hb dX1_goSpell_136 rfl (lv_at hl 1 rfl) ?_
        refine va_get hx hb hts in_X2 hown hK hP 24 rfl rfl 3 (Nat.le_of_ble_eq_true rfl) (hts _ q144) (fun _ h => h) (v := .ref (ax 51)) rfl dX1_goSpell_137 ?_
        refine lv_iload_n hx hb dX1_goSpell_140 rfl (lv_at hl 3 rfl) ?_
        refine lv_iconst (v := (0 : Int32)) hx hb dX1_goSpell_141 (by decide) ?_
        refine lv_aload_n hx hb dX1_goSpell_142 rfl (lv_at hl 1 rfl) ?_
        refine va_get hx hb hts in_X2 hown hK hP 24 rfl rfl 3 (Nat.le_of_ble_eq_true rfl) (hts _ q144) (fun _ h => h) (v := .ref (ax 51)) rfl dX1_goSpell_143 ?_
        refine lv_iload_n hx hb dX1_goSpell_146 rfl (lv_at hl 3 rfl) ?_
        refine va_iald (f := (ar 51)) hx hb hK hP 28 0 rfl rfl h.1 dX1_goSpell_147 ?_
        replace h := h.2
        refine lv_iconst (v := (1 : Int32)) hx hb dX1_goSpell_148 (by decide) ?_
        refine lv_isub hx hb dX1_goSpell_149 ?_
        refine va_mmax hx hb (hml.trans hl.1.symm) hown (hts _ q635) (hts _ q636) (hts _ q100) (hts _ q637) (Nat.le_trans (Nat.le_of_ble_eq_true rfl) hRf) (Nat.le_trans (Nat.le_of_ble_eq_true rfl) hRl) hC hSl dX1_goSpell_150 ?_
        refine pt_iast (f := (ar 51)) hx hb hK hP hD hS 28 0 rfl rfl h.1 dX1_goSpell_153 wXA_51 (fun H locs hP hD hS => ?_)
        replace h := h.2
        refine lv_aload_n hx hb dX1_goSpell_154 rfl (lv_at hl 1 rfl) ?_
        refine va_get hx hb hts in_X2 hown hK hP 24 rfl rfl 2 (Nat.le_of_ble_eq_true rfl) (hts _ q141) (fun _ h => h) (v := .ref (ax 50)) rfl dX1_goSpell_155 ?_
        refine lv_iload_n hx hb dX1_goSpell_158 rfl (lv_at hl 3 rfl) ?_
        refine lv_aload_n hx hb dX1_goSpell_159 rfl (lv_at hl 1 rfl) ?_
        refine va_get hx hb hts in_X2 hown hK hP 24 rfl rfl 3 (Nat.le_of_ble_eq_true rfl) (hts _ q144) (fun _ h => h) (v := .ref (ax 51)) rfl dX1_goSpell_160 ?_
        refine lv_iload_n hx hb dX1_goSpell_163 rfl (lv_at hl 3 rfl) ?_
        refine va_iald (f := (upd (ar 51) v3.toNatClampNeg (mxI (0 : Int32) (((ar 51) v3.toNatClampNeg) - (1 : Int32))))) hx hb hK hP 28 0 rfl rfl h.1 dX1_goSpell_164 ?_
        replace h := h.2
        refine lv_if_ne (tgt := 172) hx hb dX1_goSpell_165 (by decide) (fun c10 => ?_) (fun c10 => ?_)
        · replace h := h.1 c10
          refine lv_aload_n hx hb dX1_goSpell_172 rfl (lv_at hl 1 rfl) ?_
          refine va_get hx hb hts in_X2 hown hK hP 24 rfl rfl 2 (Nat.le_of_ble_eq_true rfl) (hts _ q141) (fun _ h => h) (v := .ref (ax 50)) rfl dX1_goSpell_173 ?_
          refine lv_iload_n hx hb dX1_goSpell_176 rfl (lv_at hl 3 rfl) ?_
          refine va_iald (f := (ar 50)) hx hb hK hP 27 0 rfl rfl h.1 dX1_goSpell_177 ?_
          replace h := h.2
          refine pt_iast (f := (ar 50)) hx hb hK hP hD hS 27 0 rfl rfl h.1 dX1_goSpell_178 wXA_50 (fun H locs hP hD hS => ?_)
          replace h := h.2
          refine lv_iinc (v := (v3 + (1 : Int32))) (lv' := [(3, .int (v3 + (1 : Int32))), (0, .ref o), (1, .ref (ax 2)), (2, .int v2)]) hx hb dX1_goSpell_179 hl (k := 3) rfl rfl (by decide) rfl (fun ls hl => ?_)
          refine lv_goto (tgt := 115) hx hb dX1_goSpell_182 (by decide) ?_
          exact ih _ _ h _ _ _ hP hD hS (lv_sub hl [1, 2, 3, 0] rfl)
        · replace h := h.2 c10
          refine lv_iconst (v := (-1 : Int32)) hx hb dX1_goSpell_168 (by decide) ?_
          refine lv_goto (tgt := 178) hx hb dX1_goSpell_169 (by decide) ?_
          refine pt_iast (f := (ar 50)) hx hb hK hP hD hS 27 0 rfl rfl h.1 dX1_goSpell_178 wXA_50 (fun H locs hP hD hS => ?_)
          replace h := h.2
          refine lv_iinc (v := (v3 + (1 : Int32))) (lv' := [(3, .int (v3 + (1 : Int32))), (0, .ref o), (1, .ref (ax 2)), (2, .int v2)]) hx hb dX1_goSpell_179 hl (k := 3) rfl rfl (by decide) rfl (fun ls hl => ?_)
          refine lv_goto (tgt := 115) hx hb dX1_goSpell_182 (by decide) ?_
          exact ih _ _ h _ _ _ hP hD hS (lv_sub hl [1, 2, 3, 0] rfl)
      · replace h := h.2 c11
        refine lv_goto (tgt := 179) hx hb dX1_goSpell_133 (by decide) ?_
        refine lv_iinc (v := (v3 + (1 : Int32))) (lv' := [(3, .int (v3 + (1 : Int32))), (0, .ref o), (1, .ref (ax 2)), (2, .int v2)]) hx hb dX1_goSpell_179 hl (k := 3) rfl rfl (by decide) rfl (fun ls hl => ?_)
        refine lv_goto (tgt := 115) hx hb dX1_goSpell_182 (by decide) ?_
        exact ih _ _ h _ _ _ hP hD hS (lv_sub hl [1, 2, 3, 0] rfl)
set_option maxHeartbeats 4000000 in
theorem ct_S_goSpell_i2 {l : Launch} {V : evT} {D : va_G} {gI : Nat → ClassId} {o : Nat} {ax : Nat → Nat} {rn : Option (Nat × Nat)} {tl : va_W} {fd : Nat → Int32} {ar : Nat → Nat → Int32} {lw : Nat → Int64} {hh : HT} {Q : Int32 → (Nat → Nat → Int32) → Prop} (h : wp_S_goSpell 2 fd ar lw hh Q) : ct_i l V D vwCl (tyL gI) yX1_goSpell cX1_goSpell 5 .int { frames := 4, cells := 0, slots := 0, locals := 80 } [.ref o, .ref (ax 2)] (wX gI o ax rn tl fd ar lw hh) (fun u : (Nat → Nat → Int32) => (wX gI o ax rn tl fd u lw hh)) (fun (x : Int32) (u : (Nat → Nat → Int32)) => Q x u) := by
  refine ct_ofi RX1 rfl (by decide +kernel) (Nat.le_of_ble_eq_true rfl) ?_
  intro p e s m args below meth c A F hP hD ls hl
  obtain ⟨⟨hx, hb, hml, hown, hts⟩, hr, hlocks, hA, hK, hE⟩ := id F
  have hS : va_S A s.heap s.heap [] := va_S.rf
  have hl : lv_has ls 5 [(0, .ref o), (1, .ref (ax 2))] := hl
  have hRf : 4 ≤ ({ frames := 4, cells := 0, slots := 0, locals := 80 } : Room).frames := Nat.le_refl _
  have hRl : 80 ≤ ({ frames := 4, cells := 0, slots := 0, locals := 80 } : Room).locals := Nat.le_refl _
  have hC : 0 ≤ ({ frames := 4, cells := 0, slots := 0, locals := 80 } : Room).cells := Nat.le_refl _
  have hSl : 0 ≤ ({ frames := 4, cells := 0, slots := 0, locals := 80 } : Room).slots := Nat.le_refl _
  unfold wp_S_goSpell at h
  refine lv_aload_n hx hb dX1_goSpell_0 rfl (lv_at hl 0 rfl) ?_
  refine va_get hx hb hts in_X1 hown hK hP 0 rfl rfl 20 (Nat.le_of_ble_eq_true rfl) (hts _ q211) (fun _ h => h) (v := .ref (ax 20)) rfl dX1_goSpell_1 ?_
  refine lv_iconst (v := (0 : Int32)) hx hb dX1_goSpell_4 (by decide) ?_
  refine cl_vL F (va_runS (As := [.ref (ax 20), .int (0 : Int32)]) (rest := []) ⟨hx, hb, hml, hown, hts⟩ (ct_A_fill  h _) (va_cwS 2 hts (lw_S q712 q176 q96 q177) rfl rfl rfl (by decide +kernel) ⟨Nat.le_trans (Nat.le_of_ble_eq_true rfl) hRf, Nat.le_trans (Nat.le_of_ble_eq_true rfl) hRl⟩) ⟨ct_blind, ct_at F hS (putL_P hP (ps := [8]) rfl) (hD.sub ([8]) (by decide) rfl)⟩ rfl rfl hl.1 rfl (lv_room (Nat.le_of_ble_eq_true rfl)) dX1_goSpell_5 ⟨hC, hSl⟩) rfl rfl hP hD hS (ps := [8]) rfl (fun _ => rfl) (fun _ => wXS_20) ?_
  rintro f1 H locs h hP hD hS
  refine lv_iconst (v := (0 : Int32)) hx hb dX1_goSpell_8 (by decide) ?_
  refine lv_istore_n (lv' := [(2, .int (0 : Int32)), (0, .ref o), (1, .ref (ax 2))]) hx hb dX1_goSpell_9 rfl hl (by decide) rfl (fun ls hl => ?_)
  obtain ⟨k10, h⟩ := h
  refine lp_S_goSpell_L1_i2 F hRf hRl hC hSl ?hk54 k10 _ _ h _ _ _ hP hD hS (lv_sub hl [1, 2, 0] rfl)
  case hk54 =>
    intro ar_5 h H locs ls hP hD hS hl
    refine lv_iconst (v := (0 : Int32)) hx hb dX1_goSpell_54 (by decide) ?_
    refine lv_istore_n (lv' := [(2, .int (0 : Int32)), (0, .ref o), (1, .ref (ax 2))]) hx hb dX1_goSpell_55 rfl hl (by decide) rfl (fun ls hl => ?_)
    refine lv_iconst (v := (0 : Int32)) hx hb dX1_goSpell_56 (by decide) ?_
    refine lv_istore_n (lv' := [(3, .int (0 : Int32)), (2, .int (0 : Int32)), (0, .ref o), (1, .ref (ax 2))]) hx hb dX1_goSpell_57 rfl hl (by decide) rfl (fun ls hl => ?_)
    obtain ⟨k58, h⟩ := h
    refine lp_S_goSpell_L2_i2 F hRf hRl hC hSl ?hk113 k58 _ _ _ h _ _ _ hP hD hS (lv_sub hl [2, 3, 1, 0] rfl)
    case hk113 =>
      intro v2_8 ar_9 h H locs ls hP hD hS hl
      refine lv_iconst (v := (0 : Int32)) hx hb dX1_goSpell_113 (by decide) ?_
      refine lv_istore_n (lv' := [(3, .int (0 : Int32)), (0, .ref o), (1, .ref (ax 2)), (2, .int v2_8)]) hx hb dX1_goSpell_114 rfl hl (by decide) rfl (fun ls hl => ?_)
      obtain ⟨k115, h⟩ := h
      refine lp_S_goSpell_L3_i2 F hRf hRl hC hSl ?hk185 k115 _ _ h _ _ _ hP hD hS (lv_sub hl [1, 2, 3, 0] rfl)
      case hk185 =>
        intro ar_13 h H locs ls hP hD hS hl
        refine lv_iload_n hx hb dX1_goSpell_185 rfl (lv_at hl 0 rfl) ?_
        exact rt_i F dX1_goSpell_186 rfl (ar_13) h hP hD hS (Nat.le_refl _) (Nat.le_refl _)
set_option maxHeartbeats 4000000 in
theorem lp_S_spades_L1 {p : Program} {l : Launch} {e : Env} {R : Room} {s : State} {m : MethodId} {args : Array Value} {below : List Frame} {meth : Method} {c : Code} {cells slots : Nat} {A : Nat → Prop} {Qf : State → Prop} {V : evT} {D : va_G} {gI : Nat → ClassId} {o : Nat} {ax : Nat → Nat} {rn : Option (Nat × Nat)} {tl : va_W} {lw : Nat → Int64} {hh : HT} {K78 : (Int32) → (Int32) → (Nat → Int32) → (Nat → Nat → Int32) → Prop} (F : ct_F p m c meth cX1_spades 5 s args RX1 (some .int) A V D vwCl (tyL gI)) (hRf : 5 ≤ R.frames) (hRl : 104 ≤ R.locals) (hC : cells ≤ R.cells) (hSl : slots ≤ R.slots)
    (hK78 : ∀ (v1 : Int32) (v2 : Int32) (fd : Nat → Int32) (ar : Nat → Nat → Int32), K78 v1 v2 fd ar → ∀ (H : Heap) (locs : List Loc) (ls : Array Slot), va_P D vwCl (wX gI o ax rn tl fd ar lw hh) H → va_D A (wX gI o ax rn tl fd ar lw hh) → va_S A s.heap H locs → lv_has ls 5 [(0, .ref o), (1, .int v1), (2, .int v2)] → W p l e R s m args below meth c H locs cells slots Qf (F0 m 78 ls [])) :
    ∀ (n : Nat) (v1 : Int32) (v2 : Int32) (v3 : Int32) (fd : Nat → Int32) (ar : Nat → Nat → Int32), wp_S_spades_L1 lw hh K78 n v1 v2 v3 fd ar → ∀ (H : Heap) (locs : List Loc) (ls : Array Slot), va_P D vwCl (wX gI o ax rn tl fd ar lw hh) H → va_D A (wX gI o ax rn tl fd ar lw hh) → va_S A s.heap H locs → lv_has ls 5 [(0, .ref o), (1, .int v1), (2, .int v2), (3, .int v3)] → W p l e R s m args below meth c H locs cells slots Qf (F0 m 10 ls []) := by
  obtain ⟨⟨hx, hb, hml, hown, hts⟩, hr, hlocks, hA, hK, hE⟩ := id F
  intro n
  induction n with
  | zero => intro v1 v2 v3 fd ar h; exact h.elim
  | succ n ih =>
    intro v1 v2 v3 fd ar h H locs ls hP hD hS hl
    unfold wp_S_spades_L1 at h
    refine lv_iload_n hx hb dX1_spades_10 rfl (lv_at hl 3 rfl) ?_
    refine lv_iconst (v := (1 : Int32)) hx hb dX1_spades_11 (by decide) ?_
    refine lv_aload_n hx hb dX1_spades_12 rfl (lv_at hl 0 rfl) ?_
    refine va_get hx hb hts in_X1 hown hK hP 0 rfl rfl 10 (Nat.le_of_ble_eq_true rfl) (hts _ q199) (fun _ h => h) (v := .int (fd 10)) rfl dX1_spades_13 ?_
    refine lv_ishl hx hb dX1_spades_16 ?_
    refine lv_icmp_ge (tgt := 78) hx hb dX1_spades_17 (by decide) (fun c14 => ?_) (fun c14 => ?_)
    · replace h := h.1 c14
      exact hK78 _ _ _ _ h _ _ _ hP hD hS (lv_sub hl [0, 1, 2] rfl)
    · replace h := h.2 c14
      refine lv_iload_n hx hb dX1_spades_20 rfl (lv_at hl 3 rfl) ?_
      refine cl_i0 F (va_runS (As := [.int v3]) (rest := []) ⟨hx, hb, hml, hown, hts⟩ (ct_J10_bitCount h _) (va_cwS 1 hts (lw_S q585 q586 q112 q587) rfl rfl rfl (by decide +kernel) ⟨Nat.le_trans (Nat.le_of_ble_eq_true rfl) hRf, Nat.le_trans (Nat.le_of_ble_eq_true rfl) hRl⟩) ⟨ct_blind, ct_at F hS ct_nP ct_nD⟩ rfl rfl hl.1 rfl (lv_room (Nat.le_of_ble_eq_true rfl)) dX1_spades_21 ⟨hC, hSl⟩) rfl rfl hP hS ?_
      rintro x4 _ H locs h hP hS
      refine lv_aload_n hx hb dX1_spades_24 rfl (lv_at hl 0 rfl) ?_
      refine va_get hx hb hts in_X1 hown hK hP 0 rfl rfl 12 (Nat.le_of_ble_eq_true rfl) (hts _ q202) (fun _ h => h) (v := .int (fd 12)) rfl dX1_spades_25 ?_
      refine lv_icmp_le (tgt := 34) hx hb dX1_spades_28 (by decide) (fun c13 => ?_) (fun c13 => ?_)
      · replace h := h.1 c13
        refine lv_aload_n hx hb dX1_spades_34 rfl (lv_at hl 0 rfl) ?_
        refine lv_iload_n hx hb dX1_spades_35 rfl (lv_at hl 3 rfl) ?_
        refine cl_i F (va_runV (As := [.int v3]) (rest := []) ⟨hx, hb, hml, hown, hts⟩ (ct_S_bucketsBy h _) (cwV 1 hts (lw_V q1064 q1066 qs32 q94 q1067) rfl rfl rfl (by decide +kernel) ⟨Nat.le_trans (Nat.le_of_ble_eq_true rfl) hRf, Nat.le_trans (Nat.le_of_ble_eq_true rfl) hRl⟩) ⟨ct_blind, va_recv hK hP (ci := 0) (q0 := 0) rfl rfl, ct_at F hS hP hD⟩ rfl rfl hl.1 rfl (lv_room (Nat.le_of_ble_eq_true rfl)) dX1_spades_36 ⟨hC, hSl⟩) rfl rfl hD hS ?_
        rintro x5 ⟨fd6, ar7⟩ H locs h hP hD hS
        refine lv_istore (lv' := [(4, .int x5), (0, .ref o), (1, .int v1), (2, .int v2), (3, .int v3)]) hx hb dX1_spades_39 hl (by decide) rfl (fun ls hl => ?_)
        refine lv_iload hx hb dX1_spades_41 (lv_at hl 0 rfl) ?_
        refine lv_iload_n hx hb dX1_spades_43 rfl (lv_at hl 3 rfl) ?_
        refine lv_icmp_lt (tgt := 72) hx hb dX1_spades_44 (by decide) (fun c12 => ?_) (fun c12 => ?_)
        · replace h := h.1 c12
          refine lv_iinc (v := (v3 + (1 : Int32))) (lv' := [(3, .int (v3 + (1 : Int32))), (4, .int x5), (0, .ref o), (1, .int v1), (2, .int v2)]) hx hb dX1_spades_72 hl (k := 4) rfl rfl (by decide) rfl (fun ls hl => ?_)
          refine lv_goto (tgt := 10) hx hb dX1_spades_75 (by decide) ?_
          exact ih _ _ _ _ _ h _ _ _ hP hD hS (lv_sub hl [2, 3, 4, 0] rfl)
        · replace h := h.2 c12
          refine lv_iload hx hb dX1_spades_47 (lv_at hl 0 rfl) ?_
          refine lv_iload_n hx hb dX1_spades_49 rfl (lv_at hl 3 rfl) ?_
          refine lv_icmp_ne (tgt := 67) hx hb dX1_spades_50 (by decide) (fun c11 => ?_) (fun c11 => ?_)
          · replace h := h.1 c11
            refine lv_iload_n hx hb dX1_spades_67 rfl (lv_at hl 4 rfl) ?_
            refine lv_istore_n (lv' := [(1, .int v3), (4, .int x5), (0, .ref o), (2, .int v2), (3, .int v3)]) hx hb dX1_spades_68 rfl hl (by decide) rfl (fun ls hl => ?_)
            refine lv_iload hx hb dX1_spades_69 (lv_at hl 1 rfl) ?_
            refine lv_istore_n (lv' := [(2, .int x5), (1, .int v3), (4, .int x5), (0, .ref o), (3, .int v3)]) hx hb dX1_spades_71 rfl hl (by decide) rfl (fun ls hl => ?_)
            refine lv_iinc (v := (v3 + (1 : Int32))) (lv' := [(3, .int (v3 + (1 : Int32))), (2, .int x5), (1, .int v3), (4, .int x5), (0, .ref o)]) hx hb dX1_spades_72 hl (k := 4) rfl rfl (by decide) rfl (fun ls hl => ?_)
            refine lv_goto (tgt := 10) hx hb dX1_spades_75 (by decide) ?_
            exact ih _ _ _ _ _ h _ _ _ hP hD hS (lv_sub hl [4, 2, 1, 0] rfl)
          · replace h := h.2 c11
            refine lv_iload_n hx hb dX1_spades_53 rfl (lv_at hl 4 rfl) ?_
            refine cl_i0 F (va_runS (As := [.int v3]) (rest := []) ⟨hx, hb, hml, hown, hts⟩ (ct_J10_bitCount h _) (va_cwS 1 hts (lw_S q585 q586 q112 q587) rfl rfl rfl (by decide +kernel) ⟨Nat.le_trans (Nat.le_of_ble_eq_true rfl) hRf, Nat.le_trans (Nat.le_of_ble_eq_true rfl) hRl⟩) ⟨ct_blind, ct_at F hS ct_nP ct_nD⟩ rfl rfl hl.1 rfl (lv_room (Nat.le_of_ble_eq_true rfl)) dX1_spades_54 ⟨hC, hSl⟩) rfl rfl hP hS ?_
            rintro x8 _ H locs h hP hS
            refine lv_iload_n hx hb dX1_spades_57 rfl (lv_at hl 2 rfl) ?_
            refine cl_i0 F (va_runS (As := [.int v1]) (rest := [.int x8]) ⟨hx, hb, hml, hown, hts⟩ (ct_J10_bitCount h _) (va_cwS 1 hts (lw_S q585 q586 q112 q587) rfl rfl rfl (by decide +kernel) ⟨Nat.le_trans (Nat.le_of_ble_eq_true rfl) hRf, Nat.le_trans (Nat.le_of_ble_eq_true rfl) hRl⟩) ⟨ct_blind, ct_at F hS ct_nP ct_nD⟩ rfl rfl hl.1 rfl (lv_room (Nat.le_of_ble_eq_true rfl)) dX1_spades_58 ⟨hC, hSl⟩) rfl rfl hP hS ?_
            rintro x9 _ H locs h hP hS
            refine lv_icmp_lt (tgt := 67) hx hb dX1_spades_61 (by decide) (fun c10 => ?_) (fun c10 => ?_)
            · replace h := h.1 c10
              refine lv_iload_n hx hb dX1_spades_67 rfl (lv_at hl 4 rfl) ?_
              refine lv_istore_n (lv' := [(1, .int v3), (4, .int x5), (0, .ref o), (2, .int v2), (3, .int v3)]) hx hb dX1_spades_68 rfl hl (by decide) rfl (fun ls hl => ?_)
              refine lv_iload hx hb dX1_spades_69 (lv_at hl 1 rfl) ?_
              refine lv_istore_n (lv' := [(2, .int x5), (1, .int v3), (4, .int x5), (0, .ref o), (3, .int v3)]) hx hb dX1_spades_71 rfl hl (by decide) rfl (fun ls hl => ?_)
              refine lv_iinc (v := (v3 + (1 : Int32))) (lv' := [(3, .int (v3 + (1 : Int32))), (2, .int x5), (1, .int v3), (4, .int x5), (0, .ref o)]) hx hb dX1_spades_72 hl (k := 4) rfl rfl (by decide) rfl (fun ls hl => ?_)
              refine lv_goto (tgt := 10) hx hb dX1_spades_75 (by decide) ?_
              exact ih _ _ _ _ _ h _ _ _ hP hD hS (lv_sub hl [4, 2, 1, 0] rfl)
            · replace h := h.2 c10
              refine lv_goto (tgt := 72) hx hb dX1_spades_64 (by decide) ?_
              refine lv_iinc (v := (v3 + (1 : Int32))) (lv' := [(3, .int (v3 + (1 : Int32))), (4, .int x5), (0, .ref o), (1, .int v1), (2, .int v2)]) hx hb dX1_spades_72 hl (k := 4) rfl rfl (by decide) rfl (fun ls hl => ?_)
              refine lv_goto (tgt := 10) hx hb dX1_spades_75 (by decide) ?_
              exact ih _ _ _ _ _ h _ _ _ hP hD hS (lv_sub hl [2, 3, 4, 0] rfl)
      · replace h := h.2 c13
        refine lv_goto (tgt := 72) hx hb dX1_spades_31 (by decide) ?_
        refine lv_iinc (v := (v3 + (1 : Int32))) (lv' := [(3, .int (v3 + (1 : Int32))), (0, .ref o), (1, .int v1), (2, .int v2)]) hx hb dX1_spades_72 hl (k := 3) rfl rfl (by decide) rfl (fun ls hl => ?_)
        refine lv_goto (tgt := 10) hx hb dX1_spades_75 (by decide) ?_
        exact ih _ _ _ _ _ h _ _ _ hP hD hS (lv_sub hl [1, 2, 3, 0] rfl)
set_option maxHeartbeats 4000000 in
theorem ct_S_spades {l : Launch} {V : evT} {D : va_G} {gI : Nat → ClassId} {o : Nat} {ax : Nat → Nat} {rn : Option (Nat × Nat)} {tl : va_W} {fd : Nat → Int32} {ar : Nat → Nat → Int32} {lw : Nat → Int64} {hh : HT} {Q : Int32 → (Nat → Int32) → (Nat → Nat → Int32) → (Nat → Int64) → Prop} (h : wp_S_spades fd ar lw hh Q) : ct_i l V D vwCl (tyL gI) yX1_spades cX1_spades 5 .int { frames := 5, cells := 0, slots := 0, locals := 104 } [.ref o] (wX gI o ax rn tl fd ar lw hh) (fun u : (Nat → Int32) × (Nat → Nat → Int32) × (Nat → Int64) => (wX gI o ax rn tl u.1 u.2.1 u.2.2 hh)) (fun (x : Int32) (u : (Nat → Int32) × (Nat → Nat → Int32) × (Nat → Int64)) => Q x u.1 u.2.1 u.2.2) := by
  refine ct_ofi RX1 rfl (by decide +kernel) (Nat.le_of_ble_eq_true rfl) ?_
  intro p e s m args below meth c A F hP hD ls hl
  obtain ⟨⟨hx, hb, hml, hown, hts⟩, hr, hlocks, hA, hK, hE⟩ := id F
  have hS : va_S A s.heap s.heap [] := va_S.rf
  have hl : lv_has ls 5 [(0, .ref o)] := hl
  have hRf : 5 ≤ ({ frames := 5, cells := 0, slots := 0, locals := 104 } : Room).frames := Nat.le_refl _
  have hRl : 104 ≤ ({ frames := 5, cells := 0, slots := 0, locals := 104 } : Room).locals := Nat.le_refl _
  have hC : 0 ≤ ({ frames := 5, cells := 0, slots := 0, locals := 104 } : Room).cells := Nat.le_refl _
  have hSl : 0 ≤ ({ frames := 5, cells := 0, slots := 0, locals := 104 } : Room).slots := Nat.le_refl _
  unfold wp_S_spades at h
  refine lv_iconst (v := (0 : Int32)) hx hb dX1_spades_0 (by decide) ?_
  refine lv_istore_n (lv' := [(1, .int (0 : Int32)), (0, .ref o)]) hx hb dX1_spades_1 rfl hl (by decide) rfl (fun ls hl => ?_)
  refine lv_aload_n hx hb dX1_spades_2 rfl (lv_at hl 1 rfl) ?_
  refine lv_iconst (v := (0 : Int32)) hx hb dX1_spades_3 (by decide) ?_
  refine cl_i F (va_runV (As := [.int (0 : Int32)]) (rest := []) ⟨hx, hb, hml, hown, hts⟩ (ct_S_bucketsBy h _) (cwV 1 hts (lw_V q1064 q1066 qs32 q94 q1067) rfl rfl rfl (by decide +kernel) ⟨Nat.le_trans (Nat.le_of_ble_eq_true rfl) hRf, Nat.le_trans (Nat.le_of_ble_eq_true rfl) hRl⟩) ⟨ct_blind, va_recv hK hP (ci := 0) (q0 := 0) rfl rfl, ct_at F hS hP hD⟩ rfl rfl hl.1 rfl (lv_room (Nat.le_of_ble_eq_true rfl)) dX1_spades_4 ⟨hC, hSl⟩) rfl rfl hD hS ?_
  rintro x1 ⟨fd2, ar3⟩ H locs h hP hD hS
  refine lv_istore_n (lv' := [(2, .int x1), (1, .int (0 : Int32)), (0, .ref o)]) hx hb dX1_spades_7 rfl hl (by decide) rfl (fun ls hl => ?_)
  refine lv_iconst (v := (1 : Int32)) hx hb dX1_spades_8 (by decide) ?_
  refine lv_istore_n (lv' := [(3, .int (1 : Int32)), (2, .int x1), (1, .int (0 : Int32)), (0, .ref o)]) hx hb dX1_spades_9 rfl hl (by decide) rfl (fun ls hl => ?_)
  obtain ⟨k10, h⟩ := h
  refine lp_S_spades_L1 F hRf hRl hC hSl ?hk78 k10 _ _ _ _ _ h _ _ _ hP hD hS (lv_sub hl [3, 2, 1, 0] rfl)
  case hk78 =>
    intro v1_15 v2_16 fd_17 ar_18 h H locs ls hP hD hS hl
    refine lv_aload_n hx hb dX1_spades_78 rfl (lv_at hl 0 rfl) ?_
    refine lv_iconst (v := (0 : Int32)) hx hb dX1_spades_79 (by decide) ?_
    refine pt_put (v := .int (0 : Int32)) hx hb hts in_X1 tyX1 tyX1_ok nmX1 hown hK hP hD hS 0 rfl rfl 18 (Nat.le_of_ble_eq_true rfl) (hts _ q209) (fun _ h => h) rfl (ty := .int) (by decide +kernel) rfl rfl (Nat.le_of_ble_eq_true rfl) dX1_spades_80 wXF_18 (fun H locs hP hD hS => ?_)
    refine lv_aload_n hx hb dX1_spades_83 rfl (lv_at hl 0 rfl) ?_
    refine lv_iload_n hx hb dX1_spades_84 rfl (lv_at hl 1 rfl) ?_
    refine lv_i2l (v := (v1_15.toInt64)) hx hb dX1_spades_85 rfl ?_
    refine cl_v F (va_runV (As := [.long (v1_15.toInt64)]) (rest := []) ⟨hx, hb, hml, hown, hts⟩ (ct_S_tell h _) (cwV 1 hts (lw_V q728 q730 qs19 q94 q731) rfl rfl rfl (by decide +kernel) ⟨Nat.le_trans (Nat.le_of_ble_eq_true rfl) hRf, Nat.le_trans (Nat.le_of_ble_eq_true rfl) hRl⟩) ⟨ct_blind, va_recv hK hP (ci := 0) (q0 := 0) rfl rfl, ct_at F hS hP hD⟩ rfl rfl hl.1 rfl (lv_room (Nat.le_of_ble_eq_true rfl)) dX1_spades_86 ⟨hC, hSl⟩) rfl rfl hD hS ?_
    rintro ⟨fd19, lw20⟩ H locs h hP hD hS
    refine lv_iload_n hx hb dX1_spades_89 rfl (lv_at hl 2 rfl) ?_
    exact rt_i F dX1_spades_90 rfl (fd19, ar_18, lw20) h hP hD hS (Nat.le_refl _) (Nat.le_refl _)
set_option maxHeartbeats 4000000 in
theorem lp_S_goSpells_L1_i0 {p : Program} {l : Launch} {e : Env} {R : Room} {s : State} {m : MethodId} {args : Array Value} {below : List Frame} {meth : Method} {c : Code} {cells slots : Nat} {A : Nat → Prop} {Qf : State → Prop} {V : evT} {D : va_G} {gI : Nat → ClassId} {o : Nat} {ax : Nat → Nat} {rn : Option (Nat × Nat)} {tl : va_W} {v2 : Int32} {fd : Nat → Int32} {lw : Nat → Int64} {hh : HT} {K25 : (Int32) → (Nat → Nat → Int32) → Prop} (F : ct_F p m c meth cX1_goSpells 5 s args RX1 (some .int) A V D vwCl (tyL gI)) (hRf : 5 ≤ R.frames) (hRl : 104 ≤ R.locals) (hC : cells ≤ R.cells) (hSl : slots ≤ R.slots)
    (hK25 : ∀ (v3 : Int32) (ar : Nat → Nat → Int32), K25 v3 ar → ∀ (H : Heap) (locs : List Loc) (ls : Array Slot), va_P D vwCl (wX gI o ax rn tl fd ar lw hh) H → va_D A (wX gI o ax rn tl fd ar lw hh) → va_S A s.heap H locs → lv_has ls 5 [(3, .int v3)] → W p l e R s m args below meth c H locs cells slots Qf (F0 m 25 ls [])) :
    ∀ (n : Nat) (v3 : Int32) (v4 : Int32) (ar : Nat → Nat → Int32), wp_S_goSpells_L1 0 v2 fd lw hh K25 n v3 v4 ar → ∀ (H : Heap) (locs : List Loc) (ls : Array Slot), va_P D vwCl (wX gI o ax rn tl fd ar lw hh) H → va_D A (wX gI o ax rn tl fd ar lw hh) → va_S A s.heap H locs → lv_has ls 5 [(0, .ref o), (1, .ref (ax 0)), (2, .int v2), (3, .int v3), (4, .int v4)] → W p l e R s m args below meth c H locs cells slots Qf (F0 m 5 ls []) := by
  obtain ⟨⟨hx, hb, hml, hown, hts⟩, hr, hlocks, hA, hK, hE⟩ := id F
  intro n
  induction n with
  | zero => intro v3 v4 ar h; exact h.elim
  | succ n ih =>
    intro v3 v4 ar h H locs ls hP hD hS hl
    unfold wp_S_goSpells_L1 at h
    refine lv_iload hx hb dX1_goSpells_5 (lv_at hl 4 rfl) ?_
    refine lv_iload_n hx hb dX1_goSpells_7 rfl (lv_at hl 2 rfl) ?_
    refine lv_icmp_ge (tgt := 25) hx hb dX1_goSpells_8 (by decide) (fun c3 => ?_) (fun c3 => ?_)
    · replace h := h.1 c3
      exact hK25 _ _ h _ _ _ hP hD hS (lv_sub hl [3] rfl)
    · replace h := h.2 c3
      refine lv_iload_n hx hb dX1_goSpells_11 rfl (lv_at hl 3 rfl) ?_
      refine lv_aload_n hx hb dX1_goSpells_12 rfl (lv_at hl 0 rfl) ?_
      refine lv_aload_n hx hb dX1_goSpells_13 rfl (lv_at hl 1 rfl) ?_
      refine cl_i F (va_runV (As := [.ref (ax 0)]) (rest := [.int v3]) ⟨hx, hb, hml, hown, hts⟩ (ct_S_goSpell_i0 h _) (cwV 1 hts (lw_V q708 q710 qs15 q94 q711) rfl rfl rfl (by decide +kernel) ⟨Nat.le_trans (Nat.le_of_ble_eq_true rfl) hRf, Nat.le_trans (Nat.le_of_ble_eq_true rfl) hRl⟩) ⟨ct_blind, va_recv hK hP (ci := 0) (q0 := 0) rfl rfl, ct_at F hS hP hD⟩ rfl rfl hl.1 rfl (lv_room (Nat.le_of_ble_eq_true rfl)) dX1_goSpells_14 ⟨hC, hSl⟩) rfl rfl hD hS ?_
      rintro x1 ar2 H locs h hP hD hS
      refine lv_iadd hx hb dX1_goSpells_17 ?_
      refine lv_istore_n (lv' := [(3, .int (v3 + x1)), (0, .ref o), (1, .ref (ax 0)), (2, .int v2), (4, .int v4)]) hx hb dX1_goSpells_18 rfl hl (by decide) rfl (fun ls hl => ?_)
      refine lv_iinc (v := (v4 + (1 : Int32))) (lv' := [(4, .int (v4 + (1 : Int32))), (3, .int (v3 + x1)), (0, .ref o), (1, .ref (ax 0)), (2, .int v2)]) hx hb dX1_goSpells_19 hl (k := 4) rfl rfl (by decide) rfl (fun ls hl => ?_)
      refine lv_goto (tgt := 5) hx hb dX1_goSpells_22 (by decide) ?_
      exact ih _ _ _ h _ _ _ hP hD hS (lv_sub hl [2, 3, 4, 1, 0] rfl)
set_option maxHeartbeats 4000000 in
theorem ct_S_goSpells_i0 {l : Launch} {V : evT} {D : va_G} {gI : Nat → ClassId} {o : Nat} {ax : Nat → Nat} {rn : Option (Nat × Nat)} {tl : va_W} {v2 : Int32} {fd : Nat → Int32} {ar : Nat → Nat → Int32} {lw : Nat → Int64} {hh : HT} {Q : Int32 → (Nat → Nat → Int32) → Prop} (h : wp_S_goSpells 0 v2 fd ar lw hh Q) : ct_i l V D vwCl (tyL gI) yX1_goSpells cX1_goSpells 5 .int { frames := 5, cells := 0, slots := 0, locals := 104 } [.ref o, .ref (ax 0), .int v2] (wX gI o ax rn tl fd ar lw hh) (fun u : (Nat → Nat → Int32) => (wX gI o ax rn tl fd u lw hh)) (fun (x : Int32) (u : (Nat → Nat → Int32)) => Q x u) := by
  refine ct_ofi RX1 rfl (by decide +kernel) (Nat.le_of_ble_eq_true rfl) ?_
  intro p e s m args below meth c A F hP hD ls hl
  obtain ⟨⟨hx, hb, hml, hown, hts⟩, hr, hlocks, hA, hK, hE⟩ := id F
  have hS : va_S A s.heap s.heap [] := va_S.rf
  have hl : lv_has ls 5 [(0, .ref o), (1, .ref (ax 0)), (2, .int v2)] := hl
  have hRf : 5 ≤ ({ frames := 5, cells := 0, slots := 0, locals := 104 } : Room).frames := Nat.le_refl _
  have hRl : 104 ≤ ({ frames := 5, cells := 0, slots := 0, locals := 104 } : Room).locals := Nat.le_refl _
  have hC : 0 ≤ ({ frames := 5, cells := 0, slots := 0, locals := 104 } : Room).cells := Nat.le_refl _
  have hSl : 0 ≤ ({ frames := 5, cells := 0, slots := 0, locals := 104 } : Room).slots := Nat.le_refl _
  unfold wp_S_goSpells at h
  refine lv_iconst (v := (0 : Int32)) hx hb dX1_goSpells_0 (by decide) ?_
  refine lv_istore_n (lv' := [(3, .int (0 : Int32)), (0, .ref o), (1, .ref (ax 0)), (2, .int v2)]) hx hb dX1_goSpells_1 rfl hl (by decide) rfl (fun ls hl => ?_)
  refine lv_iconst (v := (0 : Int32)) hx hb dX1_goSpells_2 (by decide) ?_
  refine lv_istore (lv' := [(4, .int (0 : Int32)), (3, .int (0 : Int32)), (0, .ref o), (1, .ref (ax 0)), (2, .int v2)]) hx hb dX1_goSpells_3 hl (by decide) rfl (fun ls hl => ?_)
  obtain ⟨k5, h⟩ := h
  refine lp_S_goSpells_L1_i0 F hRf hRl hC hSl ?hk25 k5 _ _ _ h _ _ _ hP hD hS (lv_sub hl [2, 3, 4, 1, 0] rfl)
  case hk25 =>
    intro v3_4 ar_5 h H locs ls hP hD hS hl
    refine lv_iload_n hx hb dX1_goSpells_25 rfl (lv_at hl 0 rfl) ?_
    exact rt_i F dX1_goSpells_26 rfl (ar_5) h hP hD hS (Nat.le_refl _) (Nat.le_refl _)
set_option maxHeartbeats 4000000 in
theorem lp_S_goSpells_L1_i2 {p : Program} {l : Launch} {e : Env} {R : Room} {s : State} {m : MethodId} {args : Array Value} {below : List Frame} {meth : Method} {c : Code} {cells slots : Nat} {A : Nat → Prop} {Qf : State → Prop} {V : evT} {D : va_G} {gI : Nat → ClassId} {o : Nat} {ax : Nat → Nat} {rn : Option (Nat × Nat)} {tl : va_W} {v2 : Int32} {fd : Nat → Int32} {lw : Nat → Int64} {hh : HT} {K25 : (Int32) → (Nat → Nat → Int32) → Prop} (F : ct_F p m c meth cX1_goSpells 5 s args RX1 (some .int) A V D vwCl (tyL gI)) (hRf : 5 ≤ R.frames) (hRl : 104 ≤ R.locals) (hC : cells ≤ R.cells) (hSl : slots ≤ R.slots)
    (hK25 : ∀ (v3 : Int32) (ar : Nat → Nat → Int32), K25 v3 ar → ∀ (H : Heap) (locs : List Loc) (ls : Array Slot), va_P D vwCl (wX gI o ax rn tl fd ar lw hh) H → va_D A (wX gI o ax rn tl fd ar lw hh) → va_S A s.heap H locs → lv_has ls 5 [(3, .int v3)] → W p l e R s m args below meth c H locs cells slots Qf (F0 m 25 ls [])) :
    ∀ (n : Nat) (v3 : Int32) (v4 : Int32) (ar : Nat → Nat → Int32), wp_S_goSpells_L1 2 v2 fd lw hh K25 n v3 v4 ar → ∀ (H : Heap) (locs : List Loc) (ls : Array Slot), va_P D vwCl (wX gI o ax rn tl fd ar lw hh) H → va_D A (wX gI o ax rn tl fd ar lw hh) → va_S A s.heap H locs → lv_has ls 5 [(0, .ref o), (1, .ref (ax 2)), (2, .int v2), (3, .int v3), (4, .int v4)] → W p l e R s m args below meth c H locs cells slots Qf (F0 m 5 ls []) := by
  obtain ⟨⟨hx, hb, hml, hown, hts⟩, hr, hlocks, hA, hK, hE⟩ := id F
  intro n
  induction n with
  | zero => intro v3 v4 ar h; exact h.elim
  | succ n ih =>
    intro v3 v4 ar h H locs ls hP hD hS hl
    unfold wp_S_goSpells_L1 at h
    refine lv_iload hx hb dX1_goSpells_5 (lv_at hl 4 rfl) ?_
    refine lv_iload_n hx hb dX1_goSpells_7 rfl (lv_at hl 2 rfl) ?_
    refine lv_icmp_ge (tgt := 25) hx hb dX1_goSpells_8 (by decide) (fun c3 => ?_) (fun c3 => ?_)
    · replace h := h.1 c3
      exact hK25 _ _ h _ _ _ hP hD hS (lv_sub hl [3] rfl)
    · replace h := h.2 c3
      refine lv_iload_n hx hb dX1_goSpells_11 rfl (lv_at hl 3 rfl) ?_
      refine lv_aload_n hx hb dX1_goSpells_12 rfl (lv_at hl 0 rfl) ?_
      refine lv_aload_n hx hb dX1_goSpells_13 rfl (lv_at hl 1 rfl) ?_
      refine cl_i F (va_runV (As := [.ref (ax 2)]) (rest := [.int v3]) ⟨hx, hb, hml, hown, hts⟩ (ct_S_goSpell_i2 h _) (cwV 1 hts (lw_V q708 q710 qs15 q94 q711) rfl rfl rfl (by decide +kernel) ⟨Nat.le_trans (Nat.le_of_ble_eq_true rfl) hRf, Nat.le_trans (Nat.le_of_ble_eq_true rfl) hRl⟩) ⟨ct_blind, va_recv hK hP (ci := 0) (q0 := 0) rfl rfl, ct_at F hS hP hD⟩ rfl rfl hl.1 rfl (lv_room (Nat.le_of_ble_eq_true rfl)) dX1_goSpells_14 ⟨hC, hSl⟩) rfl rfl hD hS ?_
      rintro x1 ar2 H locs h hP hD hS
      refine lv_iadd hx hb dX1_goSpells_17 ?_
      refine lv_istore_n (lv' := [(3, .int (v3 + x1)), (0, .ref o), (1, .ref (ax 2)), (2, .int v2), (4, .int v4)]) hx hb dX1_goSpells_18 rfl hl (by decide) rfl (fun ls hl => ?_)
      refine lv_iinc (v := (v4 + (1 : Int32))) (lv' := [(4, .int (v4 + (1 : Int32))), (3, .int (v3 + x1)), (0, .ref o), (1, .ref (ax 2)), (2, .int v2)]) hx hb dX1_goSpells_19 hl (k := 4) rfl rfl (by decide) rfl (fun ls hl => ?_)
      refine lv_goto (tgt := 5) hx hb dX1_goSpells_22 (by decide) ?_
      exact ih _ _ _ h _ _ _ hP hD hS (lv_sub hl [2, 3, 4, 1, 0] rfl)
set_option maxHeartbeats 4000000 in
theorem ct_S_goSpells_i2 {l : Launch} {V : evT} {D : va_G} {gI : Nat → ClassId} {o : Nat} {ax : Nat → Nat} {rn : Option (Nat × Nat)} {tl : va_W} {v2 : Int32} {fd : Nat → Int32} {ar : Nat → Nat → Int32} {lw : Nat → Int64} {hh : HT} {Q : Int32 → (Nat → Nat → Int32) → Prop} (h : wp_S_goSpells 2 v2 fd ar lw hh Q) : ct_i l V D vwCl (tyL gI) yX1_goSpells cX1_goSpells 5 .int { frames := 5, cells := 0, slots := 0, locals := 104 } [.ref o, .ref (ax 2), .int v2] (wX gI o ax rn tl fd ar lw hh) (fun u : (Nat → Nat → Int32) => (wX gI o ax rn tl fd u lw hh)) (fun (x : Int32) (u : (Nat → Nat → Int32)) => Q x u) := by
  refine ct_ofi RX1 rfl (by decide +kernel) (Nat.le_of_ble_eq_true rfl) ?_
  intro p e s m args below meth c A F hP hD ls hl
  obtain ⟨⟨hx, hb, hml, hown, hts⟩, hr, hlocks, hA, hK, hE⟩ := id F
  have hS : va_S A s.heap s.heap [] := va_S.rf
  have hl : lv_has ls 5 [(0, .ref o), (1, .ref (ax 2)), (2, .int v2)] := hl
  have hRf : 5 ≤ ({ frames := 5, cells := 0, slots := 0, locals := 104 } : Room).frames := Nat.le_refl _
  have hRl : 104 ≤ ({ frames := 5, cells := 0, slots := 0, locals := 104 } : Room).locals := Nat.le_refl _
  have hC : 0 ≤ ({ frames := 5, cells := 0, slots := 0, locals := 104 } : Room).cells := Nat.le_refl _
  have hSl : 0 ≤ ({ frames := 5, cells := 0, slots := 0, locals := 104 } : Room).slots := Nat.le_refl _
  unfold wp_S_goSpells at h
  refine lv_iconst (v := (0 : Int32)) hx hb dX1_goSpells_0 (by decide) ?_
  refine lv_istore_n (lv' := [(3, .int (0 : Int32)), (0, .ref o), (1, .ref (ax 2)), (2, .int v2)]) hx hb dX1_goSpells_1 rfl hl (by decide) rfl (fun ls hl => ?_)
  refine lv_iconst (v := (0 : Int32)) hx hb dX1_goSpells_2 (by decide) ?_
  refine lv_istore (lv' := [(4, .int (0 : Int32)), (3, .int (0 : Int32)), (0, .ref o), (1, .ref (ax 2)), (2, .int v2)]) hx hb dX1_goSpells_3 hl (by decide) rfl (fun ls hl => ?_)
  obtain ⟨k5, h⟩ := h
  refine lp_S_goSpells_L1_i2 F hRf hRl hC hSl ?hk25 k5 _ _ _ h _ _ _ hP hD hS (lv_sub hl [2, 3, 4, 1, 0] rfl)
  case hk25 =>
    intro v3_4 ar_5 h H locs ls hP hD hS hl
    refine lv_iload_n hx hb dX1_goSpells_25 rfl (lv_at hl 0 rfl) ?_
    exact rt_i F dX1_goSpells_26 rfl (ar_5) h hP hD hS (Nat.le_refl _) (Nat.le_refl _)
set_option maxHeartbeats 4000000 in
theorem lp_S_work_L1 {p : Program} {l : Launch} {e : Env} {R : Room} {s : State} {m : MethodId} {args : Array Value} {below : List Frame} {meth : Method} {c : Code} {cells slots : Nat} {A : Nat → Prop} {Qf : State → Prop} {V : evT} {D : va_G} {gI : Nat → ClassId} {o : Nat} {ax : Nat → Nat} {rn : Option (Nat × Nat)} {tl : va_W} {v2 : Int32} {ar : Nat → Nat → Int32} {hh : HT} {K80 : (Nat → Int32) → (Nat → Int64) → Prop} (F : ct_F p m c meth cX1_work 4 s args RX1 (some .int) A V D vwCl (tyL gI)) (hRf : 6 ≤ R.frames) (hRl : 128 ≤ R.locals) (hC : cells ≤ R.cells) (hSl : slots ≤ R.slots)
    (hK80 : ∀ (fd : Nat → Int32) (lw : Nat → Int64), K80 fd lw → ∀ (H : Heap) (locs : List Loc) (ls : Array Slot), va_P D vwCl (wX gI o ax rn tl fd ar lw hh) H → va_D A (wX gI o ax rn tl fd ar lw hh) → va_S A s.heap H locs → lv_has ls 4 [(2, .int v2)] → W p l e R s m args below meth c H locs cells slots Qf (F0 m 80 ls [])) :
    ∀ (n : Nat) (v3 : Int32) (fd : Nat → Int32) (lw : Nat → Int64), wp_S_work_L1 v2 ar hh K80 n v3 fd lw → ∀ (H : Heap) (locs : List Loc) (ls : Array Slot), va_P D vwCl (wX gI o ax rn tl fd ar lw hh) H → va_D A (wX gI o ax rn tl fd ar lw hh) → va_S A s.heap H locs → lv_has ls 4 [(0, .ref o), (2, .int v2), (3, .int v3)] → W p l e R s m args below meth c H locs cells slots Qf (F0 m 42 ls []) := by
  obtain ⟨⟨hx, hb, hml, hown, hts⟩, hr, hlocks, hA, hK, hE⟩ := id F
  intro n
  induction n with
  | zero => intro v3 fd lw h; exact h.elim
  | succ n ih =>
    intro v3 fd lw h H locs ls hP hD hS hl
    unfold wp_S_work_L1 at h
    refine lv_iload_n hx hb dX1_work_42 rfl (lv_at hl 2 rfl) ?_
    refine lv_aload_n hx hb dX1_work_43 rfl (lv_at hl 0 rfl) ?_
    refine va_get hx hb hts in_X1 hown hK hP 0 rfl rfl 9 (Nat.le_of_ble_eq_true rfl) (hts _ q195) (fun _ h => h) (v := .int (fd 9)) rfl dX1_work_44 ?_
    refine lv_icmp_ge (tgt := 80) hx hb dX1_work_47 (by decide) (fun c13 => ?_) (fun c13 => ?_)
    · replace h := h.1 c13
      exact hK80 _ _ h _ _ _ hP hD hS (lv_sub hl [1] rfl)
    · replace h := h.2 c13
      refine lv_aload_n hx hb dX1_work_50 rfl (lv_at hl 0 rfl) ?_
      refine lv_aload_n hx hb dX1_work_51 rfl (lv_at hl 0 rfl) ?_
      refine va_get hx hb hts in_X1 hown hK hP 0 rfl rfl 2 (Nat.le_of_ble_eq_true rfl) (hts _ q186) (fun _ h => h) (v := .ref (ax 2)) rfl dX1_work_52 ?_
      refine va_get hx hb hts in_X2 hown hK hP 24 rfl rfl 0 (Nat.le_of_ble_eq_true rfl) (hts _ q135) (fun _ h => h) (v := .ref (ax 48)) rfl dX1_work_55 ?_
      refine lv_iload_n hx hb dX1_work_58 rfl (lv_at hl 2 rfl) ?_
      refine va_iald (f := (ar 48)) hx hb hK hP 25 0 rfl rfl h.1 dX1_work_59 ?_
      replace h := h.2
      refine lv_aload_n hx hb dX1_work_60 rfl (lv_at hl 0 rfl) ?_
      refine va_get hx hb hts in_X1 hown hK hP 0 rfl rfl 0 (Nat.le_of_ble_eq_true rfl) (hts _ q180) (fun _ h => h) (v := .ref (ax 0)) rfl dX1_work_61 ?_
      refine va_get hx hb hts in_X2 hown hK hP 14 rfl rfl 0 (Nat.le_of_ble_eq_true rfl) (hts _ q135) (fun _ h => h) (v := .ref (ax 40)) rfl dX1_work_64 ?_
      refine lv_iload_n hx hb dX1_work_67 rfl (lv_at hl 2 rfl) ?_
      refine va_iald (f := (ar 40)) hx hb hK hP 15 0 rfl rfl h.1 dX1_work_68 ?_
      replace h := h.2
      refine lv_isub hx hb dX1_work_69 ?_
      refine lv_i2l (v := (((ar 48 v3.toNatClampNeg) - (ar 40 v3.toNatClampNeg)).toInt64)) hx hb dX1_work_70 rfl ?_
      refine cl_v F (va_runV (As := [.long (((ar 48 v3.toNatClampNeg) - (ar 40 v3.toNatClampNeg)).toInt64)]) (rest := []) ⟨hx, hb, hml, hown, hts⟩ (ct_S_tell h _) (cwV 1 hts (lw_V q728 q730 qs19 q94 q731) rfl rfl rfl (by decide +kernel) ⟨Nat.le_trans (Nat.le_of_ble_eq_true rfl) hRf, Nat.le_trans (Nat.le_of_ble_eq_true rfl) hRl⟩) ⟨ct_blind, va_recv hK hP (ci := 0) (q0 := 0) rfl rfl, ct_at F hS hP hD⟩ rfl rfl hl.1 rfl (lv_room (Nat.le_of_ble_eq_true rfl)) dX1_work_71 ⟨hC, hSl⟩) rfl rfl hD hS ?_
      rintro ⟨fd11, lw12⟩ H locs h hP hD hS
      refine lv_iinc (v := (v3 + (1 : Int32))) (lv' := [(3, .int (v3 + (1 : Int32))), (0, .ref o), (2, .int v2)]) hx hb dX1_work_74 hl (k := 2) rfl rfl (by decide) rfl (fun ls hl => ?_)
      refine lv_goto (tgt := 42) hx hb dX1_work_77 (by decide) ?_
      exact ih _ _ _ h _ _ _ hP hD hS (lv_sub hl [1, 2, 0] rfl)
set_option maxHeartbeats 4000000 in
theorem ct_S_work {l : Launch} {V : evT} {D : va_G} {gI : Nat → ClassId} {o : Nat} {ax : Nat → Nat} {rn : Option (Nat × Nat)} {tl : va_W} {v1 : Int32} {fd : Nat → Int32} {ar : Nat → Nat → Int32} {lw : Nat → Int64} {hh : HT} {Q : Int32 → (Nat → Int32) → (Nat → Nat → Int32) → (Nat → Int64) → Prop} (h : wp_S_work v1 fd ar lw hh Q) : ct_i l V D vwCl (tyL gI) yX1_work cX1_work 4 .int { frames := 6, cells := 0, slots := 0, locals := 128 } [.ref o, .int v1] (wX gI o ax rn tl fd ar lw hh) (fun u : (Nat → Int32) × (Nat → Nat → Int32) × (Nat → Int64) => (wX gI o ax rn tl u.1 u.2.1 u.2.2 hh)) (fun (x : Int32) (u : (Nat → Int32) × (Nat → Nat → Int32) × (Nat → Int64)) => Q x u.1 u.2.1 u.2.2) := by
  refine ct_ofi RX1 rfl (by decide +kernel) (Nat.le_of_ble_eq_true rfl) ?_
  intro p e s m args below meth c A F hP hD ls hl
  obtain ⟨⟨hx, hb, hml, hown, hts⟩, hr, hlocks, hA, hK, hE⟩ := id F
  have hS : va_S A s.heap s.heap [] := va_S.rf
  have hl : lv_has ls 4 [(0, .ref o), (1, .int v1)] := hl
  have hRf : 6 ≤ ({ frames := 6, cells := 0, slots := 0, locals := 128 } : Room).frames := Nat.le_refl _
  have hRl : 128 ≤ ({ frames := 6, cells := 0, slots := 0, locals := 128 } : Room).locals := Nat.le_refl _
  have hC : 0 ≤ ({ frames := 6, cells := 0, slots := 0, locals := 128 } : Room).cells := Nat.le_refl _
  have hSl : 0 ≤ ({ frames := 6, cells := 0, slots := 0, locals := 128 } : Room).slots := Nat.le_refl _
  unfold wp_S_work at h
  refine lv_iload_n hx hb dX1_work_0 rfl (lv_at hl 1 rfl) ?_
  refine lv_i2l (v := (v1.toInt64)) hx hb dX1_work_1 rfl ?_
  refine lv_lconst (v := (0 : Int64)) hx hb dX1_work_2 (by decide) ?_
  refine lv_ldc2 (v := (30 : Int64)) hx hb hown (hts _ q699) dX1_work_3 ?_
  refine cl_i0 F (va_runS (As := [.long (v1.toInt64), .long (0 : Int64), .long (30 : Int64)]) (rest := []) ⟨hx, hb, hml, hown, hts⟩ (ct_X1_in h _) (va_cwS 3 hts (lw_S q298 q299 q94 q300) rfl rfl rfl (by decide +kernel) ⟨Nat.le_trans (Nat.le_of_ble_eq_true rfl) hRf, Nat.le_trans (Nat.le_of_ble_eq_true rfl) hRl⟩) ⟨ct_blind, ct_at F hS ct_nP ct_nD⟩ rfl rfl hl.1 rfl (lv_room (Nat.le_of_ble_eq_true rfl)) dX1_work_6 ⟨hC, hSl⟩) rfl rfl hP hS ?_
  rintro x1 _ H locs h hP hS
  refine lv_if_ne (tgt := 14) hx hb dX1_work_9 (by decide) (fun c16 => ?_) (fun c16 => ?_)
  · replace h := h.1 c16
    refine lv_aload_n hx hb dX1_work_14 rfl (lv_at hl 0 rfl) ?_
    refine va_get hx hb hts in_X1 hown hK hP 0 rfl rfl 2 (Nat.le_of_ble_eq_true rfl) (hts _ q186) (fun _ h => h) (v := .ref (ax 2)) rfl dX1_work_15 ?_
    refine lv_aload_n hx hb dX1_work_18 rfl (lv_at hl 0 rfl) ?_
    refine va_get hx hb hts in_X1 hown hK hP 0 rfl rfl 0 (Nat.le_of_ble_eq_true rfl) (hts _ q180) (fun _ h => h) (v := .ref (ax 0)) rfl dX1_work_19 ?_
    refine cl_vL F (va_runV (As := [.ref (ax 0)]) (rest := []) ⟨hx, hb, hml, hown, hts⟩ (ct_B_be (o := (ax 2)) (ab := axb ax 2) (o2 := (ax 0)) (ab2 := axb ax 0) h _) (cwV 1 hts (lw_V q659 q660 q661 q95 q662) rfl rfl rfl (by decide +kernel) ⟨Nat.le_trans (Nat.le_of_ble_eq_true rfl) hRf, Nat.le_trans (Nat.le_of_ble_eq_true rfl) hRl⟩) ⟨ct_blind, va_recv hK hP (ci := 1) (q0 := 24) rfl rfl, ct_at F hS (putL_P hP (ps := [24, 25, 26, 27, 28, 14, 15, 16, 17, 18]) rfl) (hD.sub ([24, 25, 26, 27, 28, 14, 15, 16, 17, 18]) (by decide) rfl)⟩ rfl rfl hl.1 rfl (lv_room (Nat.le_of_ble_eq_true rfl)) dX1_work_22 ⟨hC, hSl⟩) rfl rfl hP hD hS (ps := [24, 25, 26, 27, 28, 14, 15, 16, 17, 18]) rfl (fun _ => rfl) (fun _ => wXPP_2_0) ?_
    rintro ⟨wl2, dp3, aa4, md5, mo6, sp7, ti8⟩ H locs h hP hD hS
    refine lv_aload_n hx hb dX1_work_25 rfl (lv_at hl 0 rfl) ?_
    refine lv_aload_n hx hb dX1_work_26 rfl (lv_at hl 0 rfl) ?_
    refine va_get hx hb hts in_X1 hown hK hP 0 rfl rfl 2 (Nat.le_of_ble_eq_true rfl) (hts _ q186) (fun _ h => h) (v := .ref (ax 2)) rfl dX1_work_27 ?_
    refine lv_iload_n hx hb dX1_work_30 rfl (lv_at hl 1 rfl) ?_
    refine cl_i F (va_runV (As := [.ref (ax 2), .int v1]) (rest := []) ⟨hx, hb, hml, hown, hts⟩ (ct_S_goSpells_i2 h _) (cwV 2 hts (lw_V q704 q706 qs14 q94 q707) rfl rfl rfl (by decide +kernel) ⟨Nat.le_trans (Nat.le_of_ble_eq_true rfl) hRf, Nat.le_trans (Nat.le_of_ble_eq_true rfl) hRl⟩) ⟨ct_blind, va_recv hK hP (ci := 0) (q0 := 0) rfl rfl, ct_at F hS hP hD⟩ rfl rfl hl.1 rfl (lv_room (Nat.le_of_ble_eq_true rfl)) dX1_work_31 ⟨hC, hSl⟩) rfl rfl hD hS ?_
    rintro x9 ar10 H locs h hP hD hS
    refine lv_istore_n (lv' := [(2, .int x9), (0, .ref o), (1, .int v1)]) hx hb dX1_work_34 rfl hl (by decide) rfl (fun ls hl => ?_)
    refine lv_aload_n hx hb dX1_work_35 rfl (lv_at hl 1 rfl) ?_
    refine lv_iconst (v := (0 : Int32)) hx hb dX1_work_36 (by decide) ?_
    refine pt_put (v := .int (0 : Int32)) hx hb hts in_X1 tyX1 tyX1_ok nmX1 hown hK hP hD hS 0 rfl rfl 18 (Nat.le_of_ble_eq_true rfl) (hts _ q209) (fun _ h => h) rfl (ty := .int) (by decide +kernel) rfl rfl (Nat.le_of_ble_eq_true rfl) dX1_work_37 wXF_18 (fun H locs hP hD hS => ?_)
    refine lv_iconst (v := (0 : Int32)) hx hb dX1_work_40 (by decide) ?_
    refine lv_istore_n (lv' := [(3, .int (0 : Int32)), (2, .int x9), (0, .ref o), (1, .int v1)]) hx hb dX1_work_41 rfl hl (by decide) rfl (fun ls hl => ?_)
    obtain ⟨k42, h⟩ := h
    refine lp_S_work_L1 F hRf hRl hC hSl ?hk80 k42 _ _ _ h _ _ _ hP hD hS (lv_sub hl [2, 1, 0] rfl)
    case hk80 =>
      intro fd_14 lw_15 h H locs ls hP hD hS hl
      refine lv_iload_n hx hb dX1_work_80 rfl (lv_at hl 0 rfl) ?_
      exact rt_i F dX1_work_81 rfl (fd_14, ar10, lw_15) h hP hD hS (Nat.le_refl _) (Nat.le_refl _)
  · replace h := h.2 c16
    refine lv_iconst (v := (-1 : Int32)) hx hb dX1_work_12 (by decide) ?_
    exact rt_i F dX1_work_13 rfl (fd, ar, lw) h hP hD hS (Nat.le_refl _) (Nat.le_refl _)
set_option maxHeartbeats 4000000 in
theorem ct_S_build {l : Launch} {V : evT} {D : va_G} {gI : Nat → ClassId} {o : Nat} {ax : Nat → Nat} {rn : Option (Nat × Nat)} {tl : va_W} {v1 : Int32} {fd : Nat → Int32} {ar : Nat → Nat → Int32} {lw : Nat → Int64} {hh : HT} {Q : Int32 → (Nat → Int32) → (Nat → Nat → Int32) → (Nat → Int64) → (HT) → Prop} (h : wp_S_build v1 fd ar lw hh Q) : ct_i l V D vwCl (tyL gI) yX1_build cX1_build 4 .int { frames := 6, cells := 0, slots := 0, locals := 128 } [.ref o, .int v1] (wX gI o ax rn tl fd ar lw hh) (fun u : (Nat → Int32) × (Nat → Nat → Int32) × (Nat → Int64) × (HT) => (wX gI o ax rn tl u.1 u.2.1 u.2.2.1 u.2.2.2)) (fun (x : Int32) (u : (Nat → Int32) × (Nat → Nat → Int32) × (Nat → Int64) × (HT)) => Q x u.1 u.2.1 u.2.2.1 u.2.2.2) := by
  refine ct_ofi RX1 rfl (by decide +kernel) (Nat.le_of_ble_eq_true rfl) ?_
  intro p e s m args below meth c A F hP hD ls hl
  obtain ⟨⟨hx, hb, hml, hown, hts⟩, hr, hlocks, hA, hK, hE⟩ := id F
  have hS : va_S A s.heap s.heap [] := va_S.rf
  have hl : lv_has ls 4 [(0, .ref o), (1, .int v1)] := hl
  have hRf : 6 ≤ ({ frames := 6, cells := 0, slots := 0, locals := 128 } : Room).frames := Nat.le_refl _
  have hRl : 128 ≤ ({ frames := 6, cells := 0, slots := 0, locals := 128 } : Room).locals := Nat.le_refl _
  have hC : 0 ≤ ({ frames := 6, cells := 0, slots := 0, locals := 128 } : Room).cells := Nat.le_refl _
  have hSl : 0 ≤ ({ frames := 6, cells := 0, slots := 0, locals := 128 } : Room).slots := Nat.le_refl _
  unfold wp_S_build at h
  refine lv_iload_n hx hb dX1_build_0 rfl (lv_at hl 1 rfl) ?_
  refine lv_i2l (v := (v1.toInt64)) hx hb dX1_build_1 rfl ?_
  refine lv_lconst (v := (0 : Int64)) hx hb dX1_build_2 (by decide) ?_
  refine lv_ldc2 (v := (30 : Int64)) hx hb hown (hts _ q699) dX1_build_3 ?_
  refine cl_i0 F (va_runS (As := [.long (v1.toInt64), .long (0 : Int64), .long (30 : Int64)]) (rest := []) ⟨hx, hb, hml, hown, hts⟩ (ct_X1_in h _) (va_cwS 3 hts (lw_S q298 q299 q94 q300) rfl rfl rfl (by decide +kernel) ⟨Nat.le_trans (Nat.le_of_ble_eq_true rfl) hRf, Nat.le_trans (Nat.le_of_ble_eq_true rfl) hRl⟩) ⟨ct_blind, ct_at F hS ct_nP ct_nD⟩ rfl rfl hl.1 rfl (lv_room (Nat.le_of_ble_eq_true rfl)) dX1_build_6 ⟨hC, hSl⟩) rfl rfl hP hS ?_
  rintro x1 _ H locs h hP hS
  refine lv_if_ne (tgt := 14) hx hb dX1_build_9 (by decide) (fun c10 => ?_) (fun c10 => ?_)
  · replace h := h.1 c10
    refine lv_aload_n hx hb dX1_build_14 rfl (lv_at hl 0 rfl) ?_
    refine lv_aload_n hx hb dX1_build_15 rfl (lv_at hl 0 rfl) ?_
    refine va_get hx hb hts in_X1 hown hK hP 0 rfl rfl 0 (Nat.le_of_ble_eq_true rfl) (hts _ q180) (fun _ h => h) (v := .ref (ax 0)) rfl dX1_build_16 ?_
    refine cl_v F (va_runV (As := [.ref (ax 0)]) (rest := []) ⟨hx, hb, hml, hown, hts⟩ (ct_S_remember_i0 h _) (cwV 1 hts (lw_V q655 q657 qs10 q94 q658) rfl rfl rfl (by decide +kernel) ⟨Nat.le_trans (Nat.le_of_ble_eq_true rfl) hRf, Nat.le_trans (Nat.le_of_ble_eq_true rfl) hRl⟩) ⟨ct_blind, va_recv hK hP (ci := 0) (q0 := 0) rfl rfl, ct_at F hS hP hD⟩ rfl rfl hl.1 rfl (lv_room (Nat.le_of_ble_eq_true rfl)) dX1_build_19 ⟨hC, hSl⟩) rfl rfl hD hS ?_
    rintro ⟨fd2, hh3⟩ H locs h hP hD hS
    refine lv_aload_n hx hb dX1_build_22 rfl (lv_at hl 0 rfl) ?_
    refine va_get hx hb hts in_X1 hown hK hP 0 rfl rfl 0 (Nat.le_of_ble_eq_true rfl) (hts _ q180) (fun _ h => h) (v := .ref (ax 0)) rfl dX1_build_23 ?_
    refine lv_aload_n hx hb dX1_build_26 rfl (lv_at hl 0 rfl) ?_
    refine va_get hx hb hts in_X1 hown hK hP 0 rfl rfl 10 (Nat.le_of_ble_eq_true rfl) (hts _ q199) (fun _ h => h) (v := .int (fd2 10)) rfl dX1_build_27 ?_
    refine cl_iL F (va_runV (As := [.int (fd2 10)]) (rest := []) ⟨hx, hb, hml, hown, hts⟩ (ct_B_atHome (o := (ax 0)) (ab := axb ax 0) h _) (cwV 1 hts (lw_V q700 q701 q702 q95 q703) rfl rfl rfl (by decide +kernel) ⟨Nat.le_trans (Nat.le_of_ble_eq_true rfl) hRf, Nat.le_trans (Nat.le_of_ble_eq_true rfl) hRl⟩) ⟨ct_blind, va_recv hK hP (ci := 1) (q0 := 14) rfl rfl, ct_at F hS (putL_P hP (ps := [14, 15, 16, 17, 18]) rfl) (hD.sub ([14, 15, 16, 17, 18]) (by decide) rfl)⟩ rfl rfl hl.1 rfl (lv_room (Nat.le_of_ble_eq_true rfl)) dX1_build_30 ⟨hC, hSl⟩) rfl rfl hP hD hS (ps := [14, 15, 16, 17, 18]) rfl (fun _ => rfl) (fun _ => wXP_0_none) ?_
    rintro x4 _ H locs h hP hD hS
    refine lv_istore_n (lv' := [(2, .int x4), (0, .ref o), (1, .int v1)]) hx hb dX1_build_33 rfl hl (by decide) rfl (fun ls hl => ?_)
    refine lv_aload_n hx hb dX1_build_34 rfl (lv_at hl 1 rfl) ?_
    refine lv_aload_n hx hb dX1_build_35 rfl (lv_at hl 1 rfl) ?_
    refine va_get hx hb hts in_X1 hown hK hP 0 rfl rfl 0 (Nat.le_of_ble_eq_true rfl) (hts _ q180) (fun _ h => h) (v := .ref (ax 0)) rfl dX1_build_36 ?_
    refine lv_iload_n hx hb dX1_build_39 rfl (lv_at hl 2 rfl) ?_
    refine cl_i F (va_runV (As := [.ref (ax 0), .int v1]) (rest := []) ⟨hx, hb, hml, hown, hts⟩ (ct_S_goSpells_i0 h _) (cwV 2 hts (lw_V q704 q706 qs14 q94 q707) rfl rfl rfl (by decide +kernel) ⟨Nat.le_trans (Nat.le_of_ble_eq_true rfl) hRf, Nat.le_trans (Nat.le_of_ble_eq_true rfl) hRl⟩) ⟨ct_blind, va_recv hK hP (ci := 0) (q0 := 0) rfl rfl, ct_at F hS hP hD⟩ rfl rfl hl.1 rfl (lv_room (Nat.le_of_ble_eq_true rfl)) dX1_build_40 ⟨hC, hSl⟩) rfl rfl hD hS ?_
    rintro x5 ar6 H locs h hP hD hS
    refine lv_istore_n (lv' := [(3, .int x5), (2, .int x4), (0, .ref o), (1, .int v1)]) hx hb dX1_build_43 rfl hl (by decide) rfl (fun ls hl => ?_)
    refine lv_aload_n hx hb dX1_build_44 rfl (lv_at hl 2 rfl) ?_
    refine lv_iconst (v := (0 : Int32)) hx hb dX1_build_45 (by decide) ?_
    refine pt_put (v := .int (0 : Int32)) hx hb hts in_X1 tyX1 tyX1_ok nmX1 hown hK hP hD hS 0 rfl rfl 18 (Nat.le_of_ble_eq_true rfl) (hts _ q209) (fun _ h => h) rfl (ty := .int) (by decide +kernel) rfl rfl (Nat.le_of_ble_eq_true rfl) dX1_build_46 wXF_18 (fun H locs hP hD hS => ?_)
    refine lv_aload_n hx hb dX1_build_49 rfl (lv_at hl 2 rfl) ?_
    refine lv_aload_n hx hb dX1_build_50 rfl (lv_at hl 2 rfl) ?_
    refine va_get hx hb hts in_X1 hown hK hP 0 rfl rfl 0 (Nat.le_of_ble_eq_true rfl) (hts _ q180) (fun _ h => h) (v := .ref (ax 0)) rfl dX1_build_51 ?_
    refine lv_aload_n hx hb dX1_build_54 rfl (lv_at hl 2 rfl) ?_
    refine va_get hx hb hts in_X1 hown hK hP 0 rfl rfl 10 (Nat.le_of_ble_eq_true rfl) (hts _ q199) (fun _ h => h) (v := .int (fd2 10)) rfl dX1_build_55 ?_
    refine cl_iL F (va_runV (As := [.int (fd2 10)]) (rest := [.ref o]) ⟨hx, hb, hml, hown, hts⟩ (ct_B_atHome (o := (ax 0)) (ab := axb ax 0) h _) (cwV 1 hts (lw_V q700 q701 q702 q95 q703) rfl rfl rfl (by decide +kernel) ⟨Nat.le_trans (Nat.le_of_ble_eq_true rfl) hRf, Nat.le_trans (Nat.le_of_ble_eq_true rfl) hRl⟩) ⟨ct_blind, va_recv hK hP (ci := 1) (q0 := 14) rfl rfl, ct_at F hS (putL_P hP (ps := [14, 15, 16, 17, 18]) rfl) (hD.sub ([14, 15, 16, 17, 18]) (by decide) rfl)⟩ rfl rfl hl.1 rfl (lv_room (Nat.le_of_ble_eq_true rfl)) dX1_build_58 ⟨hC, hSl⟩) rfl rfl hP hD hS (ps := [14, 15, 16, 17, 18]) rfl (fun _ => rfl) (fun _ => wXP_0_none) ?_
    rintro x7 _ H locs h hP hD hS
    refine lv_iload_n hx hb dX1_build_61 rfl (lv_at hl 1 rfl) ?_
    refine lv_iconst (v := (-1 : Int32)) hx hb dX1_build_62 (by decide) ?_
    refine lv_ixor hx hb dX1_build_63 ?_
    refine lv_iand hx hb dX1_build_64 ?_
    refine lv_i2l (v := ((x7 &&& (x4 ^^^ (-1 : Int32))).toInt64)) hx hb dX1_build_65 rfl ?_
    refine cl_v F (va_runV (As := [.long ((x7 &&& (x4 ^^^ (-1 : Int32))).toInt64)]) (rest := []) ⟨hx, hb, hml, hown, hts⟩ (ct_S_tell h _) (cwV 1 hts (lw_V q728 q730 qs19 q94 q731) rfl rfl rfl (by decide +kernel) ⟨Nat.le_trans (Nat.le_of_ble_eq_true rfl) hRf, Nat.le_trans (Nat.le_of_ble_eq_true rfl) hRl⟩) ⟨ct_blind, va_recv hK hP (ci := 0) (q0 := 0) rfl rfl, ct_at F hS hP hD⟩ rfl rfl hl.1 rfl (lv_room (Nat.le_of_ble_eq_true rfl)) dX1_build_66 ⟨hC, hSl⟩) rfl rfl hD hS ?_
    rintro ⟨fd8, lw9⟩ H locs h hP hD hS
    refine lv_iload_n hx hb dX1_build_69 rfl (lv_at hl 0 rfl) ?_
    exact rt_i F dX1_build_70 rfl (fd8, ar6, lw9, hh3) h hP hD hS (Nat.le_refl _) (Nat.le_refl _)
  · replace h := h.2 c10
    refine lv_iconst (v := (-1 : Int32)) hx hb dX1_build_12 (by decide) ?_
    exact rt_i F dX1_build_13 rfl (fd, ar, lw, hh) h hP hD hS (Nat.le_refl _) (Nat.le_refl _)
