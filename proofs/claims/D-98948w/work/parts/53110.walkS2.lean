/-! X1_moats -/
set_option maxRecDepth 100000
set_option maxHeartbeats 4000000 in
theorem lp_S_moats_L1 {p : Program} {l : Launch} {e : Env} {R : Room} {s : State} {m : MethodId} {args : Array Value} {below : List Frame} {meth : Method} {c : Code} {A : Nat → Prop} {Qf : State → Prop} {V : evT} {D : va_G} {gI : Nat → ClassId} {o : Nat} {ax : Nat → Nat} {tl : va_W} {v1 : Int32} {lw : Nat → Int64} {hh : HT} {rn : Option (Nat × Nat)} {K102 : (Int32) → (Int32) → (Nat → Int32) → (Nat → Nat → Int32) → Prop} (F : ct_F p m c meth cX1_moats 6 s args RX1 (some .int) A V D vwCl (tyL gI)) (hRf : 214 ≤ R.frames) (hRl : 5083 ≤ R.locals) (hC : 0 ≤ R.cells) (hSl : 0 ≤ R.slots) (hC1 : 1 ≤ R.cells) (hS7 : 7 ≤ R.slots) (hlt : l.stackTraces = false)
    (hK102 : ∀ (v2 : Int32) (v3 : Int32) (fd : Nat → Int32) (ar : Nat → Nat → Int32), K102 v2 v3 fd ar → ∀ (H : Heap) (locs : List Loc) (ls : Array Slot), va_P D vwCl (wX gI o ax rn tl fd ar lw hh) H → va_D A (wX gI o ax rn tl fd ar lw hh) → va_S A s.heap H locs → lv_has ls 6 [(0, .ref o), (2, .int v2), (3, .int v3)] → W p l e R s m args below meth c H locs 0 0 Qf (F0 m 102 ls [])) :
    ∀ (n : Nat) (v2 : Int32) (v3 : Int32) (v4 : Int32) (fd : Nat → Int32) (ar : Nat → Nat → Int32), wp_S_moats_L1 v1 lw hh rn K102 n v2 v3 v4 fd ar → ∀ (H : Heap) (locs : List Loc) (ls : Array Slot), va_P D vwCl (wX gI o ax rn tl fd ar lw hh) H → va_D A (wX gI o ax rn tl fd ar lw hh) → va_S A s.heap H locs → lv_has ls 6 [(0, .ref o), (1, .int v1), (2, .int v2), (3, .int v3), (4, .int v4)] → W p l e R s m args below meth c H locs 0 0 Qf (F0 m 32 ls []) := by
  obtain ⟨⟨hx, hb, hml, hown, hts⟩, hr, hlocks, hA, hK, hE⟩ := id F
  intro n
  induction n with
  | zero => intro v2 v3 v4 fd ar h; exact h.elim
  | succ n ih =>
    intro v2 v3 v4 fd ar h H locs ls hP hD hS hl
    unfold wp_S_moats_L1 at h
    refine lv_iload hx hb dX1_moats_32 (lv_at hl 4 rfl) ?_
    refine lv_iconst (v := (1 : Int32)) hx hb dX1_moats_34 (by decide) ?_
    refine lv_aload_n hx hb dX1_moats_35 rfl (lv_at hl 0 rfl) ?_
    refine va_get hx hb hts in_X1 hown hK hP 0 rfl rfl 9 (Nat.le_of_ble_eq_true rfl) (hts _ q195) (fun _ h => h) (v := .int (fd 9)) rfl dX1_moats_36 ?_
    refine lv_ishl hx hb dX1_moats_39 ?_
    refine lv_icmp_ge (tgt := 102) hx hb dX1_moats_40 (by decide) (fun c15 => ?_) (fun c15 => ?_)
    · replace h := h.1 c15
      exact hK102 _ _ _ _ h _ _ _ hP hD hS (lv_sub hl [0, 2, 3] rfl)
    · replace h := h.2 c15
      refine lv_iload hx hb dX1_moats_43 (lv_at hl 4 rfl) ?_
      refine cl_i0 F (va_runS (As := [.int v4]) (rest := []) ⟨hx, hb, hml, hown, hts⟩ (ct_J10_bitCount h _) (va_cwS 1 hts (lw_S q585 q586 q112 q587) rfl rfl rfl (by decide +kernel) ⟨Nat.le_trans (Nat.le_of_ble_eq_true rfl) hRf, Nat.le_trans (Nat.le_of_ble_eq_true rfl) hRl⟩) ⟨ct_blind, ct_at F hS ct_nP ct_nD⟩ rfl rfl hl.1 rfl (lv_room (Nat.le_of_ble_eq_true rfl)) dX1_moats_45 ⟨hC, hSl⟩) rfl rfl hP hS ?_
      rintro x2 _ H locs h hP hS
      refine lv_iload_n hx hb dX1_moats_48 rfl (lv_at hl 1 rfl) ?_
      refine lv_icmp_eq (tgt := 55) hx hb dX1_moats_49 (by decide) (fun c14 => ?_) (fun c14 => ?_)
      · replace h := h.1 c14
        refine lv_aload_n hx hb dX1_moats_55 rfl (lv_at hl 0 rfl) ?_
        refine va_get hx hb hts in_X1 hown hK hP 0 rfl rfl 2 (Nat.le_of_ble_eq_true rfl) (hts _ q186) (fun _ h => h) (v := .ref (ax 2)) rfl dX1_moats_56 ?_
        refine lv_aload_n hx hb dX1_moats_59 rfl (lv_at hl 0 rfl) ?_
        refine va_get hx hb hts in_X1 hown hK hP 0 rfl rfl 0 (Nat.le_of_ble_eq_true rfl) (hts _ q180) (fun _ h => h) (v := .ref (ax 0)) rfl dX1_moats_60 ?_
        refine cl_vL F (va_runV (As := [.ref (ax 0)]) (rest := []) ⟨hx, hb, hml, hown, hts⟩ (ct_B_be (o := (ax 2)) (ab := axb ax 2) (o2 := (ax 0)) (ab2 := axb ax 0) h _) (cwV 1 hts (lw_V q659 q660 q661 q95 q662) rfl rfl rfl (by decide +kernel) ⟨Nat.le_trans (Nat.le_of_ble_eq_true rfl) hRf, Nat.le_trans (Nat.le_of_ble_eq_true rfl) hRl⟩) ⟨ct_blind, va_recv hK hP (ci := 1) (q0 := 24) rfl rfl, ct_at F hS (putL_P hP (ps := [24, 25, 26, 27, 28, 14, 15, 16, 17, 18]) rfl) (hD.sub ([24, 25, 26, 27, 28, 14, 15, 16, 17, 18]) (by decide) rfl)⟩ rfl rfl hl.1 rfl (lv_room (Nat.le_of_ble_eq_true rfl)) dX1_moats_63 ⟨hC, hSl⟩) rfl rfl hP hD hS (ps := [24, 25, 26, 27, 28, 14, 15, 16, 17, 18]) rfl (fun _ => rfl) (fun _ => wXPP_2_0) ?_
        rintro ⟨wl3, dp4, aa5, md6, mo7, sp8, ti9⟩ H locs h hP hD hS
        refine lv_aload_n hx hb dX1_moats_66 rfl (lv_at hl 0 rfl) ?_
        refine va_get hx hb hts in_X1 hown hK hP 0 rfl rfl 2 (Nat.le_of_ble_eq_true rfl) (hts _ q186) (fun _ h => h) (v := .ref (ax 2)) rfl dX1_moats_67 ?_
        refine lv_iload hx hb dX1_moats_70 (lv_at hl 4 rfl) ?_
        refine pt_put (v := .int v4) hx hb hts in_X2 tyX2 tyX2_ok nmX2 hown hK hP hD hS 24 rfl rfl 4 (Nat.le_of_ble_eq_true rfl) (hts _ q146) (fun _ h => h) rfl (ty := .int) (by decide +kernel) rfl rfl (Nat.le_of_ble_eq_true rfl) dX1_moats_72 (wXB_2_mo.trans (wXrF (up_rm2 ..))) (fun H locs hP hD hS => ?_)
        refine lv_aload_n hx hb dX1_moats_75 rfl (lv_at hl 0 rfl) ?_
        refine clz_i F (vx_runV (As := []) (rest := []) ⟨hx, hb, hml, hown, hts⟩ (cz_S_holdsOn hlt h _) (cwV 0 hts (lw_V q929 q931 qs27 q94 q932) rfl rfl rfl (by decide +kernel) ⟨Nat.le_trans (Nat.le_of_ble_eq_true rfl) hRf, Nat.le_trans (Nat.le_of_ble_eq_true rfl) hRl⟩) ⟨ct_blind, va_recv hK hP (ci := 0) (q0 := 0) rfl rfl, ct_at F hS hP hD⟩ rfl rfl hl.1 rfl (lv_room (Nat.le_of_ble_eq_true rfl)) dX1_moats_76 ⟨hC1, hS7⟩) hD hS ?_
        rintro x10 ⟨fd11, ar12⟩ H locs h hP hD hS
        refine lv_istore (lv' := [(5, .int x10), (0, .ref o), (1, .int v1), (2, .int v2), (3, .int v3), (4, .int v4)]) hx hb dX1_moats_79 hl (by decide) rfl (fun ls hl => ?_)
        refine lv_iload hx hb dX1_moats_81 (lv_at hl 0 rfl) ?_
        refine lv_iload_n hx hb dX1_moats_83 rfl (lv_at hl 4 rfl) ?_
        refine lv_icmp_gt (tgt := 90) hx hb dX1_moats_84 (by decide) (fun c13 => ?_) (fun c13 => ?_)
        · replace h := h.1 c13
          refine lv_iload hx hb dX1_moats_90 (lv_at hl 5 rfl) ?_
          refine lv_istore_n (lv' := [(2, .int v4), (5, .int x10), (0, .ref o), (1, .int v1), (3, .int v3), (4, .int v4)]) hx hb dX1_moats_92 rfl hl (by decide) rfl (fun ls hl => ?_)
          refine lv_iload hx hb dX1_moats_93 (lv_at hl 1 rfl) ?_
          refine lv_istore_n (lv' := [(3, .int x10), (2, .int v4), (5, .int x10), (0, .ref o), (1, .int v1), (4, .int v4)]) hx hb dX1_moats_95 rfl hl (by decide) rfl (fun ls hl => ?_)
          refine lv_iinc (v := (v4 + (1 : Int32))) (lv' := [(4, .int (v4 + (1 : Int32))), (3, .int x10), (2, .int v4), (5, .int x10), (0, .ref o), (1, .int v1)]) hx hb dX1_moats_96 hl (k := 5) rfl rfl (by decide) rfl (fun ls hl => ?_)
          refine lv_goto (tgt := 32) hx hb dX1_moats_99 (by decide) ?_
          exact ih _ _ _ _ _ h _ _ _ hP hD hS (lv_sub hl [4, 5, 2, 1, 0] rfl)
        · replace h := h.2 c13
          refine lv_goto (tgt := 96) hx hb dX1_moats_87 (by decide) ?_
          refine lv_iinc (v := (v4 + (1 : Int32))) (lv' := [(4, .int (v4 + (1 : Int32))), (5, .int x10), (0, .ref o), (1, .int v1), (2, .int v2), (3, .int v3)]) hx hb dX1_moats_96 hl (k := 5) rfl rfl (by decide) rfl (fun ls hl => ?_)
          refine lv_goto (tgt := 32) hx hb dX1_moats_99 (by decide) ?_
          exact ih _ _ _ _ _ h _ _ _ hP hD hS (lv_sub hl [2, 3, 4, 5, 0] rfl)
      · replace h := h.2 c14
        refine lv_goto (tgt := 96) hx hb dX1_moats_52 (by decide) ?_
        refine lv_iinc (v := (v4 + (1 : Int32))) (lv' := [(4, .int (v4 + (1 : Int32))), (0, .ref o), (1, .int v1), (2, .int v2), (3, .int v3)]) hx hb dX1_moats_96 hl (k := 4) rfl rfl (by decide) rfl (fun ls hl => ?_)
        refine lv_goto (tgt := 32) hx hb dX1_moats_99 (by decide) ?_
        exact ih _ _ _ _ _ h _ _ _ hP hD hS (lv_sub hl [1, 2, 3, 4, 0] rfl)
set_option maxHeartbeats 4000000 in
theorem cz_S_moats {l : Launch} {V : evT} {D : va_G} {gI : Nat → ClassId} {o : Nat} {ax : Nat → Nat} {tl : va_W} (hlt : l.stackTraces = false) {v1 : Int32} {fd : Nat → Int32} {ar : Nat → Nat → Int32} {lw : Nat → Int64} {hh : HT} {rn : Option (Nat × Nat)} {Q : Int32 → (Nat → Int32) → (Nat → Nat → Int32) → (Nat → Int64) → Prop} (h : wp_S_moats v1 fd ar lw hh rn Q) : cz_i l V D (tyL gI) yX1_moats cX1_moats 6 .int { frames := 214, cells := 1, slots := 7, locals := 5083 } [.ref o, .int v1] (wX gI o ax rn tl fd ar lw hh) (fun u : (Nat → Int32) × (Nat → Nat → Int32) × (Nat → Int64) => (wX gI o ax rn tl u.1 u.2.1 u.2.2 hh)) (fun (x : Int32) (u : (Nat → Int32) × (Nat → Nat → Int32) × (Nat → Int64)) => Q x u.1 u.2.1 u.2.2) := by
  refine cz_ofi RX1 rfl (by decide +kernel) (Nat.le_of_ble_eq_true rfl) ?_
  intro p e s m args below meth c A F hP hD ls hl
  obtain ⟨⟨hx, hb, hml, hown, hts⟩, hr, hlocks, hA, hK, hE⟩ := id F
  have hS : va_S A s.heap s.heap [] := va_S.rf
  have hl : lv_has ls 6 [(0, .ref o), (1, .int v1)] := hl
  have hRf : 214 ≤ ({ frames := 214, cells := 1, slots := 7, locals := 5083 } : Room).frames := Nat.le_refl _
  have hC1 : 1 ≤ ({ frames := 214, cells := 1, slots := 7, locals := 5083 } : Room).cells := Nat.le_refl _
  have hS7 : 7 ≤ ({ frames := 214, cells := 1, slots := 7, locals := 5083 } : Room).slots := Nat.le_refl _
  have hRl : 5083 ≤ ({ frames := 214, cells := 1, slots := 7, locals := 5083 } : Room).locals := Nat.le_refl _
  have hC : 0 ≤ ({ frames := 214, cells := 1, slots := 7, locals := 5083 } : Room).cells := Nat.zero_le _
  have hSl : 0 ≤ ({ frames := 214, cells := 1, slots := 7, locals := 5083 } : Room).slots := Nat.zero_le _
  unfold wp_S_moats at h
  refine lv_iload_n hx hb dX1_moats_0 rfl (lv_at hl 1 rfl) ?_
  refine lv_i2l (v := (v1.toInt64)) hx hb dX1_moats_1 rfl ?_
  refine lv_lconst (v := (0 : Int64)) hx hb dX1_moats_2 (by decide) ?_
  refine lv_ldc2 (v := (4 : Int64)) hx hb hown (hts _ q1059) dX1_moats_3 ?_
  refine cl_i0 F (va_runS (As := [.long (v1.toInt64), .long (0 : Int64), .long (4 : Int64)]) (rest := []) ⟨hx, hb, hml, hown, hts⟩ (ct_X1_in h _) (va_cwS 3 hts (lw_S q298 q299 q94 q300) rfl rfl rfl (by decide +kernel) ⟨Nat.le_trans (Nat.le_of_ble_eq_true rfl) hRf, Nat.le_trans (Nat.le_of_ble_eq_true rfl) hRl⟩) ⟨ct_blind, ct_at F hS ct_nP ct_nD⟩ rfl rfl hl.1 rfl (lv_room (Nat.le_of_ble_eq_true rfl)) dX1_moats_6 ⟨hC, hSl⟩) rfl rfl hP hS ?_
  rintro x1 _ H locs h hP hS
  refine lv_if_ne (tgt := 14) hx hb dX1_moats_9 (by decide) (fun c23 => ?_) (fun c23 => ?_)
  · replace h := h.1 c23
    refine lv_iload_n hx hb dX1_moats_14 rfl (lv_at hl 1 rfl) ?_
    refine lv_aload_n hx hb dX1_moats_15 rfl (lv_at hl 0 rfl) ?_
    refine va_get hx hb hts in_X1 hown hK hP 0 rfl rfl 9 (Nat.le_of_ble_eq_true rfl) (hts _ q195) (fun _ h => h) (v := .int (fd 9)) rfl dX1_moats_16 ?_
    refine lv_icmp_le (tgt := 25) hx hb dX1_moats_19 (by decide) (fun c22 => ?_) (fun c22 => ?_)
    · replace h := h.1 c22
      refine lv_iconst (v := (-1 : Int32)) hx hb dX1_moats_25 (by decide) ?_
      refine lv_istore_n (lv' := [(2, .int (-1 : Int32)), (0, .ref o), (1, .int v1)]) hx hb dX1_moats_26 rfl hl (by decide) rfl (fun ls hl => ?_)
      refine lv_iconst (v := (-1 : Int32)) hx hb dX1_moats_27 (by decide) ?_
      refine lv_istore_n (lv' := [(3, .int (-1 : Int32)), (2, .int (-1 : Int32)), (0, .ref o), (1, .int v1)]) hx hb dX1_moats_28 rfl hl (by decide) rfl (fun ls hl => ?_)
      refine lv_iconst (v := (0 : Int32)) hx hb dX1_moats_29 (by decide) ?_
      refine lv_istore (lv' := [(4, .int (0 : Int32)), (3, .int (-1 : Int32)), (2, .int (-1 : Int32)), (0, .ref o), (1, .int v1)]) hx hb dX1_moats_30 hl (by decide) rfl (fun ls hl => ?_)
      obtain ⟨k32, h⟩ := h
      refine lp_S_moats_L1 F hRf hRl hC hSl hC1 hS7 hlt ?hk102 k32 _ _ _ _ _ h _ _ _ hP hD hS (lv_sub hl [3, 4, 2, 1, 0] rfl)
      case hk102 =>
        intro v2_16 v3_17 fd_18 ar_19 h H locs ls hP hD hS hl
        refine lv_aload_n hx hb dX1_moats_102 rfl (lv_at hl 0 rfl) ?_
        refine lv_iconst (v := (0 : Int32)) hx hb dX1_moats_103 (by decide) ?_
        refine pt_put (v := .int (0 : Int32)) hx hb hts in_X1 tyX1 tyX1_ok nmX1 hown hK hP hD hS 0 rfl rfl 18 (Nat.le_of_ble_eq_true rfl) (hts _ q209) (fun _ h => h) rfl (ty := .int) (by decide +kernel) rfl rfl (Nat.le_of_ble_eq_true rfl) dX1_moats_104 wXF_18 (fun H locs hP hD hS => ?_)
        refine lv_aload_n hx hb dX1_moats_107 rfl (lv_at hl 0 rfl) ?_
        refine lv_iload_n hx hb dX1_moats_108 rfl (lv_at hl 1 rfl) ?_
        refine lv_i2l (v := (v2_16.toInt64)) hx hb dX1_moats_109 rfl ?_
        refine cl_v F (va_runV (As := [.long (v2_16.toInt64)]) (rest := []) ⟨hx, hb, hml, hown, hts⟩ (ct_S_tell h _) (cwV 1 hts (lw_V q728 q730 qs19 q94 q731) rfl rfl rfl (by decide +kernel) ⟨Nat.le_trans (Nat.le_of_ble_eq_true rfl) hRf, Nat.le_trans (Nat.le_of_ble_eq_true rfl) hRl⟩) ⟨ct_blind, va_recv hK hP (ci := 0) (q0 := 0) rfl rfl, ct_at F hS hP hD⟩ rfl rfl hl.1 rfl (lv_room (Nat.le_of_ble_eq_true rfl)) dX1_moats_110 ⟨hC, hSl⟩) rfl rfl hD hS ?_
        rintro ⟨fd20, lw21⟩ H locs h hP hD hS
        refine lv_iload_n hx hb dX1_moats_113 rfl (lv_at hl 2 rfl) ?_
        exact vx_ret (rt_i F dX1_moats_114 rfl (fd20, ar_19, lw21) h hP hD hS (Nat.le_refl _) (Nat.le_refl _))
    · replace h := h.2 c22
      refine lv_bipush (v := (-2 : Int32)) hx hb dX1_moats_22 (by decide) ?_
      exact vx_ret (rt_i F dX1_moats_24 rfl (fd, ar, lw) h hP hD hS (Nat.le_refl _) (Nat.le_refl _))
  · replace h := h.2 c23
    refine lv_iconst (v := (-1 : Int32)) hx hb dX1_moats_12 (by decide) ?_
    exact vx_ret (rt_i F dX1_moats_13 rfl (fd, ar, lw) h hP hD hS (Nat.le_refl _) (Nat.le_refl _))
