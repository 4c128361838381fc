/-! X1_holdsOn -/
set_option maxRecDepth 100000
set_option maxHeartbeats 4000000 in
theorem lp_S_holdsOn_L1 {p : Program} {l : Launch} {e : Env} {R : Room} {s : State} {m : MethodId} {args : Array Value} {below : List Frame} {meth : Method} {c : Code} {A : Nat → Prop} {Qf : State → Prop} {V : evT} {D : va_G} {gI : Nat → ClassId} {o : Nat} {ax : Nat → Nat} {tl : va_W} {lw : Nat → Int64} {hh : HT} {rn : Option (Nat × Nat)} {K54 : (Nat → Int32) → (Nat → Nat → Int32) → Prop} {K46 : (Int32) → (Nat → Int32) → (Nat → Nat → Int32) → Prop} (F : ct_F p m c meth cX1_holdsOn 2 s args RX1 (some .int) A V D vwCl (tyL gI)) (hRf : 213 ≤ R.frames) (hRl : 5062 ≤ R.locals) (hC : 0 ≤ R.cells) (hSl : 0 ≤ R.slots) (hC1 : 1 ≤ R.cells) (hS7 : 7 ≤ R.slots) (hlt : l.stackTraces = false)
    (hK54 : ∀ (fd : Nat → Int32) (ar : Nat → Nat → Int32), K54 fd ar → ∀ (H : Heap) (locs : List Loc) (ls : Array Slot), va_P D vwCl (wX gI o ax rn tl fd ar lw hh) H → va_D A (wX gI o ax rn tl fd ar lw hh) → va_S A s.heap H locs → lv_has ls 2 [] → W p l e R s m args below meth c H locs 0 0 Qf (F0 m 54 ls []))
    (hK46 : ∀ (v1 : Int32) (fd : Nat → Int32) (ar : Nat → Nat → Int32), K46 v1 fd ar → ∀ (H : Heap) (locs : List Loc) (ls : Array Slot), va_P D vwCl (wX gI o ax rn tl fd ar lw hh) H → va_D A (wX gI o ax rn tl fd ar lw hh) → va_S A s.heap H locs → lv_has ls 2 [(1, .int v1)] → W p l e R s m args below meth c H locs 0 0 Qf (F0 m 46 ls [])) :
    ∀ (n : Nat) (v1 : Int32) (fd : Nat → Int32) (ar : Nat → Nat → Int32), wp_S_holdsOn_L1 lw hh rn K54 K46 n v1 fd ar → ∀ (H : Heap) (locs : List Loc) (ls : Array Slot), va_P D vwCl (wX gI o ax rn tl fd ar lw hh) H → va_D A (wX gI o ax rn tl fd ar lw hh) → va_S A s.heap H locs → lv_has ls 2 [(0, .ref o), (1, .int v1)] → W p l e R s m args below meth c H locs 0 0 Qf (F0 m 2 ls []) := by
  obtain ⟨⟨hx, hb, hml, hown, hts⟩, hr, hlocks, hA, hK, hE⟩ := id F
  intro n
  induction n with
  | zero => intro v1 fd ar h; exact h.elim
  | succ n ih =>
    intro v1 fd ar h H locs ls hP hD hS hl
    unfold wp_S_holdsOn_L1 at h
    refine lv_iload_n hx hb dX1_holdsOn_2 rfl (lv_at hl 1 rfl) ?_
    refine lv_bipush (v := (99 : Int32)) hx hb dX1_holdsOn_3 (by decide) ?_
    refine lv_icmp_gt (tgt := 54) hx hb dX1_holdsOn_5 (by decide) (fun c7 => ?_) (fun c7 => ?_)
    · replace h := h.1 c7
      exact hK54 _ _ h _ _ _ hP hD hS (lv_sub hl [] rfl)
    · replace h := h.2 c7
      refine lv_aload_n hx hb dX1_holdsOn_8 rfl (lv_at hl 0 rfl) ?_
      refine lv_aload_n hx hb dX1_holdsOn_9 rfl (lv_at hl 0 rfl) ?_
      refine lv_aload_n hx hb dX1_holdsOn_10 rfl (lv_at hl 0 rfl) ?_
      refine va_get hx hb hts in_X1 hown hK hP 0 rfl rfl 2 (Nat.le_of_ble_eq_true rfl) (hts _ q186) (fun _ h => h) (v := .ref (ax 2)) rfl dX1_holdsOn_11 ?_
      refine lv_aload_n hx hb dX1_holdsOn_14 rfl (lv_at hl 0 rfl) ?_
      refine va_get hx hb hts in_X1 hown hK hP 0 rfl rfl 2 (Nat.le_of_ble_eq_true rfl) (hts _ q186) (fun _ h => h) (v := .ref (ax 2)) rfl dX1_holdsOn_15 ?_
      refine va_get hx hb hts in_X2 hown hK hP 24 rfl rfl 6 (Nat.le_of_ble_eq_true rfl) (hts _ q151) (fun _ h => h) (v := .int (fd 68)) rfl dX1_holdsOn_18 ?_
      refine clz_i F (vx_runV (As := [.ref (ax 2), .int (fd 68)]) (rest := [.ref o]) ⟨hx, hb, hml, hown, hts⟩ (cz_S_levelOf_i2 hlt h _) (cwV 2 hts (lw_V q736 q738 qs20 q94 q739) rfl rfl rfl (by decide +kernel) ⟨Nat.le_trans (Nat.le_of_ble_eq_true rfl) hRf, Nat.le_trans (Nat.le_of_ble_eq_true rfl) hRl⟩) ⟨ct_blind, va_recv hK hP (ci := 0) (q0 := 0) rfl rfl, ct_at F hS hP hD⟩ rfl rfl hl.1 rfl (lv_room (Nat.le_of_ble_eq_true rfl)) dX1_holdsOn_21 ⟨hC1, hS7⟩) hD hS ?_
      rintro x1 fd2 H locs h hP hD hS
      refine pt_put (v := .int x1) hx hb hts in_X1 tyX1 tyX1_ok nmX1 hown hK hP hD hS 0 rfl rfl 21 (Nat.le_of_ble_eq_true rfl) (hts _ q212) (fun _ h => h) rfl (ty := .int) (by decide +kernel) rfl rfl (Nat.le_of_ble_eq_true rfl) dX1_holdsOn_24 wXF_21 (fun H locs hP hD hS => ?_)
      refine lv_aload_n hx hb dX1_holdsOn_27 rfl (lv_at hl 0 rfl) ?_
      refine lv_aload_n hx hb dX1_holdsOn_28 rfl (lv_at hl 0 rfl) ?_
      refine lv_aload_n hx hb dX1_holdsOn_29 rfl (lv_at hl 0 rfl) ?_
      refine va_get hx hb hts in_X1 hown hK hP 0 rfl rfl 2 (Nat.le_of_ble_eq_true rfl) (hts _ q186) (fun _ h => h) (v := .ref (ax 2)) rfl dX1_holdsOn_30 ?_
      refine clz_i F (vx_runV (As := [.ref (ax 2)]) (rest := [.ref o]) ⟨hx, hb, hml, hown, hts⟩ (cz_S_goTide_i2 hlt h _) (cwV 1 hts (lw_V q748 q750 qs21 q94 q751) rfl rfl rfl (by decide +kernel) ⟨Nat.le_trans (Nat.le_of_ble_eq_true rfl) hRf, Nat.le_trans (Nat.le_of_ble_eq_true rfl) hRl⟩) ⟨ct_blind, va_recv hK hP (ci := 0) (q0 := 0) rfl rfl, ct_at F hS hP hD⟩ rfl rfl hl.1 rfl (lv_room (Nat.le_of_ble_eq_true rfl)) dX1_holdsOn_33 ⟨hC1, hS7⟩) hD hS ?_
      rintro x3 ⟨fd4, ar5⟩ H locs h hP hD hS
      refine pt_put (v := .int x3) hx hb hts in_X1 tyX1 tyX1_ok nmX1 hown hK hP hD hS 0 rfl rfl 22 (Nat.le_of_ble_eq_true rfl) (hts _ q213) (fun _ h => h) rfl (ty := .int) (by decide +kernel) rfl rfl (Nat.le_of_ble_eq_true rfl) dX1_holdsOn_36 wXF_22 (fun H locs hP hD hS => ?_)
      refine lv_aload_n hx hb dX1_holdsOn_39 rfl (lv_at hl 0 rfl) ?_
      refine va_get hx hb hts in_X1 hown hK hP 0 rfl rfl 22 (Nat.le_of_ble_eq_true rfl) (hts _ q213) (fun _ h => h) (v := .int x3) rfl dX1_holdsOn_40 ?_
      refine lv_if_eq (tgt := 48) hx hb dX1_holdsOn_43 (by decide) (fun c6 => ?_) (fun c6 => ?_)
      · replace h := h.1 c6
        refine lv_iinc (v := (v1 + (1 : Int32))) (lv' := [(1, .int (v1 + (1 : Int32))), (0, .ref o)]) hx hb dX1_holdsOn_48 hl (k := 1) rfl rfl (by decide) rfl (fun ls hl => ?_)
        refine lv_goto (tgt := 2) hx hb dX1_holdsOn_51 (by decide) ?_
        exact ih _ _ _ h _ _ _ hP hD hS (lv_sub hl [1, 0] rfl)
      · replace h := h.2 c6
        exact hK46 _ _ _ h _ _ _ hP hD hS (lv_sub hl [1] rfl)
set_option maxHeartbeats 4000000 in
theorem cz_S_holdsOn {l : Launch} {V : evT} {D : va_G} {gI : Nat → ClassId} {o : Nat} {ax : Nat → Nat} {tl : va_W} (hlt : l.stackTraces = false) {fd : Nat → Int32} {ar : Nat → Nat → Int32} {lw : Nat → Int64} {hh : HT} {rn : Option (Nat × Nat)} {Q : Int32 → (Nat → Int32) → (Nat → Nat → Int32) → Prop} (h : wp_S_holdsOn fd ar lw hh rn Q) : cz_i l V D (tyL gI) yX1_holdsOn cX1_holdsOn 2 .int { frames := 213, cells := 1, slots := 7, locals := 5062 } [.ref o] (wX gI o ax rn tl fd ar lw hh) (fun u : (Nat → Int32) × (Nat → Nat → Int32) => (wX gI o ax rn tl u.1 u.2 lw hh)) (fun (x : Int32) (u : (Nat → Int32) × (Nat → Nat → Int32)) => Q x u.1 u.2) := by
  refine cz_ofi RX1 rfl (by decide +kernel) (Nat.le_of_ble_eq_true rfl) ?_
  intro p e s m args below meth c A F hP hD ls hl
  obtain ⟨⟨hx, hb, hml, hown, hts⟩, hr, hlocks, hA, hK, hE⟩ := id F
  have hS : va_S A s.heap s.heap [] := va_S.rf
  have hl : lv_has ls 2 [(0, .ref o)] := hl
  have hRf : 213 ≤ ({ frames := 213, cells := 1, slots := 7, locals := 5062 } : Room).frames := Nat.le_refl _
  have hC1 : 1 ≤ ({ frames := 213, cells := 1, slots := 7, locals := 5062 } : Room).cells := Nat.le_refl _
  have hS7 : 7 ≤ ({ frames := 213, cells := 1, slots := 7, locals := 5062 } : Room).slots := Nat.le_refl _
  have hRl : 5062 ≤ ({ frames := 213, cells := 1, slots := 7, locals := 5062 } : Room).locals := Nat.le_refl _
  have hC : 0 ≤ ({ frames := 213, cells := 1, slots := 7, locals := 5062 } : Room).cells := Nat.zero_le _
  have hSl : 0 ≤ ({ frames := 213, cells := 1, slots := 7, locals := 5062 } : Room).slots := Nat.zero_le _
  unfold wp_S_holdsOn at h
  refine lv_iconst (v := (1 : Int32)) hx hb dX1_holdsOn_0 (by decide) ?_
  refine lv_istore_n (lv' := [(1, .int (1 : Int32)), (0, .ref o)]) hx hb dX1_holdsOn_1 rfl hl (by decide) rfl (fun ls hl => ?_)
  obtain ⟨k2, h⟩ := h
  refine lp_S_holdsOn_L1 F hRf hRl hC hSl hC1 hS7 hlt ?hk54 ?hk46 k2 _ _ _ h _ _ _ hP hD hS (lv_sub hl [1, 0] rfl)
  case hk54 =>
    intro fd_8 ar_9 h H locs ls hP hD hS hl
    refine lv_bipush (v := (100 : Int32)) hx hb dX1_holdsOn_54 (by decide) ?_
    exact vx_ret (rt_i F dX1_holdsOn_56 rfl (fd_8, ar_9) h hP hD hS (Nat.le_refl _) (Nat.le_refl _))
  case hk46 =>
    intro v1_10 fd_11 ar_12 h H locs ls hP hD hS hl
    refine lv_iload_n hx hb dX1_holdsOn_46 rfl (lv_at hl 0 rfl) ?_
    exact vx_ret (rt_i F dX1_holdsOn_47 rfl (fd_11, ar_12) h hP hD hS (Nat.le_refl _) (Nat.le_refl _))
