/-! X1_spells -/
set_option maxRecDepth 100000
set_option maxHeartbeats 4000000 in
theorem lp_S_spells_L1 {p : Program} {l : Launch} {e : Env} {R : Room} {s : State} {m : MethodId} {args : Array Value} {below : List Frame} {meth : Method} {c : Code} {A : Nat → Prop} {Qf : State → Prop} {V : evT} {D : va_G} {gI : Nat → ClassId} {o : Nat} {ax : Nat → Nat} {tl : va_W} {lw : Nat → Int64} {hh : HT} {rn : Option (Nat × Nat)} {K62 : (Nat → Int32) → (Nat → Nat → Int32) → Prop} {K45 : (Int32) → (Nat → Int32) → (Nat → Nat → Int32) → Prop} (F : ct_F p m c meth cX1_spells 2 s args RX1 (some .int) A V D vwCl (tyL gI)) (hRf : 212 ≤ R.frames) (hRl : 5037 ≤ R.locals) (hC : 0 ≤ R.cells) (hSl : 0 ≤ R.slots) (hC1 : 1 ≤ R.cells) (hS7 : 7 ≤ R.slots) (hlt : l.stackTraces = false)
    (hK62 : ∀ (fd : Nat → Int32) (ar : Nat → Nat → Int32), K62 fd ar → ∀ (H : Heap) (locs : List Loc) (ls : Array Slot), va_P D vwCl (wX gI o ax rn tl fd ar lw hh) H → va_D A (wX gI o ax rn tl fd ar lw hh) → va_S A s.heap H locs → lv_has ls 2 [] → W p l e R s m args below meth c H locs 0 0 Qf (F0 m 62 ls []))
    (hK45 : ∀ (v1 : Int32) (fd : Nat → Int32) (ar : Nat → Nat → Int32), K45 v1 fd ar → ∀ (H : Heap) (locs : List Loc) (ls : Array Slot), va_P D vwCl (wX gI o ax rn tl fd ar lw hh) H → va_D A (wX gI o ax rn tl fd ar lw hh) → va_S A s.heap H locs → lv_has ls 2 [(1, .int v1)] → W p l e R s m args below meth c H locs 0 0 Qf (F0 m 45 ls [])) :
    ∀ (n : Nat) (v1 : Int32) (fd : Nat → Int32) (ar : Nat → Nat → Int32), wp_S_spells_L1 lw hh rn K62 K45 n v1 fd ar → ∀ (H : Heap) (locs : List Loc) (ls : Array Slot), va_P D vwCl (wX gI o ax rn tl fd ar lw hh) H → va_D A (wX gI o ax rn tl fd ar lw hh) → va_S A s.heap H locs → lv_has ls 2 [(0, .ref o), (1, .int v1)] → W p l e R s m args below meth c H locs 0 0 Qf (F0 m 13 ls []) := by
  obtain ⟨⟨hx, hb, hml, hown, hts⟩, hr, hlocks, hA, hK, hE⟩ := id F
  intro n
  induction n with
  | zero => intro v1 fd ar h; exact h.elim
  | succ n ih =>
    intro v1 fd ar h H locs ls hP hD hS hl
    unfold wp_S_spells_L1 at h
    refine lv_iload_n hx hb dX1_spells_13 rfl (lv_at hl 1 rfl) ?_
    refine lv_bipush (v := (30 : Int32)) hx hb dX1_spells_14 (by decide) ?_
    refine lv_icmp_gt (tgt := 62) hx hb dX1_spells_16 (by decide) (fun c14 => ?_) (fun c14 => ?_)
    · replace h := h.1 c14
      exact hK62 _ _ h _ _ _ hP hD hS (lv_sub hl [] rfl)
    · replace h := h.2 c14
      refine lv_aload_n hx hb dX1_spells_19 rfl (lv_at hl 0 rfl) ?_
      refine lv_aload_n hx hb dX1_spells_20 rfl (lv_at hl 0 rfl) ?_
      refine va_get hx hb hts in_X1 hown hK hP 0 rfl rfl 2 (Nat.le_of_ble_eq_true rfl) (hts _ q186) (fun _ h => h) (v := .ref (ax 2)) rfl dX1_spells_21 ?_
      refine lv_aload_n hx hb dX1_spells_24 rfl (lv_at hl 0 rfl) ?_
      refine lv_aload_n hx hb dX1_spells_25 rfl (lv_at hl 0 rfl) ?_
      refine va_get hx hb hts in_X1 hown hK hP 0 rfl rfl 2 (Nat.le_of_ble_eq_true rfl) (hts _ q186) (fun _ h => h) (v := .ref (ax 2)) rfl dX1_spells_26 ?_
      refine lv_aload_n hx hb dX1_spells_29 rfl (lv_at hl 0 rfl) ?_
      refine va_get hx hb hts in_X1 hown hK hP 0 rfl rfl 2 (Nat.le_of_ble_eq_true rfl) (hts _ q186) (fun _ h => h) (v := .ref (ax 2)) rfl dX1_spells_30 ?_
      refine va_get hx hb hts in_X2 hown hK hP 24 rfl rfl 6 (Nat.le_of_ble_eq_true rfl) (hts _ q151) (fun _ h => h) (v := .int (fd 68)) rfl dX1_spells_33 ?_
      refine clz_i F (vx_runV (As := [.ref (ax 2), .int (fd 68)]) (rest := [.ref (ax 2), .ref o]) ⟨hx, hb, hml, hown, hts⟩ (cz_S_levelOf_i2 hlt h _) (cwV 2 hts (lw_V q736 q738 qs20 q94 q739) rfl rfl rfl (by decide +kernel) ⟨Nat.le_trans (Nat.le_of_ble_eq_true rfl) hRf, Nat.le_trans (Nat.le_of_ble_eq_true rfl) hRl⟩) ⟨ct_blind, va_recv hK hP (ci := 0) (q0 := 0) rfl rfl, ct_at F hS hP hD⟩ rfl rfl hl.1 rfl (lv_room (Nat.le_of_ble_eq_true rfl)) dX1_spells_36 ⟨hC1, hS7⟩) hD hS ?_
      rintro x8 fd9 H locs h hP hD hS
      refine cl_i F (va_runV (As := [.ref (ax 2), .int x8]) (rest := []) ⟨hx, hb, hml, hown, hts⟩ (ct_S_below_i2 h _) (cwV 2 hts (lw_V q752 q754 qs22 q94 q755) rfl rfl rfl (by decide +kernel) ⟨Nat.le_trans (Nat.le_of_ble_eq_true rfl) hRf, Nat.le_trans (Nat.le_of_ble_eq_true rfl) hRl⟩) ⟨ct_blind, va_recv hK hP (ci := 0) (q0 := 0) rfl rfl, ct_at F hS hP hD⟩ rfl rfl hl.1 rfl (lv_room (Nat.le_of_ble_eq_true rfl)) dX1_spells_39 ⟨hC, hSl⟩) rfl rfl hD hS ?_
      rintro x10 _ H locs h hP hD hS
      refine lv_if_ne (tgt := 47) hx hb dX1_spells_42 (by decide) (fun c13 => ?_) (fun c13 => ?_)
      · replace h := h.1 c13
        refine lv_aload_n hx hb dX1_spells_47 rfl (lv_at hl 0 rfl) ?_
        refine lv_aload_n hx hb dX1_spells_48 rfl (lv_at hl 0 rfl) ?_
        refine va_get hx hb hts in_X1 hown hK hP 0 rfl rfl 2 (Nat.le_of_ble_eq_true rfl) (hts _ q186) (fun _ h => h) (v := .ref (ax 2)) rfl dX1_spells_49 ?_
        refine cl_i F (va_runV (As := [.ref (ax 2)]) (rest := []) ⟨hx, hb, hml, hown, hts⟩ (ct_S_goSpell_i2 h _) (cwV 1 hts (lw_V q708 q710 qs15 q94 q711) rfl rfl rfl (by decide +kernel) ⟨Nat.le_trans (Nat.le_of_ble_eq_true rfl) hRf, Nat.le_trans (Nat.le_of_ble_eq_true rfl) hRl⟩) ⟨ct_blind, va_recv hK hP (ci := 0) (q0 := 0) rfl rfl, ct_at F hS hP hD⟩ rfl rfl hl.1 rfl (lv_room (Nat.le_of_ble_eq_true rfl)) dX1_spells_52 ⟨hC, hSl⟩) rfl rfl hD hS ?_
        rintro x11 ar12 H locs h hP hD hS
        refine lv_pop hx hb dX1_spells_55 rfl ?_
        refine lv_iinc (v := (v1 + (1 : Int32))) (lv' := [(1, .int (v1 + (1 : Int32))), (0, .ref o)]) hx hb dX1_spells_56 hl (k := 1) rfl rfl (by decide) rfl (fun ls hl => ?_)
        refine lv_goto (tgt := 13) hx hb dX1_spells_59 (by decide) ?_
        exact ih _ _ _ h _ _ _ hP hD hS (lv_sub hl [1, 0] rfl)
      · replace h := h.2 c13
        exact hK45 _ _ _ h _ _ _ hP hD hS (lv_sub hl [1] rfl)
set_option maxHeartbeats 4000000 in
theorem cz_S_spells {l : Launch} {V : evT} {D : va_G} {gI : Nat → ClassId} {o : Nat} {ax : Nat → Nat} {tl : va_W} (hlt : l.stackTraces = false) {fd : Nat → Int32} {ar : Nat → Nat → Int32} {lw : Nat → Int64} {hh : HT} {rn : Option (Nat × Nat)} {Q : Int32 → (Nat → Int32) → (Nat → Nat → Int32) → Prop} (h : wp_S_spells fd ar lw hh rn Q) : cz_i l V D (tyL gI) yX1_spells cX1_spells 2 .int { frames := 212, cells := 1, slots := 7, locals := 5037 } [.ref o] (wX gI o ax rn tl fd ar lw hh) (fun u : (Nat → Int32) × (Nat → Nat → Int32) => (wX gI o ax rn tl u.1 u.2 lw hh)) (fun (x : Int32) (u : (Nat → Int32) × (Nat → Nat → Int32)) => Q x u.1 u.2) := by
  refine cz_ofi RX1 rfl (by decide +kernel) (Nat.le_of_ble_eq_true rfl) ?_
  intro p e s m args below meth c A F hP hD ls hl
  obtain ⟨⟨hx, hb, hml, hown, hts⟩, hr, hlocks, hA, hK, hE⟩ := id F
  have hS : va_S A s.heap s.heap [] := va_S.rf
  have hl : lv_has ls 2 [(0, .ref o)] := hl
  have hRf : 212 ≤ ({ frames := 212, cells := 1, slots := 7, locals := 5037 } : Room).frames := Nat.le_refl _
  have hC1 : 1 ≤ ({ frames := 212, cells := 1, slots := 7, locals := 5037 } : Room).cells := Nat.le_refl _
  have hS7 : 7 ≤ ({ frames := 212, cells := 1, slots := 7, locals := 5037 } : Room).slots := Nat.le_refl _
  have hRl : 5037 ≤ ({ frames := 212, cells := 1, slots := 7, locals := 5037 } : Room).locals := Nat.le_refl _
  have hC : 0 ≤ ({ frames := 212, cells := 1, slots := 7, locals := 5037 } : Room).cells := Nat.zero_le _
  have hSl : 0 ≤ ({ frames := 212, cells := 1, slots := 7, locals := 5037 } : Room).slots := Nat.zero_le _
  unfold wp_S_spells at h
  refine lv_aload_n hx hb dX1_spells_0 rfl (lv_at hl 0 rfl) ?_
  refine va_get hx hb hts in_X1 hown hK hP 0 rfl rfl 2 (Nat.le_of_ble_eq_true rfl) (hts _ q186) (fun _ h => h) (v := .ref (ax 2)) rfl dX1_spells_1 ?_
  refine lv_aload_n hx hb dX1_spells_4 rfl (lv_at hl 0 rfl) ?_
  refine va_get hx hb hts in_X1 hown hK hP 0 rfl rfl 0 (Nat.le_of_ble_eq_true rfl) (hts _ q180) (fun _ h => h) (v := .ref (ax 0)) rfl dX1_spells_5 ?_
  refine cl_vL F (va_runV (As := [.ref (ax 0)]) (rest := []) ⟨hx, hb, hml, hown, hts⟩ (ct_B_be (o := (ax 2)) (ab := axb ax 2) (o2 := (ax 0)) (ab2 := axb ax 0) h _) (cwV 1 hts (lw_V q659 q660 q661 q95 q662) rfl rfl rfl (by decide +kernel) ⟨Nat.le_trans (Nat.le_of_ble_eq_true rfl) hRf, Nat.le_trans (Nat.le_of_ble_eq_true rfl) hRl⟩) ⟨ct_blind, va_recv hK hP (ci := 1) (q0 := 24) rfl rfl, ct_at F hS (putL_P hP (ps := [24, 25, 26, 27, 28, 14, 15, 16, 17, 18]) rfl) (hD.sub ([24, 25, 26, 27, 28, 14, 15, 16, 17, 18]) (by decide) rfl)⟩ rfl rfl hl.1 rfl (lv_room (Nat.le_of_ble_eq_true rfl)) dX1_spells_8 ⟨hC, hSl⟩) rfl rfl hP hD hS (ps := [24, 25, 26, 27, 28, 14, 15, 16, 17, 18]) rfl (fun _ => rfl) (fun _ => wXPP_2_0) ?_
  rintro ⟨wl1, dp2, aa3, md4, mo5, sp6, ti7⟩ H locs h hP hD hS
  refine lv_iconst (v := (0 : Int32)) hx hb dX1_spells_11 (by decide) ?_
  refine lv_istore_n (lv' := [(1, .int (0 : Int32)), (0, .ref o)]) hx hb dX1_spells_12 rfl hl (by decide) rfl (fun ls hl => ?_)
  obtain ⟨k13, h⟩ := h
  refine lp_S_spells_L1 F hRf hRl hC hSl hC1 hS7 hlt ?hk62 ?hk45 k13 _ _ _ h _ _ _ hP hD hS (lv_sub hl [1, 0] rfl)
  case hk62 =>
    intro fd_15 ar_16 h H locs ls hP hD hS hl
    refine lv_bipush (v := (-2 : Int32)) hx hb dX1_spells_62 (by decide) ?_
    exact vx_ret (rt_i F dX1_spells_64 rfl (fd_15, ar_16) h hP hD hS (Nat.le_refl _) (Nat.le_refl _))
  case hk45 =>
    intro v1_17 fd_18 ar_19 h H locs ls hP hD hS hl
    refine lv_iload_n hx hb dX1_spells_45 rfl (lv_at hl 0 rfl) ?_
    exact vx_ret (rt_i F dX1_spells_46 rfl (fd_18, ar_19) h hP hD hS (Nat.le_refl _) (Nat.le_refl _))
