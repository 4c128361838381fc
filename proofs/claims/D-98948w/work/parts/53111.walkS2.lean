/-! X1_summers -/
set_option maxRecDepth 100000
set_option maxHeartbeats 4000000 in
theorem lp_S_summers_J3 {p : Program} {l : Launch} {e : Env} {R : Room} {s : State} {m : MethodId} {args : Array Value} {below : List Frame} {meth : Method} {c : Code} {A : Nat → Prop} {Qf : State → Prop} {V : evT} {D : va_G} {gI : Nat → ClassId} {o : Nat} {ax : Nat → Nat} {tl : va_W} {v2 : Int32} {v5 : Int32} {lw : Nat → Int64} {hh : HT} {rn : Option (Nat × Nat)} {K35 : (Int32) → (Int32) → (Nat → Int32) → (Nat → Nat → Int32) → Prop} (F : ct_F p m c meth cX1_summers 8 s args RX1 (some .int) A V D vwCl (tyL gI)) (hRf : 213 ≤ R.frames) (hRl : 5062 ≤ R.locals) (hC : 0 ≤ R.cells) (hSl : 0 ≤ R.slots) (hC1 : 1 ≤ R.cells) (hS7 : 7 ≤ R.slots) (hlt : l.stackTraces = false)
    (hK35 : ∀ (v3 : Int32) (v4 : Int32) (fd : Nat → Int32) (ar : Nat → Nat → Int32), K35 v3 v4 fd ar → ∀ (H : Heap) (locs : List Loc) (ls : Array Slot), va_P D vwCl (wX gI o ax rn tl fd ar lw hh) H → va_D A (wX gI o ax rn tl fd ar lw hh) → va_S A s.heap H locs → lv_has ls 8 [(0, .ref o), (2, .int v2), (3, .int v3), (4, .int v4)] → W p l e R s m args below meth c H locs 0 0 Qf (F0 m 35 ls [])) :
    ∀ (v3 : Int32) (v4 : Int32) (fd : Nat → Int32) (ar : Nat → Nat → Int32), wp_S_summers_J3 v2 v5 lw hh rn K35 v3 v4 fd ar → ∀ (H : Heap) (locs : List Loc) (ls : Array Slot), va_P D vwCl (wX gI o ax rn tl fd ar lw hh) H → va_D A (wX gI o ax rn tl fd ar lw hh) → va_S A s.heap H locs → lv_has ls 8 [(0, .ref o), (2, .int v2), (3, .int v3), (4, .int v4), (5, .int v5)] → W p l e R s m args below meth c H locs 0 0 Qf (F0 m 121 ls []) := by
  obtain ⟨⟨hx, hb, hml, hown, hts⟩, hr, hlocks, hA, hK, hE⟩ := id F
  intro v3 v4 fd ar h H locs ls hP hD hS hl
  unfold wp_S_summers_J3 at h
  refine lv_iload hx hb dX1_summers_121 (lv_at hl 4 rfl) ?_
  refine lv_iconst (v := (3 : Int32)) hx hb dX1_summers_123 (by decide) ?_
  refine lv_icmp_ne (tgt := 146) hx hb dX1_summers_124 (by decide) (fun c15 => ?_) (fun c15 => ?_)
  · replace h := h.1 c15
    refine lv_iinc (v := (v4 + (1 : Int32))) (lv' := [(4, .int (v4 + (1 : Int32))), (0, .ref o), (2, .int v2), (3, .int v3), (5, .int v5)]) hx hb dX1_summers_146 hl (k := 3) rfl rfl (by decide) rfl (fun ls hl => ?_)
    refine lv_goto (tgt := 35) hx hb dX1_summers_149 (by decide) ?_
    exact hK35 _ _ _ _ h _ _ _ hP hD hS (lv_sub hl [1, 2, 3, 0] rfl)
  · replace h := h.2 c15
    refine lv_iload_n hx hb dX1_summers_127 rfl (lv_at hl 2 rfl) ?_
    refine lv_aload_n hx hb dX1_summers_128 rfl (lv_at hl 0 rfl) ?_
    refine lv_aload_n hx hb dX1_summers_129 rfl (lv_at hl 0 rfl) ?_
    refine va_get hx hb hts in_X1 hown hK hP 0 rfl rfl 2 (Nat.le_of_ble_eq_true rfl) (hts _ q186) (fun _ h => h) (v := .ref (ax 2)) rfl dX1_summers_130 ?_
    refine clz_i F (vx_runV (As := [.ref (ax 2)]) (rest := [.int v3]) ⟨hx, hb, hml, hown, hts⟩ (cz_S_goTide_i2 hlt h _) (cwV 1 hts (lw_V q748 q750 qs21 q94 q751) rfl rfl rfl (by decide +kernel) ⟨Nat.le_trans (Nat.le_of_ble_eq_true rfl) hRf, Nat.le_trans (Nat.le_of_ble_eq_true rfl) hRl⟩) ⟨ct_blind, va_recv hK hP (ci := 0) (q0 := 0) rfl rfl, ct_at F hS hP hD⟩ rfl rfl hl.1 rfl (lv_room (Nat.le_of_ble_eq_true rfl)) dX1_summers_133 ⟨hC1, hS7⟩) hD hS ?_
    rintro x11 ⟨fd12, ar13⟩ H locs h hP hD hS
    refine lv_if_eq (tgt := 143) hx hb dX1_summers_136 (by decide) (fun c14 => ?_) (fun c14 => ?_)
    · replace h := h.1 c14
      refine lv_iconst (v := (0 : Int32)) hx hb dX1_summers_143 (by decide) ?_
      refine lv_iadd hx hb dX1_summers_144 ?_
      refine lv_istore_n (lv' := [(3, .int (v3 + (0 : Int32))), (0, .ref o), (2, .int v2), (4, .int v4), (5, .int v5)]) hx hb dX1_summers_145 rfl hl (by decide) rfl (fun ls hl => ?_)
      refine lv_iinc (v := (v4 + (1 : Int32))) (lv' := [(4, .int (v4 + (1 : Int32))), (3, .int (v3 + (0 : Int32))), (0, .ref o), (2, .int v2), (5, .int v5)]) hx hb dX1_summers_146 hl (k := 3) rfl rfl (by decide) rfl (fun ls hl => ?_)
      refine lv_goto (tgt := 35) hx hb dX1_summers_149 (by decide) ?_
      exact hK35 _ _ _ _ h _ _ _ hP hD hS (lv_sub hl [2, 3, 1, 0] rfl)
    · replace h := h.2 c14
      refine lv_iconst (v := (1 : Int32)) hx hb dX1_summers_139 (by decide) ?_
      refine lv_goto (tgt := 144) hx hb dX1_summers_140 (by decide) ?_
      refine lv_iadd hx hb dX1_summers_144 ?_
      refine lv_istore_n (lv' := [(3, .int (v3 + (1 : Int32))), (0, .ref o), (2, .int v2), (4, .int v4), (5, .int v5)]) hx hb dX1_summers_145 rfl hl (by decide) rfl (fun ls hl => ?_)
      refine lv_iinc (v := (v4 + (1 : Int32))) (lv' := [(4, .int (v4 + (1 : Int32))), (3, .int (v3 + (1 : Int32))), (0, .ref o), (2, .int v2), (5, .int v5)]) hx hb dX1_summers_146 hl (k := 3) rfl rfl (by decide) rfl (fun ls hl => ?_)
      refine lv_goto (tgt := 35) hx hb dX1_summers_149 (by decide) ?_
      exact hK35 _ _ _ _ h _ _ _ hP hD hS (lv_sub hl [2, 3, 1, 0] rfl)
set_option maxHeartbeats 4000000 in
theorem lp_S_summers_J2 {p : Program} {l : Launch} {e : Env} {R : Room} {s : State} {m : MethodId} {args : Array Value} {below : List Frame} {meth : Method} {c : Code} {A : Nat → Prop} {Qf : State → Prop} {V : evT} {D : va_G} {gI : Nat → ClassId} {o : Nat} {ax : Nat → Nat} {tl : va_W} {v2 : Int32} {v5 : Int32} {lw : Nat → Int64} {hh : HT} {rn : Option (Nat × Nat)} {K35 : (Int32) → (Int32) → (Nat → Int32) → (Nat → Nat → Int32) → Prop} (F : ct_F p m c meth cX1_summers 8 s args RX1 (some .int) A V D vwCl (tyL gI)) (hRf : 213 ≤ R.frames) (hRl : 5062 ≤ R.locals) (hC : 0 ≤ R.cells) (hSl : 0 ≤ R.slots) (hC1 : 1 ≤ R.cells) (hS7 : 7 ≤ R.slots) (hlt : l.stackTraces = false)
    (hK35 : ∀ (v3 : Int32) (v4 : Int32) (fd : Nat → Int32) (ar : Nat → Nat → Int32), K35 v3 v4 fd ar → ∀ (H : Heap) (locs : List Loc) (ls : Array Slot), va_P D vwCl (wX gI o ax rn tl fd ar lw hh) H → va_D A (wX gI o ax rn tl fd ar lw hh) → va_S A s.heap H locs → lv_has ls 8 [(0, .ref o), (2, .int v2), (3, .int v3), (4, .int v4)] → W p l e R s m args below meth c H locs 0 0 Qf (F0 m 35 ls [])) :
    ∀ (v3 : Int32) (v4 : Int32) (fd : Nat → Int32) (ar : Nat → Nat → Int32), wp_S_summers_J2 v2 v5 lw hh rn K35 v3 v4 fd ar → ∀ (H : Heap) (locs : List Loc) (ls : Array Slot), va_P D vwCl (wX gI o ax rn tl fd ar lw hh) H → va_D A (wX gI o ax rn tl fd ar lw hh) → va_S A s.heap H locs → lv_has ls 8 [(0, .ref o), (2, .int v2), (3, .int v3), (4, .int v4), (5, .int v5)] → W p l e R s m args below meth c H locs 0 0 Qf (F0 m 63 ls []) := by
  obtain ⟨⟨hx, hb, hml, hown, hts⟩, hr, hlocks, hA, hK, hE⟩ := id F
  intro v3 v4 fd ar h H locs ls hP hD hS hl
  unfold wp_S_summers_J2 at h
  refine lv_iload hx hb dX1_summers_63 (lv_at hl 4 rfl) ?_
  refine lv_iconst (v := (2 : Int32)) hx hb dX1_summers_65 (by decide) ?_
  refine lv_icmp_ne (tgt := 121) hx hb dX1_summers_66 (by decide) (fun c38 => ?_) (fun c38 => ?_)
  · replace h := h.1 c38
    refine lp_S_summers_J3 F hRf hRl hC hSl hC1 hS7 hlt ?hk35 _ _ _ _ h _ _ _ hP hD hS (lv_sub hl [0, 1, 2, 3, 4] rfl)
    case hk35 =>
      intro v3_16 v4_17 fd_18 ar_19 h H locs ls hP hD hS hl
      exact hK35 _ _ _ _ h _ _ _ hP hD hS (lv_sub hl [0, 1, 2, 3] rfl)
  · replace h := h.2 c38
    refine lv_aload_n hx hb dX1_summers_69 rfl (lv_at hl 0 rfl) ?_
    refine va_get hx hb hts in_X1 hown hK hP 0 rfl rfl 10 (Nat.le_of_ble_eq_true rfl) (hts _ q199) (fun _ h => h) (v := .int (fd 10)) rfl dX1_summers_70 ?_
    refine lv_if_le (tgt := 121) hx hb dX1_summers_73 (by decide) (fun c37 => ?_) (fun c37 => ?_)
    · replace h := h.1 c37
      refine lp_S_summers_J3 F hRf hRl hC hSl hC1 hS7 hlt ?hk35 _ _ _ _ h _ _ _ hP hD hS (lv_sub hl [0, 1, 2, 3, 4] rfl)
      case hk35 =>
        intro v3_20 v4_21 fd_22 ar_23 h H locs ls hP hD hS hl
        exact hK35 _ _ _ _ h _ _ _ hP hD hS (lv_sub hl [0, 1, 2, 3] rfl)
    · replace h := h.2 c37
      refine lv_aload_n hx hb dX1_summers_76 rfl (lv_at hl 0 rfl) ?_
      refine lv_aload_n hx hb dX1_summers_77 rfl (lv_at hl 0 rfl) ?_
      refine va_get hx hb hts in_X1 hown hK hP 0 rfl rfl 10 (Nat.le_of_ble_eq_true rfl) (hts _ q199) (fun _ h => h) (v := .int (fd 10)) rfl dX1_summers_78 ?_
      refine cl_i F (va_runV (As := [.int (fd 10)]) (rest := []) ⟨hx, hb, hml, hown, hts⟩ (ct_S_draw h _) (cwV 1 hts (lw_V q1130 q1132 qs35 q94 q1133) rfl rfl rfl (by decide +kernel) ⟨Nat.le_trans (Nat.le_of_ble_eq_true rfl) hRf, Nat.le_trans (Nat.le_of_ble_eq_true rfl) hRl⟩) ⟨ct_blind, va_recv hK hP (ci := 0) (q0 := 0) rfl rfl, ct_at F hS hP hD⟩ rfl rfl hl.1 rfl (lv_room (Nat.le_of_ble_eq_true rfl)) dX1_summers_81 ⟨hC, hSl⟩) rfl rfl hD hS ?_
      rintro x24 fd25 H locs h hP hD hS
      refine lv_istore (lv' := [(6, .int x24), (0, .ref o), (2, .int v2), (3, .int v3), (4, .int v4), (5, .int v5)]) hx hb dX1_summers_84 hl (by decide) rfl (fun ls hl => ?_)
      refine lv_aload_n hx hb dX1_summers_86 rfl (lv_at hl 1 rfl) ?_
      refine lv_aload_n hx hb dX1_summers_87 rfl (lv_at hl 1 rfl) ?_
      refine va_get hx hb hts in_X1 hown hK hP 0 rfl rfl 9 (Nat.le_of_ble_eq_true rfl) (hts _ q195) (fun _ h => h) (v := .int (fd25 9)) rfl dX1_summers_88 ?_
      refine cl_i F (va_runV (As := [.int (fd25 9)]) (rest := []) ⟨hx, hb, hml, hown, hts⟩ (ct_S_draw h _) (cwV 1 hts (lw_V q1130 q1132 qs35 q94 q1133) rfl rfl rfl (by decide +kernel) ⟨Nat.le_trans (Nat.le_of_ble_eq_true rfl) hRf, Nat.le_trans (Nat.le_of_ble_eq_true rfl) hRl⟩) ⟨ct_blind, va_recv hK hP (ci := 0) (q0 := 0) rfl rfl, ct_at F hS hP hD⟩ rfl rfl hl.1 rfl (lv_room (Nat.le_of_ble_eq_true rfl)) dX1_summers_91 ⟨hC, hSl⟩) rfl rfl hD hS ?_
      rintro x26 fd27 H locs h hP hD hS
      refine lv_istore (lv' := [(7, .int x26), (6, .int x24), (0, .ref o), (2, .int v2), (3, .int v3), (4, .int v4), (5, .int v5)]) hx hb dX1_summers_94 hl (by decide) rfl (fun ls hl => ?_)
      refine lv_aload_n hx hb dX1_summers_96 rfl (lv_at hl 2 rfl) ?_
      refine va_get hx hb hts in_X1 hown hK hP 0 rfl rfl 2 (Nat.le_of_ble_eq_true rfl) (hts _ q186) (fun _ h => h) (v := .ref (ax 2)) rfl dX1_summers_97 ?_
      refine va_get hx hb hts in_X2 hown hK hP 24 rfl rfl 3 (Nat.le_of_ble_eq_true rfl) (hts _ q144) (fun _ h => h) (v := .ref (ax 51)) rfl dX1_summers_100 ?_
      refine lv_iload hx hb dX1_summers_103 (lv_at hl 1 rfl) ?_
      refine va_iald (f := (ar 51)) hx hb hK hP 28 0 rfl rfl h.1 dX1_summers_105 ?_
      replace h := h.2
      refine lv_if_le (tgt := 121) hx hb dX1_summers_106 (by decide) (fun c36 => ?_) (fun c36 => ?_)
      · replace h := h.1 c36
        refine lp_S_summers_J3 F hRf hRl hC hSl hC1 hS7 hlt ?hk35 _ _ _ _ h _ _ _ hP hD hS (lv_sub hl [2, 3, 4, 5, 6] rfl)
        case hk35 =>
          intro v3_28 v4_29 fd_30 ar_31 h H locs ls hP hD hS hl
          exact hK35 _ _ _ _ h _ _ _ hP hD hS (lv_sub hl [0, 1, 2, 3] rfl)
      · replace h := h.2 c36
        refine lv_aload_n hx hb dX1_summers_109 rfl (lv_at hl 2 rfl) ?_
        refine va_get hx hb hts in_X1 hown hK hP 0 rfl rfl 2 (Nat.le_of_ble_eq_true rfl) (hts _ q186) (fun _ h => h) (v := .ref (ax 2)) rfl dX1_summers_110 ?_
        refine va_get hx hb hts in_X2 hown hK hP 24 rfl rfl 2 (Nat.le_of_ble_eq_true rfl) (hts _ q141) (fun _ h => h) (v := .ref (ax 50)) rfl dX1_summers_113 ?_
        refine lv_iload hx hb dX1_summers_116 (lv_at hl 1 rfl) ?_
        refine lv_iload hx hb dX1_summers_118 (lv_at hl 0 rfl) ?_
        refine pt_iast (f := (ar 50)) hx hb hK hP hD hS 27 0 rfl rfl h.1 dX1_summers_120 wXA_50 (fun H locs hP hD hS => ?_)
        replace h := h.2
        refine lp_S_summers_J3 F hRf hRl hC hSl hC1 hS7 hlt ?hk35 _ _ _ _ h _ _ _ hP hD hS (lv_sub hl [2, 3, 4, 5, 6] rfl)
        case hk35 =>
          intro v3_32 v4_33 fd_34 ar_35 h H locs ls hP hD hS hl
          exact hK35 _ _ _ _ h _ _ _ hP hD hS (lv_sub hl [0, 1, 2, 3] rfl)
set_option maxHeartbeats 4000000 in
theorem lp_S_summers_L1 {p : Program} {l : Launch} {e : Env} {R : Room} {s : State} {m : MethodId} {args : Array Value} {below : List Frame} {meth : Method} {c : Code} {A : Nat → Prop} {Qf : State → Prop} {V : evT} {D : va_G} {gI : Nat → ClassId} {o : Nat} {ax : Nat → Nat} {tl : va_W} {v2 : Int32} {lw : Nat → Int64} {hh : HT} {rn : Option (Nat × Nat)} {K152 : (Int32) → (Nat → Int32) → (Nat → Nat → Int32) → Prop} (F : ct_F p m c meth cX1_summers 8 s args RX1 (some .int) A V D vwCl (tyL gI)) (hRf : 213 ≤ R.frames) (hRl : 5062 ≤ R.locals) (hC : 0 ≤ R.cells) (hSl : 0 ≤ R.slots) (hC1 : 1 ≤ R.cells) (hS7 : 7 ≤ R.slots) (hlt : l.stackTraces = false)
    (hK152 : ∀ (v3 : Int32) (fd : Nat → Int32) (ar : Nat → Nat → Int32), K152 v3 fd ar → ∀ (H : Heap) (locs : List Loc) (ls : Array Slot), va_P D vwCl (wX gI o ax rn tl fd ar lw hh) H → va_D A (wX gI o ax rn tl fd ar lw hh) → va_S A s.heap H locs → lv_has ls 8 [(0, .ref o), (3, .int v3)] → W p l e R s m args below meth c H locs 0 0 Qf (F0 m 152 ls [])) :
    ∀ (n : Nat) (v3 : Int32) (v4 : Int32) (fd : Nat → Int32) (ar : Nat → Nat → Int32), wp_S_summers_L1 v2 lw hh rn K152 n v3 v4 fd ar → ∀ (H : Heap) (locs : List Loc) (ls : Array Slot), va_P D vwCl (wX gI o ax rn tl fd ar lw hh) H → va_D A (wX gI o ax rn tl fd ar lw hh) → va_S A s.heap H locs → lv_has ls 8 [(0, .ref o), (2, .int v2), (3, .int v3), (4, .int v4)] → W p l e R s m args below meth c H locs 0 0 Qf (F0 m 35 ls []) := by
  obtain ⟨⟨hx, hb, hml, hown, hts⟩, hr, hlocks, hA, hK, hE⟩ := id F
  intro n
  induction n with
  | zero => intro v3 v4 fd ar h; exact h.elim
  | succ n ih =>
    intro v3 v4 fd ar h H locs ls hP hD hS hl
    unfold wp_S_summers_L1 at h
    refine lv_iload hx hb dX1_summers_35 (lv_at hl 3 rfl) ?_
    refine lv_iload_n hx hb dX1_summers_37 rfl (lv_at hl 1 rfl) ?_
    refine lv_icmp_ge (tgt := 152) hx hb dX1_summers_38 (by decide) (fun c50 => ?_) (fun c50 => ?_)
    · replace h := h.1 c50
      exact hK152 _ _ _ h _ _ _ hP hD hS (lv_sub hl [0, 2] rfl)
    · replace h := h.2 c50
      refine lv_aload_n hx hb dX1_summers_41 rfl (lv_at hl 0 rfl) ?_
      refine lv_iconst (v := (4 : Int32)) hx hb dX1_summers_42 (by decide) ?_
      refine cl_i F (va_runV (As := [.int (4 : Int32)]) (rest := []) ⟨hx, hb, hml, hown, hts⟩ (ct_S_draw h _) (cwV 1 hts (lw_V q1130 q1132 qs35 q94 q1133) rfl rfl rfl (by decide +kernel) ⟨Nat.le_trans (Nat.le_of_ble_eq_true rfl) hRf, Nat.le_trans (Nat.le_of_ble_eq_true rfl) hRl⟩) ⟨ct_blind, va_recv hK hP (ci := 0) (q0 := 0) rfl rfl, ct_at F hS hP hD⟩ rfl rfl hl.1 rfl (lv_room (Nat.le_of_ble_eq_true rfl)) dX1_summers_43 ⟨hC, hSl⟩) rfl rfl hD hS ?_
      rintro x9 fd10 H locs h hP hD hS
      refine lv_istore (lv' := [(5, .int x9), (0, .ref o), (2, .int v2), (3, .int v3), (4, .int v4)]) hx hb dX1_summers_46 hl (by decide) rfl (fun ls hl => ?_)
      refine lv_iload hx hb dX1_summers_48 (lv_at hl 0 rfl) ?_
      refine lv_iconst (v := (2 : Int32)) hx hb dX1_summers_50 (by decide) ?_
      refine lv_icmp_ge (tgt := 63) hx hb dX1_summers_51 (by decide) (fun c49 => ?_) (fun c49 => ?_)
      · replace h := h.1 c49
        refine lp_S_summers_J2 F hRf hRl hC hSl hC1 hS7 hlt ?hk35 _ _ _ _ h _ _ _ hP hD hS (lv_sub hl [1, 2, 3, 4, 0] rfl)
        case hk35 =>
          intro v3_39 v4_40 fd_41 ar_42 h H locs ls hP hD hS hl
          exact ih _ _ _ _ h _ _ _ hP hD hS (lv_sub hl [0, 1, 2, 3] rfl)
      · replace h := h.2 c49
        refine lv_aload_n hx hb dX1_summers_54 rfl (lv_at hl 1 rfl) ?_
        refine lv_aload_n hx hb dX1_summers_55 rfl (lv_at hl 1 rfl) ?_
        refine va_get hx hb hts in_X1 hown hK hP 0 rfl rfl 2 (Nat.le_of_ble_eq_true rfl) (hts _ q186) (fun _ h => h) (v := .ref (ax 2)) rfl dX1_summers_56 ?_
        refine cl_i F (va_runV (As := [.ref (ax 2)]) (rest := []) ⟨hx, hb, hml, hown, hts⟩ (ct_S_goSpell_i2 h _) (cwV 1 hts (lw_V q708 q710 qs15 q94 q711) rfl rfl rfl (by decide +kernel) ⟨Nat.le_trans (Nat.le_of_ble_eq_true rfl) hRf, Nat.le_trans (Nat.le_of_ble_eq_true rfl) hRl⟩) ⟨ct_blind, va_recv hK hP (ci := 0) (q0 := 0) rfl rfl, ct_at F hS hP hD⟩ rfl rfl hl.1 rfl (lv_room (Nat.le_of_ble_eq_true rfl)) dX1_summers_59 ⟨hC, hSl⟩) rfl rfl hD hS ?_
        rintro x43 ar44 H locs h hP hD hS
        refine lv_pop hx hb dX1_summers_62 rfl ?_
        refine lp_S_summers_J2 F hRf hRl hC hSl hC1 hS7 hlt ?hk35 _ _ _ _ h _ _ _ hP hD hS (lv_sub hl [1, 2, 3, 4, 0] rfl)
        case hk35 =>
          intro v3_45 v4_46 fd_47 ar_48 h H locs ls hP hD hS hl
          exact ih _ _ _ _ h _ _ _ hP hD hS (lv_sub hl [0, 1, 2, 3] rfl)
set_option maxHeartbeats 4000000 in
theorem cz_S_summers {l : Launch} {V : evT} {D : va_G} {gI : Nat → ClassId} {o : Nat} {ax : Nat → Nat} {tl : va_W} (hlt : l.stackTraces = false) {v1 : Int32} {v2 : Int32} {fd : Nat → Int32} {ar : Nat → Nat → Int32} {lw : Nat → Int64} {hh : HT} {rn : Option (Nat × Nat)} {Q : Int32 → (Nat → Int32) → (Nat → Nat → Int32) → (Nat → Int64) → Prop} (h : wp_S_summers v1 v2 fd ar lw hh rn Q) : cz_i l V D (tyL gI) yX1_summers cX1_summers 8 .int { frames := 213, cells := 1, slots := 7, locals := 5062 } [.ref o, .int v1, .int v2] (wX gI o ax rn tl fd ar lw hh) (fun u : (Nat → Int32) × (Nat → Nat → Int32) × (Nat → Int64) => (wX gI o ax rn tl u.1 u.2.1 u.2.2 hh)) (fun (x : Int32) (u : (Nat → Int32) × (Nat → Nat → Int32) × (Nat → Int64)) => Q x u.1 u.2.1 u.2.2) := by
  refine cz_ofi RX1 rfl (by decide +kernel) (Nat.le_of_ble_eq_true rfl) ?_
  intro p e s m args below meth c A F hP hD ls hl
  obtain ⟨⟨hx, hb, hml, hown, hts⟩, hr, hlocks, hA, hK, hE⟩ := id F
  have hS : va_S A s.heap s.heap [] := va_S.rf
  have hl : lv_has ls 8 [(0, .ref o), (1, .int v1), (2, .int v2)] := hl
  have hRf : 213 ≤ ({ frames := 213, cells := 1, slots := 7, locals := 5062 } : Room).frames := Nat.le_refl _
  have hC1 : 1 ≤ ({ frames := 213, cells := 1, slots := 7, locals := 5062 } : Room).cells := Nat.le_refl _
  have hS7 : 7 ≤ ({ frames := 213, cells := 1, slots := 7, locals := 5062 } : Room).slots := Nat.le_refl _
  have hRl : 5062 ≤ ({ frames := 213, cells := 1, slots := 7, locals := 5062 } : Room).locals := Nat.le_refl _
  have hC : 0 ≤ ({ frames := 213, cells := 1, slots := 7, locals := 5062 } : Room).cells := Nat.zero_le _
  have hSl : 0 ≤ ({ frames := 213, cells := 1, slots := 7, locals := 5062 } : Room).slots := Nat.zero_le _
  unfold wp_S_summers at h
  refine lv_iload_n hx hb dX1_summers_0 rfl (lv_at hl 2 rfl) ?_
  refine lv_i2l (v := (v2.toInt64)) hx hb dX1_summers_1 rfl ?_
  refine lv_lconst (v := (1 : Int64)) hx hb dX1_summers_2 (by decide) ?_
  refine lv_ldc2 (v := (60 : Int64)) hx hb hown (hts _ q937) dX1_summers_3 ?_
  refine cl_i0 F (va_runS (As := [.long (v2.toInt64), .long (1 : Int64), .long (60 : Int64)]) (rest := []) ⟨hx, hb, hml, hown, hts⟩ (ct_X1_in h _) (va_cwS 3 hts (lw_S q298 q299 q94 q300) rfl rfl rfl (by decide +kernel) ⟨Nat.le_trans (Nat.le_of_ble_eq_true rfl) hRf, Nat.le_trans (Nat.le_of_ble_eq_true rfl) hRl⟩) ⟨ct_blind, ct_at F hS ct_nP ct_nD⟩ rfl rfl hl.1 rfl (lv_room (Nat.le_of_ble_eq_true rfl)) dX1_summers_6 ⟨hC, hSl⟩) rfl rfl hP hS ?_
  rintro x1 _ H locs h hP hS
  refine lv_if_ne (tgt := 14) hx hb dX1_summers_9 (by decide) (fun c62 => ?_) (fun c62 => ?_)
  · replace h := h.1 c62
    refine lv_aload_n hx hb dX1_summers_14 rfl (lv_at hl 0 rfl) ?_
    refine lv_iload_n hx hb dX1_summers_15 rfl (lv_at hl 1 rfl) ?_
    refine pt_put (v := .int v1) hx hb hts in_X1 tyX1 tyX1_ok nmX1 hown hK hP hD hS 0 rfl rfl 30 (Nat.le_of_ble_eq_true rfl) (hts _ q221) (fun _ h => h) rfl (ty := .int) (by decide +kernel) rfl rfl (Nat.le_of_ble_eq_true rfl) dX1_summers_16 wXF_30 (fun H locs hP hD hS => ?_)
    refine lv_iconst (v := (0 : Int32)) hx hb dX1_summers_19 (by decide) ?_
    refine lv_istore_n (lv' := [(3, .int (0 : Int32)), (0, .ref o), (1, .int v1), (2, .int v2)]) hx hb dX1_summers_20 rfl hl (by decide) rfl (fun ls hl => ?_)
    refine lv_aload_n hx hb dX1_summers_21 rfl (lv_at hl 1 rfl) ?_
    refine va_get hx hb hts in_X1 hown hK hP 0 rfl rfl 2 (Nat.le_of_ble_eq_true rfl) (hts _ q186) (fun _ h => h) (v := .ref (ax 2)) rfl dX1_summers_22 ?_
    refine lv_aload_n hx hb dX1_summers_25 rfl (lv_at hl 1 rfl) ?_
    refine va_get hx hb hts in_X1 hown hK hP 0 rfl rfl 0 (Nat.le_of_ble_eq_true rfl) (hts _ q180) (fun _ h => h) (v := .ref (ax 0)) rfl dX1_summers_26 ?_
    refine cl_vL F (va_runV (As := [.ref (ax 0)]) (rest := []) ⟨hx, hb, hml, hown, hts⟩ (ct_B_be (o := (ax 2)) (ab := axb ax 2) (o2 := (ax 0)) (ab2 := axb ax 0) h _) (cwV 1 hts (lw_V q659 q660 q661 q95 q662) rfl rfl rfl (by decide +kernel) ⟨Nat.le_trans (Nat.le_of_ble_eq_true rfl) hRf, Nat.le_trans (Nat.le_of_ble_eq_true rfl) hRl⟩) ⟨ct_blind, va_recv hK hP (ci := 1) (q0 := 24) rfl rfl, ct_at F hS (putL_P hP (ps := [24, 25, 26, 27, 28, 14, 15, 16, 17, 18]) rfl) (hD.sub ([24, 25, 26, 27, 28, 14, 15, 16, 17, 18]) (by decide) rfl)⟩ rfl rfl hl.1 rfl (lv_room (Nat.le_of_ble_eq_true rfl)) dX1_summers_29 ⟨hC, hSl⟩) rfl rfl hP hD hS (ps := [24, 25, 26, 27, 28, 14, 15, 16, 17, 18]) rfl (fun _ => rfl) (fun _ => wXPP_2_0) ?_
    rintro ⟨wl2, dp3, aa4, md5, mo6, sp7, ti8⟩ H locs h hP hD hS
    refine lv_iconst (v := (0 : Int32)) hx hb dX1_summers_32 (by decide) ?_
    refine lv_istore (lv' := [(4, .int (0 : Int32)), (3, .int (0 : Int32)), (0, .ref o), (1, .int v1), (2, .int v2)]) hx hb dX1_summers_33 hl (by decide) rfl (fun ls hl => ?_)
    obtain ⟨k35, h⟩ := h
    refine lp_S_summers_L1 F hRf hRl hC hSl hC1 hS7 hlt ?hk152 k35 _ _ _ _ h _ _ _ hP hD hS (lv_sub hl [2, 4, 1, 0] rfl)
    case hk152 =>
      intro v3_51 fd_52 ar_53 h H locs ls hP hD hS hl
      refine lv_aload_n hx hb dX1_summers_152 rfl (lv_at hl 0 rfl) ?_
      refine lv_iconst (v := (0 : Int32)) hx hb dX1_summers_153 (by decide) ?_
      refine pt_put (v := .int (0 : Int32)) hx hb hts in_X1 tyX1 tyX1_ok nmX1 hown hK hP hD hS 0 rfl rfl 18 (Nat.le_of_ble_eq_true rfl) (hts _ q209) (fun _ h => h) rfl (ty := .int) (by decide +kernel) rfl rfl (Nat.le_of_ble_eq_true rfl) dX1_summers_154 wXF_18 (fun H locs hP hD hS => ?_)
      refine lv_aload_n hx hb dX1_summers_157 rfl (lv_at hl 0 rfl) ?_
      refine lv_aload_n hx hb dX1_summers_158 rfl (lv_at hl 0 rfl) ?_
      refine va_get hx hb hts in_X1 hown hK hP 0 rfl rfl 2 (Nat.le_of_ble_eq_true rfl) (hts _ q186) (fun _ h => h) (v := .ref (ax 2)) rfl dX1_summers_159 ?_
      refine lv_aload_n hx hb dX1_summers_162 rfl (lv_at hl 0 rfl) ?_
      refine va_get hx hb hts in_X1 hown hK hP 0 rfl rfl 9 (Nat.le_of_ble_eq_true rfl) (hts _ q195) (fun _ h => h) (v := .int (fd_52 9)) rfl dX1_summers_163 ?_
      refine cl_iL F (va_runV (As := [.int (fd_52 9)]) (rest := [.ref o]) ⟨hx, hb, hml, hown, hts⟩ (ct_B_wet (o := (ax 2)) (ab := axb ax 2) h _) (cwV 1 hts (lw_V q773 q774 q775 q95 q776) rfl rfl rfl (by decide +kernel) ⟨Nat.le_trans (Nat.le_of_ble_eq_true rfl) hRf, Nat.le_trans (Nat.le_of_ble_eq_true rfl) hRl⟩) ⟨ct_blind, va_recv hK hP (ci := 1) (q0 := 24) rfl rfl, ct_at F hS (putL_P hP (ps := [24, 25, 26, 27, 28]) rfl) (hD.sub ([24, 25, 26, 27, 28]) (by decide) rfl)⟩ rfl rfl hl.1 rfl (lv_room (Nat.le_of_ble_eq_true rfl)) dX1_summers_166 ⟨hC, hSl⟩) rfl rfl hP hD hS (ps := [24, 25, 26, 27, 28]) rfl (fun _ => rfl) (fun _ => wXP_2_none) ?_
      rintro x54 _ H locs h hP hD hS
      refine cl_i0 F (va_runS (As := [.int x54]) (rest := [.ref o]) ⟨hx, hb, hml, hown, hts⟩ (ct_J10_bitCount h _) (va_cwS 1 hts (lw_S q585 q586 q112 q587) rfl rfl rfl (by decide +kernel) ⟨Nat.le_trans (Nat.le_of_ble_eq_true rfl) hRf, Nat.le_trans (Nat.le_of_ble_eq_true rfl) hRl⟩) ⟨ct_blind, ct_at F hS ct_nP ct_nD⟩ rfl rfl hl.1 rfl (lv_room (Nat.le_of_ble_eq_true rfl)) dX1_summers_169 ⟨hC, hSl⟩) rfl rfl hP hS ?_
      rintro x55 _ H locs h hP hS
      refine lv_i2l (v := (x55.toInt64)) hx hb dX1_summers_172 rfl ?_
      refine cl_v F (va_runV (As := [.long (x55.toInt64)]) (rest := []) ⟨hx, hb, hml, hown, hts⟩ (ct_S_tell h _) (cwV 1 hts (lw_V q728 q730 qs19 q94 q731) rfl rfl rfl (by decide +kernel) ⟨Nat.le_trans (Nat.le_of_ble_eq_true rfl) hRf, Nat.le_trans (Nat.le_of_ble_eq_true rfl) hRl⟩) ⟨ct_blind, va_recv hK hP (ci := 0) (q0 := 0) rfl rfl, ct_at F hS hP hD⟩ rfl rfl hl.1 rfl (lv_room (Nat.le_of_ble_eq_true rfl)) dX1_summers_173 ⟨hC, hSl⟩) rfl rfl hD hS ?_
      rintro ⟨fd56, lw57⟩ H locs h hP hD hS
      refine lv_aload_n hx hb dX1_summers_176 rfl (lv_at hl 0 rfl) ?_
      refine lv_aload_n hx hb dX1_summers_177 rfl (lv_at hl 0 rfl) ?_
      refine va_get hx hb hts in_X1 hown hK hP 0 rfl rfl 2 (Nat.le_of_ble_eq_true rfl) (hts _ q186) (fun _ h => h) (v := .ref (ax 2)) rfl dX1_summers_178 ?_
      refine lv_aload_n hx hb dX1_summers_181 rfl (lv_at hl 0 rfl) ?_
      refine va_get hx hb hts in_X1 hown hK hP 0 rfl rfl 10 (Nat.le_of_ble_eq_true rfl) (hts _ q199) (fun _ h => h) (v := .int (fd56 10)) rfl dX1_summers_182 ?_
      refine cl_iL F (va_runV (As := [.int (fd56 10)]) (rest := [.ref o]) ⟨hx, hb, hml, hown, hts⟩ (ct_B_atHome (o := (ax 2)) (ab := axb ax 2) h _) (cwV 1 hts (lw_V q700 q701 q702 q95 q703) rfl rfl rfl (by decide +kernel) ⟨Nat.le_trans (Nat.le_of_ble_eq_true rfl) hRf, Nat.le_trans (Nat.le_of_ble_eq_true rfl) hRl⟩) ⟨ct_blind, va_recv hK hP (ci := 1) (q0 := 24) rfl rfl, ct_at F hS (putL_P hP (ps := [24, 25, 26, 27, 28]) rfl) (hD.sub ([24, 25, 26, 27, 28]) (by decide) rfl)⟩ rfl rfl hl.1 rfl (lv_room (Nat.le_of_ble_eq_true rfl)) dX1_summers_185 ⟨hC, hSl⟩) rfl rfl hP hD hS (ps := [24, 25, 26, 27, 28]) rfl (fun _ => rfl) (fun _ => wXP_2_none) ?_
      rintro x58 _ H locs h hP hD hS
      refine cl_i0 F (va_runS (As := [.int x58]) (rest := [.ref o]) ⟨hx, hb, hml, hown, hts⟩ (ct_J10_bitCount h _) (va_cwS 1 hts (lw_S q585 q586 q112 q587) rfl rfl rfl (by decide +kernel) ⟨Nat.le_trans (Nat.le_of_ble_eq_true rfl) hRf, Nat.le_trans (Nat.le_of_ble_eq_true rfl) hRl⟩) ⟨ct_blind, ct_at F hS ct_nP ct_nD⟩ rfl rfl hl.1 rfl (lv_room (Nat.le_of_ble_eq_true rfl)) dX1_summers_188 ⟨hC, hSl⟩) rfl rfl hP hS ?_
      rintro x59 _ H locs h hP hS
      refine lv_i2l (v := (x59.toInt64)) hx hb dX1_summers_191 rfl ?_
      refine cl_v F (va_runV (As := [.long (x59.toInt64)]) (rest := []) ⟨hx, hb, hml, hown, hts⟩ (ct_S_tell h _) (cwV 1 hts (lw_V q728 q730 qs19 q94 q731) rfl rfl rfl (by decide +kernel) ⟨Nat.le_trans (Nat.le_of_ble_eq_true rfl) hRf, Nat.le_trans (Nat.le_of_ble_eq_true rfl) hRl⟩) ⟨ct_blind, va_recv hK hP (ci := 0) (q0 := 0) rfl rfl, ct_at F hS hP hD⟩ rfl rfl hl.1 rfl (lv_room (Nat.le_of_ble_eq_true rfl)) dX1_summers_192 ⟨hC, hSl⟩) rfl rfl hD hS ?_
      rintro ⟨fd60, lw61⟩ H locs h hP hD hS
      refine lv_iload_n hx hb dX1_summers_195 rfl (lv_at hl 1 rfl) ?_
      exact vx_ret (rt_i F dX1_summers_196 rfl (fd60, ar_53, lw61) h hP hD hS (Nat.le_refl _) (Nat.le_refl _))
  · replace h := h.2 c62
    refine lv_iconst (v := (-1 : Int32)) hx hb dX1_summers_12 (by decide) ?_
    exact vx_ret (rt_i F dX1_summers_13 rfl (fd, ar, lw) h hP hD hS (Nat.le_refl _) (Nat.le_refl _))
