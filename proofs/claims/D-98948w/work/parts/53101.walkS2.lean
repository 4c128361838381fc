/-! X1_goTide -/
set_option maxRecDepth 100000
set_option maxHeartbeats 4000000 in
theorem lp_S_goTide_J2_i0 {p : Program} {l : Launch} {e : Env} {R : Room} {s : State} {m : MethodId} {args : Array Value} {below : List Frame} {meth : Method} {c : Code} {A : Nat → Prop} {Qf : State → Prop} {V : evT} {D : va_G} {gI : Nat → ClassId} {o : Nat} {ax : Nat → Nat} {tl : va_W} {v2 : Int32} {v3 : Int32} {fd : Nat → Int32} {lw : Nat → Int64} {hh : HT} {rn : Option (Nat × Nat)} {K20 : (Int32) → (Nat → Nat → Int32) → Prop} (F : ct_F p m c meth cX1_goTide 6 s args RX1 (some .int) A V D vwCl (tyL gI)) (hRf : 212 ≤ R.frames) (hRl : 5037 ≤ R.locals) (hC : 0 ≤ R.cells) (hSl : 0 ≤ R.slots) (hC1 : 1 ≤ R.cells) (hS7 : 7 ≤ R.slots) (hlt : l.stackTraces = false)
    (hK20 : ∀ (v4 : Int32) (ar : Nat → Nat → Int32), K20 v4 ar → ∀ (H : Heap) (locs : List Loc) (ls : Array Slot), va_P D vwCl (wX gI o ax rn tl fd ar lw hh) H → va_D A (wX gI o ax rn tl fd ar lw hh) → va_S A s.heap H locs → lv_has ls 6 [(0, .ref o), (1, .ref (ax 0)), (2, .int v2), (3, .int v3), (4, .int v4)] → W p l e R s m args below meth c H locs 0 0 Qf (F0 m 20 ls [])) :
    ∀ (v4 : Int32) (t0 : Int32) (t1 : Int32) (ar : Nat → Nat → Int32), wp_S_goTide_J2 0 v2 v3 fd lw hh rn K20 v4 t0 t1 ar → ∀ (H : Heap) (locs : List Loc) (ls : Array Slot), va_P D vwCl (wX gI o ax rn tl fd ar lw hh) H → va_D A (wX gI o ax rn tl fd ar lw hh) → va_S A s.heap H locs → lv_has ls 6 [(0, .ref o), (1, .ref (ax 0)), (2, .int v2), (3, .int v3), (4, .int v4)] → W p l e R s m args below meth c H locs 0 0 Qf (F0 m 116 ls [.int t0, .int t1]) := by
  obtain ⟨⟨hx, hb, hml, hown, hts⟩, hr, hlocks, hA, hK, hE⟩ := id F
  intro v4 t0 t1 ar h H locs ls hP hD hS hl
  unfold wp_S_goTide_J2 at h
  refine lv_idiv hx hb dX1_goTide_116 h.1 ?_
  replace h := h.2
  refine lv_istore (lv' := [(5, .int (t1 / t0)), (0, .ref o), (1, .ref (ax 0)), (2, .int v2), (3, .int v3), (4, .int v4)]) hx hb dX1_goTide_117 hl (by decide) rfl (fun ls hl => ?_)
  refine lv_aload_n hx hb dX1_goTide_119 rfl (lv_at hl 2 rfl) ?_
  refine va_get hx hb hts in_X2 hown hK hP 14 rfl rfl 0 (Nat.le_of_ble_eq_true rfl) (hts _ q135) (fun _ h => h) (v := .ref (ax 40)) rfl dX1_goTide_120 ?_
  refine lv_iload hx hb dX1_goTide_123 (lv_at hl 5 rfl) ?_
  refine lv_iconst (v := (0 : Int32)) hx hb dX1_goTide_125 (by decide) ?_
  refine lv_aload_n hx hb dX1_goTide_126 rfl (lv_at hl 2 rfl) ?_
  refine va_get hx hb hts in_X2 hown hK hP 14 rfl rfl 0 (Nat.le_of_ble_eq_true rfl) (hts _ q135) (fun _ h => h) (v := .ref (ax 40)) rfl dX1_goTide_127 ?_
  refine lv_iload hx hb dX1_goTide_130 (lv_at hl 5 rfl) ?_
  refine va_iald (f := (ar 40)) hx hb hK hP 15 0 rfl rfl h.1 dX1_goTide_132 ?_
  replace h := h.2
  refine lv_iload hx hb dX1_goTide_133 (lv_at hl 0 rfl) ?_
  refine lv_isub hx hb dX1_goTide_135 ?_
  refine va_mmax hx hb (hml.trans hl.1.symm) hown (hts _ q635) (hts _ q636) (hts _ q100) (hts _ q637) (Nat.le_trans (Nat.le_of_ble_eq_true rfl) hRf) (Nat.le_trans (Nat.le_of_ble_eq_true rfl) hRl) hC hSl dX1_goTide_136 ?_
  refine pt_iast (f := (ar 40)) hx hb hK hP hD hS 15 0 rfl rfl h.1 dX1_goTide_139 wXA_40 (fun H locs hP hD hS => ?_)
  replace h := h.2
  refine lv_iinc (v := (v4 + (1 : Int32))) (lv' := [(4, .int (v4 + (1 : Int32))), (5, .int (t1 / t0)), (0, .ref o), (1, .ref (ax 0)), (2, .int v2), (3, .int v3)]) hx hb dX1_goTide_140 hl (k := 5) rfl rfl (by decide) rfl (fun ls hl => ?_)
  refine lv_goto (tgt := 20) hx hb dX1_goTide_143 (by decide) ?_
  exact hK20 _ _ h _ _ _ hP hD hS (lv_sub hl [2, 3, 4, 5, 0] rfl)
set_option maxHeartbeats 4000000 in
theorem lp_S_goTide_L1_i0 {p : Program} {l : Launch} {e : Env} {R : Room} {s : State} {m : MethodId} {args : Array Value} {below : List Frame} {meth : Method} {c : Code} {A : Nat → Prop} {Qf : State → Prop} {V : evT} {D : va_G} {gI : Nat → ClassId} {o : Nat} {ax : Nat → Nat} {tl : va_W} {v2 : Int32} {v3 : Int32} {fd : Nat → Int32} {lw : Nat → Int64} {hh : HT} {rn : Option (Nat × Nat)} {K146 : (Nat → Nat → Int32) → Prop} (F : ct_F p m c meth cX1_goTide 6 s args RX1 (some .int) A V D vwCl (tyL gI)) (hRf : 212 ≤ R.frames) (hRl : 5037 ≤ R.locals) (hC : 0 ≤ R.cells) (hSl : 0 ≤ R.slots) (hC1 : 1 ≤ R.cells) (hS7 : 7 ≤ R.slots) (hlt : l.stackTraces = false)
    (hK146 : ∀ (ar : Nat → Nat → Int32), K146 ar → ∀ (H : Heap) (locs : List Loc) (ls : Array Slot), va_P D vwCl (wX gI o ax rn tl fd ar lw hh) H → va_D A (wX gI o ax rn tl fd ar lw hh) → va_S A s.heap H locs → lv_has ls 6 [(0, .ref o), (1, .ref (ax 0)), (3, .int v3)] → W p l e R s m args below meth c H locs 0 0 Qf (F0 m 146 ls [])) :
    ∀ (n : Nat) (v4 : Int32) (ar : Nat → Nat → Int32), wp_S_goTide_L1 0 v2 v3 fd lw hh rn K146 n v4 ar → ∀ (H : Heap) (locs : List Loc) (ls : Array Slot), va_P D vwCl (wX gI o ax rn tl fd ar lw hh) H → va_D A (wX gI o ax rn tl fd ar lw hh) → va_S A s.heap H locs → lv_has ls 6 [(0, .ref o), (1, .ref (ax 0)), (2, .int v2), (3, .int v3), (4, .int v4)] → W p l e R s m args below meth c H locs 0 0 Qf (F0 m 20 ls []) := by
  obtain ⟨⟨hx, hb, hml, hown, hts⟩, hr, hlocks, hA, hK, hE⟩ := id F
  intro n
  induction n with
  | zero => intro v4 ar h; exact h.elim
  | succ n ih =>
    intro v4 ar h H locs ls hP hD hS hl
    unfold wp_S_goTide_L1 at h
    refine lv_iload hx hb dX1_goTide_20 (lv_at hl 4 rfl) ?_
    refine lv_aload_n hx hb dX1_goTide_22 rfl (lv_at hl 0 rfl) ?_
    refine va_get hx hb hts in_X1 hown hK hP 0 rfl rfl 9 (Nat.le_of_ble_eq_true rfl) (hts _ q195) (fun _ h => h) (v := .int (fd 9)) rfl dX1_goTide_23 ?_
    refine lv_icmp_ge (tgt := 146) hx hb dX1_goTide_26 (by decide) (fun c13 => ?_) (fun c13 => ?_)
    · replace h := h.1 c13
      exact hK146 _ h _ _ _ hP hD hS (lv_sub hl [0, 1, 3] rfl)
    · replace h := h.2 c13
      refine lv_iload_n hx hb dX1_goTide_29 rfl (lv_at hl 3 rfl) ?_
      refine lv_iload hx hb dX1_goTide_30 (lv_at hl 4 rfl) ?_
      refine cl_i0 F (va_runS (As := [.int v3, .int v4]) (rest := []) ⟨hx, hb, hml, hown, hts⟩ (ct_X1_has h _) (va_cwS 2 hts (lw_S q680 q681 q94 q682) rfl rfl rfl (by decide +kernel) ⟨Nat.le_trans (Nat.le_of_ble_eq_true rfl) hRf, Nat.le_trans (Nat.le_of_ble_eq_true rfl) hRl⟩) ⟨ct_blind, ct_at F hS ct_nP ct_nD⟩ rfl rfl hl.1 rfl (lv_room (Nat.le_of_ble_eq_true rfl)) dX1_goTide_32 ⟨hC, hSl⟩) rfl rfl hP hS ?_
      rintro x4 _ H locs h hP hS
      refine lv_if_eq (tgt := 82) hx hb dX1_goTide_35 (by decide) (fun c12 => ?_) (fun c12 => ?_)
      · replace h := h.1 c12
        refine lv_iconst (v := (0 : Int32)) hx hb dX1_goTide_82 (by decide) ?_
        refine lv_iload_n hx hb dX1_goTide_83 rfl (lv_at hl 2 rfl) ?_
        refine lv_bipush (v := (10 : Int32)) hx hb dX1_goTide_84 (by decide) ?_
        refine lv_aload_n hx hb dX1_goTide_86 rfl (lv_at hl 0 rfl) ?_
        refine va_get hx hb hts in_X1 hown hK hP 0 rfl rfl 4 (Nat.le_of_ble_eq_true rfl) (hts _ q188) (fun _ h => h) (v := .ref (ax 4)) rfl dX1_goTide_87 ?_
        refine lv_iload hx hb dX1_goTide_90 (lv_at hl 4 rfl) ?_
        refine va_iald (f := (ar 4)) hx hb hK hP 1 0 rfl rfl h.1 dX1_goTide_92 ?_
        replace h := h.2
        refine lv_imul hx hb dX1_goTide_93 ?_
        refine lv_isub hx hb dX1_goTide_94 ?_
        refine va_mmax hx hb (hml.trans hl.1.symm) hown (hts _ q635) (hts _ q636) (hts _ q100) (hts _ q637) (Nat.le_trans (Nat.le_of_ble_eq_true rfl) hRf) (Nat.le_trans (Nat.le_of_ble_eq_true rfl) hRl) hC hSl dX1_goTide_95 ?_
        refine lv_aload_n hx hb dX1_goTide_98 rfl (lv_at hl 1 rfl) ?_
        refine va_get hx hb hts in_X2 hown hK hP 14 rfl rfl 4 (Nat.le_of_ble_eq_true rfl) (hts _ q146) (fun _ h => h) (v := .int (fd 60)) rfl dX1_goTide_99 ?_
        refine lv_iload hx hb dX1_goTide_102 (lv_at hl 4 rfl) ?_
        refine cl_i0 F (va_runS (As := [.int (fd 60), .int v4]) (rest := [.int (mxI (0 : Int32) (v2 - ((10 : Int32) * (ar 4 v4.toNatClampNeg))))]) ⟨hx, hb, hml, hown, hts⟩ (ct_X1_has h _) (va_cwS 2 hts (lw_S q680 q681 q94 q682) rfl rfl rfl (by decide +kernel) ⟨Nat.le_trans (Nat.le_of_ble_eq_true rfl) hRf, Nat.le_trans (Nat.le_of_ble_eq_true rfl) hRl⟩) ⟨ct_blind, ct_at F hS ct_nP ct_nD⟩ rfl rfl hl.1 rfl (lv_room (Nat.le_of_ble_eq_true rfl)) dX1_goTide_104 ⟨hC, hSl⟩) rfl rfl hP hS ?_
        rintro x5 _ H locs h hP hS
        refine lv_if_eq (tgt := 115) hx hb dX1_goTide_107 (by decide) (fun c10 => ?_) (fun c10 => ?_)
        · replace h := h.1 c10
          refine lv_iconst (v := (4 : Int32)) hx hb dX1_goTide_115 (by decide) ?_
          refine lp_S_goTide_J2_i0 F hRf hRl hC hSl hC1 hS7 hlt ?hk20 _ _ _ _ h _ _ _ hP hD hS (lv_sub hl [0, 1, 2, 3, 4] rfl)
          case hk20 =>
            intro v4_6 ar_7 h H locs ls hP hD hS hl
            exact ih _ _ h _ _ _ hP hD hS (lv_sub hl [0, 1, 2, 3, 4] rfl)
        · replace h := h.2 c10
          refine lv_bipush (v := (8 : Int32)) hx hb dX1_goTide_110 (by decide) ?_
          refine lv_goto (tgt := 116) hx hb dX1_goTide_112 (by decide) ?_
          refine lp_S_goTide_J2_i0 F hRf hRl hC hSl hC1 hS7 hlt ?hk20 _ _ _ _ h _ _ _ hP hD hS (lv_sub hl [0, 1, 2, 3, 4] rfl)
          case hk20 =>
            intro v4_8 ar_9 h H locs ls hP hD hS hl
            exact ih _ _ h _ _ _ hP hD hS (lv_sub hl [0, 1, 2, 3, 4] rfl)
      · replace h := h.2 c12
        refine lv_aload_n hx hb dX1_goTide_38 rfl (lv_at hl 1 rfl) ?_
        refine va_get hx hb hts in_X2 hown hK hP 14 rfl rfl 1 (Nat.le_of_ble_eq_true rfl) (hts _ q137) (fun _ h => h) (v := .ref (ax 41)) rfl dX1_goTide_39 ?_
        refine lv_iload hx hb dX1_goTide_42 (lv_at hl 4 rfl) ?_
        refine lv_sipush (v := (999 : Int32)) hx hb dX1_goTide_44 (by decide) ?_
        refine lv_aload_n hx hb dX1_goTide_47 rfl (lv_at hl 1 rfl) ?_
        refine va_get hx hb hts in_X2 hown hK hP 14 rfl rfl 1 (Nat.le_of_ble_eq_true rfl) (hts _ q137) (fun _ h => h) (v := .ref (ax 41)) rfl dX1_goTide_48 ?_
        refine lv_iload hx hb dX1_goTide_51 (lv_at hl 4 rfl) ?_
        refine va_iald (f := (ar 41)) hx hb hK hP 16 0 rfl rfl h.1 dX1_goTide_53 ?_
        replace h := h.2
        refine lv_iload_n hx hb dX1_goTide_54 rfl (lv_at hl 2 rfl) ?_
        refine lv_iadd hx hb dX1_goTide_55 ?_
        refine lv_aload_n hx hb dX1_goTide_56 rfl (lv_at hl 0 rfl) ?_
        refine lv_aload_n hx hb dX1_goTide_57 rfl (lv_at hl 1 rfl) ?_
        refine lv_iload hx hb dX1_goTide_58 (lv_at hl 4 rfl) ?_
        refine cl_i F (va_runV (As := [.ref (ax 0), .int v4]) (rest := [.int (((ar 41) v4.toNatClampNeg) + v2), .int (999 : Int32), .int v4, .ref (ax 41)]) ⟨hx, hb, hml, hown, hts⟩ (ct_S_topOf_i0 h _) (cwV 2 hts (lw_V q756 q758 qs23 q94 q759) rfl rfl rfl (by decide +kernel) ⟨Nat.le_trans (Nat.le_of_ble_eq_true rfl) hRf, Nat.le_trans (Nat.le_of_ble_eq_true rfl) hRl⟩) ⟨ct_blind, va_recv hK hP (ci := 0) (q0 := 0) rfl rfl, ct_at F hS hP hD⟩ rfl rfl hl.1 rfl (lv_room (Nat.le_of_ble_eq_true rfl)) dX1_goTide_60 ⟨hC, hSl⟩) rfl rfl hD hS ?_
        rintro x11 _ H locs h hP hD hS
        refine lv_isub hx hb dX1_goTide_63 ?_
        refine va_mmin hx hb (hml.trans hl.1.symm) hown (hts _ q634) (hts _ q336) (hts _ q100) (hts _ q337) (Nat.le_trans (Nat.le_of_ble_eq_true rfl) hRf) (Nat.le_trans (Nat.le_of_ble_eq_true rfl) hRl) hC hSl dX1_goTide_64 ?_
        refine pt_iast (f := (ar 41)) hx hb hK hP hD hS 16 0 rfl rfl h.1 dX1_goTide_67 wXA_41 (fun H locs hP hD hS => ?_)
        replace h := h.2
        refine lv_aload_n hx hb dX1_goTide_68 rfl (lv_at hl 1 rfl) ?_
        refine va_get hx hb hts in_X2 hown hK hP 14 rfl rfl 0 (Nat.le_of_ble_eq_true rfl) (hts _ q135) (fun _ h => h) (v := .ref (ax 40)) rfl dX1_goTide_69 ?_
        refine lv_iload hx hb dX1_goTide_72 (lv_at hl 4 rfl) ?_
        refine lv_dup2_11 hx hb dX1_goTide_74 rfl rfl ?_
        refine va_iald (f := (ar 40)) hx hb hK hP 15 0 rfl rfl h.1 dX1_goTide_75 ?_
        replace h := h.2
        refine lv_iconst (v := (2 : Int32)) hx hb dX1_goTide_76 (by decide) ?_
        refine lv_idiv hx hb dX1_goTide_77 (by decide) ?_
        refine pt_iast (f := (ar 40)) hx hb hK hP hD hS 15 0 rfl rfl h.1 dX1_goTide_78 wXA_40 (fun H locs hP hD hS => ?_)
        replace h := h.2
        refine lv_goto (tgt := 140) hx hb dX1_goTide_79 (by decide) ?_
        refine lv_iinc (v := (v4 + (1 : Int32))) (lv' := [(4, .int (v4 + (1 : Int32))), (0, .ref o), (1, .ref (ax 0)), (2, .int v2), (3, .int v3)]) hx hb dX1_goTide_140 hl (k := 4) rfl rfl (by decide) rfl (fun ls hl => ?_)
        refine lv_goto (tgt := 20) hx hb dX1_goTide_143 (by decide) ?_
        exact ih _ _ h _ _ _ hP hD hS (lv_sub hl [1, 2, 3, 4, 0] rfl)
set_option maxHeartbeats 4000000 in
theorem cz_S_goTide_i0 {l : Launch} {V : evT} {D : va_G} {gI : Nat → ClassId} {o : Nat} {ax : Nat → Nat} {tl : va_W} (hlt : l.stackTraces = false) {fd : Nat → Int32} {ar : Nat → Nat → Int32} {lw : Nat → Int64} {hh : HT} {rn : Option (Nat × Nat)} {Q : Int32 → (Nat → Int32) → (Nat → Nat → Int32) → Prop} (h : wp_S_goTide 0 fd ar lw hh rn Q) : cz_i l V D (tyL gI) yX1_goTide cX1_goTide 6 .int { frames := 212, cells := 1, slots := 7, locals := 5037 } [.ref o, .ref (ax 0)] (wX gI o ax rn tl fd ar lw hh) (fun u : (Nat → Int32) × (Nat → Nat → Int32) => (wX gI o ax rn tl u.1 u.2 lw hh)) (fun (x : Int32) (u : (Nat → Int32) × (Nat → Nat → Int32)) => Q x u.1 u.2) := by
  refine cz_ofi RX1 rfl (by decide +kernel) (Nat.le_of_ble_eq_true rfl) ?_
  intro p e s m args below meth c A F hP hD ls hl
  obtain ⟨⟨hx, hb, hml, hown, hts⟩, hr, hlocks, hA, hK, hE⟩ := id F
  have hS : va_S A s.heap s.heap [] := va_S.rf
  have hl : lv_has ls 6 [(0, .ref o), (1, .ref (ax 0))] := hl
  have hRf : 212 ≤ ({ frames := 212, cells := 1, slots := 7, locals := 5037 } : Room).frames := Nat.le_refl _
  have hC1 : 1 ≤ ({ frames := 212, cells := 1, slots := 7, locals := 5037 } : Room).cells := Nat.le_refl _
  have hS7 : 7 ≤ ({ frames := 212, cells := 1, slots := 7, locals := 5037 } : Room).slots := Nat.le_refl _
  have hRl : 5037 ≤ ({ frames := 212, cells := 1, slots := 7, locals := 5037 } : Room).locals := Nat.le_refl _
  have hC : 0 ≤ ({ frames := 212, cells := 1, slots := 7, locals := 5037 } : Room).cells := Nat.zero_le _
  have hSl : 0 ≤ ({ frames := 212, cells := 1, slots := 7, locals := 5037 } : Room).slots := Nat.zero_le _
  unfold wp_S_goTide at h
  refine lv_aload_n hx hb dX1_goTide_0 rfl (lv_at hl 0 rfl) ?_
  refine lv_aload_n hx hb dX1_goTide_1 rfl (lv_at hl 1 rfl) ?_
  refine lv_aload_n hx hb dX1_goTide_2 rfl (lv_at hl 1 rfl) ?_
  refine va_get hx hb hts in_X2 hown hK hP 14 rfl rfl 6 (Nat.le_of_ble_eq_true rfl) (hts _ q151) (fun _ h => h) (v := .int (fd 62)) rfl dX1_goTide_3 ?_
  refine clz_i F (vx_runV (As := [.ref (ax 0), .int (fd 62)]) (rest := []) ⟨hx, hb, hml, hown, hts⟩ (cz_S_levelOf_i0 hlt h _) (cwV 2 hts (lw_V q736 q738 qs20 q94 q739) rfl rfl rfl (by decide +kernel) ⟨Nat.le_trans (Nat.le_of_ble_eq_true rfl) hRf, Nat.le_trans (Nat.le_of_ble_eq_true rfl) hRl⟩) ⟨ct_blind, va_recv hK hP (ci := 0) (q0 := 0) rfl rfl, ct_at F hS hP hD⟩ rfl rfl hl.1 rfl (lv_room (Nat.le_of_ble_eq_true rfl)) dX1_goTide_6 ⟨hC1, hS7⟩) hD hS ?_
  rintro x1 fd2 H locs h hP hD hS
  refine lv_istore_n (lv' := [(2, .int x1), (0, .ref o), (1, .ref (ax 0))]) hx hb dX1_goTide_9 rfl hl (by decide) rfl (fun ls hl => ?_)
  refine lv_aload_n hx hb dX1_goTide_10 rfl (lv_at hl 1 rfl) ?_
  refine lv_aload_n hx hb dX1_goTide_11 rfl (lv_at hl 2 rfl) ?_
  refine lv_iload_n hx hb dX1_goTide_12 rfl (lv_at hl 0 rfl) ?_
  refine cl_i F (va_runV (As := [.ref (ax 0), .int x1]) (rest := []) ⟨hx, hb, hml, hown, hts⟩ (ct_S_below_i0 h _) (cwV 2 hts (lw_V q752 q754 qs22 q94 q755) rfl rfl rfl (by decide +kernel) ⟨Nat.le_trans (Nat.le_of_ble_eq_true rfl) hRf, Nat.le_trans (Nat.le_of_ble_eq_true rfl) hRl⟩) ⟨ct_blind, va_recv hK hP (ci := 0) (q0 := 0) rfl rfl, ct_at F hS hP hD⟩ rfl rfl hl.1 rfl (lv_room (Nat.le_of_ble_eq_true rfl)) dX1_goTide_13 ⟨hC, hSl⟩) rfl rfl hD hS ?_
  rintro x3 _ H locs h hP hD hS
  refine lv_istore_n (lv' := [(3, .int x3), (2, .int x1), (0, .ref o), (1, .ref (ax 0))]) hx hb dX1_goTide_16 rfl hl (by decide) rfl (fun ls hl => ?_)
  refine lv_iconst (v := (0 : Int32)) hx hb dX1_goTide_17 (by decide) ?_
  refine lv_istore (lv' := [(4, .int (0 : Int32)), (3, .int x3), (2, .int x1), (0, .ref o), (1, .ref (ax 0))]) hx hb dX1_goTide_18 hl (by decide) rfl (fun ls hl => ?_)
  obtain ⟨k20, h⟩ := h
  refine lp_S_goTide_L1_i0 F hRf hRl hC hSl hC1 hS7 hlt ?hk146 k20 _ _ h _ _ _ hP hD hS (lv_sub hl [3, 4, 2, 1, 0] rfl)
  case hk146 =>
    intro ar_14 h H locs ls hP hD hS hl
    refine lv_aload_n hx hb dX1_goTide_146 rfl (lv_at hl 1 rfl) ?_
    refine lv_dup hx hb dX1_goTide_147 rfl ?_
    refine va_get hx hb hts in_X2 hown hK hP 14 rfl rfl 4 (Nat.le_of_ble_eq_true rfl) (hts _ q146) (fun _ h => h) (v := .int (fd2 60)) rfl dX1_goTide_148 ?_
    refine lv_iload_n hx hb dX1_goTide_151 rfl (lv_at hl 2 rfl) ?_
    refine lv_iconst (v := (-1 : Int32)) hx hb dX1_goTide_152 (by decide) ?_
    refine lv_ixor hx hb dX1_goTide_153 ?_
    refine lv_iand hx hb dX1_goTide_154 ?_
    refine pt_put (v := .int ((fd2 60) &&& (x3 ^^^ (-1 : Int32)))) hx hb hts in_X2 tyX2 tyX2_ok nmX2 hown hK hP hD hS 14 rfl rfl 4 (Nat.le_of_ble_eq_true rfl) (hts _ q146) (fun _ h => h) rfl (ty := .int) (by decide +kernel) rfl rfl (Nat.le_of_ble_eq_true rfl) dX1_goTide_155 wXB_0_mo (fun H locs hP hD hS => ?_)
    refine lv_aload_n hx hb dX1_goTide_158 rfl (lv_at hl 1 rfl) ?_
    refine lv_aload_n hx hb dX1_goTide_159 rfl (lv_at hl 0 rfl) ?_
    refine va_get hx hb hts in_X1 hown hK hP 0 rfl rfl 9 (Nat.le_of_ble_eq_true rfl) (hts _ q195) (fun _ h => h) (v := .int (fd2 9)) rfl dX1_goTide_160 ?_
    refine lv_aload_n hx hb dX1_goTide_163 rfl (lv_at hl 0 rfl) ?_
    refine va_get hx hb hts in_X1 hown hK hP 0 rfl rfl 5 (Nat.le_of_ble_eq_true rfl) (hts _ q189) (fun _ h => h) (v := .ref (ax 5)) rfl dX1_goTide_164 ?_
    refine cl_vL F (va_runV (As := [.int (fd2 9), .ref (ax 5)]) (rest := []) ⟨hx, hb, hml, hown, hts⟩ (ct_B_flow (o := (ax 0)) (ab := axb ax 0) (pd := (ax 5)) h _) (cwV 2 hts (lw_V q760 q761 q762 q95 q763) rfl rfl rfl (by decide +kernel) ⟨Nat.le_trans (Nat.le_of_ble_eq_true rfl) hRf, Nat.le_trans (Nat.le_of_ble_eq_true rfl) hRl⟩) ⟨ct_blind, va_recv hK hP (ci := 1) (q0 := 14) rfl rfl, ct_at F hS (putL_P hP (ps := [14, 15, 16, 17, 18, 2]) rfl) (hD.sub ([14, 15, 16, 17, 18, 2]) (by decide) rfl)⟩ rfl rfl hl.1 rfl (lv_room (Nat.le_of_ble_eq_true rfl)) dX1_goTide_167 ⟨hC, hSl⟩) rfl rfl hP hD hS (ps := [14, 15, 16, 17, 18, 2]) rfl (fun _ => rfl) (fun _ => wXPD_0_dp_5) ?_
    rintro dp15 H locs h hP hD hS
    refine lv_aload_n hx hb dX1_goTide_170 rfl (lv_at hl 1 rfl) ?_
    refine lv_dup hx hb dX1_goTide_171 rfl ?_
    refine va_get hx hb hts in_X2 hown hK hP 14 rfl rfl 6 (Nat.le_of_ble_eq_true rfl) (hts _ q151) (fun _ h => h) (v := .int (fd2 62)) rfl dX1_goTide_172 ?_
    refine lv_iconst (v := (1 : Int32)) hx hb dX1_goTide_175 (by decide) ?_
    refine lv_iadd hx hb dX1_goTide_176 ?_
    refine pt_put (v := .int ((fd2 62) + (1 : Int32))) hx hb hts in_X2 tyX2 tyX2_ok nmX2 hown hK hP hD hS 14 rfl rfl 6 (Nat.le_of_ble_eq_true rfl) (hts _ q151) (fun _ h => h) rfl (ty := .int) (by decide +kernel) rfl rfl (Nat.le_of_ble_eq_true rfl) dX1_goTide_177 wXB_0_ti (fun H locs hP hD hS => ?_)
    refine lv_iload_n hx hb dX1_goTide_180 rfl (lv_at hl 2 rfl) ?_
    exact vx_ret (rt_i F dX1_goTide_181 rfl ((upd (upd fd2 60 ((fd2 60) &&& (x3 ^^^ (-1 : Int32)))) 62 ((fd2 62) + (1 : Int32))), (va_up ar_14 41 dp15)) h hP hD hS (Nat.le_refl _) (Nat.le_refl _))
set_option maxHeartbeats 4000000 in
theorem lp_S_goTide_J2_i2 {p : Program} {l : Launch} {e : Env} {R : Room} {s : State} {m : MethodId} {args : Array Value} {below : List Frame} {meth : Method} {c : Code} {A : Nat → Prop} {Qf : State → Prop} {V : evT} {D : va_G} {gI : Nat → ClassId} {o : Nat} {ax : Nat → Nat} {tl : va_W} {v2 : Int32} {v3 : Int32} {fd : Nat → Int32} {lw : Nat → Int64} {hh : HT} {rn : Option (Nat × Nat)} {K20 : (Int32) → (Nat → Nat → Int32) → Prop} (F : ct_F p m c meth cX1_goTide 6 s args RX1 (some .int) A V D vwCl (tyL gI)) (hRf : 212 ≤ R.frames) (hRl : 5037 ≤ R.locals) (hC : 0 ≤ R.cells) (hSl : 0 ≤ R.slots) (hC1 : 1 ≤ R.cells) (hS7 : 7 ≤ R.slots) (hlt : l.stackTraces = false)
    (hK20 : ∀ (v4 : Int32) (ar : Nat → Nat → Int32), K20 v4 ar → ∀ (H : Heap) (locs : List Loc) (ls : Array Slot), va_P D vwCl (wX gI o ax rn tl fd ar lw hh) H → va_D A (wX gI o ax rn tl fd ar lw hh) → va_S A s.heap H locs → lv_has ls 6 [(0, .ref o), (1, .ref (ax 2)), (2, .int v2), (3, .int v3), (4, .int v4)] → W p l e R s m args below meth c H locs 0 0 Qf (F0 m 20 ls [])) :
    ∀ (v4 : Int32) (t0 : Int32) (t1 : Int32) (ar : Nat → Nat → Int32), wp_S_goTide_J2 2 v2 v3 fd lw hh rn K20 v4 t0 t1 ar → ∀ (H : Heap) (locs : List Loc) (ls : Array Slot), va_P D vwCl (wX gI o ax rn tl fd ar lw hh) H → va_D A (wX gI o ax rn tl fd ar lw hh) → va_S A s.heap H locs → lv_has ls 6 [(0, .ref o), (1, .ref (ax 2)), (2, .int v2), (3, .int v3), (4, .int v4)] → W p l e R s m args below meth c H locs 0 0 Qf (F0 m 116 ls [.int t0, .int t1]) := by
  obtain ⟨⟨hx, hb, hml, hown, hts⟩, hr, hlocks, hA, hK, hE⟩ := id F
  intro v4 t0 t1 ar h H locs ls hP hD hS hl
  unfold wp_S_goTide_J2 at h
  refine lv_idiv hx hb dX1_goTide_116 h.1 ?_
  replace h := h.2
  refine lv_istore (lv' := [(5, .int (t1 / t0)), (0, .ref o), (1, .ref (ax 2)), (2, .int v2), (3, .int v3), (4, .int v4)]) hx hb dX1_goTide_117 hl (by decide) rfl (fun ls hl => ?_)
  refine lv_aload_n hx hb dX1_goTide_119 rfl (lv_at hl 2 rfl) ?_
  refine va_get hx hb hts in_X2 hown hK hP 24 rfl rfl 0 (Nat.le_of_ble_eq_true rfl) (hts _ q135) (fun _ h => h) (v := .ref (ax 48)) rfl dX1_goTide_120 ?_
  refine lv_iload hx hb dX1_goTide_123 (lv_at hl 5 rfl) ?_
  refine lv_iconst (v := (0 : Int32)) hx hb dX1_goTide_125 (by decide) ?_
  refine lv_aload_n hx hb dX1_goTide_126 rfl (lv_at hl 2 rfl) ?_
  refine va_get hx hb hts in_X2 hown hK hP 24 rfl rfl 0 (Nat.le_of_ble_eq_true rfl) (hts _ q135) (fun _ h => h) (v := .ref (ax 48)) rfl dX1_goTide_127 ?_
  refine lv_iload hx hb dX1_goTide_130 (lv_at hl 5 rfl) ?_
  refine va_iald (f := (ar 48)) hx hb hK hP 25 0 rfl rfl h.1 dX1_goTide_132 ?_
  replace h := h.2
  refine lv_iload hx hb dX1_goTide_133 (lv_at hl 0 rfl) ?_
  refine lv_isub hx hb dX1_goTide_135 ?_
  refine va_mmax hx hb (hml.trans hl.1.symm) hown (hts _ q635) (hts _ q636) (hts _ q100) (hts _ q637) (Nat.le_trans (Nat.le_of_ble_eq_true rfl) hRf) (Nat.le_trans (Nat.le_of_ble_eq_true rfl) hRl) hC hSl dX1_goTide_136 ?_
  refine pt_iast (f := (ar 48)) hx hb hK hP hD hS 25 0 rfl rfl h.1 dX1_goTide_139 wXA_48 (fun H locs hP hD hS => ?_)
  replace h := h.2
  refine lv_iinc (v := (v4 + (1 : Int32))) (lv' := [(4, .int (v4 + (1 : Int32))), (5, .int (t1 / t0)), (0, .ref o), (1, .ref (ax 2)), (2, .int v2), (3, .int v3)]) hx hb dX1_goTide_140 hl (k := 5) rfl rfl (by decide) rfl (fun ls hl => ?_)
  refine lv_goto (tgt := 20) hx hb dX1_goTide_143 (by decide) ?_
  exact hK20 _ _ h _ _ _ hP hD hS (lv_sub hl [2, 3, 4, 5, 0] rfl)
set_option maxHeartbeats 4000000 in
theorem lp_S_goTide_L1_i2 {p : Program} {l : Launch} {e : Env} {R : Room} {s : State} {m : MethodId} {args : Array Value} {below : List Frame} {meth : Method} {c : Code} {A : Nat → Prop} {Qf : State → Prop} {V : evT} {D : va_G} {gI : Nat → ClassId} {o : Nat} {ax : Nat → Nat} {tl : va_W} {v2 : Int32} {v3 : Int32} {fd : Nat → Int32} {lw : Nat → Int64} {hh : HT} {rn : Option (Nat × Nat)} {K146 : (Nat → Nat → Int32) → Prop} (F : ct_F p m c meth cX1_goTide 6 s args RX1 (some .int) A V D vwCl (tyL gI)) (hRf : 212 ≤ R.frames) (hRl : 5037 ≤ R.locals) (hC : 0 ≤ R.cells) (hSl : 0 ≤ R.slots) (hC1 : 1 ≤ R.cells) (hS7 : 7 ≤ R.slots) (hlt : l.stackTraces = false)
    (hK146 : ∀ (ar : Nat → Nat → Int32), K146 ar → ∀ (H : Heap) (locs : List Loc) (ls : Array Slot), va_P D vwCl (wX gI o ax rn tl fd ar lw hh) H → va_D A (wX gI o ax rn tl fd ar lw hh) → va_S A s.heap H locs → lv_has ls 6 [(0, .ref o), (1, .ref (ax 2)), (3, .int v3)] → W p l e R s m args below meth c H locs 0 0 Qf (F0 m 146 ls [])) :
    ∀ (n : Nat) (v4 : Int32) (ar : Nat → Nat → Int32), wp_S_goTide_L1 2 v2 v3 fd lw hh rn K146 n v4 ar → ∀ (H : Heap) (locs : List Loc) (ls : Array Slot), va_P D vwCl (wX gI o ax rn tl fd ar lw hh) H → va_D A (wX gI o ax rn tl fd ar lw hh) → va_S A s.heap H locs → lv_has ls 6 [(0, .ref o), (1, .ref (ax 2)), (2, .int v2), (3, .int v3), (4, .int v4)] → W p l e R s m args below meth c H locs 0 0 Qf (F0 m 20 ls []) := by
  obtain ⟨⟨hx, hb, hml, hown, hts⟩, hr, hlocks, hA, hK, hE⟩ := id F
  intro n
  induction n with
  | zero => intro v4 ar h; exact h.elim
  | succ n ih =>
    intro v4 ar h H locs ls hP hD hS hl
    unfold wp_S_goTide_L1 at h
    refine lv_iload hx hb dX1_goTide_20 (lv_at hl 4 rfl) ?_
    refine lv_aload_n hx hb dX1_goTide_22 rfl (lv_at hl 0 rfl) ?_
    refine va_get hx hb hts in_X1 hown hK hP 0 rfl rfl 9 (Nat.le_of_ble_eq_true rfl) (hts _ q195) (fun _ h => h) (v := .int (fd 9)) rfl dX1_goTide_23 ?_
    refine lv_icmp_ge (tgt := 146) hx hb dX1_goTide_26 (by decide) (fun c13 => ?_) (fun c13 => ?_)
    · replace h := h.1 c13
      exact hK146 _ h _ _ _ hP hD hS (lv_sub hl [0, 1, 3] rfl)
    · replace h := h.2 c13
      refine lv_iload_n hx hb dX1_goTide_29 rfl (lv_at hl 3 rfl) ?_
      refine lv_iload hx hb dX1_goTide_30 (lv_at hl 4 rfl) ?_
      refine cl_i0 F (va_runS (As := [.int v3, .int v4]) (rest := []) ⟨hx, hb, hml, hown, hts⟩ (ct_X1_has h _) (va_cwS 2 hts (lw_S q680 q681 q94 q682) rfl rfl rfl (by decide +kernel) ⟨Nat.le_trans (Nat.le_of_ble_eq_true rfl) hRf, Nat.le_trans (Nat.le_of_ble_eq_true rfl) hRl⟩) ⟨ct_blind, ct_at F hS ct_nP ct_nD⟩ rfl rfl hl.1 rfl (lv_room (Nat.le_of_ble_eq_true rfl)) dX1_goTide_32 ⟨hC, hSl⟩) rfl rfl hP hS ?_
      rintro x4 _ H locs h hP hS
      refine lv_if_eq (tgt := 82) hx hb dX1_goTide_35 (by decide) (fun c12 => ?_) (fun c12 => ?_)
      · replace h := h.1 c12
        refine lv_iconst (v := (0 : Int32)) hx hb dX1_goTide_82 (by decide) ?_
        refine lv_iload_n hx hb dX1_goTide_83 rfl (lv_at hl 2 rfl) ?_
        refine lv_bipush (v := (10 : Int32)) hx hb dX1_goTide_84 (by decide) ?_
        refine lv_aload_n hx hb dX1_goTide_86 rfl (lv_at hl 0 rfl) ?_
        refine va_get hx hb hts in_X1 hown hK hP 0 rfl rfl 4 (Nat.le_of_ble_eq_true rfl) (hts _ q188) (fun _ h => h) (v := .ref (ax 4)) rfl dX1_goTide_87 ?_
        refine lv_iload hx hb dX1_goTide_90 (lv_at hl 4 rfl) ?_
        refine va_iald (f := (ar 4)) hx hb hK hP 1 0 rfl rfl h.1 dX1_goTide_92 ?_
        replace h := h.2
        refine lv_imul hx hb dX1_goTide_93 ?_
        refine lv_isub hx hb dX1_goTide_94 ?_
        refine va_mmax hx hb (hml.trans hl.1.symm) hown (hts _ q635) (hts _ q636) (hts _ q100) (hts _ q637) (Nat.le_trans (Nat.le_of_ble_eq_true rfl) hRf) (Nat.le_trans (Nat.le_of_ble_eq_true rfl) hRl) hC hSl dX1_goTide_95 ?_
        refine lv_aload_n hx hb dX1_goTide_98 rfl (lv_at hl 1 rfl) ?_
        refine va_get hx hb hts in_X2 hown hK hP 24 rfl rfl 4 (Nat.le_of_ble_eq_true rfl) (hts _ q146) (fun _ h => h) (v := .int (fd 66)) rfl dX1_goTide_99 ?_
        refine lv_iload hx hb dX1_goTide_102 (lv_at hl 4 rfl) ?_
        refine cl_i0 F (va_runS (As := [.int (fd 66), .int v4]) (rest := [.int (mxI (0 : Int32) (v2 - ((10 : Int32) * (ar 4 v4.toNatClampNeg))))]) ⟨hx, hb, hml, hown, hts⟩ (ct_X1_has h _) (va_cwS 2 hts (lw_S q680 q681 q94 q682) rfl rfl rfl (by decide +kernel) ⟨Nat.le_trans (Nat.le_of_ble_eq_true rfl) hRf, Nat.le_trans (Nat.le_of_ble_eq_true rfl) hRl⟩) ⟨ct_blind, ct_at F hS ct_nP ct_nD⟩ rfl rfl hl.1 rfl (lv_room (Nat.le_of_ble_eq_true rfl)) dX1_goTide_104 ⟨hC, hSl⟩) rfl rfl hP hS ?_
        rintro x5 _ H locs h hP hS
        refine lv_if_eq (tgt := 115) hx hb dX1_goTide_107 (by decide) (fun c10 => ?_) (fun c10 => ?_)
        · replace h := h.1 c10
          refine lv_iconst (v := (4 : Int32)) hx hb dX1_goTide_115 (by decide) ?_
          refine lp_S_goTide_J2_i2 F hRf hRl hC hSl hC1 hS7 hlt ?hk20 _ _ _ _ h _ _ _ hP hD hS (lv_sub hl [0, 1, 2, 3, 4] rfl)
          case hk20 =>
            intro v4_6 ar_7 h H locs ls hP hD hS hl
            exact ih _ _ h _ _ _ hP hD hS (lv_sub hl [0, 1, 2, 3, 4] rfl)
        · replace h := h.2 c10
          refine lv_bipush (v := (8 : Int32)) hx hb dX1_goTide_110 (by decide) ?_
          refine lv_goto (tgt := 116) hx hb dX1_goTide_112 (by decide) ?_
          refine lp_S_goTide_J2_i2 F hRf hRl hC hSl hC1 hS7 hlt ?hk20 _ _ _ _ h _ _ _ hP hD hS (lv_sub hl [0, 1, 2, 3, 4] rfl)
          case hk20 =>
            intro v4_8 ar_9 h H locs ls hP hD hS hl
            exact ih _ _ h _ _ _ hP hD hS (lv_sub hl [0, 1, 2, 3, 4] rfl)
      · replace h := h.2 c12
        refine lv_aload_n hx hb dX1_goTide_38 rfl (lv_at hl 1 rfl) ?_
        refine va_get hx hb hts in_X2 hown hK hP 24 rfl rfl 1 (Nat.le_of_ble_eq_true rfl) (hts _ q137) (fun _ h => h) (v := .ref (ax 49)) rfl dX1_goTide_39 ?_
        refine lv_iload hx hb dX1_goTide_42 (lv_at hl 4 rfl) ?_
        refine lv_sipush (v := (999 : Int32)) hx hb dX1_goTide_44 (by decide) ?_
        refine lv_aload_n hx hb dX1_goTide_47 rfl (lv_at hl 1 rfl) ?_
        refine va_get hx hb hts in_X2 hown hK hP 24 rfl rfl 1 (Nat.le_of_ble_eq_true rfl) (hts _ q137) (fun _ h => h) (v := .ref (ax 49)) rfl dX1_goTide_48 ?_
        refine lv_iload hx hb dX1_goTide_51 (lv_at hl 4 rfl) ?_
        refine va_iald (f := (ar 49)) hx hb hK hP 26 0 rfl rfl h.1 dX1_goTide_53 ?_
        replace h := h.2
        refine lv_iload_n hx hb dX1_goTide_54 rfl (lv_at hl 2 rfl) ?_
        refine lv_iadd hx hb dX1_goTide_55 ?_
        refine lv_aload_n hx hb dX1_goTide_56 rfl (lv_at hl 0 rfl) ?_
        refine lv_aload_n hx hb dX1_goTide_57 rfl (lv_at hl 1 rfl) ?_
        refine lv_iload hx hb dX1_goTide_58 (lv_at hl 4 rfl) ?_
        refine cl_i F (va_runV (As := [.ref (ax 2), .int v4]) (rest := [.int (((ar 49) v4.toNatClampNeg) + v2), .int (999 : Int32), .int v4, .ref (ax 49)]) ⟨hx, hb, hml, hown, hts⟩ (ct_S_topOf_i2 h _) (cwV 2 hts (lw_V q756 q758 qs23 q94 q759) rfl rfl rfl (by decide +kernel) ⟨Nat.le_trans (Nat.le_of_ble_eq_true rfl) hRf, Nat.le_trans (Nat.le_of_ble_eq_true rfl) hRl⟩) ⟨ct_blind, va_recv hK hP (ci := 0) (q0 := 0) rfl rfl, ct_at F hS hP hD⟩ rfl rfl hl.1 rfl (lv_room (Nat.le_of_ble_eq_true rfl)) dX1_goTide_60 ⟨hC, hSl⟩) rfl rfl hD hS ?_
        rintro x11 _ H locs h hP hD hS
        refine lv_isub hx hb dX1_goTide_63 ?_
        refine va_mmin hx hb (hml.trans hl.1.symm) hown (hts _ q634) (hts _ q336) (hts _ q100) (hts _ q337) (Nat.le_trans (Nat.le_of_ble_eq_true rfl) hRf) (Nat.le_trans (Nat.le_of_ble_eq_true rfl) hRl) hC hSl dX1_goTide_64 ?_
        refine pt_iast (f := (ar 49)) hx hb hK hP hD hS 26 0 rfl rfl h.1 dX1_goTide_67 wXA_49 (fun H locs hP hD hS => ?_)
        replace h := h.2
        refine lv_aload_n hx hb dX1_goTide_68 rfl (lv_at hl 1 rfl) ?_
        refine va_get hx hb hts in_X2 hown hK hP 24 rfl rfl 0 (Nat.le_of_ble_eq_true rfl) (hts _ q135) (fun _ h => h) (v := .ref (ax 48)) rfl dX1_goTide_69 ?_
        refine lv_iload hx hb dX1_goTide_72 (lv_at hl 4 rfl) ?_
        refine lv_dup2_11 hx hb dX1_goTide_74 rfl rfl ?_
        refine va_iald (f := (ar 48)) hx hb hK hP 25 0 rfl rfl h.1 dX1_goTide_75 ?_
        replace h := h.2
        refine lv_iconst (v := (2 : Int32)) hx hb dX1_goTide_76 (by decide) ?_
        refine lv_idiv hx hb dX1_goTide_77 (by decide) ?_
        refine pt_iast (f := (ar 48)) hx hb hK hP hD hS 25 0 rfl rfl h.1 dX1_goTide_78 wXA_48 (fun H locs hP hD hS => ?_)
        replace h := h.2
        refine lv_goto (tgt := 140) hx hb dX1_goTide_79 (by decide) ?_
        refine lv_iinc (v := (v4 + (1 : Int32))) (lv' := [(4, .int (v4 + (1 : Int32))), (0, .ref o), (1, .ref (ax 2)), (2, .int v2), (3, .int v3)]) hx hb dX1_goTide_140 hl (k := 4) rfl rfl (by decide) rfl (fun ls hl => ?_)
        refine lv_goto (tgt := 20) hx hb dX1_goTide_143 (by decide) ?_
        exact ih _ _ h _ _ _ hP hD hS (lv_sub hl [1, 2, 3, 4, 0] rfl)
set_option maxHeartbeats 4000000 in
theorem cz_S_goTide_i2 {l : Launch} {V : evT} {D : va_G} {gI : Nat → ClassId} {o : Nat} {ax : Nat → Nat} {tl : va_W} (hlt : l.stackTraces = false) {fd : Nat → Int32} {ar : Nat → Nat → Int32} {lw : Nat → Int64} {hh : HT} {rn : Option (Nat × Nat)} {Q : Int32 → (Nat → Int32) → (Nat → Nat → Int32) → Prop} (h : wp_S_goTide 2 fd ar lw hh rn Q) : cz_i l V D (tyL gI) yX1_goTide cX1_goTide 6 .int { frames := 212, cells := 1, slots := 7, locals := 5037 } [.ref o, .ref (ax 2)] (wX gI o ax rn tl fd ar lw hh) (fun u : (Nat → Int32) × (Nat → Nat → Int32) => (wX gI o ax rn tl u.1 u.2 lw hh)) (fun (x : Int32) (u : (Nat → Int32) × (Nat → Nat → Int32)) => Q x u.1 u.2) := by
  refine cz_ofi RX1 rfl (by decide +kernel) (Nat.le_of_ble_eq_true rfl) ?_
  intro p e s m args below meth c A F hP hD ls hl
  obtain ⟨⟨hx, hb, hml, hown, hts⟩, hr, hlocks, hA, hK, hE⟩ := id F
  have hS : va_S A s.heap s.heap [] := va_S.rf
  have hl : lv_has ls 6 [(0, .ref o), (1, .ref (ax 2))] := hl
  have hRf : 212 ≤ ({ frames := 212, cells := 1, slots := 7, locals := 5037 } : Room).frames := Nat.le_refl _
  have hC1 : 1 ≤ ({ frames := 212, cells := 1, slots := 7, locals := 5037 } : Room).cells := Nat.le_refl _
  have hS7 : 7 ≤ ({ frames := 212, cells := 1, slots := 7, locals := 5037 } : Room).slots := Nat.le_refl _
  have hRl : 5037 ≤ ({ frames := 212, cells := 1, slots := 7, locals := 5037 } : Room).locals := Nat.le_refl _
  have hC : 0 ≤ ({ frames := 212, cells := 1, slots := 7, locals := 5037 } : Room).cells := Nat.zero_le _
  have hSl : 0 ≤ ({ frames := 212, cells := 1, slots := 7, locals := 5037 } : Room).slots := Nat.zero_le _
  unfold wp_S_goTide at h
  refine lv_aload_n hx hb dX1_goTide_0 rfl (lv_at hl 0 rfl) ?_
  refine lv_aload_n hx hb dX1_goTide_1 rfl (lv_at hl 1 rfl) ?_
  refine lv_aload_n hx hb dX1_goTide_2 rfl (lv_at hl 1 rfl) ?_
  refine va_get hx hb hts in_X2 hown hK hP 24 rfl rfl 6 (Nat.le_of_ble_eq_true rfl) (hts _ q151) (fun _ h => h) (v := .int (fd 68)) rfl dX1_goTide_3 ?_
  refine clz_i F (vx_runV (As := [.ref (ax 2), .int (fd 68)]) (rest := []) ⟨hx, hb, hml, hown, hts⟩ (cz_S_levelOf_i2 hlt h _) (cwV 2 hts (lw_V q736 q738 qs20 q94 q739) rfl rfl rfl (by decide +kernel) ⟨Nat.le_trans (Nat.le_of_ble_eq_true rfl) hRf, Nat.le_trans (Nat.le_of_ble_eq_true rfl) hRl⟩) ⟨ct_blind, va_recv hK hP (ci := 0) (q0 := 0) rfl rfl, ct_at F hS hP hD⟩ rfl rfl hl.1 rfl (lv_room (Nat.le_of_ble_eq_true rfl)) dX1_goTide_6 ⟨hC1, hS7⟩) hD hS ?_
  rintro x1 fd2 H locs h hP hD hS
  refine lv_istore_n (lv' := [(2, .int x1), (0, .ref o), (1, .ref (ax 2))]) hx hb dX1_goTide_9 rfl hl (by decide) rfl (fun ls hl => ?_)
  refine lv_aload_n hx hb dX1_goTide_10 rfl (lv_at hl 1 rfl) ?_
  refine lv_aload_n hx hb dX1_goTide_11 rfl (lv_at hl 2 rfl) ?_
  refine lv_iload_n hx hb dX1_goTide_12 rfl (lv_at hl 0 rfl) ?_
  refine cl_i F (va_runV (As := [.ref (ax 2), .int x1]) (rest := []) ⟨hx, hb, hml, hown, hts⟩ (ct_S_below_i2 h _) (cwV 2 hts (lw_V q752 q754 qs22 q94 q755) rfl rfl rfl (by decide +kernel) ⟨Nat.le_trans (Nat.le_of_ble_eq_true rfl) hRf, Nat.le_trans (Nat.le_of_ble_eq_true rfl) hRl⟩) ⟨ct_blind, va_recv hK hP (ci := 0) (q0 := 0) rfl rfl, ct_at F hS hP hD⟩ rfl rfl hl.1 rfl (lv_room (Nat.le_of_ble_eq_true rfl)) dX1_goTide_13 ⟨hC, hSl⟩) rfl rfl hD hS ?_
  rintro x3 _ H locs h hP hD hS
  refine lv_istore_n (lv' := [(3, .int x3), (2, .int x1), (0, .ref o), (1, .ref (ax 2))]) hx hb dX1_goTide_16 rfl hl (by decide) rfl (fun ls hl => ?_)
  refine lv_iconst (v := (0 : Int32)) hx hb dX1_goTide_17 (by decide) ?_
  refine lv_istore (lv' := [(4, .int (0 : Int32)), (3, .int x3), (2, .int x1), (0, .ref o), (1, .ref (ax 2))]) hx hb dX1_goTide_18 hl (by decide) rfl (fun ls hl => ?_)
  obtain ⟨k20, h⟩ := h
  refine lp_S_goTide_L1_i2 F hRf hRl hC hSl hC1 hS7 hlt ?hk146 k20 _ _ h _ _ _ hP hD hS (lv_sub hl [3, 4, 2, 1, 0] rfl)
  case hk146 =>
    intro ar_14 h H locs ls hP hD hS hl
    refine lv_aload_n hx hb dX1_goTide_146 rfl (lv_at hl 1 rfl) ?_
    refine lv_dup hx hb dX1_goTide_147 rfl ?_
    refine va_get hx hb hts in_X2 hown hK hP 24 rfl rfl 4 (Nat.le_of_ble_eq_true rfl) (hts _ q146) (fun _ h => h) (v := .int (fd2 66)) rfl dX1_goTide_148 ?_
    refine lv_iload_n hx hb dX1_goTide_151 rfl (lv_at hl 2 rfl) ?_
    refine lv_iconst (v := (-1 : Int32)) hx hb dX1_goTide_152 (by decide) ?_
    refine lv_ixor hx hb dX1_goTide_153 ?_
    refine lv_iand hx hb dX1_goTide_154 ?_
    refine pt_put (v := .int ((fd2 66) &&& (x3 ^^^ (-1 : Int32)))) hx hb hts in_X2 tyX2 tyX2_ok nmX2 hown hK hP hD hS 24 rfl rfl 4 (Nat.le_of_ble_eq_true rfl) (hts _ q146) (fun _ h => h) rfl (ty := .int) (by decide +kernel) rfl rfl (Nat.le_of_ble_eq_true rfl) dX1_goTide_155 wXB_2_mo (fun H locs hP hD hS => ?_)
    refine lv_aload_n hx hb dX1_goTide_158 rfl (lv_at hl 1 rfl) ?_
    refine lv_aload_n hx hb dX1_goTide_159 rfl (lv_at hl 0 rfl) ?_
    refine va_get hx hb hts in_X1 hown hK hP 0 rfl rfl 9 (Nat.le_of_ble_eq_true rfl) (hts _ q195) (fun _ h => h) (v := .int (fd2 9)) rfl dX1_goTide_160 ?_
    refine lv_aload_n hx hb dX1_goTide_163 rfl (lv_at hl 0 rfl) ?_
    refine va_get hx hb hts in_X1 hown hK hP 0 rfl rfl 5 (Nat.le_of_ble_eq_true rfl) (hts _ q189) (fun _ h => h) (v := .ref (ax 5)) rfl dX1_goTide_164 ?_
    refine cl_vL F (va_runV (As := [.int (fd2 9), .ref (ax 5)]) (rest := []) ⟨hx, hb, hml, hown, hts⟩ (ct_B_flow (o := (ax 2)) (ab := axb ax 2) (pd := (ax 5)) h _) (cwV 2 hts (lw_V q760 q761 q762 q95 q763) rfl rfl rfl (by decide +kernel) ⟨Nat.le_trans (Nat.le_of_ble_eq_true rfl) hRf, Nat.le_trans (Nat.le_of_ble_eq_true rfl) hRl⟩) ⟨ct_blind, va_recv hK hP (ci := 1) (q0 := 24) rfl rfl, ct_at F hS (putL_P hP (ps := [24, 25, 26, 27, 28, 2]) rfl) (hD.sub ([24, 25, 26, 27, 28, 2]) (by decide) rfl)⟩ rfl rfl hl.1 rfl (lv_room (Nat.le_of_ble_eq_true rfl)) dX1_goTide_167 ⟨hC, hSl⟩) rfl rfl hP hD hS (ps := [24, 25, 26, 27, 28, 2]) rfl (fun _ => rfl) (fun _ => wXPD_2_dp_5) ?_
    rintro dp15 H locs h hP hD hS
    refine lv_aload_n hx hb dX1_goTide_170 rfl (lv_at hl 1 rfl) ?_
    refine lv_dup hx hb dX1_goTide_171 rfl ?_
    refine va_get hx hb hts in_X2 hown hK hP 24 rfl rfl 6 (Nat.le_of_ble_eq_true rfl) (hts _ q151) (fun _ h => h) (v := .int (fd2 68)) rfl dX1_goTide_172 ?_
    refine lv_iconst (v := (1 : Int32)) hx hb dX1_goTide_175 (by decide) ?_
    refine lv_iadd hx hb dX1_goTide_176 ?_
    refine pt_put (v := .int ((fd2 68) + (1 : Int32))) hx hb hts in_X2 tyX2 tyX2_ok nmX2 hown hK hP hD hS 24 rfl rfl 6 (Nat.le_of_ble_eq_true rfl) (hts _ q151) (fun _ h => h) rfl (ty := .int) (by decide +kernel) rfl rfl (Nat.le_of_ble_eq_true rfl) dX1_goTide_177 wXB_2_ti (fun H locs hP hD hS => ?_)
    refine lv_iload_n hx hb dX1_goTide_180 rfl (lv_at hl 2 rfl) ?_
    exact vx_ret (rt_i F dX1_goTide_181 rfl ((upd (upd fd2 66 ((fd2 66) &&& (x3 ^^^ (-1 : Int32)))) 68 ((fd2 68) + (1 : Int32))), (va_up ar_14 49 dp15)) h hP hD hS (Nat.le_refl _) (Nat.le_refl _))
