/-! walks of the sea -/
set_option maxRecDepth 100000
set_option maxHeartbeats 4000000 in
theorem ctg_X1_common {l : Launch} {V : evT} {D : va_G} {gI : Nat → ClassId} : ∀ d : Nat, (∀ {v0 : Int64} {v2 : Int64} {Q : Int64 → Prop}, wp_X1_common d v0 v2 Q → ct_l l V D vwCl (tyL gI) yX1_common cX1_common 4 { frames := 1 + d, cells := 0, slots := 0, locals := 29 + d * 23 } [.long v0, .long v2] [] (fun u : Unit => []) (fun (x : Int64) (u : Unit) => Q x)) := by
  intro d
  induction d with
  | zero => exact fun h => False.elim h
  | succ d ih =>
    have hrec0 := @ih
    intro v0 v2 Q h
    refine ct_ofl RX1 rfl (by decide +kernel) (Nat.le_of_ble_eq_true rfl) ?_
    intro p e s m args below meth c A F hP hD ls hl
    obtain ⟨⟨hx, hb, hml, hown, hts⟩, hr, hlocks, hA, hK, hE⟩ := id F
    have hS : va_S A s.heap s.heap [] := va_S.rf
    have hl : lv_has ls 4 [(0, .long v0), (2, .long v2)] := hl
    have hRf : 1 + (d + 1) ≤ ({ frames := 1 + (d + 1), cells := 0, slots := 0, locals := 29 + (d + 1) * 23 } : Room).frames := Nat.le_refl _
    have hRl : 29 + (d + 1) * 23 ≤ ({ frames := 1 + (d + 1), cells := 0, slots := 0, locals := 29 + (d + 1) * 23 } : Room).locals := Nat.le_refl _
    have hC : 0 ≤ ({ frames := 1 + (d + 1), cells := 0, slots := 0, locals := 29 + (d + 1) * 23 } : Room).cells := Nat.zero_le _
    have hSl : 0 ≤ ({ frames := 1 + (d + 1), cells := 0, slots := 0, locals := 29 + (d + 1) * 23 } : Room).slots := Nat.zero_le _
    unfold wp_X1_common at h
    refine lv_lload_n hx hb dX1_common_0 rfl (lv_at hl 1 rfl) ?_
    refine lv_lconst (v := (0 : Int64)) hx hb dX1_common_1 (by decide) ?_
    refine W.lcmp hx hb dX1_common_2 ?_
    refine lv_if_ne (tgt := 10) hx hb dX1_common_3 (by decide) (fun c2 => ?_) (fun c2 => ?_)
    · replace h := h.1 c2
      refine lv_lload_n hx hb dX1_common_10 rfl (lv_at hl 1 rfl) ?_
      refine lv_lload_n hx hb dX1_common_11 rfl (lv_at hl 0 rfl) ?_
      refine lv_lload_n hx hb dX1_common_12 rfl (lv_at hl 1 rfl) ?_
      refine lv_lrem hx hb dX1_common_13 h.1 ?_
      replace h := h.2
      refine cl_l0 F (va_runS (As := [.long v2, .long (v0 - v0 / v2 * v2)]) (rest := []) ⟨hx, hb, hml, hown, hts⟩ (hrec0 h _) (va_cwS 2 hts (lw_S q1113 q1114 q94 q1115) rfl rfl rfl (by decide +kernel) ⟨hRf, by have hh := hRl; show 8 + (_ + 11) + (29 + d * 23) ≤ _; omega⟩) ⟨ct_blind, ct_at F hS ct_nP ct_nD⟩ rfl rfl hl.1 rfl (lv_room (Nat.le_of_ble_eq_true rfl)) dX1_common_14 ⟨hC, hSl⟩) rfl rfl hP hS ?_
      rintro x1 _ H locs h hP hS
      exact rt_l F dX1_common_17 () h hP hD hS (Nat.le_refl _) (Nat.le_refl _)
    · replace h := h.2 c2
      refine lv_lload_n hx hb dX1_common_6 rfl (lv_at hl 0 rfl) ?_
      refine lv_goto (tgt := 17) hx hb dX1_common_7 (by decide) ?_
      exact rt_l F dX1_common_17 () h hP hD hS (Nat.le_refl _) (Nat.le_refl _)
theorem ct_X1_common {l : Launch} {V : evT} {D : va_G} {gI : Nat → ClassId} : ∀ {v0 : Int64} {v2 : Int64} {Q : Int64 → Prop}, wp_X1_common 100 v0 v2 Q → ct_l l V D vwCl (tyL gI) yX1_common cX1_common 4 { frames := 101, cells := 0, slots := 0, locals := 2329 } [.long v0, .long v2] [] (fun u : Unit => []) (fun (x : Int64) (u : Unit) => Q x) := fun h => (ctg_X1_common 100) h
set_option maxHeartbeats 4000000 in
theorem lp_S_sign_L1 {p : Program} {l : Launch} {e : Env} {R : Room} {s : State} {m : MethodId} {args : Array Value} {below : List Frame} {meth : Method} {c : Code} {cells slots : Nat} {A : Nat → Prop} {Qf : State → Prop} {V : evT} {D : va_G} {gI : Nat → ClassId} {o : Nat} {ax : Nat → Nat} {rn : Option (Nat × Nat)} {tl : va_W} {v1 : Int32} {lw : Nat → Int64} {hh : HT} {K49 : (Nat → Int32) → (Nat → Nat → Int32) → Prop} (F : ct_F p m c meth cX1_sign 3 s args RX1 (some .int) A V D vwCl (tyL gI)) (hRf : 1 ≤ R.frames) (hRl : 12 ≤ R.locals) (hC : cells ≤ R.cells) (hSl : slots ≤ R.slots)
    (hK49 : ∀ (fd : Nat → Int32) (ar : Nat → Nat → Int32), K49 fd ar → ∀ (H : Heap) (locs : List Loc) (ls : Array Slot), va_P D vwCl (wX gI o ax rn tl fd ar lw hh) H → va_D A (wX gI o ax rn tl fd ar lw hh) → va_S A s.heap H locs → lv_has ls 3 [(0, .ref o)] → W p l e R s m args below meth c H locs cells slots Qf (F0 m 49 ls [])) :
    ∀ (n : Nat) (v2 : Int32) (fd : Nat → Int32) (ar : Nat → Nat → Int32), wp_S_sign_L1 v1 lw hh K49 n v2 fd ar → ∀ (H : Heap) (locs : List Loc) (ls : Array Slot), va_P D vwCl (wX gI o ax rn tl fd ar lw hh) H → va_D A (wX gI o ax rn tl fd ar lw hh) → va_S A s.heap H locs → lv_has ls 3 [(0, .ref o), (1, .int v1), (2, .int v2)] → W p l e R s m args below meth c H locs cells slots Qf (F0 m 16 ls []) := by
  obtain ⟨⟨hx, hb, hml, hown, hts⟩, hr, hlocks, hA, hK, hE⟩ := id F
  intro n
  induction n with
  | zero => intro v2 fd ar h; exact h.elim
  | succ n ih =>
    intro v2 fd ar h H locs ls hP hD hS hl
    unfold wp_S_sign_L1 at h
    refine lv_iload_n hx hb dX1_sign_16 rfl (lv_at hl 2 rfl) ?_
    refine lv_if_lt (tgt := 49) hx hb dX1_sign_17 (by decide) (fun c1 => ?_) (fun c1 => ?_)
    · replace h := h.1 c1
      exact hK49 _ _ h _ _ _ hP hD hS (lv_sub hl [0] rfl)
    · replace h := h.2 c1
      refine lv_aload_n hx hb dX1_sign_20 rfl (lv_at hl 0 rfl) ?_
      refine va_get hx hb hts in_X1 hown hK hP 0 rfl rfl 15 (Nat.le_of_ble_eq_true rfl) (hts _ q206) (fun _ h => h) (v := .ref (ax 15)) rfl dX1_sign_21 ?_
      refine lv_aload_n hx hb dX1_sign_24 rfl (lv_at hl 0 rfl) ?_
      refine va_get hx hb hts in_X1 hown hK hP 0 rfl rfl 16 (Nat.le_of_ble_eq_true rfl) (hts _ q207) (fun _ h => h) (v := .int (fd 16)) rfl dX1_sign_25 ?_
      refine lv_iload_n hx hb dX1_sign_28 rfl (lv_at hl 1 rfl) ?_
      refine lv_iload_n hx hb dX1_sign_29 rfl (lv_at hl 2 rfl) ?_
      refine lv_ishr hx hb dX1_sign_30 ?_
      refine lv_i2b (v := ((v1 >>> (v2 &&& 31)).toInt8.toInt32)) hx hb dX1_sign_31 rfl ?_
      refine pt_bast (f := (ar 15)) hx hb hK hP hD hS 6 3 rfl rfl h.1 dX1_sign_32 wXA_15 (fun H locs hP hD hS => ?_)
      replace h := h.2
      refine lv_aload_n hx hb dX1_sign_33 rfl (lv_at hl 0 rfl) ?_
      refine lv_dup hx hb dX1_sign_34 rfl ?_
      refine va_get hx hb hts in_X1 hown hK hP 0 rfl rfl 16 (Nat.le_of_ble_eq_true rfl) (hts _ q207) (fun _ h => h) (v := .int (fd 16)) rfl dX1_sign_35 ?_
      refine lv_iconst (v := (1 : Int32)) hx hb dX1_sign_38 (by decide) ?_
      refine lv_iadd hx hb dX1_sign_39 ?_
      refine pt_put (v := .int ((fd 16) + (1 : Int32))) hx hb hts in_X1 tyX1 tyX1_ok nmX1 hown hK hP hD hS 0 rfl rfl 16 (Nat.le_of_ble_eq_true rfl) (hts _ q207) (fun _ h => h) rfl (ty := .int) (by decide +kernel) rfl rfl (Nat.le_of_ble_eq_true rfl) dX1_sign_40 wXF_16 (fun H locs hP hD hS => ?_)
      refine lv_iinc (v := (v2 + (-8 : Int32))) (lv' := [(2, .int (v2 + (-8 : Int32))), (0, .ref o), (1, .int v1)]) hx hb dX1_sign_43 hl (k := 2) rfl rfl (by decide) rfl (fun ls hl => ?_)
      refine lv_goto (tgt := 16) hx hb dX1_sign_46 (by decide) ?_
      exact ih _ _ _ h _ _ _ hP hD hS (lv_sub hl [1, 2, 0] rfl)
set_option maxHeartbeats 4000000 in
theorem ct_S_sign {l : Launch} {V : evT} {D : va_G} {gI : Nat → ClassId} {o : Nat} {ax : Nat → Nat} {rn : Option (Nat × Nat)} {tl : va_W} {v1 : Int32} {fd : Nat → Int32} {ar : Nat → Nat → Int32} {lw : Nat → Int64} {hh : HT} {Q : Int32 → (Nat → Int32) → (Nat → Nat → Int32) → Prop} (h : wp_S_sign v1 fd ar lw hh Q) : ct_i l V D vwCl (tyL gI) yX1_sign cX1_sign 3 .int { frames := 1, cells := 0, slots := 0, locals := 12 } [.ref o, .int v1] (wX gI o ax rn tl fd ar lw hh) (fun u : (Nat → Int32) × (Nat → Nat → Int32) => (wX gI o ax rn tl u.1 u.2 lw hh)) (fun (x : Int32) (u : (Nat → Int32) × (Nat → Nat → Int32)) => Q x u.1 u.2) := by
  refine ct_ofi RX1 rfl (by decide +kernel) (Nat.le_of_ble_eq_true rfl) ?_
  intro p e s m args below meth c A F hP hD ls hl
  obtain ⟨⟨hx, hb, hml, hown, hts⟩, hr, hlocks, hA, hK, hE⟩ := id F
  have hS : va_S A s.heap s.heap [] := va_S.rf
  have hl : lv_has ls 3 [(0, .ref o), (1, .int v1)] := hl
  have hRf : 1 ≤ ({ frames := 1, cells := 0, slots := 0, locals := 12 } : Room).frames := Nat.le_refl _
  have hRl : 12 ≤ ({ frames := 1, cells := 0, slots := 0, locals := 12 } : Room).locals := Nat.le_refl _
  have hC : 0 ≤ ({ frames := 1, cells := 0, slots := 0, locals := 12 } : Room).cells := Nat.le_refl _
  have hSl : 0 ≤ ({ frames := 1, cells := 0, slots := 0, locals := 12 } : Room).slots := Nat.le_refl _
  unfold wp_S_sign at h
  refine lv_aload_n hx hb dX1_sign_0 rfl (lv_at hl 0 rfl) ?_
  refine va_get hx hb hts in_X1 hown hK hP 0 rfl rfl 16 (Nat.le_of_ble_eq_true rfl) (hts _ q207) (fun _ h => h) (v := .int (fd 16)) rfl dX1_sign_1 ?_
  refine lv_iconst (v := (4 : Int32)) hx hb dX1_sign_4 (by decide) ?_
  refine lv_iadd hx hb dX1_sign_5 ?_
  refine lv_bipush (v := (80 : Int32)) hx hb dX1_sign_6 (by decide) ?_
  refine lv_icmp_le (tgt := 13) hx hb dX1_sign_8 (by decide) (fun c4 => ?_) (fun c4 => ?_)
  · replace h := h.1 c4
    refine lv_bipush (v := (24 : Int32)) hx hb dX1_sign_13 (by decide) ?_
    refine lv_istore_n (lv' := [(2, .int (24 : Int32)), (0, .ref o), (1, .int v1)]) hx hb dX1_sign_15 rfl hl (by decide) rfl (fun ls hl => ?_)
    obtain ⟨k16, h⟩ := h
    refine lp_S_sign_L1 F hRf hRl hC hSl ?hk49 k16 _ _ _ h _ _ _ hP hD hS (lv_sub hl [1, 2, 0] rfl)
    case hk49 =>
      intro fd_2 ar_3 h H locs ls hP hD hS hl
      refine lv_aload_n hx hb dX1_sign_49 rfl (lv_at hl 0 rfl) ?_
      refine va_get hx hb hts in_X1 hown hK hP 0 rfl rfl 16 (Nat.le_of_ble_eq_true rfl) (hts _ q207) (fun _ h => h) (v := .int (fd_2 16)) rfl dX1_sign_50 ?_
      exact rt_i F dX1_sign_53 rfl (fd_2, ar_3) h hP hD hS (Nat.le_refl _) (Nat.le_refl _)
  · replace h := h.2 c4
    refine lv_iconst (v := (-1 : Int32)) hx hb dX1_sign_11 (by decide) ?_
    exact rt_i F dX1_sign_12 rfl (fd, ar) h hP hD hS (Nat.le_refl _) (Nat.le_refl _)
set_option maxHeartbeats 4000000 in
theorem ct_X1_in {l : Launch} {V : evT} {D : va_G} {gI : Nat → ClassId} {v0 : Int64} {v2 : Int64} {v4 : Int64} {Q : Int32 → Prop} (h : wp_X1_in v0 v2 v4  Q) : ct_i l V D vwCl (tyL gI) yX1_in cX1_in 6 .boolean { frames := 1, cells := 0, slots := 0, locals := 12 } [.long v0, .long v2, .long v4] [] (fun u : Unit => []) (fun (x : Int32) (u : Unit) => Q x) := by
  refine ct_ofi RX1 rfl (by decide +kernel) (Nat.le_of_ble_eq_true rfl) ?_
  intro p e s m args below meth c A F hP hD ls hl
  obtain ⟨⟨hx, hb, hml, hown, hts⟩, hr, hlocks, hA, hK, hE⟩ := id F
  have hS : va_S A s.heap s.heap [] := va_S.rf
  have hl : lv_has ls 6 [(0, .long v0), (2, .long v2), (4, .long v4)] := hl
  have hRf : 1 ≤ ({ frames := 1, cells := 0, slots := 0, locals := 12 } : Room).frames := Nat.le_refl _
  have hRl : 12 ≤ ({ frames := 1, cells := 0, slots := 0, locals := 12 } : Room).locals := Nat.le_refl _
  have hC : 0 ≤ ({ frames := 1, cells := 0, slots := 0, locals := 12 } : Room).cells := Nat.le_refl _
  have hSl : 0 ≤ ({ frames := 1, cells := 0, slots := 0, locals := 12 } : Room).slots := Nat.le_refl _
  unfold wp_X1_in at h
  refine lv_lload_n hx hb dX1_in_0 rfl (lv_at hl 0 rfl) ?_
  refine lv_lload_n hx hb dX1_in_1 rfl (lv_at hl 1 rfl) ?_
  refine W.lcmp hx hb dX1_in_2 ?_
  refine lv_if_lt (tgt := 17) hx hb dX1_in_3 (by decide) (fun c2 => ?_) (fun c2 => ?_)
  · replace h := h.1 c2
    refine lv_iconst (v := (0 : Int32)) hx hb dX1_in_17 (by decide) ?_
    exact rt_i F dX1_in_18 rfl () h hP hD hS (Nat.le_refl _) (Nat.le_refl _)
  · replace h := h.2 c2
    refine lv_lload_n hx hb dX1_in_6 rfl (lv_at hl 0 rfl) ?_
    refine lv_lload hx hb dX1_in_7 (lv_at hl 2 rfl) ?_
    refine W.lcmp hx hb dX1_in_9 ?_
    refine lv_if_gt (tgt := 17) hx hb dX1_in_10 (by decide) (fun c1 => ?_) (fun c1 => ?_)
    · replace h := h.1 c1
      refine lv_iconst (v := (0 : Int32)) hx hb dX1_in_17 (by decide) ?_
      exact rt_i F dX1_in_18 rfl () h hP hD hS (Nat.le_refl _) (Nat.le_refl _)
    · replace h := h.2 c1
      refine lv_iconst (v := (1 : Int32)) hx hb dX1_in_13 (by decide) ?_
      refine lv_goto (tgt := 18) hx hb dX1_in_14 (by decide) ?_
      exact rt_i F dX1_in_18 rfl () h hP hD hS (Nat.le_refl _) (Nat.le_refl _)
set_option maxHeartbeats 4000000 in
theorem ct_S_set {l : Launch} {V : evT} {D : va_G} {gI : Nat → ClassId} {o : Nat} {ax : Nat → Nat} {rn : Option (Nat × Nat)} {tl : va_W} {v1 : Int32} {v2 : Int32} {fd : Nat → Int32} {ar : Nat → Nat → Int32} {lw : Nat → Int64} {hh : HT} {Q : Int32 → (Nat → Int32) → Prop} (h : wp_S_set v1 v2 fd ar lw hh Q) : ct_i l V D vwCl (tyL gI) yX1_set cX1_set 4 .int { frames := 2, cells := 0, slots := 0, locals := 37 } [.ref o, .int v1, .int v2] (wX gI o ax rn tl fd ar lw hh) (fun u : (Nat → Int32) => (wX gI o ax rn tl u ar lw hh)) (fun (x : Int32) (u : (Nat → Int32)) => Q x u) := by
  refine ct_ofi RX1 rfl (by decide +kernel) (Nat.le_of_ble_eq_true rfl) ?_
  intro p e s m args below meth c A F hP hD ls hl
  obtain ⟨⟨hx, hb, hml, hown, hts⟩, hr, hlocks, hA, hK, hE⟩ := id F
  have hS : va_S A s.heap s.heap [] := va_S.rf
  have hl : lv_has ls 4 [(0, .ref o), (1, .int v1), (2, .int v2)] := hl
  have hRf : 2 ≤ ({ frames := 2, cells := 0, slots := 0, locals := 37 } : Room).frames := Nat.le_refl _
  have hRl : 37 ≤ ({ frames := 2, cells := 0, slots := 0, locals := 37 } : Room).locals := Nat.le_refl _
  have hC : 0 ≤ ({ frames := 2, cells := 0, slots := 0, locals := 37 } : Room).cells := Nat.le_refl _
  have hSl : 0 ≤ ({ frames := 2, cells := 0, slots := 0, locals := 37 } : Room).slots := Nat.le_refl _
  unfold wp_S_set at h
  refine lv_iload_n hx hb dX1_set_0 rfl (lv_at hl 1 rfl) ?_
  by_cases c1 : v1 = (0 : Int32)
  · replace h := h.1 c1
    refine lv_lookup (off := 27) (tgt := 28) hx hb dX1_set_1 (by decide) (by rw [c1]; rfl) (by decide) ?_
    refine lv_iload_n hx hb dX1_set_28 rfl (lv_at hl 2 rfl) ?_
    refine lv_i2l (v := (v2.toInt64)) hx hb dX1_set_29 rfl ?_
    refine lv_lconst (v := (0 : Int64)) hx hb dX1_set_30 (by decide) ?_
    refine lv_ldc2 (v := (9 : Int64)) hx hb hown (hts _ q584) dX1_set_31 ?_
    refine cl_i0 F (va_runS (As := [.long (v2.toInt64), .long (0 : Int64), .long (9 : Int64)]) (rest := []) ⟨hx, hb, hml, hown, hts⟩ (ct_X1_in h _) (va_cwS 3 hts (lw_S q298 q299 q94 q300) rfl rfl rfl (by decide +kernel) ⟨Nat.le_trans (Nat.le_of_ble_eq_true rfl) hRf, Nat.le_trans (Nat.le_of_ble_eq_true rfl) hRl⟩) ⟨ct_blind, ct_at F hS ct_nP ct_nD⟩ rfl rfl hl.1 rfl (lv_room (Nat.le_of_ble_eq_true rfl)) dX1_set_34 ⟨hC, hSl⟩) rfl rfl hP hS ?_
    rintro x2 _ H locs h hP hS
    refine lv_if_ne (tgt := 42) hx hb dX1_set_37 (by decide) (fun c3 => ?_) (fun c3 => ?_)
    · replace h := h.1 c3
      refine lv_aload_n hx hb dX1_set_42 rfl (lv_at hl 0 rfl) ?_
      refine va_get hx hb hts in_X1 hown hK hP 0 rfl rfl 11 (Nat.le_of_ble_eq_true rfl) (hts _ q201) (fun _ h => h) (v := .int (fd 11)) rfl dX1_set_43 ?_
      refine lv_istore_n (lv' := [(3, .int (fd 11)), (0, .ref o), (1, .int v1), (2, .int v2)]) hx hb dX1_set_46 rfl hl (by decide) rfl (fun ls hl => ?_)
      refine lv_aload_n hx hb dX1_set_47 rfl (lv_at hl 1 rfl) ?_
      refine lv_iload_n hx hb dX1_set_48 rfl (lv_at hl 3 rfl) ?_
      refine pt_put (v := .int v2) hx hb hts in_X1 tyX1 tyX1_ok nmX1 hown hK hP hD hS 0 rfl rfl 11 (Nat.le_of_ble_eq_true rfl) (hts _ q201) (fun _ h => h) rfl (ty := .int) (by decide +kernel) rfl rfl (Nat.le_of_ble_eq_true rfl) dX1_set_49 wXF_11 (fun H locs hP hD hS => ?_)
      refine lv_iload_n hx hb dX1_set_52 rfl (lv_at hl 0 rfl) ?_
      exact rt_i F dX1_set_53 rfl ((upd fd 11 v2)) h hP hD hS (Nat.le_refl _) (Nat.le_refl _)
    · replace h := h.2 c3
      refine lv_iconst (v := (-1 : Int32)) hx hb dX1_set_40 (by decide) ?_
      exact rt_i F dX1_set_41 rfl (fd) h hP hD hS (Nat.le_refl _) (Nat.le_refl _)
  replace h := h.2 c1
  by_cases c4 : v1 = (1 : Int32)
  · replace h := h.1 c4
    refine lv_lookup (off := 53) (tgt := 54) hx hb dX1_set_1 (by decide) (by rw [c4]; rfl) (by decide) ?_
    refine lv_iload_n hx hb dX1_set_54 rfl (lv_at hl 2 rfl) ?_
    refine lv_i2l (v := (v2.toInt64)) hx hb dX1_set_55 rfl ?_
    refine lv_aload_n hx hb dX1_set_56 rfl (lv_at hl 0 rfl) ?_
    refine va_get hx hb hts in_X1 hown hK hP 0 rfl rfl 0 (Nat.le_of_ble_eq_true rfl) (hts _ q180) (fun _ h => h) (v := .ref (ax 0)) rfl dX1_set_57 ?_
    refine va_get hx hb hts in_X2 hown hK hP 14 rfl rfl 5 (Nat.le_of_ble_eq_true rfl) (hts _ q148) (fun _ h => h) (v := .int (fd 61)) rfl dX1_set_60 ?_
    refine cl_i0 F (va_runS (As := [.int (fd 61)]) (rest := [.long (v2.toInt64)]) ⟨hx, hb, hml, hown, hts⟩ (ct_J10_bitCount h _) (va_cwS 1 hts (lw_S q585 q586 q112 q587) rfl rfl rfl (by decide +kernel) ⟨Nat.le_trans (Nat.le_of_ble_eq_true rfl) hRf, Nat.le_trans (Nat.le_of_ble_eq_true rfl) hRl⟩) ⟨ct_blind, ct_at F hS ct_nP ct_nD⟩ rfl rfl hl.1 rfl (lv_room (Nat.le_of_ble_eq_true rfl)) dX1_set_63 ⟨hC, hSl⟩) rfl rfl hP hS ?_
    rintro x5 _ H locs h hP hS
    refine lv_i2l (v := (x5.toInt64)) hx hb dX1_set_66 rfl ?_
    refine lv_ldc2 (v := (8 : Int64)) hx hb hown (hts _ q591) dX1_set_67 ?_
    refine cl_i0 F (va_runS (As := [.long (v2.toInt64), .long (x5.toInt64), .long (8 : Int64)]) (rest := []) ⟨hx, hb, hml, hown, hts⟩ (ct_X1_in h _) (va_cwS 3 hts (lw_S q298 q299 q94 q300) rfl rfl rfl (by decide +kernel) ⟨Nat.le_trans (Nat.le_of_ble_eq_true rfl) hRf, Nat.le_trans (Nat.le_of_ble_eq_true rfl) hRl⟩) ⟨ct_blind, ct_at F hS ct_nP ct_nD⟩ rfl rfl hl.1 rfl (lv_room (Nat.le_of_ble_eq_true rfl)) dX1_set_70 ⟨hC, hSl⟩) rfl rfl hP hS ?_
    rintro x6 _ H locs h hP hS
    refine lv_if_ne (tgt := 78) hx hb dX1_set_73 (by decide) (fun c7 => ?_) (fun c7 => ?_)
    · replace h := h.1 c7
      refine lv_aload_n hx hb dX1_set_78 rfl (lv_at hl 0 rfl) ?_
      refine va_get hx hb hts in_X1 hown hK hP 0 rfl rfl 12 (Nat.le_of_ble_eq_true rfl) (hts _ q202) (fun _ h => h) (v := .int (fd 12)) rfl dX1_set_79 ?_
      refine lv_istore_n (lv' := [(3, .int (fd 12)), (0, .ref o), (1, .int v1), (2, .int v2)]) hx hb dX1_set_82 rfl hl (by decide) rfl (fun ls hl => ?_)
      refine lv_aload_n hx hb dX1_set_83 rfl (lv_at hl 1 rfl) ?_
      refine lv_iload_n hx hb dX1_set_84 rfl (lv_at hl 3 rfl) ?_
      refine pt_put (v := .int v2) hx hb hts in_X1 tyX1 tyX1_ok nmX1 hown hK hP hD hS 0 rfl rfl 12 (Nat.le_of_ble_eq_true rfl) (hts _ q202) (fun _ h => h) rfl (ty := .int) (by decide +kernel) rfl rfl (Nat.le_of_ble_eq_true rfl) dX1_set_85 wXF_12 (fun H locs hP hD hS => ?_)
      refine lv_iload_n hx hb dX1_set_88 rfl (lv_at hl 0 rfl) ?_
      exact rt_i F dX1_set_89 rfl ((upd fd 12 v2)) h hP hD hS (Nat.le_refl _) (Nat.le_refl _)
    · replace h := h.2 c7
      refine lv_iconst (v := (-1 : Int32)) hx hb dX1_set_76 (by decide) ?_
      exact rt_i F dX1_set_77 rfl (fd) h hP hD hS (Nat.le_refl _) (Nat.le_refl _)
  replace h := h.2 c4
  refine lv_lookup (off := 89) (tgt := 90) hx hb dX1_set_1 (by decide) (by rw [show Op.lookupswitch.offset _ _ _ = _ from lv_osw (k := (0 : Int32)) c1 (by decide)]; rw [show Op.lookupswitch.offset _ _ _ = _ from lv_osw (k := (1 : Int32)) c4 (by decide)]; rfl) (by decide) ?_
  refine lv_iconst (v := (-1 : Int32)) hx hb dX1_set_90 (by decide) ?_
  exact rt_i F dX1_set_91 rfl (fd) h hP hD hS (Nat.le_refl _) (Nat.le_refl _)
set_option maxHeartbeats 4000000 in
theorem ct_S_isKid {l : Launch} {V : evT} {D : va_G} {gI : Nat → ClassId} {o : Nat} {ax : Nat → Nat} {rn : Option (Nat × Nat)} {tl : va_W} {v1 : Int32} {fd : Nat → Int32} {ar : Nat → Nat → Int32} {lw : Nat → Int64} {hh : HT} {Q : Int32 → Prop} (h : wp_S_isKid v1 fd ar lw hh Q) : ct_i l V D vwCl (tyL gI) yX1_isKid cX1_isKid 2 .boolean { frames := 2, cells := 0, slots := 0, locals := 37 } [.ref o, .int v1] (wX gI o ax rn tl fd ar lw hh) (fun u : Unit => (wX gI o ax rn tl fd ar lw hh)) (fun (x : Int32) (u : Unit) => Q x) := by
  refine ct_ofi RX1 rfl (by decide +kernel) (Nat.le_of_ble_eq_true rfl) ?_
  intro p e s m args below meth c A F hP hD ls hl
  obtain ⟨⟨hx, hb, hml, hown, hts⟩, hr, hlocks, hA, hK, hE⟩ := id F
  have hS : va_S A s.heap s.heap [] := va_S.rf
  have hl : lv_has ls 2 [(0, .ref o), (1, .int v1)] := hl
  have hRf : 2 ≤ ({ frames := 2, cells := 0, slots := 0, locals := 37 } : Room).frames := Nat.le_refl _
  have hRl : 37 ≤ ({ frames := 2, cells := 0, slots := 0, locals := 37 } : Room).locals := Nat.le_refl _
  have hC : 0 ≤ ({ frames := 2, cells := 0, slots := 0, locals := 37 } : Room).cells := Nat.le_refl _
  have hSl : 0 ≤ ({ frames := 2, cells := 0, slots := 0, locals := 37 } : Room).slots := Nat.le_refl _
  unfold wp_S_isKid at h
  refine lv_iload_n hx hb dX1_isKid_0 rfl (lv_at hl 1 rfl) ?_
  refine lv_i2l (v := (v1.toInt64)) hx hb dX1_isKid_1 rfl ?_
  refine lv_lconst (v := (0 : Int64)) hx hb dX1_isKid_2 (by decide) ?_
  refine lv_aload_n hx hb dX1_isKid_3 rfl (lv_at hl 0 rfl) ?_
  refine va_get hx hb hts in_X1 hown hK hP 0 rfl rfl 10 (Nat.le_of_ble_eq_true rfl) (hts _ q199) (fun _ h => h) (v := .int (fd 10)) rfl dX1_isKid_4 ?_
  refine lv_iconst (v := (1 : Int32)) hx hb dX1_isKid_7 (by decide) ?_
  refine lv_isub hx hb dX1_isKid_8 ?_
  refine lv_i2l (v := (((fd 10) - (1 : Int32)).toInt64)) hx hb dX1_isKid_9 rfl ?_
  refine cl_i0 F (va_runS (As := [.long (v1.toInt64), .long (0 : Int64), .long (((fd 10) - (1 : Int32)).toInt64)]) (rest := []) ⟨hx, hb, hml, hown, hts⟩ (ct_X1_in h _) (va_cwS 3 hts (lw_S q298 q299 q94 q300) rfl rfl rfl (by decide +kernel) ⟨Nat.le_trans (Nat.le_of_ble_eq_true rfl) hRf, Nat.le_trans (Nat.le_of_ble_eq_true rfl) hRl⟩) ⟨ct_blind, ct_at F hS ct_nP ct_nD⟩ rfl rfl hl.1 rfl (lv_room (Nat.le_of_ble_eq_true rfl)) dX1_isKid_10 ⟨hC, hSl⟩) rfl rfl hP hS ?_
  rintro x1 _ H locs h hP hS
  exact rt_i F dX1_isKid_13 (by rcases h.1 with e | e <;> rw [e] <;> rfl) () h.2 hP hD hS (Nat.le_refl _) (Nat.le_refl _)
set_option maxHeartbeats 4000000 in
theorem ct_S_isCell {l : Launch} {V : evT} {D : va_G} {gI : Nat → ClassId} {o : Nat} {ax : Nat → Nat} {rn : Option (Nat × Nat)} {tl : va_W} {v1 : Int32} {fd : Nat → Int32} {ar : Nat → Nat → Int32} {lw : Nat → Int64} {hh : HT} {Q : Int32 → Prop} (h : wp_S_isCell v1 fd ar lw hh Q) : ct_i l V D vwCl (tyL gI) yX1_isCell cX1_isCell 2 .boolean { frames := 2, cells := 0, slots := 0, locals := 37 } [.ref o, .int v1] (wX gI o ax rn tl fd ar lw hh) (fun u : Unit => (wX gI o ax rn tl fd ar lw hh)) (fun (x : Int32) (u : Unit) => Q x) := by
  refine ct_ofi RX1 rfl (by decide +kernel) (Nat.le_of_ble_eq_true rfl) ?_
  intro p e s m args below meth c A F hP hD ls hl
  obtain ⟨⟨hx, hb, hml, hown, hts⟩, hr, hlocks, hA, hK, hE⟩ := id F
  have hS : va_S A s.heap s.heap [] := va_S.rf
  have hl : lv_has ls 2 [(0, .ref o), (1, .int v1)] := hl
  have hRf : 2 ≤ ({ frames := 2, cells := 0, slots := 0, locals := 37 } : Room).frames := Nat.le_refl _
  have hRl : 37 ≤ ({ frames := 2, cells := 0, slots := 0, locals := 37 } : Room).locals := Nat.le_refl _
  have hC : 0 ≤ ({ frames := 2, cells := 0, slots := 0, locals := 37 } : Room).cells := Nat.le_refl _
  have hSl : 0 ≤ ({ frames := 2, cells := 0, slots := 0, locals := 37 } : Room).slots := Nat.le_refl _
  unfold wp_S_isCell at h
  refine lv_iload_n hx hb dX1_isCell_0 rfl (lv_at hl 1 rfl) ?_
  refine lv_i2l (v := (v1.toInt64)) hx hb dX1_isCell_1 rfl ?_
  refine lv_lconst (v := (0 : Int64)) hx hb dX1_isCell_2 (by decide) ?_
  refine lv_aload_n hx hb dX1_isCell_3 rfl (lv_at hl 0 rfl) ?_
  refine va_get hx hb hts in_X1 hown hK hP 0 rfl rfl 9 (Nat.le_of_ble_eq_true rfl) (hts _ q195) (fun _ h => h) (v := .int (fd 9)) rfl dX1_isCell_4 ?_
  refine lv_iconst (v := (1 : Int32)) hx hb dX1_isCell_7 (by decide) ?_
  refine lv_isub hx hb dX1_isCell_8 ?_
  refine lv_i2l (v := (((fd 9) - (1 : Int32)).toInt64)) hx hb dX1_isCell_9 rfl ?_
  refine cl_i0 F (va_runS (As := [.long (v1.toInt64), .long (0 : Int64), .long (((fd 9) - (1 : Int32)).toInt64)]) (rest := []) ⟨hx, hb, hml, hown, hts⟩ (ct_X1_in h _) (va_cwS 3 hts (lw_S q298 q299 q94 q300) rfl rfl rfl (by decide +kernel) ⟨Nat.le_trans (Nat.le_of_ble_eq_true rfl) hRf, Nat.le_trans (Nat.le_of_ble_eq_true rfl) hRl⟩) ⟨ct_blind, ct_at F hS ct_nP ct_nD⟩ rfl rfl hl.1 rfl (lv_room (Nat.le_of_ble_eq_true rfl)) dX1_isCell_10 ⟨hC, hSl⟩) rfl rfl hP hS ?_
  rintro x1 _ H locs h hP hS
  exact rt_i F dX1_isCell_13 (by rcases h.1 with e | e <;> rw [e] <;> rfl) () h.2 hP hD hS (Nat.le_refl _) (Nat.le_refl _)
set_option maxHeartbeats 4000000 in
theorem lp_S_remember_J1_i0 {p : Program} {l : Launch} {e : Env} {R : Room} {s : State} {m : MethodId} {args : Array Value} {below : List Frame} {meth : Method} {c : Code} {cells slots : Nat} {A : Nat → Prop} {V : evT} {D : va_G} {gI : Nat → ClassId} {o : Nat} {ax : Nat → Nat} {rn : Option (Nat × Nat)} {tl : va_W} {lw : Nat → Int64} {Q : (Nat → Int32) → (HT) → Prop} (F : ct_F p m c meth cX1_remember 3 s args RX1 none A V D vwCl (tyL gI)) (hRf : 2 ≤ R.frames) (hRl : 81 ≤ R.locals) (hC : cells ≤ R.cells) (hSl : slots ≤ R.slots) :
    ∀ (fd : Nat → Int32) (ar : Nat → Nat → Int32) (hh : HT), wp_S_remember_J1 0 lw Q fd ar hh → ∀ (H : Heap) (locs : List Loc) (ls : Array Slot), va_P D vwCl (wX gI o ax rn tl fd ar lw hh) H → va_D A (wX gI o ax rn tl fd ar lw hh) → va_S A s.heap H locs → lv_has ls 3 [(0, .ref o), (1, .ref (ax 0))] → W p l e R s m args below meth c H locs cells slots (MQ below (va_Qv (fun (u : (Nat → Int32) × (HT)) => Q u.1 u.2) (fun u t => va_P D vwCl (wX gI o ax rn tl u.1 ar lw u.2) t.heap ∧ va_K D vwCl (tyL gI) t ∧ va_D A (wX gI o ax rn tl u.1 ar lw u.2)) A) args s cells slots A) (F0 m 49 ls []) := by
  obtain ⟨⟨hx, hb, hml, hown, hts⟩, hr, hlocks, hA, hK, hE⟩ := id F
  intro fd ar hh h H locs ls hP hD hS hl
  unfold wp_S_remember_J1 at h
  refine lv_aload_n hx hb dX1_remember_49 rfl (lv_at hl 0 rfl) ?_
  refine va_get hx hb hts in_X1 hown hK hP 0 rfl rfl 3 (Nat.le_of_ble_eq_true rfl) (hts _ q187) (fun _ h => h) (v := .ref (ax 3)) rfl dX1_remember_50 ?_
  refine lv_aload_n hx hb dX1_remember_53 rfl (lv_at hl 0 rfl) ?_
  refine va_get hx hb hts in_X1 hown hK hP 0 rfl rfl 14 (Nat.le_of_ble_eq_true rfl) (hts _ q205) (fun _ h => h) (v := .int (fd 14)) rfl dX1_remember_54 ?_
  refine va_aldq (f := hqs ax hh.1) hx hb hK hP 29 4 rfl rfl h.1 dX1_remember_57 ?_
  have hi1 := h.2.1 ((fd 14).toNatClampNeg) (vp_ltN h.1)
  replace h := h.2.2
  refine lv_aload_n hx hb dX1_remember_58 rfl (lv_at hl 1 rfl) ?_
  refine cl_vL F (va_runV (As := [.ref (ax 0)]) (rest := []) ⟨hx, hb, hml, hown, hts⟩ (ct_B_be (o := (ax (100 + (hh.1 (fd 14).toNatClampNeg)))) (ab := axh ax (hh.1 (fd 14).toNatClampNeg)) (o2 := (ax 0)) (ab2 := axb ax 0) h _) (cwV 1 hts (lw_V q659 q660 q661 q95 q662) rfl rfl rfl (by decide +kernel) ⟨Nat.le_trans (Nat.le_of_ble_eq_true rfl) hRf, Nat.le_trans (Nat.le_of_ble_eq_true rfl) hRl⟩) ⟨ct_blind, va_recv hK hP (ci := 1) (q0 := 30 + 5 * (hh.1 (fd 14).toNatClampNeg)) rfl (wXH_o hi1), ct_at F hS (putL_P hP (ps := psH (hh.1 (fd 14).toNatClampNeg) ++ [14, 15, 16, 17, 18]) (wXHC_0 hi1)) (hD.sub (psH (hh.1 (fd 14).toNatClampNeg) ++ [14, 15, 16, 17, 18]) (wXHN_0 hi1) (wXHC_0 hi1))⟩ rfl rfl hl.1 rfl (lv_room (Nat.le_of_ble_eq_true rfl)) dX1_remember_59 ⟨hC, hSl⟩) rfl rfl hP hD hS (ps := psH (hh.1 (fd 14).toNatClampNeg) ++ [14, 15, 16, 17, 18]) (wXHC_0 hi1) (fun _ => rfl) (fun _ => wXHP_0 hi1) ?_
  rintro ⟨wl2, dp3, aa4, md5, mo6, sp7, ti8⟩ H locs h hP hD hS
  refine lv_aload_n hx hb dX1_remember_62 rfl (lv_at hl 0 rfl) ?_
  refine lv_dup hx hb dX1_remember_63 rfl ?_
  refine va_get hx hb hts in_X1 hown hK hP 0 rfl rfl 14 (Nat.le_of_ble_eq_true rfl) (hts _ q205) (fun _ h => h) (v := .int (fd 14)) rfl dX1_remember_64 ?_
  refine lv_iconst (v := (1 : Int32)) hx hb dX1_remember_67 (by decide) ?_
  refine lv_iadd hx hb dX1_remember_68 ?_
  refine pt_put (v := .int ((fd 14) + (1 : Int32))) hx hb hts in_X1 tyX1 tyX1_ok nmX1 hown hK hP hD hS 0 rfl rfl 14 (Nat.le_of_ble_eq_true rfl) (hts _ q205) (fun _ h => h) rfl (ty := .int) (by decide +kernel) rfl rfl (Nat.le_of_ble_eq_true rfl) dX1_remember_69 wXF_14 (fun H locs hP hD hS => ?_)
  exact rt_v F dX1_remember_72 ((upd fd 14 ((fd 14) + (1 : Int32))), (hput (hh.1 (fd 14).toNatClampNeg) wl2 dp3 aa4 md5 mo6 sp7 ti8 hh)) h hP hD hS (Nat.le_refl _) (Nat.le_refl _)
set_option maxHeartbeats 4000000 in
theorem ct_S_remember_i0 {l : Launch} {V : evT} {D : va_G} {gI : Nat → ClassId} {o : Nat} {ax : Nat → Nat} {rn : Option (Nat × Nat)} {tl : va_W} {fd : Nat → Int32} {ar : Nat → Nat → Int32} {lw : Nat → Int64} {hh : HT} {Q : (Nat → Int32) → (HT) → Prop} (h : wp_S_remember 0 fd ar lw hh Q) : ct_v l V D vwCl (tyL gI) yX1_remember cX1_remember 3 { frames := 2, cells := 0, slots := 0, locals := 81 } [.ref o, .ref (ax 0)] (wX gI o ax rn tl fd ar lw hh) (fun u : (Nat → Int32) × (HT) => (wX gI o ax rn tl u.1 ar lw u.2)) (fun (u : (Nat → Int32) × (HT)) => Q u.1 u.2) := by
  refine ct_ofv RX1 rfl (by decide +kernel) (Nat.le_of_ble_eq_true rfl) ?_
  intro p e s m args below meth c A F _ hP hD ls hl
  obtain ⟨⟨hx, hb, hml, hown, hts⟩, hr, hlocks, hA, hK, hE⟩ := id F
  have hS : va_S A s.heap s.heap [] := va_S.rf
  have hl : lv_has ls 3 [(0, .ref o), (1, .ref (ax 0))] := hl
  have hRf : 2 ≤ ({ frames := 2, cells := 0, slots := 0, locals := 81 } : Room).frames := Nat.le_refl _
  have hRl : 81 ≤ ({ frames := 2, cells := 0, slots := 0, locals := 81 } : Room).locals := Nat.le_refl _
  have hC : 0 ≤ ({ frames := 2, cells := 0, slots := 0, locals := 81 } : Room).cells := Nat.le_refl _
  have hSl : 0 ≤ ({ frames := 2, cells := 0, slots := 0, locals := 81 } : Room).slots := Nat.le_refl _
  unfold wp_S_remember at h
  refine lv_aload_n hx hb dX1_remember_0 rfl (lv_at hl 0 rfl) ?_
  refine va_get hx hb hts in_X1 hown hK hP 0 rfl rfl 14 (Nat.le_of_ble_eq_true rfl) (hts _ q205) (fun _ h => h) (v := .int (fd 14)) rfl dX1_remember_1 ?_
  refine lv_bipush (v := (15 : Int32)) hx hb dX1_remember_4 (by decide) ?_
  refine lv_icmp_ne (tgt := 49) hx hb dX1_remember_6 (by decide) (fun c10 => ?_) (fun c10 => ?_)
  · replace h := h.1 c10
    refine lp_S_remember_J1_i0 F hRf hRl hC hSl  _ _ _ h _ _ _ hP hD hS (lv_sub hl [0, 1] rfl)
  · replace h := h.2 c10
    refine lv_aload_n hx hb dX1_remember_9 rfl (lv_at hl 0 rfl) ?_
    refine va_get hx hb hts in_X1 hown hK hP 0 rfl rfl 3 (Nat.le_of_ble_eq_true rfl) (hts _ q187) (fun _ h => h) (v := .ref (ax 3)) rfl dX1_remember_10 ?_
    refine lv_iconst (v := (0 : Int32)) hx hb dX1_remember_13 (by decide) ?_
    refine va_aldq (f := hqs ax hh.1) hx hb hK hP 29 4 rfl rfl (by unfold vp_in; decide) dX1_remember_14 ?_
    have hi9 := h.1 ((0 : Int32).toNatClampNeg) (by decide)
    replace h := h.2
    refine lv_astore_n (lv' := [(2, .ref (ax (100 + (hh.1 (0 : Int32).toNatClampNeg)))), (0, .ref o), (1, .ref (ax 0))]) hx hb dX1_remember_15 rfl hl (by decide) rfl (fun ls hl => ?_)
    refine lv_aload_n hx hb dX1_remember_16 rfl (lv_at hl 1 rfl) ?_
    refine va_get hx hb hts in_X1 hown hK hP 0 rfl rfl 3 (Nat.le_of_ble_eq_true rfl) (hts _ q187) (fun _ h => h) (v := .ref (ax 3)) rfl dX1_remember_17 ?_
    refine lv_iconst (v := (1 : Int32)) hx hb dX1_remember_20 (by decide) ?_
    refine lv_aload_n hx hb dX1_remember_21 rfl (lv_at hl 1 rfl) ?_
    refine va_get hx hb hts in_X1 hown hK hP 0 rfl rfl 3 (Nat.le_of_ble_eq_true rfl) (hts _ q187) (fun _ h => h) (v := .ref (ax 3)) rfl dX1_remember_22 ?_
    refine lv_iconst (v := (0 : Int32)) hx hb dX1_remember_25 (by decide) ?_
    refine lv_bipush (v := (14 : Int32)) hx hb dX1_remember_26 (by decide) ?_
    refine pt_copyq hx hb (hml.trans hl.1.symm) hown (hts _ q466) (hts _ q468) (hts _ q467) (hts _ q104) hK hP hD hS 29 29 4 4 (f := hqs ax hh.1) (g := hqs ax hh.1) (C := RX2) rfl rfl rfl rfl (by decide) (by decide) (by decide) (Nat.le_of_ble_eq_true rfl) (Nat.le_of_ble_eq_true rfl) (fun k hk y hy => wXH_cell hK hP (h.1 _ (by have : k < 14 := hk; show 1 + k < 15; omega)) hy) (fun z1 z2 e1 e2 => by rw [e1] at e2; cases e2; exact va_asg _ _) (Nat.le_trans (Nat.le_of_ble_eq_true rfl) hRf) (Nat.le_trans (by decide +kernel) hRl) dX1_remember_28 wXH_c (fun H locs hP hD hS => ?_)
    replace h := h.2
    refine lv_aload_n hx hb dX1_remember_31 rfl (lv_at hl 1 rfl) ?_
    refine va_get hx hb hts in_X1 hown hK hP 0 rfl rfl 3 (Nat.le_of_ble_eq_true rfl) (hts _ q187) (fun _ h => h) (v := .ref (ax 3)) rfl dX1_remember_32 ?_
    refine lv_bipush (v := (14 : Int32)) hx hb dX1_remember_35 (by decide) ?_
    refine lv_aload_n hx hb dX1_remember_37 rfl (lv_at hl 0 rfl) ?_
    refine pt_astq (f := hqs ax (hcpy (1 : Int32).toNatClampNeg (0 : Int32).toNatClampNeg (14 : Int32).toNatClampNeg hh).1) hx hb hK hP hD hS 29 4 (30 + 5 * (hh.1 (0 : Int32).toNatClampNeg)) 1 rfl rfl (wXH_o hi9) rfl (by unfold vp_in; decide) dX1_remember_38 wXH_u (fun H locs hP hD hS => ?_)
    refine lv_aload_n hx hb dX1_remember_39 rfl (lv_at hl 1 rfl) ?_
    refine lv_dup hx hb dX1_remember_40 rfl ?_
    refine va_get hx hb hts in_X1 hown hK hP 0 rfl rfl 14 (Nat.le_of_ble_eq_true rfl) (hts _ q205) (fun _ h => h) (v := .int (fd 14)) rfl dX1_remember_41 ?_
    refine lv_iconst (v := (1 : Int32)) hx hb dX1_remember_44 (by decide) ?_
    refine lv_isub hx hb dX1_remember_45 ?_
    refine pt_put (v := .int ((fd 14) - (1 : Int32))) hx hb hts in_X1 tyX1 tyX1_ok nmX1 hown hK hP hD hS 0 rfl rfl 14 (Nat.le_of_ble_eq_true rfl) (hts _ q205) (fun _ h => h) rfl (ty := .int) (by decide +kernel) rfl rfl (Nat.le_of_ble_eq_true rfl) dX1_remember_46 wXF_14 (fun H locs hP hD hS => ?_)
    refine lp_S_remember_J1_i0 F hRf hRl hC hSl  _ _ _ h _ _ _ hP hD hS (lv_sub hl [1, 2] rfl)
set_option maxHeartbeats 4000000 in
theorem lp_S_remember_J1_i1 {p : Program} {l : Launch} {e : Env} {R : Room} {s : State} {m : MethodId} {args : Array Value} {below : List Frame} {meth : Method} {c : Code} {cells slots : Nat} {A : Nat → Prop} {V : evT} {D : va_G} {gI : Nat → ClassId} {o : Nat} {ax : Nat → Nat} {rn : Option (Nat × Nat)} {tl : va_W} {lw : Nat → Int64} {Q : (Nat → Int32) → (HT) → Prop} (F : ct_F p m c meth cX1_remember 3 s args RX1 none A V D vwCl (tyL gI)) (hRf : 2 ≤ R.frames) (hRl : 81 ≤ R.locals) (hC : cells ≤ R.cells) (hSl : slots ≤ R.slots) :
    ∀ (fd : Nat → Int32) (ar : Nat → Nat → Int32) (hh : HT), wp_S_remember_J1 1 lw Q fd ar hh → ∀ (H : Heap) (locs : List Loc) (ls : Array Slot), va_P D vwCl (wX gI o ax rn tl fd ar lw hh) H → va_D A (wX gI o ax rn tl fd ar lw hh) → va_S A s.heap H locs → lv_has ls 3 [(0, .ref o), (1, .ref (ax 1))] → W p l e R s m args below meth c H locs cells slots (MQ below (va_Qv (fun (u : (Nat → Int32) × (HT)) => Q u.1 u.2) (fun u t => va_P D vwCl (wX gI o ax rn tl u.1 ar lw u.2) t.heap ∧ va_K D vwCl (tyL gI) t ∧ va_D A (wX gI o ax rn tl u.1 ar lw u.2)) A) args s cells slots A) (F0 m 49 ls []) := by
  obtain ⟨⟨hx, hb, hml, hown, hts⟩, hr, hlocks, hA, hK, hE⟩ := id F
  intro fd ar hh h H locs ls hP hD hS hl
  unfold wp_S_remember_J1 at h
  refine lv_aload_n hx hb dX1_remember_49 rfl (lv_at hl 0 rfl) ?_
  refine va_get hx hb hts in_X1 hown hK hP 0 rfl rfl 3 (Nat.le_of_ble_eq_true rfl) (hts _ q187) (fun _ h => h) (v := .ref (ax 3)) rfl dX1_remember_50 ?_
  refine lv_aload_n hx hb dX1_remember_53 rfl (lv_at hl 0 rfl) ?_
  refine va_get hx hb hts in_X1 hown hK hP 0 rfl rfl 14 (Nat.le_of_ble_eq_true rfl) (hts _ q205) (fun _ h => h) (v := .int (fd 14)) rfl dX1_remember_54 ?_
  refine va_aldq (f := hqs ax hh.1) hx hb hK hP 29 4 rfl rfl h.1 dX1_remember_57 ?_
  have hi1 := h.2.1 ((fd 14).toNatClampNeg) (vp_ltN h.1)
  replace h := h.2.2
  refine lv_aload_n hx hb dX1_remember_58 rfl (lv_at hl 1 rfl) ?_
  refine cl_vL F (va_runV (As := [.ref (ax 1)]) (rest := []) ⟨hx, hb, hml, hown, hts⟩ (ct_B_be (o := (ax (100 + (hh.1 (fd 14).toNatClampNeg)))) (ab := axh ax (hh.1 (fd 14).toNatClampNeg)) (o2 := (ax 1)) (ab2 := axb ax 1) h _) (cwV 1 hts (lw_V q659 q660 q661 q95 q662) rfl rfl rfl (by decide +kernel) ⟨Nat.le_trans (Nat.le_of_ble_eq_true rfl) hRf, Nat.le_trans (Nat.le_of_ble_eq_true rfl) hRl⟩) ⟨ct_blind, va_recv hK hP (ci := 1) (q0 := 30 + 5 * (hh.1 (fd 14).toNatClampNeg)) rfl (wXH_o hi1), ct_at F hS (putL_P hP (ps := psH (hh.1 (fd 14).toNatClampNeg) ++ [19, 20, 21, 22, 23]) (wXHC_1 hi1)) (hD.sub (psH (hh.1 (fd 14).toNatClampNeg) ++ [19, 20, 21, 22, 23]) (wXHN_1 hi1) (wXHC_1 hi1))⟩ rfl rfl hl.1 rfl (lv_room (Nat.le_of_ble_eq_true rfl)) dX1_remember_59 ⟨hC, hSl⟩) rfl rfl hP hD hS (ps := psH (hh.1 (fd 14).toNatClampNeg) ++ [19, 20, 21, 22, 23]) (wXHC_1 hi1) (fun _ => rfl) (fun _ => wXHP_1 hi1) ?_
  rintro ⟨wl2, dp3, aa4, md5, mo6, sp7, ti8⟩ H locs h hP hD hS
  refine lv_aload_n hx hb dX1_remember_62 rfl (lv_at hl 0 rfl) ?_
  refine lv_dup hx hb dX1_remember_63 rfl ?_
  refine va_get hx hb hts in_X1 hown hK hP 0 rfl rfl 14 (Nat.le_of_ble_eq_true rfl) (hts _ q205) (fun _ h => h) (v := .int (fd 14)) rfl dX1_remember_64 ?_
  refine lv_iconst (v := (1 : Int32)) hx hb dX1_remember_67 (by decide) ?_
  refine lv_iadd hx hb dX1_remember_68 ?_
  refine pt_put (v := .int ((fd 14) + (1 : Int32))) hx hb hts in_X1 tyX1 tyX1_ok nmX1 hown hK hP hD hS 0 rfl rfl 14 (Nat.le_of_ble_eq_true rfl) (hts _ q205) (fun _ h => h) rfl (ty := .int) (by decide +kernel) rfl rfl (Nat.le_of_ble_eq_true rfl) dX1_remember_69 wXF_14 (fun H locs hP hD hS => ?_)
  exact rt_v F dX1_remember_72 ((upd fd 14 ((fd 14) + (1 : Int32))), (hput (hh.1 (fd 14).toNatClampNeg) wl2 dp3 aa4 md5 mo6 sp7 ti8 hh)) h hP hD hS (Nat.le_refl _) (Nat.le_refl _)
set_option maxHeartbeats 4000000 in
theorem ct_S_remember_i1 {l : Launch} {V : evT} {D : va_G} {gI : Nat → ClassId} {o : Nat} {ax : Nat → Nat} {rn : Option (Nat × Nat)} {tl : va_W} {fd : Nat → Int32} {ar : Nat → Nat → Int32} {lw : Nat → Int64} {hh : HT} {Q : (Nat → Int32) → (HT) → Prop} (h : wp_S_remember 1 fd ar lw hh Q) : ct_v l V D vwCl (tyL gI) yX1_remember cX1_remember 3 { frames := 2, cells := 0, slots := 0, locals := 81 } [.ref o, .ref (ax 1)] (wX gI o ax rn tl fd ar lw hh) (fun u : (Nat → Int32) × (HT) => (wX gI o ax rn tl u.1 ar lw u.2)) (fun (u : (Nat → Int32) × (HT)) => Q u.1 u.2) := by
  refine ct_ofv RX1 rfl (by decide +kernel) (Nat.le_of_ble_eq_true rfl) ?_
  intro p e s m args below meth c A F _ hP hD ls hl
  obtain ⟨⟨hx, hb, hml, hown, hts⟩, hr, hlocks, hA, hK, hE⟩ := id F
  have hS : va_S A s.heap s.heap [] := va_S.rf
  have hl : lv_has ls 3 [(0, .ref o), (1, .ref (ax 1))] := hl
  have hRf : 2 ≤ ({ frames := 2, cells := 0, slots := 0, locals := 81 } : Room).frames := Nat.le_refl _
  have hRl : 81 ≤ ({ frames := 2, cells := 0, slots := 0, locals := 81 } : Room).locals := Nat.le_refl _
  have hC : 0 ≤ ({ frames := 2, cells := 0, slots := 0, locals := 81 } : Room).cells := Nat.le_refl _
  have hSl : 0 ≤ ({ frames := 2, cells := 0, slots := 0, locals := 81 } : Room).slots := Nat.le_refl _
  unfold wp_S_remember at h
  refine lv_aload_n hx hb dX1_remember_0 rfl (lv_at hl 0 rfl) ?_
  refine va_get hx hb hts in_X1 hown hK hP 0 rfl rfl 14 (Nat.le_of_ble_eq_true rfl) (hts _ q205) (fun _ h => h) (v := .int (fd 14)) rfl dX1_remember_1 ?_
  refine lv_bipush (v := (15 : Int32)) hx hb dX1_remember_4 (by decide) ?_
  refine lv_icmp_ne (tgt := 49) hx hb dX1_remember_6 (by decide) (fun c10 => ?_) (fun c10 => ?_)
  · replace h := h.1 c10
    refine lp_S_remember_J1_i1 F hRf hRl hC hSl  _ _ _ h _ _ _ hP hD hS (lv_sub hl [0, 1] rfl)
  · replace h := h.2 c10
    refine lv_aload_n hx hb dX1_remember_9 rfl (lv_at hl 0 rfl) ?_
    refine va_get hx hb hts in_X1 hown hK hP 0 rfl rfl 3 (Nat.le_of_ble_eq_true rfl) (hts _ q187) (fun _ h => h) (v := .ref (ax 3)) rfl dX1_remember_10 ?_
    refine lv_iconst (v := (0 : Int32)) hx hb dX1_remember_13 (by decide) ?_
    refine va_aldq (f := hqs ax hh.1) hx hb hK hP 29 4 rfl rfl (by unfold vp_in; decide) dX1_remember_14 ?_
    have hi9 := h.1 ((0 : Int32).toNatClampNeg) (by decide)
    replace h := h.2
    refine lv_astore_n (lv' := [(2, .ref (ax (100 + (hh.1 (0 : Int32).toNatClampNeg)))), (0, .ref o), (1, .ref (ax 1))]) hx hb dX1_remember_15 rfl hl (by decide) rfl (fun ls hl => ?_)
    refine lv_aload_n hx hb dX1_remember_16 rfl (lv_at hl 1 rfl) ?_
    refine va_get hx hb hts in_X1 hown hK hP 0 rfl rfl 3 (Nat.le_of_ble_eq_true rfl) (hts _ q187) (fun _ h => h) (v := .ref (ax 3)) rfl dX1_remember_17 ?_
    refine lv_iconst (v := (1 : Int32)) hx hb dX1_remember_20 (by decide) ?_
    refine lv_aload_n hx hb dX1_remember_21 rfl (lv_at hl 1 rfl) ?_
    refine va_get hx hb hts in_X1 hown hK hP 0 rfl rfl 3 (Nat.le_of_ble_eq_true rfl) (hts _ q187) (fun _ h => h) (v := .ref (ax 3)) rfl dX1_remember_22 ?_
    refine lv_iconst (v := (0 : Int32)) hx hb dX1_remember_25 (by decide) ?_
    refine lv_bipush (v := (14 : Int32)) hx hb dX1_remember_26 (by decide) ?_
    refine pt_copyq hx hb (hml.trans hl.1.symm) hown (hts _ q466) (hts _ q468) (hts _ q467) (hts _ q104) hK hP hD hS 29 29 4 4 (f := hqs ax hh.1) (g := hqs ax hh.1) (C := RX2) rfl rfl rfl rfl (by decide) (by decide) (by decide) (Nat.le_of_ble_eq_true rfl) (Nat.le_of_ble_eq_true rfl) (fun k hk y hy => wXH_cell hK hP (h.1 _ (by have : k < 14 := hk; show 1 + k < 15; omega)) hy) (fun z1 z2 e1 e2 => by rw [e1] at e2; cases e2; exact va_asg _ _) (Nat.le_trans (Nat.le_of_ble_eq_true rfl) hRf) (Nat.le_trans (by decide +kernel) hRl) dX1_remember_28 wXH_c (fun H locs hP hD hS => ?_)
    replace h := h.2
    refine lv_aload_n hx hb dX1_remember_31 rfl (lv_at hl 1 rfl) ?_
    refine va_get hx hb hts in_X1 hown hK hP 0 rfl rfl 3 (Nat.le_of_ble_eq_true rfl) (hts _ q187) (fun _ h => h) (v := .ref (ax 3)) rfl dX1_remember_32 ?_
    refine lv_bipush (v := (14 : Int32)) hx hb dX1_remember_35 (by decide) ?_
    refine lv_aload_n hx hb dX1_remember_37 rfl (lv_at hl 0 rfl) ?_
    refine pt_astq (f := hqs ax (hcpy (1 : Int32).toNatClampNeg (0 : Int32).toNatClampNeg (14 : Int32).toNatClampNeg hh).1) hx hb hK hP hD hS 29 4 (30 + 5 * (hh.1 (0 : Int32).toNatClampNeg)) 1 rfl rfl (wXH_o hi9) rfl (by unfold vp_in; decide) dX1_remember_38 wXH_u (fun H locs hP hD hS => ?_)
    refine lv_aload_n hx hb dX1_remember_39 rfl (lv_at hl 1 rfl) ?_
    refine lv_dup hx hb dX1_remember_40 rfl ?_
    refine va_get hx hb hts in_X1 hown hK hP 0 rfl rfl 14 (Nat.le_of_ble_eq_true rfl) (hts _ q205) (fun _ h => h) (v := .int (fd 14)) rfl dX1_remember_41 ?_
    refine lv_iconst (v := (1 : Int32)) hx hb dX1_remember_44 (by decide) ?_
    refine lv_isub hx hb dX1_remember_45 ?_
    refine pt_put (v := .int ((fd 14) - (1 : Int32))) hx hb hts in_X1 tyX1 tyX1_ok nmX1 hown hK hP hD hS 0 rfl rfl 14 (Nat.le_of_ble_eq_true rfl) (hts _ q205) (fun _ h => h) rfl (ty := .int) (by decide +kernel) rfl rfl (Nat.le_of_ble_eq_true rfl) dX1_remember_46 wXF_14 (fun H locs hP hD hS => ?_)
    refine lp_S_remember_J1_i1 F hRf hRl hC hSl  _ _ _ h _ _ _ hP hD hS (lv_sub hl [1, 2] rfl)
set_option maxHeartbeats 4000000 in
theorem ct_S_refusesHome {l : Launch} {V : evT} {D : va_G} {gI : Nat → ClassId} {o : Nat} {ax : Nat → Nat} {rn : Option (Nat × Nat)} {tl : va_W} {v1 : Int32} {fd : Nat → Int32} {ar : Nat → Nat → Int32} {lw : Nat → Int64} {hh : HT} {Q : Int32 → Prop} (h : wp_S_refusesHome v1 fd ar lw hh Q) : ct_i l V D vwCl (tyL gI) yX1_refusesHome cX1_refusesHome 2 .int { frames := 3, cells := 0, slots := 0, locals := 58 } [.ref o, .int v1] (wX gI o ax rn tl fd ar lw hh) (fun u : Unit => (wX gI o ax rn tl fd ar lw hh)) (fun (x : Int32) (u : Unit) => Q x) := by
  refine ct_ofi RX1 rfl (by decide +kernel) (Nat.le_of_ble_eq_true rfl) ?_
  intro p e s m args below meth c A F hP hD ls hl
  obtain ⟨⟨hx, hb, hml, hown, hts⟩, hr, hlocks, hA, hK, hE⟩ := id F
  have hS : va_S A s.heap s.heap [] := va_S.rf
  have hl : lv_has ls 2 [(0, .ref o), (1, .int v1)] := hl
  have hRf : 3 ≤ ({ frames := 3, cells := 0, slots := 0, locals := 58 } : Room).frames := Nat.le_refl _
  have hRl : 58 ≤ ({ frames := 3, cells := 0, slots := 0, locals := 58 } : Room).locals := Nat.le_refl _
  have hC : 0 ≤ ({ frames := 3, cells := 0, slots := 0, locals := 58 } : Room).cells := Nat.le_refl _
  have hSl : 0 ≤ ({ frames := 3, cells := 0, slots := 0, locals := 58 } : Room).slots := Nat.le_refl _
  unfold wp_S_refusesHome at h
  refine lv_aload_n hx hb dX1_refusesHome_0 rfl (lv_at hl 0 rfl) ?_
  refine lv_iload_n hx hb dX1_refusesHome_1 rfl (lv_at hl 1 rfl) ?_
  refine cl_i F (va_runV (As := [.int v1]) (rest := []) ⟨hx, hb, hml, hown, hts⟩ (ct_S_isKid h _) (cwV 1 hts (lw_V q647 q649 qs8 q94 q650) rfl rfl rfl (by decide +kernel) ⟨Nat.le_trans (Nat.le_of_ble_eq_true rfl) hRf, Nat.le_trans (Nat.le_of_ble_eq_true rfl) hRl⟩) ⟨ct_blind, va_recv hK hP (ci := 0) (q0 := 0) rfl rfl, ct_at F hS hP hD⟩ rfl rfl hl.1 rfl (lv_room (Nat.le_of_ble_eq_true rfl)) dX1_refusesHome_2 ⟨hC, hSl⟩) rfl rfl hD hS ?_
  rintro x1 _ H locs h hP hD hS
  refine lv_if_ne (tgt := 12) hx hb dX1_refusesHome_5 (by decide) (fun c3 => ?_) (fun c3 => ?_)
  · replace h := h.1 c3
    refine lv_aload_n hx hb dX1_refusesHome_12 rfl (lv_at hl 0 rfl) ?_
    refine va_get hx hb hts in_X1 hown hK hP 0 rfl rfl 0 (Nat.le_of_ble_eq_true rfl) (hts _ q180) (fun _ h => h) (v := .ref (ax 0)) rfl dX1_refusesHome_13 ?_
    refine va_get hx hb hts in_X2 hown hK hP 14 rfl rfl 2 (Nat.le_of_ble_eq_true rfl) (hts _ q141) (fun _ h => h) (v := .ref (ax 42)) rfl dX1_refusesHome_16 ?_
    refine lv_iload_n hx hb dX1_refusesHome_19 rfl (lv_at hl 1 rfl) ?_
    refine va_iald (f := (ar 42)) hx hb hK hP 17 0 rfl rfl h.1 dX1_refusesHome_20 ?_
    replace h := h.2
    refine lv_iconst (v := (-1 : Int32)) hx hb dX1_refusesHome_21 (by decide) ?_
    refine lv_icmp_ne (tgt := 30) hx hb dX1_refusesHome_22 (by decide) (fun c2 => ?_) (fun c2 => ?_)
    · replace h := h.1 c2
      refine lv_iconst (v := (0 : Int32)) hx hb dX1_refusesHome_30 (by decide) ?_
      exact rt_i F dX1_refusesHome_31 rfl () h hP hD hS (Nat.le_refl _) (Nat.le_refl _)
    · replace h := h.2 c2
      refine lv_bipush (v := (-2 : Int32)) hx hb dX1_refusesHome_25 (by decide) ?_
      refine lv_goto (tgt := 31) hx hb dX1_refusesHome_27 (by decide) ?_
      exact rt_i F dX1_refusesHome_31 rfl () h hP hD hS (Nat.le_refl _) (Nat.le_refl _)
  · replace h := h.2 c3
    refine lv_iconst (v := (-1 : Int32)) hx hb dX1_refusesHome_8 (by decide) ?_
    refine lv_goto (tgt := 31) hx hb dX1_refusesHome_9 (by decide) ?_
    exact rt_i F dX1_refusesHome_31 rfl () h hP hD hS (Nat.le_refl _) (Nat.le_refl _)
set_option maxHeartbeats 4000000 in
theorem ct_X1_has {l : Launch} {V : evT} {D : va_G} {gI : Nat → ClassId} {v0 : Int32} {v1 : Int32} {Q : Int32 → Prop} (h : wp_X1_has v0 v1  Q) : ct_i l V D vwCl (tyL gI) yX1_has cX1_has 2 .boolean { frames := 1, cells := 0, slots := 0, locals := 12 } [.int v0, .int v1] [] (fun u : Unit => []) (fun (x : Int32) (u : Unit) => Q x) := by
  refine ct_ofi RX1 rfl (by decide +kernel) (Nat.le_of_ble_eq_true rfl) ?_
  intro p e s m args below meth c A F hP hD ls hl
  obtain ⟨⟨hx, hb, hml, hown, hts⟩, hr, hlocks, hA, hK, hE⟩ := id F
  have hS : va_S A s.heap s.heap [] := va_S.rf
  have hl : lv_has ls 2 [(0, .int v0), (1, .int v1)] := hl
  have hRf : 1 ≤ ({ frames := 1, cells := 0, slots := 0, locals := 12 } : Room).frames := Nat.le_refl _
  have hRl : 12 ≤ ({ frames := 1, cells := 0, slots := 0, locals := 12 } : Room).locals := Nat.le_refl _
  have hC : 0 ≤ ({ frames := 1, cells := 0, slots := 0, locals := 12 } : Room).cells := Nat.le_refl _
  have hSl : 0 ≤ ({ frames := 1, cells := 0, slots := 0, locals := 12 } : Room).slots := Nat.le_refl _
  unfold wp_X1_has at h
  refine lv_iload_n hx hb dX1_has_0 rfl (lv_at hl 0 rfl) ?_
  refine lv_iload_n hx hb dX1_has_1 rfl (lv_at hl 1 rfl) ?_
  refine lv_ishr hx hb dX1_has_2 ?_
  refine lv_iconst (v := (1 : Int32)) hx hb dX1_has_3 (by decide) ?_
  refine lv_iand hx hb dX1_has_4 ?_
  refine lv_iconst (v := (1 : Int32)) hx hb dX1_has_5 (by decide) ?_
  refine lv_icmp_ne (tgt := 13) hx hb dX1_has_6 (by decide) (fun c1 => ?_) (fun c1 => ?_)
  · replace h := h.1 c1
    refine lv_iconst (v := (0 : Int32)) hx hb dX1_has_13 (by decide) ?_
    exact rt_i F dX1_has_14 rfl () h hP hD hS (Nat.le_refl _) (Nat.le_refl _)
  · replace h := h.2 c1
    refine lv_iconst (v := (1 : Int32)) hx hb dX1_has_9 (by decide) ?_
    refine lv_goto (tgt := 14) hx hb dX1_has_10 (by decide) ?_
    exact rt_i F dX1_has_14 rfl () h hP hD hS (Nat.le_refl _) (Nat.le_refl _)
set_option maxHeartbeats 4000000 in
theorem ct_S_treats_i0 {l : Launch} {V : evT} {D : va_G} {gI : Nat → ClassId} {o : Nat} {ax : Nat → Nat} {rn : Option (Nat × Nat)} {tl : va_W} {v2 : Int32} {v3 : Int32} {fd : Nat → Int32} {ar : Nat → Nat → Int32} {lw : Nat → Int64} {hh : HT} {Q : (Nat → Nat → Int32) → Prop} (h : wp_S_treats 0 v2 v3 fd ar lw hh Q) : ct_v l V D vwCl (tyL gI) yX1_treats cX1_treats 4 { frames := 1, cells := 0, slots := 0, locals := 29 } [.ref o, .ref (ax 0), .int v2, .int v3] (wX gI o ax rn tl fd ar lw hh) (fun u : (Nat → Nat → Int32) => (wX gI o ax rn tl fd u lw hh)) (fun (u : (Nat → Nat → Int32)) => Q u) := by
  refine ct_ofv RX1 rfl (by decide +kernel) (Nat.le_of_ble_eq_true rfl) ?_
  intro p e s m args below meth c A F _ hP hD ls hl
  obtain ⟨⟨hx, hb, hml, hown, hts⟩, hr, hlocks, hA, hK, hE⟩ := id F
  have hS : va_S A s.heap s.heap [] := va_S.rf
  have hl : lv_has ls 4 [(0, .ref o), (1, .ref (ax 0)), (2, .int v2), (3, .int v3)] := hl
  have hRf : 1 ≤ ({ frames := 1, cells := 0, slots := 0, locals := 29 } : Room).frames := Nat.le_refl _
  have hRl : 29 ≤ ({ frames := 1, cells := 0, slots := 0, locals := 29 } : Room).locals := Nat.le_refl _
  have hC : 0 ≤ ({ frames := 1, cells := 0, slots := 0, locals := 29 } : Room).cells := Nat.le_refl _
  have hSl : 0 ≤ ({ frames := 1, cells := 0, slots := 0, locals := 29 } : Room).slots := Nat.le_refl _
  unfold wp_S_treats at h
  refine lv_aload_n hx hb dX1_treats_0 rfl (lv_at hl 1 rfl) ?_
  refine va_get hx hb hts in_X2 hown hK hP 14 rfl rfl 3 (Nat.le_of_ble_eq_true rfl) (hts _ q144) (fun _ h => h) (v := .ref (ax 43)) rfl dX1_treats_1 ?_
  refine lv_iload_n hx hb dX1_treats_4 rfl (lv_at hl 2 rfl) ?_
  refine lv_bipush (v := (9 : Int32)) hx hb dX1_treats_5 (by decide) ?_
  refine lv_aload_n hx hb dX1_treats_7 rfl (lv_at hl 1 rfl) ?_
  refine va_get hx hb hts in_X2 hown hK hP 14 rfl rfl 3 (Nat.le_of_ble_eq_true rfl) (hts _ q144) (fun _ h => h) (v := .ref (ax 43)) rfl dX1_treats_8 ?_
  refine lv_iload_n hx hb dX1_treats_11 rfl (lv_at hl 2 rfl) ?_
  refine va_iald (f := (ar 43)) hx hb hK hP 18 0 rfl rfl h.1 dX1_treats_12 ?_
  replace h := h.2
  refine lv_iconst (v := (3 : Int32)) hx hb dX1_treats_13 (by decide) ?_
  refine lv_iload_n hx hb dX1_treats_14 rfl (lv_at hl 3 rfl) ?_
  refine lv_imul hx hb dX1_treats_15 ?_
  refine lv_iadd hx hb dX1_treats_16 ?_
  refine va_mmin hx hb (hml.trans hl.1.symm) hown (hts _ q634) (hts _ q336) (hts _ q100) (hts _ q337) (Nat.le_trans (Nat.le_of_ble_eq_true rfl) hRf) (Nat.le_trans (Nat.le_of_ble_eq_true rfl) hRl) hC hSl dX1_treats_17 ?_
  refine pt_iast (f := (ar 43)) hx hb hK hP hD hS 18 0 rfl rfl h.1 dX1_treats_20 wXA_43 (fun H locs hP hD hS => ?_)
  replace h := h.2
  exact rt_v F dX1_treats_21 ((va_up ar 43 (upd (ar 43) v2.toNatClampNeg (mnI (9 : Int32) (((ar 43) v2.toNatClampNeg) + ((3 : Int32) * v3)))))) h hP hD hS (Nat.le_refl _) (Nat.le_refl _)
set_option maxHeartbeats 4000000 in
theorem ct_S_treats_i2 {l : Launch} {V : evT} {D : va_G} {gI : Nat → ClassId} {o : Nat} {ax : Nat → Nat} {rn : Option (Nat × Nat)} {tl : va_W} {v2 : Int32} {v3 : Int32} {fd : Nat → Int32} {ar : Nat → Nat → Int32} {lw : Nat → Int64} {hh : HT} {Q : (Nat → Nat → Int32) → Prop} (h : wp_S_treats 2 v2 v3 fd ar lw hh Q) : ct_v l V D vwCl (tyL gI) yX1_treats cX1_treats 4 { frames := 1, cells := 0, slots := 0, locals := 29 } [.ref o, .ref (ax 2), .int v2, .int v3] (wX gI o ax rn tl fd ar lw hh) (fun u : (Nat → Nat → Int32) => (wX gI o ax rn tl fd u lw hh)) (fun (u : (Nat → Nat → Int32)) => Q u) := by
  refine ct_ofv RX1 rfl (by decide +kernel) (Nat.le_of_ble_eq_true rfl) ?_
  intro p e s m args below meth c A F _ hP hD ls hl
  obtain ⟨⟨hx, hb, hml, hown, hts⟩, hr, hlocks, hA, hK, hE⟩ := id F
  have hS : va_S A s.heap s.heap [] := va_S.rf
  have hl : lv_has ls 4 [(0, .ref o), (1, .ref (ax 2)), (2, .int v2), (3, .int v3)] := hl
  have hRf : 1 ≤ ({ frames := 1, cells := 0, slots := 0, locals := 29 } : Room).frames := Nat.le_refl _
  have hRl : 29 ≤ ({ frames := 1, cells := 0, slots := 0, locals := 29 } : Room).locals := Nat.le_refl _
  have hC : 0 ≤ ({ frames := 1, cells := 0, slots := 0, locals := 29 } : Room).cells := Nat.le_refl _
  have hSl : 0 ≤ ({ frames := 1, cells := 0, slots := 0, locals := 29 } : Room).slots := Nat.le_refl _
  unfold wp_S_treats at h
  refine lv_aload_n hx hb dX1_treats_0 rfl (lv_at hl 1 rfl) ?_
  refine va_get hx hb hts in_X2 hown hK hP 24 rfl rfl 3 (Nat.le_of_ble_eq_true rfl) (hts _ q144) (fun _ h => h) (v := .ref (ax 51)) rfl dX1_treats_1 ?_
  refine lv_iload_n hx hb dX1_treats_4 rfl (lv_at hl 2 rfl) ?_
  refine lv_bipush (v := (9 : Int32)) hx hb dX1_treats_5 (by decide) ?_
  refine lv_aload_n hx hb dX1_treats_7 rfl (lv_at hl 1 rfl) ?_
  refine va_get hx hb hts in_X2 hown hK hP 24 rfl rfl 3 (Nat.le_of_ble_eq_true rfl) (hts _ q144) (fun _ h => h) (v := .ref (ax 51)) rfl dX1_treats_8 ?_
  refine lv_iload_n hx hb dX1_treats_11 rfl (lv_at hl 2 rfl) ?_
  refine va_iald (f := (ar 51)) hx hb hK hP 28 0 rfl rfl h.1 dX1_treats_12 ?_
  replace h := h.2
  refine lv_iconst (v := (3 : Int32)) hx hb dX1_treats_13 (by decide) ?_
  refine lv_iload_n hx hb dX1_treats_14 rfl (lv_at hl 3 rfl) ?_
  refine lv_imul hx hb dX1_treats_15 ?_
  refine lv_iadd hx hb dX1_treats_16 ?_
  refine va_mmin hx hb (hml.trans hl.1.symm) hown (hts _ q634) (hts _ q336) (hts _ q100) (hts _ q337) (Nat.le_trans (Nat.le_of_ble_eq_true rfl) hRf) (Nat.le_trans (Nat.le_of_ble_eq_true rfl) hRl) hC hSl dX1_treats_17 ?_
  refine pt_iast (f := (ar 51)) hx hb hK hP hD hS 28 0 rfl rfl h.1 dX1_treats_20 wXA_51 (fun H locs hP hD hS => ?_)
  replace h := h.2
  exact rt_v F dX1_treats_21 ((va_up ar 51 (upd (ar 51) v2.toNatClampNeg (mnI (9 : Int32) (((ar 51) v2.toNatClampNeg) + ((3 : Int32) * v3)))))) h hP hD hS (Nat.le_refl _) (Nat.le_refl _)
set_option maxHeartbeats 4000000 in
theorem ct_S_moat {l : Launch} {V : evT} {D : va_G} {gI : Nat → ClassId} {o : Nat} {ax : Nat → Nat} {rn : Option (Nat × Nat)} {tl : va_W} {v1 : Int32} {fd : Nat → Int32} {ar : Nat → Nat → Int32} {lw : Nat → Int64} {hh : HT} {Q : Int32 → (Nat → Int32) → (HT) → Prop} (h : wp_S_moat v1 fd ar lw hh Q) : ct_i l V D vwCl (tyL gI) yX1_moat cX1_moat 2 .int { frames := 3, cells := 0, slots := 0, locals := 103 } [.ref o, .int v1] (wX gI o ax rn tl fd ar lw hh) (fun u : (Nat → Int32) × (HT) => (wX gI o ax rn tl u.1 ar lw u.2)) (fun (x : Int32) (u : (Nat → Int32) × (HT)) => Q x u.1 u.2) := by
  refine ct_ofi RX1 rfl (by decide +kernel) (Nat.le_of_ble_eq_true rfl) ?_
  intro p e s m args below meth c A F hP hD ls hl
  obtain ⟨⟨hx, hb, hml, hown, hts⟩, hr, hlocks, hA, hK, hE⟩ := id F
  have hS : va_S A s.heap s.heap [] := va_S.rf
  have hl : lv_has ls 2 [(0, .ref o), (1, .int v1)] := hl
  have hRf : 3 ≤ ({ frames := 3, cells := 0, slots := 0, locals := 103 } : Room).frames := Nat.le_refl _
  have hRl : 103 ≤ ({ frames := 3, cells := 0, slots := 0, locals := 103 } : Room).locals := Nat.le_refl _
  have hC : 0 ≤ ({ frames := 3, cells := 0, slots := 0, locals := 103 } : Room).cells := Nat.le_refl _
  have hSl : 0 ≤ ({ frames := 3, cells := 0, slots := 0, locals := 103 } : Room).slots := Nat.le_refl _
  unfold wp_S_moat at h
  refine lv_aload_n hx hb dX1_moat_0 rfl (lv_at hl 0 rfl) ?_
  refine lv_iload_n hx hb dX1_moat_1 rfl (lv_at hl 1 rfl) ?_
  refine cl_i F (va_runV (As := [.int v1]) (rest := []) ⟨hx, hb, hml, hown, hts⟩ (ct_S_isCell h _) (cwV 1 hts (lw_V q651 q653 qs9 q94 q654) rfl rfl rfl (by decide +kernel) ⟨Nat.le_trans (Nat.le_of_ble_eq_true rfl) hRf, Nat.le_trans (Nat.le_of_ble_eq_true rfl) hRl⟩) ⟨ct_blind, va_recv hK hP (ci := 0) (q0 := 0) rfl rfl, ct_at F hS hP hD⟩ rfl rfl hl.1 rfl (lv_room (Nat.le_of_ble_eq_true rfl)) dX1_moat_2 ⟨hC, hSl⟩) rfl rfl hD hS ?_
  rintro x1 _ H locs h hP hD hS
  refine lv_if_ne (tgt := 10) hx hb dX1_moat_5 (by decide) (fun c5 => ?_) (fun c5 => ?_)
  · replace h := h.1 c5
    refine lv_aload_n hx hb dX1_moat_10 rfl (lv_at hl 0 rfl) ?_
    refine lv_aload_n hx hb dX1_moat_11 rfl (lv_at hl 0 rfl) ?_
    refine va_get hx hb hts in_X1 hown hK hP 0 rfl rfl 0 (Nat.le_of_ble_eq_true rfl) (hts _ q180) (fun _ h => h) (v := .ref (ax 0)) rfl dX1_moat_12 ?_
    refine cl_v F (va_runV (As := [.ref (ax 0)]) (rest := []) ⟨hx, hb, hml, hown, hts⟩ (ct_S_remember_i0 h _) (cwV 1 hts (lw_V q655 q657 qs10 q94 q658) rfl rfl rfl (by decide +kernel) ⟨Nat.le_trans (Nat.le_of_ble_eq_true rfl) hRf, Nat.le_trans (Nat.le_of_ble_eq_true rfl) hRl⟩) ⟨ct_blind, va_recv hK hP (ci := 0) (q0 := 0) rfl rfl, ct_at F hS hP hD⟩ rfl rfl hl.1 rfl (lv_room (Nat.le_of_ble_eq_true rfl)) dX1_moat_15 ⟨hC, hSl⟩) rfl rfl hD hS ?_
    rintro ⟨fd2, hh3⟩ H locs h hP hD hS
    refine lv_aload_n hx hb dX1_moat_18 rfl (lv_at hl 0 rfl) ?_
    refine va_get hx hb hts in_X1 hown hK hP 0 rfl rfl 0 (Nat.le_of_ble_eq_true rfl) (hts _ q180) (fun _ h => h) (v := .ref (ax 0)) rfl dX1_moat_19 ?_
    refine lv_dup hx hb dX1_moat_22 rfl ?_
    refine va_get hx hb hts in_X2 hown hK hP 14 rfl rfl 4 (Nat.le_of_ble_eq_true rfl) (hts _ q146) (fun _ h => h) (v := .int (fd2 60)) rfl dX1_moat_23 ?_
    refine lv_iconst (v := (1 : Int32)) hx hb dX1_moat_26 (by decide) ?_
    refine lv_iload_n hx hb dX1_moat_27 rfl (lv_at hl 1 rfl) ?_
    refine lv_ishl hx hb dX1_moat_28 ?_
    refine lv_ixor hx hb dX1_moat_29 ?_
    refine pt_put (v := .int ((fd2 60) ^^^ ((1 : Int32) <<< (v1 &&& 31)))) hx hb hts in_X2 tyX2 tyX2_ok nmX2 hown hK hP hD hS 14 rfl rfl 4 (Nat.le_of_ble_eq_true rfl) (hts _ q146) (fun _ h => h) rfl (ty := .int) (by decide +kernel) rfl rfl (Nat.le_of_ble_eq_true rfl) dX1_moat_30 wXB_0_mo (fun H locs hP hD hS => ?_)
    refine lv_aload_n hx hb dX1_moat_33 rfl (lv_at hl 0 rfl) ?_
    refine va_get hx hb hts in_X1 hown hK hP 0 rfl rfl 0 (Nat.le_of_ble_eq_true rfl) (hts _ q180) (fun _ h => h) (v := .ref (ax 0)) rfl dX1_moat_34 ?_
    refine va_get hx hb hts in_X2 hown hK hP 14 rfl rfl 4 (Nat.le_of_ble_eq_true rfl) (hts _ q146) (fun _ h => h) (v := .int ((fd2 60) ^^^ ((1 : Int32) <<< (v1 &&& 31)))) rfl dX1_moat_37 ?_
    refine cl_i0 F (va_runS (As := [.int ((fd2 60) ^^^ ((1 : Int32) <<< (v1 &&& 31)))]) (rest := []) ⟨hx, hb, hml, hown, hts⟩ (ct_J10_bitCount h _) (va_cwS 1 hts (lw_S q585 q586 q112 q587) rfl rfl rfl (by decide +kernel) ⟨Nat.le_trans (Nat.le_of_ble_eq_true rfl) hRf, Nat.le_trans (Nat.le_of_ble_eq_true rfl) hRl⟩) ⟨ct_blind, ct_at F hS ct_nP ct_nD⟩ rfl rfl hl.1 rfl (lv_room (Nat.le_of_ble_eq_true rfl)) dX1_moat_40 ⟨hC, hSl⟩) rfl rfl hP hS ?_
    rintro x4 _ H locs h hP hS
    exact rt_i F dX1_moat_43 rfl ((upd fd2 60 ((fd2 60) ^^^ ((1 : Int32) <<< (v1 &&& 31)))), hh3) h hP hD hS (Nat.le_refl _) (Nat.le_refl _)
  · replace h := h.2 c5
    refine lv_iconst (v := (-1 : Int32)) hx hb dX1_moat_8 (by decide) ?_
    exact rt_i F dX1_moat_9 rfl (fd, hh) h hP hD hS (Nat.le_refl _) (Nat.le_refl _)
set_option maxHeartbeats 4000000 in
theorem ct_S_areFriends {l : Launch} {V : evT} {D : va_G} {gI : Nat → ClassId} {o : Nat} {ax : Nat → Nat} {rn : Option (Nat × Nat)} {tl : va_W} {v1 : Int32} {v2 : Int32} {fd : Nat → Int32} {ar : Nat → Nat → Int32} {lw : Nat → Int64} {hh : HT} {Q : Int32 → Prop} (h : wp_S_areFriends v1 v2 fd ar lw hh Q) : ct_i l V D vwCl (tyL gI) yX1_areFriends cX1_areFriends 3 .boolean { frames := 1, cells := 0, slots := 0, locals := 12 } [.ref o, .int v1, .int v2] (wX gI o ax rn tl fd ar lw hh) (fun u : Unit => (wX gI o ax rn tl fd ar lw hh)) (fun (x : Int32) (u : Unit) => Q x) := by
  refine ct_ofi RX1 rfl (by decide +kernel) (Nat.le_of_ble_eq_true rfl) ?_
  intro p e s m args below meth c A F hP hD ls hl
  obtain ⟨⟨hx, hb, hml, hown, hts⟩, hr, hlocks, hA, hK, hE⟩ := id F
  have hS : va_S A s.heap s.heap [] := va_S.rf
  have hl : lv_has ls 3 [(0, .ref o), (1, .int v1), (2, .int v2)] := hl
  have hRf : 1 ≤ ({ frames := 1, cells := 0, slots := 0, locals := 12 } : Room).frames := Nat.le_refl _
  have hRl : 12 ≤ ({ frames := 1, cells := 0, slots := 0, locals := 12 } : Room).locals := Nat.le_refl _
  have hC : 0 ≤ ({ frames := 1, cells := 0, slots := 0, locals := 12 } : Room).cells := Nat.le_refl _
  have hSl : 0 ≤ ({ frames := 1, cells := 0, slots := 0, locals := 12 } : Room).slots := Nat.le_refl _
  unfold wp_S_areFriends at h
  refine lv_aload_n hx hb dX1_areFriends_0 rfl (lv_at hl 0 rfl) ?_
  refine va_get hx hb hts in_X1 hown hK hP 0 rfl rfl 8 (Nat.le_of_ble_eq_true rfl) (hts _ q192) (fun _ h => h) (v := .ref (ax 8)) rfl dX1_areFriends_1 ?_
  refine lv_iload_n hx hb dX1_areFriends_4 rfl (lv_at hl 1 rfl) ?_
  refine va_iald (f := (ar 8)) hx hb hK hP 5 0 rfl rfl h.1 dX1_areFriends_5 ?_
  replace h := h.2
  refine lv_iload_n hx hb dX1_areFriends_6 rfl (lv_at hl 2 rfl) ?_
  refine lv_icmp_eq (tgt := 20) hx hb dX1_areFriends_7 (by decide) (fun c2 => ?_) (fun c2 => ?_)
  · replace h := h.1 c2
    refine lv_iconst (v := (1 : Int32)) hx hb dX1_areFriends_20 (by decide) ?_
    refine lv_goto (tgt := 25) hx hb dX1_areFriends_21 (by decide) ?_
    exact rt_i F dX1_areFriends_25 rfl () h hP hD hS (Nat.le_refl _) (Nat.le_refl _)
  · replace h := h.2 c2
    refine lv_aload_n hx hb dX1_areFriends_10 rfl (lv_at hl 0 rfl) ?_
    refine va_get hx hb hts in_X1 hown hK hP 0 rfl rfl 8 (Nat.le_of_ble_eq_true rfl) (hts _ q192) (fun _ h => h) (v := .ref (ax 8)) rfl dX1_areFriends_11 ?_
    refine lv_iload_n hx hb dX1_areFriends_14 rfl (lv_at hl 2 rfl) ?_
    refine va_iald (f := (ar 8)) hx hb hK hP 5 0 rfl rfl h.1 dX1_areFriends_15 ?_
    replace h := h.2
    refine lv_iload_n hx hb dX1_areFriends_16 rfl (lv_at hl 1 rfl) ?_
    refine lv_icmp_ne (tgt := 24) hx hb dX1_areFriends_17 (by decide) (fun c1 => ?_) (fun c1 => ?_)
    · replace h := h.1 c1
      refine lv_iconst (v := (0 : Int32)) hx hb dX1_areFriends_24 (by decide) ?_
      exact rt_i F dX1_areFriends_25 rfl () h hP hD hS (Nat.le_refl _) (Nat.le_refl _)
    · replace h := h.2 c1
      refine lv_iconst (v := (1 : Int32)) hx hb dX1_areFriends_20 (by decide) ?_
      refine lv_goto (tgt := 25) hx hb dX1_areFriends_21 (by decide) ?_
      exact rt_i F dX1_areFriends_25 rfl () h hP hD hS (Nat.le_refl _) (Nat.le_refl _)
set_option maxHeartbeats 4000000 in
theorem ct_S_tell {l : Launch} {V : evT} {D : va_G} {gI : Nat → ClassId} {o : Nat} {ax : Nat → Nat} {rn : Option (Nat × Nat)} {tl : va_W} {v1 : Int64} {fd : Nat → Int32} {ar : Nat → Nat → Int32} {lw : Nat → Int64} {hh : HT} {Q : (Nat → Int32) → (Nat → Int64) → Prop} (h : wp_S_tell v1 fd ar lw hh Q) : ct_v l V D vwCl (tyL gI) yX1_tell cX1_tell 3 { frames := 1, cells := 0, slots := 0, locals := 12 } [.ref o, .long v1] (wX gI o ax rn tl fd ar lw hh) (fun u : (Nat → Int32) × (Nat → Int64) => (wX gI o ax rn tl u.1 ar u.2 hh)) (fun (u : (Nat → Int32) × (Nat → Int64)) => Q u.1 u.2) := by
  refine ct_ofv RX1 rfl (by decide +kernel) (Nat.le_of_ble_eq_true rfl) ?_
  intro p e s m args below meth c A F _ hP hD ls hl
  obtain ⟨⟨hx, hb, hml, hown, hts⟩, hr, hlocks, hA, hK, hE⟩ := id F
  have hS : va_S A s.heap s.heap [] := va_S.rf
  have hl : lv_has ls 3 [(0, .ref o), (1, .long v1)] := hl
  have hRf : 1 ≤ ({ frames := 1, cells := 0, slots := 0, locals := 12 } : Room).frames := Nat.le_refl _
  have hRl : 12 ≤ ({ frames := 1, cells := 0, slots := 0, locals := 12 } : Room).locals := Nat.le_refl _
  have hC : 0 ≤ ({ frames := 1, cells := 0, slots := 0, locals := 12 } : Room).cells := Nat.le_refl _
  have hSl : 0 ≤ ({ frames := 1, cells := 0, slots := 0, locals := 12 } : Room).slots := Nat.le_refl _
  unfold wp_S_tell at h
  refine lv_aload_n hx hb dX1_tell_0 rfl (lv_at hl 0 rfl) ?_
  refine va_get hx hb hts in_X1 hown hK hP 0 rfl rfl 17 (Nat.le_of_ble_eq_true rfl) (hts _ q208) (fun _ h => h) (v := .ref (ax 17)) rfl dX1_tell_1 ?_
  refine lv_aload_n hx hb dX1_tell_4 rfl (lv_at hl 0 rfl) ?_
  refine va_get hx hb hts in_X1 hown hK hP 0 rfl rfl 18 (Nat.le_of_ble_eq_true rfl) (hts _ q209) (fun _ h => h) (v := .int (fd 18)) rfl dX1_tell_5 ?_
  refine lv_lload_n hx hb dX1_tell_8 rfl (lv_at hl 1 rfl) ?_
  refine pt_last (f := lw) hx hb hK hP hD hS 7 1 rfl rfl h.1 dX1_tell_9 wXL (fun H locs hP hD hS => ?_)
  replace h := h.2
  refine lv_aload_n hx hb dX1_tell_10 rfl (lv_at hl 0 rfl) ?_
  refine lv_dup hx hb dX1_tell_11 rfl ?_
  refine va_get hx hb hts in_X1 hown hK hP 0 rfl rfl 18 (Nat.le_of_ble_eq_true rfl) (hts _ q209) (fun _ h => h) (v := .int (fd 18)) rfl dX1_tell_12 ?_
  refine lv_iconst (v := (1 : Int32)) hx hb dX1_tell_15 (by decide) ?_
  refine lv_iadd hx hb dX1_tell_16 ?_
  refine pt_put (v := .int ((fd 18) + (1 : Int32))) hx hb hts in_X1 tyX1 tyX1_ok nmX1 hown hK hP hD hS 0 rfl rfl 18 (Nat.le_of_ble_eq_true rfl) (hts _ q209) (fun _ h => h) rfl (ty := .int) (by decide +kernel) rfl rfl (Nat.le_of_ble_eq_true rfl) dX1_tell_17 wXF_18 (fun H locs hP hD hS => ?_)
  exact rt_v F dX1_tell_20 ((upd fd 18 ((fd 18) + (1 : Int32))), (vp_updL lw (fd 18).toNatClampNeg v1)) h hP hD hS (Nat.le_refl _) (Nat.le_refl _)
set_option maxHeartbeats 4000000 in
theorem ct_S_topOf_i0 {l : Launch} {V : evT} {D : va_G} {gI : Nat → ClassId} {o : Nat} {ax : Nat → Nat} {rn : Option (Nat × Nat)} {tl : va_W} {v2 : Int32} {fd : Nat → Int32} {ar : Nat → Nat → Int32} {lw : Nat → Int64} {hh : HT} {Q : Int32 → Prop} (h : wp_S_topOf 0 v2 fd ar lw hh Q) : ct_i l V D vwCl (tyL gI) yX1_topOf cX1_topOf 3 .int { frames := 1, cells := 0, slots := 0, locals := 12 } [.ref o, .ref (ax 0), .int v2] (wX gI o ax rn tl fd ar lw hh) (fun u : Unit => (wX gI o ax rn tl fd ar lw hh)) (fun (x : Int32) (u : Unit) => Q x) := by
  refine ct_ofi RX1 rfl (by decide +kernel) (Nat.le_of_ble_eq_true rfl) ?_
  intro p e s m args below meth c A F hP hD ls hl
  obtain ⟨⟨hx, hb, hml, hown, hts⟩, hr, hlocks, hA, hK, hE⟩ := id F
  have hS : va_S A s.heap s.heap [] := va_S.rf
  have hl : lv_has ls 3 [(0, .ref o), (1, .ref (ax 0)), (2, .int v2)] := hl
  have hRf : 1 ≤ ({ frames := 1, cells := 0, slots := 0, locals := 12 } : Room).frames := Nat.le_refl _
  have hRl : 12 ≤ ({ frames := 1, cells := 0, slots := 0, locals := 12 } : Room).locals := Nat.le_refl _
  have hC : 0 ≤ ({ frames := 1, cells := 0, slots := 0, locals := 12 } : Room).cells := Nat.le_refl _
  have hSl : 0 ≤ ({ frames := 1, cells := 0, slots := 0, locals := 12 } : Room).slots := Nat.le_refl _
  unfold wp_S_topOf at h
  refine lv_bipush (v := (10 : Int32)) hx hb dX1_topOf_0 (by decide) ?_
  refine lv_aload_n hx hb dX1_topOf_2 rfl (lv_at hl 0 rfl) ?_
  refine va_get hx hb hts in_X1 hown hK hP 0 rfl rfl 4 (Nat.le_of_ble_eq_true rfl) (hts _ q188) (fun _ h => h) (v := .ref (ax 4)) rfl dX1_topOf_3 ?_
  refine lv_iload_n hx hb dX1_topOf_6 rfl (lv_at hl 2 rfl) ?_
  refine va_iald (f := (ar 4)) hx hb hK hP 1 0 rfl rfl h.1 dX1_topOf_7 ?_
  replace h := h.2
  refine lv_imul hx hb dX1_topOf_8 ?_
  refine lv_aload_n hx hb dX1_topOf_9 rfl (lv_at hl 1 rfl) ?_
  refine va_get hx hb hts in_X2 hown hK hP 14 rfl rfl 0 (Nat.le_of_ble_eq_true rfl) (hts _ q135) (fun _ h => h) (v := .ref (ax 40)) rfl dX1_topOf_10 ?_
  refine lv_iload_n hx hb dX1_topOf_13 rfl (lv_at hl 2 rfl) ?_
  refine va_iald (f := (ar 40)) hx hb hK hP 15 0 rfl rfl h.1 dX1_topOf_14 ?_
  replace h := h.2
  refine lv_iadd hx hb dX1_topOf_15 ?_
  exact rt_i F dX1_topOf_16 rfl () h hP hD hS (Nat.le_refl _) (Nat.le_refl _)
set_option maxHeartbeats 4000000 in
theorem ct_S_topOf_i2 {l : Launch} {V : evT} {D : va_G} {gI : Nat → ClassId} {o : Nat} {ax : Nat → Nat} {rn : Option (Nat × Nat)} {tl : va_W} {v2 : Int32} {fd : Nat → Int32} {ar : Nat → Nat → Int32} {lw : Nat → Int64} {hh : HT} {Q : Int32 → Prop} (h : wp_S_topOf 2 v2 fd ar lw hh Q) : ct_i l V D vwCl (tyL gI) yX1_topOf cX1_topOf 3 .int { frames := 1, cells := 0, slots := 0, locals := 12 } [.ref o, .ref (ax 2), .int v2] (wX gI o ax rn tl fd ar lw hh) (fun u : Unit => (wX gI o ax rn tl fd ar lw hh)) (fun (x : Int32) (u : Unit) => Q x) := by
  refine ct_ofi RX1 rfl (by decide +kernel) (Nat.le_of_ble_eq_true rfl) ?_
  intro p e s m args below meth c A F hP hD ls hl
  obtain ⟨⟨hx, hb, hml, hown, hts⟩, hr, hlocks, hA, hK, hE⟩ := id F
  have hS : va_S A s.heap s.heap [] := va_S.rf
  have hl : lv_has ls 3 [(0, .ref o), (1, .ref (ax 2)), (2, .int v2)] := hl
  have hRf : 1 ≤ ({ frames := 1, cells := 0, slots := 0, locals := 12 } : Room).frames := Nat.le_refl _
  have hRl : 12 ≤ ({ frames := 1, cells := 0, slots := 0, locals := 12 } : Room).locals := Nat.le_refl _
  have hC : 0 ≤ ({ frames := 1, cells := 0, slots := 0, locals := 12 } : Room).cells := Nat.le_refl _
  have hSl : 0 ≤ ({ frames := 1, cells := 0, slots := 0, locals := 12 } : Room).slots := Nat.le_refl _
  unfold wp_S_topOf at h
  refine lv_bipush (v := (10 : Int32)) hx hb dX1_topOf_0 (by decide) ?_
  refine lv_aload_n hx hb dX1_topOf_2 rfl (lv_at hl 0 rfl) ?_
  refine va_get hx hb hts in_X1 hown hK hP 0 rfl rfl 4 (Nat.le_of_ble_eq_true rfl) (hts _ q188) (fun _ h => h) (v := .ref (ax 4)) rfl dX1_topOf_3 ?_
  refine lv_iload_n hx hb dX1_topOf_6 rfl (lv_at hl 2 rfl) ?_
  refine va_iald (f := (ar 4)) hx hb hK hP 1 0 rfl rfl h.1 dX1_topOf_7 ?_
  replace h := h.2
  refine lv_imul hx hb dX1_topOf_8 ?_
  refine lv_aload_n hx hb dX1_topOf_9 rfl (lv_at hl 1 rfl) ?_
  refine va_get hx hb hts in_X2 hown hK hP 24 rfl rfl 0 (Nat.le_of_ble_eq_true rfl) (hts _ q135) (fun _ h => h) (v := .ref (ax 48)) rfl dX1_topOf_10 ?_
  refine lv_iload_n hx hb dX1_topOf_13 rfl (lv_at hl 2 rfl) ?_
  refine va_iald (f := (ar 48)) hx hb hK hP 25 0 rfl rfl h.1 dX1_topOf_14 ?_
  replace h := h.2
  refine lv_iadd hx hb dX1_topOf_15 ?_
  exact rt_i F dX1_topOf_16 rfl () h hP hD hS (Nat.le_refl _) (Nat.le_refl _)
set_option maxHeartbeats 4000000 in
theorem lp_S_pump_L1 {p : Program} {l : Launch} {e : Env} {R : Room} {s : State} {m : MethodId} {args : Array Value} {below : List Frame} {meth : Method} {c : Code} {cells slots : Nat} {A : Nat → Prop} {Qf : State → Prop} {V : evT} {D : va_G} {gI : Nat → ClassId} {o : Nat} {ax : Nat → Nat} {rn : Option (Nat × Nat)} {tl : va_W} {v1 : Int32} {fd : Nat → Int32} {lw : Nat → Int64} {hh : HT} {K62 : (Nat → Nat → Int32) → Prop} (F : ct_F p m c meth cX1_pump 3 s args RX1 (some .int) A V D vwCl (tyL gI)) (hRf : 3 ≤ R.frames) (hRl : 103 ≤ R.locals) (hC : cells ≤ R.cells) (hSl : slots ≤ R.slots)
    (hK62 : ∀ (ar : Nat → Nat → Int32), K62 ar → ∀ (H : Heap) (locs : List Loc) (ls : Array Slot), va_P D vwCl (wX gI o ax rn tl fd ar lw hh) H → va_D A (wX gI o ax rn tl fd ar lw hh) → va_S A s.heap H locs → lv_has ls 3 [(0, .ref o)] → W p l e R s m args below meth c H locs cells slots Qf (F0 m 62 ls [])) :
    ∀ (n : Nat) (v2 : Int32) (ar : Nat → Nat → Int32), wp_S_pump_L1 v1 fd lw hh K62 n v2 ar → ∀ (H : Heap) (locs : List Loc) (ls : Array Slot), va_P D vwCl (wX gI o ax rn tl fd ar lw hh) H → va_D A (wX gI o ax rn tl fd ar lw hh) → va_S A s.heap H locs → lv_has ls 3 [(0, .ref o), (1, .int v1), (2, .int v2)] → W p l e R s m args below meth c H locs cells slots Qf (F0 m 24 ls []) := by
  obtain ⟨⟨hx, hb, hml, hown, hts⟩, hr, hlocks, hA, hK, hE⟩ := id F
  intro n
  induction n with
  | zero => intro v2 ar h; exact h.elim
  | succ n ih =>
    intro v2 ar h H locs ls hP hD hS hl
    unfold wp_S_pump_L1 at h
    refine lv_iload_n hx hb dX1_pump_24 rfl (lv_at hl 2 rfl) ?_
    refine lv_aload_n hx hb dX1_pump_25 rfl (lv_at hl 0 rfl) ?_
    refine va_get hx hb hts in_X1 hown hK hP 0 rfl rfl 9 (Nat.le_of_ble_eq_true rfl) (hts _ q195) (fun _ h => h) (v := .int (fd 9)) rfl dX1_pump_26 ?_
    refine lv_icmp_ge (tgt := 62) hx hb dX1_pump_29 (by decide) (fun c4 => ?_) (fun c4 => ?_)
    · replace h := h.1 c4
      exact hK62 _ h _ _ _ hP hD hS (lv_sub hl [0] rfl)
    · replace h := h.2 c4
      refine lv_aload_n hx hb dX1_pump_32 rfl (lv_at hl 0 rfl) ?_
      refine va_get hx hb hts in_X1 hown hK hP 0 rfl rfl 0 (Nat.le_of_ble_eq_true rfl) (hts _ q180) (fun _ h => h) (v := .ref (ax 0)) rfl dX1_pump_33 ?_
      refine va_get hx hb hts in_X2 hown hK hP 14 rfl rfl 1 (Nat.le_of_ble_eq_true rfl) (hts _ q137) (fun _ h => h) (v := .ref (ax 41)) rfl dX1_pump_36 ?_
      refine lv_iload_n hx hb dX1_pump_39 rfl (lv_at hl 2 rfl) ?_
      refine lv_iconst (v := (0 : Int32)) hx hb dX1_pump_40 (by decide) ?_
      refine lv_aload_n hx hb dX1_pump_41 rfl (lv_at hl 0 rfl) ?_
      refine va_get hx hb hts in_X1 hown hK hP 0 rfl rfl 0 (Nat.le_of_ble_eq_true rfl) (hts _ q180) (fun _ h => h) (v := .ref (ax 0)) rfl dX1_pump_42 ?_
      refine va_get hx hb hts in_X2 hown hK hP 14 rfl rfl 1 (Nat.le_of_ble_eq_true rfl) (hts _ q137) (fun _ h => h) (v := .ref (ax 41)) rfl dX1_pump_45 ?_
      refine lv_iload_n hx hb dX1_pump_48 rfl (lv_at hl 2 rfl) ?_
      refine va_iald (f := (ar 41)) hx hb hK hP 16 0 rfl rfl h.1 dX1_pump_49 ?_
      replace h := h.2
      refine lv_iload_n hx hb dX1_pump_50 rfl (lv_at hl 1 rfl) ?_
      refine lv_isub hx hb dX1_pump_51 ?_
      refine va_mmax hx hb (hml.trans hl.1.symm) hown (hts _ q635) (hts _ q636) (hts _ q100) (hts _ q637) (Nat.le_trans (Nat.le_of_ble_eq_true rfl) hRf) (Nat.le_trans (Nat.le_of_ble_eq_true rfl) hRl) hC hSl dX1_pump_52 ?_
      refine pt_iast (f := (ar 41)) hx hb hK hP hD hS 16 0 rfl rfl h.1 dX1_pump_55 wXA_41 (fun H locs hP hD hS => ?_)
      replace h := h.2
      refine lv_iinc (v := (v2 + (1 : Int32))) (lv' := [(2, .int (v2 + (1 : Int32))), (0, .ref o), (1, .int v1)]) hx hb dX1_pump_56 hl (k := 2) rfl rfl (by decide) rfl (fun ls hl => ?_)
      refine lv_goto (tgt := 24) hx hb dX1_pump_59 (by decide) ?_
      exact ih _ _ h _ _ _ hP hD hS (lv_sub hl [1, 2, 0] rfl)
set_option maxHeartbeats 4000000 in
theorem ct_S_pump {l : Launch} {V : evT} {D : va_G} {gI : Nat → ClassId} {o : Nat} {ax : Nat → Nat} {rn : Option (Nat × Nat)} {tl : va_W} {v1 : Int32} {fd : Nat → Int32} {ar : Nat → Nat → Int32} {lw : Nat → Int64} {hh : HT} {Q : Int32 → (Nat → Int32) → (Nat → Nat → Int32) → (HT) → Prop} (h : wp_S_pump v1 fd ar lw hh Q) : ct_i l V D vwCl (tyL gI) yX1_pump cX1_pump 3 .int { frames := 3, cells := 0, slots := 0, locals := 103 } [.ref o, .int v1] (wX gI o ax rn tl fd ar lw hh) (fun u : (Nat → Int32) × (Nat → Nat → Int32) × (HT) => (wX gI o ax rn tl u.1 u.2.1 lw u.2.2)) (fun (x : Int32) (u : (Nat → Int32) × (Nat → Nat → Int32) × (HT)) => Q x u.1 u.2.1 u.2.2) := by
  refine ct_ofi RX1 rfl (by decide +kernel) (Nat.le_of_ble_eq_true rfl) ?_
  intro p e s m args below meth c A F hP hD ls hl
  obtain ⟨⟨hx, hb, hml, hown, hts⟩, hr, hlocks, hA, hK, hE⟩ := id F
  have hS : va_S A s.heap s.heap [] := va_S.rf
  have hl : lv_has ls 3 [(0, .ref o), (1, .int v1)] := hl
  have hRf : 3 ≤ ({ frames := 3, cells := 0, slots := 0, locals := 103 } : Room).frames := Nat.le_refl _
  have hRl : 103 ≤ ({ frames := 3, cells := 0, slots := 0, locals := 103 } : Room).locals := Nat.le_refl _
  have hC : 0 ≤ ({ frames := 3, cells := 0, slots := 0, locals := 103 } : Room).cells := Nat.le_refl _
  have hSl : 0 ≤ ({ frames := 3, cells := 0, slots := 0, locals := 103 } : Room).slots := Nat.le_refl _
  unfold wp_S_pump at h
  refine lv_iload_n hx hb dX1_pump_0 rfl (lv_at hl 1 rfl) ?_
  refine lv_i2l (v := (v1.toInt64)) hx hb dX1_pump_1 rfl ?_
  refine lv_lconst (v := (1 : Int64)) hx hb dX1_pump_2 (by decide) ?_
  refine lv_ldc2 (v := (99 : Int64)) hx hb hown (hts _ q772) dX1_pump_3 ?_
  refine cl_i0 F (va_runS (As := [.long (v1.toInt64), .long (1 : Int64), .long (99 : Int64)]) (rest := []) ⟨hx, hb, hml, hown, hts⟩ (ct_X1_in h _) (va_cwS 3 hts (lw_S q298 q299 q94 q300) rfl rfl rfl (by decide +kernel) ⟨Nat.le_trans (Nat.le_of_ble_eq_true rfl) hRf, Nat.le_trans (Nat.le_of_ble_eq_true rfl) hRl⟩) ⟨ct_blind, ct_at F hS ct_nP ct_nD⟩ rfl rfl hl.1 rfl (lv_room (Nat.le_of_ble_eq_true rfl)) dX1_pump_6 ⟨hC, hSl⟩) rfl rfl hP hS ?_
  rintro x1 _ H locs h hP hS
  refine lv_if_ne (tgt := 14) hx hb dX1_pump_9 (by decide) (fun c8 => ?_) (fun c8 => ?_)
  · replace h := h.1 c8
    refine lv_aload_n hx hb dX1_pump_14 rfl (lv_at hl 0 rfl) ?_
    refine lv_aload_n hx hb dX1_pump_15 rfl (lv_at hl 0 rfl) ?_
    refine va_get hx hb hts in_X1 hown hK hP 0 rfl rfl 0 (Nat.le_of_ble_eq_true rfl) (hts _ q180) (fun _ h => h) (v := .ref (ax 0)) rfl dX1_pump_16 ?_
    refine cl_v F (va_runV (As := [.ref (ax 0)]) (rest := []) ⟨hx, hb, hml, hown, hts⟩ (ct_S_remember_i0 h _) (cwV 1 hts (lw_V q655 q657 qs10 q94 q658) rfl rfl rfl (by decide +kernel) ⟨Nat.le_trans (Nat.le_of_ble_eq_true rfl) hRf, Nat.le_trans (Nat.le_of_ble_eq_true rfl) hRl⟩) ⟨ct_blind, va_recv hK hP (ci := 0) (q0 := 0) rfl rfl, ct_at F hS hP hD⟩ rfl rfl hl.1 rfl (lv_room (Nat.le_of_ble_eq_true rfl)) dX1_pump_19 ⟨hC, hSl⟩) rfl rfl hD hS ?_
    rintro ⟨fd2, hh3⟩ H locs h hP hD hS
    refine lv_iconst (v := (0 : Int32)) hx hb dX1_pump_22 (by decide) ?_
    refine lv_istore_n (lv' := [(2, .int (0 : Int32)), (0, .ref o), (1, .int v1)]) hx hb dX1_pump_23 rfl hl (by decide) rfl (fun ls hl => ?_)
    obtain ⟨k24, h⟩ := h
    refine lp_S_pump_L1 F hRf hRl hC hSl ?hk62 k24 _ _ h _ _ _ hP hD hS (lv_sub hl [1, 2, 0] rfl)
    case hk62 =>
      intro ar_5 h H locs ls hP hD hS hl
      refine lv_aload_n hx hb dX1_pump_62 rfl (lv_at hl 0 rfl) ?_
      refine va_get hx hb hts in_X1 hown hK hP 0 rfl rfl 0 (Nat.le_of_ble_eq_true rfl) (hts _ q180) (fun _ h => h) (v := .ref (ax 0)) rfl dX1_pump_63 ?_
      refine lv_aload_n hx hb dX1_pump_66 rfl (lv_at hl 0 rfl) ?_
      refine va_get hx hb hts in_X1 hown hK hP 0 rfl rfl 9 (Nat.le_of_ble_eq_true rfl) (hts _ q195) (fun _ h => h) (v := .int (fd2 9)) rfl dX1_pump_67 ?_
      refine cl_iL F (va_runV (As := [.int (fd2 9)]) (rest := []) ⟨hx, hb, hml, hown, hts⟩ (ct_B_wet (o := (ax 0)) (ab := axb ax 0) h _) (cwV 1 hts (lw_V q773 q774 q775 q95 q776) rfl rfl rfl (by decide +kernel) ⟨Nat.le_trans (Nat.le_of_ble_eq_true rfl) hRf, Nat.le_trans (Nat.le_of_ble_eq_true rfl) hRl⟩) ⟨ct_blind, va_recv hK hP (ci := 1) (q0 := 14) rfl rfl, ct_at F hS (putL_P hP (ps := [14, 15, 16, 17, 18]) rfl) (hD.sub ([14, 15, 16, 17, 18]) (by decide) rfl)⟩ rfl rfl hl.1 rfl (lv_room (Nat.le_of_ble_eq_true rfl)) dX1_pump_70 ⟨hC, hSl⟩) rfl rfl hP hD hS (ps := [14, 15, 16, 17, 18]) rfl (fun _ => rfl) (fun _ => wXP_0_none) ?_
      rintro x6 _ H locs h hP hD hS
      refine cl_i0 F (va_runS (As := [.int x6]) (rest := []) ⟨hx, hb, hml, hown, hts⟩ (ct_J10_bitCount h _) (va_cwS 1 hts (lw_S q585 q586 q112 q587) rfl rfl rfl (by decide +kernel) ⟨Nat.le_trans (Nat.le_of_ble_eq_true rfl) hRf, Nat.le_trans (Nat.le_of_ble_eq_true rfl) hRl⟩) ⟨ct_blind, ct_at F hS ct_nP ct_nD⟩ rfl rfl hl.1 rfl (lv_room (Nat.le_of_ble_eq_true rfl)) dX1_pump_73 ⟨hC, hSl⟩) rfl rfl hP hS ?_
      rintro x7 _ H locs h hP hS
      exact rt_i F dX1_pump_76 rfl (fd2, ar_5, hh3) h hP hD hS (Nat.le_refl _) (Nat.le_refl _)
  · replace h := h.2 c8
    refine lv_iconst (v := (-1 : Int32)) hx hb dX1_pump_12 (by decide) ?_
    exact rt_i F dX1_pump_13 rfl (fd, ar, hh) h hP hD hS (Nat.le_refl _) (Nat.le_refl _)
set_option maxHeartbeats 4000000 in
theorem ct_S_undo {l : Launch} {V : evT} {D : va_G} {gI : Nat → ClassId} {o : Nat} {ax : Nat → Nat} {rn : Option (Nat × Nat)} {tl : va_W} {fd : Nat → Int32} {ar : Nat → Nat → Int32} {lw : Nat → Int64} {hh : HT} {Q : Int32 → (Nat → Int32) → (Nat → Nat → Int32) → Prop} (h : wp_S_undo fd ar lw hh Q) : ct_i l V D vwCl (tyL gI) yX1_undo cX1_undo 1 .int { frames := 2, cells := 0, slots := 0, locals := 81 } [.ref o] (wX gI o ax rn tl fd ar lw hh) (fun u : (Nat → Int32) × (Nat → Nat → Int32) => (wX gI o ax rn tl u.1 u.2 lw hh)) (fun (x : Int32) (u : (Nat → Int32) × (Nat → Nat → Int32)) => Q x u.1 u.2) := by
  refine ct_ofi RX1 rfl (by decide +kernel) (Nat.le_of_ble_eq_true rfl) ?_
  intro p e s m args below meth c A F hP hD ls hl
  obtain ⟨⟨hx, hb, hml, hown, hts⟩, hr, hlocks, hA, hK, hE⟩ := id F
  have hS : va_S A s.heap s.heap [] := va_S.rf
  have hl : lv_has ls 1 [(0, .ref o)] := hl
  have hRf : 2 ≤ ({ frames := 2, cells := 0, slots := 0, locals := 81 } : Room).frames := Nat.le_refl _
  have hRl : 81 ≤ ({ frames := 2, cells := 0, slots := 0, locals := 81 } : Room).locals := Nat.le_refl _
  have hC : 0 ≤ ({ frames := 2, cells := 0, slots := 0, locals := 81 } : Room).cells := Nat.le_refl _
  have hSl : 0 ≤ ({ frames := 2, cells := 0, slots := 0, locals := 81 } : Room).slots := Nat.le_refl _
  unfold wp_S_undo at h
  refine lv_aload_n hx hb dX1_undo_0 rfl (lv_at hl 0 rfl) ?_
  refine va_get hx hb hts in_X1 hown hK hP 0 rfl rfl 14 (Nat.le_of_ble_eq_true rfl) (hts _ q205) (fun _ h => h) (v := .int (fd 14)) rfl dX1_undo_1 ?_
  refine lv_if_ne (tgt := 9) hx hb dX1_undo_4 (by decide) (fun c9 => ?_) (fun c9 => ?_)
  · replace h := h.1 c9
    refine lv_aload_n hx hb dX1_undo_9 rfl (lv_at hl 0 rfl) ?_
    refine lv_dup hx hb dX1_undo_10 rfl ?_
    refine va_get hx hb hts in_X1 hown hK hP 0 rfl rfl 14 (Nat.le_of_ble_eq_true rfl) (hts _ q205) (fun _ h => h) (v := .int (fd 14)) rfl dX1_undo_11 ?_
    refine lv_iconst (v := (1 : Int32)) hx hb dX1_undo_14 (by decide) ?_
    refine lv_isub hx hb dX1_undo_15 ?_
    refine pt_put (v := .int ((fd 14) - (1 : Int32))) hx hb hts in_X1 tyX1 tyX1_ok nmX1 hown hK hP hD hS 0 rfl rfl 14 (Nat.le_of_ble_eq_true rfl) (hts _ q205) (fun _ h => h) rfl (ty := .int) (by decide +kernel) rfl rfl (Nat.le_of_ble_eq_true rfl) dX1_undo_16 wXF_14 (fun H locs hP hD hS => ?_)
    refine lv_aload_n hx hb dX1_undo_19 rfl (lv_at hl 0 rfl) ?_
    refine va_get hx hb hts in_X1 hown hK hP 0 rfl rfl 0 (Nat.le_of_ble_eq_true rfl) (hts _ q180) (fun _ h => h) (v := .ref (ax 0)) rfl dX1_undo_20 ?_
    refine lv_aload_n hx hb dX1_undo_23 rfl (lv_at hl 0 rfl) ?_
    refine va_get hx hb hts in_X1 hown hK hP 0 rfl rfl 3 (Nat.le_of_ble_eq_true rfl) (hts _ q187) (fun _ h => h) (v := .ref (ax 3)) rfl dX1_undo_24 ?_
    refine lv_aload_n hx hb dX1_undo_27 rfl (lv_at hl 0 rfl) ?_
    refine va_get hx hb hts in_X1 hown hK hP 0 rfl rfl 14 (Nat.le_of_ble_eq_true rfl) (hts _ q205) (fun _ h => h) (v := .int ((fd 14) - (1 : Int32))) rfl dX1_undo_28 ?_
    refine va_aldq (f := hqs ax hh.1) hx hb hK hP 29 4 rfl rfl h.1 dX1_undo_31 ?_
    have hi1 := h.2.1 (((fd 14) - (1 : Int32)).toNatClampNeg) (vp_ltN h.1)
    replace h := h.2.2
    refine cl_vL F (va_runV (As := [.ref (ax (100 + (hh.1 ((fd 14) - (1 : Int32)).toNatClampNeg)))]) (rest := []) ⟨hx, hb, hml, hown, hts⟩ (ct_B_be (o := (ax 0)) (ab := axb ax 0) (o2 := (ax (100 + (hh.1 ((fd 14) - (1 : Int32)).toNatClampNeg)))) (ab2 := axh ax (hh.1 ((fd 14) - (1 : Int32)).toNatClampNeg)) h _) (cwV 1 hts (lw_V q659 q660 q661 q95 q662) rfl rfl rfl (by decide +kernel) ⟨Nat.le_trans (Nat.le_of_ble_eq_true rfl) hRf, Nat.le_trans (Nat.le_of_ble_eq_true rfl) hRl⟩) ⟨ct_blind, va_recv hK hP (ci := 1) (q0 := 14) rfl rfl, ct_at F hS (putL_P hP (ps := [14, 15, 16, 17, 18] ++ psH (hh.1 ((fd 14) - (1 : Int32)).toNatClampNeg)) (wXUC hi1)) (hD.sub ([14, 15, 16, 17, 18] ++ psH (hh.1 ((fd 14) - (1 : Int32)).toNatClampNeg)) (wXUN hi1) (wXUC hi1))⟩ rfl rfl hl.1 rfl (lv_room (Nat.le_of_ble_eq_true rfl)) dX1_undo_32 ⟨hC, hSl⟩) rfl rfl hP hD hS (ps := [14, 15, 16, 17, 18] ++ psH (hh.1 ((fd 14) - (1 : Int32)).toNatClampNeg)) (wXUC hi1) (fun _ => rfl) (fun _ => wXUP hi1) ?_
    rintro ⟨wl2, dp3, aa4, md5, mo6, sp7, ti8⟩ H locs h hP hD hS
    refine lv_aload_n hx hb dX1_undo_35 rfl (lv_at hl 0 rfl) ?_
    refine va_get hx hb hts in_X1 hown hK hP 0 rfl rfl 14 (Nat.le_of_ble_eq_true rfl) (hts _ q205) (fun _ h => h) (v := .int ((fd 14) - (1 : Int32))) rfl dX1_undo_36 ?_
    exact rt_i F dX1_undo_39 rfl ((upd (upd (upd (upd fd 14 ((fd 14) - (1 : Int32))) 60 mo6) 61 sp7) 62 ti8), (va_up (va_up (va_up (va_up ar 40 wl2) 41 dp3) 42 aa4) 43 md5)) h hP hD hS (Nat.le_refl _) (Nat.le_refl _)
  · replace h := h.2 c9
    refine lv_iconst (v := (-1 : Int32)) hx hb dX1_undo_7 (by decide) ?_
    exact rt_i F dX1_undo_8 rfl (fd, ar) h hP hD hS (Nat.le_refl _) (Nat.le_refl _)
set_option maxHeartbeats 4000000 in
theorem ct_S_isFlood {l : Launch} {V : evT} {D : va_G} {gI : Nat → ClassId} {o : Nat} {ax : Nat → Nat} {rn : Option (Nat × Nat)} {tl : va_W} {v1 : Int32} {v2 : Int32} {fd : Nat → Int32} {ar : Nat → Nat → Int32} {lw : Nat → Int64} {hh : HT} {Q : Int32 → Prop} (h : wp_S_isFlood v1 v2 fd ar lw hh Q) : ct_i l V D vwCl (tyL gI) yX1_isFlood cX1_isFlood 3 .boolean { frames := 3, cells := 0, slots := 0, locals := 58 } [.ref o, .int v1, .int v2] (wX gI o ax rn tl fd ar lw hh) (fun u : Unit => (wX gI o ax rn tl fd ar lw hh)) (fun (x : Int32) (u : Unit) => Q x) := by
  refine ct_ofi RX1 rfl (by decide +kernel) (Nat.le_of_ble_eq_true rfl) ?_
  intro p e s m args below meth c A F hP hD ls hl
  obtain ⟨⟨hx, hb, hml, hown, hts⟩, hr, hlocks, hA, hK, hE⟩ := id F
  have hS : va_S A s.heap s.heap [] := va_S.rf
  have hl : lv_has ls 3 [(0, .ref o), (1, .int v1), (2, .int v2)] := hl
  have hRf : 3 ≤ ({ frames := 3, cells := 0, slots := 0, locals := 58 } : Room).frames := Nat.le_refl _
  have hRl : 58 ≤ ({ frames := 3, cells := 0, slots := 0, locals := 58 } : Room).locals := Nat.le_refl _
  have hC : 0 ≤ ({ frames := 3, cells := 0, slots := 0, locals := 58 } : Room).cells := Nat.le_refl _
  have hSl : 0 ≤ ({ frames := 3, cells := 0, slots := 0, locals := 58 } : Room).slots := Nat.le_refl _
  unfold wp_S_isFlood at h
  refine lv_aload_n hx hb dX1_isFlood_0 rfl (lv_at hl 0 rfl) ?_
  refine lv_iload_n hx hb dX1_isFlood_1 rfl (lv_at hl 1 rfl) ?_
  refine cl_i F (va_runV (As := [.int v1]) (rest := []) ⟨hx, hb, hml, hown, hts⟩ (ct_S_isCell h _) (cwV 1 hts (lw_V q651 q653 qs9 q94 q654) rfl rfl rfl (by decide +kernel) ⟨Nat.le_trans (Nat.le_of_ble_eq_true rfl) hRf, Nat.le_trans (Nat.le_of_ble_eq_true rfl) hRl⟩) ⟨ct_blind, va_recv hK hP (ci := 0) (q0 := 0) rfl rfl, ct_at F hS hP hD⟩ rfl rfl hl.1 rfl (lv_room (Nat.le_of_ble_eq_true rfl)) dX1_isFlood_2 ⟨hC, hSl⟩) rfl rfl hD hS ?_
  rintro x1 _ H locs h hP hD hS
  refine lv_if_eq (tgt := 24) hx hb dX1_isFlood_5 (by decide) (fun c4 => ?_) (fun c4 => ?_)
  · replace h := h.1 c4
    refine lv_iconst (v := (0 : Int32)) hx hb dX1_isFlood_24 (by decide) ?_
    exact rt_i F dX1_isFlood_25 rfl () h hP hD hS (Nat.le_refl _) (Nat.le_refl _)
  · replace h := h.2 c4
    refine lv_iload_n hx hb dX1_isFlood_8 rfl (lv_at hl 2 rfl) ?_
    refine lv_i2l (v := (v2.toInt64)) hx hb dX1_isFlood_9 rfl ?_
    refine lv_lconst (v := (1 : Int64)) hx hb dX1_isFlood_10 (by decide) ?_
    refine lv_ldc2 (v := (999 : Int64)) hx hb hown (hts _ q954) dX1_isFlood_11 ?_
    refine cl_i0 F (va_runS (As := [.long (v2.toInt64), .long (1 : Int64), .long (999 : Int64)]) (rest := []) ⟨hx, hb, hml, hown, hts⟩ (ct_X1_in h _) (va_cwS 3 hts (lw_S q298 q299 q94 q300) rfl rfl rfl (by decide +kernel) ⟨Nat.le_trans (Nat.le_of_ble_eq_true rfl) hRf, Nat.le_trans (Nat.le_of_ble_eq_true rfl) hRl⟩) ⟨ct_blind, ct_at F hS ct_nP ct_nD⟩ rfl rfl hl.1 rfl (lv_room (Nat.le_of_ble_eq_true rfl)) dX1_isFlood_14 ⟨hC, hSl⟩) rfl rfl hP hS ?_
    rintro x2 _ H locs h hP hS
    refine lv_if_eq (tgt := 24) hx hb dX1_isFlood_17 (by decide) (fun c3 => ?_) (fun c3 => ?_)
    · replace h := h.1 c3
      refine lv_iconst (v := (0 : Int32)) hx hb dX1_isFlood_24 (by decide) ?_
      exact rt_i F dX1_isFlood_25 rfl () h hP hD hS (Nat.le_refl _) (Nat.le_refl _)
    · replace h := h.2 c3
      refine lv_iconst (v := (1 : Int32)) hx hb dX1_isFlood_20 (by decide) ?_
      refine lv_goto (tgt := 25) hx hb dX1_isFlood_21 (by decide) ?_
      exact rt_i F dX1_isFlood_25 rfl () h hP hD hS (Nat.le_refl _) (Nat.le_refl _)
set_option maxHeartbeats 4000000 in
theorem ct_S_floodedBy_i5 {l : Launch} {V : evT} {D : va_G} {gI : Nat → ClassId} {o : Nat} {ax : Nat → Nat} {rn : Option (Nat × Nat)} {tl : va_W} {v1 : Int32} {v2 : Int32} {fd : Nat → Int32} {ar : Nat → Nat → Int32} {lw : Nat → Int64} {hh : HT} {Q : Int32 → (Nat → Nat → Int32) → Prop} (h : wp_S_floodedBy v1 v2 5 fd ar lw hh Q) : ct_i l V D vwCl (tyL gI) yX1_floodedBy cX1_floodedBy 4 .int { frames := 3, cells := 0, slots := 0, locals := 60 } [.ref o, .int v1, .int v2, .ref (ax 5)] (wX gI o ax rn tl fd ar lw hh) (fun u : (Nat → Nat → Int32) => (wX gI o ax rn tl fd u lw hh)) (fun (x : Int32) (u : (Nat → Nat → Int32)) => Q x u) := by
  refine ct_ofi RX1 rfl (by decide +kernel) (Nat.le_of_ble_eq_true rfl) ?_
  intro p e s m args below meth c A F hP hD ls hl
  obtain ⟨⟨hx, hb, hml, hown, hts⟩, hr, hlocks, hA, hK, hE⟩ := id F
  have hS : va_S A s.heap s.heap [] := va_S.rf
  have hl : lv_has ls 4 [(0, .ref o), (1, .int v1), (2, .int v2), (3, .ref (ax 5))] := hl
  have hRf : 3 ≤ ({ frames := 3, cells := 0, slots := 0, locals := 60 } : Room).frames := Nat.le_refl _
  have hRl : 60 ≤ ({ frames := 3, cells := 0, slots := 0, locals := 60 } : Room).locals := Nat.le_refl _
  have hC : 0 ≤ ({ frames := 3, cells := 0, slots := 0, locals := 60 } : Room).cells := Nat.le_refl _
  have hSl : 0 ≤ ({ frames := 3, cells := 0, slots := 0, locals := 60 } : Room).slots := Nat.le_refl _
  unfold wp_S_floodedBy at h
  refine lv_aload_n hx hb dX1_floodedBy_0 rfl (lv_at hl 0 rfl) ?_
  refine va_get hx hb hts in_X1 hown hK hP 0 rfl rfl 2 (Nat.le_of_ble_eq_true rfl) (hts _ q186) (fun _ h => h) (v := .ref (ax 2)) rfl dX1_floodedBy_1 ?_
  refine va_get hx hb hts in_X2 hown hK hP 24 rfl rfl 1 (Nat.le_of_ble_eq_true rfl) (hts _ q137) (fun _ h => h) (v := .ref (ax 49)) rfl dX1_floodedBy_4 ?_
  refine lv_iconst (v := (0 : Int32)) hx hb dX1_floodedBy_7 (by decide) ?_
  refine cl_vL F (va_runS (As := [.ref (ax 49), .int (0 : Int32)]) (rest := []) ⟨hx, hb, hml, hown, hts⟩ (ct_A_fill  h _) (va_cwS 2 hts (lw_S q712 q176 q96 q177) rfl rfl rfl (by decide +kernel) ⟨Nat.le_trans (Nat.le_of_ble_eq_true rfl) hRf, Nat.le_trans (Nat.le_of_ble_eq_true rfl) hRl⟩) ⟨ct_blind, ct_at F hS (putL_P hP (ps := [26]) rfl) (hD.sub ([26]) (by decide) rfl)⟩ rfl rfl hl.1 rfl (lv_room (Nat.le_of_ble_eq_true rfl)) dX1_floodedBy_8 ⟨hC, hSl⟩) rfl rfl hP hD hS (ps := [26]) rfl (fun _ => rfl) (fun _ => wXS_49) ?_
  rintro f1 H locs h hP hD hS
  refine lv_aload_n hx hb dX1_floodedBy_11 rfl (lv_at hl 0 rfl) ?_
  refine va_get hx hb hts in_X1 hown hK hP 0 rfl rfl 2 (Nat.le_of_ble_eq_true rfl) (hts _ q186) (fun _ h => h) (v := .ref (ax 2)) rfl dX1_floodedBy_12 ?_
  refine va_get hx hb hts in_X2 hown hK hP 24 rfl rfl 1 (Nat.le_of_ble_eq_true rfl) (hts _ q137) (fun _ h => h) (v := .ref (ax 49)) rfl dX1_floodedBy_15 ?_
  refine lv_iload_n hx hb dX1_floodedBy_18 rfl (lv_at hl 1 rfl) ?_
  refine lv_iload_n hx hb dX1_floodedBy_19 rfl (lv_at hl 2 rfl) ?_
  refine pt_iast (f := f1) hx hb hK hP hD hS 26 0 rfl rfl h.1 dX1_floodedBy_20 (wXA_49.trans (wXrA (va_rm0 ..))) (fun H locs hP hD hS => ?_)
  replace h := h.2
  refine lv_aload_n hx hb dX1_floodedBy_21 rfl (lv_at hl 0 rfl) ?_
  refine va_get hx hb hts in_X1 hown hK hP 0 rfl rfl 2 (Nat.le_of_ble_eq_true rfl) (hts _ q186) (fun _ h => h) (v := .ref (ax 2)) rfl dX1_floodedBy_22 ?_
  refine lv_aload_n hx hb dX1_floodedBy_25 rfl (lv_at hl 0 rfl) ?_
  refine va_get hx hb hts in_X1 hown hK hP 0 rfl rfl 9 (Nat.le_of_ble_eq_true rfl) (hts _ q195) (fun _ h => h) (v := .int (fd 9)) rfl dX1_floodedBy_26 ?_
  refine lv_aload_n hx hb dX1_floodedBy_29 rfl (lv_at hl 3 rfl) ?_
  refine cl_vL F (va_runV (As := [.int (fd 9), .ref (ax 5)]) (rest := []) ⟨hx, hb, hml, hown, hts⟩ (ct_B_flow (o := (ax 2)) (ab := axb ax 2) (pd := (ax 5)) h _) (cwV 2 hts (lw_V q760 q761 q762 q95 q763) rfl rfl rfl (by decide +kernel) ⟨Nat.le_trans (Nat.le_of_ble_eq_true rfl) hRf, Nat.le_trans (Nat.le_of_ble_eq_true rfl) hRl⟩) ⟨ct_blind, va_recv hK hP (ci := 1) (q0 := 24) rfl rfl, ct_at F hS (putL_P hP (ps := [24, 25, 26, 27, 28, 2]) rfl) (hD.sub ([24, 25, 26, 27, 28, 2]) (by decide) rfl)⟩ rfl rfl hl.1 rfl (lv_room (Nat.le_of_ble_eq_true rfl)) dX1_floodedBy_30 ⟨hC, hSl⟩) rfl rfl hP hD hS (ps := [24, 25, 26, 27, 28, 2]) rfl (fun _ => rfl) (fun _ => wXPD_2_dp_5) ?_
  rintro dp2 H locs h hP hD hS
  refine lv_aload_n hx hb dX1_floodedBy_33 rfl (lv_at hl 0 rfl) ?_
  refine va_get hx hb hts in_X1 hown hK hP 0 rfl rfl 2 (Nat.le_of_ble_eq_true rfl) (hts _ q186) (fun _ h => h) (v := .ref (ax 2)) rfl dX1_floodedBy_34 ?_
  refine lv_aload_n hx hb dX1_floodedBy_37 rfl (lv_at hl 0 rfl) ?_
  refine va_get hx hb hts in_X1 hown hK hP 0 rfl rfl 9 (Nat.le_of_ble_eq_true rfl) (hts _ q195) (fun _ h => h) (v := .int (fd 9)) rfl dX1_floodedBy_38 ?_
  refine cl_iL F (va_runV (As := [.int (fd 9)]) (rest := []) ⟨hx, hb, hml, hown, hts⟩ (ct_B_wet (o := (ax 2)) (ab := axb ax 2) h _) (cwV 1 hts (lw_V q773 q774 q775 q95 q776) rfl rfl rfl (by decide +kernel) ⟨Nat.le_trans (Nat.le_of_ble_eq_true rfl) hRf, Nat.le_trans (Nat.le_of_ble_eq_true rfl) hRl⟩) ⟨ct_blind, va_recv hK hP (ci := 1) (q0 := 24) rfl rfl, ct_at F hS (putL_P hP (ps := [24, 25, 26, 27, 28]) rfl) (hD.sub ([24, 25, 26, 27, 28]) (by decide) rfl)⟩ rfl rfl hl.1 rfl (lv_room (Nat.le_of_ble_eq_true rfl)) dX1_floodedBy_41 ⟨hC, hSl⟩) rfl rfl hP hD hS (ps := [24, 25, 26, 27, 28]) rfl (fun _ => rfl) (fun _ => wXP_2_none) ?_
  rintro x3 _ H locs h hP hD hS
  exact rt_i F dX1_floodedBy_44 rfl ((va_up (va_up ar 49 (upd f1 v1.toNatClampNeg v2)) 49 dp2)) h hP hD hS (Nat.le_refl _) (Nat.le_refl _)
set_option maxHeartbeats 4000000 in
theorem ct_S_floodedBy_i23 {l : Launch} {V : evT} {D : va_G} {gI : Nat → ClassId} {o : Nat} {ax : Nat → Nat} {rn : Option (Nat × Nat)} {tl : va_W} {v1 : Int32} {v2 : Int32} {fd : Nat → Int32} {ar : Nat → Nat → Int32} {lw : Nat → Int64} {hh : HT} {Q : Int32 → (Nat → Nat → Int32) → Prop} (h : wp_S_floodedBy v1 v2 23 fd ar lw hh Q) : ct_i l V D vwCl (tyL gI) yX1_floodedBy cX1_floodedBy 4 .int { frames := 3, cells := 0, slots := 0, locals := 60 } [.ref o, .int v1, .int v2, .ref (ax 23)] (wX gI o ax rn tl fd ar lw hh) (fun u : (Nat → Nat → Int32) => (wX gI o ax rn tl fd u lw hh)) (fun (x : Int32) (u : (Nat → Nat → Int32)) => Q x u) := by
  refine ct_ofi RX1 rfl (by decide +kernel) (Nat.le_of_ble_eq_true rfl) ?_
  intro p e s m args below meth c A F hP hD ls hl
  obtain ⟨⟨hx, hb, hml, hown, hts⟩, hr, hlocks, hA, hK, hE⟩ := id F
  have hS : va_S A s.heap s.heap [] := va_S.rf
  have hl : lv_has ls 4 [(0, .ref o), (1, .int v1), (2, .int v2), (3, .ref (ax 23))] := hl
  have hRf : 3 ≤ ({ frames := 3, cells := 0, slots := 0, locals := 60 } : Room).frames := Nat.le_refl _
  have hRl : 60 ≤ ({ frames := 3, cells := 0, slots := 0, locals := 60 } : Room).locals := Nat.le_refl _
  have hC : 0 ≤ ({ frames := 3, cells := 0, slots := 0, locals := 60 } : Room).cells := Nat.le_refl _
  have hSl : 0 ≤ ({ frames := 3, cells := 0, slots := 0, locals := 60 } : Room).slots := Nat.le_refl _
  unfold wp_S_floodedBy at h
  refine lv_aload_n hx hb dX1_floodedBy_0 rfl (lv_at hl 0 rfl) ?_
  refine va_get hx hb hts in_X1 hown hK hP 0 rfl rfl 2 (Nat.le_of_ble_eq_true rfl) (hts _ q186) (fun _ h => h) (v := .ref (ax 2)) rfl dX1_floodedBy_1 ?_
  refine va_get hx hb hts in_X2 hown hK hP 24 rfl rfl 1 (Nat.le_of_ble_eq_true rfl) (hts _ q137) (fun _ h => h) (v := .ref (ax 49)) rfl dX1_floodedBy_4 ?_
  refine lv_iconst (v := (0 : Int32)) hx hb dX1_floodedBy_7 (by decide) ?_
  refine cl_vL F (va_runS (As := [.ref (ax 49), .int (0 : Int32)]) (rest := []) ⟨hx, hb, hml, hown, hts⟩ (ct_A_fill  h _) (va_cwS 2 hts (lw_S q712 q176 q96 q177) rfl rfl rfl (by decide +kernel) ⟨Nat.le_trans (Nat.le_of_ble_eq_true rfl) hRf, Nat.le_trans (Nat.le_of_ble_eq_true rfl) hRl⟩) ⟨ct_blind, ct_at F hS (putL_P hP (ps := [26]) rfl) (hD.sub ([26]) (by decide) rfl)⟩ rfl rfl hl.1 rfl (lv_room (Nat.le_of_ble_eq_true rfl)) dX1_floodedBy_8 ⟨hC, hSl⟩) rfl rfl hP hD hS (ps := [26]) rfl (fun _ => rfl) (fun _ => wXS_49) ?_
  rintro f1 H locs h hP hD hS
  refine lv_aload_n hx hb dX1_floodedBy_11 rfl (lv_at hl 0 rfl) ?_
  refine va_get hx hb hts in_X1 hown hK hP 0 rfl rfl 2 (Nat.le_of_ble_eq_true rfl) (hts _ q186) (fun _ h => h) (v := .ref (ax 2)) rfl dX1_floodedBy_12 ?_
  refine va_get hx hb hts in_X2 hown hK hP 24 rfl rfl 1 (Nat.le_of_ble_eq_true rfl) (hts _ q137) (fun _ h => h) (v := .ref (ax 49)) rfl dX1_floodedBy_15 ?_
  refine lv_iload_n hx hb dX1_floodedBy_18 rfl (lv_at hl 1 rfl) ?_
  refine lv_iload_n hx hb dX1_floodedBy_19 rfl (lv_at hl 2 rfl) ?_
  refine pt_iast (f := f1) hx hb hK hP hD hS 26 0 rfl rfl h.1 dX1_floodedBy_20 (wXA_49.trans (wXrA (va_rm0 ..))) (fun H locs hP hD hS => ?_)
  replace h := h.2
  refine lv_aload_n hx hb dX1_floodedBy_21 rfl (lv_at hl 0 rfl) ?_
  refine va_get hx hb hts in_X1 hown hK hP 0 rfl rfl 2 (Nat.le_of_ble_eq_true rfl) (hts _ q186) (fun _ h => h) (v := .ref (ax 2)) rfl dX1_floodedBy_22 ?_
  refine lv_aload_n hx hb dX1_floodedBy_25 rfl (lv_at hl 0 rfl) ?_
  refine va_get hx hb hts in_X1 hown hK hP 0 rfl rfl 9 (Nat.le_of_ble_eq_true rfl) (hts _ q195) (fun _ h => h) (v := .int (fd 9)) rfl dX1_floodedBy_26 ?_
  refine lv_aload_n hx hb dX1_floodedBy_29 rfl (lv_at hl 3 rfl) ?_
  refine cl_vL F (va_runV (As := [.int (fd 9), .ref (ax 23)]) (rest := []) ⟨hx, hb, hml, hown, hts⟩ (ct_B_flow (o := (ax 2)) (ab := axb ax 2) (pd := (ax 23)) h _) (cwV 2 hts (lw_V q760 q761 q762 q95 q763) rfl rfl rfl (by decide +kernel) ⟨Nat.le_trans (Nat.le_of_ble_eq_true rfl) hRf, Nat.le_trans (Nat.le_of_ble_eq_true rfl) hRl⟩) ⟨ct_blind, va_recv hK hP (ci := 1) (q0 := 24) rfl rfl, ct_at F hS (putL_P hP (ps := [24, 25, 26, 27, 28, 9]) rfl) (hD.sub ([24, 25, 26, 27, 28, 9]) (by decide) rfl)⟩ rfl rfl hl.1 rfl (lv_room (Nat.le_of_ble_eq_true rfl)) dX1_floodedBy_30 ⟨hC, hSl⟩) rfl rfl hP hD hS (ps := [24, 25, 26, 27, 28, 9]) rfl (fun _ => rfl) (fun _ => wXPD_2_dp_23) ?_
  rintro dp2 H locs h hP hD hS
  refine lv_aload_n hx hb dX1_floodedBy_33 rfl (lv_at hl 0 rfl) ?_
  refine va_get hx hb hts in_X1 hown hK hP 0 rfl rfl 2 (Nat.le_of_ble_eq_true rfl) (hts _ q186) (fun _ h => h) (v := .ref (ax 2)) rfl dX1_floodedBy_34 ?_
  refine lv_aload_n hx hb dX1_floodedBy_37 rfl (lv_at hl 0 rfl) ?_
  refine va_get hx hb hts in_X1 hown hK hP 0 rfl rfl 9 (Nat.le_of_ble_eq_true rfl) (hts _ q195) (fun _ h => h) (v := .int (fd 9)) rfl dX1_floodedBy_38 ?_
  refine cl_iL F (va_runV (As := [.int (fd 9)]) (rest := []) ⟨hx, hb, hml, hown, hts⟩ (ct_B_wet (o := (ax 2)) (ab := axb ax 2) h _) (cwV 1 hts (lw_V q773 q774 q775 q95 q776) rfl rfl rfl (by decide +kernel) ⟨Nat.le_trans (Nat.le_of_ble_eq_true rfl) hRf, Nat.le_trans (Nat.le_of_ble_eq_true rfl) hRl⟩) ⟨ct_blind, va_recv hK hP (ci := 1) (q0 := 24) rfl rfl, ct_at F hS (putL_P hP (ps := [24, 25, 26, 27, 28]) rfl) (hD.sub ([24, 25, 26, 27, 28]) (by decide) rfl)⟩ rfl rfl hl.1 rfl (lv_room (Nat.le_of_ble_eq_true rfl)) dX1_floodedBy_41 ⟨hC, hSl⟩) rfl rfl hP hD hS (ps := [24, 25, 26, 27, 28]) rfl (fun _ => rfl) (fun _ => wXP_2_none) ?_
  rintro x3 _ H locs h hP hD hS
  exact rt_i F dX1_floodedBy_44 rfl ((va_up (va_up ar 49 (upd f1 v1.toNatClampNeg v2)) 49 dp2)) h hP hD hS (Nat.le_refl _) (Nat.le_refl _)
set_option maxHeartbeats 4000000 in
theorem lp_S_raise_L3 {p : Program} {l : Launch} {e : Env} {R : Room} {s : State} {m : MethodId} {args : Array Value} {below : List Frame} {meth : Method} {c : Code} {cells slots : Nat} {A : Nat → Prop} {Qf : State → Prop} {V : evT} {D : va_G} {gI : Nat → ClassId} {o : Nat} {ax : Nat → Nat} {rn : Option (Nat × Nat)} {tl : va_W} {v1 : Int32} {v2 : Int32} {v3 : Int32} {v4 : Int32} {fd : Nat → Int32} {lw : Nat → Int64} {hh : HT} {K96 : (Nat → Nat → Int32) → Prop} (F : ct_F p m c meth cX1_raise 6 s args RX1 (some .int) A V D vwCl (tyL gI)) (hRf : 4 ≤ R.frames) (hRl : 83 ≤ R.locals) (hC : cells ≤ R.cells) (hSl : slots ≤ R.slots)
    (hK96 : ∀ (ar : Nat → Nat → Int32), K96 ar → ∀ (H : Heap) (locs : List Loc) (ls : Array Slot), va_P D vwCl (wX gI o ax rn tl fd ar lw hh) H → va_D A (wX gI o ax rn tl fd ar lw hh) → va_S A s.heap H locs → lv_has ls 6 [(0, .ref o), (1, .int v1), (2, .int v2), (3, .int v3), (4, .int v4)] → W p l e R s m args below meth c H locs cells slots Qf (F0 m 96 ls [])) :
    ∀ (n : Nat) (v5 : Int32) (ar : Nat → Nat → Int32), wp_S_raise_L3 v1 v2 v3 v4 fd lw hh K96 n v5 ar → ∀ (H : Heap) (locs : List Loc) (ls : Array Slot), va_P D vwCl (wX gI o ax rn tl fd ar lw hh) H → va_D A (wX gI o ax rn tl fd ar lw hh) → va_S A s.heap H locs → lv_has ls 6 [(0, .ref o), (1, .int v1), (2, .int v2), (3, .int v3), (4, .int v4), (5, .int v5)] → W p l e R s m args below meth c H locs cells slots Qf (F0 m 52 ls []) := by
  obtain ⟨⟨hx, hb, hml, hown, hts⟩, hr, hlocks, hA, hK, hE⟩ := id F
  intro n
  induction n with
  | zero => intro v5 ar h; exact h.elim
  | succ n ih =>
    intro v5 ar h H locs ls hP hD hS hl
    unfold wp_S_raise_L3 at h
    refine lv_iload hx hb dX1_raise_52 (lv_at hl 5 rfl) ?_
    refine lv_aload_n hx hb dX1_raise_54 rfl (lv_at hl 0 rfl) ?_
    refine va_get hx hb hts in_X1 hown hK hP 0 rfl rfl 9 (Nat.le_of_ble_eq_true rfl) (hts _ q195) (fun _ h => h) (v := .int (fd 9)) rfl dX1_raise_55 ?_
    refine lv_icmp_ge (tgt := 96) hx hb dX1_raise_58 (by decide) (fun c4 => ?_) (fun c4 => ?_)
    · replace h := h.1 c4
      exact hK96 _ h _ _ _ hP hD hS (lv_sub hl [0, 1, 2, 3, 4] rfl)
    · replace h := h.2 c4
      refine lv_aload_n hx hb dX1_raise_61 rfl (lv_at hl 0 rfl) ?_
      refine va_get hx hb hts in_X1 hown hK hP 0 rfl rfl 23 (Nat.le_of_ble_eq_true rfl) (hts _ q214) (fun _ h => h) (v := .ref (ax 23)) rfl dX1_raise_62 ?_
      refine lv_iload hx hb dX1_raise_65 (lv_at hl 5 rfl) ?_
      refine lv_iload hx hb dX1_raise_67 (lv_at hl 4 rfl) ?_
      refine lv_iload hx hb dX1_raise_69 (lv_at hl 5 rfl) ?_
      refine cl_i0 F (va_runS (As := [.int v4, .int v5]) (rest := [.int v5, .ref (ax 23)]) ⟨hx, hb, hml, hown, hts⟩ (ct_X1_has h _) (va_cwS 2 hts (lw_S q680 q681 q94 q682) rfl rfl rfl (by decide +kernel) ⟨Nat.le_trans (Nat.le_of_ble_eq_true rfl) hRf, Nat.le_trans (Nat.le_of_ble_eq_true rfl) hRl⟩) ⟨ct_blind, ct_at F hS ct_nP ct_nD⟩ rfl rfl hl.1 rfl (lv_room (Nat.le_of_ble_eq_true rfl)) dX1_raise_71 ⟨hC, hSl⟩) rfl rfl hP hS ?_
      rintro x2 _ H locs h hP hS
      refine lv_if_eq (tgt := 82) hx hb dX1_raise_74 (by decide) (fun c3 => ?_) (fun c3 => ?_)
      · replace h := h.1 c3
        refine lv_aload_n hx hb dX1_raise_82 rfl (lv_at hl 0 rfl) ?_
        refine va_get hx hb hts in_X1 hown hK hP 0 rfl rfl 5 (Nat.le_of_ble_eq_true rfl) (hts _ q189) (fun _ h => h) (v := .ref (ax 5)) rfl dX1_raise_83 ?_
        refine lv_iload hx hb dX1_raise_86 (lv_at hl 5 rfl) ?_
        refine va_iald (f := (ar 5)) hx hb hK hP 2 0 rfl rfl h.1 dX1_raise_88 ?_
        replace h := h.2
        refine pt_iast (f := (ar 23)) hx hb hK hP hD hS 9 0 rfl rfl h.1 dX1_raise_89 wXA_23 (fun H locs hP hD hS => ?_)
        replace h := h.2
        refine lv_iinc (v := (v5 + (1 : Int32))) (lv' := [(5, .int (v5 + (1 : Int32))), (0, .ref o), (1, .int v1), (2, .int v2), (3, .int v3), (4, .int v4)]) hx hb dX1_raise_90 hl (k := 5) rfl rfl (by decide) rfl (fun ls hl => ?_)
        refine lv_goto (tgt := 52) hx hb dX1_raise_93 (by decide) ?_
        exact ih _ _ h _ _ _ hP hD hS (lv_sub hl [1, 2, 3, 4, 5, 0] rfl)
      · replace h := h.2 c3
        refine lv_bipush (v := (9 : Int32)) hx hb dX1_raise_77 (by decide) ?_
        refine lv_goto (tgt := 89) hx hb dX1_raise_79 (by decide) ?_
        refine pt_iast (f := (ar 23)) hx hb hK hP hD hS 9 0 rfl rfl h.1 dX1_raise_89 wXA_23 (fun H locs hP hD hS => ?_)
        replace h := h.2
        refine lv_iinc (v := (v5 + (1 : Int32))) (lv' := [(5, .int (v5 + (1 : Int32))), (0, .ref o), (1, .int v1), (2, .int v2), (3, .int v3), (4, .int v4)]) hx hb dX1_raise_90 hl (k := 5) rfl rfl (by decide) rfl (fun ls hl => ?_)
        refine lv_goto (tgt := 52) hx hb dX1_raise_93 (by decide) ?_
        exact ih _ _ h _ _ _ hP hD hS (lv_sub hl [1, 2, 3, 4, 5, 0] rfl)
set_option maxHeartbeats 4000000 in
theorem lp_S_raise_J2 {p : Program} {l : Launch} {e : Env} {R : Room} {s : State} {m : MethodId} {args : Array Value} {below : List Frame} {meth : Method} {c : Code} {cells slots : Nat} {A : Nat → Prop} {Qf : State → Prop} {V : evT} {D : va_G} {gI : Nat → ClassId} {o : Nat} {ax : Nat → Nat} {rn : Option (Nat × Nat)} {tl : va_W} {v1 : Int32} {v2 : Int32} {fd : Nat → Int32} {lw : Nat → Int64} {hh : HT} {K16 : (Int32) → (Int32) → (Nat → Nat → Int32) → Prop} (F : ct_F p m c meth cX1_raise 6 s args RX1 (some .int) A V D vwCl (tyL gI)) (hRf : 4 ≤ R.frames) (hRl : 83 ≤ R.locals) (hC : cells ≤ R.cells) (hSl : slots ≤ R.slots)
    (hK16 : ∀ (v3 : Int32) (v4 : Int32) (ar : Nat → Nat → Int32), K16 v3 v4 ar → ∀ (H : Heap) (locs : List Loc) (ls : Array Slot), va_P D vwCl (wX gI o ax rn tl fd ar lw hh) H → va_D A (wX gI o ax rn tl fd ar lw hh) → va_S A s.heap H locs → lv_has ls 6 [(0, .ref o), (1, .int v1), (2, .int v2), (3, .int v3), (4, .int v4)] → W p l e R s m args below meth c H locs cells slots Qf (F0 m 16 ls [])) :
    ∀ (v3 : Int32) (v4 : Int32) (ar : Nat → Nat → Int32), wp_S_raise_J2 v1 v2 fd lw hh K16 v3 v4 ar → ∀ (H : Heap) (locs : List Loc) (ls : Array Slot), va_P D vwCl (wX gI o ax rn tl fd ar lw hh) H → va_D A (wX gI o ax rn tl fd ar lw hh) → va_S A s.heap H locs → lv_has ls 6 [(0, .ref o), (1, .int v1), (2, .int v2), (3, .int v3), (4, .int v4)] → W p l e R s m args below meth c H locs cells slots Qf (F0 m 49 ls []) := by
  obtain ⟨⟨hx, hb, hml, hown, hts⟩, hr, hlocks, hA, hK, hE⟩ := id F
  intro v3 v4 ar h H locs ls hP hD hS hl
  unfold wp_S_raise_J2 at h
  refine lv_iconst (v := (0 : Int32)) hx hb dX1_raise_49 (by decide) ?_
  refine lv_istore (lv' := [(5, .int (0 : Int32)), (0, .ref o), (1, .int v1), (2, .int v2), (3, .int v3), (4, .int v4)]) hx hb dX1_raise_50 hl (by decide) rfl (fun ls hl => ?_)
  obtain ⟨k52, h⟩ := h
  refine lp_S_raise_L3 F hRf hRl hC hSl ?hk96 k52 _ _ h _ _ _ hP hD hS (lv_sub hl [1, 2, 3, 4, 5, 0] rfl)
  case hk96 =>
    intro ar_5 h H locs ls hP hD hS hl
    refine lv_aload_n hx hb dX1_raise_96 rfl (lv_at hl 0 rfl) ?_
    refine lv_iload_n hx hb dX1_raise_97 rfl (lv_at hl 1 rfl) ?_
    refine lv_iload_n hx hb dX1_raise_98 rfl (lv_at hl 2 rfl) ?_
    refine lv_aload_n hx hb dX1_raise_99 rfl (lv_at hl 0 rfl) ?_
    refine va_get hx hb hts in_X1 hown hK hP 0 rfl rfl 23 (Nat.le_of_ble_eq_true rfl) (hts _ q214) (fun _ h => h) (v := .ref (ax 23)) rfl dX1_raise_100 ?_
    refine cl_i F (va_runV (As := [.int v1, .int v2, .ref (ax 23)]) (rest := []) ⟨hx, hb, hml, hown, hts⟩ (ct_S_floodedBy_i23 h _) (cwV 3 hts (lw_V q955 q957 qs30 q94 q958) rfl rfl rfl (by decide +kernel) ⟨Nat.le_trans (Nat.le_of_ble_eq_true rfl) hRf, Nat.le_trans (Nat.le_of_ble_eq_true rfl) hRl⟩) ⟨ct_blind, va_recv hK hP (ci := 0) (q0 := 0) rfl rfl, ct_at F hS hP hD⟩ rfl rfl hl.1 rfl (lv_room (Nat.le_of_ble_eq_true rfl)) dX1_raise_103 ⟨hC, hSl⟩) rfl rfl hD hS ?_
    rintro x6 ar7 H locs h hP hD hS
    refine lv_iconst (v := (1 : Int32)) hx hb dX1_raise_106 (by decide) ?_
    refine lv_iload_n hx hb dX1_raise_107 rfl (lv_at hl 1 rfl) ?_
    refine lv_ishl hx hb dX1_raise_108 ?_
    refine lv_icmp_ne (tgt := 115) hx hb dX1_raise_109 (by decide) (fun c8 => ?_) (fun c8 => ?_)
    · replace h := h.1 c8
      refine lv_iinc (v := (v4 + (1 : Int32))) (lv' := [(4, .int (v4 + (1 : Int32))), (0, .ref o), (1, .int v1), (2, .int v2), (3, .int v3)]) hx hb dX1_raise_115 hl (k := 4) rfl rfl (by decide) rfl (fun ls hl => ?_)
      refine lv_goto (tgt := 16) hx hb dX1_raise_118 (by decide) ?_
      exact hK16 _ _ _ h _ _ _ hP hD hS (lv_sub hl [1, 2, 3, 4, 0] rfl)
    · replace h := h.2 c8
      refine lv_iload hx hb dX1_raise_112 (lv_at hl 4 rfl) ?_
      refine lv_istore_n (lv' := [(3, .int v4), (0, .ref o), (1, .int v1), (2, .int v2), (4, .int v4)]) hx hb dX1_raise_114 rfl hl (by decide) rfl (fun ls hl => ?_)
      refine lv_iinc (v := (v4 + (1 : Int32))) (lv' := [(4, .int (v4 + (1 : Int32))), (3, .int v4), (0, .ref o), (1, .int v1), (2, .int v2)]) hx hb dX1_raise_115 hl (k := 4) rfl rfl (by decide) rfl (fun ls hl => ?_)
      refine lv_goto (tgt := 16) hx hb dX1_raise_118 (by decide) ?_
      exact hK16 _ _ _ h _ _ _ hP hD hS (lv_sub hl [2, 3, 4, 1, 0] rfl)
set_option maxHeartbeats 4000000 in
theorem lp_S_raise_L1 {p : Program} {l : Launch} {e : Env} {R : Room} {s : State} {m : MethodId} {args : Array Value} {below : List Frame} {meth : Method} {c : Code} {cells slots : Nat} {A : Nat → Prop} {Qf : State → Prop} {V : evT} {D : va_G} {gI : Nat → ClassId} {o : Nat} {ax : Nat → Nat} {rn : Option (Nat × Nat)} {tl : va_W} {v1 : Int32} {v2 : Int32} {fd : Nat → Int32} {lw : Nat → Int64} {hh : HT} {K121 : (Int32) → (Nat → Nat → Int32) → Prop} (F : ct_F p m c meth cX1_raise 6 s args RX1 (some .int) A V D vwCl (tyL gI)) (hRf : 4 ≤ R.frames) (hRl : 83 ≤ R.locals) (hC : cells ≤ R.cells) (hSl : slots ≤ R.slots)
    (hK121 : ∀ (v3 : Int32) (ar : Nat → Nat → Int32), K121 v3 ar → ∀ (H : Heap) (locs : List Loc) (ls : Array Slot), va_P D vwCl (wX gI o ax rn tl fd ar lw hh) H → va_D A (wX gI o ax rn tl fd ar lw hh) → va_S A s.heap H locs → lv_has ls 6 [(0, .ref o), (3, .int v3)] → W p l e R s m args below meth c H locs cells slots Qf (F0 m 121 ls [])) :
    ∀ (n : Nat) (v3 : Int32) (v4 : Int32) (ar : Nat → Nat → Int32), wp_S_raise_L1 v1 v2 fd lw hh K121 n v3 v4 ar → ∀ (H : Heap) (locs : List Loc) (ls : Array Slot), va_P D vwCl (wX gI o ax rn tl fd ar lw hh) H → va_D A (wX gI o ax rn tl fd ar lw hh) → va_S A s.heap H locs → lv_has ls 6 [(0, .ref o), (1, .int v1), (2, .int v2), (3, .int v3), (4, .int v4)] → W p l e R s m args below meth c H locs cells slots Qf (F0 m 16 ls []) := by
  obtain ⟨⟨hx, hb, hml, hown, hts⟩, hr, hlocks, hA, hK, hE⟩ := id F
  intro n
  induction n with
  | zero => intro v3 v4 ar h; exact h.elim
  | succ n ih =>
    intro v3 v4 ar h H locs ls hP hD hS hl
    unfold wp_S_raise_L1 at h
    refine lv_iload hx hb dX1_raise_16 (lv_at hl 4 rfl) ?_
    refine lv_iconst (v := (1 : Int32)) hx hb dX1_raise_18 (by decide) ?_
    refine lv_aload_n hx hb dX1_raise_19 rfl (lv_at hl 0 rfl) ?_
    refine va_get hx hb hts in_X1 hown hK hP 0 rfl rfl 9 (Nat.le_of_ble_eq_true rfl) (hts _ q195) (fun _ h => h) (v := .int (fd 9)) rfl dX1_raise_20 ?_
    refine lv_iconst (v := (1 : Int32)) hx hb dX1_raise_23 (by decide) ?_
    refine lv_isub hx hb dX1_raise_24 ?_
    refine lv_ishl hx hb dX1_raise_25 ?_
    refine lv_icmp_ge (tgt := 121) hx hb dX1_raise_26 (by decide) (fun c19 => ?_) (fun c19 => ?_)
    · replace h := h.1 c19
      exact hK121 _ _ h _ _ _ hP hD hS (lv_sub hl [0, 3] rfl)
    · replace h := h.2 c19
      refine lv_iload_n hx hb dX1_raise_29 rfl (lv_at hl 3 rfl) ?_
      refine lv_iconst (v := (-1 : Int32)) hx hb dX1_raise_30 (by decide) ?_
      refine lv_icmp_eq (tgt := 49) hx hb dX1_raise_31 (by decide) (fun c18 => ?_) (fun c18 => ?_)
      · replace h := h.1 c18
        refine lp_S_raise_J2 F hRf hRl hC hSl ?hk16 _ _ _ h _ _ _ hP hD hS (lv_sub hl [0, 1, 2, 3, 4] rfl)
        case hk16 =>
          intro v3_9 v4_10 ar_11 h H locs ls hP hD hS hl
          exact ih _ _ _ h _ _ _ hP hD hS (lv_sub hl [0, 1, 2, 3, 4] rfl)
      · replace h := h.2 c18
        refine lv_iload hx hb dX1_raise_34 (lv_at hl 4 rfl) ?_
        refine cl_i0 F (va_runS (As := [.int v4]) (rest := []) ⟨hx, hb, hml, hown, hts⟩ (ct_J10_bitCount h _) (va_cwS 1 hts (lw_S q585 q586 q112 q587) rfl rfl rfl (by decide +kernel) ⟨Nat.le_trans (Nat.le_of_ble_eq_true rfl) hRf, Nat.le_trans (Nat.le_of_ble_eq_true rfl) hRl⟩) ⟨ct_blind, ct_at F hS ct_nP ct_nD⟩ rfl rfl hl.1 rfl (lv_room (Nat.le_of_ble_eq_true rfl)) dX1_raise_36 ⟨hC, hSl⟩) rfl rfl hP hS ?_
        rintro x12 _ H locs h hP hS
        refine lv_iload_n hx hb dX1_raise_39 rfl (lv_at hl 3 rfl) ?_
        refine cl_i0 F (va_runS (As := [.int v3]) (rest := [.int x12]) ⟨hx, hb, hml, hown, hts⟩ (ct_J10_bitCount h _) (va_cwS 1 hts (lw_S q585 q586 q112 q587) rfl rfl rfl (by decide +kernel) ⟨Nat.le_trans (Nat.le_of_ble_eq_true rfl) hRf, Nat.le_trans (Nat.le_of_ble_eq_true rfl) hRl⟩) ⟨ct_blind, ct_at F hS ct_nP ct_nD⟩ rfl rfl hl.1 rfl (lv_room (Nat.le_of_ble_eq_true rfl)) dX1_raise_40 ⟨hC, hSl⟩) rfl rfl hP hS ?_
        rintro x13 _ H locs h hP hS
        refine lv_icmp_lt (tgt := 49) hx hb dX1_raise_43 (by decide) (fun c17 => ?_) (fun c17 => ?_)
        · replace h := h.1 c17
          refine lp_S_raise_J2 F hRf hRl hC hSl ?hk16 _ _ _ h _ _ _ hP hD hS (lv_sub hl [0, 1, 2, 3, 4] rfl)
          case hk16 =>
            intro v3_14 v4_15 ar_16 h H locs ls hP hD hS hl
            exact ih _ _ _ h _ _ _ hP hD hS (lv_sub hl [0, 1, 2, 3, 4] rfl)
        · replace h := h.2 c17
          refine lv_goto (tgt := 115) hx hb dX1_raise_46 (by decide) ?_
          refine lv_iinc (v := (v4 + (1 : Int32))) (lv' := [(4, .int (v4 + (1 : Int32))), (0, .ref o), (1, .int v1), (2, .int v2), (3, .int v3)]) hx hb dX1_raise_115 hl (k := 4) rfl rfl (by decide) rfl (fun ls hl => ?_)
          refine lv_goto (tgt := 16) hx hb dX1_raise_118 (by decide) ?_
          exact ih _ _ _ h _ _ _ hP hD hS (lv_sub hl [1, 2, 3, 4, 0] rfl)
set_option maxHeartbeats 4000000 in
theorem ct_S_raise {l : Launch} {V : evT} {D : va_G} {gI : Nat → ClassId} {o : Nat} {ax : Nat → Nat} {rn : Option (Nat × Nat)} {tl : va_W} {v1 : Int32} {v2 : Int32} {fd : Nat → Int32} {ar : Nat → Nat → Int32} {lw : Nat → Int64} {hh : HT} {Q : Int32 → (Nat → Int32) → (Nat → Nat → Int32) → (Nat → Int64) → Prop} (h : wp_S_raise v1 v2 fd ar lw hh Q) : ct_i l V D vwCl (tyL gI) yX1_raise cX1_raise 6 .int { frames := 4, cells := 0, slots := 0, locals := 83 } [.ref o, .int v1, .int v2] (wX gI o ax rn tl fd ar lw hh) (fun u : (Nat → Int32) × (Nat → Nat → Int32) × (Nat → Int64) => (wX gI o ax rn tl u.1 u.2.1 u.2.2 hh)) (fun (x : Int32) (u : (Nat → Int32) × (Nat → Nat → Int32) × (Nat → Int64)) => Q x u.1 u.2.1 u.2.2) := by
  refine ct_ofi RX1 rfl (by decide +kernel) (Nat.le_of_ble_eq_true rfl) ?_
  intro p e s m args below meth c A F hP hD ls hl
  obtain ⟨⟨hx, hb, hml, hown, hts⟩, hr, hlocks, hA, hK, hE⟩ := id F
  have hS : va_S A s.heap s.heap [] := va_S.rf
  have hl : lv_has ls 6 [(0, .ref o), (1, .int v1), (2, .int v2)] := hl
  have hRf : 4 ≤ ({ frames := 4, cells := 0, slots := 0, locals := 83 } : Room).frames := Nat.le_refl _
  have hRl : 83 ≤ ({ frames := 4, cells := 0, slots := 0, locals := 83 } : Room).locals := Nat.le_refl _
  have hC : 0 ≤ ({ frames := 4, cells := 0, slots := 0, locals := 83 } : Room).cells := Nat.le_refl _
  have hSl : 0 ≤ ({ frames := 4, cells := 0, slots := 0, locals := 83 } : Room).slots := Nat.le_refl _
  unfold wp_S_raise at h
  refine lv_aload_n hx hb dX1_raise_0 rfl (lv_at hl 0 rfl) ?_
  refine lv_iload_n hx hb dX1_raise_1 rfl (lv_at hl 1 rfl) ?_
  refine lv_iload_n hx hb dX1_raise_2 rfl (lv_at hl 2 rfl) ?_
  refine cl_i F (va_runV (As := [.int v1, .int v2]) (rest := []) ⟨hx, hb, hml, hown, hts⟩ (ct_S_isFlood h _) (cwV 2 hts (lw_V q950 q952 qs29 q94 q953) rfl rfl rfl (by decide +kernel) ⟨Nat.le_trans (Nat.le_of_ble_eq_true rfl) hRf, Nat.le_trans (Nat.le_of_ble_eq_true rfl) hRl⟩) ⟨ct_blind, va_recv hK hP (ci := 0) (q0 := 0) rfl rfl, ct_at F hS hP hD⟩ rfl rfl hl.1 rfl (lv_room (Nat.le_of_ble_eq_true rfl)) dX1_raise_3 ⟨hC, hSl⟩) rfl rfl hD hS ?_
  rintro x1 _ H locs h hP hD hS
  refine lv_if_ne (tgt := 11) hx hb dX1_raise_6 (by decide) (fun c26 => ?_) (fun c26 => ?_)
  · replace h := h.1 c26
    refine lv_iconst (v := (-1 : Int32)) hx hb dX1_raise_11 (by decide) ?_
    refine lv_istore_n (lv' := [(3, .int (-1 : Int32)), (0, .ref o), (1, .int v1), (2, .int v2)]) hx hb dX1_raise_12 rfl hl (by decide) rfl (fun ls hl => ?_)
    refine lv_iconst (v := (0 : Int32)) hx hb dX1_raise_13 (by decide) ?_
    refine lv_istore (lv' := [(4, .int (0 : Int32)), (3, .int (-1 : Int32)), (0, .ref o), (1, .int v1), (2, .int v2)]) hx hb dX1_raise_14 hl (by decide) rfl (fun ls hl => ?_)
    obtain ⟨k16, h⟩ := h
    refine lp_S_raise_L1 F hRf hRl hC hSl ?hk121 k16 _ _ _ h _ _ _ hP hD hS (lv_sub hl [2, 3, 4, 1, 0] rfl)
    case hk121 =>
      intro v3_20 ar_21 h H locs ls hP hD hS hl
      refine lv_iload_n hx hb dX1_raise_121 rfl (lv_at hl 1 rfl) ?_
      refine lv_iconst (v := (-1 : Int32)) hx hb dX1_raise_122 (by decide) ?_
      refine lv_icmp_ne (tgt := 129) hx hb dX1_raise_123 (by decide) (fun c25 => ?_) (fun c25 => ?_)
      · replace h := h.1 c25
        refine lv_aload_n hx hb dX1_raise_129 rfl (lv_at hl 0 rfl) ?_
        refine lv_iconst (v := (0 : Int32)) hx hb dX1_raise_130 (by decide) ?_
        refine pt_put (v := .int (0 : Int32)) hx hb hts in_X1 tyX1 tyX1_ok nmX1 hown hK hP hD hS 0 rfl rfl 18 (Nat.le_of_ble_eq_true rfl) (hts _ q209) (fun _ h => h) rfl (ty := .int) (by decide +kernel) rfl rfl (Nat.le_of_ble_eq_true rfl) dX1_raise_131 wXF_18 (fun H locs hP hD hS => ?_)
        refine lv_aload_n hx hb dX1_raise_134 rfl (lv_at hl 0 rfl) ?_
        refine lv_iload_n hx hb dX1_raise_135 rfl (lv_at hl 1 rfl) ?_
        refine lv_i2l (v := (v3_20.toInt64)) hx hb dX1_raise_136 rfl ?_
        refine cl_v F (va_runV (As := [.long (v3_20.toInt64)]) (rest := []) ⟨hx, hb, hml, hown, hts⟩ (ct_S_tell h _) (cwV 1 hts (lw_V q728 q730 qs19 q94 q731) rfl rfl rfl (by decide +kernel) ⟨Nat.le_trans (Nat.le_of_ble_eq_true rfl) hRf, Nat.le_trans (Nat.le_of_ble_eq_true rfl) hRl⟩) ⟨ct_blind, va_recv hK hP (ci := 0) (q0 := 0) rfl rfl, ct_at F hS hP hD⟩ rfl rfl hl.1 rfl (lv_room (Nat.le_of_ble_eq_true rfl)) dX1_raise_137 ⟨hC, hSl⟩) rfl rfl hD hS ?_
        rintro ⟨fd22, lw23⟩ H locs h hP hD hS
        refine lv_iload_n hx hb dX1_raise_140 rfl (lv_at hl 1 rfl) ?_
        refine cl_i0 F (va_runS (As := [.int v3_20]) (rest := []) ⟨hx, hb, hml, hown, hts⟩ (ct_J10_bitCount h _) (va_cwS 1 hts (lw_S q585 q586 q112 q587) rfl rfl rfl (by decide +kernel) ⟨Nat.le_trans (Nat.le_of_ble_eq_true rfl) hRf, Nat.le_trans (Nat.le_of_ble_eq_true rfl) hRl⟩) ⟨ct_blind, ct_at F hS ct_nP ct_nD⟩ rfl rfl hl.1 rfl (lv_room (Nat.le_of_ble_eq_true rfl)) dX1_raise_141 ⟨hC, hSl⟩) rfl rfl hP hS ?_
        rintro x24 _ H locs h hP hS
        exact rt_i F dX1_raise_144 rfl (fd22, ar_21, lw23) h hP hD hS (Nat.le_refl _) (Nat.le_refl _)
      · replace h := h.2 c25
        refine lv_bipush (v := (-2 : Int32)) hx hb dX1_raise_126 (by decide) ?_
        exact rt_i F dX1_raise_128 rfl (fd, ar_21, lw) h hP hD hS (Nat.le_refl _) (Nat.le_refl _)
  · replace h := h.2 c26
    refine lv_iconst (v := (-1 : Int32)) hx hb dX1_raise_9 (by decide) ?_
    exact rt_i F dX1_raise_10 rfl (fd, ar, lw) h hP hD hS (Nat.le_refl _) (Nat.le_refl _)
set_option maxHeartbeats 4000000 in
theorem lp_S_treats_2_L3 {p : Program} {l : Launch} {e : Env} {R : Room} {s : State} {m : MethodId} {args : Array Value} {below : List Frame} {meth : Method} {c : Code} {cells slots : Nat} {A : Nat → Prop} {Qf : State → Prop} {V : evT} {D : va_G} {gI : Nat → ClassId} {o : Nat} {ax : Nat → Nat} {rn : Option (Nat × Nat)} {tl : va_W} {v1 : Int32} {v2 : Int32} {v3 : Int32} {fd : Nat → Int32} {lw : Nat → Int64} {hh : HT} {K118 : (Int32) → (Nat → Nat → Int32) → Prop} (F : ct_F p m c meth cX1_treats_2 5 s args RX1 (some .int) A V D vwCl (tyL gI)) (hRf : 2 ≤ R.frames) (hRl : 81 ≤ R.locals) (hC : cells ≤ R.cells) (hSl : slots ≤ R.slots)
    (hK118 : ∀ (v4 : Int32) (ar : Nat → Nat → Int32), K118 v4 ar → ∀ (H : Heap) (locs : List Loc) (ls : Array Slot), va_P D vwCl (wX gI o ax rn tl fd ar lw hh) H → va_D A (wX gI o ax rn tl fd ar lw hh) → va_S A s.heap H locs → lv_has ls 5 [(0, .ref o), (1, .int v1), (2, .int v2), (3, .int v3), (4, .int v4)] → W p l e R s m args below meth c H locs cells slots Qf (F0 m 118 ls [])) :
    ∀ (n : Nat) (v4 : Int32) (ar : Nat → Nat → Int32), wp_S_treats_2_L3 v1 v2 v3 fd lw hh K118 n v4 ar → ∀ (H : Heap) (locs : List Loc) (ls : Array Slot), va_P D vwCl (wX gI o ax rn tl fd ar lw hh) H → va_D A (wX gI o ax rn tl fd ar lw hh) → va_S A s.heap H locs → lv_has ls 5 [(0, .ref o), (1, .int v1), (2, .int v2), (3, .int v3), (4, .int v4)] → W p l e R s m args below meth c H locs cells slots Qf (F0 m 76 ls []) := by
  obtain ⟨⟨hx, hb, hml, hown, hts⟩, hr, hlocks, hA, hK, hE⟩ := id F
  intro n
  induction n with
  | zero => intro v4 ar h; exact h.elim
  | succ n ih =>
    intro v4 ar h H locs ls hP hD hS hl
    unfold wp_S_treats_2_L3 at h
    refine lv_aload_n hx hb dX1_treats_2_76 rfl (lv_at hl 0 rfl) ?_
    refine va_get hx hb hts in_X1 hown hK hP 0 rfl rfl 2 (Nat.le_of_ble_eq_true rfl) (hts _ q186) (fun _ h => h) (v := .ref (ax 2)) rfl dX1_treats_2_77 ?_
    refine va_get hx hb hts in_X2 hown hK hP 24 rfl rfl 2 (Nat.le_of_ble_eq_true rfl) (hts _ q141) (fun _ h => h) (v := .ref (ax 50)) rfl dX1_treats_2_80 ?_
    refine lv_iload_n hx hb dX1_treats_2_83 rfl (lv_at hl 3 rfl) ?_
    refine va_iald (f := (ar 50)) hx hb hK hP 27 0 rfl rfl h.1 dX1_treats_2_84 ?_
    replace h := h.2
    refine lv_iconst (v := (-1 : Int32)) hx hb dX1_treats_2_85 (by decide) ?_
    refine lv_icmp_eq (tgt := 118) hx hb dX1_treats_2_86 (by decide) (fun c11 => ?_) (fun c11 => ?_)
    · replace h := h.1 c11
      exact hK118 _ _ h _ _ _ hP hD hS (lv_sub hl [0, 1, 2, 3, 4] rfl)
    · replace h := h.2 c11
      refine lv_aload_n hx hb dX1_treats_2_89 rfl (lv_at hl 0 rfl) ?_
      refine va_get hx hb hts in_X1 hown hK hP 0 rfl rfl 2 (Nat.le_of_ble_eq_true rfl) (hts _ q186) (fun _ h => h) (v := .ref (ax 2)) rfl dX1_treats_2_90 ?_
      refine va_get hx hb hts in_X2 hown hK hP 24 rfl rfl 3 (Nat.le_of_ble_eq_true rfl) (hts _ q144) (fun _ h => h) (v := .ref (ax 51)) rfl dX1_treats_2_93 ?_
      refine lv_iload_n hx hb dX1_treats_2_96 rfl (lv_at hl 3 rfl) ?_
      refine va_iald (f := (ar 51)) hx hb hK hP 28 0 rfl rfl h.1 dX1_treats_2_97 ?_
      replace h := h.2
      refine lv_iload_n hx hb dX1_treats_2_98 rfl (lv_at hl 1 rfl) ?_
      refine lv_icmp_gt (tgt := 118) hx hb dX1_treats_2_99 (by decide) (fun c10 => ?_) (fun c10 => ?_)
      · replace h := h.1 c10
        exact hK118 _ _ h _ _ _ hP hD hS (lv_sub hl [0, 1, 2, 3, 4] rfl)
      · replace h := h.2 c10
        refine lv_aload_n hx hb dX1_treats_2_102 rfl (lv_at hl 0 rfl) ?_
        refine lv_aload_n hx hb dX1_treats_2_103 rfl (lv_at hl 0 rfl) ?_
        refine va_get hx hb hts in_X1 hown hK hP 0 rfl rfl 2 (Nat.le_of_ble_eq_true rfl) (hts _ q186) (fun _ h => h) (v := .ref (ax 2)) rfl dX1_treats_2_104 ?_
        refine lv_iload_n hx hb dX1_treats_2_107 rfl (lv_at hl 3 rfl) ?_
        refine lv_iconst (v := (1 : Int32)) hx hb dX1_treats_2_108 (by decide) ?_
        refine cl_v F (va_runV (As := [.ref (ax 2), .int v3, .int (1 : Int32)]) (rest := []) ⟨hx, hb, hml, hown, hts⟩ (ct_S_treats_i2 h _) (cwV 3 hts (lw_V q687 q689 qs13 q94 q690) rfl rfl rfl (by decide +kernel) ⟨Nat.le_trans (Nat.le_of_ble_eq_true rfl) hRf, Nat.le_trans (Nat.le_of_ble_eq_true rfl) hRl⟩) ⟨ct_blind, va_recv hK hP (ci := 0) (q0 := 0) rfl rfl, ct_at F hS hP hD⟩ rfl rfl hl.1 rfl (lv_room (Nat.le_of_ble_eq_true rfl)) dX1_treats_2_109 ⟨hC, hSl⟩) rfl rfl hD hS ?_
        rintro ar9 H locs h hP hD hS
        refine lv_iinc (v := (v4 + (1 : Int32))) (lv' := [(4, .int (v4 + (1 : Int32))), (0, .ref o), (1, .int v1), (2, .int v2), (3, .int v3)]) hx hb dX1_treats_2_112 hl (k := 4) rfl rfl (by decide) rfl (fun ls hl => ?_)
        refine lv_goto (tgt := 76) hx hb dX1_treats_2_115 (by decide) ?_
        exact ih _ _ h _ _ _ hP hD hS (lv_sub hl [1, 2, 3, 4, 0] rfl)
set_option maxHeartbeats 4000000 in
theorem lp_S_treats_2_J4 {p : Program} {l : Launch} {e : Env} {R : Room} {s : State} {m : MethodId} {args : Array Value} {below : List Frame} {meth : Method} {c : Code} {cells slots : Nat} {A : Nat → Prop} {Qf : State → Prop} {V : evT} {D : va_G} {gI : Nat → ClassId} {o : Nat} {ax : Nat → Nat} {rn : Option (Nat × Nat)} {tl : va_W} {v1 : Int32} {v4 : Int32} {ar : Nat → Nat → Int32} {hh : HT} {K54 : (Int32) → (Int32) → (Nat → Int32) → (Nat → Int64) → Prop} (F : ct_F p m c meth cX1_treats_2 5 s args RX1 (some .int) A V D vwCl (tyL gI)) (hRf : 2 ≤ R.frames) (hRl : 81 ≤ R.locals) (hC : cells ≤ R.cells) (hSl : slots ≤ R.slots)
    (hK54 : ∀ (v2 : Int32) (v3 : Int32) (fd : Nat → Int32) (lw : Nat → Int64), K54 v2 v3 fd lw → ∀ (H : Heap) (locs : List Loc) (ls : Array Slot), va_P D vwCl (wX gI o ax rn tl fd ar lw hh) H → va_D A (wX gI o ax rn tl fd ar lw hh) → va_S A s.heap H locs → lv_has ls 5 [(0, .ref o), (1, .int v1), (2, .int v2), (3, .int v3)] → W p l e R s m args below meth c H locs cells slots Qf (F0 m 54 ls [])) :
    ∀ (v2 : Int32) (v3 : Int32) (fd : Nat → Int32) (lw : Nat → Int64), wp_S_treats_2_J4 v1 v4 ar hh K54 v2 v3 fd lw → ∀ (H : Heap) (locs : List Loc) (ls : Array Slot), va_P D vwCl (wX gI o ax rn tl fd ar lw hh) H → va_D A (wX gI o ax rn tl fd ar lw hh) → va_S A s.heap H locs → lv_has ls 5 [(0, .ref o), (1, .int v1), (2, .int v2), (3, .int v3), (4, .int v4)] → W p l e R s m args below meth c H locs cells slots Qf (F0 m 118 ls []) := by
  obtain ⟨⟨hx, hb, hml, hown, hts⟩, hr, hlocks, hA, hK, hE⟩ := id F
  intro v2 v3 fd lw h H locs ls hP hD hS hl
  unfold wp_S_treats_2_J4 at h
  refine lv_aload_n hx hb dX1_treats_2_118 rfl (lv_at hl 0 rfl) ?_
  refine lv_iload hx hb dX1_treats_2_119 (lv_at hl 4 rfl) ?_
  refine lv_i2l (v := (v4.toInt64)) hx hb dX1_treats_2_121 rfl ?_
  refine cl_v F (va_runV (As := [.long (v4.toInt64)]) (rest := []) ⟨hx, hb, hml, hown, hts⟩ (ct_S_tell h _) (cwV 1 hts (lw_V q728 q730 qs19 q94 q731) rfl rfl rfl (by decide +kernel) ⟨Nat.le_trans (Nat.le_of_ble_eq_true rfl) hRf, Nat.le_trans (Nat.le_of_ble_eq_true rfl) hRl⟩) ⟨ct_blind, va_recv hK hP (ci := 0) (q0 := 0) rfl rfl, ct_at F hS hP hD⟩ rfl rfl hl.1 rfl (lv_room (Nat.le_of_ble_eq_true rfl)) dX1_treats_2_122 ⟨hC, hSl⟩) rfl rfl hD hS ?_
  rintro ⟨fd14, lw15⟩ H locs h hP hD hS
  refine lv_iload_n hx hb dX1_treats_2_125 rfl (lv_at hl 2 rfl) ?_
  refine lv_iload hx hb dX1_treats_2_126 (lv_at hl 4 rfl) ?_
  refine lv_iadd hx hb dX1_treats_2_128 ?_
  refine lv_istore_n (lv' := [(2, .int (v2 + v4)), (0, .ref o), (1, .int v1), (3, .int v3), (4, .int v4)]) hx hb dX1_treats_2_129 rfl hl (by decide) rfl (fun ls hl => ?_)
  refine lv_iinc (v := (v3 + (1 : Int32))) (lv' := [(3, .int (v3 + (1 : Int32))), (2, .int (v2 + v4)), (0, .ref o), (1, .int v1), (4, .int v4)]) hx hb dX1_treats_2_130 hl (k := 3) rfl rfl (by decide) rfl (fun ls hl => ?_)
  refine lv_goto (tgt := 54) hx hb dX1_treats_2_133 (by decide) ?_
  exact hK54 _ _ _ _ h _ _ _ hP hD hS (lv_sub hl [2, 3, 1, 0] rfl)
set_option maxHeartbeats 4000000 in
theorem lp_S_treats_2_L2 {p : Program} {l : Launch} {e : Env} {R : Room} {s : State} {m : MethodId} {args : Array Value} {below : List Frame} {meth : Method} {c : Code} {cells slots : Nat} {A : Nat → Prop} {Qf : State → Prop} {V : evT} {D : va_G} {gI : Nat → ClassId} {o : Nat} {ax : Nat → Nat} {rn : Option (Nat × Nat)} {tl : va_W} {v1 : Int32} {hh : HT} {K136 : (Int32) → (Nat → Int32) → (Nat → Nat → Int32) → (Nat → Int64) → Prop} (F : ct_F p m c meth cX1_treats_2 5 s args RX1 (some .int) A V D vwCl (tyL gI)) (hRf : 2 ≤ R.frames) (hRl : 81 ≤ R.locals) (hC : cells ≤ R.cells) (hSl : slots ≤ R.slots)
    (hK136 : ∀ (v2 : Int32) (fd : Nat → Int32) (ar : Nat → Nat → Int32) (lw : Nat → Int64), K136 v2 fd ar lw → ∀ (H : Heap) (locs : List Loc) (ls : Array Slot), va_P D vwCl (wX gI o ax rn tl fd ar lw hh) H → va_D A (wX gI o ax rn tl fd ar lw hh) → va_S A s.heap H locs → lv_has ls 5 [(2, .int v2)] → W p l e R s m args below meth c H locs cells slots Qf (F0 m 136 ls [])) :
    ∀ (n : Nat) (v2 : Int32) (v3 : Int32) (fd : Nat → Int32) (ar : Nat → Nat → Int32) (lw : Nat → Int64), wp_S_treats_2_L2 v1 hh K136 n v2 v3 fd ar lw → ∀ (H : Heap) (locs : List Loc) (ls : Array Slot), va_P D vwCl (wX gI o ax rn tl fd ar lw hh) H → va_D A (wX gI o ax rn tl fd ar lw hh) → va_S A s.heap H locs → lv_has ls 5 [(0, .ref o), (1, .int v1), (2, .int v2), (3, .int v3)] → W p l e R s m args below meth c H locs cells slots Qf (F0 m 54 ls []) := by
  obtain ⟨⟨hx, hb, hml, hown, hts⟩, hr, hlocks, hA, hK, hE⟩ := id F
  intro n
  induction n with
  | zero => intro v2 v3 fd ar lw h; exact h.elim
  | succ n ih =>
    intro v2 v3 fd ar lw h H locs ls hP hD hS hl
    unfold wp_S_treats_2_L2 at h
    refine lv_iload_n hx hb dX1_treats_2_54 rfl (lv_at hl 3 rfl) ?_
    refine lv_aload_n hx hb dX1_treats_2_55 rfl (lv_at hl 0 rfl) ?_
    refine va_get hx hb hts in_X1 hown hK hP 0 rfl rfl 10 (Nat.le_of_ble_eq_true rfl) (hts _ q199) (fun _ h => h) (v := .int (fd 10)) rfl dX1_treats_2_56 ?_
    refine lv_icmp_ge (tgt := 136) hx hb dX1_treats_2_59 (by decide) (fun c20 => ?_) (fun c20 => ?_)
    · replace h := h.1 c20
      exact hK136 _ _ _ _ h _ _ _ hP hD hS (lv_sub hl [2] rfl)
    · replace h := h.2 c20
      refine lv_aload_n hx hb dX1_treats_2_62 rfl (lv_at hl 0 rfl) ?_
      refine va_get hx hb hts in_X1 hown hK hP 0 rfl rfl 2 (Nat.le_of_ble_eq_true rfl) (hts _ q186) (fun _ h => h) (v := .ref (ax 2)) rfl dX1_treats_2_63 ?_
      refine lv_aload_n hx hb dX1_treats_2_66 rfl (lv_at hl 0 rfl) ?_
      refine va_get hx hb hts in_X1 hown hK hP 0 rfl rfl 0 (Nat.le_of_ble_eq_true rfl) (hts _ q180) (fun _ h => h) (v := .ref (ax 0)) rfl dX1_treats_2_67 ?_
      refine cl_vL F (va_runV (As := [.ref (ax 0)]) (rest := []) ⟨hx, hb, hml, hown, hts⟩ (ct_B_be (o := (ax 2)) (ab := axb ax 2) (o2 := (ax 0)) (ab2 := axb ax 0) h _) (cwV 1 hts (lw_V q659 q660 q661 q95 q662) rfl rfl rfl (by decide +kernel) ⟨Nat.le_trans (Nat.le_of_ble_eq_true rfl) hRf, Nat.le_trans (Nat.le_of_ble_eq_true rfl) hRl⟩) ⟨ct_blind, va_recv hK hP (ci := 1) (q0 := 24) rfl rfl, ct_at F hS (putL_P hP (ps := [24, 25, 26, 27, 28, 14, 15, 16, 17, 18]) rfl) (hD.sub ([24, 25, 26, 27, 28, 14, 15, 16, 17, 18]) (by decide) rfl)⟩ rfl rfl hl.1 rfl (lv_room (Nat.le_of_ble_eq_true rfl)) dX1_treats_2_70 ⟨hC, hSl⟩) rfl rfl hP hD hS (ps := [24, 25, 26, 27, 28, 14, 15, 16, 17, 18]) rfl (fun _ => rfl) (fun _ => wXPP_2_0) ?_
      rintro ⟨wl2, dp3, aa4, md5, mo6, sp7, ti8⟩ H locs h hP hD hS
      refine lv_iconst (v := (0 : Int32)) hx hb dX1_treats_2_73 (by decide) ?_
      refine lv_istore (lv' := [(4, .int (0 : Int32)), (0, .ref o), (1, .int v1), (2, .int v2), (3, .int v3)]) hx hb dX1_treats_2_74 hl (by decide) rfl (fun ls hl => ?_)
      obtain ⟨k76, h⟩ := h
      refine lp_S_treats_2_L3 F hRf hRl hC hSl ?hk118 k76 _ _ h _ _ _ hP hD hS (lv_sub hl [1, 2, 3, 4, 0] rfl)
      case hk118 =>
        intro v4_12 ar_13 h H locs ls hP hD hS hl
        refine lp_S_treats_2_J4 F hRf hRl hC hSl ?hk54 _ _ _ _ h _ _ _ hP hD hS (lv_sub hl [0, 1, 2, 3, 4] rfl)
        case hk54 =>
          intro v2_16 v3_17 fd_18 lw_19 h H locs ls hP hD hS hl
          exact ih _ _ _ _ _ h _ _ _ hP hD hS (lv_sub hl [0, 1, 2, 3] rfl)
set_option maxHeartbeats 4000000 in
theorem lp_S_treats_2_J1 {p : Program} {l : Launch} {e : Env} {R : Room} {s : State} {m : MethodId} {args : Array Value} {below : List Frame} {meth : Method} {c : Code} {cells slots : Nat} {A : Nat → Prop} {V : evT} {D : va_G} {gI : Nat → ClassId} {o : Nat} {ax : Nat → Nat} {rn : Option (Nat × Nat)} {tl : va_W} {v1 : Int32} {hh : HT} {Q : Int32 → (Nat → Int32) → (Nat → Nat → Int32) → (Nat → Int64) → Prop} (F : ct_F p m c meth cX1_treats_2 5 s args RX1 (some .int) A V D vwCl (tyL gI)) (hRf : 2 ≤ R.frames) (hRl : 81 ≤ R.locals) (hC : cells ≤ R.cells) (hSl : slots ≤ R.slots) :
    ∀ (v2 : Int32) (fd : Nat → Int32) (ar : Nat → Nat → Int32) (lw : Nat → Int64), wp_S_treats_2_J1 v1 hh Q v2 fd ar lw → ∀ (H : Heap) (locs : List Loc) (ls : Array Slot), va_P D vwCl (wX gI o ax rn tl fd ar lw hh) H → va_D A (wX gI o ax rn tl fd ar lw hh) → va_S A s.heap H locs → lv_has ls 5 [(0, .ref o), (1, .int v1), (2, .int v2)] → W p l e R s m args below meth c H locs cells slots (MQ below (va_Qi (fun (x : Int32) (u : (Nat → Int32) × (Nat → Nat → Int32) × (Nat → Int64)) => Q x u.1 u.2.1 u.2.2) (fun u t => va_P D vwCl (wX gI o ax rn tl u.1 u.2.1 u.2.2 hh) t.heap ∧ va_K D vwCl (tyL gI) t ∧ va_D A (wX gI o ax rn tl u.1 u.2.1 u.2.2 hh)) A) args s cells slots A) (F0 m 47 ls []) := by
  obtain ⟨⟨hx, hb, hml, hown, hts⟩, hr, hlocks, hA, hK, hE⟩ := id F
  intro v2 fd ar lw h H locs ls hP hD hS hl
  unfold wp_S_treats_2_J1 at h
  refine lv_aload_n hx hb dX1_treats_2_47 rfl (lv_at hl 0 rfl) ?_
  refine lv_iconst (v := (0 : Int32)) hx hb dX1_treats_2_48 (by decide) ?_
  refine pt_put (v := .int (0 : Int32)) hx hb hts in_X1 tyX1 tyX1_ok nmX1 hown hK hP hD hS 0 rfl rfl 18 (Nat.le_of_ble_eq_true rfl) (hts _ q209) (fun _ h => h) rfl (ty := .int) (by decide +kernel) rfl rfl (Nat.le_of_ble_eq_true rfl) dX1_treats_2_49 wXF_18 (fun H locs hP hD hS => ?_)
  refine lv_iconst (v := (0 : Int32)) hx hb dX1_treats_2_52 (by decide) ?_
  refine lv_istore_n (lv' := [(3, .int (0 : Int32)), (0, .ref o), (1, .int v1), (2, .int v2)]) hx hb dX1_treats_2_53 rfl hl (by decide) rfl (fun ls hl => ?_)
  obtain ⟨k54, h⟩ := h
  refine lp_S_treats_2_L2 F hRf hRl hC hSl ?hk136 k54 _ _ _ _ _ h _ _ _ hP hD hS (lv_sub hl [1, 2, 3, 0] rfl)
  case hk136 =>
    intro v2_21 fd_22 ar_23 lw_24 h H locs ls hP hD hS hl
    refine lv_iload_n hx hb dX1_treats_2_136 rfl (lv_at hl 0 rfl) ?_
    exact rt_i F dX1_treats_2_137 rfl (fd_22, ar_23, lw_24) h hP hD hS (Nat.le_refl _) (Nat.le_refl _)
set_option maxHeartbeats 4000000 in
theorem ct_S_treats_2 {l : Launch} {V : evT} {D : va_G} {gI : Nat → ClassId} {o : Nat} {ax : Nat → Nat} {rn : Option (Nat × Nat)} {tl : va_W} {v1 : Int32} {fd : Nat → Int32} {ar : Nat → Nat → Int32} {lw : Nat → Int64} {hh : HT} {Q : Int32 → (Nat → Int32) → (Nat → Nat → Int32) → (Nat → Int64) → Prop} (h : wp_S_treats_2 v1 fd ar lw hh Q) : ct_i l V D vwCl (tyL gI) yX1_treats_2 cX1_treats_2 5 .int { frames := 2, cells := 0, slots := 0, locals := 81 } [.ref o, .int v1] (wX gI o ax rn tl fd ar lw hh) (fun u : (Nat → Int32) × (Nat → Nat → Int32) × (Nat → Int64) => (wX gI o ax rn tl u.1 u.2.1 u.2.2 hh)) (fun (x : Int32) (u : (Nat → Int32) × (Nat → Nat → Int32) × (Nat → Int64)) => Q x u.1 u.2.1 u.2.2) := by
  refine ct_ofi RX1 rfl (by decide +kernel) (Nat.le_of_ble_eq_true rfl) ?_
  intro p e s m args below meth c A F hP hD ls hl
  obtain ⟨⟨hx, hb, hml, hown, hts⟩, hr, hlocks, hA, hK, hE⟩ := id F
  have hS : va_S A s.heap s.heap [] := va_S.rf
  have hl : lv_has ls 5 [(0, .ref o), (1, .int v1)] := hl
  have hRf : 2 ≤ ({ frames := 2, cells := 0, slots := 0, locals := 81 } : Room).frames := Nat.le_refl _
  have hRl : 81 ≤ ({ frames := 2, cells := 0, slots := 0, locals := 81 } : Room).locals := Nat.le_refl _
  have hC : 0 ≤ ({ frames := 2, cells := 0, slots := 0, locals := 81 } : Room).cells := Nat.le_refl _
  have hSl : 0 ≤ ({ frames := 2, cells := 0, slots := 0, locals := 81 } : Room).slots := Nat.le_refl _
  unfold wp_S_treats_2 at h
  refine lv_iload_n hx hb dX1_treats_2_0 rfl (lv_at hl 1 rfl) ?_
  refine lv_i2l (v := (v1.toInt64)) hx hb dX1_treats_2_1 rfl ?_
  refine lv_lconst (v := (1 : Int64)) hx hb dX1_treats_2_2 (by decide) ?_
  refine lv_ldc2 (v := (9 : Int64)) hx hb hown (hts _ q584) dX1_treats_2_3 ?_
  refine cl_i0 F (va_runS (As := [.long (v1.toInt64), .long (1 : Int64), .long (9 : Int64)]) (rest := []) ⟨hx, hb, hml, hown, hts⟩ (ct_X1_in h _) (va_cwS 3 hts (lw_S q298 q299 q94 q300) rfl rfl rfl (by decide +kernel) ⟨Nat.le_trans (Nat.le_of_ble_eq_true rfl) hRf, Nat.le_trans (Nat.le_of_ble_eq_true rfl) hRl⟩) ⟨ct_blind, ct_at F hS ct_nP ct_nD⟩ rfl rfl hl.1 rfl (lv_room (Nat.le_of_ble_eq_true rfl)) dX1_treats_2_6 ⟨hC, hSl⟩) rfl rfl hP hS ?_
  rintro x1 _ H locs h hP hS
  refine lv_if_ne (tgt := 14) hx hb dX1_treats_2_9 (by decide) (fun c28 => ?_) (fun c28 => ?_)
  · replace h := h.1 c28
    refine lv_iconst (v := (0 : Int32)) hx hb dX1_treats_2_14 (by decide) ?_
    refine lv_istore_n (lv' := [(2, .int (0 : Int32)), (0, .ref o), (1, .int v1)]) hx hb dX1_treats_2_15 rfl hl (by decide) rfl (fun ls hl => ?_)
    refine lv_iload_n hx hb dX1_treats_2_16 rfl (lv_at hl 2 rfl) ?_
    refine lv_bipush (v := (9 : Int32)) hx hb dX1_treats_2_17 (by decide) ?_
    refine lv_icmp_ne (tgt := 47) hx hb dX1_treats_2_19 (by decide) (fun c27 => ?_) (fun c27 => ?_)
    · replace h := h.1 c27
      refine lp_S_treats_2_J1 F hRf hRl hC hSl  _ _ _ _ h _ _ _ hP hD hS (lv_sub hl [1, 2, 0] rfl)
    · replace h := h.2 c27
      refine lv_aload_n hx hb dX1_treats_2_22 rfl (lv_at hl 1 rfl) ?_
      refine va_get hx hb hts in_X1 hown hK hP 0 rfl rfl 0 (Nat.le_of_ble_eq_true rfl) (hts _ q180) (fun _ h => h) (v := .ref (ax 0)) rfl dX1_treats_2_23 ?_
      refine lv_aload_n hx hb dX1_treats_2_26 rfl (lv_at hl 1 rfl) ?_
      refine va_get hx hb hts in_X1 hown hK hP 0 rfl rfl 10 (Nat.le_of_ble_eq_true rfl) (hts _ q199) (fun _ h => h) (v := .int (fd 10)) rfl dX1_treats_2_27 ?_
      refine cl_iL F (va_runV (As := [.int (fd 10)]) (rest := []) ⟨hx, hb, hml, hown, hts⟩ (ct_B_atHome (o := (ax 0)) (ab := axb ax 0) h _) (cwV 1 hts (lw_V q700 q701 q702 q95 q703) rfl rfl rfl (by decide +kernel) ⟨Nat.le_trans (Nat.le_of_ble_eq_true rfl) hRf, Nat.le_trans (Nat.le_of_ble_eq_true rfl) hRl⟩) ⟨ct_blind, va_recv hK hP (ci := 1) (q0 := 14) rfl rfl, ct_at F hS (putL_P hP (ps := [14, 15, 16, 17, 18]) rfl) (hD.sub ([14, 15, 16, 17, 18]) (by decide) rfl)⟩ rfl rfl hl.1 rfl (lv_room (Nat.le_of_ble_eq_true rfl)) dX1_treats_2_30 ⟨hC, hSl⟩) rfl rfl hP hD hS (ps := [14, 15, 16, 17, 18]) rfl (fun _ => rfl) (fun _ => wXP_0_none) ?_
      rintro x25 _ H locs h hP hD hS
      refine lv_iconst (v := (1 : Int32)) hx hb dX1_treats_2_33 (by decide) ?_
      refine lv_aload_n hx hb dX1_treats_2_34 rfl (lv_at hl 1 rfl) ?_
      refine va_get hx hb hts in_X1 hown hK hP 0 rfl rfl 10 (Nat.le_of_ble_eq_true rfl) (hts _ q199) (fun _ h => h) (v := .int (fd 10)) rfl dX1_treats_2_35 ?_
      refine lv_ishl hx hb dX1_treats_2_38 ?_
      refine lv_iconst (v := (1 : Int32)) hx hb dX1_treats_2_39 (by decide) ?_
      refine lv_isub hx hb dX1_treats_2_40 ?_
      refine lv_icmp_eq (tgt := 47) hx hb dX1_treats_2_41 (by decide) (fun c26 => ?_) (fun c26 => ?_)
      · replace h := h.1 c26
        refine lp_S_treats_2_J1 F hRf hRl hC hSl  _ _ _ _ h _ _ _ hP hD hS (lv_sub hl [1, 2, 0] rfl)
      · replace h := h.2 c26
        refine lv_bipush (v := (-2 : Int32)) hx hb dX1_treats_2_44 (by decide) ?_
        exact rt_i F dX1_treats_2_46 rfl (fd, ar, lw) h hP hD hS (Nat.le_refl _) (Nat.le_refl _)
  · replace h := h.2 c28
    refine lv_iconst (v := (-1 : Int32)) hx hb dX1_treats_2_12 (by decide) ?_
    exact rt_i F dX1_treats_2_13 rfl (fd, ar, lw) h hP hD hS (Nat.le_refl _) (Nat.le_refl _)
set_option maxHeartbeats 4000000 in
theorem lp_S_seen_J1 {p : Program} {l : Launch} {e : Env} {R : Room} {s : State} {m : MethodId} {args : Array Value} {below : List Frame} {meth : Method} {c : Code} {cells slots : Nat} {A : Nat → Prop} {V : evT} {D : va_G} {gI : Nat → ClassId} {o : Nat} {ax : Nat → Nat} {rn : Option (Nat × Nat)} {tl : va_W} {v1 : Int32} {v2 : Int32} {lw : Nat → Int64} {hh : HT} {Q : Int32 → (Nat → Int32) → (Nat → Nat → Int32) → Prop} (F : ct_F p m c meth cX1_seen 3 s args RX1 (some .int) A V D vwCl (tyL gI)) (hRf : 3 ≤ R.frames) (hRl : 58 ≤ R.locals) (hC : cells ≤ R.cells) (hSl : slots ≤ R.slots) :
    ∀ (fd : Nat → Int32) (ar : Nat → Nat → Int32), wp_S_seen_J1 v1 v2 lw hh Q fd ar → ∀ (H : Heap) (locs : List Loc) (ls : Array Slot), va_P D vwCl (wX gI o ax rn tl fd ar lw hh) H → va_D A (wX gI o ax rn tl fd ar lw hh) → va_S A s.heap H locs → lv_has ls 3 [(0, .ref o), (1, .int v1), (2, .int v2)] → W p l e R s m args below meth c H locs cells slots (MQ below (va_Qi (fun (x : Int32) (u : (Nat → Int32) × (Nat → Nat → Int32)) => Q x u.1 u.2) (fun u t => va_P D vwCl (wX gI o ax rn tl u.1 u.2 lw hh) t.heap ∧ va_K D vwCl (tyL gI) t ∧ va_D A (wX gI o ax rn tl u.1 u.2 lw hh)) A) args s cells slots A) (F0 m 44 ls []) := by
  obtain ⟨⟨hx, hb, hml, hown, hts⟩, hr, hlocks, hA, hK, hE⟩ := id F
  intro fd ar h H locs ls hP hD hS hl
  unfold wp_S_seen_J1 at h
  refine lv_aload_n hx hb dX1_seen_44 rfl (lv_at hl 0 rfl) ?_
  refine va_get hx hb hts in_X1 hown hK hP 0 rfl rfl 24 (Nat.le_of_ble_eq_true rfl) (hts _ q215) (fun _ h => h) (v := .ref (ax 24)) rfl dX1_seen_45 ?_
  refine lv_iload_n hx hb dX1_seen_48 rfl (lv_at hl 1 rfl) ?_
  refine lv_iload_n hx hb dX1_seen_49 rfl (lv_at hl 2 rfl) ?_
  refine pt_iast (f := (ar 24)) hx hb hK hP hD hS 10 0 rfl rfl h.1 dX1_seen_50 wXA_24 (fun H locs hP hD hS => ?_)
  replace h := h.2
  refine lv_aload_n hx hb dX1_seen_51 rfl (lv_at hl 0 rfl) ?_
  refine lv_dup hx hb dX1_seen_52 rfl ?_
  refine va_get hx hb hts in_X1 hown hK hP 0 rfl rfl 28 (Nat.le_of_ble_eq_true rfl) (hts _ q219) (fun _ h => h) (v := .int (fd 28)) rfl dX1_seen_53 ?_
  refine lv_iconst (v := (1 : Int32)) hx hb dX1_seen_56 (by decide) ?_
  refine lv_iload_n hx hb dX1_seen_57 rfl (lv_at hl 1 rfl) ?_
  refine lv_ishl hx hb dX1_seen_58 ?_
  refine lv_ior hx hb dX1_seen_59 ?_
  refine pt_put (v := .int ((fd 28) ||| ((1 : Int32) <<< (v1 &&& 31)))) hx hb hts in_X1 tyX1 tyX1_ok nmX1 hown hK hP hD hS 0 rfl rfl 28 (Nat.le_of_ble_eq_true rfl) (hts _ q219) (fun _ h => h) rfl (ty := .int) (by decide +kernel) rfl rfl (Nat.le_of_ble_eq_true rfl) dX1_seen_60 wXF_28 (fun H locs hP hD hS => ?_)
  refine lv_aload_n hx hb dX1_seen_63 rfl (lv_at hl 0 rfl) ?_
  refine va_get hx hb hts in_X1 hown hK hP 0 rfl rfl 28 (Nat.le_of_ble_eq_true rfl) (hts _ q219) (fun _ h => h) (v := .int ((fd 28) ||| ((1 : Int32) <<< (v1 &&& 31)))) rfl dX1_seen_64 ?_
  refine cl_i0 F (va_runS (As := [.int ((fd 28) ||| ((1 : Int32) <<< (v1 &&& 31)))]) (rest := []) ⟨hx, hb, hml, hown, hts⟩ (ct_J10_bitCount h _) (va_cwS 1 hts (lw_S q585 q586 q112 q587) rfl rfl rfl (by decide +kernel) ⟨Nat.le_trans (Nat.le_of_ble_eq_true rfl) hRf, Nat.le_trans (Nat.le_of_ble_eq_true rfl) hRl⟩) ⟨ct_blind, ct_at F hS ct_nP ct_nD⟩ rfl rfl hl.1 rfl (lv_room (Nat.le_of_ble_eq_true rfl)) dX1_seen_67 ⟨hC, hSl⟩) rfl rfl hP hS ?_
  rintro x4 _ H locs h hP hS
  exact rt_i F dX1_seen_70 rfl ((upd fd 28 ((fd 28) ||| ((1 : Int32) <<< (v1 &&& 31)))), (va_up ar 24 (upd (ar 24) v1.toNatClampNeg v2))) h hP hD hS (Nat.le_refl _) (Nat.le_refl _)
set_option maxHeartbeats 4000000 in
theorem ct_S_seen {l : Launch} {V : evT} {D : va_G} {gI : Nat → ClassId} {o : Nat} {ax : Nat → Nat} {rn : Option (Nat × Nat)} {tl : va_W} {v1 : Int32} {v2 : Int32} {fd : Nat → Int32} {ar : Nat → Nat → Int32} {lw : Nat → Int64} {hh : HT} {Q : Int32 → (Nat → Int32) → (Nat → Nat → Int32) → Prop} (h : wp_S_seen v1 v2 fd ar lw hh Q) : ct_i l V D vwCl (tyL gI) yX1_seen cX1_seen 3 .int { frames := 3, cells := 0, slots := 0, locals := 58 } [.ref o, .int v1, .int v2] (wX gI o ax rn tl fd ar lw hh) (fun u : (Nat → Int32) × (Nat → Nat → Int32) => (wX gI o ax rn tl u.1 u.2 lw hh)) (fun (x : Int32) (u : (Nat → Int32) × (Nat → Nat → Int32)) => Q x u.1 u.2) := by
  refine ct_ofi RX1 rfl (by decide +kernel) (Nat.le_of_ble_eq_true rfl) ?_
  intro p e s m args below meth c A F hP hD ls hl
  obtain ⟨⟨hx, hb, hml, hown, hts⟩, hr, hlocks, hA, hK, hE⟩ := id F
  have hS : va_S A s.heap s.heap [] := va_S.rf
  have hl : lv_has ls 3 [(0, .ref o), (1, .int v1), (2, .int v2)] := hl
  have hRf : 3 ≤ ({ frames := 3, cells := 0, slots := 0, locals := 58 } : Room).frames := Nat.le_refl _
  have hRl : 58 ≤ ({ frames := 3, cells := 0, slots := 0, locals := 58 } : Room).locals := Nat.le_refl _
  have hC : 0 ≤ ({ frames := 3, cells := 0, slots := 0, locals := 58 } : Room).cells := Nat.le_refl _
  have hSl : 0 ≤ ({ frames := 3, cells := 0, slots := 0, locals := 58 } : Room).slots := Nat.le_refl _
  unfold wp_S_seen at h
  refine lv_aload_n hx hb dX1_seen_0 rfl (lv_at hl 0 rfl) ?_
  refine lv_iload_n hx hb dX1_seen_1 rfl (lv_at hl 1 rfl) ?_
  refine cl_i F (va_runV (As := [.int v1]) (rest := []) ⟨hx, hb, hml, hown, hts⟩ (ct_S_isCell h _) (cwV 1 hts (lw_V q651 q653 qs9 q94 q654) rfl rfl rfl (by decide +kernel) ⟨Nat.le_trans (Nat.le_of_ble_eq_true rfl) hRf, Nat.le_trans (Nat.le_of_ble_eq_true rfl) hRl⟩) ⟨ct_blind, va_recv hK hP (ci := 0) (q0 := 0) rfl rfl, ct_at F hS hP hD⟩ rfl rfl hl.1 rfl (lv_room (Nat.le_of_ble_eq_true rfl)) dX1_seen_2 ⟨hC, hSl⟩) rfl rfl hD hS ?_
  rintro x1 _ H locs h hP hD hS
  refine lv_if_eq (tgt := 42) hx hb dX1_seen_5 (by decide) (fun c9 => ?_) (fun c9 => ?_)
  · replace h := h.1 c9
    refine lv_iconst (v := (-1 : Int32)) hx hb dX1_seen_42 (by decide) ?_
    exact rt_i F dX1_seen_43 rfl (fd, ar) h hP hD hS (Nat.le_refl _) (Nat.le_refl _)
  · replace h := h.2 c9
    refine lv_iload_n hx hb dX1_seen_8 rfl (lv_at hl 2 rfl) ?_
    refine lv_i2l (v := (v2.toInt64)) hx hb dX1_seen_9 rfl ?_
    refine lv_lconst (v := (0 : Int64)) hx hb dX1_seen_10 (by decide) ?_
    refine lv_ldc2 (v := (99 : Int64)) hx hb hown (hts _ q772) dX1_seen_11 ?_
    refine cl_i0 F (va_runS (As := [.long (v2.toInt64), .long (0 : Int64), .long (99 : Int64)]) (rest := []) ⟨hx, hb, hml, hown, hts⟩ (ct_X1_in h _) (va_cwS 3 hts (lw_S q298 q299 q94 q300) rfl rfl rfl (by decide +kernel) ⟨Nat.le_trans (Nat.le_of_ble_eq_true rfl) hRf, Nat.le_trans (Nat.le_of_ble_eq_true rfl) hRl⟩) ⟨ct_blind, ct_at F hS ct_nP ct_nD⟩ rfl rfl hl.1 rfl (lv_room (Nat.le_of_ble_eq_true rfl)) dX1_seen_14 ⟨hC, hSl⟩) rfl rfl hP hS ?_
    rintro x2 _ H locs h hP hS
    refine lv_if_eq (tgt := 42) hx hb dX1_seen_17 (by decide) (fun c8 => ?_) (fun c8 => ?_)
    · replace h := h.1 c8
      refine lv_iconst (v := (-1 : Int32)) hx hb dX1_seen_42 (by decide) ?_
      exact rt_i F dX1_seen_43 rfl (fd, ar) h hP hD hS (Nat.le_refl _) (Nat.le_refl _)
    · replace h := h.2 c8
      refine lv_aload_n hx hb dX1_seen_20 rfl (lv_at hl 0 rfl) ?_
      refine va_get hx hb hts in_X1 hown hK hP 0 rfl rfl 28 (Nat.le_of_ble_eq_true rfl) (hts _ q219) (fun _ h => h) (v := .int (fd 28)) rfl dX1_seen_21 ?_
      refine lv_iload_n hx hb dX1_seen_24 rfl (lv_at hl 1 rfl) ?_
      refine cl_i0 F (va_runS (As := [.int (fd 28), .int v1]) (rest := []) ⟨hx, hb, hml, hown, hts⟩ (ct_X1_has h _) (va_cwS 2 hts (lw_S q680 q681 q94 q682) rfl rfl rfl (by decide +kernel) ⟨Nat.le_trans (Nat.le_of_ble_eq_true rfl) hRf, Nat.le_trans (Nat.le_of_ble_eq_true rfl) hRl⟩) ⟨ct_blind, ct_at F hS ct_nP ct_nD⟩ rfl rfl hl.1 rfl (lv_room (Nat.le_of_ble_eq_true rfl)) dX1_seen_25 ⟨hC, hSl⟩) rfl rfl hP hS ?_
      rintro x3 _ H locs h hP hS
      refine lv_if_ne (tgt := 44) hx hb dX1_seen_28 (by decide) (fun c7 => ?_) (fun c7 => ?_)
      · replace h := h.1 c7
        refine lp_S_seen_J1 F hRf hRl hC hSl  _ _ h _ _ _ hP hD hS (lv_sub hl [0, 1, 2] rfl)
      · replace h := h.2 c7
        refine lv_aload_n hx hb dX1_seen_31 rfl (lv_at hl 0 rfl) ?_
        refine va_get hx hb hts in_X1 hown hK hP 0 rfl rfl 28 (Nat.le_of_ble_eq_true rfl) (hts _ q219) (fun _ h => h) (v := .int (fd 28)) rfl dX1_seen_32 ?_
        refine cl_i0 F (va_runS (As := [.int (fd 28)]) (rest := []) ⟨hx, hb, hml, hown, hts⟩ (ct_J10_bitCount h _) (va_cwS 1 hts (lw_S q585 q586 q112 q587) rfl rfl rfl (by decide +kernel) ⟨Nat.le_trans (Nat.le_of_ble_eq_true rfl) hRf, Nat.le_trans (Nat.le_of_ble_eq_true rfl) hRl⟩) ⟨ct_blind, ct_at F hS ct_nP ct_nD⟩ rfl rfl hl.1 rfl (lv_room (Nat.le_of_ble_eq_true rfl)) dX1_seen_35 ⟨hC, hSl⟩) rfl rfl hP hS ?_
        rintro x5 _ H locs h hP hS
        refine lv_iconst (v := (4 : Int32)) hx hb dX1_seen_38 (by decide) ?_
        refine lv_icmp_ne (tgt := 44) hx hb dX1_seen_39 (by decide) (fun c6 => ?_) (fun c6 => ?_)
        · replace h := h.1 c6
          refine lp_S_seen_J1 F hRf hRl hC hSl  _ _ h _ _ _ hP hD hS (lv_sub hl [0, 1, 2] rfl)
        · replace h := h.2 c6
          refine lv_iconst (v := (-1 : Int32)) hx hb dX1_seen_42 (by decide) ?_
          exact rt_i F dX1_seen_43 rfl (fd, ar) h hP hD hS (Nat.le_refl _) (Nat.le_refl _)
set_option maxHeartbeats 4000000 in
theorem ct_S_forget {l : Launch} {V : evT} {D : va_G} {gI : Nat → ClassId} {o : Nat} {ax : Nat → Nat} {rn : Option (Nat × Nat)} {tl : va_W} {fd : Nat → Int32} {ar : Nat → Nat → Int32} {lw : Nat → Int64} {hh : HT} {Q : Int32 → (Nat → Int32) → Prop} (h : wp_S_forget fd ar lw hh Q) : ct_i l V D vwCl (tyL gI) yX1_forget cX1_forget 2 .int { frames := 2, cells := 0, slots := 0, locals := 32 } [.ref o] (wX gI o ax rn tl fd ar lw hh) (fun u : (Nat → Int32) => (wX gI o ax rn tl u ar lw hh)) (fun (x : Int32) (u : (Nat → Int32)) => Q x u) := by
  refine ct_ofi RX1 rfl (by decide +kernel) (Nat.le_of_ble_eq_true rfl) ?_
  intro p e s m args below meth c A F hP hD ls hl
  obtain ⟨⟨hx, hb, hml, hown, hts⟩, hr, hlocks, hA, hK, hE⟩ := id F
  have hS : va_S A s.heap s.heap [] := va_S.rf
  have hl : lv_has ls 2 [(0, .ref o)] := hl
  have hRf : 2 ≤ ({ frames := 2, cells := 0, slots := 0, locals := 32 } : Room).frames := Nat.le_refl _
  have hRl : 32 ≤ ({ frames := 2, cells := 0, slots := 0, locals := 32 } : Room).locals := Nat.le_refl _
  have hC : 0 ≤ ({ frames := 2, cells := 0, slots := 0, locals := 32 } : Room).cells := Nat.le_refl _
  have hSl : 0 ≤ ({ frames := 2, cells := 0, slots := 0, locals := 32 } : Room).slots := Nat.le_refl _
  unfold wp_S_forget at h
  refine lv_aload_n hx hb dX1_forget_0 rfl (lv_at hl 0 rfl) ?_
  refine va_get hx hb hts in_X1 hown hK hP 0 rfl rfl 28 (Nat.le_of_ble_eq_true rfl) (hts _ q219) (fun _ h => h) (v := .int (fd 28)) rfl dX1_forget_1 ?_
  refine cl_i0 F (va_runS (As := [.int (fd 28)]) (rest := []) ⟨hx, hb, hml, hown, hts⟩ (ct_J10_bitCount h _) (va_cwS 1 hts (lw_S q585 q586 q112 q587) rfl rfl rfl (by decide +kernel) ⟨Nat.le_trans (Nat.le_of_ble_eq_true rfl) hRf, Nat.le_trans (Nat.le_of_ble_eq_true rfl) hRl⟩) ⟨ct_blind, ct_at F hS ct_nP ct_nD⟩ rfl rfl hl.1 rfl (lv_room (Nat.le_of_ble_eq_true rfl)) dX1_forget_4 ⟨hC, hSl⟩) rfl rfl hP hS ?_
  rintro x1 _ H locs h hP hS
  refine lv_istore_n (lv' := [(1, .int x1), (0, .ref o)]) hx hb dX1_forget_7 rfl hl (by decide) rfl (fun ls hl => ?_)
  refine lv_aload_n hx hb dX1_forget_8 rfl (lv_at hl 1 rfl) ?_
  refine lv_iconst (v := (0 : Int32)) hx hb dX1_forget_9 (by decide) ?_
  refine pt_put (v := .int (0 : Int32)) hx hb hts in_X1 tyX1 tyX1_ok nmX1 hown hK hP hD hS 0 rfl rfl 28 (Nat.le_of_ble_eq_true rfl) (hts _ q219) (fun _ h => h) rfl (ty := .int) (by decide +kernel) rfl rfl (Nat.le_of_ble_eq_true rfl) dX1_forget_10 wXF_28 (fun H locs hP hD hS => ?_)
  refine lv_iload_n hx hb dX1_forget_13 rfl (lv_at hl 0 rfl) ?_
  exact rt_i F dX1_forget_14 rfl ((upd fd 28 (0 : Int32))) h hP hD hS (Nat.le_refl _) (Nat.le_refl _)
set_option maxHeartbeats 4000000 in
theorem lp_X1_power_L1 {p : Program} {l : Launch} {e : Env} {R : Room} {s : State} {m : MethodId} {args : Array Value} {below : List Frame} {meth : Method} {c : Code} {cells slots : Nat} {A : Nat → Prop} {Qf : State → Prop} {V : evT} {D : va_G} {gI : Nat → ClassId} {v0 : Int64} {v2 : Int32} {K21 : (Int64) → Prop} (F : ct_F p m c meth cX1_power 6 s args RX1 (some .long) A V D vwCl (tyL gI)) (hRf : 1 ≤ R.frames) (hRl : 12 ≤ R.locals) (hC : cells ≤ R.cells) (hSl : slots ≤ R.slots)
    (hK21 : ∀ (v3 : Int64), K21 v3 → ∀ (H : Heap) (locs : List Loc) (ls : Array Slot), va_P D vwCl [] H → va_D A [] → va_S A s.heap H locs → lv_has ls 6 [(3, .long v3)] → W p l e R s m args below meth c H locs cells slots Qf (F0 m 21 ls [])) :
    ∀ (n : Nat) (v3 : Int64) (v5 : Int32), wp_X1_power_L1 v0 v2 K21 n v3 v5 → ∀ (H : Heap) (locs : List Loc) (ls : Array Slot), va_P D vwCl [] H → va_D A [] → va_S A s.heap H locs → lv_has ls 6 [(0, .long v0), (2, .int v2), (3, .long v3), (5, .int v5)] → W p l e R s m args below meth c H locs cells slots Qf (F0 m 5 ls []) := by
  obtain ⟨⟨hx, hb, hml, hown, hts⟩, hr, hlocks, hA, hK, hE⟩ := id F
  intro n
  induction n with
  | zero => intro v3 v5 h; exact h.elim
  | succ n ih =>
    intro v3 v5 h H locs ls hP hD hS hl
    unfold wp_X1_power_L1 at h
    refine lv_iload hx hb dX1_power_5 (lv_at hl 3 rfl) ?_
    refine lv_iload_n hx hb dX1_power_7 rfl (lv_at hl 1 rfl) ?_
    refine lv_icmp_ge (tgt := 21) hx hb dX1_power_8 (by decide) (fun c1 => ?_) (fun c1 => ?_)
    · replace h := h.1 c1
      exact hK21 _ h _ _ _ hP hD hS (lv_sub hl [2] rfl)
    · replace h := h.2 c1
      refine lv_lload_n hx hb dX1_power_11 rfl (lv_at hl 2 rfl) ?_
      refine lv_lload_n hx hb dX1_power_12 rfl (lv_at hl 0 rfl) ?_
      refine lv_lmul hx hb dX1_power_13 ?_
      refine lv_lstore_n (lv' := [(3, .long (v3 * v0)), (0, .long v0), (2, .int v2), (5, .int v5)]) hx hb dX1_power_14 rfl hl (by decide) rfl (fun ls hl => ?_)
      refine lv_iinc (v := (v5 + (1 : Int32))) (lv' := [(5, .int (v5 + (1 : Int32))), (3, .long (v3 * v0)), (0, .long v0), (2, .int v2)]) hx hb dX1_power_15 hl (k := 3) rfl rfl (by decide) rfl (fun ls hl => ?_)
      refine lv_goto (tgt := 5) hx hb dX1_power_18 (by decide) ?_
      exact ih _ _ h _ _ _ hP hD hS (lv_sub hl [2, 3, 1, 0] rfl)
set_option maxHeartbeats 4000000 in
theorem ct_X1_power {l : Launch} {V : evT} {D : va_G} {gI : Nat → ClassId} {v0 : Int64} {v2 : Int32} {Q : Int64 → Prop} (h : wp_X1_power v0 v2  Q) : ct_l l V D vwCl (tyL gI) yX1_power cX1_power 6 { frames := 1, cells := 0, slots := 0, locals := 12 } [.long v0, .int v2] [] (fun u : Unit => []) (fun (x : Int64) (u : Unit) => Q x) := by
  refine ct_ofl RX1 rfl (by decide +kernel) (Nat.le_of_ble_eq_true rfl) ?_
  intro p e s m args below meth c A F hP hD ls hl
  obtain ⟨⟨hx, hb, hml, hown, hts⟩, hr, hlocks, hA, hK, hE⟩ := id F
  have hS : va_S A s.heap s.heap [] := va_S.rf
  have hl : lv_has ls 6 [(0, .long v0), (2, .int v2)] := hl
  have hRf : 1 ≤ ({ frames := 1, cells := 0, slots := 0, locals := 12 } : Room).frames := Nat.le_refl _
  have hRl : 12 ≤ ({ frames := 1, cells := 0, slots := 0, locals := 12 } : Room).locals := Nat.le_refl _
  have hC : 0 ≤ ({ frames := 1, cells := 0, slots := 0, locals := 12 } : Room).cells := Nat.le_refl _
  have hSl : 0 ≤ ({ frames := 1, cells := 0, slots := 0, locals := 12 } : Room).slots := Nat.le_refl _
  unfold wp_X1_power at h
  refine lv_lconst (v := (1 : Int64)) hx hb dX1_power_0 (by decide) ?_
  refine lv_lstore_n (lv' := [(3, .long (1 : Int64)), (0, .long v0), (2, .int v2)]) hx hb dX1_power_1 rfl hl (by decide) rfl (fun ls hl => ?_)
  refine lv_iconst (v := (0 : Int32)) hx hb dX1_power_2 (by decide) ?_
  refine lv_istore (lv' := [(5, .int (0 : Int32)), (3, .long (1 : Int64)), (0, .long v0), (2, .int v2)]) hx hb dX1_power_3 hl (by decide) rfl (fun ls hl => ?_)
  obtain ⟨k5, h⟩ := h
  refine lp_X1_power_L1 F hRf hRl hC hSl ?hk21 k5 _ _ h _ _ _ hP hD hS (lv_sub hl [2, 3, 1, 0] rfl)
  case hk21 =>
    intro v3_2 h H locs ls hP hD hS hl
    refine lv_lload_n hx hb dX1_power_21 rfl (lv_at hl 0 rfl) ?_
    exact rt_l F dX1_power_22 () h hP hD hS (Nat.le_refl _) (Nat.le_refl _)
