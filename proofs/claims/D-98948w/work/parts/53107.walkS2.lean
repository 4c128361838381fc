/-! X1_breaks -/
set_option maxRecDepth 100000
set_option maxHeartbeats 4000000 in
theorem lp_S_breaks_L1 {p : Program} {l : Launch} {e : Env} {R : Room} {s : State} {m : MethodId} {args : Array Value} {below : List Frame} {meth : Method} {c : Code} {A : Nat → Prop} {Qf : State → Prop} {V : evT} {D : va_G} {gI : Nat → ClassId} {o : Nat} {ax : Nat → Nat} {tl : va_W} {v1 : Int32} {lw : Nat → Int64} {hh : HT} {rn : Option (Nat × Nat)} {K34 : (Int32) → (Nat → Int32) → (Nat → Nat → Int32) → Prop} (F : ct_F p m c meth cX1_breaks 4 s args RX1 (some .int) A V D vwCl (tyL gI)) (hRf : 213 ≤ R.frames) (hRl : 5062 ≤ R.locals) (hC : 0 ≤ R.cells) (hSl : 0 ≤ R.slots) (hC1 : 1 ≤ R.cells) (hS7 : 7 ≤ R.slots) (hlt : l.stackTraces = false)
    (hK34 : ∀ (v2 : Int32) (fd : Nat → Int32) (ar : Nat → Nat → Int32), K34 v2 fd ar → ∀ (H : Heap) (locs : List Loc) (ls : Array Slot), va_P D vwCl (wX gI o ax rn tl fd ar lw hh) H → va_D A (wX gI o ax rn tl fd ar lw hh) → va_S A s.heap H locs → lv_has ls 4 [(2, .int v2)] → W p l e R s m args below meth c H locs 0 0 Qf (F0 m 34 ls [])) :
    ∀ (n : Nat) (v2 : Int32) (v3 : Int32) (fd : Nat → Int32) (ar : Nat → Nat → Int32), wp_S_breaks_L1 v1 lw hh rn K34 n v2 v3 fd ar → ∀ (H : Heap) (locs : List Loc) (ls : Array Slot), va_P D vwCl (wX gI o ax rn tl fd ar lw hh) H → va_D A (wX gI o ax rn tl fd ar lw hh) → va_S A s.heap H locs → lv_has ls 4 [(0, .ref o), (1, .int v1), (2, .int v2), (3, .int v3)] → W p l e R s m args below meth c H locs 0 0 Qf (F0 m 4 ls []) := by
  obtain ⟨⟨hx, hb, hml, hown, hts⟩, hr, hlocks, hA, hK, hE⟩ := id F
  intro n
  induction n with
  | zero => intro v2 v3 fd ar h; exact h.elim
  | succ n ih =>
    intro v2 v3 fd ar h H locs ls hP hD hS hl
    unfold wp_S_breaks_L1 at h
    refine lv_iload_n hx hb dX1_breaks_4 rfl (lv_at hl 3 rfl) ?_
    refine lv_iload_n hx hb dX1_breaks_5 rfl (lv_at hl 1 rfl) ?_
    refine lv_icmp_ge (tgt := 34) hx hb dX1_breaks_6 (by decide) (fun c5 => ?_) (fun c5 => ?_)
    · replace h := h.1 c5
      exact hK34 _ _ _ h _ _ _ hP hD hS (lv_sub hl [2] rfl)
    · replace h := h.2 c5
      refine lv_iload_n hx hb dX1_breaks_9 rfl (lv_at hl 2 rfl) ?_
      refine lv_aload_n hx hb dX1_breaks_10 rfl (lv_at hl 0 rfl) ?_
      refine lv_aload_n hx hb dX1_breaks_11 rfl (lv_at hl 0 rfl) ?_
      refine va_get hx hb hts in_X1 hown hK hP 0 rfl rfl 2 (Nat.le_of_ble_eq_true rfl) (hts _ q186) (fun _ h => h) (v := .ref (ax 2)) rfl dX1_breaks_12 ?_
      refine clz_i F (vx_runV (As := [.ref (ax 2)]) (rest := [.int v2]) ⟨hx, hb, hml, hown, hts⟩ (cz_S_goTide_i2 hlt h _) (cwV 1 hts (lw_V q748 q750 qs21 q94 q751) rfl rfl rfl (by decide +kernel) ⟨Nat.le_trans (Nat.le_of_ble_eq_true rfl) hRf, Nat.le_trans (Nat.le_of_ble_eq_true rfl) hRl⟩) ⟨ct_blind, va_recv hK hP (ci := 0) (q0 := 0) rfl rfl, ct_at F hS hP hD⟩ rfl rfl hl.1 rfl (lv_room (Nat.le_of_ble_eq_true rfl)) dX1_breaks_15 ⟨hC1, hS7⟩) hD hS ?_
      rintro x1 ⟨fd2, ar3⟩ H locs h hP hD hS
      refine lv_if_eq (tgt := 25) hx hb dX1_breaks_18 (by decide) (fun c4 => ?_) (fun c4 => ?_)
      · replace h := h.1 c4
        refine lv_iconst (v := (0 : Int32)) hx hb dX1_breaks_25 (by decide) ?_
        refine lv_iadd hx hb dX1_breaks_26 ?_
        refine lv_istore_n (lv' := [(2, .int (v2 + (0 : Int32))), (0, .ref o), (1, .int v1), (3, .int v3)]) hx hb dX1_breaks_27 rfl hl (by decide) rfl (fun ls hl => ?_)
        refine lv_iinc (v := (v3 + (1 : Int32))) (lv' := [(3, .int (v3 + (1 : Int32))), (2, .int (v2 + (0 : Int32))), (0, .ref o), (1, .int v1)]) hx hb dX1_breaks_28 hl (k := 3) rfl rfl (by decide) rfl (fun ls hl => ?_)
        refine lv_goto (tgt := 4) hx hb dX1_breaks_31 (by decide) ?_
        exact ih _ _ _ _ h _ _ _ hP hD hS (lv_sub hl [2, 3, 1, 0] rfl)
      · replace h := h.2 c4
        refine lv_iconst (v := (1 : Int32)) hx hb dX1_breaks_21 (by decide) ?_
        refine lv_goto (tgt := 26) hx hb dX1_breaks_22 (by decide) ?_
        refine lv_iadd hx hb dX1_breaks_26 ?_
        refine lv_istore_n (lv' := [(2, .int (v2 + (1 : Int32))), (0, .ref o), (1, .int v1), (3, .int v3)]) hx hb dX1_breaks_27 rfl hl (by decide) rfl (fun ls hl => ?_)
        refine lv_iinc (v := (v3 + (1 : Int32))) (lv' := [(3, .int (v3 + (1 : Int32))), (2, .int (v2 + (1 : Int32))), (0, .ref o), (1, .int v1)]) hx hb dX1_breaks_28 hl (k := 3) rfl rfl (by decide) rfl (fun ls hl => ?_)
        refine lv_goto (tgt := 4) hx hb dX1_breaks_31 (by decide) ?_
        exact ih _ _ _ _ h _ _ _ hP hD hS (lv_sub hl [2, 3, 1, 0] rfl)
set_option maxHeartbeats 4000000 in
theorem cz_S_breaks {l : Launch} {V : evT} {D : va_G} {gI : Nat → ClassId} {o : Nat} {ax : Nat → Nat} {tl : va_W} (hlt : l.stackTraces = false) {v1 : Int32} {fd : Nat → Int32} {ar : Nat → Nat → Int32} {lw : Nat → Int64} {hh : HT} {rn : Option (Nat × Nat)} {Q : Int32 → (Nat → Int32) → (Nat → Nat → Int32) → Prop} (h : wp_S_breaks v1 fd ar lw hh rn Q) : cz_i l V D (tyL gI) yX1_breaks cX1_breaks 4 .int { frames := 213, cells := 1, slots := 7, locals := 5062 } [.ref o, .int v1] (wX gI o ax rn tl fd ar lw hh) (fun u : (Nat → Int32) × (Nat → Nat → Int32) => (wX gI o ax rn tl u.1 u.2 lw hh)) (fun (x : Int32) (u : (Nat → Int32) × (Nat → Nat → Int32)) => Q x u.1 u.2) := by
  refine cz_ofi RX1 rfl (by decide +kernel) (Nat.le_of_ble_eq_true rfl) ?_
  intro p e s m args below meth c A F hP hD ls hl
  obtain ⟨⟨hx, hb, hml, hown, hts⟩, hr, hlocks, hA, hK, hE⟩ := id F
  have hS : va_S A s.heap s.heap [] := va_S.rf
  have hl : lv_has ls 4 [(0, .ref o), (1, .int v1)] := hl
  have hRf : 213 ≤ ({ frames := 213, cells := 1, slots := 7, locals := 5062 } : Room).frames := Nat.le_refl _
  have hC1 : 1 ≤ ({ frames := 213, cells := 1, slots := 7, locals := 5062 } : Room).cells := Nat.le_refl _
  have hS7 : 7 ≤ ({ frames := 213, cells := 1, slots := 7, locals := 5062 } : Room).slots := Nat.le_refl _
  have hRl : 5062 ≤ ({ frames := 213, cells := 1, slots := 7, locals := 5062 } : Room).locals := Nat.le_refl _
  have hC : 0 ≤ ({ frames := 213, cells := 1, slots := 7, locals := 5062 } : Room).cells := Nat.zero_le _
  have hSl : 0 ≤ ({ frames := 213, cells := 1, slots := 7, locals := 5062 } : Room).slots := Nat.zero_le _
  unfold wp_S_breaks at h
  refine lv_iconst (v := (0 : Int32)) hx hb dX1_breaks_0 (by decide) ?_
  refine lv_istore_n (lv' := [(2, .int (0 : Int32)), (0, .ref o), (1, .int v1)]) hx hb dX1_breaks_1 rfl hl (by decide) rfl (fun ls hl => ?_)
  refine lv_iconst (v := (0 : Int32)) hx hb dX1_breaks_2 (by decide) ?_
  refine lv_istore_n (lv' := [(3, .int (0 : Int32)), (2, .int (0 : Int32)), (0, .ref o), (1, .int v1)]) hx hb dX1_breaks_3 rfl hl (by decide) rfl (fun ls hl => ?_)
  obtain ⟨k4, h⟩ := h
  refine lp_S_breaks_L1 F hRf hRl hC hSl hC1 hS7 hlt ?hk34 k4 _ _ _ _ h _ _ _ hP hD hS (lv_sub hl [2, 3, 1, 0] rfl)
  case hk34 =>
    intro v2_6 fd_7 ar_8 h H locs ls hP hD hS hl
    refine lv_iload_n hx hb dX1_breaks_34 rfl (lv_at hl 0 rfl) ?_
    exact vx_ret (rt_i F dX1_breaks_35 rfl (fd_7, ar_8) h hP hD hS (Nat.le_refl _) (Nat.le_refl _))
