/-! walks of the model (printed by gen/mk.py) -/
set_option maxRecDepth 100000
set_option maxHeartbeats 4000000 in
theorem lp_M_lowBy_L1_i12 {p : Program} {l : Launch} {e : Env} {R : Room} {s : State} {m : MethodId} {args : Array Value} {below : List Frame} {meth : Method} {c : Code} {cells slots : Nat} {A : Nat → Prop} {Qf : State → Prop} {V : evT} {D : va_G} {gI : Nat → ClassId} {o : Nat} {ad : Nat → Nat} {v2 : Int32} {fd : Nat → Int32} {ar : Nat → Nat → Int32} {lw : Nat → Int64} {K42 : (Int32) → Prop} (F : ct_F p m c meth cX3_lowBy 5 s args RX3 (some .int) A V D vwCl (tyL gI)) (hRf : 2 ≤ R.frames) (hRl : 34 ≤ R.locals) (hC : cells ≤ R.cells) (hSl : slots ≤ R.slots)
    (hK42 : ∀ (v3 : Int32), K42 v3 → ∀ (H : Heap) (locs : List Loc) (ls : Array Slot), va_P D vwCl (wm gI o ad fd ar lw) H → va_D A (wm gI o ad fd ar lw) → va_S A s.heap H locs → lv_has ls 5 [(3, .int v3)] → W p l e R s m args below meth c H locs cells slots Qf (F0 m 42 ls [])) :
    ∀ (n : Nat) (v3 : Int32) (v4 : Int32), wp_M_lowBy_L1 12 v2 fd ar lw K42 n v3 v4 → ∀ (H : Heap) (locs : List Loc) (ls : Array Slot), va_P D vwCl (wm gI o ad fd ar lw) H → va_D A (wm gI o ad fd ar lw) → va_S A s.heap H locs → lv_has ls 5 [(0, .ref o), (1, .ref (ad 12)), (2, .int v2), (3, .int v3), (4, .int v4)] → W p l e R s m args below meth c H locs cells slots Qf (F0 m 5 ls []) := by
  obtain ⟨⟨hx, hb, hml, hown, hts⟩, hr, hlocks, hA, hK, hE⟩ := id F
  intro n
  induction n with
  | zero => intro v3 v4 h; exact h.elim
  | succ n ih =>
    intro v3 v4 h H locs ls hP hD hS hl
    unfold wp_M_lowBy_L1 at h
    refine lv_iload hx hb dX3_lowBy_5 (lv_at hl 4 rfl) ?_
    refine lv_aload_n hx hb dX3_lowBy_7 rfl (lv_at hl 0 rfl) ?_
    refine va_get hx hb hts in_X3 hown hK hP 0 rfl rfl 3 (Nat.le_of_ble_eq_true rfl) (hts _ q1221) (fun _ h => h) (v := .int (fd 3)) rfl dX3_lowBy_8 ?_
    refine lv_icmp_ge (tgt := 42) hx hb dX3_lowBy_11 (by decide) (fun c3 => ?_) (fun c3 => ?_)
    · replace h := h.1 c3
      exact hK42 _ h _ _ _ hP hD hS (lv_sub hl [3] rfl)
    · replace h := h.2 c3
      refine lv_iload_n hx hb dX3_lowBy_14 rfl (lv_at hl 3 rfl) ?_
      refine lv_aload_n hx hb dX3_lowBy_15 rfl (lv_at hl 0 rfl) ?_
      refine lv_aload_n hx hb dX3_lowBy_16 rfl (lv_at hl 1 rfl) ?_
      refine lv_iload hx hb dX3_lowBy_17 (lv_at hl 4 rfl) ?_
      refine cl_i F (va_runV (As := [.ref (ad 12), .int v4]) (rest := [.int v3]) ⟨hx, hb, hml, hown, hts⟩ (ct_M_topOf_i12 h _) (cwV 2 hts (lw_V q1520 q1522 qs54 q97 q1523) rfl rfl rfl (by decide +kernel) ⟨Nat.le_trans (Nat.le_of_ble_eq_true rfl) hRf, Nat.le_trans (Nat.le_of_ble_eq_true rfl) hRl⟩) ⟨ct_blind, va_recv hK hP (ci := 2) (q0 := 0) rfl rfl, ct_at F hS hP hD⟩ rfl rfl hl.1 rfl (lv_room (Nat.le_of_ble_eq_true rfl)) dX3_lowBy_19 ⟨hC, hSl⟩) rfl rfl hD hS ?_
      rintro x1 _ H locs h hP hD hS
      refine lv_iload_n hx hb dX3_lowBy_22 rfl (lv_at hl 2 rfl) ?_
      refine lv_icmp_ge (tgt := 33) hx hb dX3_lowBy_23 (by decide) (fun c2 => ?_) (fun c2 => ?_)
      · replace h := h.1 c2
        refine lv_iconst (v := (0 : Int32)) hx hb dX3_lowBy_33 (by decide) ?_
        refine lv_ior hx hb dX3_lowBy_34 ?_
        refine lv_istore_n (lv' := [(3, .int (v3 ||| (0 : Int32))), (0, .ref o), (1, .ref (ad 12)), (2, .int v2), (4, .int v4)]) hx hb dX3_lowBy_35 rfl hl (by decide) rfl (fun ls hl => ?_)
        refine lv_iinc (v := (v4 + (1 : Int32))) (lv' := [(4, .int (v4 + (1 : Int32))), (3, .int (v3 ||| (0 : Int32))), (0, .ref o), (1, .ref (ad 12)), (2, .int v2)]) hx hb dX3_lowBy_36 hl (k := 4) rfl rfl (by decide) rfl (fun ls hl => ?_)
        refine lv_goto (tgt := 5) hx hb dX3_lowBy_39 (by decide) ?_
        exact ih _ _ h _ _ _ hP hD hS (lv_sub hl [2, 3, 4, 1, 0] rfl)
      · replace h := h.2 c2
        refine lv_iconst (v := (1 : Int32)) hx hb dX3_lowBy_26 (by decide) ?_
        refine lv_iload hx hb dX3_lowBy_27 (lv_at hl 4 rfl) ?_
        refine lv_ishl hx hb dX3_lowBy_29 ?_
        refine lv_goto (tgt := 34) hx hb dX3_lowBy_30 (by decide) ?_
        refine lv_ior hx hb dX3_lowBy_34 ?_
        refine lv_istore_n (lv' := [(3, .int (v3 ||| ((1 : Int32) <<< (v4 &&& 31)))), (0, .ref o), (1, .ref (ad 12)), (2, .int v2), (4, .int v4)]) hx hb dX3_lowBy_35 rfl hl (by decide) rfl (fun ls hl => ?_)
        refine lv_iinc (v := (v4 + (1 : Int32))) (lv' := [(4, .int (v4 + (1 : Int32))), (3, .int (v3 ||| ((1 : Int32) <<< (v4 &&& 31)))), (0, .ref o), (1, .ref (ad 12)), (2, .int v2)]) hx hb dX3_lowBy_36 hl (k := 4) rfl rfl (by decide) rfl (fun ls hl => ?_)
        refine lv_goto (tgt := 5) hx hb dX3_lowBy_39 (by decide) ?_
        exact ih _ _ h _ _ _ hP hD hS (lv_sub hl [2, 3, 4, 1, 0] rfl)
set_option maxHeartbeats 4000000 in
theorem ct_M_lowBy_i12 {l : Launch} {V : evT} {D : va_G} {gI : Nat → ClassId} {o : Nat} {ad : Nat → Nat} {v2 : Int32} {fd : Nat → Int32} {ar : Nat → Nat → Int32} {lw : Nat → Int64} {Q : Int32 → Prop} (h : wp_M_lowBy 12 v2 fd ar lw Q) : ct_i l V D vwCl (tyL gI) yX3_lowBy cX3_lowBy 5 .int { frames := 2, cells := 0, slots := 0, locals := 34 } [.ref o, .ref (ad 12), .int v2] (wm gI o ad fd ar lw) (fun u : Unit => (wm gI o ad fd ar lw)) (fun (x : Int32) (u : Unit) => Q x) := by
  refine ct_ofi RX3 rfl (by decide +kernel) (Nat.le_of_ble_eq_true rfl) ?_
  intro p e s m args below meth c A F hP hD ls hl
  obtain ⟨⟨hx, hb, hml, hown, hts⟩, hr, hlocks, hA, hK, hE⟩ := id F
  have hS : va_S A s.heap s.heap [] := va_S.rf
  have hl : lv_has ls 5 [(0, .ref o), (1, .ref (ad 12)), (2, .int v2)] := hl
  have hRf : 2 ≤ ({ frames := 2, cells := 0, slots := 0, locals := 34 } : Room).frames := Nat.le_refl _
  have hRl : 34 ≤ ({ frames := 2, cells := 0, slots := 0, locals := 34 } : Room).locals := Nat.le_refl _
  have hC : 0 ≤ ({ frames := 2, cells := 0, slots := 0, locals := 34 } : Room).cells := Nat.le_refl _
  have hSl : 0 ≤ ({ frames := 2, cells := 0, slots := 0, locals := 34 } : Room).slots := Nat.le_refl _
  unfold wp_M_lowBy at h
  refine lv_iconst (v := (0 : Int32)) hx hb dX3_lowBy_0 (by decide) ?_
  refine lv_istore_n (lv' := [(3, .int (0 : Int32)), (0, .ref o), (1, .ref (ad 12)), (2, .int v2)]) hx hb dX3_lowBy_1 rfl hl (by decide) rfl (fun ls hl => ?_)
  refine lv_iconst (v := (0 : Int32)) hx hb dX3_lowBy_2 (by decide) ?_
  refine lv_istore (lv' := [(4, .int (0 : Int32)), (3, .int (0 : Int32)), (0, .ref o), (1, .ref (ad 12)), (2, .int v2)]) hx hb dX3_lowBy_3 hl (by decide) rfl (fun ls hl => ?_)
  obtain ⟨k5, h⟩ := h
  refine lp_M_lowBy_L1_i12 F hRf hRl hC hSl ?hk42 k5 _ _ h _ _ _ hP hD hS (lv_sub hl [2, 3, 4, 1, 0] rfl)
  case hk42 =>
    intro v3_4 h H locs ls hP hD hS hl
    refine lv_iload_n hx hb dX3_lowBy_42 rfl (lv_at hl 0 rfl) ?_
    exact rt_i F dX3_lowBy_43 rfl () h hP hD hS (Nat.le_refl _) (Nat.le_refl _)
set_option maxHeartbeats 4000000 in
theorem lp_M_lowBy_L1_i13 {p : Program} {l : Launch} {e : Env} {R : Room} {s : State} {m : MethodId} {args : Array Value} {below : List Frame} {meth : Method} {c : Code} {cells slots : Nat} {A : Nat → Prop} {Qf : State → Prop} {V : evT} {D : va_G} {gI : Nat → ClassId} {o : Nat} {ad : Nat → Nat} {v2 : Int32} {fd : Nat → Int32} {ar : Nat → Nat → Int32} {lw : Nat → Int64} {K42 : (Int32) → Prop} (F : ct_F p m c meth cX3_lowBy 5 s args RX3 (some .int) A V D vwCl (tyL gI)) (hRf : 2 ≤ R.frames) (hRl : 34 ≤ R.locals) (hC : cells ≤ R.cells) (hSl : slots ≤ R.slots)
    (hK42 : ∀ (v3 : Int32), K42 v3 → ∀ (H : Heap) (locs : List Loc) (ls : Array Slot), va_P D vwCl (wm gI o ad fd ar lw) H → va_D A (wm gI o ad fd ar lw) → va_S A s.heap H locs → lv_has ls 5 [(3, .int v3)] → W p l e R s m args below meth c H locs cells slots Qf (F0 m 42 ls [])) :
    ∀ (n : Nat) (v3 : Int32) (v4 : Int32), wp_M_lowBy_L1 13 v2 fd ar lw K42 n v3 v4 → ∀ (H : Heap) (locs : List Loc) (ls : Array Slot), va_P D vwCl (wm gI o ad fd ar lw) H → va_D A (wm gI o ad fd ar lw) → va_S A s.heap H locs → lv_has ls 5 [(0, .ref o), (1, .ref (ad 13)), (2, .int v2), (3, .int v3), (4, .int v4)] → W p l e R s m args below meth c H locs cells slots Qf (F0 m 5 ls []) := by
  obtain ⟨⟨hx, hb, hml, hown, hts⟩, hr, hlocks, hA, hK, hE⟩ := id F
  intro n
  induction n with
  | zero => intro v3 v4 h; exact h.elim
  | succ n ih =>
    intro v3 v4 h H locs ls hP hD hS hl
    unfold wp_M_lowBy_L1 at h
    refine lv_iload hx hb dX3_lowBy_5 (lv_at hl 4 rfl) ?_
    refine lv_aload_n hx hb dX3_lowBy_7 rfl (lv_at hl 0 rfl) ?_
    refine va_get hx hb hts in_X3 hown hK hP 0 rfl rfl 3 (Nat.le_of_ble_eq_true rfl) (hts _ q1221) (fun _ h => h) (v := .int (fd 3)) rfl dX3_lowBy_8 ?_
    refine lv_icmp_ge (tgt := 42) hx hb dX3_lowBy_11 (by decide) (fun c3 => ?_) (fun c3 => ?_)
    · replace h := h.1 c3
      exact hK42 _ h _ _ _ hP hD hS (lv_sub hl [3] rfl)
    · replace h := h.2 c3
      refine lv_iload_n hx hb dX3_lowBy_14 rfl (lv_at hl 3 rfl) ?_
      refine lv_aload_n hx hb dX3_lowBy_15 rfl (lv_at hl 0 rfl) ?_
      refine lv_aload_n hx hb dX3_lowBy_16 rfl (lv_at hl 1 rfl) ?_
      refine lv_iload hx hb dX3_lowBy_17 (lv_at hl 4 rfl) ?_
      refine cl_i F (va_runV (As := [.ref (ad 13), .int v4]) (rest := [.int v3]) ⟨hx, hb, hml, hown, hts⟩ (ct_M_topOf_i13 h _) (cwV 2 hts (lw_V q1520 q1522 qs54 q97 q1523) rfl rfl rfl (by decide +kernel) ⟨Nat.le_trans (Nat.le_of_ble_eq_true rfl) hRf, Nat.le_trans (Nat.le_of_ble_eq_true rfl) hRl⟩) ⟨ct_blind, va_recv hK hP (ci := 2) (q0 := 0) rfl rfl, ct_at F hS hP hD⟩ rfl rfl hl.1 rfl (lv_room (Nat.le_of_ble_eq_true rfl)) dX3_lowBy_19 ⟨hC, hSl⟩) rfl rfl hD hS ?_
      rintro x1 _ H locs h hP hD hS
      refine lv_iload_n hx hb dX3_lowBy_22 rfl (lv_at hl 2 rfl) ?_
      refine lv_icmp_ge (tgt := 33) hx hb dX3_lowBy_23 (by decide) (fun c2 => ?_) (fun c2 => ?_)
      · replace h := h.1 c2
        refine lv_iconst (v := (0 : Int32)) hx hb dX3_lowBy_33 (by decide) ?_
        refine lv_ior hx hb dX3_lowBy_34 ?_
        refine lv_istore_n (lv' := [(3, .int (v3 ||| (0 : Int32))), (0, .ref o), (1, .ref (ad 13)), (2, .int v2), (4, .int v4)]) hx hb dX3_lowBy_35 rfl hl (by decide) rfl (fun ls hl => ?_)
        refine lv_iinc (v := (v4 + (1 : Int32))) (lv' := [(4, .int (v4 + (1 : Int32))), (3, .int (v3 ||| (0 : Int32))), (0, .ref o), (1, .ref (ad 13)), (2, .int v2)]) hx hb dX3_lowBy_36 hl (k := 4) rfl rfl (by decide) rfl (fun ls hl => ?_)
        refine lv_goto (tgt := 5) hx hb dX3_lowBy_39 (by decide) ?_
        exact ih _ _ h _ _ _ hP hD hS (lv_sub hl [2, 3, 4, 1, 0] rfl)
      · replace h := h.2 c2
        refine lv_iconst (v := (1 : Int32)) hx hb dX3_lowBy_26 (by decide) ?_
        refine lv_iload hx hb dX3_lowBy_27 (lv_at hl 4 rfl) ?_
        refine lv_ishl hx hb dX3_lowBy_29 ?_
        refine lv_goto (tgt := 34) hx hb dX3_lowBy_30 (by decide) ?_
        refine lv_ior hx hb dX3_lowBy_34 ?_
        refine lv_istore_n (lv' := [(3, .int (v3 ||| ((1 : Int32) <<< (v4 &&& 31)))), (0, .ref o), (1, .ref (ad 13)), (2, .int v2), (4, .int v4)]) hx hb dX3_lowBy_35 rfl hl (by decide) rfl (fun ls hl => ?_)
        refine lv_iinc (v := (v4 + (1 : Int32))) (lv' := [(4, .int (v4 + (1 : Int32))), (3, .int (v3 ||| ((1 : Int32) <<< (v4 &&& 31)))), (0, .ref o), (1, .ref (ad 13)), (2, .int v2)]) hx hb dX3_lowBy_36 hl (k := 4) rfl rfl (by decide) rfl (fun ls hl => ?_)
        refine lv_goto (tgt := 5) hx hb dX3_lowBy_39 (by decide) ?_
        exact ih _ _ h _ _ _ hP hD hS (lv_sub hl [2, 3, 4, 1, 0] rfl)
set_option maxHeartbeats 4000000 in
theorem ct_M_lowBy_i13 {l : Launch} {V : evT} {D : va_G} {gI : Nat → ClassId} {o : Nat} {ad : Nat → Nat} {v2 : Int32} {fd : Nat → Int32} {ar : Nat → Nat → Int32} {lw : Nat → Int64} {Q : Int32 → Prop} (h : wp_M_lowBy 13 v2 fd ar lw Q) : ct_i l V D vwCl (tyL gI) yX3_lowBy cX3_lowBy 5 .int { frames := 2, cells := 0, slots := 0, locals := 34 } [.ref o, .ref (ad 13), .int v2] (wm gI o ad fd ar lw) (fun u : Unit => (wm gI o ad fd ar lw)) (fun (x : Int32) (u : Unit) => Q x) := by
  refine ct_ofi RX3 rfl (by decide +kernel) (Nat.le_of_ble_eq_true rfl) ?_
  intro p e s m args below meth c A F hP hD ls hl
  obtain ⟨⟨hx, hb, hml, hown, hts⟩, hr, hlocks, hA, hK, hE⟩ := id F
  have hS : va_S A s.heap s.heap [] := va_S.rf
  have hl : lv_has ls 5 [(0, .ref o), (1, .ref (ad 13)), (2, .int v2)] := hl
  have hRf : 2 ≤ ({ frames := 2, cells := 0, slots := 0, locals := 34 } : Room).frames := Nat.le_refl _
  have hRl : 34 ≤ ({ frames := 2, cells := 0, slots := 0, locals := 34 } : Room).locals := Nat.le_refl _
  have hC : 0 ≤ ({ frames := 2, cells := 0, slots := 0, locals := 34 } : Room).cells := Nat.le_refl _
  have hSl : 0 ≤ ({ frames := 2, cells := 0, slots := 0, locals := 34 } : Room).slots := Nat.le_refl _
  unfold wp_M_lowBy at h
  refine lv_iconst (v := (0 : Int32)) hx hb dX3_lowBy_0 (by decide) ?_
  refine lv_istore_n (lv' := [(3, .int (0 : Int32)), (0, .ref o), (1, .ref (ad 13)), (2, .int v2)]) hx hb dX3_lowBy_1 rfl hl (by decide) rfl (fun ls hl => ?_)
  refine lv_iconst (v := (0 : Int32)) hx hb dX3_lowBy_2 (by decide) ?_
  refine lv_istore (lv' := [(4, .int (0 : Int32)), (3, .int (0 : Int32)), (0, .ref o), (1, .ref (ad 13)), (2, .int v2)]) hx hb dX3_lowBy_3 hl (by decide) rfl (fun ls hl => ?_)
  obtain ⟨k5, h⟩ := h
  refine lp_M_lowBy_L1_i13 F hRf hRl hC hSl ?hk42 k5 _ _ h _ _ _ hP hD hS (lv_sub hl [2, 3, 4, 1, 0] rfl)
  case hk42 =>
    intro v3_4 h H locs ls hP hD hS hl
    refine lv_iload_n hx hb dX3_lowBy_42 rfl (lv_at hl 0 rfl) ?_
    exact rt_i F dX3_lowBy_43 rfl () h hP hD hS (Nat.le_refl _) (Nat.le_refl _)
set_option maxHeartbeats 4000000 in
theorem lp_M_pump_L1 {p : Program} {l : Launch} {e : Env} {R : Room} {s : State} {m : MethodId} {args : Array Value} {below : List Frame} {meth : Method} {c : Code} {cells slots : Nat} {A : Nat → Prop} {Qf : State → Prop} {V : evT} {D : va_G} {gI : Nat → ClassId} {o : Nat} {ad : Nat → Nat} {v1 : Int32} {fd : Nat → Int32} {lw : Nat → Int64} {K63 : (Nat → Nat → Int32) → Prop} (F : ct_F p m c meth cX3_pump 3 s args RX3 (some .int) A V D vwCl (tyL gI)) (hRf : 2 ≤ R.frames) (hRl : 37 ≤ R.locals) (hC : cells ≤ R.cells) (hSl : slots ≤ R.slots)
    (hK63 : ∀ (ar : Nat → Nat → Int32), K63 ar → ∀ (H : Heap) (locs : List Loc) (ls : Array Slot), va_P D vwCl (wm gI o ad fd ar lw) H → va_D A (wm gI o ad fd ar lw) → va_S A s.heap H locs → lv_has ls 3 [(0, .ref o)] → W p l e R s m args below meth c H locs cells slots Qf (F0 m 63 ls [])) :
    ∀ (n : Nat) (v2 : Int32) (ar : Nat → Nat → Int32), wp_M_pump_L1 v1 fd lw K63 n v2 ar → ∀ (H : Heap) (locs : List Loc) (ls : Array Slot), va_P D vwCl (wm gI o ad fd ar lw) H → va_D A (wm gI o ad fd ar lw) → va_S A s.heap H locs → lv_has ls 3 [(0, .ref o), (1, .int v1), (2, .int v2)] → W p l e R s m args below meth c H locs cells slots Qf (F0 m 25 ls []) := by
  obtain ⟨⟨hx, hb, hml, hown, hts⟩, hr, hlocks, hA, hK, hE⟩ := id F
  intro n
  induction n with
  | zero => intro v2 ar h; exact h.elim
  | succ n ih =>
    intro v2 ar h H locs ls hP hD hS hl
    unfold wp_M_pump_L1 at h
    refine lv_iload_n hx hb dX3_pump_25 rfl (lv_at hl 2 rfl) ?_
    refine lv_aload_n hx hb dX3_pump_26 rfl (lv_at hl 0 rfl) ?_
    refine va_get hx hb hts in_X3 hown hK hP 0 rfl rfl 3 (Nat.le_of_ble_eq_true rfl) (hts _ q1221) (fun _ h => h) (v := .int (fd 3)) rfl dX3_pump_27 ?_
    refine lv_icmp_ge (tgt := 63) hx hb dX3_pump_30 (by decide) (fun c3 => ?_) (fun c3 => ?_)
    · replace h := h.1 c3
      exact hK63 _ h _ _ _ hP hD hS (lv_sub hl [0] rfl)
    · replace h := h.2 c3
      refine lv_aload_n hx hb dX3_pump_33 rfl (lv_at hl 0 rfl) ?_
      refine va_get hx hb hts in_X3 hown hK hP 0 rfl rfl 12 (Nat.le_of_ble_eq_true rfl) (hts _ q1230) (fun _ h => h) (v := .ref (ad 12)) rfl dX3_pump_34 ?_
      refine lv_bipush (v := (13 : Int32)) hx hb dX3_pump_37 (by decide) ?_
      refine lv_iload_n hx hb dX3_pump_39 rfl (lv_at hl 2 rfl) ?_
      refine lv_iadd hx hb dX3_pump_40 ?_
      refine lv_iconst (v := (0 : Int32)) hx hb dX3_pump_41 (by decide) ?_
      refine lv_aload_n hx hb dX3_pump_42 rfl (lv_at hl 0 rfl) ?_
      refine va_get hx hb hts in_X3 hown hK hP 0 rfl rfl 12 (Nat.le_of_ble_eq_true rfl) (hts _ q1230) (fun _ h => h) (v := .ref (ad 12)) rfl dX3_pump_43 ?_
      refine lv_bipush (v := (13 : Int32)) hx hb dX3_pump_46 (by decide) ?_
      refine lv_iload_n hx hb dX3_pump_48 rfl (lv_at hl 2 rfl) ?_
      refine lv_iadd hx hb dX3_pump_49 ?_
      refine va_iald (f := (ar 12)) hx hb hK hP 8 0 rfl rfl h.1 dX3_pump_50 ?_
      replace h := h.2
      refine lv_iload_n hx hb dX3_pump_51 rfl (lv_at hl 1 rfl) ?_
      refine lv_isub hx hb dX3_pump_52 ?_
      refine va_mmax hx hb (hml.trans hl.1.symm) hown (hts _ q1560) (hts _ q636) (hts _ q100) (hts _ q637) (Nat.le_trans (Nat.le_of_ble_eq_true rfl) hRf) (Nat.le_trans (Nat.le_of_ble_eq_true rfl) hRl) hC hSl dX3_pump_53 ?_
      refine pt_iast (f := (ar 12)) hx hb hK hP hD hS 8 0 rfl rfl h.1 dX3_pump_56 wmA_12 (fun H locs hP hD hS => ?_)
      replace h := h.2
      refine lv_iinc (v := (v2 + (1 : Int32))) (lv' := [(2, .int (v2 + (1 : Int32))), (0, .ref o), (1, .int v1)]) hx hb dX3_pump_57 hl (k := 2) rfl rfl (by decide) rfl (fun ls hl => ?_)
      refine lv_goto (tgt := 25) hx hb dX3_pump_60 (by decide) ?_
      exact ih _ _ h _ _ _ hP hD hS (lv_sub hl [1, 2, 0] rfl)
set_option maxHeartbeats 4000000 in
theorem ct_M_pump {l : Launch} {V : evT} {D : va_G} {gI : Nat → ClassId} {o : Nat} {ad : Nat → Nat} {v1 : Int32} {fd : Nat → Int32} {ar : Nat → Nat → Int32} {lw : Nat → Int64} {Q : Int32 → (Nat → Int32) → (Nat → Nat → Int32) → Prop} (h : wp_M_pump v1 fd ar lw Q) : ct_i l V D vwCl (tyL gI) yX3_pump cX3_pump 3 .int { frames := 2, cells := 0, slots := 0, locals := 37 } [.ref o, .int v1] (wm gI o ad fd ar lw) (fun u : (Nat → Int32) × (Nat → Nat → Int32) => (wm gI o ad u.1 u.2 lw)) (fun (x : Int32) (u : (Nat → Int32) × (Nat → Nat → Int32)) => Q x u.1 u.2) := by
  refine ct_ofi RX3 rfl (by decide +kernel) (Nat.le_of_ble_eq_true rfl) ?_
  intro p e s m args below meth c A F hP hD ls hl
  obtain ⟨⟨hx, hb, hml, hown, hts⟩, hr, hlocks, hA, hK, hE⟩ := id F
  have hS : va_S A s.heap s.heap [] := va_S.rf
  have hl : lv_has ls 3 [(0, .ref o), (1, .int v1)] := hl
  have hRf : 2 ≤ ({ frames := 2, cells := 0, slots := 0, locals := 37 } : Room).frames := Nat.le_refl _
  have hRl : 37 ≤ ({ frames := 2, cells := 0, slots := 0, locals := 37 } : Room).locals := Nat.le_refl _
  have hC : 0 ≤ ({ frames := 2, cells := 0, slots := 0, locals := 37 } : Room).cells := Nat.le_refl _
  have hSl : 0 ≤ ({ frames := 2, cells := 0, slots := 0, locals := 37 } : Room).slots := Nat.le_refl _
  unfold wp_M_pump at h
  refine lv_aload_n hx hb dX3_pump_0 rfl (lv_at hl 0 rfl) ?_
  refine lv_iconst (v := (0 : Int32)) hx hb dX3_pump_1 (by decide) ?_
  refine pt_put (v := .int (0 : Int32)) hx hb hts in_X3 tyX3 tyX3_ok nmX3 hown hK hP hD hS 0 rfl rfl 0 (Nat.le_of_ble_eq_true rfl) (hts _ q1218) (fun _ h => h) rfl (ty := .int) (by decide +kernel) rfl rfl (Nat.le_of_ble_eq_true rfl) dX3_pump_2 wmF_0 (fun H locs hP hD hS => ?_)
  refine lv_iload_n hx hb dX3_pump_5 rfl (lv_at hl 1 rfl) ?_
  refine lv_i2l (v := (v1.toInt64)) hx hb dX3_pump_6 rfl ?_
  refine lv_lconst (v := (1 : Int64)) hx hb dX3_pump_7 (by decide) ?_
  refine lv_ldc2 (v := (99 : Int64)) hx hb hown (hts _ q1673) dX3_pump_8 ?_
  refine cl_i0 F (va_runS (As := [.long (v1.toInt64), .long (1 : Int64), .long (99 : Int64)]) (rest := []) ⟨hx, hb, hml, hown, hts⟩ (ct_X3_in h _) (va_cwS 3 hts (lw_S q1391 q1392 q97 q1393) rfl rfl rfl (by decide +kernel) ⟨Nat.le_trans (Nat.le_of_ble_eq_true rfl) hRf, Nat.le_trans (Nat.le_of_ble_eq_true rfl) hRl⟩) ⟨ct_blind, ct_at F hS ct_nP ct_nD⟩ rfl rfl hl.1 rfl (lv_room (Nat.le_of_ble_eq_true rfl)) dX3_pump_11 ⟨hC, hSl⟩) rfl rfl hP hS ?_
  rintro x1 _ H locs h hP hS
  refine lv_if_ne (tgt := 19) hx hb dX3_pump_14 (by decide) (fun c10 => ?_) (fun c10 => ?_)
  · replace h := h.1 c10
    refine lv_aload_n hx hb dX3_pump_19 rfl (lv_at hl 0 rfl) ?_
    refine cl_v F (va_runV (As := []) (rest := []) ⟨hx, hb, hml, hown, hts⟩ (ct_M_putsBy h _) (cwV 0 hts (lw_V q1569 q1571 qs59 q97 q1572) rfl rfl rfl (by decide +kernel) ⟨Nat.le_trans (Nat.le_of_ble_eq_true rfl) hRf, Nat.le_trans (Nat.le_of_ble_eq_true rfl) hRl⟩) ⟨ct_blind, va_recv hK hP (ci := 2) (q0 := 0) rfl rfl, ct_at F hS hP hD⟩ rfl rfl hl.1 rfl (lv_room (Nat.le_of_ble_eq_true rfl)) dX3_pump_20 ⟨hC, hSl⟩) rfl rfl hD hS ?_
    rintro ar2 H locs h hP hD hS
    refine lv_iconst (v := (0 : Int32)) hx hb dX3_pump_23 (by decide) ?_
    refine lv_istore_n (lv' := [(2, .int (0 : Int32)), (0, .ref o), (1, .int v1)]) hx hb dX3_pump_24 rfl hl (by decide) rfl (fun ls hl => ?_)
    obtain ⟨k25, h⟩ := h
    refine lp_M_pump_L1 F hRf hRl hC hSl ?hk63 k25 _ _ h _ _ _ hP hD hS (lv_sub hl [1, 2, 0] rfl)
    case hk63 =>
      intro ar_4 h H locs ls hP hD hS hl
      refine lv_aload_n hx hb dX3_pump_63 rfl (lv_at hl 0 rfl) ?_
      refine lv_aload_n hx hb dX3_pump_64 rfl (lv_at hl 0 rfl) ?_
      refine lv_aload_n hx hb dX3_pump_65 rfl (lv_at hl 0 rfl) ?_
      refine va_get hx hb hts in_X3 hown hK hP 0 rfl rfl 12 (Nat.le_of_ble_eq_true rfl) (hts _ q1230) (fun _ h => h) (v := .ref (ad 12)) rfl dX3_pump_66 ?_
      refine cl_i F (va_runV (As := [.ref (ad 12)]) (rest := [.ref o]) ⟨hx, hb, hml, hown, hts⟩ (ct_M_wet_i12 h _) (cwV 1 hts (lw_V q1674 q1676 qs77 q97 q1677) rfl rfl rfl (by decide +kernel) ⟨Nat.le_trans (Nat.le_of_ble_eq_true rfl) hRf, Nat.le_trans (Nat.le_of_ble_eq_true rfl) hRl⟩) ⟨ct_blind, va_recv hK hP (ci := 2) (q0 := 0) rfl rfl, ct_at F hS hP hD⟩ rfl rfl hl.1 rfl (lv_room (Nat.le_of_ble_eq_true rfl)) dX3_pump_69 ⟨hC, hSl⟩) rfl rfl hD hS ?_
      rintro x5 _ H locs h hP hD hS
      refine cl_i0 F (va_runS (As := [.int x5]) (rest := [.ref o]) ⟨hx, hb, hml, hown, hts⟩ (ct_J10_bitCount h _) (va_cwS 1 hts (lw_S q1552 q586 q112 q587) rfl rfl rfl (by decide +kernel) ⟨Nat.le_trans (Nat.le_of_ble_eq_true rfl) hRf, Nat.le_trans (Nat.le_of_ble_eq_true rfl) hRl⟩) ⟨ct_blind, ct_at F hS ct_nP ct_nD⟩ rfl rfl hl.1 rfl (lv_room (Nat.le_of_ble_eq_true rfl)) dX3_pump_72 ⟨hC, hSl⟩) rfl rfl hP hS ?_
      rintro x6 _ H locs h hP hS
      refine cl_i F (va_runV (As := [.int x6]) (rest := []) ⟨hx, hb, hml, hown, hts⟩ (ct_M_adds h _) (cwV 1 hts (lw_V q1581 q1583 qs62 q97 q1584) rfl rfl rfl (by decide +kernel) ⟨Nat.le_trans (Nat.le_of_ble_eq_true rfl) hRf, Nat.le_trans (Nat.le_of_ble_eq_true rfl) hRl⟩) ⟨ct_blind, va_recv hK hP (ci := 2) (q0 := 0) rfl rfl, ct_at F hS hP hD⟩ rfl rfl hl.1 rfl (lv_room (Nat.le_of_ble_eq_true rfl)) dX3_pump_75 ⟨hC, hSl⟩) rfl rfl hD hS ?_
      rintro x7 ⟨fd8, ar9⟩ H locs h hP hD hS
      exact rt_i F dX3_pump_78 rfl (fd8, ar9) h hP hD hS (Nat.le_refl _) (Nat.le_refl _)
  · replace h := h.2 c10
    refine lv_iconst (v := (-1 : Int32)) hx hb dX3_pump_17 (by decide) ?_
    exact rt_i F dX3_pump_18 rfl ((upd fd 0 (0 : Int32)), ar) h hP hD hS (Nat.le_refl _) (Nat.le_refl _)
set_option maxHeartbeats 4000000 in
theorem lp_M_floodsFrom_L1 {p : Program} {l : Launch} {e : Env} {R : Room} {s : State} {m : MethodId} {args : Array Value} {below : List Frame} {meth : Method} {c : Code} {cells slots : Nat} {A : Nat → Prop} {Qf : State → Prop} {V : evT} {D : va_G} {gI : Nat → ClassId} {o : Nat} {ad : Nat → Nat} {v1 : Int32} {v2 : Int32} {fd : Nat → Int32} {lw : Nat → Int64} {K35 : (Nat → Nat → Int32) → Prop} (F : ct_F p m c meth cX3_floodsFrom 4 s args RX3 none A V D vwCl (tyL gI)) (hRf : 2 ≤ R.frames) (hRl : 55 ≤ R.locals) (hC : cells ≤ R.cells) (hSl : slots ≤ R.slots)
    (hK35 : ∀ (ar : Nat → Nat → Int32), K35 ar → ∀ (H : Heap) (locs : List Loc) (ls : Array Slot), va_P D vwCl (wm gI o ad fd ar lw) H → va_D A (wm gI o ad fd ar lw) → va_S A s.heap H locs → lv_has ls 4 [(0, .ref o)] → W p l e R s m args below meth c H locs cells slots Qf (F0 m 35 ls [])) :
    ∀ (n : Nat) (v3 : Int32) (ar : Nat → Nat → Int32), wp_M_floodsFrom_L1 v1 v2 fd lw K35 n v3 ar → ∀ (H : Heap) (locs : List Loc) (ls : Array Slot), va_P D vwCl (wm gI o ad fd ar lw) H → va_D A (wm gI o ad fd ar lw) → va_S A s.heap H locs → lv_has ls 4 [(0, .ref o), (1, .int v1), (2, .int v2), (3, .int v3)] → W p l e R s m args below meth c H locs cells slots Qf (F0 m 2 ls []) := by
  obtain ⟨⟨hx, hb, hml, hown, hts⟩, hr, hlocks, hA, hK, hE⟩ := id F
  intro n
  induction n with
  | zero => intro v3 ar h; exact h.elim
  | succ n ih =>
    intro v3 ar h H locs ls hP hD hS hl
    unfold wp_M_floodsFrom_L1 at h
    refine lv_iload_n hx hb dX3_floodsFrom_2 rfl (lv_at hl 3 rfl) ?_
    refine lv_aload_n hx hb dX3_floodsFrom_3 rfl (lv_at hl 0 rfl) ?_
    refine va_get hx hb hts in_X3 hown hK hP 0 rfl rfl 3 (Nat.le_of_ble_eq_true rfl) (hts _ q1221) (fun _ h => h) (v := .int (fd 3)) rfl dX3_floodsFrom_4 ?_
    refine lv_icmp_ge (tgt := 35) hx hb dX3_floodsFrom_7 (by decide) (fun c2 => ?_) (fun c2 => ?_)
    · replace h := h.1 c2
      exact hK35 _ h _ _ _ hP hD hS (lv_sub hl [0] rfl)
    · replace h := h.2 c2
      refine lv_aload_n hx hb dX3_floodsFrom_10 rfl (lv_at hl 0 rfl) ?_
      refine va_get hx hb hts in_X3 hown hK hP 0 rfl rfl 13 (Nat.le_of_ble_eq_true rfl) (hts _ q1231) (fun _ h => h) (v := .ref (ad 13)) rfl dX3_floodsFrom_11 ?_
      refine lv_bipush (v := (13 : Int32)) hx hb dX3_floodsFrom_14 (by decide) ?_
      refine lv_iload_n hx hb dX3_floodsFrom_16 rfl (lv_at hl 3 rfl) ?_
      refine lv_iadd hx hb dX3_floodsFrom_17 ?_
      refine lv_iload_n hx hb dX3_floodsFrom_18 rfl (lv_at hl 3 rfl) ?_
      refine lv_iload_n hx hb dX3_floodsFrom_19 rfl (lv_at hl 1 rfl) ?_
      refine lv_icmp_ne (tgt := 27) hx hb dX3_floodsFrom_20 (by decide) (fun c1 => ?_) (fun c1 => ?_)
      · replace h := h.1 c1
        refine lv_iconst (v := (0 : Int32)) hx hb dX3_floodsFrom_27 (by decide) ?_
        refine pt_iast (f := (ar 13)) hx hb hK hP hD hS 9 0 rfl rfl h.1 dX3_floodsFrom_28 wmA_13 (fun H locs hP hD hS => ?_)
        replace h := h.2
        refine lv_iinc (v := (v3 + (1 : Int32))) (lv' := [(3, .int (v3 + (1 : Int32))), (0, .ref o), (1, .int v1), (2, .int v2)]) hx hb dX3_floodsFrom_29 hl (k := 3) rfl rfl (by decide) rfl (fun ls hl => ?_)
        refine lv_goto (tgt := 2) hx hb dX3_floodsFrom_32 (by decide) ?_
        exact ih _ _ h _ _ _ hP hD hS (lv_sub hl [1, 2, 3, 0] rfl)
      · replace h := h.2 c1
        refine lv_iload_n hx hb dX3_floodsFrom_23 rfl (lv_at hl 2 rfl) ?_
        refine lv_goto (tgt := 28) hx hb dX3_floodsFrom_24 (by decide) ?_
        refine pt_iast (f := (ar 13)) hx hb hK hP hD hS 9 0 rfl rfl h.1 dX3_floodsFrom_28 wmA_13 (fun H locs hP hD hS => ?_)
        replace h := h.2
        refine lv_iinc (v := (v3 + (1 : Int32))) (lv' := [(3, .int (v3 + (1 : Int32))), (0, .ref o), (1, .int v1), (2, .int v2)]) hx hb dX3_floodsFrom_29 hl (k := 3) rfl rfl (by decide) rfl (fun ls hl => ?_)
        refine lv_goto (tgt := 2) hx hb dX3_floodsFrom_32 (by decide) ?_
        exact ih _ _ h _ _ _ hP hD hS (lv_sub hl [1, 2, 3, 0] rfl)
set_option maxHeartbeats 4000000 in
theorem ct_M_floodsFrom {l : Launch} {V : evT} {D : va_G} {gI : Nat → ClassId} {o : Nat} {ad : Nat → Nat} {v1 : Int32} {v2 : Int32} {fd : Nat → Int32} {ar : Nat → Nat → Int32} {lw : Nat → Int64} {Q : (Nat → Nat → Int32) → Prop} (h : wp_M_floodsFrom v1 v2 fd ar lw Q) : ct_v l V D vwCl (tyL gI) yX3_floodsFrom cX3_floodsFrom 4 { frames := 2, cells := 0, slots := 0, locals := 55 } [.ref o, .int v1, .int v2] (wm gI o ad fd ar lw) (fun u : (Nat → Nat → Int32) => (wm gI o ad fd u lw)) (fun (u : (Nat → Nat → Int32)) => Q u) := by
  refine ct_ofv RX3 rfl (by decide +kernel) (Nat.le_of_ble_eq_true rfl) ?_
  intro p e s m args below meth c A F _ hP hD ls hl
  obtain ⟨⟨hx, hb, hml, hown, hts⟩, hr, hlocks, hA, hK, hE⟩ := id F
  have hS : va_S A s.heap s.heap [] := va_S.rf
  have hl : lv_has ls 4 [(0, .ref o), (1, .int v1), (2, .int v2)] := hl
  have hRf : 2 ≤ ({ frames := 2, cells := 0, slots := 0, locals := 55 } : Room).frames := Nat.le_refl _
  have hRl : 55 ≤ ({ frames := 2, cells := 0, slots := 0, locals := 55 } : Room).locals := Nat.le_refl _
  have hC : 0 ≤ ({ frames := 2, cells := 0, slots := 0, locals := 55 } : Room).cells := Nat.le_refl _
  have hSl : 0 ≤ ({ frames := 2, cells := 0, slots := 0, locals := 55 } : Room).slots := Nat.le_refl _
  unfold wp_M_floodsFrom at h
  refine lv_iconst (v := (0 : Int32)) hx hb dX3_floodsFrom_0 (by decide) ?_
  refine lv_istore_n (lv' := [(3, .int (0 : Int32)), (0, .ref o), (1, .int v1), (2, .int v2)]) hx hb dX3_floodsFrom_1 rfl hl (by decide) rfl (fun ls hl => ?_)
  obtain ⟨k2, h⟩ := h
  refine lp_M_floodsFrom_L1 F hRf hRl hC hSl ?hk35 k2 _ _ h _ _ _ hP hD hS (lv_sub hl [1, 2, 3, 0] rfl)
  case hk35 =>
    intro ar_3 h H locs ls hP hD hS hl
    refine lv_aload_n hx hb dX3_floodsFrom_35 rfl (lv_at hl 0 rfl) ?_
    refine lv_aload_n hx hb dX3_floodsFrom_36 rfl (lv_at hl 0 rfl) ?_
    refine va_get hx hb hts in_X3 hown hK hP 0 rfl rfl 13 (Nat.le_of_ble_eq_true rfl) (hts _ q1231) (fun _ h => h) (v := .ref (ad 13)) rfl dX3_floodsFrom_37 ?_
    refine cl_v F (va_runV (As := [.ref (ad 13)]) (rest := []) ⟨hx, hb, hml, hown, hts⟩ (ct_M_waterGoes_i13 h _) (cwV 1 hts (lw_V q1665 q1667 qs76 q97 q1668) rfl rfl rfl (by decide +kernel) ⟨Nat.le_trans (Nat.le_of_ble_eq_true rfl) hRf, Nat.le_trans (Nat.le_of_ble_eq_true rfl) hRl⟩) ⟨ct_blind, va_recv hK hP (ci := 2) (q0 := 0) rfl rfl, ct_at F hS hP hD⟩ rfl rfl hl.1 rfl (lv_room (Nat.le_of_ble_eq_true rfl)) dX3_floodsFrom_40 ⟨hC, hSl⟩) rfl rfl hD hS ?_
    rintro ar4 H locs h hP hD hS
    exact rt_v F dX3_floodsFrom_43 (ar4) h hP hD hS (Nat.le_refl _) (Nat.le_refl _)
set_option maxHeartbeats 4000000 in
theorem lp_M_treats_L1 {p : Program} {l : Launch} {e : Env} {R : Room} {s : State} {m : MethodId} {args : Array Value} {below : List Frame} {meth : Method} {c : Code} {cells slots : Nat} {A : Nat → Prop} {Qf : State → Prop} {V : evT} {D : va_G} {gI : Nat → ClassId} {o : Nat} {ad : Nat → Nat} {v1 : Int32} {v2 : Int32} {fd : Nat → Int32} {ar : Nat → Nat → Int32} {lw : Nat → Int64} {K57 : Prop} {K48 : Prop} (F : ct_F p m c meth cX3_treats 5 s args RX3 (some .int) A V D vwCl (tyL gI)) (hRf : 2 ≤ R.frames) (hRl : 37 ≤ R.locals) (hC : cells ≤ R.cells) (hSl : slots ≤ R.slots)
    (hK57 : K57 → ∀ (H : Heap) (locs : List Loc) (ls : Array Slot), va_P D vwCl (wm gI o ad fd ar lw) H → va_D A (wm gI o ad fd ar lw) → va_S A s.heap H locs → lv_has ls 5 [(0, .ref o), (1, .int v1), (2, .int v2)] → W p l e R s m args below meth c H locs cells slots Qf (F0 m 57 ls []))
    (hK48 : K48 → ∀ (H : Heap) (locs : List Loc) (ls : Array Slot), va_P D vwCl (wm gI o ad fd ar lw) H → va_D A (wm gI o ad fd ar lw) → va_S A s.heap H locs → lv_has ls 5 [] → W p l e R s m args below meth c H locs cells slots Qf (F0 m 48 ls [])) :
    ∀ (n : Nat) (v3 : Int32), wp_M_treats_L1 v1 v2 fd ar lw K57 K48 n v3 → ∀ (H : Heap) (locs : List Loc) (ls : Array Slot), va_P D vwCl (wm gI o ad fd ar lw) H → va_D A (wm gI o ad fd ar lw) → va_S A s.heap H locs → lv_has ls 5 [(0, .ref o), (1, .int v1), (2, .int v2), (3, .int v3)] → W p l e R s m args below meth c H locs cells slots Qf (F0 m 23 ls []) := by
  obtain ⟨⟨hx, hb, hml, hown, hts⟩, hr, hlocks, hA, hK, hE⟩ := id F
  intro n
  induction n with
  | zero => intro v3 h; exact h.elim
  | succ n ih =>
    intro v3 h H locs ls hP hD hS hl
    unfold wp_M_treats_L1 at h
    refine lv_iload_n hx hb dX3_treats_23 rfl (lv_at hl 3 rfl) ?_
    refine lv_aload_n hx hb dX3_treats_24 rfl (lv_at hl 0 rfl) ?_
    refine va_get hx hb hts in_X3 hown hK hP 0 rfl rfl 4 (Nat.le_of_ble_eq_true rfl) (hts _ q1222) (fun _ h => h) (v := .int (fd 4)) rfl dX3_treats_25 ?_
    refine lv_icmp_ge (tgt := 57) hx hb dX3_treats_28 (by decide) (fun c5 => ?_) (fun c5 => ?_)
    · replace h := h.1 c5
      exact hK57  h _ _ _ hP hD hS (lv_sub hl [0, 1, 2] rfl)
    · replace h := h.2 c5
      refine lv_aload_n hx hb dX3_treats_31 rfl (lv_at hl 0 rfl) ?_
      refine va_get hx hb hts in_X3 hown hK hP 0 rfl rfl 12 (Nat.le_of_ble_eq_true rfl) (hts _ q1230) (fun _ h => h) (v := .ref (ad 12)) rfl dX3_treats_32 ?_
      refine lv_iload_n hx hb dX3_treats_35 rfl (lv_at hl 3 rfl) ?_
      refine cl_i F (va_runS (As := [.ref (ad 12), .int v3]) (rest := []) ⟨hx, hb, hml, hown, hts⟩ (ct_M_atOf_i12 h _) (va_cwS 2 hts (lw_S q1517 q1518 q97 q1519) rfl rfl rfl (by decide +kernel) ⟨Nat.le_trans (Nat.le_of_ble_eq_true rfl) hRf, Nat.le_trans (Nat.le_of_ble_eq_true rfl) hRl⟩) ⟨ct_blind, ct_at F hS hP hD⟩ rfl rfl hl.1 rfl (lv_room (Nat.le_of_ble_eq_true rfl)) dX3_treats_36 ⟨hC, hSl⟩) rfl rfl hD hS ?_
      rintro x2 _ H locs h hP hD hS
      refine lv_if_lt (tgt := 51) hx hb dX3_treats_39 (by decide) (fun c4 => ?_) (fun c4 => ?_)
      · replace h := h.1 c4
        refine lv_iinc (v := (v3 + (1 : Int32))) (lv' := [(3, .int (v3 + (1 : Int32))), (0, .ref o), (1, .int v1), (2, .int v2)]) hx hb dX3_treats_51 hl (k := 3) rfl rfl (by decide) rfl (fun ls hl => ?_)
        refine lv_goto (tgt := 23) hx hb dX3_treats_54 (by decide) ?_
        exact ih _ h _ _ _ hP hD hS (lv_sub hl [1, 2, 3, 0] rfl)
      · replace h := h.2 c4
        refine lv_iload_n hx hb dX3_treats_42 rfl (lv_at hl 1 rfl) ?_
        refine lv_bipush (v := (9 : Int32)) hx hb dX3_treats_43 (by decide) ?_
        refine lv_icmp_ne (tgt := 51) hx hb dX3_treats_45 (by decide) (fun c3 => ?_) (fun c3 => ?_)
        · replace h := h.1 c3
          refine lv_iinc (v := (v3 + (1 : Int32))) (lv' := [(3, .int (v3 + (1 : Int32))), (0, .ref o), (1, .int v1), (2, .int v2)]) hx hb dX3_treats_51 hl (k := 3) rfl rfl (by decide) rfl (fun ls hl => ?_)
          refine lv_goto (tgt := 23) hx hb dX3_treats_54 (by decide) ?_
          exact ih _ h _ _ _ hP hD hS (lv_sub hl [1, 2, 3, 0] rfl)
        · replace h := h.2 c3
          exact hK48  h _ _ _ hP hD hS (lv_sub hl [] rfl)
set_option maxHeartbeats 4000000 in
theorem lp_M_treats_L3 {p : Program} {l : Launch} {e : Env} {R : Room} {s : State} {m : MethodId} {args : Array Value} {below : List Frame} {meth : Method} {c : Code} {cells slots : Nat} {A : Nat → Prop} {Qf : State → Prop} {V : evT} {D : va_G} {gI : Nat → ClassId} {o : Nat} {ad : Nat → Nat} {v1 : Int32} {v2 : Int32} {v3 : Int32} {fd : Nat → Int32} {ar : Nat → Nat → Int32} {lw : Nat → Int64} {K114 : (Int32) → Prop} (F : ct_F p m c meth cX3_treats 5 s args RX3 (some .int) A V D vwCl (tyL gI)) (hRf : 2 ≤ R.frames) (hRl : 37 ≤ R.locals) (hC : cells ≤ R.cells) (hSl : slots ≤ R.slots)
    (hK114 : ∀ (v4 : Int32), K114 v4 → ∀ (H : Heap) (locs : List Loc) (ls : Array Slot), va_P D vwCl (wm gI o ad fd ar lw) H → va_D A (wm gI o ad fd ar lw) → va_S A s.heap H locs → lv_has ls 5 [(0, .ref o), (1, .int v1), (2, .int v2), (3, .int v3), (4, .int v4)] → W p l e R s m args below meth c H locs cells slots Qf (F0 m 114 ls [])) :
    ∀ (n : Nat) (v4 : Int32), wp_M_treats_L3 v1 v2 v3 fd ar lw K114 n v4 → ∀ (H : Heap) (locs : List Loc) (ls : Array Slot), va_P D vwCl (wm gI o ad fd ar lw) H → va_D A (wm gI o ad fd ar lw) → va_S A s.heap H locs → lv_has ls 5 [(0, .ref o), (1, .int v1), (2, .int v2), (3, .int v3), (4, .int v4)] → W p l e R s m args below meth c H locs cells slots Qf (F0 m 75 ls []) := by
  obtain ⟨⟨hx, hb, hml, hown, hts⟩, hr, hlocks, hA, hK, hE⟩ := id F
  intro n
  induction n with
  | zero => intro v4 h; exact h.elim
  | succ n ih =>
    intro v4 h H locs ls hP hD hS hl
    unfold wp_M_treats_L3 at h
    refine lv_aload_n hx hb dX3_treats_75 rfl (lv_at hl 0 rfl) ?_
    refine va_get hx hb hts in_X3 hown hK hP 0 rfl rfl 12 (Nat.le_of_ble_eq_true rfl) (hts _ q1230) (fun _ h => h) (v := .ref (ad 12)) rfl dX3_treats_76 ?_
    refine lv_iload_n hx hb dX3_treats_79 rfl (lv_at hl 3 rfl) ?_
    refine cl_i F (va_runS (As := [.ref (ad 12), .int v3]) (rest := []) ⟨hx, hb, hml, hown, hts⟩ (ct_M_atOf_i12 h _) (va_cwS 2 hts (lw_S q1517 q1518 q97 q1519) rfl rfl rfl (by decide +kernel) ⟨Nat.le_trans (Nat.le_of_ble_eq_true rfl) hRf, Nat.le_trans (Nat.le_of_ble_eq_true rfl) hRl⟩) ⟨ct_blind, ct_at F hS hP hD⟩ rfl rfl hl.1 rfl (lv_room (Nat.le_of_ble_eq_true rfl)) dX3_treats_80 ⟨hC, hSl⟩) rfl rfl hD hS ?_
    rintro x6 _ H locs h hP hD hS
    refine lv_if_lt (tgt := 114) hx hb dX3_treats_83 (by decide) (fun c9 => ?_) (fun c9 => ?_)
    · replace h := h.1 c9
      exact hK114 _ h _ _ _ hP hD hS (lv_sub hl [0, 1, 2, 3, 4] rfl)
    · replace h := h.2 c9
      refine lv_bipush (v := (9 : Int32)) hx hb dX3_treats_86 (by decide) ?_
      refine lv_aload_n hx hb dX3_treats_88 rfl (lv_at hl 0 rfl) ?_
      refine va_get hx hb hts in_X3 hown hK hP 0 rfl rfl 12 (Nat.le_of_ble_eq_true rfl) (hts _ q1230) (fun _ h => h) (v := .ref (ad 12)) rfl dX3_treats_89 ?_
      refine lv_iload_n hx hb dX3_treats_92 rfl (lv_at hl 3 rfl) ?_
      refine cl_i F (va_runS (As := [.ref (ad 12), .int v3]) (rest := [.int (9 : Int32)]) ⟨hx, hb, hml, hown, hts⟩ (ct_M_moodOf_i12 h _) (va_cwS 2 hts (lw_S q1532 q1533 q97 q1534) rfl rfl rfl (by decide +kernel) ⟨Nat.le_trans (Nat.le_of_ble_eq_true rfl) hRf, Nat.le_trans (Nat.le_of_ble_eq_true rfl) hRl⟩) ⟨ct_blind, ct_at F hS hP hD⟩ rfl rfl hl.1 rfl (lv_room (Nat.le_of_ble_eq_true rfl)) dX3_treats_93 ⟨hC, hSl⟩) rfl rfl hD hS ?_
      rintro x7 _ H locs h hP hD hS
      refine lv_iconst (v := (3 : Int32)) hx hb dX3_treats_96 (by decide) ?_
      refine lv_iload hx hb dX3_treats_97 (lv_at hl 4 rfl) ?_
      refine lv_imul hx hb dX3_treats_99 ?_
      refine lv_iadd hx hb dX3_treats_100 ?_
      refine va_mmin hx hb (hml.trans hl.1.symm) hown (hts _ q1402) (hts _ q336) (hts _ q100) (hts _ q337) (Nat.le_trans (Nat.le_of_ble_eq_true rfl) hRf) (Nat.le_trans (Nat.le_of_ble_eq_true rfl) hRl) hC hSl dX3_treats_101 ?_
      refine lv_iload_n hx hb dX3_treats_104 rfl (lv_at hl 1 rfl) ?_
      refine lv_icmp_gt (tgt := 114) hx hb dX3_treats_105 (by decide) (fun c8 => ?_) (fun c8 => ?_)
      · replace h := h.1 c8
        exact hK114 _ h _ _ _ hP hD hS (lv_sub hl [0, 1, 2, 3, 4] rfl)
      · replace h := h.2 c8
        refine lv_iinc (v := (v4 + (1 : Int32))) (lv' := [(4, .int (v4 + (1 : Int32))), (0, .ref o), (1, .int v1), (2, .int v2), (3, .int v3)]) hx hb dX3_treats_108 hl (k := 4) rfl rfl (by decide) rfl (fun ls hl => ?_)
        refine lv_goto (tgt := 75) hx hb dX3_treats_111 (by decide) ?_
        exact ih _ h _ _ _ hP hD hS (lv_sub hl [1, 2, 3, 4, 0] rfl)
set_option maxHeartbeats 4000000 in
theorem lp_M_treats_J4 {p : Program} {l : Launch} {e : Env} {R : Room} {s : State} {m : MethodId} {args : Array Value} {below : List Frame} {meth : Method} {c : Code} {cells slots : Nat} {A : Nat → Prop} {Qf : State → Prop} {V : evT} {D : va_G} {gI : Nat → ClassId} {o : Nat} {ad : Nat → Nat} {v1 : Int32} {v4 : Int32} {ar : Nat → Nat → Int32} {K64 : (Int32) → (Int32) → (Nat → Int32) → (Nat → Int64) → Prop} (F : ct_F p m c meth cX3_treats 5 s args RX3 (some .int) A V D vwCl (tyL gI)) (hRf : 2 ≤ R.frames) (hRl : 37 ≤ R.locals) (hC : cells ≤ R.cells) (hSl : slots ≤ R.slots)
    (hK64 : ∀ (v2 : Int32) (v3 : Int32) (fd : Nat → Int32) (lw : Nat → Int64), K64 v2 v3 fd lw → ∀ (H : Heap) (locs : List Loc) (ls : Array Slot), va_P D vwCl (wm gI o ad fd ar lw) H → va_D A (wm gI o ad fd ar lw) → va_S A s.heap H locs → lv_has ls 5 [(0, .ref o), (1, .int v1), (2, .int v2), (3, .int v3)] → W p l e R s m args below meth c H locs cells slots Qf (F0 m 64 ls [])) :
    ∀ (v2 : Int32) (v3 : Int32) (fd : Nat → Int32) (lw : Nat → Int64), wp_M_treats_J4 v1 v4 ar K64 v2 v3 fd lw → ∀ (H : Heap) (locs : List Loc) (ls : Array Slot), va_P D vwCl (wm gI o ad fd ar lw) H → va_D A (wm gI o ad fd ar lw) → va_S A s.heap H locs → lv_has ls 5 [(0, .ref o), (1, .int v1), (2, .int v2), (3, .int v3), (4, .int v4)] → W p l e R s m args below meth c H locs cells slots Qf (F0 m 114 ls []) := by
  obtain ⟨⟨hx, hb, hml, hown, hts⟩, hr, hlocks, hA, hK, hE⟩ := id F
  intro v2 v3 fd lw h H locs ls hP hD hS hl
  unfold wp_M_treats_J4 at h
  refine lv_iload_n hx hb dX3_treats_114 rfl (lv_at hl 2 rfl) ?_
  refine lv_iload hx hb dX3_treats_115 (lv_at hl 4 rfl) ?_
  refine lv_iadd hx hb dX3_treats_117 ?_
  refine lv_istore_n (lv' := [(2, .int (v2 + v4)), (0, .ref o), (1, .int v1), (3, .int v3), (4, .int v4)]) hx hb dX3_treats_118 rfl hl (by decide) rfl (fun ls hl => ?_)
  refine lv_aload_n hx hb dX3_treats_119 rfl (lv_at hl 1 rfl) ?_
  refine lv_iload hx hb dX3_treats_120 (lv_at hl 4 rfl) ?_
  refine lv_i2l (v := (v4.toInt64)) hx hb dX3_treats_122 rfl ?_
  refine cl_v F (va_runV (As := [.long (v4.toInt64)]) (rest := []) ⟨hx, hb, hml, hown, hts⟩ (ct_M_enters h _) (cwV 1 hts (lw_V q1634 q1636 qs70 q97 q1637) rfl rfl rfl (by decide +kernel) ⟨Nat.le_trans (Nat.le_of_ble_eq_true rfl) hRf, Nat.le_trans (Nat.le_of_ble_eq_true rfl) hRl⟩) ⟨ct_blind, va_recv hK hP (ci := 2) (q0 := 0) rfl rfl, ct_at F hS hP hD⟩ rfl rfl hl.1 rfl (lv_room (Nat.le_of_ble_eq_true rfl)) dX3_treats_123 ⟨hC, hSl⟩) rfl rfl hD hS ?_
  rintro ⟨fd11, lw12⟩ H locs h hP hD hS
  refine lv_iinc (v := (v3 + (1 : Int32))) (lv' := [(3, .int (v3 + (1 : Int32))), (2, .int (v2 + v4)), (0, .ref o), (1, .int v1), (4, .int v4)]) hx hb dX3_treats_126 hl (k := 3) rfl rfl (by decide) rfl (fun ls hl => ?_)
  refine lv_goto (tgt := 64) hx hb dX3_treats_129 (by decide) ?_
  exact hK64 _ _ _ _ h _ _ _ hP hD hS (lv_sub hl [2, 3, 1, 0] rfl)
set_option maxHeartbeats 4000000 in
theorem lp_M_treats_L2 {p : Program} {l : Launch} {e : Env} {R : Room} {s : State} {m : MethodId} {args : Array Value} {below : List Frame} {meth : Method} {c : Code} {cells slots : Nat} {A : Nat → Prop} {Qf : State → Prop} {V : evT} {D : va_G} {gI : Nat → ClassId} {o : Nat} {ad : Nat → Nat} {v1 : Int32} {ar : Nat → Nat → Int32} {K132 : (Int32) → (Nat → Int32) → (Nat → Int64) → Prop} (F : ct_F p m c meth cX3_treats 5 s args RX3 (some .int) A V D vwCl (tyL gI)) (hRf : 2 ≤ R.frames) (hRl : 37 ≤ R.locals) (hC : cells ≤ R.cells) (hSl : slots ≤ R.slots)
    (hK132 : ∀ (v2 : Int32) (fd : Nat → Int32) (lw : Nat → Int64), K132 v2 fd lw → ∀ (H : Heap) (locs : List Loc) (ls : Array Slot), va_P D vwCl (wm gI o ad fd ar lw) H → va_D A (wm gI o ad fd ar lw) → va_S A s.heap H locs → lv_has ls 5 [(2, .int v2)] → W p l e R s m args below meth c H locs cells slots Qf (F0 m 132 ls [])) :
    ∀ (n : Nat) (v2 : Int32) (v3 : Int32) (fd : Nat → Int32) (lw : Nat → Int64), wp_M_treats_L2 v1 ar K132 n v2 v3 fd lw → ∀ (H : Heap) (locs : List Loc) (ls : Array Slot), va_P D vwCl (wm gI o ad fd ar lw) H → va_D A (wm gI o ad fd ar lw) → va_S A s.heap H locs → lv_has ls 5 [(0, .ref o), (1, .int v1), (2, .int v2), (3, .int v3)] → W p l e R s m args below meth c H locs cells slots Qf (F0 m 64 ls []) := by
  obtain ⟨⟨hx, hb, hml, hown, hts⟩, hr, hlocks, hA, hK, hE⟩ := id F
  intro n
  induction n with
  | zero => intro v2 v3 fd lw h; exact h.elim
  | succ n ih =>
    intro v2 v3 fd lw h H locs ls hP hD hS hl
    unfold wp_M_treats_L2 at h
    refine lv_iload_n hx hb dX3_treats_64 rfl (lv_at hl 3 rfl) ?_
    refine lv_aload_n hx hb dX3_treats_65 rfl (lv_at hl 0 rfl) ?_
    refine va_get hx hb hts in_X3 hown hK hP 0 rfl rfl 4 (Nat.le_of_ble_eq_true rfl) (hts _ q1222) (fun _ h => h) (v := .int (fd 4)) rfl dX3_treats_66 ?_
    refine lv_icmp_ge (tgt := 132) hx hb dX3_treats_69 (by decide) (fun c17 => ?_) (fun c17 => ?_)
    · replace h := h.1 c17
      exact hK132 _ _ _ h _ _ _ hP hD hS (lv_sub hl [2] rfl)
    · replace h := h.2 c17
      refine lv_iconst (v := (0 : Int32)) hx hb dX3_treats_72 (by decide) ?_
      refine lv_istore (lv' := [(4, .int (0 : Int32)), (0, .ref o), (1, .int v1), (2, .int v2), (3, .int v3)]) hx hb dX3_treats_73 hl (by decide) rfl (fun ls hl => ?_)
      obtain ⟨k75, h⟩ := h
      refine lp_M_treats_L3 F hRf hRl hC hSl ?hk114 k75 _ h _ _ _ hP hD hS (lv_sub hl [1, 2, 3, 4, 0] rfl)
      case hk114 =>
        intro v4_10 h H locs ls hP hD hS hl
        refine lp_M_treats_J4 F hRf hRl hC hSl ?hk64 _ _ _ _ h _ _ _ hP hD hS (lv_sub hl [0, 1, 2, 3, 4] rfl)
        case hk64 =>
          intro v2_13 v3_14 fd_15 lw_16 h H locs ls hP hD hS hl
          exact ih _ _ _ _ h _ _ _ hP hD hS (lv_sub hl [0, 1, 2, 3] rfl)
set_option maxHeartbeats 4000000 in
theorem ct_M_treats {l : Launch} {V : evT} {D : va_G} {gI : Nat → ClassId} {o : Nat} {ad : Nat → Nat} {v1 : Int32} {fd : Nat → Int32} {ar : Nat → Nat → Int32} {lw : Nat → Int64} {Q : Int32 → (Nat → Int32) → (Nat → Int64) → Prop} (h : wp_M_treats v1 fd ar lw Q) : ct_i l V D vwCl (tyL gI) yX3_treats cX3_treats 5 .int { frames := 2, cells := 0, slots := 0, locals := 37 } [.ref o, .int v1] (wm gI o ad fd ar lw) (fun u : (Nat → Int32) × (Nat → Int64) => (wm gI o ad u.1 ar u.2)) (fun (x : Int32) (u : (Nat → Int32) × (Nat → Int64)) => Q x u.1 u.2) := by
  refine ct_ofi RX3 rfl (by decide +kernel) (Nat.le_of_ble_eq_true rfl) ?_
  intro p e s m args below meth c A F hP hD ls hl
  obtain ⟨⟨hx, hb, hml, hown, hts⟩, hr, hlocks, hA, hK, hE⟩ := id F
  have hS : va_S A s.heap s.heap [] := va_S.rf
  have hl : lv_has ls 5 [(0, .ref o), (1, .int v1)] := hl
  have hRf : 2 ≤ ({ frames := 2, cells := 0, slots := 0, locals := 37 } : Room).frames := Nat.le_refl _
  have hRl : 37 ≤ ({ frames := 2, cells := 0, slots := 0, locals := 37 } : Room).locals := Nat.le_refl _
  have hC : 0 ≤ ({ frames := 2, cells := 0, slots := 0, locals := 37 } : Room).cells := Nat.le_refl _
  have hSl : 0 ≤ ({ frames := 2, cells := 0, slots := 0, locals := 37 } : Room).slots := Nat.le_refl _
  unfold wp_M_treats at h
  refine lv_aload_n hx hb dX3_treats_0 rfl (lv_at hl 0 rfl) ?_
  refine lv_iconst (v := (0 : Int32)) hx hb dX3_treats_1 (by decide) ?_
  refine pt_put (v := .int (0 : Int32)) hx hb hts in_X3 tyX3 tyX3_ok nmX3 hown hK hP hD hS 0 rfl rfl 0 (Nat.le_of_ble_eq_true rfl) (hts _ q1218) (fun _ h => h) rfl (ty := .int) (by decide +kernel) rfl rfl (Nat.le_of_ble_eq_true rfl) dX3_treats_2 wmF_0 (fun H locs hP hD hS => ?_)
  refine lv_iload_n hx hb dX3_treats_5 rfl (lv_at hl 1 rfl) ?_
  refine lv_i2l (v := (v1.toInt64)) hx hb dX3_treats_6 rfl ?_
  refine lv_lconst (v := (1 : Int64)) hx hb dX3_treats_7 (by decide) ?_
  refine lv_ldc2 (v := (9 : Int64)) hx hb hown (hts _ q1554) dX3_treats_8 ?_
  refine cl_i0 F (va_runS (As := [.long (v1.toInt64), .long (1 : Int64), .long (9 : Int64)]) (rest := []) ⟨hx, hb, hml, hown, hts⟩ (ct_X3_in h _) (va_cwS 3 hts (lw_S q1391 q1392 q97 q1393) rfl rfl rfl (by decide +kernel) ⟨Nat.le_trans (Nat.le_of_ble_eq_true rfl) hRf, Nat.le_trans (Nat.le_of_ble_eq_true rfl) hRl⟩) ⟨ct_blind, ct_at F hS ct_nP ct_nD⟩ rfl rfl hl.1 rfl (lv_room (Nat.le_of_ble_eq_true rfl)) dX3_treats_11 ⟨hC, hSl⟩) rfl rfl hP hS ?_
  rintro x1 _ H locs h hP hS
  refine lv_if_ne (tgt := 19) hx hb dX3_treats_14 (by decide) (fun c21 => ?_) (fun c21 => ?_)
  · replace h := h.1 c21
    refine lv_iconst (v := (0 : Int32)) hx hb dX3_treats_19 (by decide) ?_
    refine lv_istore_n (lv' := [(2, .int (0 : Int32)), (0, .ref o), (1, .int v1)]) hx hb dX3_treats_20 rfl hl (by decide) rfl (fun ls hl => ?_)
    refine lv_iconst (v := (0 : Int32)) hx hb dX3_treats_21 (by decide) ?_
    refine lv_istore_n (lv' := [(3, .int (0 : Int32)), (2, .int (0 : Int32)), (0, .ref o), (1, .int v1)]) hx hb dX3_treats_22 rfl hl (by decide) rfl (fun ls hl => ?_)
    obtain ⟨k23, h⟩ := h
    refine lp_M_treats_L1 F hRf hRl hC hSl ?hk57 ?hk48 k23 _ h _ _ _ hP hD hS (lv_sub hl [2, 3, 1, 0] rfl)
    case hk57 =>
      intro h H locs ls hP hD hS hl
      refine lv_aload_n hx hb dX3_treats_57 rfl (lv_at hl 0 rfl) ?_
      refine lv_iconst (v := (0 : Int32)) hx hb dX3_treats_58 (by decide) ?_
      refine pt_put (v := .int (0 : Int32)) hx hb hts in_X3 tyX3 tyX3_ok nmX3 hown hK hP hD hS 0 rfl rfl 1 (Nat.le_of_ble_eq_true rfl) (hts _ q1219) (fun _ h => h) rfl (ty := .int) (by decide +kernel) rfl rfl (Nat.le_of_ble_eq_true rfl) dX3_treats_59 wmF_1 (fun H locs hP hD hS => ?_)
      refine lv_iconst (v := (0 : Int32)) hx hb dX3_treats_62 (by decide) ?_
      refine lv_istore_n (lv' := [(3, .int (0 : Int32)), (0, .ref o), (1, .int v1), (2, .int (0 : Int32))]) hx hb dX3_treats_63 rfl hl (by decide) rfl (fun ls hl => ?_)
      obtain ⟨k64, h⟩ := h
      refine lp_M_treats_L2 F hRf hRl hC hSl ?hk132 k64 _ _ _ _ h _ _ _ hP hD hS (lv_sub hl [1, 2, 3, 0] rfl)
      case hk132 =>
        intro v2_18 fd_19 lw_20 h H locs ls hP hD hS hl
        refine lv_iload_n hx hb dX3_treats_132 rfl (lv_at hl 0 rfl) ?_
        exact rt_i F dX3_treats_133 rfl (fd_19, lw_20) h hP hD hS (Nat.le_refl _) (Nat.le_refl _)
    case hk48 =>
      intro h H locs ls hP hD hS hl
      refine lv_bipush (v := (-2 : Int32)) hx hb dX3_treats_48 (by decide) ?_
      exact rt_i F dX3_treats_50 rfl ((upd fd 0 (0 : Int32)), lw) h hP hD hS (Nat.le_refl _) (Nat.le_refl _)
  · replace h := h.2 c21
    refine lv_iconst (v := (-1 : Int32)) hx hb dX3_treats_17 (by decide) ?_
    exact rt_i F dX3_treats_18 rfl ((upd fd 0 (0 : Int32)), lw) h hP hD hS (Nat.le_refl _) (Nat.le_refl _)
set_option maxHeartbeats 4000000 in
theorem lp_M_isAsSeen_L1 {p : Program} {l : Launch} {e : Env} {R : Room} {s : State} {m : MethodId} {args : Array Value} {below : List Frame} {meth : Method} {c : Code} {cells slots : Nat} {A : Nat → Prop} {Qf : State → Prop} {V : evT} {D : va_G} {gI : Nat → ClassId} {o : Nat} {ad : Nat → Nat} {fd : Nat → Int32} {ar : Nat → Nat → Int32} {lw : Nat → Int64} {K54 : (Int32) → Prop} (F : ct_F p m c meth cX3_isAsSeen 3 s args RX3 (some .boolean) A V D vwCl (tyL gI)) (hRf : 2 ≤ R.frames) (hRl : 33 ≤ R.locals) (hC : cells ≤ R.cells) (hSl : slots ≤ R.slots)
    (hK54 : ∀ (v1 : Int32), K54 v1 → ∀ (H : Heap) (locs : List Loc) (ls : Array Slot), va_P D vwCl (wm gI o ad fd ar lw) H → va_D A (wm gI o ad fd ar lw) → va_S A s.heap H locs → lv_has ls 3 [(1, .int v1)] → W p l e R s m args below meth c H locs cells slots Qf (F0 m 54 ls [])) :
    ∀ (n : Nat) (v1 : Int32) (v2 : Int32), wp_M_isAsSeen_L1 fd ar lw K54 n v1 v2 → ∀ (H : Heap) (locs : List Loc) (ls : Array Slot), va_P D vwCl (wm gI o ad fd ar lw) H → va_D A (wm gI o ad fd ar lw) → va_S A s.heap H locs → lv_has ls 3 [(0, .ref o), (1, .int v1), (2, .int v2)] → W p l e R s m args below meth c H locs cells slots Qf (F0 m 4 ls []) := by
  obtain ⟨⟨hx, hb, hml, hown, hts⟩, hr, hlocks, hA, hK, hE⟩ := id F
  intro n
  induction n with
  | zero => intro v1 v2 h; exact h.elim
  | succ n ih =>
    intro v1 v2 h H locs ls hP hD hS hl
    unfold wp_M_isAsSeen_L1 at h
    refine lv_iload_n hx hb dX3_isAsSeen_4 rfl (lv_at hl 2 rfl) ?_
    refine lv_aload_n hx hb dX3_isAsSeen_5 rfl (lv_at hl 0 rfl) ?_
    refine va_get hx hb hts in_X3 hown hK hP 0 rfl rfl 3 (Nat.le_of_ble_eq_true rfl) (hts _ q1221) (fun _ h => h) (v := .int (fd 3)) rfl dX3_isAsSeen_6 ?_
    refine lv_icmp_ge (tgt := 54) hx hb dX3_isAsSeen_9 (by decide) (fun c5 => ?_) (fun c5 => ?_)
    · replace h := h.1 c5
      exact hK54 _ h _ _ _ hP hD hS (lv_sub hl [1] rfl)
    · replace h := h.2 c5
      refine lv_iload_n hx hb dX3_isAsSeen_12 rfl (lv_at hl 1 rfl) ?_
      refine lv_if_eq (tgt := 46) hx hb dX3_isAsSeen_13 (by decide) (fun c4 => ?_) (fun c4 => ?_)
      · replace h := h.1 c4
        refine lv_iconst (v := (0 : Int32)) hx hb dX3_isAsSeen_46 (by decide) ?_
        refine lv_istore_n (lv' := [(1, .int (0 : Int32)), (0, .ref o), (2, .int v2)]) hx hb dX3_isAsSeen_47 rfl hl (by decide) rfl (fun ls hl => ?_)
        refine lv_iinc (v := (v2 + (1 : Int32))) (lv' := [(2, .int (v2 + (1 : Int32))), (1, .int (0 : Int32)), (0, .ref o)]) hx hb dX3_isAsSeen_48 hl (k := 2) rfl rfl (by decide) rfl (fun ls hl => ?_)
        refine lv_goto (tgt := 4) hx hb dX3_isAsSeen_51 (by decide) ?_
        exact ih _ _ h _ _ _ hP hD hS (lv_sub hl [2, 1, 0] rfl)
      · replace h := h.2 c4
        refine lv_aload_n hx hb dX3_isAsSeen_16 rfl (lv_at hl 0 rfl) ?_
        refine va_get hx hb hts in_X3 hown hK hP 0 rfl rfl 42 (Nat.le_of_ble_eq_true rfl) (hts _ q1260) (fun _ h => h) (v := .int (fd 42)) rfl dX3_isAsSeen_17 ?_
        refine lv_iload_n hx hb dX3_isAsSeen_20 rfl (lv_at hl 2 rfl) ?_
        refine cl_i0 F (va_runS (As := [.int (fd 42), .int v2]) (rest := []) ⟨hx, hb, hml, hown, hts⟩ (ct_X3_has h _) (va_cwS 2 hts (lw_S q1510 q1511 q97 q1512) rfl rfl rfl (by decide +kernel) ⟨Nat.le_trans (Nat.le_of_ble_eq_true rfl) hRf, Nat.le_trans (Nat.le_of_ble_eq_true rfl) hRl⟩) ⟨ct_blind, ct_at F hS ct_nP ct_nD⟩ rfl rfl hl.1 rfl (lv_room (Nat.le_of_ble_eq_true rfl)) dX3_isAsSeen_21 ⟨hC, hSl⟩) rfl rfl hP hS ?_
        rintro x1 _ H locs h hP hS
        refine lv_if_eq (tgt := 42) hx hb dX3_isAsSeen_24 (by decide) (fun c3 => ?_) (fun c3 => ?_)
        · replace h := h.1 c3
          refine lv_iconst (v := (1 : Int32)) hx hb dX3_isAsSeen_42 (by decide) ?_
          refine lv_goto (tgt := 47) hx hb dX3_isAsSeen_43 (by decide) ?_
          refine lv_istore_n (lv' := [(1, .int (1 : Int32)), (0, .ref o), (2, .int v2)]) hx hb dX3_isAsSeen_47 rfl hl (by decide) rfl (fun ls hl => ?_)
          refine lv_iinc (v := (v2 + (1 : Int32))) (lv' := [(2, .int (v2 + (1 : Int32))), (1, .int (1 : Int32)), (0, .ref o)]) hx hb dX3_isAsSeen_48 hl (k := 2) rfl rfl (by decide) rfl (fun ls hl => ?_)
          refine lv_goto (tgt := 4) hx hb dX3_isAsSeen_51 (by decide) ?_
          exact ih _ _ h _ _ _ hP hD hS (lv_sub hl [2, 1, 0] rfl)
        · replace h := h.2 c3
          refine lv_aload_n hx hb dX3_isAsSeen_27 rfl (lv_at hl 0 rfl) ?_
          refine va_get hx hb hts in_X3 hown hK hP 0 rfl rfl 44 (Nat.le_of_ble_eq_true rfl) (hts _ q1262) (fun _ h => h) (v := .ref (ad 44)) rfl dX3_isAsSeen_28 ?_
          refine lv_iload_n hx hb dX3_isAsSeen_31 rfl (lv_at hl 2 rfl) ?_
          refine va_iald (f := (ar 44)) hx hb hK hP 26 0 rfl rfl h.1 dX3_isAsSeen_32 ?_
          replace h := h.2
          refine lv_aload_n hx hb dX3_isAsSeen_33 rfl (lv_at hl 0 rfl) ?_
          refine va_get hx hb hts in_X3 hown hK hP 0 rfl rfl 43 (Nat.le_of_ble_eq_true rfl) (hts _ q1261) (fun _ h => h) (v := .ref (ad 43)) rfl dX3_isAsSeen_34 ?_
          refine lv_iload_n hx hb dX3_isAsSeen_37 rfl (lv_at hl 2 rfl) ?_
          refine va_iald (f := (ar 43)) hx hb hK hP 25 0 rfl rfl h.1 dX3_isAsSeen_38 ?_
          replace h := h.2
          refine lv_icmp_ne (tgt := 46) hx hb dX3_isAsSeen_39 (by decide) (fun c2 => ?_) (fun c2 => ?_)
          · replace h := h.1 c2
            refine lv_iconst (v := (0 : Int32)) hx hb dX3_isAsSeen_46 (by decide) ?_
            refine lv_istore_n (lv' := [(1, .int (0 : Int32)), (0, .ref o), (2, .int v2)]) hx hb dX3_isAsSeen_47 rfl hl (by decide) rfl (fun ls hl => ?_)
            refine lv_iinc (v := (v2 + (1 : Int32))) (lv' := [(2, .int (v2 + (1 : Int32))), (1, .int (0 : Int32)), (0, .ref o)]) hx hb dX3_isAsSeen_48 hl (k := 2) rfl rfl (by decide) rfl (fun ls hl => ?_)
            refine lv_goto (tgt := 4) hx hb dX3_isAsSeen_51 (by decide) ?_
            exact ih _ _ h _ _ _ hP hD hS (lv_sub hl [2, 1, 0] rfl)
          · replace h := h.2 c2
            refine lv_iconst (v := (1 : Int32)) hx hb dX3_isAsSeen_42 (by decide) ?_
            refine lv_goto (tgt := 47) hx hb dX3_isAsSeen_43 (by decide) ?_
            refine lv_istore_n (lv' := [(1, .int (1 : Int32)), (0, .ref o), (2, .int v2)]) hx hb dX3_isAsSeen_47 rfl hl (by decide) rfl (fun ls hl => ?_)
            refine lv_iinc (v := (v2 + (1 : Int32))) (lv' := [(2, .int (v2 + (1 : Int32))), (1, .int (1 : Int32)), (0, .ref o)]) hx hb dX3_isAsSeen_48 hl (k := 2) rfl rfl (by decide) rfl (fun ls hl => ?_)
            refine lv_goto (tgt := 4) hx hb dX3_isAsSeen_51 (by decide) ?_
            exact ih _ _ h _ _ _ hP hD hS (lv_sub hl [2, 1, 0] rfl)
set_option maxHeartbeats 4000000 in
theorem ct_M_isAsSeen {l : Launch} {V : evT} {D : va_G} {gI : Nat → ClassId} {o : Nat} {ad : Nat → Nat} {fd : Nat → Int32} {ar : Nat → Nat → Int32} {lw : Nat → Int64} {Q : Int32 → Prop} (h : wp_M_isAsSeen fd ar lw Q) : ct_i l V D vwCl (tyL gI) yX3_isAsSeen cX3_isAsSeen 3 .boolean { frames := 2, cells := 0, slots := 0, locals := 33 } [.ref o] (wm gI o ad fd ar lw) (fun u : Unit => (wm gI o ad fd ar lw)) (fun (x : Int32) (u : Unit) => Q x) := by
  refine ct_ofi RX3 rfl (by decide +kernel) (Nat.le_of_ble_eq_true rfl) ?_
  intro p e s m args below meth c A F hP hD ls hl
  obtain ⟨⟨hx, hb, hml, hown, hts⟩, hr, hlocks, hA, hK, hE⟩ := id F
  have hS : va_S A s.heap s.heap [] := va_S.rf
  have hl : lv_has ls 3 [(0, .ref o)] := hl
  have hRf : 2 ≤ ({ frames := 2, cells := 0, slots := 0, locals := 33 } : Room).frames := Nat.le_refl _
  have hRl : 33 ≤ ({ frames := 2, cells := 0, slots := 0, locals := 33 } : Room).locals := Nat.le_refl _
  have hC : 0 ≤ ({ frames := 2, cells := 0, slots := 0, locals := 33 } : Room).cells := Nat.le_refl _
  have hSl : 0 ≤ ({ frames := 2, cells := 0, slots := 0, locals := 33 } : Room).slots := Nat.le_refl _
  unfold wp_M_isAsSeen at h
  refine lv_iconst (v := (1 : Int32)) hx hb dX3_isAsSeen_0 (by decide) ?_
  refine lv_istore_n (lv' := [(1, .int (1 : Int32)), (0, .ref o)]) hx hb dX3_isAsSeen_1 rfl hl (by decide) rfl (fun ls hl => ?_)
  refine lv_iconst (v := (0 : Int32)) hx hb dX3_isAsSeen_2 (by decide) ?_
  refine lv_istore_n (lv' := [(2, .int (0 : Int32)), (1, .int (1 : Int32)), (0, .ref o)]) hx hb dX3_isAsSeen_3 rfl hl (by decide) rfl (fun ls hl => ?_)
  obtain ⟨k4, h⟩ := h
  refine lp_M_isAsSeen_L1 F hRf hRl hC hSl ?hk54 k4 _ _ h _ _ _ hP hD hS (lv_sub hl [2, 1, 0] rfl)
  case hk54 =>
    intro v1_6 h H locs ls hP hD hS hl
    refine lv_iload_n hx hb dX3_isAsSeen_54 rfl (lv_at hl 0 rfl) ?_
    exact rt_i F dX3_isAsSeen_55 (by rcases h.1 with e | e <;> rw [e] <;> rfl) () h.2 hP hD hS (Nat.le_refl _) (Nat.le_refl _)
set_option maxHeartbeats 4000000 in
theorem lp_X3_hasRun_J2 {p : Program} {l : Launch} {e : Env} {R : Room} {s : State} {m : MethodId} {args : Array Value} {below : List Frame} {meth : Method} {c : Code} {cells slots : Nat} {A : Nat → Prop} {Qf : State → Prop} {V : evT} {D : va_G} {gI : Nat → ClassId} {v0 : Int32} {v1 : Int32} {v2 : Int32} {K8 : (Int32) → (Int32) → (Int32) → Prop} (F : ct_F p m c meth cX3_hasRun 6 s args RX3 (some .boolean) A V D vwCl (tyL gI)) (hRf : 2 ≤ R.frames) (hRl : 33 ≤ R.locals) (hC : cells ≤ R.cells) (hSl : slots ≤ R.slots)
    (hK8 : ∀ (v3 : Int32) (v4 : Int32) (v5 : Int32), K8 v3 v4 v5 → ∀ (H : Heap) (locs : List Loc) (ls : Array Slot), va_P D vwCl [] H → va_D A [] → va_S A s.heap H locs → lv_has ls 6 [(0, .int v0), (1, .int v1), (2, .int v2), (3, .int v3), (4, .int v4), (5, .int v5)] → W p l e R s m args below meth c H locs cells slots Qf (F0 m 8 ls [])) :
    ∀ (v4 : Int32) (v5 : Int32) (t0 : Int32), wp_X3_hasRun_J2 v0 v1 v2 K8 v4 v5 t0 → ∀ (H : Heap) (locs : List Loc) (ls : Array Slot), va_P D vwCl [] H → va_D A [] → va_S A s.heap H locs → lv_has ls 6 [(0, .int v0), (1, .int v1), (2, .int v2), (4, .int v4), (5, .int v5)] → W p l e R s m args below meth c H locs cells slots Qf (F0 m 30 ls [.int t0]) := by
  obtain ⟨⟨hx, hb, hml, hown, hts⟩, hr, hlocks, hA, hK, hE⟩ := id F
  intro v4 v5 t0 h H locs ls hP hD hS hl
  unfold wp_X3_hasRun_J2 at h
  refine lv_istore_n (lv' := [(3, .int t0), (0, .int v0), (1, .int v1), (2, .int v2), (4, .int v4), (5, .int v5)]) hx hb dX3_hasRun_30 rfl hl (by decide) rfl (fun ls hl => ?_)
  refine lv_iload hx hb dX3_hasRun_31 (lv_at hl 4 rfl) ?_
  refine lv_if_ne (tgt := 41) hx hb dX3_hasRun_33 (by decide) (fun c3 => ?_) (fun c3 => ?_)
  · replace h := h.1 c3
    refine lv_iconst (v := (1 : Int32)) hx hb dX3_hasRun_41 (by decide) ?_
    refine lv_goto (tgt := 46) hx hb dX3_hasRun_42 (by decide) ?_
    refine lv_istore (lv' := [(4, .int (1 : Int32)), (3, .int t0), (0, .int v0), (1, .int v1), (2, .int v2), (5, .int v5)]) hx hb dX3_hasRun_46 hl (by decide) rfl (fun ls hl => ?_)
    refine lv_iinc (v := (v5 + (1 : Int32))) (lv' := [(5, .int (v5 + (1 : Int32))), (4, .int (1 : Int32)), (3, .int t0), (0, .int v0), (1, .int v1), (2, .int v2)]) hx hb dX3_hasRun_48 hl (k := 5) rfl rfl (by decide) rfl (fun ls hl => ?_)
    refine lv_goto (tgt := 8) hx hb dX3_hasRun_51 (by decide) ?_
    exact hK8 _ _ _ h _ _ _ hP hD hS (lv_sub hl [3, 4, 5, 2, 1, 0] rfl)
  · replace h := h.2 c3
    refine lv_iload_n hx hb dX3_hasRun_36 rfl (lv_at hl 0 rfl) ?_
    refine lv_iload_n hx hb dX3_hasRun_37 rfl (lv_at hl 3 rfl) ?_
    refine lv_icmp_lt (tgt := 45) hx hb dX3_hasRun_38 (by decide) (fun c2 => ?_) (fun c2 => ?_)
    · replace h := h.1 c2
      refine lv_iconst (v := (0 : Int32)) hx hb dX3_hasRun_45 (by decide) ?_
      refine lv_istore (lv' := [(4, .int (0 : Int32)), (3, .int t0), (0, .int v0), (1, .int v1), (2, .int v2), (5, .int v5)]) hx hb dX3_hasRun_46 hl (by decide) rfl (fun ls hl => ?_)
      refine lv_iinc (v := (v5 + (1 : Int32))) (lv' := [(5, .int (v5 + (1 : Int32))), (4, .int (0 : Int32)), (3, .int t0), (0, .int v0), (1, .int v1), (2, .int v2)]) hx hb dX3_hasRun_48 hl (k := 5) rfl rfl (by decide) rfl (fun ls hl => ?_)
      refine lv_goto (tgt := 8) hx hb dX3_hasRun_51 (by decide) ?_
      exact hK8 _ _ _ h _ _ _ hP hD hS (lv_sub hl [3, 4, 5, 2, 1, 0] rfl)
    · replace h := h.2 c2
      refine lv_iconst (v := (1 : Int32)) hx hb dX3_hasRun_41 (by decide) ?_
      refine lv_goto (tgt := 46) hx hb dX3_hasRun_42 (by decide) ?_
      refine lv_istore (lv' := [(4, .int (1 : Int32)), (3, .int t0), (0, .int v0), (1, .int v1), (2, .int v2), (5, .int v5)]) hx hb dX3_hasRun_46 hl (by decide) rfl (fun ls hl => ?_)
      refine lv_iinc (v := (v5 + (1 : Int32))) (lv' := [(5, .int (v5 + (1 : Int32))), (4, .int (1 : Int32)), (3, .int t0), (0, .int v0), (1, .int v1), (2, .int v2)]) hx hb dX3_hasRun_48 hl (k := 5) rfl rfl (by decide) rfl (fun ls hl => ?_)
      refine lv_goto (tgt := 8) hx hb dX3_hasRun_51 (by decide) ?_
      exact hK8 _ _ _ h _ _ _ hP hD hS (lv_sub hl [3, 4, 5, 2, 1, 0] rfl)
set_option maxHeartbeats 4000000 in
theorem lp_X3_hasRun_L1 {p : Program} {l : Launch} {e : Env} {R : Room} {s : State} {m : MethodId} {args : Array Value} {below : List Frame} {meth : Method} {c : Code} {cells slots : Nat} {A : Nat → Prop} {Qf : State → Prop} {V : evT} {D : va_G} {gI : Nat → ClassId} {v0 : Int32} {v1 : Int32} {v2 : Int32} {K54 : (Int32) → Prop} (F : ct_F p m c meth cX3_hasRun 6 s args RX3 (some .boolean) A V D vwCl (tyL gI)) (hRf : 2 ≤ R.frames) (hRl : 33 ≤ R.locals) (hC : cells ≤ R.cells) (hSl : slots ≤ R.slots)
    (hK54 : ∀ (v4 : Int32), K54 v4 → ∀ (H : Heap) (locs : List Loc) (ls : Array Slot), va_P D vwCl [] H → va_D A [] → va_S A s.heap H locs → lv_has ls 6 [(4, .int v4)] → W p l e R s m args below meth c H locs cells slots Qf (F0 m 54 ls [])) :
    ∀ (n : Nat) (v3 : Int32) (v4 : Int32) (v5 : Int32), wp_X3_hasRun_L1 v0 v1 v2 K54 n v3 v4 v5 → ∀ (H : Heap) (locs : List Loc) (ls : Array Slot), va_P D vwCl [] H → va_D A [] → va_S A s.heap H locs → lv_has ls 6 [(0, .int v0), (1, .int v1), (2, .int v2), (3, .int v3), (4, .int v4), (5, .int v5)] → W p l e R s m args below meth c H locs cells slots Qf (F0 m 8 ls []) := by
  obtain ⟨⟨hx, hb, hml, hown, hts⟩, hr, hlocks, hA, hK, hE⟩ := id F
  intro n
  induction n with
  | zero => intro v3 v4 v5 h; exact h.elim
  | succ n ih =>
    intro v3 v4 v5 h H locs ls hP hD hS hl
    unfold wp_X3_hasRun_L1 at h
    refine lv_iload hx hb dX3_hasRun_8 (lv_at hl 5 rfl) ?_
    refine lv_iload_n hx hb dX3_hasRun_10 rfl (lv_at hl 1 rfl) ?_
    refine lv_icmp_ge (tgt := 54) hx hb dX3_hasRun_11 (by decide) (fun c11 => ?_) (fun c11 => ?_)
    · replace h := h.1 c11
      exact hK54 _ h _ _ _ hP hD hS (lv_sub hl [4] rfl)
    · replace h := h.2 c11
      refine lv_iload_n hx hb dX3_hasRun_14 rfl (lv_at hl 0 rfl) ?_
      refine lv_iload hx hb dX3_hasRun_15 (lv_at hl 5 rfl) ?_
      refine cl_i0 F (va_runS (As := [.int v0, .int v5]) (rest := []) ⟨hx, hb, hml, hown, hts⟩ (ct_X3_has h _) (va_cwS 2 hts (lw_S q1510 q1511 q97 q1512) rfl rfl rfl (by decide +kernel) ⟨Nat.le_trans (Nat.le_of_ble_eq_true rfl) hRf, Nat.le_trans (Nat.le_of_ble_eq_true rfl) hRl⟩) ⟨ct_blind, ct_at F hS ct_nP ct_nD⟩ rfl rfl hl.1 rfl (lv_room (Nat.le_of_ble_eq_true rfl)) dX3_hasRun_17 ⟨hC, hSl⟩) rfl rfl hP hS ?_
      rintro x1 _ H locs h hP hS
      refine lv_if_eq (tgt := 29) hx hb dX3_hasRun_20 (by decide) (fun c10 => ?_) (fun c10 => ?_)
      · replace h := h.1 c10
        refine lv_iconst (v := (0 : Int32)) hx hb dX3_hasRun_29 (by decide) ?_
        refine lp_X3_hasRun_J2 F hRf hRl hC hSl ?hk8 _ _ _ h _ _ _ hP hD hS (lv_sub hl [0, 1, 2, 4, 5] rfl)
        case hk8 =>
          intro v3_4 v4_5 v5_6 h H locs ls hP hD hS hl
          exact ih _ _ _ h _ _ _ hP hD hS (lv_sub hl [0, 1, 2, 3, 4, 5] rfl)
      · replace h := h.2 c10
        refine lv_iload_n hx hb dX3_hasRun_23 rfl (lv_at hl 3 rfl) ?_
        refine lv_iconst (v := (1 : Int32)) hx hb dX3_hasRun_24 (by decide) ?_
        refine lv_iadd hx hb dX3_hasRun_25 ?_
        refine lv_goto (tgt := 30) hx hb dX3_hasRun_26 (by decide) ?_
        refine lp_X3_hasRun_J2 F hRf hRl hC hSl ?hk8 _ _ _ h _ _ _ hP hD hS (lv_sub hl [0, 1, 2, 4, 5] rfl)
        case hk8 =>
          intro v3_7 v4_8 v5_9 h H locs ls hP hD hS hl
          exact ih _ _ _ h _ _ _ hP hD hS (lv_sub hl [0, 1, 2, 3, 4, 5] rfl)
set_option maxHeartbeats 4000000 in
theorem ct_X3_hasRun {l : Launch} {V : evT} {D : va_G} {gI : Nat → ClassId} {v0 : Int32} {v1 : Int32} {v2 : Int32} {Q : Int32 → Prop} (h : wp_X3_hasRun v0 v1 v2  Q) : ct_i l V D vwCl (tyL gI) yX3_hasRun cX3_hasRun 6 .boolean { frames := 2, cells := 0, slots := 0, locals := 33 } [.int v0, .int v1, .int v2] [] (fun u : Unit => []) (fun (x : Int32) (u : Unit) => Q x) := by
  refine ct_ofi RX3 rfl (by decide +kernel) (Nat.le_of_ble_eq_true rfl) ?_
  intro p e s m args below meth c A F hP hD ls hl
  obtain ⟨⟨hx, hb, hml, hown, hts⟩, hr, hlocks, hA, hK, hE⟩ := id F
  have hS : va_S A s.heap s.heap [] := va_S.rf
  have hl : lv_has ls 6 [(0, .int v0), (1, .int v1), (2, .int v2)] := hl
  have hRf : 2 ≤ ({ frames := 2, cells := 0, slots := 0, locals := 33 } : Room).frames := Nat.le_refl _
  have hRl : 33 ≤ ({ frames := 2, cells := 0, slots := 0, locals := 33 } : Room).locals := Nat.le_refl _
  have hC : 0 ≤ ({ frames := 2, cells := 0, slots := 0, locals := 33 } : Room).cells := Nat.le_refl _
  have hSl : 0 ≤ ({ frames := 2, cells := 0, slots := 0, locals := 33 } : Room).slots := Nat.le_refl _
  unfold wp_X3_hasRun at h
  refine lv_iconst (v := (0 : Int32)) hx hb dX3_hasRun_0 (by decide) ?_
  refine lv_istore_n (lv' := [(3, .int (0 : Int32)), (0, .int v0), (1, .int v1), (2, .int v2)]) hx hb dX3_hasRun_1 rfl hl (by decide) rfl (fun ls hl => ?_)
  refine lv_iconst (v := (0 : Int32)) hx hb dX3_hasRun_2 (by decide) ?_
  refine lv_istore (lv' := [(4, .int (0 : Int32)), (3, .int (0 : Int32)), (0, .int v0), (1, .int v1), (2, .int v2)]) hx hb dX3_hasRun_3 hl (by decide) rfl (fun ls hl => ?_)
  refine lv_iconst (v := (0 : Int32)) hx hb dX3_hasRun_5 (by decide) ?_
  refine lv_istore (lv' := [(5, .int (0 : Int32)), (4, .int (0 : Int32)), (3, .int (0 : Int32)), (0, .int v0), (1, .int v1), (2, .int v2)]) hx hb dX3_hasRun_6 hl (by decide) rfl (fun ls hl => ?_)
  obtain ⟨k8, h⟩ := h
  refine lp_X3_hasRun_L1 F hRf hRl hC hSl ?hk54 k8 _ _ _ h _ _ _ hP hD hS (lv_sub hl [3, 4, 5, 2, 1, 0] rfl)
  case hk54 =>
    intro v4_12 h H locs ls hP hD hS hl
    refine lv_iload hx hb dX3_hasRun_54 (lv_at hl 0 rfl) ?_
    exact rt_i F dX3_hasRun_56 (by rcases h.1 with e | e <;> rw [e] <;> rfl) () h.2 hP hD hS (Nat.le_refl _) (Nat.le_refl _)
set_option maxHeartbeats 4000000 in
theorem lp_X3_isRest_L1 {p : Program} {l : Launch} {e : Env} {R : Room} {s : State} {m : MethodId} {args : Array Value} {below : List Frame} {meth : Method} {c : Code} {cells slots : Nat} {A : Nat → Prop} {Qf : State → Prop} {V : evT} {D : va_G} {gI : Nat → ClassId} {v0 : Int32} {v1 : Int32} {v2 : Int32} {v3 : Int32} {K49 : (Int32) → Prop} (F : ct_F p m c meth cX3_isRest 6 s args RX3 (some .boolean) A V D vwCl (tyL gI)) (hRf : 2 ≤ R.frames) (hRl : 35 ≤ R.locals) (hC : cells ≤ R.cells) (hSl : slots ≤ R.slots)
    (hK49 : ∀ (v4 : Int32), K49 v4 → ∀ (H : Heap) (locs : List Loc) (ls : Array Slot), va_P D vwCl [] H → va_D A [] → va_S A s.heap H locs → lv_has ls 6 [(4, .int v4)] → W p l e R s m args below meth c H locs cells slots Qf (F0 m 49 ls [])) :
    ∀ (n : Nat) (v4 : Int32) (v5 : Int32), wp_X3_isRest_L1 v0 v1 v2 v3 K49 n v4 v5 → ∀ (H : Heap) (locs : List Loc) (ls : Array Slot), va_P D vwCl [] H → va_D A [] → va_S A s.heap H locs → lv_has ls 6 [(0, .int v0), (1, .int v1), (2, .int v2), (3, .int v3), (4, .int v4), (5, .int v5)] → W p l e R s m args below meth c H locs cells slots Qf (F0 m 6 ls []) := by
  obtain ⟨⟨hx, hb, hml, hown, hts⟩, hr, hlocks, hA, hK, hE⟩ := id F
  intro n
  induction n with
  | zero => intro v4 v5 h; exact h.elim
  | succ n ih =>
    intro v4 v5 h H locs ls hP hD hS hl
    unfold wp_X3_isRest_L1 at h
    refine lv_iload hx hb dX3_isRest_6 (lv_at hl 5 rfl) ?_
    refine lv_bipush (v := (9 : Int32)) hx hb dX3_isRest_8 (by decide) ?_
    refine lv_icmp_gt (tgt := 49) hx hb dX3_isRest_10 (by decide) (fun c5 => ?_) (fun c5 => ?_)
    · replace h := h.1 c5
      exact hK49 _ h _ _ _ hP hD hS (lv_sub hl [4] rfl)
    · replace h := h.2 c5
      refine lv_iload hx hb dX3_isRest_13 (lv_at hl 4 rfl) ?_
      refine lv_if_eq (tgt := 40) hx hb dX3_isRest_15 (by decide) (fun c4 => ?_) (fun c4 => ?_)
      · replace h := h.1 c4
        refine lv_iconst (v := (0 : Int32)) hx hb dX3_isRest_40 (by decide) ?_
        refine lv_istore (lv' := [(4, .int (0 : Int32)), (0, .int v0), (1, .int v1), (2, .int v2), (3, .int v3), (5, .int v5)]) hx hb dX3_isRest_41 hl (by decide) rfl (fun ls hl => ?_)
        refine lv_iinc (v := (v5 + (1 : Int32))) (lv' := [(5, .int (v5 + (1 : Int32))), (4, .int (0 : Int32)), (0, .int v0), (1, .int v1), (2, .int v2), (3, .int v3)]) hx hb dX3_isRest_43 hl (k := 5) rfl rfl (by decide) rfl (fun ls hl => ?_)
        refine lv_goto (tgt := 6) hx hb dX3_isRest_46 (by decide) ?_
        exact ih _ _ h _ _ _ hP hD hS (lv_sub hl [2, 3, 4, 5, 1, 0] rfl)
      · replace h := h.2 c4
        refine lv_iload hx hb dX3_isRest_18 (lv_at hl 5 rfl) ?_
        refine lv_iload_n hx hb dX3_isRest_20 rfl (lv_at hl 1 rfl) ?_
        refine lv_iload_n hx hb dX3_isRest_21 rfl (lv_at hl 2 rfl) ?_
        refine lv_iload_n hx hb dX3_isRest_22 rfl (lv_at hl 3 rfl) ?_
        refine cl_i0 F (va_runS (As := [.int v5, .int v1, .int v2, .int v3]) (rest := []) ⟨hx, hb, hml, hown, hts⟩ (ct_X3_earns h _) (va_cwS 4 hts (lw_S q1833 q1834 q97 q1835) rfl rfl rfl (by decide +kernel) ⟨Nat.le_trans (Nat.le_of_ble_eq_true rfl) hRf, Nat.le_trans (Nat.le_of_ble_eq_true rfl) hRl⟩) ⟨ct_blind, ct_at F hS ct_nP ct_nD⟩ rfl rfl hl.1 rfl (lv_room (Nat.le_of_ble_eq_true rfl)) dX3_isRest_23 ⟨hC, hSl⟩) rfl rfl hP hS ?_
        rintro x1 _ H locs h hP hS
        refine lv_iload_n hx hb dX3_isRest_26 rfl (lv_at hl 0 rfl) ?_
        refine lv_iload_n hx hb dX3_isRest_27 rfl (lv_at hl 1 rfl) ?_
        refine lv_iload_n hx hb dX3_isRest_28 rfl (lv_at hl 2 rfl) ?_
        refine lv_iload_n hx hb dX3_isRest_29 rfl (lv_at hl 3 rfl) ?_
        refine cl_i0 F (va_runS (As := [.int v0, .int v1, .int v2, .int v3]) (rest := [.int x1]) ⟨hx, hb, hml, hown, hts⟩ (ct_X3_earns h _) (va_cwS 4 hts (lw_S q1833 q1834 q97 q1835) rfl rfl rfl (by decide +kernel) ⟨Nat.le_trans (Nat.le_of_ble_eq_true rfl) hRf, Nat.le_trans (Nat.le_of_ble_eq_true rfl) hRl⟩) ⟨ct_blind, ct_at F hS ct_nP ct_nD⟩ rfl rfl hl.1 rfl (lv_room (Nat.le_of_ble_eq_true rfl)) dX3_isRest_30 ⟨hC, hSl⟩) rfl rfl hP hS ?_
        rintro x2 _ H locs h hP hS
        refine lv_icmp_gt (tgt := 40) hx hb dX3_isRest_33 (by decide) (fun c3 => ?_) (fun c3 => ?_)
        · replace h := h.1 c3
          refine lv_iconst (v := (0 : Int32)) hx hb dX3_isRest_40 (by decide) ?_
          refine lv_istore (lv' := [(4, .int (0 : Int32)), (0, .int v0), (1, .int v1), (2, .int v2), (3, .int v3), (5, .int v5)]) hx hb dX3_isRest_41 hl (by decide) rfl (fun ls hl => ?_)
          refine lv_iinc (v := (v5 + (1 : Int32))) (lv' := [(5, .int (v5 + (1 : Int32))), (4, .int (0 : Int32)), (0, .int v0), (1, .int v1), (2, .int v2), (3, .int v3)]) hx hb dX3_isRest_43 hl (k := 5) rfl rfl (by decide) rfl (fun ls hl => ?_)
          refine lv_goto (tgt := 6) hx hb dX3_isRest_46 (by decide) ?_
          exact ih _ _ h _ _ _ hP hD hS (lv_sub hl [2, 3, 4, 5, 1, 0] rfl)
        · replace h := h.2 c3
          refine lv_iconst (v := (1 : Int32)) hx hb dX3_isRest_36 (by decide) ?_
          refine lv_goto (tgt := 41) hx hb dX3_isRest_37 (by decide) ?_
          refine lv_istore (lv' := [(4, .int (1 : Int32)), (0, .int v0), (1, .int v1), (2, .int v2), (3, .int v3), (5, .int v5)]) hx hb dX3_isRest_41 hl (by decide) rfl (fun ls hl => ?_)
          refine lv_iinc (v := (v5 + (1 : Int32))) (lv' := [(5, .int (v5 + (1 : Int32))), (4, .int (1 : Int32)), (0, .int v0), (1, .int v1), (2, .int v2), (3, .int v3)]) hx hb dX3_isRest_43 hl (k := 5) rfl rfl (by decide) rfl (fun ls hl => ?_)
          refine lv_goto (tgt := 6) hx hb dX3_isRest_46 (by decide) ?_
          exact ih _ _ h _ _ _ hP hD hS (lv_sub hl [2, 3, 4, 5, 1, 0] rfl)
set_option maxHeartbeats 4000000 in
theorem ct_X3_isRest {l : Launch} {V : evT} {D : va_G} {gI : Nat → ClassId} {v0 : Int32} {v1 : Int32} {v2 : Int32} {v3 : Int32} {Q : Int32 → Prop} (h : wp_X3_isRest v0 v1 v2 v3  Q) : ct_i l V D vwCl (tyL gI) yX3_isRest cX3_isRest 6 .boolean { frames := 2, cells := 0, slots := 0, locals := 35 } [.int v0, .int v1, .int v2, .int v3] [] (fun u : Unit => []) (fun (x : Int32) (u : Unit) => Q x) := by
  refine ct_ofi RX3 rfl (by decide +kernel) (Nat.le_of_ble_eq_true rfl) ?_
  intro p e s m args below meth c A F hP hD ls hl
  obtain ⟨⟨hx, hb, hml, hown, hts⟩, hr, hlocks, hA, hK, hE⟩ := id F
  have hS : va_S A s.heap s.heap [] := va_S.rf
  have hl : lv_has ls 6 [(0, .int v0), (1, .int v1), (2, .int v2), (3, .int v3)] := hl
  have hRf : 2 ≤ ({ frames := 2, cells := 0, slots := 0, locals := 35 } : Room).frames := Nat.le_refl _
  have hRl : 35 ≤ ({ frames := 2, cells := 0, slots := 0, locals := 35 } : Room).locals := Nat.le_refl _
  have hC : 0 ≤ ({ frames := 2, cells := 0, slots := 0, locals := 35 } : Room).cells := Nat.le_refl _
  have hSl : 0 ≤ ({ frames := 2, cells := 0, slots := 0, locals := 35 } : Room).slots := Nat.le_refl _
  unfold wp_X3_isRest at h
  refine lv_iconst (v := (1 : Int32)) hx hb dX3_isRest_0 (by decide) ?_
  refine lv_istore (lv' := [(4, .int (1 : Int32)), (0, .int v0), (1, .int v1), (2, .int v2), (3, .int v3)]) hx hb dX3_isRest_1 hl (by decide) rfl (fun ls hl => ?_)
  refine lv_iconst (v := (0 : Int32)) hx hb dX3_isRest_3 (by decide) ?_
  refine lv_istore (lv' := [(5, .int (0 : Int32)), (4, .int (1 : Int32)), (0, .int v0), (1, .int v1), (2, .int v2), (3, .int v3)]) hx hb dX3_isRest_4 hl (by decide) rfl (fun ls hl => ?_)
  obtain ⟨k6, h⟩ := h
  refine lp_X3_isRest_L1 F hRf hRl hC hSl ?hk49 k6 _ _ h _ _ _ hP hD hS (lv_sub hl [2, 3, 4, 5, 1, 0] rfl)
  case hk49 =>
    intro v4_6 h H locs ls hP hD hS hl
    refine lv_iload hx hb dX3_isRest_49 (lv_at hl 0 rfl) ?_
    exact rt_i F dX3_isRest_51 (by rcases h.1 with e | e <;> rw [e] <;> rfl) () h.2 hP hD hS (Nat.le_refl _) (Nat.le_refl _)
set_option maxHeartbeats 4000000 in
theorem lp_M_keep_L1 {p : Program} {l : Launch} {e : Env} {R : Room} {s : State} {m : MethodId} {args : Array Value} {below : List Frame} {meth : Method} {c : Code} {cells slots : Nat} {A : Nat → Prop} {Qf : State → Prop} {V : evT} {D : va_G} {gI : Nat → ClassId} {o : Nat} {ad : Nat → Nat} {v1 : Int32} {fd : Nat → Int32} {lw : Nat → Int64} {K67 : (Nat → Nat → Int32) → Prop} (F : ct_F p m c meth cX3_keep 3 s args RX3 (some .boolean) A V D vwCl (tyL gI)) (hRf : 2 ≤ R.frames) (hRl : 37 ≤ R.locals) (hC : cells ≤ R.cells) (hSl : slots ≤ R.slots)
    (hK67 : ∀ (ar : Nat → Nat → Int32), K67 ar → ∀ (H : Heap) (locs : List Loc) (ls : Array Slot), va_P D vwCl (wm gI o ad fd ar lw) H → va_D A (wm gI o ad fd ar lw) → va_S A s.heap H locs → lv_has ls 3 [] → W p l e R s m args below meth c H locs cells slots Qf (F0 m 67 ls [])) :
    ∀ (n : Nat) (v2 : Int32) (ar : Nat → Nat → Int32), wp_M_keep_L1 v1 fd lw K67 n v2 ar → ∀ (H : Heap) (locs : List Loc) (ls : Array Slot), va_P D vwCl (wm gI o ad fd ar lw) H → va_D A (wm gI o ad fd ar lw) → va_S A s.heap H locs → lv_has ls 3 [(0, .ref o), (1, .int v1), (2, .int v2)] → W p l e R s m args below meth c H locs cells slots Qf (F0 m 38 ls []) := by
  obtain ⟨⟨hx, hb, hml, hown, hts⟩, hr, hlocks, hA, hK, hE⟩ := id F
  intro n
  induction n with
  | zero => intro v2 ar h; exact h.elim
  | succ n ih =>
    intro v2 ar h H locs ls hP hD hS hl
    unfold wp_M_keep_L1 at h
    refine lv_iload_n hx hb dX3_keep_38 rfl (lv_at hl 2 rfl) ?_
    refine lv_bipush (v := (43 : Int32)) hx hb dX3_keep_39 (by decide) ?_
    refine lv_icmp_ge (tgt := 67) hx hb dX3_keep_41 (by decide) (fun c2 => ?_) (fun c2 => ?_)
    · replace h := h.1 c2
      exact hK67 _ h _ _ _ hP hD hS (lv_sub hl [] rfl)
    · replace h := h.2 c2
      refine lv_aload_n hx hb dX3_keep_44 rfl (lv_at hl 0 rfl) ?_
      refine va_get hx hb hts in_X3 hown hK hP 0 rfl rfl 52 (Nat.le_of_ble_eq_true rfl) (hts _ q1270) (fun _ h => h) (v := .ref (ad 52)) rfl dX3_keep_45 ?_
      refine lv_bipush (v := (43 : Int32)) hx hb dX3_keep_48 (by decide) ?_
      refine lv_iload_n hx hb dX3_keep_50 rfl (lv_at hl 1 rfl) ?_
      refine lv_imul hx hb dX3_keep_51 ?_
      refine lv_iload_n hx hb dX3_keep_52 rfl (lv_at hl 2 rfl) ?_
      refine lv_iadd hx hb dX3_keep_53 ?_
      refine lv_aload_n hx hb dX3_keep_54 rfl (lv_at hl 0 rfl) ?_
      refine va_get hx hb hts in_X3 hown hK hP 0 rfl rfl 12 (Nat.le_of_ble_eq_true rfl) (hts _ q1230) (fun _ h => h) (v := .ref (ad 12)) rfl dX3_keep_55 ?_
      refine lv_iload_n hx hb dX3_keep_58 rfl (lv_at hl 2 rfl) ?_
      refine va_iald (f := (ar 12)) hx hb hK hP 8 0 rfl rfl h.1 dX3_keep_59 ?_
      replace h := h.2
      refine pt_iast (f := (ar 52)) hx hb hK hP hD hS 32 0 rfl rfl h.1 dX3_keep_60 wmA_52 (fun H locs hP hD hS => ?_)
      replace h := h.2
      refine lv_iinc (v := (v2 + (1 : Int32))) (lv' := [(2, .int (v2 + (1 : Int32))), (0, .ref o), (1, .int v1)]) hx hb dX3_keep_61 hl (k := 2) rfl rfl (by decide) rfl (fun ls hl => ?_)
      refine lv_goto (tgt := 38) hx hb dX3_keep_64 (by decide) ?_
      exact ih _ _ h _ _ _ hP hD hS (lv_sub hl [1, 2, 0] rfl)
set_option maxHeartbeats 4000000 in
theorem ct_M_keep {l : Launch} {V : evT} {D : va_G} {gI : Nat → ClassId} {o : Nat} {ad : Nat → Nat} {v1 : Int32} {fd : Nat → Int32} {ar : Nat → Nat → Int32} {lw : Nat → Int64} {Q : Int32 → (Nat → Int32) → (Nat → Nat → Int32) → Prop} (h : wp_M_keep v1 fd ar lw Q) : ct_i l V D vwCl (tyL gI) yX3_keep cX3_keep 3 .boolean { frames := 2, cells := 0, slots := 0, locals := 37 } [.ref o, .int v1] (wm gI o ad fd ar lw) (fun u : (Nat → Int32) × (Nat → Nat → Int32) => (wm gI o ad u.1 u.2 lw)) (fun (x : Int32) (u : (Nat → Int32) × (Nat → Nat → Int32)) => Q x u.1 u.2) := by
  refine ct_ofi RX3 rfl (by decide +kernel) (Nat.le_of_ble_eq_true rfl) ?_
  intro p e s m args below meth c A F hP hD ls hl
  obtain ⟨⟨hx, hb, hml, hown, hts⟩, hr, hlocks, hA, hK, hE⟩ := id F
  have hS : va_S A s.heap s.heap [] := va_S.rf
  have hl : lv_has ls 3 [(0, .ref o), (1, .int v1)] := hl
  have hRf : 2 ≤ ({ frames := 2, cells := 0, slots := 0, locals := 37 } : Room).frames := Nat.le_refl _
  have hRl : 37 ≤ ({ frames := 2, cells := 0, slots := 0, locals := 37 } : Room).locals := Nat.le_refl _
  have hC : 0 ≤ ({ frames := 2, cells := 0, slots := 0, locals := 37 } : Room).cells := Nat.le_refl _
  have hSl : 0 ≤ ({ frames := 2, cells := 0, slots := 0, locals := 37 } : Room).slots := Nat.le_refl _
  unfold wp_M_keep at h
  refine lv_aload_n hx hb dX3_keep_0 rfl (lv_at hl 0 rfl) ?_
  refine lv_iconst (v := (0 : Int32)) hx hb dX3_keep_1 (by decide) ?_
  refine pt_put (v := .int (0 : Int32)) hx hb hts in_X3 tyX3 tyX3_ok nmX3 hown hK hP hD hS 0 rfl rfl 0 (Nat.le_of_ble_eq_true rfl) (hts _ q1218) (fun _ h => h) rfl (ty := .int) (by decide +kernel) rfl rfl (Nat.le_of_ble_eq_true rfl) dX3_keep_2 wmF_0 (fun H locs hP hD hS => ?_)
  refine lv_iload_n hx hb dX3_keep_5 rfl (lv_at hl 1 rfl) ?_
  refine lv_i2l (v := (v1.toInt64)) hx hb dX3_keep_6 rfl ?_
  refine lv_lconst (v := (0 : Int64)) hx hb dX3_keep_7 (by decide) ?_
  refine lv_ldc2 (v := (2 : Int64)) hx hb hown (hts _ q1849) dX3_keep_8 ?_
  refine cl_i0 F (va_runS (As := [.long (v1.toInt64), .long (0 : Int64), .long (2 : Int64)]) (rest := []) ⟨hx, hb, hml, hown, hts⟩ (ct_X3_in h _) (va_cwS 3 hts (lw_S q1391 q1392 q97 q1393) rfl rfl rfl (by decide +kernel) ⟨Nat.le_trans (Nat.le_of_ble_eq_true rfl) hRf, Nat.le_trans (Nat.le_of_ble_eq_true rfl) hRl⟩) ⟨ct_blind, ct_at F hS ct_nP ct_nD⟩ rfl rfl hl.1 rfl (lv_room (Nat.le_of_ble_eq_true rfl)) dX3_keep_11 ⟨hC, hSl⟩) rfl rfl hP hS ?_
  rintro x1 _ H locs h hP hS
  refine lv_if_ne (tgt := 19) hx hb dX3_keep_14 (by decide) (fun c4 => ?_) (fun c4 => ?_)
  · replace h := h.1 c4
    refine lv_aload_n hx hb dX3_keep_19 rfl (lv_at hl 0 rfl) ?_
    refine va_get hx hb hts in_X3 hown hK hP 0 rfl rfl 50 (Nat.le_of_ble_eq_true rfl) (hts _ q1268) (fun _ h => h) (v := .ref (ad 50)) rfl dX3_keep_20 ?_
    refine lv_iload_n hx hb dX3_keep_23 rfl (lv_at hl 1 rfl) ?_
    refine lv_iconst (v := (1 : Int32)) hx hb dX3_keep_24 (by decide) ?_
    refine pt_zast (f := (ar 50)) hx hb hK hP hD hS 30 2 rfl rfl h.1 dX3_keep_25 wmA_50 (fun H locs hP hD hS => ?_)
    replace h := h.2
    refine lv_aload_n hx hb dX3_keep_26 rfl (lv_at hl 0 rfl) ?_
    refine va_get hx hb hts in_X3 hown hK hP 0 rfl rfl 51 (Nat.le_of_ble_eq_true rfl) (hts _ q1269) (fun _ h => h) (v := .ref (ad 51)) rfl dX3_keep_27 ?_
    refine lv_iload_n hx hb dX3_keep_30 rfl (lv_at hl 1 rfl) ?_
    refine lv_aload_n hx hb dX3_keep_31 rfl (lv_at hl 0 rfl) ?_
    refine va_get hx hb hts in_X3 hown hK hP 0 rfl rfl 5 (Nat.le_of_ble_eq_true rfl) (hts _ q1223) (fun _ h => h) (v := .int (fd 5)) rfl dX3_keep_32 ?_
    refine pt_iast (f := (ar 51)) hx hb hK hP hD hS 31 0 rfl rfl h.1 dX3_keep_35 wmA_51 (fun H locs hP hD hS => ?_)
    replace h := h.2
    refine lv_iconst (v := (0 : Int32)) hx hb dX3_keep_36 (by decide) ?_
    refine lv_istore_n (lv' := [(2, .int (0 : Int32)), (0, .ref o), (1, .int v1)]) hx hb dX3_keep_37 rfl hl (by decide) rfl (fun ls hl => ?_)
    obtain ⟨k38, h⟩ := h
    refine lp_M_keep_L1 F hRf hRl hC hSl ?hk67 k38 _ _ h _ _ _ hP hD hS (lv_sub hl [1, 2, 0] rfl)
    case hk67 =>
      intro ar_3 h H locs ls hP hD hS hl
      refine lv_iconst (v := (1 : Int32)) hx hb dX3_keep_67 (by decide) ?_
      exact rt_i F dX3_keep_68 rfl ((upd fd 0 (0 : Int32)), ar_3) h hP hD hS (Nat.le_refl _) (Nat.le_refl _)
  · replace h := h.2 c4
    refine lv_iconst (v := (0 : Int32)) hx hb dX3_keep_17 (by decide) ?_
    exact rt_i F dX3_keep_18 rfl ((upd fd 0 (0 : Int32)), ar) h hP hD hS (Nat.le_refl _) (Nat.le_refl _)
set_option maxHeartbeats 4000000 in
theorem lp_M_again_L1 {p : Program} {l : Launch} {e : Env} {R : Room} {s : State} {m : MethodId} {args : Array Value} {below : List Frame} {meth : Method} {c : Code} {cells slots : Nat} {A : Nat → Prop} {Qf : State → Prop} {V : evT} {D : va_G} {gI : Nat → ClassId} {o : Nat} {ad : Nat → Nat} {v1 : Int32} {fd : Nat → Int32} {lw : Nat → Int64} {K72 : (Nat → Nat → Int32) → Prop} (F : ct_F p m c meth cX3_again 3 s args RX3 (some .boolean) A V D vwCl (tyL gI)) (hRf : 2 ≤ R.frames) (hRl : 37 ≤ R.locals) (hC : cells ≤ R.cells) (hSl : slots ≤ R.slots)
    (hK72 : ∀ (ar : Nat → Nat → Int32), K72 ar → ∀ (H : Heap) (locs : List Loc) (ls : Array Slot), va_P D vwCl (wm gI o ad fd ar lw) H → va_D A (wm gI o ad fd ar lw) → va_S A s.heap H locs → lv_has ls 3 [(0, .ref o)] → W p l e R s m args below meth c H locs cells slots Qf (F0 m 72 ls [])) :
    ∀ (n : Nat) (v2 : Int32) (ar : Nat → Nat → Int32), wp_M_again_L1 v1 fd lw K72 n v2 ar → ∀ (H : Heap) (locs : List Loc) (ls : Array Slot), va_P D vwCl (wm gI o ad fd ar lw) H → va_D A (wm gI o ad fd ar lw) → va_S A s.heap H locs → lv_has ls 3 [(0, .ref o), (1, .int v1), (2, .int v2)] → W p l e R s m args below meth c H locs cells slots Qf (F0 m 43 ls []) := by
  obtain ⟨⟨hx, hb, hml, hown, hts⟩, hr, hlocks, hA, hK, hE⟩ := id F
  intro n
  induction n with
  | zero => intro v2 ar h; exact h.elim
  | succ n ih =>
    intro v2 ar h H locs ls hP hD hS hl
    unfold wp_M_again_L1 at h
    refine lv_iload_n hx hb dX3_again_43 rfl (lv_at hl 2 rfl) ?_
    refine lv_bipush (v := (43 : Int32)) hx hb dX3_again_44 (by decide) ?_
    refine lv_icmp_ge (tgt := 72) hx hb dX3_again_46 (by decide) (fun c2 => ?_) (fun c2 => ?_)
    · replace h := h.1 c2
      exact hK72 _ h _ _ _ hP hD hS (lv_sub hl [0] rfl)
    · replace h := h.2 c2
      refine lv_aload_n hx hb dX3_again_49 rfl (lv_at hl 0 rfl) ?_
      refine va_get hx hb hts in_X3 hown hK hP 0 rfl rfl 12 (Nat.le_of_ble_eq_true rfl) (hts _ q1230) (fun _ h => h) (v := .ref (ad 12)) rfl dX3_again_50 ?_
      refine lv_iload_n hx hb dX3_again_53 rfl (lv_at hl 2 rfl) ?_
      refine lv_aload_n hx hb dX3_again_54 rfl (lv_at hl 0 rfl) ?_
      refine va_get hx hb hts in_X3 hown hK hP 0 rfl rfl 52 (Nat.le_of_ble_eq_true rfl) (hts _ q1270) (fun _ h => h) (v := .ref (ad 52)) rfl dX3_again_55 ?_
      refine lv_bipush (v := (43 : Int32)) hx hb dX3_again_58 (by decide) ?_
      refine lv_iload_n hx hb dX3_again_60 rfl (lv_at hl 1 rfl) ?_
      refine lv_imul hx hb dX3_again_61 ?_
      refine lv_iload_n hx hb dX3_again_62 rfl (lv_at hl 2 rfl) ?_
      refine lv_iadd hx hb dX3_again_63 ?_
      refine va_iald (f := (ar 52)) hx hb hK hP 32 0 rfl rfl h.1 dX3_again_64 ?_
      replace h := h.2
      refine pt_iast (f := (ar 12)) hx hb hK hP hD hS 8 0 rfl rfl h.1 dX3_again_65 wmA_12 (fun H locs hP hD hS => ?_)
      replace h := h.2
      refine lv_iinc (v := (v2 + (1 : Int32))) (lv' := [(2, .int (v2 + (1 : Int32))), (0, .ref o), (1, .int v1)]) hx hb dX3_again_66 hl (k := 2) rfl rfl (by decide) rfl (fun ls hl => ?_)
      refine lv_goto (tgt := 43) hx hb dX3_again_69 (by decide) ?_
      exact ih _ _ h _ _ _ hP hD hS (lv_sub hl [1, 2, 0] rfl)
set_option maxHeartbeats 4000000 in
theorem ct_M_again {l : Launch} {V : evT} {D : va_G} {gI : Nat → ClassId} {o : Nat} {ad : Nat → Nat} {v1 : Int32} {fd : Nat → Int32} {ar : Nat → Nat → Int32} {lw : Nat → Int64} {Q : Int32 → (Nat → Int32) → (Nat → Nat → Int32) → Prop} (h : wp_M_again v1 fd ar lw Q) : ct_i l V D vwCl (tyL gI) yX3_again cX3_again 3 .boolean { frames := 2, cells := 0, slots := 0, locals := 37 } [.ref o, .int v1] (wm gI o ad fd ar lw) (fun u : (Nat → Int32) × (Nat → Nat → Int32) => (wm gI o ad u.1 u.2 lw)) (fun (x : Int32) (u : (Nat → Int32) × (Nat → Nat → Int32)) => Q x u.1 u.2) := by
  refine ct_ofi RX3 rfl (by decide +kernel) (Nat.le_of_ble_eq_true rfl) ?_
  intro p e s m args below meth c A F hP hD ls hl
  obtain ⟨⟨hx, hb, hml, hown, hts⟩, hr, hlocks, hA, hK, hE⟩ := id F
  have hS : va_S A s.heap s.heap [] := va_S.rf
  have hl : lv_has ls 3 [(0, .ref o), (1, .int v1)] := hl
  have hRf : 2 ≤ ({ frames := 2, cells := 0, slots := 0, locals := 37 } : Room).frames := Nat.le_refl _
  have hRl : 37 ≤ ({ frames := 2, cells := 0, slots := 0, locals := 37 } : Room).locals := Nat.le_refl _
  have hC : 0 ≤ ({ frames := 2, cells := 0, slots := 0, locals := 37 } : Room).cells := Nat.le_refl _
  have hSl : 0 ≤ ({ frames := 2, cells := 0, slots := 0, locals := 37 } : Room).slots := Nat.le_refl _
  unfold wp_M_again at h
  refine lv_aload_n hx hb dX3_again_0 rfl (lv_at hl 0 rfl) ?_
  refine lv_iconst (v := (0 : Int32)) hx hb dX3_again_1 (by decide) ?_
  refine pt_put (v := .int (0 : Int32)) hx hb hts in_X3 tyX3 tyX3_ok nmX3 hown hK hP hD hS 0 rfl rfl 0 (Nat.le_of_ble_eq_true rfl) (hts _ q1218) (fun _ h => h) rfl (ty := .int) (by decide +kernel) rfl rfl (Nat.le_of_ble_eq_true rfl) dX3_again_2 wmF_0 (fun H locs hP hD hS => ?_)
  refine lv_iload_n hx hb dX3_again_5 rfl (lv_at hl 1 rfl) ?_
  refine lv_i2l (v := (v1.toInt64)) hx hb dX3_again_6 rfl ?_
  refine lv_lconst (v := (0 : Int64)) hx hb dX3_again_7 (by decide) ?_
  refine lv_ldc2 (v := (2 : Int64)) hx hb hown (hts _ q1849) dX3_again_8 ?_
  refine cl_i0 F (va_runS (As := [.long (v1.toInt64), .long (0 : Int64), .long (2 : Int64)]) (rest := []) ⟨hx, hb, hml, hown, hts⟩ (ct_X3_in h _) (va_cwS 3 hts (lw_S q1391 q1392 q97 q1393) rfl rfl rfl (by decide +kernel) ⟨Nat.le_trans (Nat.le_of_ble_eq_true rfl) hRf, Nat.le_trans (Nat.le_of_ble_eq_true rfl) hRl⟩) ⟨ct_blind, ct_at F hS ct_nP ct_nD⟩ rfl rfl hl.1 rfl (lv_room (Nat.le_of_ble_eq_true rfl)) dX3_again_11 ⟨hC, hSl⟩) rfl rfl hP hS ?_
  rintro x1 _ H locs h hP hS
  refine lv_if_eq (tgt := 39) hx hb dX3_again_14 (by decide) (fun c6 => ?_) (fun c6 => ?_)
  · replace h := h.1 c6
    refine lv_iconst (v := (0 : Int32)) hx hb dX3_again_39 (by decide) ?_
    exact rt_i F dX3_again_40 rfl ((upd fd 0 (0 : Int32)), ar) h hP hD hS (Nat.le_refl _) (Nat.le_refl _)
  · replace h := h.2 c6
    refine lv_aload_n hx hb dX3_again_17 rfl (lv_at hl 0 rfl) ?_
    refine va_get hx hb hts in_X3 hown hK hP 0 rfl rfl 50 (Nat.le_of_ble_eq_true rfl) (hts _ q1268) (fun _ h => h) (v := .ref (ad 50)) rfl dX3_again_18 ?_
    refine lv_iload_n hx hb dX3_again_21 rfl (lv_at hl 1 rfl) ?_
    refine va_zald (f := (ar 50)) hx hb hK hP 30 2 rfl rfl h.1 dX3_again_22 ?_
    replace h := h.2
    refine lv_if_eq (tgt := 39) hx hb dX3_again_23 (by decide) (fun c5 => ?_) (fun c5 => ?_)
    · replace h := h.1 c5
      refine lv_iconst (v := (0 : Int32)) hx hb dX3_again_39 (by decide) ?_
      exact rt_i F dX3_again_40 rfl ((upd fd 0 (0 : Int32)), ar) h hP hD hS (Nat.le_refl _) (Nat.le_refl _)
    · replace h := h.2 c5
      refine lv_aload_n hx hb dX3_again_26 rfl (lv_at hl 0 rfl) ?_
      refine va_get hx hb hts in_X3 hown hK hP 0 rfl rfl 51 (Nat.le_of_ble_eq_true rfl) (hts _ q1269) (fun _ h => h) (v := .ref (ad 51)) rfl dX3_again_27 ?_
      refine lv_iload_n hx hb dX3_again_30 rfl (lv_at hl 1 rfl) ?_
      refine va_iald (f := (ar 51)) hx hb hK hP 31 0 rfl rfl h.1 dX3_again_31 ?_
      replace h := h.2
      refine lv_aload_n hx hb dX3_again_32 rfl (lv_at hl 0 rfl) ?_
      refine va_get hx hb hts in_X3 hown hK hP 0 rfl rfl 5 (Nat.le_of_ble_eq_true rfl) (hts _ q1223) (fun _ h => h) (v := .int (fd 5)) rfl dX3_again_33 ?_
      refine lv_icmp_eq (tgt := 41) hx hb dX3_again_36 (by decide) (fun c4 => ?_) (fun c4 => ?_)
      · replace h := h.1 c4
        refine lv_iconst (v := (0 : Int32)) hx hb dX3_again_41 (by decide) ?_
        refine lv_istore_n (lv' := [(2, .int (0 : Int32)), (0, .ref o), (1, .int v1)]) hx hb dX3_again_42 rfl hl (by decide) rfl (fun ls hl => ?_)
        obtain ⟨k43, h⟩ := h
        refine lp_M_again_L1 F hRf hRl hC hSl ?hk72 k43 _ _ h _ _ _ hP hD hS (lv_sub hl [1, 2, 0] rfl)
        case hk72 =>
          intro ar_3 h H locs ls hP hD hS hl
          refine lv_aload_n hx hb dX3_again_72 rfl (lv_at hl 0 rfl) ?_
          refine lv_iconst (v := (0 : Int32)) hx hb dX3_again_73 (by decide) ?_
          refine pt_put (v := .int (0 : Int32)) hx hb hts in_X3 tyX3 tyX3_ok nmX3 hown hK hP hD hS 0 rfl rfl 27 (Nat.le_of_ble_eq_true rfl) (hts _ q1245) (fun _ h => h) rfl (ty := .int) (by decide +kernel) rfl rfl (Nat.le_of_ble_eq_true rfl) dX3_again_74 wmF_27 (fun H locs hP hD hS => ?_)
          refine lv_iconst (v := (1 : Int32)) hx hb dX3_again_77 (by decide) ?_
          exact rt_i F dX3_again_78 rfl ((upd (upd fd 0 (0 : Int32)) 27 (0 : Int32)), ar_3) h hP hD hS (Nat.le_refl _) (Nat.le_refl _)
      · replace h := h.2 c4
        refine lv_iconst (v := (0 : Int32)) hx hb dX3_again_39 (by decide) ?_
        exact rt_i F dX3_again_40 rfl ((upd fd 0 (0 : Int32)), ar) h hP hD hS (Nat.le_refl _) (Nat.le_refl _)
set_option maxHeartbeats 4000000 in
theorem ct_M_row {l : Launch} {V : evT} {D : va_G} {gI : Nat → ClassId} {o : Nat} {ad : Nat → Nat} {v1 : Int32} {fd : Nat → Int32} {ar : Nat → Nat → Int32} {lw : Nat → Int64} {Q : Int64 → (Nat → Int32) → Prop} (h : wp_M_row v1 fd ar lw Q) : ct_l l V D vwCl (tyL gI) yX3_row cX3_row 2 { frames := 2, cells := 0, slots := 0, locals := 37 } [.ref o, .int v1] (wm gI o ad fd ar lw) (fun u : (Nat → Int32) => (wm gI o ad u ar lw)) (fun (x : Int64) (u : (Nat → Int32)) => Q x u) := by
  refine ct_ofl RX3 rfl (by decide +kernel) (Nat.le_of_ble_eq_true rfl) ?_
  intro p e s m args below meth c A F hP hD ls hl
  obtain ⟨⟨hx, hb, hml, hown, hts⟩, hr, hlocks, hA, hK, hE⟩ := id F
  have hS : va_S A s.heap s.heap [] := va_S.rf
  have hl : lv_has ls 2 [(0, .ref o), (1, .int v1)] := hl
  have hRf : 2 ≤ ({ frames := 2, cells := 0, slots := 0, locals := 37 } : Room).frames := Nat.le_refl _
  have hRl : 37 ≤ ({ frames := 2, cells := 0, slots := 0, locals := 37 } : Room).locals := Nat.le_refl _
  have hC : 0 ≤ ({ frames := 2, cells := 0, slots := 0, locals := 37 } : Room).cells := Nat.le_refl _
  have hSl : 0 ≤ ({ frames := 2, cells := 0, slots := 0, locals := 37 } : Room).slots := Nat.le_refl _
  unfold wp_M_row at h
  refine lv_aload_n hx hb dX3_row_0 rfl (lv_at hl 0 rfl) ?_
  refine lv_iconst (v := (0 : Int32)) hx hb dX3_row_1 (by decide) ?_
  refine pt_put (v := .int (0 : Int32)) hx hb hts in_X3 tyX3 tyX3_ok nmX3 hown hK hP hD hS 0 rfl rfl 0 (Nat.le_of_ble_eq_true rfl) (hts _ q1218) (fun _ h => h) rfl (ty := .int) (by decide +kernel) rfl rfl (Nat.le_of_ble_eq_true rfl) dX3_row_2 wmF_0 (fun H locs hP hD hS => ?_)
  refine lv_iload_n hx hb dX3_row_5 rfl (lv_at hl 1 rfl) ?_
  refine lv_i2l (v := (v1.toInt64)) hx hb dX3_row_6 rfl ?_
  refine lv_lconst (v := (0 : Int64)) hx hb dX3_row_7 (by decide) ?_
  refine lv_aload_n hx hb dX3_row_8 rfl (lv_at hl 0 rfl) ?_
  refine va_get hx hb hts in_X3 hown hK hP 0 rfl rfl 1 (Nat.le_of_ble_eq_true rfl) (hts _ q1219) (fun _ h => h) (v := .int (fd 1)) rfl dX3_row_9 ?_
  refine lv_iconst (v := (1 : Int32)) hx hb dX3_row_12 (by decide) ?_
  refine lv_isub hx hb dX3_row_13 ?_
  refine lv_i2l (v := (((fd 1) - (1 : Int32)).toInt64)) hx hb dX3_row_14 rfl ?_
  refine cl_i0 F (va_runS (As := [.long (v1.toInt64), .long (0 : Int64), .long (((fd 1) - (1 : Int32)).toInt64)]) (rest := []) ⟨hx, hb, hml, hown, hts⟩ (ct_X3_in h _) (va_cwS 3 hts (lw_S q1391 q1392 q97 q1393) rfl rfl rfl (by decide +kernel) ⟨Nat.le_trans (Nat.le_of_ble_eq_true rfl) hRf, Nat.le_trans (Nat.le_of_ble_eq_true rfl) hRl⟩) ⟨ct_blind, ct_at F hS ct_nP ct_nD⟩ rfl rfl hl.1 rfl (lv_room (Nat.le_of_ble_eq_true rfl)) dX3_row_15 ⟨hC, hSl⟩) rfl rfl hP hS ?_
  rintro x1 _ H locs h hP hS
  refine lv_if_ne (tgt := 28) hx hb dX3_row_18 (by decide) (fun c2 => ?_) (fun c2 => ?_)
  · replace h := h.1 c2
    refine lv_aload_n hx hb dX3_row_28 rfl (lv_at hl 0 rfl) ?_
    refine va_get hx hb hts in_X3 hown hK hP 0 rfl rfl 2 (Nat.le_of_ble_eq_true rfl) (hts _ q1220) (fun _ h => h) (v := .ref (ad 2)) rfl dX3_row_29 ?_
    refine lv_iload_n hx hb dX3_row_32 rfl (lv_at hl 1 rfl) ?_
    refine va_lald (f := lw) hx hb hK hP 1 1 rfl rfl h.1 dX3_row_33 ?_
    replace h := h.2
    exact rt_l F dX3_row_34 ((upd fd 0 (0 : Int32))) h hP hD hS (Nat.le_refl _) (Nat.le_refl _)
  · replace h := h.2 c2
    refine lv_aload_n hx hb dX3_row_21 rfl (lv_at hl 0 rfl) ?_
    refine lv_iconst (v := (1 : Int32)) hx hb dX3_row_22 (by decide) ?_
    refine pt_put (v := .int (1 : Int32)) hx hb hts in_X3 tyX3 tyX3_ok nmX3 hown hK hP hD hS 0 rfl rfl 0 (Nat.le_of_ble_eq_true rfl) (hts _ q1218) (fun _ h => h) rfl (ty := .int) (by decide +kernel) rfl rfl (Nat.le_of_ble_eq_true rfl) dX3_row_23 (wmF_0.trans (wmrF (up_rm0 ..))) (fun H locs hP hD hS => ?_)
    refine lv_lconst (v := (0 : Int64)) hx hb dX3_row_26 (by decide) ?_
    exact rt_l F dX3_row_27 ((upd fd 0 (1 : Int32))) h hP hD hS (Nat.le_refl _) (Nat.le_refl _)
set_option maxHeartbeats 4000000 in
theorem lp_M_number_L1 {p : Program} {l : Launch} {e : Env} {R : Room} {s : State} {m : MethodId} {args : Array Value} {below : List Frame} {meth : Method} {c : Code} {cells slots : Nat} {A : Nat → Prop} {Qf : State → Prop} {V : evT} {D : va_G} {gI : Nat → ClassId} {o : Nat} {ad : Nat → Nat} {v1 : Int32} {ar : Nat → Nat → Int32} {lw : Nat → Int64} {K59 : (Int32) → (Nat → Int32) → Prop} (F : ct_F p m c meth cX3_number 4 s args RX3 (some .int) A V D vwCl (tyL gI)) (hRf : 3 ≤ R.frames) (hRl : 57 ≤ R.locals) (hC : cells ≤ R.cells) (hSl : slots ≤ R.slots)
    (hK59 : ∀ (v2 : Int32) (fd : Nat → Int32), K59 v2 fd → ∀ (H : Heap) (locs : List Loc) (ls : Array Slot), va_P D vwCl (wm gI o ad fd ar lw) H → va_D A (wm gI o ad fd ar lw) → va_S A s.heap H locs → lv_has ls 4 [(2, .int v2)] → W p l e R s m args below meth c H locs cells slots Qf (F0 m 59 ls [])) :
    ∀ (n : Nat) (v2 : Int32) (v3 : Int32) (fd : Nat → Int32), wp_M_number_L1 v1 ar lw K59 n v2 v3 fd → ∀ (H : Heap) (locs : List Loc) (ls : Array Slot), va_P D vwCl (wm gI o ad fd ar lw) H → va_D A (wm gI o ad fd ar lw) → va_S A s.heap H locs → lv_has ls 4 [(0, .ref o), (1, .int v1), (2, .int v2), (3, .int v3)] → W p l e R s m args below meth c H locs cells slots Qf (F0 m 13 ls []) := by
  obtain ⟨⟨hx, hb, hml, hown, hts⟩, hr, hlocks, hA, hK, hE⟩ := id F
  intro n
  induction n with
  | zero => intro v2 v3 fd h; exact h.elim
  | succ n ih =>
    intro v2 v3 fd h H locs ls hP hD hS hl
    unfold wp_M_number_L1 at h
    refine lv_iload_n hx hb dX3_number_13 rfl (lv_at hl 3 rfl) ?_
    refine lv_iload_n hx hb dX3_number_14 rfl (lv_at hl 1 rfl) ?_
    refine lv_icmp_ge (tgt := 59) hx hb dX3_number_15 (by decide) (fun c5 => ?_) (fun c5 => ?_)
    · replace h := h.1 c5
      exact hK59 _ _ h _ _ _ hP hD hS (lv_sub hl [2] rfl)
    · replace h := h.2 c5
      refine lv_aload_n hx hb dX3_number_18 rfl (lv_at hl 0 rfl) ?_
      refine cl_i F (va_runV (As := []) (rest := []) ⟨hx, hb, hml, hown, hts⟩ (ct_M_isDigit h _) (cwV 0 hts (lw_V q1414 q1416 qs39 q97 q1417) rfl rfl rfl (by decide +kernel) ⟨Nat.le_trans (Nat.le_of_ble_eq_true rfl) hRf, Nat.le_trans (Nat.le_of_ble_eq_true rfl) hRl⟩) ⟨ct_blind, va_recv hK hP (ci := 2) (q0 := 0) rfl rfl, ct_at F hS hP hD⟩ rfl rfl hl.1 rfl (lv_room (Nat.le_of_ble_eq_true rfl)) dX3_number_19 ⟨hC, hSl⟩) rfl rfl hD hS ?_
      rintro x2 _ H locs h hP hD hS
      refine lv_if_eq (tgt := 59) hx hb dX3_number_22 (by decide) (fun c4 => ?_) (fun c4 => ?_)
      · replace h := h.1 c4
        exact hK59 _ _ h _ _ _ hP hD hS (lv_sub hl [2] rfl)
      · replace h := h.2 c4
        refine lv_bipush (v := (10 : Int32)) hx hb dX3_number_25 (by decide) ?_
        refine lv_iload_n hx hb dX3_number_27 rfl (lv_at hl 2 rfl) ?_
        refine lv_imul hx hb dX3_number_28 ?_
        refine lv_aload_n hx hb dX3_number_29 rfl (lv_at hl 0 rfl) ?_
        refine va_get hx hb hts in_X3 hown hK hP 0 rfl rfl 14 (Nat.le_of_ble_eq_true rfl) (hts _ q1232) (fun _ h => h) (v := .ref (ad 14)) rfl dX3_number_30 ?_
        refine lv_aload_n hx hb dX3_number_33 rfl (lv_at hl 0 rfl) ?_
        refine va_get hx hb hts in_X3 hown hK hP 0 rfl rfl 16 (Nat.le_of_ble_eq_true rfl) (hts _ q1234) (fun _ h => h) (v := .int (fd 16)) rfl dX3_number_34 ?_
        refine va_iald (f := (ar 14)) hx hb hK hP 10 0 rfl rfl h.1 dX3_number_37 ?_
        replace h := h.2
        refine lv_iadd hx hb dX3_number_38 ?_
        refine lv_bipush (v := (48 : Int32)) hx hb dX3_number_39 (by decide) ?_
        refine lv_isub hx hb dX3_number_41 ?_
        refine lv_topi (fun x3 ex3 => ?_)
        replace h := h x3 ex3
        refine lv_istore_n (lv' := [(2, .int x3), (0, .ref o), (1, .int v1), (3, .int v3)]) hx hb dX3_number_42 rfl hl (by decide) rfl (fun ls hl => ?_)
        refine lv_aload_n hx hb dX3_number_43 rfl (lv_at hl 1 rfl) ?_
        refine lv_dup hx hb dX3_number_44 rfl ?_
        refine va_get hx hb hts in_X3 hown hK hP 0 rfl rfl 16 (Nat.le_of_ble_eq_true rfl) (hts _ q1234) (fun _ h => h) (v := .int (fd 16)) rfl dX3_number_45 ?_
        refine lv_iconst (v := (1 : Int32)) hx hb dX3_number_48 (by decide) ?_
        refine lv_iadd hx hb dX3_number_49 ?_
        refine pt_put (v := .int ((fd 16) + (1 : Int32))) hx hb hts in_X3 tyX3 tyX3_ok nmX3 hown hK hP hD hS 0 rfl rfl 16 (Nat.le_of_ble_eq_true rfl) (hts _ q1234) (fun _ h => h) rfl (ty := .int) (by decide +kernel) rfl rfl (Nat.le_of_ble_eq_true rfl) dX3_number_50 wmF_16 (fun H locs hP hD hS => ?_)
        refine lv_iinc (v := (v3 + (1 : Int32))) (lv' := [(3, .int (v3 + (1 : Int32))), (2, .int x3), (0, .ref o), (1, .int v1)]) hx hb dX3_number_53 hl (k := 3) rfl rfl (by decide) rfl (fun ls hl => ?_)
        refine lv_goto (tgt := 13) hx hb dX3_number_56 (by decide) ?_
        exact ih _ _ _ h _ _ _ hP hD hS (lv_sub hl [2, 3, 1, 0] rfl)
set_option maxHeartbeats 4000000 in
theorem ct_M_number {l : Launch} {V : evT} {D : va_G} {gI : Nat → ClassId} {o : Nat} {ad : Nat → Nat} {v1 : Int32} {fd : Nat → Int32} {ar : Nat → Nat → Int32} {lw : Nat → Int64} {Q : Int32 → (Nat → Int32) → Prop} (h : wp_M_number v1 fd ar lw Q) : ct_i l V D vwCl (tyL gI) yX3_number cX3_number 4 .int { frames := 3, cells := 0, slots := 0, locals := 57 } [.ref o, .int v1] (wm gI o ad fd ar lw) (fun u : (Nat → Int32) => (wm gI o ad u ar lw)) (fun (x : Int32) (u : (Nat → Int32)) => Q x u) := by
  refine ct_ofi RX3 rfl (by decide +kernel) (Nat.le_of_ble_eq_true rfl) ?_
  intro p e s m args below meth c A F hP hD ls hl
  obtain ⟨⟨hx, hb, hml, hown, hts⟩, hr, hlocks, hA, hK, hE⟩ := id F
  have hS : va_S A s.heap s.heap [] := va_S.rf
  have hl : lv_has ls 4 [(0, .ref o), (1, .int v1)] := hl
  have hRf : 3 ≤ ({ frames := 3, cells := 0, slots := 0, locals := 57 } : Room).frames := Nat.le_refl _
  have hRl : 57 ≤ ({ frames := 3, cells := 0, slots := 0, locals := 57 } : Room).locals := Nat.le_refl _
  have hC : 0 ≤ ({ frames := 3, cells := 0, slots := 0, locals := 57 } : Room).cells := Nat.le_refl _
  have hSl : 0 ≤ ({ frames := 3, cells := 0, slots := 0, locals := 57 } : Room).slots := Nat.le_refl _
  unfold wp_M_number at h
  refine lv_aload_n hx hb dX3_number_0 rfl (lv_at hl 0 rfl) ?_
  refine cl_i F (va_runV (As := []) (rest := []) ⟨hx, hb, hml, hown, hts⟩ (ct_M_isDigit h _) (cwV 0 hts (lw_V q1414 q1416 qs39 q97 q1417) rfl rfl rfl (by decide +kernel) ⟨Nat.le_trans (Nat.le_of_ble_eq_true rfl) hRf, Nat.le_trans (Nat.le_of_ble_eq_true rfl) hRl⟩) ⟨ct_blind, va_recv hK hP (ci := 2) (q0 := 0) rfl rfl, ct_at F hS hP hD⟩ rfl rfl hl.1 rfl (lv_room (Nat.le_of_ble_eq_true rfl)) dX3_number_1 ⟨hC, hSl⟩) rfl rfl hD hS ?_
  rintro x1 _ H locs h hP hD hS
  refine lv_if_ne (tgt := 9) hx hb dX3_number_4 (by decide) (fun c8 => ?_) (fun c8 => ?_)
  · replace h := h.1 c8
    refine lv_iconst (v := (0 : Int32)) hx hb dX3_number_9 (by decide) ?_
    refine lv_istore_n (lv' := [(2, .int (0 : Int32)), (0, .ref o), (1, .int v1)]) hx hb dX3_number_10 rfl hl (by decide) rfl (fun ls hl => ?_)
    refine lv_iconst (v := (0 : Int32)) hx hb dX3_number_11 (by decide) ?_
    refine lv_istore_n (lv' := [(3, .int (0 : Int32)), (2, .int (0 : Int32)), (0, .ref o), (1, .int v1)]) hx hb dX3_number_12 rfl hl (by decide) rfl (fun ls hl => ?_)
    obtain ⟨k13, h⟩ := h
    refine lp_M_number_L1 F hRf hRl hC hSl ?hk59 k13 _ _ _ h _ _ _ hP hD hS (lv_sub hl [2, 3, 1, 0] rfl)
    case hk59 =>
      intro v2_6 fd_7 h H locs ls hP hD hS hl
      refine lv_iload_n hx hb dX3_number_59 rfl (lv_at hl 0 rfl) ?_
      exact rt_i F dX3_number_60 rfl (fd_7) h hP hD hS (Nat.le_refl _) (Nat.le_refl _)
  · replace h := h.2 c8
    refine lv_iconst (v := (-1 : Int32)) hx hb dX3_number_7 (by decide) ?_
    exact rt_i F dX3_number_8 rfl (fd) h hP hD hS (Nat.le_refl _) (Nat.le_refl _)
set_option maxHeartbeats 4000000 in
theorem ct_M_cell {l : Launch} {V : evT} {D : va_G} {gI : Nat → ClassId} {o : Nat} {ad : Nat → Nat} {v1 : Int32} {v2 : Int32} {fd : Nat → Int32} {ar : Nat → Nat → Int32} {lw : Nat → Int64} {Q : Int32 → (Nat → Int32) → Prop} (h : wp_M_cell v1 v2 fd ar lw Q) : ct_i l V D vwCl (tyL gI) yX3_cell cX3_cell 3 .int { frames := 3, cells := 0, slots := 0, locals := 58 } [.ref o, .int v1, .int v2] (wm gI o ad fd ar lw) (fun u : (Nat → Int32) => (wm gI o ad u ar lw)) (fun (x : Int32) (u : (Nat → Int32)) => Q x u) := by
  refine ct_ofi RX3 rfl (by decide +kernel) (Nat.le_of_ble_eq_true rfl) ?_
  intro p e s m args below meth c A F hP hD ls hl
  obtain ⟨⟨hx, hb, hml, hown, hts⟩, hr, hlocks, hA, hK, hE⟩ := id F
  have hS : va_S A s.heap s.heap [] := va_S.rf
  have hl : lv_has ls 3 [(0, .ref o), (1, .int v1), (2, .int v2)] := hl
  have hRf : 3 ≤ ({ frames := 3, cells := 0, slots := 0, locals := 58 } : Room).frames := Nat.le_refl _
  have hRl : 58 ≤ ({ frames := 3, cells := 0, slots := 0, locals := 58 } : Room).locals := Nat.le_refl _
  have hC : 0 ≤ ({ frames := 3, cells := 0, slots := 0, locals := 58 } : Room).cells := Nat.le_refl _
  have hSl : 0 ≤ ({ frames := 3, cells := 0, slots := 0, locals := 58 } : Room).slots := Nat.le_refl _
  unfold wp_M_cell at h
  refine lv_aload_n hx hb dX3_cell_0 rfl (lv_at hl 0 rfl) ?_
  refine lv_iconst (v := (0 : Int32)) hx hb dX3_cell_1 (by decide) ?_
  refine pt_put (v := .int (0 : Int32)) hx hb hts in_X3 tyX3 tyX3_ok nmX3 hown hK hP hD hS 0 rfl rfl 0 (Nat.le_of_ble_eq_true rfl) (hts _ q1218) (fun _ h => h) rfl (ty := .int) (by decide +kernel) rfl rfl (Nat.le_of_ble_eq_true rfl) dX3_cell_2 wmF_0 (fun H locs hP hD hS => ?_)
  refine lv_aload_n hx hb dX3_cell_5 rfl (lv_at hl 0 rfl) ?_
  refine lv_iload_n hx hb dX3_cell_6 rfl (lv_at hl 1 rfl) ?_
  refine cl_i F (va_runV (As := [.int v1]) (rest := []) ⟨hx, hb, hml, hown, hts⟩ (ct_M_isCell h _) (cwV 1 hts (lw_V q1501 q1503 qs51 q97 q1504) rfl rfl rfl (by decide +kernel) ⟨Nat.le_trans (Nat.le_of_ble_eq_true rfl) hRf, Nat.le_trans (Nat.le_of_ble_eq_true rfl) hRl⟩) ⟨ct_blind, va_recv hK hP (ci := 2) (q0 := 0) rfl rfl, ct_at F hS hP hD⟩ rfl rfl hl.1 rfl (lv_room (Nat.le_of_ble_eq_true rfl)) dX3_cell_7 ⟨hC, hSl⟩) rfl rfl hD hS ?_
  rintro x1 _ H locs h hP hD hS
  refine lv_if_eq (tgt := 25) hx hb dX3_cell_10 (by decide) (fun c18 => ?_) (fun c18 => ?_)
  · replace h := h.1 c18
    refine lv_aload_n hx hb dX3_cell_25 rfl (lv_at hl 0 rfl) ?_
    refine cl_i F (va_runV (As := []) (rest := []) ⟨hx, hb, hml, hown, hts⟩ (ct_M_refuse h _) (cwV 0 hts (lw_V q1506 q1508 qs52 q97 q1509) rfl rfl rfl (by decide +kernel) ⟨Nat.le_trans (Nat.le_of_ble_eq_true rfl) hRf, Nat.le_trans (Nat.le_of_ble_eq_true rfl) hRl⟩) ⟨ct_blind, va_recv hK hP (ci := 2) (q0 := 0) rfl rfl, ct_at F hS hP hD⟩ rfl rfl hl.1 rfl (lv_room (Nat.le_of_ble_eq_true rfl)) dX3_cell_26 ⟨hC, hSl⟩) rfl rfl hD hS ?_
    rintro x2 fd3 H locs h hP hD hS
    exact rt_i F dX3_cell_29 rfl (fd3) h hP hD hS (Nat.le_refl _) (Nat.le_refl _)
  · replace h := h.2 c18
    refine lv_iload_n hx hb dX3_cell_13 rfl (lv_at hl 2 rfl) ?_
    refine lv_i2l (v := (v2.toInt64)) hx hb dX3_cell_14 rfl ?_
    refine lv_lconst (v := (0 : Int64)) hx hb dX3_cell_15 (by decide) ?_
    refine lv_ldc2 (v := (6 : Int64)) hx hb hown (hts _ q1505) dX3_cell_16 ?_
    refine cl_i0 F (va_runS (As := [.long (v2.toInt64), .long (0 : Int64), .long (6 : Int64)]) (rest := []) ⟨hx, hb, hml, hown, hts⟩ (ct_X3_in h _) (va_cwS 3 hts (lw_S q1391 q1392 q97 q1393) rfl rfl rfl (by decide +kernel) ⟨Nat.le_trans (Nat.le_of_ble_eq_true rfl) hRf, Nat.le_trans (Nat.le_of_ble_eq_true rfl) hRl⟩) ⟨ct_blind, ct_at F hS ct_nP ct_nD⟩ rfl rfl hl.1 rfl (lv_room (Nat.le_of_ble_eq_true rfl)) dX3_cell_19 ⟨hC, hSl⟩) rfl rfl hP hS ?_
    rintro x4 _ H locs h hP hS
    refine lv_if_ne (tgt := 30) hx hb dX3_cell_22 (by decide) (fun c17 => ?_) (fun c17 => ?_)
    · replace h := h.1 c17
      refine lv_iload_n hx hb dX3_cell_30 rfl (lv_at hl 2 rfl) ?_
      by_cases c5 : v2 = (0 : Int32)
      · replace h := h.1 c5
        refine lv_tableIn (off := 37) (tgt := 68) hx hb dX3_cell_31 (by rw [c5]; decide) (by rw [c5]; decide) (by rw [c5]; rfl) (by decide) ?_
        refine lv_aload_n hx hb dX3_cell_68 rfl (lv_at hl 0 rfl) ?_
        refine va_get hx hb hts in_X3 hown hK hP 0 rfl rfl 6 (Nat.le_of_ble_eq_true rfl) (hts _ q1224) (fun _ h => h) (v := .ref (ad 6)) rfl dX3_cell_69 ?_
        refine lv_iload_n hx hb dX3_cell_72 rfl (lv_at hl 1 rfl) ?_
        refine va_iald (f := (ar 6)) hx hb hK hP 2 0 rfl rfl h.1 dX3_cell_73 ?_
        replace h := h.2
        exact rt_i F dX3_cell_74 rfl ((upd fd 0 (0 : Int32))) h hP hD hS (Nat.le_refl _) (Nat.le_refl _)
      replace h := h.2 c5
      by_cases c6 : v2 = (1 : Int32)
      · replace h := h.1 c6
        refine lv_tableIn (off := 44) (tgt := 75) hx hb dX3_cell_31 (by rw [c6]; decide) (by rw [c6]; decide) (by rw [c6]; rfl) (by decide) ?_
        refine lv_aload_n hx hb dX3_cell_75 rfl (lv_at hl 0 rfl) ?_
        refine va_get hx hb hts in_X3 hown hK hP 0 rfl rfl 12 (Nat.le_of_ble_eq_true rfl) (hts _ q1230) (fun _ h => h) (v := .ref (ad 12)) rfl dX3_cell_76 ?_
        refine lv_iload_n hx hb dX3_cell_79 rfl (lv_at hl 1 rfl) ?_
        refine va_iald (f := (ar 12)) hx hb hK hP 8 0 rfl rfl h.1 dX3_cell_80 ?_
        replace h := h.2
        exact rt_i F dX3_cell_81 rfl ((upd fd 0 (0 : Int32))) h hP hD hS (Nat.le_refl _) (Nat.le_refl _)
      replace h := h.2 c6
      by_cases c7 : v2 = (2 : Int32)
      · replace h := h.1 c7
        refine lv_tableIn (off := 51) (tgt := 82) hx hb dX3_cell_31 (by rw [c7]; decide) (by rw [c7]; decide) (by rw [c7]; rfl) (by decide) ?_
        refine lv_aload_n hx hb dX3_cell_82 rfl (lv_at hl 0 rfl) ?_
        refine va_get hx hb hts in_X3 hown hK hP 0 rfl rfl 12 (Nat.le_of_ble_eq_true rfl) (hts _ q1230) (fun _ h => h) (v := .ref (ad 12)) rfl dX3_cell_83 ?_
        refine lv_bipush (v := (12 : Int32)) hx hb dX3_cell_86 (by decide) ?_
        refine va_iald (f := (ar 12)) hx hb hK hP 8 0 rfl rfl (by unfold vp_in; decide) dX3_cell_88 ?_
        refine lv_iload_n hx hb dX3_cell_89 rfl (lv_at hl 1 rfl) ?_
        refine cl_i0 F (va_runS (As := [.int (ar 12 (12 : Int32).toNatClampNeg), .int v1]) (rest := []) ⟨hx, hb, hml, hown, hts⟩ (ct_X3_has h _) (va_cwS 2 hts (lw_S q1510 q1511 q97 q1512) rfl rfl rfl (by decide +kernel) ⟨Nat.le_trans (Nat.le_of_ble_eq_true rfl) hRf, Nat.le_trans (Nat.le_of_ble_eq_true rfl) hRl⟩) ⟨ct_blind, ct_at F hS ct_nP ct_nD⟩ rfl rfl hl.1 rfl (lv_room (Nat.le_of_ble_eq_true rfl)) dX3_cell_90 ⟨hC, hSl⟩) rfl rfl hP hS ?_
        rintro x8 _ H locs h hP hS
        refine cl_i0 F (va_runS (As := [.int x8]) (rest := []) ⟨hx, hb, hml, hown, hts⟩ (ct_X3_flag h _) (va_cwS 1 hts (lw_S q1407 q1408 q97 q1409) rfl rfl rfl (by decide +kernel) ⟨Nat.le_trans (Nat.le_of_ble_eq_true rfl) hRf, Nat.le_trans (Nat.le_of_ble_eq_true rfl) hRl⟩) ⟨ct_blind, ct_at F hS ct_nP ct_nD⟩ rfl rfl hl.1 rfl (lv_room (Nat.le_of_ble_eq_true rfl)) dX3_cell_93 ⟨hC, hSl⟩) rfl rfl hP hS ?_
        rintro x9 _ H locs h hP hS
        exact rt_i F dX3_cell_96 rfl ((upd fd 0 (0 : Int32))) h hP hD hS (Nat.le_refl _) (Nat.le_refl _)
      replace h := h.2 c7
      by_cases c10 : v2 = (3 : Int32)
      · replace h := h.1 c10
        refine lv_tableIn (off := 66) (tgt := 97) hx hb dX3_cell_31 (by rw [c10]; decide) (by rw [c10]; decide) (by rw [c10]; rfl) (by decide) ?_
        refine lv_aload_n hx hb dX3_cell_97 rfl (lv_at hl 0 rfl) ?_
        refine va_get hx hb hts in_X3 hown hK hP 0 rfl rfl 12 (Nat.le_of_ble_eq_true rfl) (hts _ q1230) (fun _ h => h) (v := .ref (ad 12)) rfl dX3_cell_98 ?_
        refine lv_bipush (v := (13 : Int32)) hx hb dX3_cell_101 (by decide) ?_
        refine lv_iload_n hx hb dX3_cell_103 rfl (lv_at hl 1 rfl) ?_
        refine lv_iadd hx hb dX3_cell_104 ?_
        refine va_iald (f := (ar 12)) hx hb hK hP 8 0 rfl rfl h.1 dX3_cell_105 ?_
        replace h := h.2
        exact rt_i F dX3_cell_106 rfl ((upd fd 0 (0 : Int32))) h hP hD hS (Nat.le_refl _) (Nat.le_refl _)
      replace h := h.2 c10
      by_cases c11 : v2 = (4 : Int32)
      · replace h := h.1 c11
        refine lv_tableIn (off := 76) (tgt := 107) hx hb dX3_cell_31 (by rw [c11]; decide) (by rw [c11]; decide) (by rw [c11]; rfl) (by decide) ?_
        refine lv_aload_n hx hb dX3_cell_107 rfl (lv_at hl 0 rfl) ?_
        refine va_get hx hb hts in_X3 hown hK hP 0 rfl rfl 7 (Nat.le_of_ble_eq_true rfl) (hts _ q1225) (fun _ h => h) (v := .ref (ad 7)) rfl dX3_cell_108 ?_
        refine lv_iload_n hx hb dX3_cell_111 rfl (lv_at hl 1 rfl) ?_
        refine va_iald (f := (ar 7)) hx hb hK hP 3 0 rfl rfl h.1 dX3_cell_112 ?_
        replace h := h.2
        exact rt_i F dX3_cell_113 rfl ((upd fd 0 (0 : Int32))) h hP hD hS (Nat.le_refl _) (Nat.le_refl _)
      replace h := h.2 c11
      by_cases c12 : v2 = (5 : Int32)
      · replace h := h.1 c12
        refine lv_tableIn (off := 83) (tgt := 114) hx hb dX3_cell_31 (by rw [c12]; decide) (by rw [c12]; decide) (by rw [c12]; rfl) (by decide) ?_
        refine lv_aload_n hx hb dX3_cell_114 rfl (lv_at hl 0 rfl) ?_
        refine lv_aload_n hx hb dX3_cell_115 rfl (lv_at hl 0 rfl) ?_
        refine va_get hx hb hts in_X3 hown hK hP 0 rfl rfl 12 (Nat.le_of_ble_eq_true rfl) (hts _ q1230) (fun _ h => h) (v := .ref (ad 12)) rfl dX3_cell_116 ?_
        refine lv_iload_n hx hb dX3_cell_119 rfl (lv_at hl 1 rfl) ?_
        refine cl_i F (va_runV (As := [.ref (ad 12), .int v1]) (rest := []) ⟨hx, hb, hml, hown, hts⟩ (ct_M_childrenAt_i12 h _) (cwV 2 hts (lw_V q1513 q1515 qs53 q97 q1516) rfl rfl rfl (by decide +kernel) ⟨Nat.le_trans (Nat.le_of_ble_eq_true rfl) hRf, Nat.le_trans (Nat.le_of_ble_eq_true rfl) hRl⟩) ⟨ct_blind, va_recv hK hP (ci := 2) (q0 := 0) rfl rfl, ct_at F hS hP hD⟩ rfl rfl hl.1 rfl (lv_room (Nat.le_of_ble_eq_true rfl)) dX3_cell_120 ⟨hC, hSl⟩) rfl rfl hD hS ?_
        rintro x13 _ H locs h hP hD hS
        exact rt_i F dX3_cell_123 rfl ((upd fd 0 (0 : Int32))) h hP hD hS (Nat.le_refl _) (Nat.le_refl _)
      replace h := h.2 c12
      have hsw : v2.toInt < (0 : Int) ∨ (5 : Int) < v2.toInt := by
        have := lv_neT (a := 0) c5 (by decide)
        have := lv_neT (a := 1) c6 (by decide)
        have := lv_neT (a := 2) c7 (by decide)
        have := lv_neT (a := 3) c10 (by decide)
        have := lv_neT (a := 4) c11 (by decide)
        have := lv_neT (a := 5) c12 (by decide)
        omega
      refine lv_tableOut (tgt := 124) hx hb dX3_cell_31 hsw (by decide) ?_
      refine lv_aload_n hx hb dX3_cell_124 rfl (lv_at hl 0 rfl) ?_
      refine lv_aload_n hx hb dX3_cell_125 rfl (lv_at hl 0 rfl) ?_
      refine va_get hx hb hts in_X3 hown hK hP 0 rfl rfl 12 (Nat.le_of_ble_eq_true rfl) (hts _ q1230) (fun _ h => h) (v := .ref (ad 12)) rfl dX3_cell_126 ?_
      refine lv_iload_n hx hb dX3_cell_129 rfl (lv_at hl 1 rfl) ?_
      refine cl_i F (va_runV (As := [.ref (ad 12), .int v1]) (rest := []) ⟨hx, hb, hml, hown, hts⟩ (ct_M_topOf_i12 h _) (cwV 2 hts (lw_V q1520 q1522 qs54 q97 q1523) rfl rfl rfl (by decide +kernel) ⟨Nat.le_trans (Nat.le_of_ble_eq_true rfl) hRf, Nat.le_trans (Nat.le_of_ble_eq_true rfl) hRl⟩) ⟨ct_blind, va_recv hK hP (ci := 2) (q0 := 0) rfl rfl, ct_at F hS hP hD⟩ rfl rfl hl.1 rfl (lv_room (Nat.le_of_ble_eq_true rfl)) dX3_cell_130 ⟨hC, hSl⟩) rfl rfl hD hS ?_
      rintro x14 _ H locs h hP hD hS
      exact rt_i F dX3_cell_133 rfl ((upd fd 0 (0 : Int32))) h hP hD hS (Nat.le_refl _) (Nat.le_refl _)
    · replace h := h.2 c17
      refine lv_aload_n hx hb dX3_cell_25 rfl (lv_at hl 0 rfl) ?_
      refine cl_i F (va_runV (As := []) (rest := []) ⟨hx, hb, hml, hown, hts⟩ (ct_M_refuse h _) (cwV 0 hts (lw_V q1506 q1508 qs52 q97 q1509) rfl rfl rfl (by decide +kernel) ⟨Nat.le_trans (Nat.le_of_ble_eq_true rfl) hRf, Nat.le_trans (Nat.le_of_ble_eq_true rfl) hRl⟩) ⟨ct_blind, va_recv hK hP (ci := 2) (q0 := 0) rfl rfl, ct_at F hS hP hD⟩ rfl rfl hl.1 rfl (lv_room (Nat.le_of_ble_eq_true rfl)) dX3_cell_26 ⟨hC, hSl⟩) rfl rfl hD hS ?_
      rintro x15 fd16 H locs h hP hD hS
      exact rt_i F dX3_cell_29 rfl (fd16) h hP hD hS (Nat.le_refl _) (Nat.le_refl _)
set_option maxHeartbeats 4000000 in
theorem lp_M_hasFriend_L1_i12 {p : Program} {l : Launch} {e : Env} {R : Room} {s : State} {m : MethodId} {args : Array Value} {below : List Frame} {meth : Method} {c : Code} {cells slots : Nat} {A : Nat → Prop} {Qf : State → Prop} {V : evT} {D : va_G} {gI : Nat → ClassId} {o : Nat} {ad : Nat → Nat} {v2 : Int32} {fd : Nat → Int32} {ar : Nat → Nat → Int32} {lw : Nat → Int64} {K63 : (Int32) → Prop} (F : ct_F p m c meth cX3_hasFriend 5 s args RX3 (some .boolean) A V D vwCl (tyL gI)) (hRf : 3 ≤ R.frames) (hRl : 56 ≤ R.locals) (hC : cells ≤ R.cells) (hSl : slots ≤ R.slots)
    (hK63 : ∀ (v3 : Int32), K63 v3 → ∀ (H : Heap) (locs : List Loc) (ls : Array Slot), va_P D vwCl (wm gI o ad fd ar lw) H → va_D A (wm gI o ad fd ar lw) → va_S A s.heap H locs → lv_has ls 5 [(3, .int v3)] → W p l e R s m args below meth c H locs cells slots Qf (F0 m 63 ls [])) :
    ∀ (n : Nat) (v3 : Int32) (v4 : Int32), wp_M_hasFriend_L1 12 v2 fd ar lw K63 n v3 v4 → ∀ (H : Heap) (locs : List Loc) (ls : Array Slot), va_P D vwCl (wm gI o ad fd ar lw) H → va_D A (wm gI o ad fd ar lw) → va_S A s.heap H locs → lv_has ls 5 [(0, .ref o), (1, .ref (ad 12)), (2, .int v2), (3, .int v3), (4, .int v4)] → W p l e R s m args below meth c H locs cells slots Qf (F0 m 16 ls []) := by
  obtain ⟨⟨hx, hb, hml, hown, hts⟩, hr, hlocks, hA, hK, hE⟩ := id F
  intro n
  induction n with
  | zero => intro v3 v4 h; exact h.elim
  | succ n ih =>
    intro v3 v4 h H locs ls hP hD hS hl
    unfold wp_M_hasFriend_L1 at h
    refine lv_iload hx hb dX3_hasFriend_16 (lv_at hl 4 rfl) ?_
    refine lv_aload_n hx hb dX3_hasFriend_18 rfl (lv_at hl 0 rfl) ?_
    refine va_get hx hb hts in_X3 hown hK hP 0 rfl rfl 4 (Nat.le_of_ble_eq_true rfl) (hts _ q1222) (fun _ h => h) (v := .int (fd 4)) rfl dX3_hasFriend_19 ?_
    refine lv_icmp_ge (tgt := 63) hx hb dX3_hasFriend_22 (by decide) (fun c6 => ?_) (fun c6 => ?_)
    · replace h := h.1 c6
      exact hK63 _ h _ _ _ hP hD hS (lv_sub hl [3] rfl)
    · replace h := h.2 c6
      refine lv_iload_n hx hb dX3_hasFriend_25 rfl (lv_at hl 3 rfl) ?_
      refine lv_if_ne (tgt := 51) hx hb dX3_hasFriend_26 (by decide) (fun c5 => ?_) (fun c5 => ?_)
      · replace h := h.1 c5
        refine lv_iconst (v := (1 : Int32)) hx hb dX3_hasFriend_51 (by decide) ?_
        refine lv_goto (tgt := 56) hx hb dX3_hasFriend_52 (by decide) ?_
        refine lv_istore_n (lv' := [(3, .int (1 : Int32)), (0, .ref o), (1, .ref (ad 12)), (2, .int v2), (4, .int v4)]) hx hb dX3_hasFriend_56 rfl hl (by decide) rfl (fun ls hl => ?_)
        refine lv_iinc (v := (v4 + (1 : Int32))) (lv' := [(4, .int (v4 + (1 : Int32))), (3, .int (1 : Int32)), (0, .ref o), (1, .ref (ad 12)), (2, .int v2)]) hx hb dX3_hasFriend_57 hl (k := 4) rfl rfl (by decide) rfl (fun ls hl => ?_)
        refine lv_goto (tgt := 16) hx hb dX3_hasFriend_60 (by decide) ?_
        exact ih _ _ h _ _ _ hP hD hS (lv_sub hl [2, 3, 4, 1, 0] rfl)
      · replace h := h.2 c5
        refine lv_aload_n hx hb dX3_hasFriend_29 rfl (lv_at hl 0 rfl) ?_
        refine va_get hx hb hts in_X3 hown hK hP 0 rfl rfl 10 (Nat.le_of_ble_eq_true rfl) (hts _ q1228) (fun _ h => h) (v := .ref (ad 10)) rfl dX3_hasFriend_30 ?_
        refine lv_iload hx hb dX3_hasFriend_33 (lv_at hl 4 rfl) ?_
        refine va_iald (f := (ar 10)) hx hb hK hP 6 0 rfl rfl h.1 dX3_hasFriend_35 ?_
        replace h := h.2
        refine lv_iload_n hx hb dX3_hasFriend_36 rfl (lv_at hl 2 rfl) ?_
        refine lv_icmp_ne (tgt := 55) hx hb dX3_hasFriend_37 (by decide) (fun c4 => ?_) (fun c4 => ?_)
        · replace h := h.1 c4
          refine lv_iconst (v := (0 : Int32)) hx hb dX3_hasFriend_55 (by decide) ?_
          refine lv_istore_n (lv' := [(3, .int (0 : Int32)), (0, .ref o), (1, .ref (ad 12)), (2, .int v2), (4, .int v4)]) hx hb dX3_hasFriend_56 rfl hl (by decide) rfl (fun ls hl => ?_)
          refine lv_iinc (v := (v4 + (1 : Int32))) (lv' := [(4, .int (v4 + (1 : Int32))), (3, .int (0 : Int32)), (0, .ref o), (1, .ref (ad 12)), (2, .int v2)]) hx hb dX3_hasFriend_57 hl (k := 4) rfl rfl (by decide) rfl (fun ls hl => ?_)
          refine lv_goto (tgt := 16) hx hb dX3_hasFriend_60 (by decide) ?_
          exact ih _ _ h _ _ _ hP hD hS (lv_sub hl [2, 3, 4, 1, 0] rfl)
        · replace h := h.2 c4
          refine lv_aload_n hx hb dX3_hasFriend_40 rfl (lv_at hl 0 rfl) ?_
          refine lv_aload_n hx hb dX3_hasFriend_41 rfl (lv_at hl 1 rfl) ?_
          refine lv_iload_n hx hb dX3_hasFriend_42 rfl (lv_at hl 2 rfl) ?_
          refine lv_iload hx hb dX3_hasFriend_43 (lv_at hl 4 rfl) ?_
          refine cl_i F (va_runV (As := [.ref (ad 12), .int v2, .int v4]) (rest := []) ⟨hx, hb, hml, hown, hts⟩ (ct_M_areNear_i12 h _) (cwV 3 hts (lw_V q1543 q1545 qs58 q97 q1546) rfl rfl rfl (by decide +kernel) ⟨Nat.le_trans (Nat.le_of_ble_eq_true rfl) hRf, Nat.le_trans (Nat.le_of_ble_eq_true rfl) hRl⟩) ⟨ct_blind, va_recv hK hP (ci := 2) (q0 := 0) rfl rfl, ct_at F hS hP hD⟩ rfl rfl hl.1 rfl (lv_room (Nat.le_of_ble_eq_true rfl)) dX3_hasFriend_45 ⟨hC, hSl⟩) rfl rfl hD hS ?_
          rintro x2 _ H locs h hP hD hS
          refine lv_if_eq (tgt := 55) hx hb dX3_hasFriend_48 (by decide) (fun c3 => ?_) (fun c3 => ?_)
          · replace h := h.1 c3
            refine lv_iconst (v := (0 : Int32)) hx hb dX3_hasFriend_55 (by decide) ?_
            refine lv_istore_n (lv' := [(3, .int (0 : Int32)), (0, .ref o), (1, .ref (ad 12)), (2, .int v2), (4, .int v4)]) hx hb dX3_hasFriend_56 rfl hl (by decide) rfl (fun ls hl => ?_)
            refine lv_iinc (v := (v4 + (1 : Int32))) (lv' := [(4, .int (v4 + (1 : Int32))), (3, .int (0 : Int32)), (0, .ref o), (1, .ref (ad 12)), (2, .int v2)]) hx hb dX3_hasFriend_57 hl (k := 4) rfl rfl (by decide) rfl (fun ls hl => ?_)
            refine lv_goto (tgt := 16) hx hb dX3_hasFriend_60 (by decide) ?_
            exact ih _ _ h _ _ _ hP hD hS (lv_sub hl [2, 3, 4, 1, 0] rfl)
          · replace h := h.2 c3
            refine lv_iconst (v := (1 : Int32)) hx hb dX3_hasFriend_51 (by decide) ?_
            refine lv_goto (tgt := 56) hx hb dX3_hasFriend_52 (by decide) ?_
            refine lv_istore_n (lv' := [(3, .int (1 : Int32)), (0, .ref o), (1, .ref (ad 12)), (2, .int v2), (4, .int v4)]) hx hb dX3_hasFriend_56 rfl hl (by decide) rfl (fun ls hl => ?_)
            refine lv_iinc (v := (v4 + (1 : Int32))) (lv' := [(4, .int (v4 + (1 : Int32))), (3, .int (1 : Int32)), (0, .ref o), (1, .ref (ad 12)), (2, .int v2)]) hx hb dX3_hasFriend_57 hl (k := 4) rfl rfl (by decide) rfl (fun ls hl => ?_)
            refine lv_goto (tgt := 16) hx hb dX3_hasFriend_60 (by decide) ?_
            exact ih _ _ h _ _ _ hP hD hS (lv_sub hl [2, 3, 4, 1, 0] rfl)
set_option maxHeartbeats 4000000 in
theorem ct_M_hasFriend_i12 {l : Launch} {V : evT} {D : va_G} {gI : Nat → ClassId} {o : Nat} {ad : Nat → Nat} {v2 : Int32} {fd : Nat → Int32} {ar : Nat → Nat → Int32} {lw : Nat → Int64} {Q : Int32 → Prop} (h : wp_M_hasFriend 12 v2 fd ar lw Q) : ct_i l V D vwCl (tyL gI) yX3_hasFriend cX3_hasFriend 5 .boolean { frames := 3, cells := 0, slots := 0, locals := 56 } [.ref o, .ref (ad 12), .int v2] (wm gI o ad fd ar lw) (fun u : Unit => (wm gI o ad fd ar lw)) (fun (x : Int32) (u : Unit) => Q x) := by
  refine ct_ofi RX3 rfl (by decide +kernel) (Nat.le_of_ble_eq_true rfl) ?_
  intro p e s m args below meth c A F hP hD ls hl
  obtain ⟨⟨hx, hb, hml, hown, hts⟩, hr, hlocks, hA, hK, hE⟩ := id F
  have hS : va_S A s.heap s.heap [] := va_S.rf
  have hl : lv_has ls 5 [(0, .ref o), (1, .ref (ad 12)), (2, .int v2)] := hl
  have hRf : 3 ≤ ({ frames := 3, cells := 0, slots := 0, locals := 56 } : Room).frames := Nat.le_refl _
  have hRl : 56 ≤ ({ frames := 3, cells := 0, slots := 0, locals := 56 } : Room).locals := Nat.le_refl _
  have hC : 0 ≤ ({ frames := 3, cells := 0, slots := 0, locals := 56 } : Room).cells := Nat.le_refl _
  have hSl : 0 ≤ ({ frames := 3, cells := 0, slots := 0, locals := 56 } : Room).slots := Nat.le_refl _
  unfold wp_M_hasFriend at h
  refine lv_aload_n hx hb dX3_hasFriend_0 rfl (lv_at hl 0 rfl) ?_
  refine lv_aload_n hx hb dX3_hasFriend_1 rfl (lv_at hl 1 rfl) ?_
  refine lv_iload_n hx hb dX3_hasFriend_2 rfl (lv_at hl 2 rfl) ?_
  refine lv_aload_n hx hb dX3_hasFriend_3 rfl (lv_at hl 0 rfl) ?_
  refine va_get hx hb hts in_X3 hown hK hP 0 rfl rfl 10 (Nat.le_of_ble_eq_true rfl) (hts _ q1228) (fun _ h => h) (v := .ref (ad 10)) rfl dX3_hasFriend_4 ?_
  refine lv_iload_n hx hb dX3_hasFriend_7 rfl (lv_at hl 2 rfl) ?_
  refine va_iald (f := (ar 10)) hx hb hK hP 6 0 rfl rfl h.1 dX3_hasFriend_8 ?_
  replace h := h.2
  refine cl_i F (va_runV (As := [.ref (ad 12), .int v2, .int (ar 10 v2.toNatClampNeg)]) (rest := []) ⟨hx, hb, hml, hown, hts⟩ (ct_M_areNear_i12 h _) (cwV 3 hts (lw_V q1543 q1545 qs58 q97 q1546) rfl rfl rfl (by decide +kernel) ⟨Nat.le_trans (Nat.le_of_ble_eq_true rfl) hRf, Nat.le_trans (Nat.le_of_ble_eq_true rfl) hRl⟩) ⟨ct_blind, va_recv hK hP (ci := 2) (q0 := 0) rfl rfl, ct_at F hS hP hD⟩ rfl rfl hl.1 rfl (lv_room (Nat.le_of_ble_eq_true rfl)) dX3_hasFriend_9 ⟨hC, hSl⟩) rfl rfl hD hS ?_
  rintro x1 _ H locs h hP hD hS
  refine lv_istore_n (lv' := [(3, .int x1), (0, .ref o), (1, .ref (ad 12)), (2, .int v2)]) hx hb dX3_hasFriend_12 rfl hl (by decide) rfl (fun ls hl => ?_)
  refine lv_iconst (v := (0 : Int32)) hx hb dX3_hasFriend_13 (by decide) ?_
  refine lv_istore (lv' := [(4, .int (0 : Int32)), (3, .int x1), (0, .ref o), (1, .ref (ad 12)), (2, .int v2)]) hx hb dX3_hasFriend_14 hl (by decide) rfl (fun ls hl => ?_)
  obtain ⟨k16, h⟩ := h
  refine lp_M_hasFriend_L1_i12 F hRf hRl hC hSl ?hk63 k16 _ _ h _ _ _ hP hD hS (lv_sub hl [2, 3, 4, 1, 0] rfl)
  case hk63 =>
    intro v3_7 h H locs ls hP hD hS hl
    refine lv_iload_n hx hb dX3_hasFriend_63 rfl (lv_at hl 0 rfl) ?_
    exact rt_i F dX3_hasFriend_64 (by rcases h.1 with e | e <;> rw [e] <;> rfl) () h.2 hP hD hS (Nat.le_refl _) (Nat.le_refl _)
set_option maxHeartbeats 4000000 in
theorem lp_M_hasFriend_L1_i13 {p : Program} {l : Launch} {e : Env} {R : Room} {s : State} {m : MethodId} {args : Array Value} {below : List Frame} {meth : Method} {c : Code} {cells slots : Nat} {A : Nat → Prop} {Qf : State → Prop} {V : evT} {D : va_G} {gI : Nat → ClassId} {o : Nat} {ad : Nat → Nat} {v2 : Int32} {fd : Nat → Int32} {ar : Nat → Nat → Int32} {lw : Nat → Int64} {K63 : (Int32) → Prop} (F : ct_F p m c meth cX3_hasFriend 5 s args RX3 (some .boolean) A V D vwCl (tyL gI)) (hRf : 3 ≤ R.frames) (hRl : 56 ≤ R.locals) (hC : cells ≤ R.cells) (hSl : slots ≤ R.slots)
    (hK63 : ∀ (v3 : Int32), K63 v3 → ∀ (H : Heap) (locs : List Loc) (ls : Array Slot), va_P D vwCl (wm gI o ad fd ar lw) H → va_D A (wm gI o ad fd ar lw) → va_S A s.heap H locs → lv_has ls 5 [(3, .int v3)] → W p l e R s m args below meth c H locs cells slots Qf (F0 m 63 ls [])) :
    ∀ (n : Nat) (v3 : Int32) (v4 : Int32), wp_M_hasFriend_L1 13 v2 fd ar lw K63 n v3 v4 → ∀ (H : Heap) (locs : List Loc) (ls : Array Slot), va_P D vwCl (wm gI o ad fd ar lw) H → va_D A (wm gI o ad fd ar lw) → va_S A s.heap H locs → lv_has ls 5 [(0, .ref o), (1, .ref (ad 13)), (2, .int v2), (3, .int v3), (4, .int v4)] → W p l e R s m args below meth c H locs cells slots Qf (F0 m 16 ls []) := by
  obtain ⟨⟨hx, hb, hml, hown, hts⟩, hr, hlocks, hA, hK, hE⟩ := id F
  intro n
  induction n with
  | zero => intro v3 v4 h; exact h.elim
  | succ n ih =>
    intro v3 v4 h H locs ls hP hD hS hl
    unfold wp_M_hasFriend_L1 at h
    refine lv_iload hx hb dX3_hasFriend_16 (lv_at hl 4 rfl) ?_
    refine lv_aload_n hx hb dX3_hasFriend_18 rfl (lv_at hl 0 rfl) ?_
    refine va_get hx hb hts in_X3 hown hK hP 0 rfl rfl 4 (Nat.le_of_ble_eq_true rfl) (hts _ q1222) (fun _ h => h) (v := .int (fd 4)) rfl dX3_hasFriend_19 ?_
    refine lv_icmp_ge (tgt := 63) hx hb dX3_hasFriend_22 (by decide) (fun c6 => ?_) (fun c6 => ?_)
    · replace h := h.1 c6
      exact hK63 _ h _ _ _ hP hD hS (lv_sub hl [3] rfl)
    · replace h := h.2 c6
      refine lv_iload_n hx hb dX3_hasFriend_25 rfl (lv_at hl 3 rfl) ?_
      refine lv_if_ne (tgt := 51) hx hb dX3_hasFriend_26 (by decide) (fun c5 => ?_) (fun c5 => ?_)
      · replace h := h.1 c5
        refine lv_iconst (v := (1 : Int32)) hx hb dX3_hasFriend_51 (by decide) ?_
        refine lv_goto (tgt := 56) hx hb dX3_hasFriend_52 (by decide) ?_
        refine lv_istore_n (lv' := [(3, .int (1 : Int32)), (0, .ref o), (1, .ref (ad 13)), (2, .int v2), (4, .int v4)]) hx hb dX3_hasFriend_56 rfl hl (by decide) rfl (fun ls hl => ?_)
        refine lv_iinc (v := (v4 + (1 : Int32))) (lv' := [(4, .int (v4 + (1 : Int32))), (3, .int (1 : Int32)), (0, .ref o), (1, .ref (ad 13)), (2, .int v2)]) hx hb dX3_hasFriend_57 hl (k := 4) rfl rfl (by decide) rfl (fun ls hl => ?_)
        refine lv_goto (tgt := 16) hx hb dX3_hasFriend_60 (by decide) ?_
        exact ih _ _ h _ _ _ hP hD hS (lv_sub hl [2, 3, 4, 1, 0] rfl)
      · replace h := h.2 c5
        refine lv_aload_n hx hb dX3_hasFriend_29 rfl (lv_at hl 0 rfl) ?_
        refine va_get hx hb hts in_X3 hown hK hP 0 rfl rfl 10 (Nat.le_of_ble_eq_true rfl) (hts _ q1228) (fun _ h => h) (v := .ref (ad 10)) rfl dX3_hasFriend_30 ?_
        refine lv_iload hx hb dX3_hasFriend_33 (lv_at hl 4 rfl) ?_
        refine va_iald (f := (ar 10)) hx hb hK hP 6 0 rfl rfl h.1 dX3_hasFriend_35 ?_
        replace h := h.2
        refine lv_iload_n hx hb dX3_hasFriend_36 rfl (lv_at hl 2 rfl) ?_
        refine lv_icmp_ne (tgt := 55) hx hb dX3_hasFriend_37 (by decide) (fun c4 => ?_) (fun c4 => ?_)
        · replace h := h.1 c4
          refine lv_iconst (v := (0 : Int32)) hx hb dX3_hasFriend_55 (by decide) ?_
          refine lv_istore_n (lv' := [(3, .int (0 : Int32)), (0, .ref o), (1, .ref (ad 13)), (2, .int v2), (4, .int v4)]) hx hb dX3_hasFriend_56 rfl hl (by decide) rfl (fun ls hl => ?_)
          refine lv_iinc (v := (v4 + (1 : Int32))) (lv' := [(4, .int (v4 + (1 : Int32))), (3, .int (0 : Int32)), (0, .ref o), (1, .ref (ad 13)), (2, .int v2)]) hx hb dX3_hasFriend_57 hl (k := 4) rfl rfl (by decide) rfl (fun ls hl => ?_)
          refine lv_goto (tgt := 16) hx hb dX3_hasFriend_60 (by decide) ?_
          exact ih _ _ h _ _ _ hP hD hS (lv_sub hl [2, 3, 4, 1, 0] rfl)
        · replace h := h.2 c4
          refine lv_aload_n hx hb dX3_hasFriend_40 rfl (lv_at hl 0 rfl) ?_
          refine lv_aload_n hx hb dX3_hasFriend_41 rfl (lv_at hl 1 rfl) ?_
          refine lv_iload_n hx hb dX3_hasFriend_42 rfl (lv_at hl 2 rfl) ?_
          refine lv_iload hx hb dX3_hasFriend_43 (lv_at hl 4 rfl) ?_
          refine cl_i F (va_runV (As := [.ref (ad 13), .int v2, .int v4]) (rest := []) ⟨hx, hb, hml, hown, hts⟩ (ct_M_areNear_i13 h _) (cwV 3 hts (lw_V q1543 q1545 qs58 q97 q1546) rfl rfl rfl (by decide +kernel) ⟨Nat.le_trans (Nat.le_of_ble_eq_true rfl) hRf, Nat.le_trans (Nat.le_of_ble_eq_true rfl) hRl⟩) ⟨ct_blind, va_recv hK hP (ci := 2) (q0 := 0) rfl rfl, ct_at F hS hP hD⟩ rfl rfl hl.1 rfl (lv_room (Nat.le_of_ble_eq_true rfl)) dX3_hasFriend_45 ⟨hC, hSl⟩) rfl rfl hD hS ?_
          rintro x2 _ H locs h hP hD hS
          refine lv_if_eq (tgt := 55) hx hb dX3_hasFriend_48 (by decide) (fun c3 => ?_) (fun c3 => ?_)
          · replace h := h.1 c3
            refine lv_iconst (v := (0 : Int32)) hx hb dX3_hasFriend_55 (by decide) ?_
            refine lv_istore_n (lv' := [(3, .int (0 : Int32)), (0, .ref o), (1, .ref (ad 13)), (2, .int v2), (4, .int v4)]) hx hb dX3_hasFriend_56 rfl hl (by decide) rfl (fun ls hl => ?_)
            refine lv_iinc (v := (v4 + (1 : Int32))) (lv' := [(4, .int (v4 + (1 : Int32))), (3, .int (0 : Int32)), (0, .ref o), (1, .ref (ad 13)), (2, .int v2)]) hx hb dX3_hasFriend_57 hl (k := 4) rfl rfl (by decide) rfl (fun ls hl => ?_)
            refine lv_goto (tgt := 16) hx hb dX3_hasFriend_60 (by decide) ?_
            exact ih _ _ h _ _ _ hP hD hS (lv_sub hl [2, 3, 4, 1, 0] rfl)
          · replace h := h.2 c3
            refine lv_iconst (v := (1 : Int32)) hx hb dX3_hasFriend_51 (by decide) ?_
            refine lv_goto (tgt := 56) hx hb dX3_hasFriend_52 (by decide) ?_
            refine lv_istore_n (lv' := [(3, .int (1 : Int32)), (0, .ref o), (1, .ref (ad 13)), (2, .int v2), (4, .int v4)]) hx hb dX3_hasFriend_56 rfl hl (by decide) rfl (fun ls hl => ?_)
            refine lv_iinc (v := (v4 + (1 : Int32))) (lv' := [(4, .int (v4 + (1 : Int32))), (3, .int (1 : Int32)), (0, .ref o), (1, .ref (ad 13)), (2, .int v2)]) hx hb dX3_hasFriend_57 hl (k := 4) rfl rfl (by decide) rfl (fun ls hl => ?_)
            refine lv_goto (tgt := 16) hx hb dX3_hasFriend_60 (by decide) ?_
            exact ih _ _ h _ _ _ hP hD hS (lv_sub hl [2, 3, 4, 1, 0] rfl)
set_option maxHeartbeats 4000000 in
theorem ct_M_hasFriend_i13 {l : Launch} {V : evT} {D : va_G} {gI : Nat → ClassId} {o : Nat} {ad : Nat → Nat} {v2 : Int32} {fd : Nat → Int32} {ar : Nat → Nat → Int32} {lw : Nat → Int64} {Q : Int32 → Prop} (h : wp_M_hasFriend 13 v2 fd ar lw Q) : ct_i l V D vwCl (tyL gI) yX3_hasFriend cX3_hasFriend 5 .boolean { frames := 3, cells := 0, slots := 0, locals := 56 } [.ref o, .ref (ad 13), .int v2] (wm gI o ad fd ar lw) (fun u : Unit => (wm gI o ad fd ar lw)) (fun (x : Int32) (u : Unit) => Q x) := by
  refine ct_ofi RX3 rfl (by decide +kernel) (Nat.le_of_ble_eq_true rfl) ?_
  intro p e s m args below meth c A F hP hD ls hl
  obtain ⟨⟨hx, hb, hml, hown, hts⟩, hr, hlocks, hA, hK, hE⟩ := id F
  have hS : va_S A s.heap s.heap [] := va_S.rf
  have hl : lv_has ls 5 [(0, .ref o), (1, .ref (ad 13)), (2, .int v2)] := hl
  have hRf : 3 ≤ ({ frames := 3, cells := 0, slots := 0, locals := 56 } : Room).frames := Nat.le_refl _
  have hRl : 56 ≤ ({ frames := 3, cells := 0, slots := 0, locals := 56 } : Room).locals := Nat.le_refl _
  have hC : 0 ≤ ({ frames := 3, cells := 0, slots := 0, locals := 56 } : Room).cells := Nat.le_refl _
  have hSl : 0 ≤ ({ frames := 3, cells := 0, slots := 0, locals := 56 } : Room).slots := Nat.le_refl _
  unfold wp_M_hasFriend at h
  refine lv_aload_n hx hb dX3_hasFriend_0 rfl (lv_at hl 0 rfl) ?_
  refine lv_aload_n hx hb dX3_hasFriend_1 rfl (lv_at hl 1 rfl) ?_
  refine lv_iload_n hx hb dX3_hasFriend_2 rfl (lv_at hl 2 rfl) ?_
  refine lv_aload_n hx hb dX3_hasFriend_3 rfl (lv_at hl 0 rfl) ?_
  refine va_get hx hb hts in_X3 hown hK hP 0 rfl rfl 10 (Nat.le_of_ble_eq_true rfl) (hts _ q1228) (fun _ h => h) (v := .ref (ad 10)) rfl dX3_hasFriend_4 ?_
  refine lv_iload_n hx hb dX3_hasFriend_7 rfl (lv_at hl 2 rfl) ?_
  refine va_iald (f := (ar 10)) hx hb hK hP 6 0 rfl rfl h.1 dX3_hasFriend_8 ?_
  replace h := h.2
  refine cl_i F (va_runV (As := [.ref (ad 13), .int v2, .int (ar 10 v2.toNatClampNeg)]) (rest := []) ⟨hx, hb, hml, hown, hts⟩ (ct_M_areNear_i13 h _) (cwV 3 hts (lw_V q1543 q1545 qs58 q97 q1546) rfl rfl rfl (by decide +kernel) ⟨Nat.le_trans (Nat.le_of_ble_eq_true rfl) hRf, Nat.le_trans (Nat.le_of_ble_eq_true rfl) hRl⟩) ⟨ct_blind, va_recv hK hP (ci := 2) (q0 := 0) rfl rfl, ct_at F hS hP hD⟩ rfl rfl hl.1 rfl (lv_room (Nat.le_of_ble_eq_true rfl)) dX3_hasFriend_9 ⟨hC, hSl⟩) rfl rfl hD hS ?_
  rintro x1 _ H locs h hP hD hS
  refine lv_istore_n (lv' := [(3, .int x1), (0, .ref o), (1, .ref (ad 13)), (2, .int v2)]) hx hb dX3_hasFriend_12 rfl hl (by decide) rfl (fun ls hl => ?_)
  refine lv_iconst (v := (0 : Int32)) hx hb dX3_hasFriend_13 (by decide) ?_
  refine lv_istore (lv' := [(4, .int (0 : Int32)), (3, .int x1), (0, .ref o), (1, .ref (ad 13)), (2, .int v2)]) hx hb dX3_hasFriend_14 hl (by decide) rfl (fun ls hl => ?_)
  obtain ⟨k16, h⟩ := h
  refine lp_M_hasFriend_L1_i13 F hRf hRl hC hSl ?hk63 k16 _ _ h _ _ _ hP hD hS (lv_sub hl [2, 3, 4, 1, 0] rfl)
  case hk63 =>
    intro v3_7 h H locs ls hP hD hS hl
    refine lv_iload_n hx hb dX3_hasFriend_63 rfl (lv_at hl 0 rfl) ?_
    exact rt_i F dX3_hasFriend_64 (by rcases h.1 with e | e <;> rw [e] <;> rfl) () h.2 hP hD hS (Nat.le_refl _) (Nat.le_refl _)
set_option maxHeartbeats 4000000 in
theorem ct_M_goes_i12 {l : Launch} {V : evT} {D : va_G} {gI : Nat → ClassId} {o : Nat} {ad : Nat → Nat} {v2 : Int32} {v3 : Int32} {fd : Nat → Int32} {ar : Nat → Nat → Int32} {lw : Nat → Int64} {Q : Int32 → (Nat → Nat → Int32) → Prop} (h : wp_M_goes 12 v2 v3 fd ar lw Q) : ct_i l V D vwCl (tyL gI) yX3_goes cX3_goes 5 .int { frames := 3, cells := 0, slots := 0, locals := 58 } [.ref o, .ref (ad 12), .int v2, .int v3] (wm gI o ad fd ar lw) (fun u : (Nat → Nat → Int32) => (wm gI o ad fd u lw)) (fun (x : Int32) (u : (Nat → Nat → Int32)) => Q x u) := by
  refine ct_ofi RX3 rfl (by decide +kernel) (Nat.le_of_ble_eq_true rfl) ?_
  intro p e s m args below meth c A F hP hD ls hl
  obtain ⟨⟨hx, hb, hml, hown, hts⟩, hr, hlocks, hA, hK, hE⟩ := id F
  have hS : va_S A s.heap s.heap [] := va_S.rf
  have hl : lv_has ls 5 [(0, .ref o), (1, .ref (ad 12)), (2, .int v2), (3, .int v3)] := hl
  have hRf : 3 ≤ ({ frames := 3, cells := 0, slots := 0, locals := 58 } : Room).frames := Nat.le_refl _
  have hRl : 58 ≤ ({ frames := 3, cells := 0, slots := 0, locals := 58 } : Room).locals := Nat.le_refl _
  have hC : 0 ≤ ({ frames := 3, cells := 0, slots := 0, locals := 58 } : Room).cells := Nat.le_refl _
  have hSl : 0 ≤ ({ frames := 3, cells := 0, slots := 0, locals := 58 } : Room).slots := Nat.le_refl _
  unfold wp_M_goes at h
  refine lv_aload_n hx hb dX3_goes_0 rfl (lv_at hl 0 rfl) ?_
  refine lv_iload_n hx hb dX3_goes_1 rfl (lv_at hl 2 rfl) ?_
  refine cl_i F (va_runV (As := [.int v2]) (rest := []) ⟨hx, hb, hml, hown, hts⟩ (ct_M_isChild h _) (cwV 1 hts (lw_V q1528 q1530 qs55 q97 q1531) rfl rfl rfl (by decide +kernel) ⟨Nat.le_trans (Nat.le_of_ble_eq_true rfl) hRf, Nat.le_trans (Nat.le_of_ble_eq_true rfl) hRl⟩) ⟨ct_blind, va_recv hK hP (ci := 2) (q0 := 0) rfl rfl, ct_at F hS hP hD⟩ rfl rfl hl.1 rfl (lv_room (Nat.le_of_ble_eq_true rfl)) dX3_goes_2 ⟨hC, hSl⟩) rfl rfl hD hS ?_
  rintro x1 _ H locs h hP hD hS
  refine lv_if_eq (tgt := 16) hx hb dX3_goes_5 (by decide) (fun c8 => ?_) (fun c8 => ?_)
  · replace h := h.1 c8
    refine lv_iconst (v := (-1 : Int32)) hx hb dX3_goes_16 (by decide) ?_
    exact rt_i F dX3_goes_17 rfl (ar) h hP hD hS (Nat.le_refl _) (Nat.le_refl _)
  · replace h := h.2 c8
    refine lv_aload_n hx hb dX3_goes_8 rfl (lv_at hl 0 rfl) ?_
    refine lv_iload_n hx hb dX3_goes_9 rfl (lv_at hl 3 rfl) ?_
    refine cl_i F (va_runV (As := [.int v3]) (rest := []) ⟨hx, hb, hml, hown, hts⟩ (ct_M_isCell h _) (cwV 1 hts (lw_V q1501 q1503 qs51 q97 q1504) rfl rfl rfl (by decide +kernel) ⟨Nat.le_trans (Nat.le_of_ble_eq_true rfl) hRf, Nat.le_trans (Nat.le_of_ble_eq_true rfl) hRl⟩) ⟨ct_blind, va_recv hK hP (ci := 2) (q0 := 0) rfl rfl, ct_at F hS hP hD⟩ rfl rfl hl.1 rfl (lv_room (Nat.le_of_ble_eq_true rfl)) dX3_goes_10 ⟨hC, hSl⟩) rfl rfl hD hS ?_
    rintro x2 _ H locs h hP hD hS
    refine lv_if_ne (tgt := 18) hx hb dX3_goes_13 (by decide) (fun c7 => ?_) (fun c7 => ?_)
    · replace h := h.1 c7
      refine lv_aload_n hx hb dX3_goes_18 rfl (lv_at hl 1 rfl) ?_
      refine lv_iload_n hx hb dX3_goes_19 rfl (lv_at hl 2 rfl) ?_
      refine cl_i F (va_runS (As := [.ref (ad 12), .int v2]) (rest := []) ⟨hx, hb, hml, hown, hts⟩ (ct_M_atOf_i12 h _) (va_cwS 2 hts (lw_S q1517 q1518 q97 q1519) rfl rfl rfl (by decide +kernel) ⟨Nat.le_trans (Nat.le_of_ble_eq_true rfl) hRf, Nat.le_trans (Nat.le_of_ble_eq_true rfl) hRl⟩) ⟨ct_blind, ct_at F hS hP hD⟩ rfl rfl hl.1 rfl (lv_room (Nat.le_of_ble_eq_true rfl)) dX3_goes_20 ⟨hC, hSl⟩) rfl rfl hD hS ?_
      rintro x3 _ H locs h hP hD hS
      refine lv_istore (lv' := [(4, .int x3), (0, .ref o), (1, .ref (ad 12)), (2, .int v2), (3, .int v3)]) hx hb dX3_goes_23 hl (by decide) rfl (fun ls hl => ?_)
      refine lv_aload_n hx hb dX3_goes_25 rfl (lv_at hl 2 rfl) ?_
      refine lv_iload_n hx hb dX3_goes_26 rfl (lv_at hl 3 rfl) ?_
      refine cl_i F (va_runS (As := [.ref (ad 12), .int v2]) (rest := []) ⟨hx, hb, hml, hown, hts⟩ (ct_M_moodOf_i12 h _) (va_cwS 2 hts (lw_S q1532 q1533 q97 q1534) rfl rfl rfl (by decide +kernel) ⟨Nat.le_trans (Nat.le_of_ble_eq_true rfl) hRf, Nat.le_trans (Nat.le_of_ble_eq_true rfl) hRl⟩) ⟨ct_blind, ct_at F hS hP hD⟩ rfl rfl hl.1 rfl (lv_room (Nat.le_of_ble_eq_true rfl)) dX3_goes_27 ⟨hC, hSl⟩) rfl rfl hD hS ?_
      rintro x4 _ H locs h hP hD hS
      refine lv_if_ne (tgt := 36) hx hb dX3_goes_30 (by decide) (fun c6 => ?_) (fun c6 => ?_)
      · replace h := h.1 c6
        refine lv_iload hx hb dX3_goes_36 (lv_at hl 0 rfl) ?_
        refine lv_iload_n hx hb dX3_goes_38 rfl (lv_at hl 4 rfl) ?_
        refine lv_icmp_ne (tgt := 45) hx hb dX3_goes_39 (by decide) (fun c5 => ?_) (fun c5 => ?_)
        · replace h := h.1 c5
          refine lv_aload_n hx hb dX3_goes_45 rfl (lv_at hl 2 rfl) ?_
          refine lv_bipush (v := (25 : Int32)) hx hb dX3_goes_46 (by decide) ?_
          refine lv_iconst (v := (2 : Int32)) hx hb dX3_goes_48 (by decide) ?_
          refine lv_iload_n hx hb dX3_goes_49 rfl (lv_at hl 3 rfl) ?_
          refine lv_imul hx hb dX3_goes_50 ?_
          refine lv_iadd hx hb dX3_goes_51 ?_
          refine lv_iconst (v := (0 : Int32)) hx hb dX3_goes_52 (by decide) ?_
          refine lv_iadd hx hb dX3_goes_53 ?_
          refine lv_iload_n hx hb dX3_goes_54 rfl (lv_at hl 4 rfl) ?_
          refine pt_iast (f := (ar 12)) hx hb hK hP hD hS 8 0 rfl rfl h.1 dX3_goes_55 wmA_12 (fun H locs hP hD hS => ?_)
          replace h := h.2
          refine lv_iload hx hb dX3_goes_56 (lv_at hl 0 rfl) ?_
          refine lv_iconst (v := (1 : Int32)) hx hb dX3_goes_58 (by decide) ?_
          refine lv_iadd hx hb dX3_goes_59 ?_
          exact rt_i F dX3_goes_60 rfl ((va_up ar 12 (upd (ar 12) (((25 : Int32) + ((2 : Int32) * v2)) + (0 : Int32)).toNatClampNeg v3))) h hP hD hS (Nat.le_refl _) (Nat.le_refl _)
        · replace h := h.2 c5
          refine lv_bipush (v := (-3 : Int32)) hx hb dX3_goes_42 (by decide) ?_
          exact rt_i F dX3_goes_44 rfl (ar) h hP hD hS (Nat.le_refl _) (Nat.le_refl _)
      · replace h := h.2 c6
        refine lv_bipush (v := (-2 : Int32)) hx hb dX3_goes_33 (by decide) ?_
        exact rt_i F dX3_goes_35 rfl (ar) h hP hD hS (Nat.le_refl _) (Nat.le_refl _)
    · replace h := h.2 c7
      refine lv_iconst (v := (-1 : Int32)) hx hb dX3_goes_16 (by decide) ?_
      exact rt_i F dX3_goes_17 rfl (ar) h hP hD hS (Nat.le_refl _) (Nat.le_refl _)
set_option maxHeartbeats 4000000 in
theorem ct_M_goes_i13 {l : Launch} {V : evT} {D : va_G} {gI : Nat → ClassId} {o : Nat} {ad : Nat → Nat} {v2 : Int32} {v3 : Int32} {fd : Nat → Int32} {ar : Nat → Nat → Int32} {lw : Nat → Int64} {Q : Int32 → (Nat → Nat → Int32) → Prop} (h : wp_M_goes 13 v2 v3 fd ar lw Q) : ct_i l V D vwCl (tyL gI) yX3_goes cX3_goes 5 .int { frames := 3, cells := 0, slots := 0, locals := 58 } [.ref o, .ref (ad 13), .int v2, .int v3] (wm gI o ad fd ar lw) (fun u : (Nat → Nat → Int32) => (wm gI o ad fd u lw)) (fun (x : Int32) (u : (Nat → Nat → Int32)) => Q x u) := by
  refine ct_ofi RX3 rfl (by decide +kernel) (Nat.le_of_ble_eq_true rfl) ?_
  intro p e s m args below meth c A F hP hD ls hl
  obtain ⟨⟨hx, hb, hml, hown, hts⟩, hr, hlocks, hA, hK, hE⟩ := id F
  have hS : va_S A s.heap s.heap [] := va_S.rf
  have hl : lv_has ls 5 [(0, .ref o), (1, .ref (ad 13)), (2, .int v2), (3, .int v3)] := hl
  have hRf : 3 ≤ ({ frames := 3, cells := 0, slots := 0, locals := 58 } : Room).frames := Nat.le_refl _
  have hRl : 58 ≤ ({ frames := 3, cells := 0, slots := 0, locals := 58 } : Room).locals := Nat.le_refl _
  have hC : 0 ≤ ({ frames := 3, cells := 0, slots := 0, locals := 58 } : Room).cells := Nat.le_refl _
  have hSl : 0 ≤ ({ frames := 3, cells := 0, slots := 0, locals := 58 } : Room).slots := Nat.le_refl _
  unfold wp_M_goes at h
  refine lv_aload_n hx hb dX3_goes_0 rfl (lv_at hl 0 rfl) ?_
  refine lv_iload_n hx hb dX3_goes_1 rfl (lv_at hl 2 rfl) ?_
  refine cl_i F (va_runV (As := [.int v2]) (rest := []) ⟨hx, hb, hml, hown, hts⟩ (ct_M_isChild h _) (cwV 1 hts (lw_V q1528 q1530 qs55 q97 q1531) rfl rfl rfl (by decide +kernel) ⟨Nat.le_trans (Nat.le_of_ble_eq_true rfl) hRf, Nat.le_trans (Nat.le_of_ble_eq_true rfl) hRl⟩) ⟨ct_blind, va_recv hK hP (ci := 2) (q0 := 0) rfl rfl, ct_at F hS hP hD⟩ rfl rfl hl.1 rfl (lv_room (Nat.le_of_ble_eq_true rfl)) dX3_goes_2 ⟨hC, hSl⟩) rfl rfl hD hS ?_
  rintro x1 _ H locs h hP hD hS
  refine lv_if_eq (tgt := 16) hx hb dX3_goes_5 (by decide) (fun c8 => ?_) (fun c8 => ?_)
  · replace h := h.1 c8
    refine lv_iconst (v := (-1 : Int32)) hx hb dX3_goes_16 (by decide) ?_
    exact rt_i F dX3_goes_17 rfl (ar) h hP hD hS (Nat.le_refl _) (Nat.le_refl _)
  · replace h := h.2 c8
    refine lv_aload_n hx hb dX3_goes_8 rfl (lv_at hl 0 rfl) ?_
    refine lv_iload_n hx hb dX3_goes_9 rfl (lv_at hl 3 rfl) ?_
    refine cl_i F (va_runV (As := [.int v3]) (rest := []) ⟨hx, hb, hml, hown, hts⟩ (ct_M_isCell h _) (cwV 1 hts (lw_V q1501 q1503 qs51 q97 q1504) rfl rfl rfl (by decide +kernel) ⟨Nat.le_trans (Nat.le_of_ble_eq_true rfl) hRf, Nat.le_trans (Nat.le_of_ble_eq_true rfl) hRl⟩) ⟨ct_blind, va_recv hK hP (ci := 2) (q0 := 0) rfl rfl, ct_at F hS hP hD⟩ rfl rfl hl.1 rfl (lv_room (Nat.le_of_ble_eq_true rfl)) dX3_goes_10 ⟨hC, hSl⟩) rfl rfl hD hS ?_
    rintro x2 _ H locs h hP hD hS
    refine lv_if_ne (tgt := 18) hx hb dX3_goes_13 (by decide) (fun c7 => ?_) (fun c7 => ?_)
    · replace h := h.1 c7
      refine lv_aload_n hx hb dX3_goes_18 rfl (lv_at hl 1 rfl) ?_
      refine lv_iload_n hx hb dX3_goes_19 rfl (lv_at hl 2 rfl) ?_
      refine cl_i F (va_runS (As := [.ref (ad 13), .int v2]) (rest := []) ⟨hx, hb, hml, hown, hts⟩ (ct_M_atOf_i13 h _) (va_cwS 2 hts (lw_S q1517 q1518 q97 q1519) rfl rfl rfl (by decide +kernel) ⟨Nat.le_trans (Nat.le_of_ble_eq_true rfl) hRf, Nat.le_trans (Nat.le_of_ble_eq_true rfl) hRl⟩) ⟨ct_blind, ct_at F hS hP hD⟩ rfl rfl hl.1 rfl (lv_room (Nat.le_of_ble_eq_true rfl)) dX3_goes_20 ⟨hC, hSl⟩) rfl rfl hD hS ?_
      rintro x3 _ H locs h hP hD hS
      refine lv_istore (lv' := [(4, .int x3), (0, .ref o), (1, .ref (ad 13)), (2, .int v2), (3, .int v3)]) hx hb dX3_goes_23 hl (by decide) rfl (fun ls hl => ?_)
      refine lv_aload_n hx hb dX3_goes_25 rfl (lv_at hl 2 rfl) ?_
      refine lv_iload_n hx hb dX3_goes_26 rfl (lv_at hl 3 rfl) ?_
      refine cl_i F (va_runS (As := [.ref (ad 13), .int v2]) (rest := []) ⟨hx, hb, hml, hown, hts⟩ (ct_M_moodOf_i13 h _) (va_cwS 2 hts (lw_S q1532 q1533 q97 q1534) rfl rfl rfl (by decide +kernel) ⟨Nat.le_trans (Nat.le_of_ble_eq_true rfl) hRf, Nat.le_trans (Nat.le_of_ble_eq_true rfl) hRl⟩) ⟨ct_blind, ct_at F hS hP hD⟩ rfl rfl hl.1 rfl (lv_room (Nat.le_of_ble_eq_true rfl)) dX3_goes_27 ⟨hC, hSl⟩) rfl rfl hD hS ?_
      rintro x4 _ H locs h hP hD hS
      refine lv_if_ne (tgt := 36) hx hb dX3_goes_30 (by decide) (fun c6 => ?_) (fun c6 => ?_)
      · replace h := h.1 c6
        refine lv_iload hx hb dX3_goes_36 (lv_at hl 0 rfl) ?_
        refine lv_iload_n hx hb dX3_goes_38 rfl (lv_at hl 4 rfl) ?_
        refine lv_icmp_ne (tgt := 45) hx hb dX3_goes_39 (by decide) (fun c5 => ?_) (fun c5 => ?_)
        · replace h := h.1 c5
          refine lv_aload_n hx hb dX3_goes_45 rfl (lv_at hl 2 rfl) ?_
          refine lv_bipush (v := (25 : Int32)) hx hb dX3_goes_46 (by decide) ?_
          refine lv_iconst (v := (2 : Int32)) hx hb dX3_goes_48 (by decide) ?_
          refine lv_iload_n hx hb dX3_goes_49 rfl (lv_at hl 3 rfl) ?_
          refine lv_imul hx hb dX3_goes_50 ?_
          refine lv_iadd hx hb dX3_goes_51 ?_
          refine lv_iconst (v := (0 : Int32)) hx hb dX3_goes_52 (by decide) ?_
          refine lv_iadd hx hb dX3_goes_53 ?_
          refine lv_iload_n hx hb dX3_goes_54 rfl (lv_at hl 4 rfl) ?_
          refine pt_iast (f := (ar 13)) hx hb hK hP hD hS 9 0 rfl rfl h.1 dX3_goes_55 wmA_13 (fun H locs hP hD hS => ?_)
          replace h := h.2
          refine lv_iload hx hb dX3_goes_56 (lv_at hl 0 rfl) ?_
          refine lv_iconst (v := (1 : Int32)) hx hb dX3_goes_58 (by decide) ?_
          refine lv_iadd hx hb dX3_goes_59 ?_
          exact rt_i F dX3_goes_60 rfl ((va_up ar 13 (upd (ar 13) (((25 : Int32) + ((2 : Int32) * v2)) + (0 : Int32)).toNatClampNeg v3))) h hP hD hS (Nat.le_refl _) (Nat.le_refl _)
        · replace h := h.2 c5
          refine lv_bipush (v := (-3 : Int32)) hx hb dX3_goes_42 (by decide) ?_
          exact rt_i F dX3_goes_44 rfl (ar) h hP hD hS (Nat.le_refl _) (Nat.le_refl _)
      · replace h := h.2 c6
        refine lv_bipush (v := (-2 : Int32)) hx hb dX3_goes_33 (by decide) ?_
        exact rt_i F dX3_goes_35 rfl (ar) h hP hD hS (Nat.le_refl _) (Nat.le_refl _)
    · replace h := h.2 c7
      refine lv_iconst (v := (-1 : Int32)) hx hb dX3_goes_16 (by decide) ?_
      exact rt_i F dX3_goes_17 rfl (ar) h hP hD hS (Nat.le_refl _) (Nat.le_refl _)
set_option maxHeartbeats 4000000 in
theorem ct_M_goesHome {l : Launch} {V : evT} {D : va_G} {gI : Nat → ClassId} {o : Nat} {ad : Nat → Nat} {v1 : Int32} {fd : Nat → Int32} {ar : Nat → Nat → Int32} {lw : Nat → Int64} {Q : Int32 → (Nat → Nat → Int32) → Prop} (h : wp_M_goesHome v1 fd ar lw Q) : ct_i l V D vwCl (tyL gI) yX3_goesHome cX3_goesHome 3 .int { frames := 3, cells := 0, slots := 0, locals := 58 } [.ref o, .int v1] (wm gI o ad fd ar lw) (fun u : (Nat → Nat → Int32) => (wm gI o ad fd u lw)) (fun (x : Int32) (u : (Nat → Nat → Int32)) => Q x u) := by
  refine ct_ofi RX3 rfl (by decide +kernel) (Nat.le_of_ble_eq_true rfl) ?_
  intro p e s m args below meth c A F hP hD ls hl
  obtain ⟨⟨hx, hb, hml, hown, hts⟩, hr, hlocks, hA, hK, hE⟩ := id F
  have hS : va_S A s.heap s.heap [] := va_S.rf
  have hl : lv_has ls 3 [(0, .ref o), (1, .int v1)] := hl
  have hRf : 3 ≤ ({ frames := 3, cells := 0, slots := 0, locals := 58 } : Room).frames := Nat.le_refl _
  have hRl : 58 ≤ ({ frames := 3, cells := 0, slots := 0, locals := 58 } : Room).locals := Nat.le_refl _
  have hC : 0 ≤ ({ frames := 3, cells := 0, slots := 0, locals := 58 } : Room).cells := Nat.le_refl _
  have hSl : 0 ≤ ({ frames := 3, cells := 0, slots := 0, locals := 58 } : Room).slots := Nat.le_refl _
  unfold wp_M_goesHome at h
  refine lv_aload_n hx hb dX3_goesHome_0 rfl (lv_at hl 0 rfl) ?_
  refine lv_iload_n hx hb dX3_goesHome_1 rfl (lv_at hl 1 rfl) ?_
  refine cl_i F (va_runV (As := [.int v1]) (rest := []) ⟨hx, hb, hml, hown, hts⟩ (ct_M_isChild h _) (cwV 1 hts (lw_V q1528 q1530 qs55 q97 q1531) rfl rfl rfl (by decide +kernel) ⟨Nat.le_trans (Nat.le_of_ble_eq_true rfl) hRf, Nat.le_trans (Nat.le_of_ble_eq_true rfl) hRl⟩) ⟨ct_blind, va_recv hK hP (ci := 2) (q0 := 0) rfl rfl, ct_at F hS hP hD⟩ rfl rfl hl.1 rfl (lv_room (Nat.le_of_ble_eq_true rfl)) dX3_goesHome_2 ⟨hC, hSl⟩) rfl rfl hD hS ?_
  rintro x1 _ H locs h hP hD hS
  refine lv_if_ne (tgt := 10) hx hb dX3_goesHome_5 (by decide) (fun c4 => ?_) (fun c4 => ?_)
  · replace h := h.1 c4
    refine lv_aload_n hx hb dX3_goesHome_10 rfl (lv_at hl 0 rfl) ?_
    refine va_get hx hb hts in_X3 hown hK hP 0 rfl rfl 12 (Nat.le_of_ble_eq_true rfl) (hts _ q1230) (fun _ h => h) (v := .ref (ad 12)) rfl dX3_goesHome_11 ?_
    refine lv_iload_n hx hb dX3_goesHome_14 rfl (lv_at hl 1 rfl) ?_
    refine cl_i F (va_runS (As := [.ref (ad 12), .int v1]) (rest := []) ⟨hx, hb, hml, hown, hts⟩ (ct_M_atOf_i12 h _) (va_cwS 2 hts (lw_S q1517 q1518 q97 q1519) rfl rfl rfl (by decide +kernel) ⟨Nat.le_trans (Nat.le_of_ble_eq_true rfl) hRf, Nat.le_trans (Nat.le_of_ble_eq_true rfl) hRl⟩) ⟨ct_blind, ct_at F hS hP hD⟩ rfl rfl hl.1 rfl (lv_room (Nat.le_of_ble_eq_true rfl)) dX3_goesHome_15 ⟨hC, hSl⟩) rfl rfl hD hS ?_
    rintro x2 _ H locs h hP hD hS
    refine lv_istore_n (lv' := [(2, .int x2), (0, .ref o), (1, .int v1)]) hx hb dX3_goesHome_18 rfl hl (by decide) rfl (fun ls hl => ?_)
    refine lv_aload_n hx hb dX3_goesHome_19 rfl (lv_at hl 1 rfl) ?_
    refine va_get hx hb hts in_X3 hown hK hP 0 rfl rfl 12 (Nat.le_of_ble_eq_true rfl) (hts _ q1230) (fun _ h => h) (v := .ref (ad 12)) rfl dX3_goesHome_20 ?_
    refine lv_bipush (v := (25 : Int32)) hx hb dX3_goesHome_23 (by decide) ?_
    refine lv_iconst (v := (2 : Int32)) hx hb dX3_goesHome_25 (by decide) ?_
    refine lv_iload_n hx hb dX3_goesHome_26 rfl (lv_at hl 2 rfl) ?_
    refine lv_imul hx hb dX3_goesHome_27 ?_
    refine lv_iadd hx hb dX3_goesHome_28 ?_
    refine lv_iconst (v := (0 : Int32)) hx hb dX3_goesHome_29 (by decide) ?_
    refine lv_iadd hx hb dX3_goesHome_30 ?_
    refine lv_iconst (v := (-1 : Int32)) hx hb dX3_goesHome_31 (by decide) ?_
    refine pt_iast (f := (ar 12)) hx hb hK hP hD hS 8 0 rfl rfl h.1 dX3_goesHome_32 wmA_12 (fun H locs hP hD hS => ?_)
    replace h := h.2
    refine lv_iload_n hx hb dX3_goesHome_33 rfl (lv_at hl 0 rfl) ?_
    refine lv_if_ge (tgt := 42) hx hb dX3_goesHome_34 (by decide) (fun c3 => ?_) (fun c3 => ?_)
    · replace h := h.1 c3
      refine lv_iload_n hx hb dX3_goesHome_42 rfl (lv_at hl 0 rfl) ?_
      exact rt_i F dX3_goesHome_43 rfl ((va_up ar 12 (upd (ar 12) (((25 : Int32) + ((2 : Int32) * v1)) + (0 : Int32)).toNatClampNeg (-1 : Int32)))) h hP hD hS (Nat.le_refl _) (Nat.le_refl _)
    · replace h := h.2 c3
      refine lv_bipush (v := (-2 : Int32)) hx hb dX3_goesHome_37 (by decide) ?_
      refine lv_goto (tgt := 43) hx hb dX3_goesHome_39 (by decide) ?_
      exact rt_i F dX3_goesHome_43 rfl ((va_up ar 12 (upd (ar 12) (((25 : Int32) + ((2 : Int32) * v1)) + (0 : Int32)).toNatClampNeg (-1 : Int32)))) h hP hD hS (Nat.le_refl _) (Nat.le_refl _)
  · replace h := h.2 c4
    refine lv_iconst (v := (-1 : Int32)) hx hb dX3_goesHome_8 (by decide) ?_
    exact rt_i F dX3_goesHome_9 rfl (ar) h hP hD hS (Nat.le_refl _) (Nat.le_refl _)
