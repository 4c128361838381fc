/-! walks of the model (printed by gen/mk.py) -/
set_option maxRecDepth 100000
set_option maxHeartbeats 4000000 in
theorem lp_M_wet_L1_i12 {p : Program} {l : Launch} {e : Env} {R : Room} {s : State} {m : MethodId} {args : Array Value} {below : List Frame} {meth : Method} {c : Code} {cells slots : Nat} {A : Nat → Prop} {Qf : State → Prop} {V : evT} {D : va_G} {gI : Nat → ClassId} {o : Nat} {ad : Nat → Nat} {fd : Nat → Int32} {ar : Nat → Nat → Int32} {lw : Nat → Int64} {K37 : (Int32) → Prop} (F : ct_F p m c meth cX3_wet 4 s args RX3 (some .int) A V D vwCl (tyL gI)) (hRf : 1 ≤ R.frames) (hRl : 12 ≤ R.locals) (hC : cells ≤ R.cells) (hSl : slots ≤ R.slots)
    (hK37 : ∀ (v2 : Int32), K37 v2 → ∀ (H : Heap) (locs : List Loc) (ls : Array Slot), va_P D vwCl (wm gI o ad fd ar lw) H → va_D A (wm gI o ad fd ar lw) → va_S A s.heap H locs → lv_has ls 4 [(2, .int v2)] → W p l e R s m args below meth c H locs cells slots Qf (F0 m 37 ls [])) :
    ∀ (n : Nat) (v2 : Int32) (v3 : Int32), wp_M_wet_L1 12 fd ar lw K37 n v2 v3 → ∀ (H : Heap) (locs : List Loc) (ls : Array Slot), va_P D vwCl (wm gI o ad fd ar lw) H → va_D A (wm gI o ad fd ar lw) → va_S A s.heap H locs → lv_has ls 4 [(0, .ref o), (1, .ref (ad 12)), (2, .int v2), (3, .int v3)] → W p l e R s m args below meth c H locs cells slots Qf (F0 m 4 ls []) := by
  obtain ⟨⟨hx, hb, hml, hown, hts⟩, hr, hlocks, hA, hK, hE⟩ := id F
  intro n
  induction n with
  | zero => intro v2 v3 h; exact h.elim
  | succ n ih =>
    intro v2 v3 h H locs ls hP hD hS hl
    unfold wp_M_wet_L1 at h
    refine lv_iload_n hx hb dX3_wet_4 rfl (lv_at hl 3 rfl) ?_
    refine lv_aload_n hx hb dX3_wet_5 rfl (lv_at hl 0 rfl) ?_
    refine va_get hx hb hts in_X3 hown hK hP 0 rfl rfl 3 (Nat.le_of_ble_eq_true rfl) (hts _ q1221) (fun _ h => h) (v := .int (fd 3)) rfl dX3_wet_6 ?_
    refine lv_icmp_ge (tgt := 37) hx hb dX3_wet_9 (by decide) (fun c2 => ?_) (fun c2 => ?_)
    · replace h := h.1 c2
      exact hK37 _ h _ _ _ hP hD hS (lv_sub hl [2] rfl)
    · replace h := h.2 c2
      refine lv_iload_n hx hb dX3_wet_12 rfl (lv_at hl 2 rfl) ?_
      refine lv_aload_n hx hb dX3_wet_13 rfl (lv_at hl 1 rfl) ?_
      refine lv_bipush (v := (13 : Int32)) hx hb dX3_wet_14 (by decide) ?_
      refine lv_iload_n hx hb dX3_wet_16 rfl (lv_at hl 3 rfl) ?_
      refine lv_iadd hx hb dX3_wet_17 ?_
      refine va_iald (f := (ar 12)) hx hb hK hP 8 0 rfl rfl h.1 dX3_wet_18 ?_
      replace h := h.2
      refine lv_if_le (tgt := 28) hx hb dX3_wet_19 (by decide) (fun c1 => ?_) (fun c1 => ?_)
      · replace h := h.1 c1
        refine lv_iconst (v := (0 : Int32)) hx hb dX3_wet_28 (by decide) ?_
        refine lv_ior hx hb dX3_wet_29 ?_
        refine lv_istore_n (lv' := [(2, .int (v2 ||| (0 : Int32))), (0, .ref o), (1, .ref (ad 12)), (3, .int v3)]) hx hb dX3_wet_30 rfl hl (by decide) rfl (fun ls hl => ?_)
        refine lv_iinc (v := (v3 + (1 : Int32))) (lv' := [(3, .int (v3 + (1 : Int32))), (2, .int (v2 ||| (0 : Int32))), (0, .ref o), (1, .ref (ad 12))]) hx hb dX3_wet_31 hl (k := 3) rfl rfl (by decide) rfl (fun ls hl => ?_)
        refine lv_goto (tgt := 4) hx hb dX3_wet_34 (by decide) ?_
        exact ih _ _ h _ _ _ hP hD hS (lv_sub hl [2, 3, 1, 0] rfl)
      · replace h := h.2 c1
        refine lv_iconst (v := (1 : Int32)) hx hb dX3_wet_22 (by decide) ?_
        refine lv_iload_n hx hb dX3_wet_23 rfl (lv_at hl 3 rfl) ?_
        refine lv_ishl hx hb dX3_wet_24 ?_
        refine lv_goto (tgt := 29) hx hb dX3_wet_25 (by decide) ?_
        refine lv_ior hx hb dX3_wet_29 ?_
        refine lv_istore_n (lv' := [(2, .int (v2 ||| ((1 : Int32) <<< (v3 &&& 31)))), (0, .ref o), (1, .ref (ad 12)), (3, .int v3)]) hx hb dX3_wet_30 rfl hl (by decide) rfl (fun ls hl => ?_)
        refine lv_iinc (v := (v3 + (1 : Int32))) (lv' := [(3, .int (v3 + (1 : Int32))), (2, .int (v2 ||| ((1 : Int32) <<< (v3 &&& 31)))), (0, .ref o), (1, .ref (ad 12))]) hx hb dX3_wet_31 hl (k := 3) rfl rfl (by decide) rfl (fun ls hl => ?_)
        refine lv_goto (tgt := 4) hx hb dX3_wet_34 (by decide) ?_
        exact ih _ _ h _ _ _ hP hD hS (lv_sub hl [2, 3, 1, 0] rfl)
set_option maxHeartbeats 4000000 in
theorem ct_M_wet_i12 {l : Launch} {V : evT} {D : va_G} {gI : Nat → ClassId} {o : Nat} {ad : Nat → Nat} {fd : Nat → Int32} {ar : Nat → Nat → Int32} {lw : Nat → Int64} {Q : Int32 → Prop} (h : wp_M_wet 12 fd ar lw Q) : ct_i l V D vwCl (tyL gI) yX3_wet cX3_wet 4 .int { frames := 1, cells := 0, slots := 0, locals := 12 } [.ref o, .ref (ad 12)] (wm gI o ad fd ar lw) (fun u : Unit => (wm gI o ad fd ar lw)) (fun (x : Int32) (u : Unit) => Q x) := by
  refine ct_ofi RX3 rfl (by decide +kernel) (Nat.le_of_ble_eq_true rfl) ?_
  intro p e s m args below meth c A F hP hD ls hl
  obtain ⟨⟨hx, hb, hml, hown, hts⟩, hr, hlocks, hA, hK, hE⟩ := id F
  have hS : va_S A s.heap s.heap [] := va_S.rf
  have hl : lv_has ls 4 [(0, .ref o), (1, .ref (ad 12))] := hl
  have hRf : 1 ≤ ({ frames := 1, cells := 0, slots := 0, locals := 12 } : Room).frames := Nat.le_refl _
  have hRl : 12 ≤ ({ frames := 1, cells := 0, slots := 0, locals := 12 } : Room).locals := Nat.le_refl _
  have hC : 0 ≤ ({ frames := 1, cells := 0, slots := 0, locals := 12 } : Room).cells := Nat.le_refl _
  have hSl : 0 ≤ ({ frames := 1, cells := 0, slots := 0, locals := 12 } : Room).slots := Nat.le_refl _
  unfold wp_M_wet at h
  refine lv_iconst (v := (0 : Int32)) hx hb dX3_wet_0 (by decide) ?_
  refine lv_istore_n (lv' := [(2, .int (0 : Int32)), (0, .ref o), (1, .ref (ad 12))]) hx hb dX3_wet_1 rfl hl (by decide) rfl (fun ls hl => ?_)
  refine lv_iconst (v := (0 : Int32)) hx hb dX3_wet_2 (by decide) ?_
  refine lv_istore_n (lv' := [(3, .int (0 : Int32)), (2, .int (0 : Int32)), (0, .ref o), (1, .ref (ad 12))]) hx hb dX3_wet_3 rfl hl (by decide) rfl (fun ls hl => ?_)
  obtain ⟨k4, h⟩ := h
  refine lp_M_wet_L1_i12 F hRf hRl hC hSl ?hk37 k4 _ _ h _ _ _ hP hD hS (lv_sub hl [2, 3, 1, 0] rfl)
  case hk37 =>
    intro v2_3 h H locs ls hP hD hS hl
    refine lv_iload_n hx hb dX3_wet_37 rfl (lv_at hl 0 rfl) ?_
    exact rt_i F dX3_wet_38 rfl () h hP hD hS (Nat.le_refl _) (Nat.le_refl _)
set_option maxHeartbeats 4000000 in
theorem lp_M_wet_L1_i13 {p : Program} {l : Launch} {e : Env} {R : Room} {s : State} {m : MethodId} {args : Array Value} {below : List Frame} {meth : Method} {c : Code} {cells slots : Nat} {A : Nat → Prop} {Qf : State → Prop} {V : evT} {D : va_G} {gI : Nat → ClassId} {o : Nat} {ad : Nat → Nat} {fd : Nat → Int32} {ar : Nat → Nat → Int32} {lw : Nat → Int64} {K37 : (Int32) → Prop} (F : ct_F p m c meth cX3_wet 4 s args RX3 (some .int) A V D vwCl (tyL gI)) (hRf : 1 ≤ R.frames) (hRl : 12 ≤ R.locals) (hC : cells ≤ R.cells) (hSl : slots ≤ R.slots)
    (hK37 : ∀ (v2 : Int32), K37 v2 → ∀ (H : Heap) (locs : List Loc) (ls : Array Slot), va_P D vwCl (wm gI o ad fd ar lw) H → va_D A (wm gI o ad fd ar lw) → va_S A s.heap H locs → lv_has ls 4 [(2, .int v2)] → W p l e R s m args below meth c H locs cells slots Qf (F0 m 37 ls [])) :
    ∀ (n : Nat) (v2 : Int32) (v3 : Int32), wp_M_wet_L1 13 fd ar lw K37 n v2 v3 → ∀ (H : Heap) (locs : List Loc) (ls : Array Slot), va_P D vwCl (wm gI o ad fd ar lw) H → va_D A (wm gI o ad fd ar lw) → va_S A s.heap H locs → lv_has ls 4 [(0, .ref o), (1, .ref (ad 13)), (2, .int v2), (3, .int v3)] → W p l e R s m args below meth c H locs cells slots Qf (F0 m 4 ls []) := by
  obtain ⟨⟨hx, hb, hml, hown, hts⟩, hr, hlocks, hA, hK, hE⟩ := id F
  intro n
  induction n with
  | zero => intro v2 v3 h; exact h.elim
  | succ n ih =>
    intro v2 v3 h H locs ls hP hD hS hl
    unfold wp_M_wet_L1 at h
    refine lv_iload_n hx hb dX3_wet_4 rfl (lv_at hl 3 rfl) ?_
    refine lv_aload_n hx hb dX3_wet_5 rfl (lv_at hl 0 rfl) ?_
    refine va_get hx hb hts in_X3 hown hK hP 0 rfl rfl 3 (Nat.le_of_ble_eq_true rfl) (hts _ q1221) (fun _ h => h) (v := .int (fd 3)) rfl dX3_wet_6 ?_
    refine lv_icmp_ge (tgt := 37) hx hb dX3_wet_9 (by decide) (fun c2 => ?_) (fun c2 => ?_)
    · replace h := h.1 c2
      exact hK37 _ h _ _ _ hP hD hS (lv_sub hl [2] rfl)
    · replace h := h.2 c2
      refine lv_iload_n hx hb dX3_wet_12 rfl (lv_at hl 2 rfl) ?_
      refine lv_aload_n hx hb dX3_wet_13 rfl (lv_at hl 1 rfl) ?_
      refine lv_bipush (v := (13 : Int32)) hx hb dX3_wet_14 (by decide) ?_
      refine lv_iload_n hx hb dX3_wet_16 rfl (lv_at hl 3 rfl) ?_
      refine lv_iadd hx hb dX3_wet_17 ?_
      refine va_iald (f := (ar 13)) hx hb hK hP 9 0 rfl rfl h.1 dX3_wet_18 ?_
      replace h := h.2
      refine lv_if_le (tgt := 28) hx hb dX3_wet_19 (by decide) (fun c1 => ?_) (fun c1 => ?_)
      · replace h := h.1 c1
        refine lv_iconst (v := (0 : Int32)) hx hb dX3_wet_28 (by decide) ?_
        refine lv_ior hx hb dX3_wet_29 ?_
        refine lv_istore_n (lv' := [(2, .int (v2 ||| (0 : Int32))), (0, .ref o), (1, .ref (ad 13)), (3, .int v3)]) hx hb dX3_wet_30 rfl hl (by decide) rfl (fun ls hl => ?_)
        refine lv_iinc (v := (v3 + (1 : Int32))) (lv' := [(3, .int (v3 + (1 : Int32))), (2, .int (v2 ||| (0 : Int32))), (0, .ref o), (1, .ref (ad 13))]) hx hb dX3_wet_31 hl (k := 3) rfl rfl (by decide) rfl (fun ls hl => ?_)
        refine lv_goto (tgt := 4) hx hb dX3_wet_34 (by decide) ?_
        exact ih _ _ h _ _ _ hP hD hS (lv_sub hl [2, 3, 1, 0] rfl)
      · replace h := h.2 c1
        refine lv_iconst (v := (1 : Int32)) hx hb dX3_wet_22 (by decide) ?_
        refine lv_iload_n hx hb dX3_wet_23 rfl (lv_at hl 3 rfl) ?_
        refine lv_ishl hx hb dX3_wet_24 ?_
        refine lv_goto (tgt := 29) hx hb dX3_wet_25 (by decide) ?_
        refine lv_ior hx hb dX3_wet_29 ?_
        refine lv_istore_n (lv' := [(2, .int (v2 ||| ((1 : Int32) <<< (v3 &&& 31)))), (0, .ref o), (1, .ref (ad 13)), (3, .int v3)]) hx hb dX3_wet_30 rfl hl (by decide) rfl (fun ls hl => ?_)
        refine lv_iinc (v := (v3 + (1 : Int32))) (lv' := [(3, .int (v3 + (1 : Int32))), (2, .int (v2 ||| ((1 : Int32) <<< (v3 &&& 31)))), (0, .ref o), (1, .ref (ad 13))]) hx hb dX3_wet_31 hl (k := 3) rfl rfl (by decide) rfl (fun ls hl => ?_)
        refine lv_goto (tgt := 4) hx hb dX3_wet_34 (by decide) ?_
        exact ih _ _ h _ _ _ hP hD hS (lv_sub hl [2, 3, 1, 0] rfl)
set_option maxHeartbeats 4000000 in
theorem ct_M_wet_i13 {l : Launch} {V : evT} {D : va_G} {gI : Nat → ClassId} {o : Nat} {ad : Nat → Nat} {fd : Nat → Int32} {ar : Nat → Nat → Int32} {lw : Nat → Int64} {Q : Int32 → Prop} (h : wp_M_wet 13 fd ar lw Q) : ct_i l V D vwCl (tyL gI) yX3_wet cX3_wet 4 .int { frames := 1, cells := 0, slots := 0, locals := 12 } [.ref o, .ref (ad 13)] (wm gI o ad fd ar lw) (fun u : Unit => (wm gI o ad fd ar lw)) (fun (x : Int32) (u : Unit) => Q x) := by
  refine ct_ofi RX3 rfl (by decide +kernel) (Nat.le_of_ble_eq_true rfl) ?_
  intro p e s m args below meth c A F hP hD ls hl
  obtain ⟨⟨hx, hb, hml, hown, hts⟩, hr, hlocks, hA, hK, hE⟩ := id F
  have hS : va_S A s.heap s.heap [] := va_S.rf
  have hl : lv_has ls 4 [(0, .ref o), (1, .ref (ad 13))] := hl
  have hRf : 1 ≤ ({ frames := 1, cells := 0, slots := 0, locals := 12 } : Room).frames := Nat.le_refl _
  have hRl : 12 ≤ ({ frames := 1, cells := 0, slots := 0, locals := 12 } : Room).locals := Nat.le_refl _
  have hC : 0 ≤ ({ frames := 1, cells := 0, slots := 0, locals := 12 } : Room).cells := Nat.le_refl _
  have hSl : 0 ≤ ({ frames := 1, cells := 0, slots := 0, locals := 12 } : Room).slots := Nat.le_refl _
  unfold wp_M_wet at h
  refine lv_iconst (v := (0 : Int32)) hx hb dX3_wet_0 (by decide) ?_
  refine lv_istore_n (lv' := [(2, .int (0 : Int32)), (0, .ref o), (1, .ref (ad 13))]) hx hb dX3_wet_1 rfl hl (by decide) rfl (fun ls hl => ?_)
  refine lv_iconst (v := (0 : Int32)) hx hb dX3_wet_2 (by decide) ?_
  refine lv_istore_n (lv' := [(3, .int (0 : Int32)), (2, .int (0 : Int32)), (0, .ref o), (1, .ref (ad 13))]) hx hb dX3_wet_3 rfl hl (by decide) rfl (fun ls hl => ?_)
  obtain ⟨k4, h⟩ := h
  refine lp_M_wet_L1_i13 F hRf hRl hC hSl ?hk37 k4 _ _ h _ _ _ hP hD hS (lv_sub hl [2, 3, 1, 0] rfl)
  case hk37 =>
    intro v2_3 h H locs ls hP hD hS hl
    refine lv_iload_n hx hb dX3_wet_37 rfl (lv_at hl 0 rfl) ?_
    exact rt_i F dX3_wet_38 rfl () h hP hD hS (Nat.le_refl _) (Nat.le_refl _)
set_option maxHeartbeats 4000000 in
theorem lp_M_puts_L1 {p : Program} {l : Launch} {e : Env} {R : Room} {s : State} {m : MethodId} {args : Array Value} {below : List Frame} {meth : Method} {c : Code} {cells slots : Nat} {A : Nat → Prop} {Qf : State → Prop} {V : evT} {D : va_G} {gI : Nat → ClassId} {o : Nat} {ad : Nat → Nat} {fd : Nat → Int32} {lw : Nat → Int64} {K26 : (Nat → Nat → Int32) → Prop} (F : ct_F p m c meth cX3_puts 2 s args RX3 none A V D vwCl (tyL gI)) (hRf : 1 ≤ R.frames) (hRl : 12 ≤ R.locals) (hC : cells ≤ R.cells) (hSl : slots ≤ R.slots)
    (hK26 : ∀ (ar : Nat → Nat → Int32), K26 ar → ∀ (H : Heap) (locs : List Loc) (ls : Array Slot), va_P D vwCl (wm gI o ad fd ar lw) H → va_D A (wm gI o ad fd ar lw) → va_S A s.heap H locs → lv_has ls 2 [] → W p l e R s m args below meth c H locs cells slots Qf (F0 m 26 ls [])) :
    ∀ (n : Nat) (v1 : Int32) (ar : Nat → Nat → Int32), wp_M_puts_L1 fd lw K26 n v1 ar → ∀ (H : Heap) (locs : List Loc) (ls : Array Slot), va_P D vwCl (wm gI o ad fd ar lw) H → va_D A (wm gI o ad fd ar lw) → va_S A s.heap H locs → lv_has ls 2 [(0, .ref o), (1, .int v1)] → W p l e R s m args below meth c H locs cells slots Qf (F0 m 2 ls []) := by
  obtain ⟨⟨hx, hb, hml, hown, hts⟩, hr, hlocks, hA, hK, hE⟩ := id F
  intro n
  induction n with
  | zero => intro v1 ar h; exact h.elim
  | succ n ih =>
    intro v1 ar h H locs ls hP hD hS hl
    unfold wp_M_puts_L1 at h
    refine lv_iload_n hx hb dX3_puts_2 rfl (lv_at hl 1 rfl) ?_
    refine lv_bipush (v := (43 : Int32)) hx hb dX3_puts_3 (by decide) ?_
    refine lv_icmp_ge (tgt := 26) hx hb dX3_puts_5 (by decide) (fun c1 => ?_) (fun c1 => ?_)
    · replace h := h.1 c1
      exact hK26 _ h _ _ _ hP hD hS (lv_sub hl [] rfl)
    · replace h := h.2 c1
      refine lv_aload_n hx hb dX3_puts_8 rfl (lv_at hl 0 rfl) ?_
      refine va_get hx hb hts in_X3 hown hK hP 0 rfl rfl 13 (Nat.le_of_ble_eq_true rfl) (hts _ q1231) (fun _ h => h) (v := .ref (ad 13)) rfl dX3_puts_9 ?_
      refine lv_iload_n hx hb dX3_puts_12 rfl (lv_at hl 1 rfl) ?_
      refine lv_aload_n hx hb dX3_puts_13 rfl (lv_at hl 0 rfl) ?_
      refine va_get hx hb hts in_X3 hown hK hP 0 rfl rfl 12 (Nat.le_of_ble_eq_true rfl) (hts _ q1230) (fun _ h => h) (v := .ref (ad 12)) rfl dX3_puts_14 ?_
      refine lv_iload_n hx hb dX3_puts_17 rfl (lv_at hl 1 rfl) ?_
      refine va_iald (f := (ar 12)) hx hb hK hP 8 0 rfl rfl h.1 dX3_puts_18 ?_
      replace h := h.2
      refine pt_iast (f := (ar 13)) hx hb hK hP hD hS 9 0 rfl rfl h.1 dX3_puts_19 wmA_13 (fun H locs hP hD hS => ?_)
      replace h := h.2
      refine lv_iinc (v := (v1 + (1 : Int32))) (lv' := [(1, .int (v1 + (1 : Int32))), (0, .ref o)]) hx hb dX3_puts_20 hl (k := 1) rfl rfl (by decide) rfl (fun ls hl => ?_)
      refine lv_goto (tgt := 2) hx hb dX3_puts_23 (by decide) ?_
      exact ih _ _ h _ _ _ hP hD hS (lv_sub hl [1, 0] rfl)
set_option maxHeartbeats 4000000 in
theorem ct_M_puts {l : Launch} {V : evT} {D : va_G} {gI : Nat → ClassId} {o : Nat} {ad : Nat → Nat} {fd : Nat → Int32} {ar : Nat → Nat → Int32} {lw : Nat → Int64} {Q : (Nat → Nat → Int32) → Prop} (h : wp_M_puts fd ar lw Q) : ct_v l V D vwCl (tyL gI) yX3_puts cX3_puts 2 { frames := 1, cells := 0, slots := 0, locals := 12 } [.ref o] (wm gI o ad fd ar lw) (fun u : (Nat → Nat → Int32) => (wm gI o ad fd u lw)) (fun (u : (Nat → Nat → Int32)) => Q u) := by
  refine ct_ofv RX3 rfl (by decide +kernel) (Nat.le_of_ble_eq_true rfl) ?_
  intro p e s m args below meth c A F _ hP hD ls hl
  obtain ⟨⟨hx, hb, hml, hown, hts⟩, hr, hlocks, hA, hK, hE⟩ := id F
  have hS : va_S A s.heap s.heap [] := va_S.rf
  have hl : lv_has ls 2 [(0, .ref o)] := hl
  have hRf : 1 ≤ ({ frames := 1, cells := 0, slots := 0, locals := 12 } : Room).frames := Nat.le_refl _
  have hRl : 12 ≤ ({ frames := 1, cells := 0, slots := 0, locals := 12 } : Room).locals := Nat.le_refl _
  have hC : 0 ≤ ({ frames := 1, cells := 0, slots := 0, locals := 12 } : Room).cells := Nat.le_refl _
  have hSl : 0 ≤ ({ frames := 1, cells := 0, slots := 0, locals := 12 } : Room).slots := Nat.le_refl _
  unfold wp_M_puts at h
  refine lv_iconst (v := (0 : Int32)) hx hb dX3_puts_0 (by decide) ?_
  refine lv_istore_n (lv' := [(1, .int (0 : Int32)), (0, .ref o)]) hx hb dX3_puts_1 rfl hl (by decide) rfl (fun ls hl => ?_)
  obtain ⟨k2, h⟩ := h
  refine lp_M_puts_L1 F hRf hRl hC hSl ?hk26 k2 _ _ h _ _ _ hP hD hS (lv_sub hl [1, 0] rfl)
  case hk26 =>
    intro ar_2 h H locs ls hP hD hS hl
    exact rt_v F dX3_puts_26 (ar_2) h hP hD hS (Nat.le_refl _) (Nat.le_refl _)
set_option maxHeartbeats 4000000 in
theorem ct_M_forget {l : Launch} {V : evT} {D : va_G} {gI : Nat → ClassId} {o : Nat} {ad : Nat → Nat} {fd : Nat → Int32} {ar : Nat → Nat → Int32} {lw : Nat → Int64} {Q : Int32 → (Nat → Int32) → Prop} (h : wp_M_forget fd ar lw Q) : ct_i l V D vwCl (tyL gI) yX3_forget cX3_forget 2 .int { frames := 2, cells := 0, slots := 0, locals := 32 } [.ref o] (wm gI o ad fd ar lw) (fun u : (Nat → Int32) => (wm gI o ad u ar lw)) (fun (x : Int32) (u : (Nat → Int32)) => Q x u) := by
  refine ct_ofi RX3 rfl (by decide +kernel) (Nat.le_of_ble_eq_true rfl) ?_
  intro p e s m args below meth c A F hP hD ls hl
  obtain ⟨⟨hx, hb, hml, hown, hts⟩, hr, hlocks, hA, hK, hE⟩ := id F
  have hS : va_S A s.heap s.heap [] := va_S.rf
  have hl : lv_has ls 2 [(0, .ref o)] := hl
  have hRf : 2 ≤ ({ frames := 2, cells := 0, slots := 0, locals := 32 } : Room).frames := Nat.le_refl _
  have hRl : 32 ≤ ({ frames := 2, cells := 0, slots := 0, locals := 32 } : Room).locals := Nat.le_refl _
  have hC : 0 ≤ ({ frames := 2, cells := 0, slots := 0, locals := 32 } : Room).cells := Nat.le_refl _
  have hSl : 0 ≤ ({ frames := 2, cells := 0, slots := 0, locals := 32 } : Room).slots := Nat.le_refl _
  unfold wp_M_forget at h
  refine lv_aload_n hx hb dX3_forget_0 rfl (lv_at hl 0 rfl) ?_
  refine lv_iconst (v := (0 : Int32)) hx hb dX3_forget_1 (by decide) ?_
  refine pt_put (v := .int (0 : Int32)) hx hb hts in_X3 tyX3 tyX3_ok nmX3 hown hK hP hD hS 0 rfl rfl 0 (Nat.le_of_ble_eq_true rfl) (hts _ q1218) (fun _ h => h) rfl (ty := .int) (by decide +kernel) rfl rfl (Nat.le_of_ble_eq_true rfl) dX3_forget_2 wmF_0 (fun H locs hP hD hS => ?_)
  refine lv_aload_n hx hb dX3_forget_5 rfl (lv_at hl 0 rfl) ?_
  refine va_get hx hb hts in_X3 hown hK hP 0 rfl rfl 42 (Nat.le_of_ble_eq_true rfl) (hts _ q1260) (fun _ h => h) (v := .int (fd 42)) rfl dX3_forget_6 ?_
  refine cl_i0 F (va_runS (As := [.int (fd 42)]) (rest := []) ⟨hx, hb, hml, hown, hts⟩ (ct_J10_bitCount h _) (va_cwS 1 hts (lw_S q1552 q586 q112 q587) rfl rfl rfl (by decide +kernel) ⟨Nat.le_trans (Nat.le_of_ble_eq_true rfl) hRf, Nat.le_trans (Nat.le_of_ble_eq_true rfl) hRl⟩) ⟨ct_blind, ct_at F hS ct_nP ct_nD⟩ rfl rfl hl.1 rfl (lv_room (Nat.le_of_ble_eq_true rfl)) dX3_forget_9 ⟨hC, hSl⟩) rfl rfl hP hS ?_
  rintro x1 _ H locs h hP hS
  refine lv_istore_n (lv' := [(1, .int x1), (0, .ref o)]) hx hb dX3_forget_12 rfl hl (by decide) rfl (fun ls hl => ?_)
  refine lv_aload_n hx hb dX3_forget_13 rfl (lv_at hl 1 rfl) ?_
  refine lv_iconst (v := (0 : Int32)) hx hb dX3_forget_14 (by decide) ?_
  refine pt_put (v := .int (0 : Int32)) hx hb hts in_X3 tyX3 tyX3_ok nmX3 hown hK hP hD hS 0 rfl rfl 42 (Nat.le_of_ble_eq_true rfl) (hts _ q1260) (fun _ h => h) rfl (ty := .int) (by decide +kernel) rfl rfl (Nat.le_of_ble_eq_true rfl) dX3_forget_15 wmF_42 (fun H locs hP hD hS => ?_)
  refine lv_iload_n hx hb dX3_forget_18 rfl (lv_at hl 0 rfl) ?_
  exact rt_i F dX3_forget_19 rfl ((upd (upd fd 0 (0 : Int32)) 42 (0 : Int32))) h hP hD hS (Nat.le_refl _) (Nat.le_refl _)
set_option maxHeartbeats 4000000 in
theorem ct_X3_earns {l : Launch} {V : evT} {D : va_G} {gI : Nat → ClassId} {v0 : Int32} {v1 : Int32} {v2 : Int32} {v3 : Int32} {Q : Int32 → Prop} (h : wp_X3_earns v0 v1 v2 v3  Q) : ct_i l V D vwCl (tyL gI) yX3_earns cX3_earns 4 .int { frames := 1, cells := 0, slots := 0, locals := 12 } [.int v0, .int v1, .int v2, .int v3] [] (fun u : Unit => []) (fun (x : Int32) (u : Unit) => Q x) := by
  refine ct_ofi RX3 rfl (by decide +kernel) (Nat.le_of_ble_eq_true rfl) ?_
  intro p e s m args below meth c A F hP hD ls hl
  obtain ⟨⟨hx, hb, hml, hown, hts⟩, hr, hlocks, hA, hK, hE⟩ := id F
  have hS : va_S A s.heap s.heap [] := va_S.rf
  have hl : lv_has ls 4 [(0, .int v0), (1, .int v1), (2, .int v2), (3, .int v3)] := hl
  have hRf : 1 ≤ ({ frames := 1, cells := 0, slots := 0, locals := 12 } : Room).frames := Nat.le_refl _
  have hRl : 12 ≤ ({ frames := 1, cells := 0, slots := 0, locals := 12 } : Room).locals := Nat.le_refl _
  have hC : 0 ≤ ({ frames := 1, cells := 0, slots := 0, locals := 12 } : Room).cells := Nat.le_refl _
  have hSl : 0 ≤ ({ frames := 1, cells := 0, slots := 0, locals := 12 } : Room).slots := Nat.le_refl _
  unfold wp_X3_earns at h
  refine lv_iload_n hx hb dX3_earns_0 rfl (lv_at hl 0 rfl) ?_
  refine lv_iload_n hx hb dX3_earns_1 rfl (lv_at hl 1 rfl) ?_
  refine lv_iadd hx hb dX3_earns_2 ?_
  refine lv_if_ne (tgt := 10) hx hb dX3_earns_3 (by decide) (fun c1 => ?_) (fun c1 => ?_)
  · replace h := h.1 c1
    refine lv_iload_n hx hb dX3_earns_10 rfl (lv_at hl 2 rfl) ?_
    refine lv_iload_n hx hb dX3_earns_11 rfl (lv_at hl 0 rfl) ?_
    refine lv_imul hx hb dX3_earns_12 ?_
    refine lv_iload_n hx hb dX3_earns_13 rfl (lv_at hl 0 rfl) ?_
    refine lv_iload_n hx hb dX3_earns_14 rfl (lv_at hl 1 rfl) ?_
    refine lv_iadd hx hb dX3_earns_15 ?_
    refine lv_idiv hx hb dX3_earns_16 h.1 ?_
    replace h := h.2
    refine lv_iload_n hx hb dX3_earns_17 rfl (lv_at hl 3 rfl) ?_
    refine lv_iload_n hx hb dX3_earns_18 rfl (lv_at hl 0 rfl) ?_
    refine lv_imul hx hb dX3_earns_19 ?_
    refine lv_isub hx hb dX3_earns_20 ?_
    exact rt_i F dX3_earns_21 rfl () h hP hD hS (Nat.le_refl _) (Nat.le_refl _)
  · replace h := h.2 c1
    refine lv_iconst (v := (0 : Int32)) hx hb dX3_earns_6 (by decide) ?_
    refine lv_goto (tgt := 21) hx hb dX3_earns_7 (by decide) ?_
    exact rt_i F dX3_earns_21 rfl () h hP hD hS (Nat.le_refl _) (Nat.le_refl _)
set_option maxHeartbeats 4000000 in
theorem ct_M_draws {l : Launch} {V : evT} {D : va_G} {gI : Nat → ClassId} {o : Nat} {ad : Nat → Nat} {v1 : Int32} {fd : Nat → Int32} {ar : Nat → Nat → Int32} {lw : Nat → Int64} {Q : Int32 → (Nat → Int32) → Prop} (h : wp_M_draws v1 fd ar lw Q) : ct_i l V D vwCl (tyL gI) yX3_draws cX3_draws 2 .int { frames := 1, cells := 0, slots := 0, locals := 12 } [.ref o, .int v1] (wm gI o ad fd ar lw) (fun u : (Nat → Int32) => (wm gI o ad u ar lw)) (fun (x : Int32) (u : (Nat → Int32)) => Q x u) := by
  refine ct_ofi RX3 rfl (by decide +kernel) (Nat.le_of_ble_eq_true rfl) ?_
  intro p e s m args below meth c A F hP hD ls hl
  obtain ⟨⟨hx, hb, hml, hown, hts⟩, hr, hlocks, hA, hK, hE⟩ := id F
  have hS : va_S A s.heap s.heap [] := va_S.rf
  have hl : lv_has ls 2 [(0, .ref o), (1, .int v1)] := hl
  have hRf : 1 ≤ ({ frames := 1, cells := 0, slots := 0, locals := 12 } : Room).frames := Nat.le_refl _
  have hRl : 12 ≤ ({ frames := 1, cells := 0, slots := 0, locals := 12 } : Room).locals := Nat.le_refl _
  have hC : 0 ≤ ({ frames := 1, cells := 0, slots := 0, locals := 12 } : Room).cells := Nat.le_refl _
  have hSl : 0 ≤ ({ frames := 1, cells := 0, slots := 0, locals := 12 } : Room).slots := Nat.le_refl _
  unfold wp_M_draws at h
  refine lv_aload_n hx hb dX3_draws_0 rfl (lv_at hl 0 rfl) ?_
  refine lv_aload_n hx hb dX3_draws_1 rfl (lv_at hl 0 rfl) ?_
  refine va_get hx hb hts in_X3 hown hK hP 0 rfl rfl 49 (Nat.le_of_ble_eq_true rfl) (hts _ q1267) (fun _ h => h) (v := .int (fd 49)) rfl dX3_draws_2 ?_
  refine lv_ldcw (v := (1103515245 : Int32)) hx hb hown (hts _ q1844) dX3_draws_5 ?_
  refine lv_imul hx hb dX3_draws_8 ?_
  refine lv_sipush (v := (12345 : Int32)) hx hb dX3_draws_9 (by decide) ?_
  refine lv_iadd hx hb dX3_draws_12 ?_
  refine pt_put (v := .int (((fd 49) * (1103515245 : Int32)) + (12345 : Int32))) hx hb hts in_X3 tyX3 tyX3_ok nmX3 hown hK hP hD hS 0 rfl rfl 49 (Nat.le_of_ble_eq_true rfl) (hts _ q1267) (fun _ h => h) rfl (ty := .int) (by decide +kernel) rfl rfl (Nat.le_of_ble_eq_true rfl) dX3_draws_13 wmF_49 (fun H locs hP hD hS => ?_)
  refine lv_aload_n hx hb dX3_draws_16 rfl (lv_at hl 0 rfl) ?_
  refine va_get hx hb hts in_X3 hown hK hP 0 rfl rfl 49 (Nat.le_of_ble_eq_true rfl) (hts _ q1267) (fun _ h => h) (v := .int (((fd 49) * (1103515245 : Int32)) + (12345 : Int32))) rfl dX3_draws_17 ?_
  refine lv_bipush (v := (16 : Int32)) hx hb dX3_draws_20 (by decide) ?_
  refine lv_iushr (v := ((((fd 49) * (1103515245 : Int32)) + (12345 : Int32)).toUInt32 >>> ((16 : Int32).toUInt32 &&& Int32.toUInt32 31)).toInt32) hx hb dX3_draws_22 rfl ?_
  refine lv_iload_n hx hb dX3_draws_23 rfl (lv_at hl 1 rfl) ?_
  refine lv_irem hx hb dX3_draws_24 h.1 ?_
  replace h := h.2
  exact rt_i F dX3_draws_25 rfl ((upd fd 49 (((fd 49) * (1103515245 : Int32)) + (12345 : Int32)))) h hP hD hS (Nat.le_refl _) (Nat.le_refl _)
set_option maxHeartbeats 4000000 in
theorem ct_M_end {l : Launch} {V : evT} {D : va_G} {gI : Nat → ClassId} {o : Nat} {ad : Nat → Nat} {v1 : Int32} {fd : Nat → Int32} {ar : Nat → Nat → Int32} {lw : Nat → Int64} {Q : Int32 → (Nat → Int32) → Prop} (h : wp_M_end v1 fd ar lw Q) : ct_i l V D vwCl (tyL gI) yX3_end cX3_end 2 .boolean { frames := 2, cells := 0, slots := 0, locals := 37 } [.ref o, .int v1] (wm gI o ad fd ar lw) (fun u : (Nat → Int32) => (wm gI o ad u ar lw)) (fun (x : Int32) (u : (Nat → Int32)) => Q x u) := by
  refine ct_ofi RX3 rfl (by decide +kernel) (Nat.le_of_ble_eq_true rfl) ?_
  intro p e s m args below meth c A F hP hD ls hl
  obtain ⟨⟨hx, hb, hml, hown, hts⟩, hr, hlocks, hA, hK, hE⟩ := id F
  have hS : va_S A s.heap s.heap [] := va_S.rf
  have hl : lv_has ls 2 [(0, .ref o), (1, .int v1)] := hl
  have hRf : 2 ≤ ({ frames := 2, cells := 0, slots := 0, locals := 37 } : Room).frames := Nat.le_refl _
  have hRl : 37 ≤ ({ frames := 2, cells := 0, slots := 0, locals := 37 } : Room).locals := Nat.le_refl _
  have hC : 0 ≤ ({ frames := 2, cells := 0, slots := 0, locals := 37 } : Room).cells := Nat.le_refl _
  have hSl : 0 ≤ ({ frames := 2, cells := 0, slots := 0, locals := 37 } : Room).slots := Nat.le_refl _
  unfold wp_M_end at h
  refine lv_aload_n hx hb dX3_end_0 rfl (lv_at hl 0 rfl) ?_
  refine lv_iconst (v := (0 : Int32)) hx hb dX3_end_1 (by decide) ?_
  refine pt_put (v := .int (0 : Int32)) hx hb hts in_X3 tyX3 tyX3_ok nmX3 hown hK hP hD hS 0 rfl rfl 0 (Nat.le_of_ble_eq_true rfl) (hts _ q1218) (fun _ h => h) rfl (ty := .int) (by decide +kernel) rfl rfl (Nat.le_of_ble_eq_true rfl) dX3_end_2 wmF_0 (fun H locs hP hD hS => ?_)
  refine lv_iload_n hx hb dX3_end_5 rfl (lv_at hl 1 rfl) ?_
  refine lv_i2l (v := (v1.toInt64)) hx hb dX3_end_6 rfl ?_
  refine lv_lconst (v := (0 : Int64)) hx hb dX3_end_7 (by decide) ?_
  refine lv_aload_n hx hb dX3_end_8 rfl (lv_at hl 0 rfl) ?_
  refine va_get hx hb hts in_X3 hown hK hP 0 rfl rfl 15 (Nat.le_of_ble_eq_true rfl) (hts _ q1233) (fun _ h => h) (v := .int (fd 15)) rfl dX3_end_9 ?_
  refine lv_i2l (v := ((fd 15).toInt64)) hx hb dX3_end_12 rfl ?_
  refine cl_i0 F (va_runS (As := [.long (v1.toInt64), .long (0 : Int64), .long ((fd 15).toInt64)]) (rest := []) ⟨hx, hb, hml, hown, hts⟩ (ct_X3_in h _) (va_cwS 3 hts (lw_S q1391 q1392 q97 q1393) rfl rfl rfl (by decide +kernel) ⟨Nat.le_trans (Nat.le_of_ble_eq_true rfl) hRf, Nat.le_trans (Nat.le_of_ble_eq_true rfl) hRl⟩) ⟨ct_blind, ct_at F hS ct_nP ct_nD⟩ rfl rfl hl.1 rfl (lv_room (Nat.le_of_ble_eq_true rfl)) dX3_end_13 ⟨hC, hSl⟩) rfl rfl hP hS ?_
  rintro x1 _ H locs h hP hS
  refine lv_if_ne (tgt := 21) hx hb dX3_end_16 (by decide) (fun c2 => ?_) (fun c2 => ?_)
  · replace h := h.1 c2
    refine lv_aload_n hx hb dX3_end_21 rfl (lv_at hl 0 rfl) ?_
    refine lv_iload_n hx hb dX3_end_22 rfl (lv_at hl 1 rfl) ?_
    refine pt_put (v := .int v1) hx hb hts in_X3 tyX3 tyX3_ok nmX3 hown hK hP hD hS 0 rfl rfl 15 (Nat.le_of_ble_eq_true rfl) (hts _ q1233) (fun _ h => h) rfl (ty := .int) (by decide +kernel) rfl rfl (Nat.le_of_ble_eq_true rfl) dX3_end_23 wmF_15 (fun H locs hP hD hS => ?_)
    refine lv_iconst (v := (1 : Int32)) hx hb dX3_end_26 (by decide) ?_
    exact rt_i F dX3_end_27 rfl ((upd (upd fd 0 (0 : Int32)) 15 v1)) h hP hD hS (Nat.le_refl _) (Nat.le_refl _)
  · replace h := h.2 c2
    refine lv_iconst (v := (0 : Int32)) hx hb dX3_end_19 (by decide) ?_
    exact rt_i F dX3_end_20 rfl ((upd fd 0 (0 : Int32))) h hP hD hS (Nat.le_refl _) (Nat.le_refl _)
set_option maxHeartbeats 4000000 in
theorem lp_M_takes_J2 {p : Program} {l : Launch} {e : Env} {R : Room} {s : State} {m : MethodId} {args : Array Value} {below : List Frame} {meth : Method} {c : Code} {cells slots : Nat} {A : Nat → Prop} {V : evT} {D : va_G} {gI : Nat → ClassId} {o : Nat} {ad : Nat → Nat} {ar : Nat → Nat → Int32} {lw : Nat → Int64} {Q : Int32 → (Nat → Int32) → Prop} (F : ct_F p m c meth cX3_takes 3 s args RX3 (some .boolean) A V D vwCl (tyL gI)) (hRf : 2 ≤ R.frames) (hRl : 32 ≤ R.locals) (hC : cells ≤ R.cells) (hSl : slots ≤ R.slots) :
    ∀ (t0 : Int32) (fd : Nat → Int32), wp_M_takes_J2 ar lw Q t0 fd → ∀ (H : Heap) (locs : List Loc) (ls : Array Slot), va_P D vwCl (wm gI o ad fd ar lw) H → va_D A (wm gI o ad fd ar lw) → va_S A s.heap H locs → lv_has ls 3 [(0, .ref o)] → W p l e R s m args below meth c H locs cells slots (MQ below (va_Qi (fun (x : Int32) (u : (Nat → Int32)) => Q x u) (fun u t => va_P D vwCl (wm gI o ad u ar lw) t.heap ∧ va_K D vwCl (tyL gI) t ∧ va_D A (wm gI o ad u ar lw)) A) args s cells slots A) (F0 m 29 ls [.int t0]) := by
  obtain ⟨⟨hx, hb, hml, hown, hts⟩, hr, hlocks, hA, hK, hE⟩ := id F
  intro t0 fd h H locs ls hP hD hS hl
  unfold wp_M_takes_J2 at h
  refine lv_istore_n (lv' := [(2, .int t0), (0, .ref o)]) hx hb dX3_takes_29 rfl hl (by decide) rfl (fun ls hl => ?_)
  refine lv_aload_n hx hb dX3_takes_30 rfl (lv_at hl 1 rfl) ?_
  refine lv_dup hx hb dX3_takes_31 rfl ?_
  refine va_get hx hb hts in_X3 hown hK hP 0 rfl rfl 16 (Nat.le_of_ble_eq_true rfl) (hts _ q1234) (fun _ h => h) (v := .int (fd 16)) rfl dX3_takes_32 ?_
  refine lv_iload_n hx hb dX3_takes_35 rfl (lv_at hl 0 rfl) ?_
  refine cl_i0 F (va_runS (As := [.int t0]) (rest := [.int (fd 16), .ref o]) ⟨hx, hb, hml, hown, hts⟩ (ct_X3_flag h _) (va_cwS 1 hts (lw_S q1407 q1408 q97 q1409) rfl rfl rfl (by decide +kernel) ⟨Nat.le_trans (Nat.le_of_ble_eq_true rfl) hRf, Nat.le_trans (Nat.le_of_ble_eq_true rfl) hRl⟩) ⟨ct_blind, ct_at F hS ct_nP ct_nD⟩ rfl rfl hl.1 rfl (lv_room (Nat.le_of_ble_eq_true rfl)) dX3_takes_36 ⟨hC, hSl⟩) rfl rfl hP hS ?_
  rintro x1 _ H locs h hP hS
  refine lv_iadd hx hb dX3_takes_39 ?_
  refine pt_put (v := .int ((fd 16) + x1)) hx hb hts in_X3 tyX3 tyX3_ok nmX3 hown hK hP hD hS 0 rfl rfl 16 (Nat.le_of_ble_eq_true rfl) (hts _ q1234) (fun _ h => h) rfl (ty := .int) (by decide +kernel) rfl rfl (Nat.le_of_ble_eq_true rfl) dX3_takes_40 wmF_16 (fun H locs hP hD hS => ?_)
  refine lv_iload_n hx hb dX3_takes_43 rfl (lv_at hl 0 rfl) ?_
  exact rt_i F dX3_takes_44 (by rcases h.1 with e | e <;> rw [e] <;> rfl) ((upd fd 16 ((fd 16) + x1))) h.2 hP hD hS (Nat.le_refl _) (Nat.le_refl _)
set_option maxHeartbeats 4000000 in
theorem lp_M_takes_J1 {p : Program} {l : Launch} {e : Env} {R : Room} {s : State} {m : MethodId} {args : Array Value} {below : List Frame} {meth : Method} {c : Code} {cells slots : Nat} {A : Nat → Prop} {V : evT} {D : va_G} {gI : Nat → ClassId} {o : Nat} {ad : Nat → Nat} {ar : Nat → Nat → Int32} {lw : Nat → Int64} {Q : Int32 → (Nat → Int32) → Prop} (F : ct_F p m c meth cX3_takes 3 s args RX3 (some .boolean) A V D vwCl (tyL gI)) (hRf : 2 ≤ R.frames) (hRl : 32 ≤ R.locals) (hC : cells ≤ R.cells) (hSl : slots ≤ R.slots) :
    ∀ (fd : Nat → Int32), wp_M_takes_J1 ar lw Q fd → ∀ (H : Heap) (locs : List Loc) (ls : Array Slot), va_P D vwCl (wm gI o ad fd ar lw) H → va_D A (wm gI o ad fd ar lw) → va_S A s.heap H locs → lv_has ls 3 [(0, .ref o)] → W p l e R s m args below meth c H locs cells slots (MQ below (va_Qi (fun (x : Int32) (u : (Nat → Int32)) => Q x u) (fun u t => va_P D vwCl (wm gI o ad u ar lw) t.heap ∧ va_K D vwCl (tyL gI) t ∧ va_D A (wm gI o ad u ar lw)) A) args s cells slots A) (F0 m 28 ls []) := by
  obtain ⟨⟨hx, hb, hml, hown, hts⟩, hr, hlocks, hA, hK, hE⟩ := id F
  intro fd h H locs ls hP hD hS hl
  unfold wp_M_takes_J1 at h
  refine lv_iconst (v := (0 : Int32)) hx hb dX3_takes_28 (by decide) ?_
  refine lp_M_takes_J2 F hRf hRl hC hSl  _ _ h _ _ _ hP hD hS (lv_sub hl [0] rfl)
set_option maxHeartbeats 4000000 in
theorem ct_M_takes {l : Launch} {V : evT} {D : va_G} {gI : Nat → ClassId} {o : Nat} {ad : Nat → Nat} {v1 : Int32} {fd : Nat → Int32} {ar : Nat → Nat → Int32} {lw : Nat → Int64} {Q : Int32 → (Nat → Int32) → Prop} (h : wp_M_takes v1 fd ar lw Q) : ct_i l V D vwCl (tyL gI) yX3_takes cX3_takes 3 .boolean { frames := 2, cells := 0, slots := 0, locals := 32 } [.ref o, .int v1] (wm gI o ad fd ar lw) (fun u : (Nat → Int32) => (wm gI o ad u ar lw)) (fun (x : Int32) (u : (Nat → Int32)) => Q x u) := by
  refine ct_ofi RX3 rfl (by decide +kernel) (Nat.le_of_ble_eq_true rfl) ?_
  intro p e s m args below meth c A F hP hD ls hl
  obtain ⟨⟨hx, hb, hml, hown, hts⟩, hr, hlocks, hA, hK, hE⟩ := id F
  have hS : va_S A s.heap s.heap [] := va_S.rf
  have hl : lv_has ls 3 [(0, .ref o), (1, .int v1)] := hl
  have hRf : 2 ≤ ({ frames := 2, cells := 0, slots := 0, locals := 32 } : Room).frames := Nat.le_refl _
  have hRl : 32 ≤ ({ frames := 2, cells := 0, slots := 0, locals := 32 } : Room).locals := Nat.le_refl _
  have hC : 0 ≤ ({ frames := 2, cells := 0, slots := 0, locals := 32 } : Room).cells := Nat.le_refl _
  have hSl : 0 ≤ ({ frames := 2, cells := 0, slots := 0, locals := 32 } : Room).slots := Nat.le_refl _
  unfold wp_M_takes at h
  refine lv_aload_n hx hb dX3_takes_0 rfl (lv_at hl 0 rfl) ?_
  refine va_get hx hb hts in_X3 hown hK hP 0 rfl rfl 16 (Nat.le_of_ble_eq_true rfl) (hts _ q1234) (fun _ h => h) (v := .int (fd 16)) rfl dX3_takes_1 ?_
  refine lv_aload_n hx hb dX3_takes_4 rfl (lv_at hl 0 rfl) ?_
  refine va_get hx hb hts in_X3 hown hK hP 0 rfl rfl 17 (Nat.le_of_ble_eq_true rfl) (hts _ q1235) (fun _ h => h) (v := .int (fd 17)) rfl dX3_takes_5 ?_
  refine lv_icmp_ge (tgt := 28) hx hb dX3_takes_8 (by decide) (fun c3 => ?_) (fun c3 => ?_)
  · replace h := h.1 c3
    refine lp_M_takes_J1 F hRf hRl hC hSl  _ h _ _ _ hP hD hS (lv_sub hl [0] rfl)
  · replace h := h.2 c3
    refine lv_aload_n hx hb dX3_takes_11 rfl (lv_at hl 0 rfl) ?_
    refine va_get hx hb hts in_X3 hown hK hP 0 rfl rfl 14 (Nat.le_of_ble_eq_true rfl) (hts _ q1232) (fun _ h => h) (v := .ref (ad 14)) rfl dX3_takes_12 ?_
    refine lv_aload_n hx hb dX3_takes_15 rfl (lv_at hl 0 rfl) ?_
    refine va_get hx hb hts in_X3 hown hK hP 0 rfl rfl 16 (Nat.le_of_ble_eq_true rfl) (hts _ q1234) (fun _ h => h) (v := .int (fd 16)) rfl dX3_takes_16 ?_
    refine va_iald (f := (ar 14)) hx hb hK hP 10 0 rfl rfl h.1 dX3_takes_19 ?_
    replace h := h.2
    refine lv_iload_n hx hb dX3_takes_20 rfl (lv_at hl 1 rfl) ?_
    refine lv_icmp_ne (tgt := 28) hx hb dX3_takes_21 (by decide) (fun c2 => ?_) (fun c2 => ?_)
    · replace h := h.1 c2
      refine lp_M_takes_J1 F hRf hRl hC hSl  _ h _ _ _ hP hD hS (lv_sub hl [0] rfl)
    · replace h := h.2 c2
      refine lv_iconst (v := (1 : Int32)) hx hb dX3_takes_24 (by decide) ?_
      refine lv_goto (tgt := 29) hx hb dX3_takes_25 (by decide) ?_
      refine lp_M_takes_J2 F hRf hRl hC hSl  _ _ h _ _ _ hP hD hS (lv_sub hl [0] rfl)
set_option maxHeartbeats 4000000 in
theorem ct_M_isDigit {l : Launch} {V : evT} {D : va_G} {gI : Nat → ClassId} {o : Nat} {ad : Nat → Nat} {fd : Nat → Int32} {ar : Nat → Nat → Int32} {lw : Nat → Int64} {Q : Int32 → Prop} (h : wp_M_isDigit fd ar lw Q) : ct_i l V D vwCl (tyL gI) yX3_isDigit cX3_isDigit 1 .boolean { frames := 2, cells := 0, slots := 0, locals := 37 } [.ref o] (wm gI o ad fd ar lw) (fun u : Unit => (wm gI o ad fd ar lw)) (fun (x : Int32) (u : Unit) => Q x) := by
  refine ct_ofi RX3 rfl (by decide +kernel) (Nat.le_of_ble_eq_true rfl) ?_
  intro p e s m args below meth c A F hP hD ls hl
  obtain ⟨⟨hx, hb, hml, hown, hts⟩, hr, hlocks, hA, hK, hE⟩ := id F
  have hS : va_S A s.heap s.heap [] := va_S.rf
  have hl : lv_has ls 1 [(0, .ref o)] := hl
  have hRf : 2 ≤ ({ frames := 2, cells := 0, slots := 0, locals := 37 } : Room).frames := Nat.le_refl _
  have hRl : 37 ≤ ({ frames := 2, cells := 0, slots := 0, locals := 37 } : Room).locals := Nat.le_refl _
  have hC : 0 ≤ ({ frames := 2, cells := 0, slots := 0, locals := 37 } : Room).cells := Nat.le_refl _
  have hSl : 0 ≤ ({ frames := 2, cells := 0, slots := 0, locals := 37 } : Room).slots := Nat.le_refl _
  unfold wp_M_isDigit at h
  refine lv_aload_n hx hb dX3_isDigit_0 rfl (lv_at hl 0 rfl) ?_
  refine va_get hx hb hts in_X3 hown hK hP 0 rfl rfl 16 (Nat.le_of_ble_eq_true rfl) (hts _ q1234) (fun _ h => h) (v := .int (fd 16)) rfl dX3_isDigit_1 ?_
  refine lv_aload_n hx hb dX3_isDigit_4 rfl (lv_at hl 0 rfl) ?_
  refine va_get hx hb hts in_X3 hown hK hP 0 rfl rfl 17 (Nat.le_of_ble_eq_true rfl) (hts _ q1235) (fun _ h => h) (v := .int (fd 17)) rfl dX3_isDigit_5 ?_
  refine lv_icmp_ge (tgt := 37) hx hb dX3_isDigit_8 (by decide) (fun c3 => ?_) (fun c3 => ?_)
  · replace h := h.1 c3
    refine lv_iconst (v := (0 : Int32)) hx hb dX3_isDigit_37 (by decide) ?_
    exact rt_i F dX3_isDigit_38 rfl () h hP hD hS (Nat.le_refl _) (Nat.le_refl _)
  · replace h := h.2 c3
    refine lv_aload_n hx hb dX3_isDigit_11 rfl (lv_at hl 0 rfl) ?_
    refine va_get hx hb hts in_X3 hown hK hP 0 rfl rfl 14 (Nat.le_of_ble_eq_true rfl) (hts _ q1232) (fun _ h => h) (v := .ref (ad 14)) rfl dX3_isDigit_12 ?_
    refine lv_aload_n hx hb dX3_isDigit_15 rfl (lv_at hl 0 rfl) ?_
    refine va_get hx hb hts in_X3 hown hK hP 0 rfl rfl 16 (Nat.le_of_ble_eq_true rfl) (hts _ q1234) (fun _ h => h) (v := .int (fd 16)) rfl dX3_isDigit_16 ?_
    refine va_iald (f := (ar 14)) hx hb hK hP 10 0 rfl rfl h.1 dX3_isDigit_19 ?_
    replace h := h.2
    refine lv_i2l (v := ((ar 14 (fd 16).toNatClampNeg).toInt64)) hx hb dX3_isDigit_20 rfl ?_
    refine lv_ldc2 (v := (48 : Int64)) hx hb hown (hts _ q1418) dX3_isDigit_21 ?_
    refine lv_ldc2 (v := (57 : Int64)) hx hb hown (hts _ q1419) dX3_isDigit_24 ?_
    refine cl_i0 F (va_runS (As := [.long ((ar 14 (fd 16).toNatClampNeg).toInt64), .long (48 : Int64), .long (57 : Int64)]) (rest := []) ⟨hx, hb, hml, hown, hts⟩ (ct_X3_in h _) (va_cwS 3 hts (lw_S q1391 q1392 q97 q1393) rfl rfl rfl (by decide +kernel) ⟨Nat.le_trans (Nat.le_of_ble_eq_true rfl) hRf, Nat.le_trans (Nat.le_of_ble_eq_true rfl) hRl⟩) ⟨ct_blind, ct_at F hS ct_nP ct_nD⟩ rfl rfl hl.1 rfl (lv_room (Nat.le_of_ble_eq_true rfl)) dX3_isDigit_27 ⟨hC, hSl⟩) rfl rfl hP hS ?_
    rintro x1 _ H locs h hP hS
    refine lv_if_eq (tgt := 37) hx hb dX3_isDigit_30 (by decide) (fun c2 => ?_) (fun c2 => ?_)
    · replace h := h.1 c2
      refine lv_iconst (v := (0 : Int32)) hx hb dX3_isDigit_37 (by decide) ?_
      exact rt_i F dX3_isDigit_38 rfl () h hP hD hS (Nat.le_refl _) (Nat.le_refl _)
    · replace h := h.2 c2
      refine lv_iconst (v := (1 : Int32)) hx hb dX3_isDigit_33 (by decide) ?_
      refine lv_goto (tgt := 38) hx hb dX3_isDigit_34 (by decide) ?_
      exact rt_i F dX3_isDigit_38 rfl () h hP hD hS (Nat.le_refl _) (Nat.le_refl _)
set_option maxHeartbeats 4000000 in
theorem ct_M_signIn {l : Launch} {V : evT} {D : va_G} {gI : Nat → ClassId} {o : Nat} {ad : Nat → Nat} {v1 : Int32} {v2 : Int32} {v3 : Int32} {fd : Nat → Int32} {ar : Nat → Nat → Int32} {lw : Nat → Int64} {Q : Int32 → (Nat → Int32) → Prop} (h : wp_M_signIn v1 v2 v3 fd ar lw Q) : ct_i l V D vwCl (tyL gI) yX3_signIn cX3_signIn 4 .int { frames := 2, cells := 0, slots := 0, locals := 37 } [.ref o, .int v1, .int v2, .int v3] (wm gI o ad fd ar lw) (fun u : (Nat → Int32) => (wm gI o ad u ar lw)) (fun (x : Int32) (u : (Nat → Int32)) => Q x u) := by
  refine ct_ofi RX3 rfl (by decide +kernel) (Nat.le_of_ble_eq_true rfl) ?_
  intro p e s m args below meth c A F hP hD ls hl
  obtain ⟨⟨hx, hb, hml, hown, hts⟩, hr, hlocks, hA, hK, hE⟩ := id F
  have hS : va_S A s.heap s.heap [] := va_S.rf
  have hl : lv_has ls 4 [(0, .ref o), (1, .int v1), (2, .int v2), (3, .int v3)] := hl
  have hRf : 2 ≤ ({ frames := 2, cells := 0, slots := 0, locals := 37 } : Room).frames := Nat.le_refl _
  have hRl : 37 ≤ ({ frames := 2, cells := 0, slots := 0, locals := 37 } : Room).locals := Nat.le_refl _
  have hC : 0 ≤ ({ frames := 2, cells := 0, slots := 0, locals := 37 } : Room).cells := Nat.le_refl _
  have hSl : 0 ≤ ({ frames := 2, cells := 0, slots := 0, locals := 37 } : Room).slots := Nat.le_refl _
  unfold wp_M_signIn at h
  refine lv_aload_n hx hb dX3_signIn_0 rfl (lv_at hl 0 rfl) ?_
  refine va_get hx hb hts in_X3 hown hK hP 0 rfl rfl 16 (Nat.le_of_ble_eq_true rfl) (hts _ q1234) (fun _ h => h) (v := .int (fd 16)) rfl dX3_signIn_1 ?_
  refine lv_aload_n hx hb dX3_signIn_4 rfl (lv_at hl 0 rfl) ?_
  refine va_get hx hb hts in_X3 hown hK hP 0 rfl rfl 17 (Nat.le_of_ble_eq_true rfl) (hts _ q1235) (fun _ h => h) (v := .int (fd 17)) rfl dX3_signIn_5 ?_
  refine lv_icmp_ge (tgt := 33) hx hb dX3_signIn_8 (by decide) (fun c3 => ?_) (fun c3 => ?_)
  · replace h := h.1 c3
    refine lv_iconst (v := (-1 : Int32)) hx hb dX3_signIn_33 (by decide) ?_
    exact rt_i F dX3_signIn_34 rfl (fd) h hP hD hS (Nat.le_refl _) (Nat.le_refl _)
  · replace h := h.2 c3
    refine lv_aload_n hx hb dX3_signIn_11 rfl (lv_at hl 0 rfl) ?_
    refine va_get hx hb hts in_X3 hown hK hP 0 rfl rfl 14 (Nat.le_of_ble_eq_true rfl) (hts _ q1232) (fun _ h => h) (v := .ref (ad 14)) rfl dX3_signIn_12 ?_
    refine lv_aload_n hx hb dX3_signIn_15 rfl (lv_at hl 0 rfl) ?_
    refine va_get hx hb hts in_X3 hown hK hP 0 rfl rfl 16 (Nat.le_of_ble_eq_true rfl) (hts _ q1234) (fun _ h => h) (v := .int (fd 16)) rfl dX3_signIn_16 ?_
    refine va_iald (f := (ar 14)) hx hb hK hP 10 0 rfl rfl h.1 dX3_signIn_19 ?_
    replace h := h.2
    refine lv_iload_n hx hb dX3_signIn_20 rfl (lv_at hl 1 rfl) ?_
    refine lv_isub hx hb dX3_signIn_21 ?_
    refine lv_i2l (v := (((ar 14 (fd 16).toNatClampNeg) - v1).toInt64)) hx hb dX3_signIn_22 rfl ?_
    refine lv_iload_n hx hb dX3_signIn_23 rfl (lv_at hl 2 rfl) ?_
    refine lv_i2l (v := (v2.toInt64)) hx hb dX3_signIn_24 rfl ?_
    refine lv_iload_n hx hb dX3_signIn_25 rfl (lv_at hl 3 rfl) ?_
    refine lv_i2l (v := (v3.toInt64)) hx hb dX3_signIn_26 rfl ?_
    refine cl_i0 F (va_runS (As := [.long (((ar 14 (fd 16).toNatClampNeg) - v1).toInt64), .long (v2.toInt64), .long (v3.toInt64)]) (rest := []) ⟨hx, hb, hml, hown, hts⟩ (ct_X3_in h _) (va_cwS 3 hts (lw_S q1391 q1392 q97 q1393) rfl rfl rfl (by decide +kernel) ⟨Nat.le_trans (Nat.le_of_ble_eq_true rfl) hRf, Nat.le_trans (Nat.le_of_ble_eq_true rfl) hRl⟩) ⟨ct_blind, ct_at F hS ct_nP ct_nD⟩ rfl rfl hl.1 rfl (lv_room (Nat.le_of_ble_eq_true rfl)) dX3_signIn_27 ⟨hC, hSl⟩) rfl rfl hP hS ?_
    rintro x1 _ H locs h hP hS
    refine lv_if_ne (tgt := 35) hx hb dX3_signIn_30 (by decide) (fun c2 => ?_) (fun c2 => ?_)
    · replace h := h.1 c2
      refine lv_aload_n hx hb dX3_signIn_35 rfl (lv_at hl 0 rfl) ?_
      refine lv_dup hx hb dX3_signIn_36 rfl ?_
      refine va_get hx hb hts in_X3 hown hK hP 0 rfl rfl 16 (Nat.le_of_ble_eq_true rfl) (hts _ q1234) (fun _ h => h) (v := .int (fd 16)) rfl dX3_signIn_37 ?_
      refine lv_iconst (v := (1 : Int32)) hx hb dX3_signIn_40 (by decide) ?_
      refine lv_iadd hx hb dX3_signIn_41 ?_
      refine pt_put (v := .int ((fd 16) + (1 : Int32))) hx hb hts in_X3 tyX3 tyX3_ok nmX3 hown hK hP hD hS 0 rfl rfl 16 (Nat.le_of_ble_eq_true rfl) (hts _ q1234) (fun _ h => h) rfl (ty := .int) (by decide +kernel) rfl rfl (Nat.le_of_ble_eq_true rfl) dX3_signIn_42 wmF_16 (fun H locs hP hD hS => ?_)
      refine lv_aload_n hx hb dX3_signIn_45 rfl (lv_at hl 0 rfl) ?_
      refine va_get hx hb hts in_X3 hown hK hP 0 rfl rfl 14 (Nat.le_of_ble_eq_true rfl) (hts _ q1232) (fun _ h => h) (v := .ref (ad 14)) rfl dX3_signIn_46 ?_
      refine lv_aload_n hx hb dX3_signIn_49 rfl (lv_at hl 0 rfl) ?_
      refine va_get hx hb hts in_X3 hown hK hP 0 rfl rfl 16 (Nat.le_of_ble_eq_true rfl) (hts _ q1234) (fun _ h => h) (v := .int ((fd 16) + (1 : Int32))) rfl dX3_signIn_50 ?_
      refine lv_iconst (v := (1 : Int32)) hx hb dX3_signIn_53 (by decide) ?_
      refine lv_isub hx hb dX3_signIn_54 ?_
      refine va_iald (f := (ar 14)) hx hb hK hP 10 0 rfl rfl h.1 dX3_signIn_55 ?_
      replace h := h.2
      refine lv_iload_n hx hb dX3_signIn_56 rfl (lv_at hl 1 rfl) ?_
      refine lv_isub hx hb dX3_signIn_57 ?_
      exact rt_i F dX3_signIn_58 rfl ((upd fd 16 ((fd 16) + (1 : Int32)))) h hP hD hS (Nat.le_refl _) (Nat.le_refl _)
    · replace h := h.2 c2
      refine lv_iconst (v := (-1 : Int32)) hx hb dX3_signIn_33 (by decide) ?_
      exact rt_i F dX3_signIn_34 rfl (fd) h hP hD hS (Nat.le_refl _) (Nat.le_refl _)
set_option maxHeartbeats 4000000 in
theorem ct_M_takesOf_i0 {l : Launch} {V : evT} {D : va_G} {gI : Nat → ClassId} {o : Nat} {ad : Nat → Nat} {fd : Nat → Int32} {ar : Nat → Nat → Int32} {lw : Nat → Int64} {Q : Int32 → (Nat → Int32) → Prop} (h : wp_M_takesOf 0 fd ar lw Q) : ct_i l V D vwCl (tyL gI) yX3_takesOf cX3_takesOf 3 .int { frames := 6, cells := 0, slots := 0, locals := 119 } [.ref o, .ref (V.1 0)] (wm gI o ad fd ar lw) (fun u : (Nat → Int32) => (wm gI o ad u ar lw)) (fun (x : Int32) (u : (Nat → Int32)) => Q x u) := by
  refine ct_ofi RX3 rfl (by decide +kernel) (Nat.le_of_ble_eq_true rfl) ?_
  intro p e s m args below meth c A F hP hD ls hl
  obtain ⟨⟨hx, hb, hml, hown, hts⟩, hr, hlocks, hA, hK, hE⟩ := id F
  have hS : va_S A s.heap s.heap [] := va_S.rf
  have hl : lv_has ls 3 [(0, .ref o), (1, .ref (V.1 0))] := hl
  have hRf : 6 ≤ ({ frames := 6, cells := 0, slots := 0, locals := 119 } : Room).frames := Nat.le_refl _
  have hRl : 119 ≤ ({ frames := 6, cells := 0, slots := 0, locals := 119 } : Room).locals := Nat.le_refl _
  have hC : 0 ≤ ({ frames := 6, cells := 0, slots := 0, locals := 119 } : Room).cells := Nat.le_refl _
  have hSl : 0 ≤ ({ frames := 6, cells := 0, slots := 0, locals := 119 } : Room).slots := Nat.le_refl _
  unfold wp_M_takesOf at h
  refine lv_aload_n hx hb dX3_takesOf_0 rfl (lv_at hl 0 rfl) ?_
  refine lv_aload_n hx hb dX3_takesOf_1 rfl (lv_at hl 1 rfl) ?_
  refine cl_i F (va_runV (As := [.ref (V.1 0)]) (rest := []) ⟨hx, hb, hml, hown, hts⟩ (ct_M_among_i0 h _) (cwV 1 hts (lw_V q1465 q1467 qs49 q97 q1468) rfl rfl rfl (by decide +kernel) ⟨Nat.le_trans (Nat.le_of_ble_eq_true rfl) hRf, Nat.le_trans (Nat.le_of_ble_eq_true rfl) hRl⟩) ⟨ct_blind, va_recv hK hP (ci := 2) (q0 := 0) rfl rfl, ct_at F hS hP hD⟩ rfl rfl hl.1 rfl (lv_room (Nat.le_of_ble_eq_true rfl)) dX3_takesOf_2 ⟨hC, hSl⟩) rfl rfl hD hS ?_
  rintro x1 _ H locs h hP hD hS
  refine lv_istore_n (lv' := [(2, .int x1), (0, .ref o), (1, .ref (V.1 0))]) hx hb dX3_takesOf_5 rfl hl (by decide) rfl (fun ls hl => ?_)
  refine lv_aload_n hx hb dX3_takesOf_6 rfl (lv_at hl 1 rfl) ?_
  refine lv_dup hx hb dX3_takesOf_7 rfl ?_
  refine va_get hx hb hts in_X3 hown hK hP 0 rfl rfl 16 (Nat.le_of_ble_eq_true rfl) (hts _ q1234) (fun _ h => h) (v := .int (fd 16)) rfl dX3_takesOf_8 ?_
  refine lv_iload_n hx hb dX3_takesOf_11 rfl (lv_at hl 0 rfl) ?_
  refine lv_if_lt (tgt := 19) hx hb dX3_takesOf_12 (by decide) (fun c4 => ?_) (fun c4 => ?_)
  · replace h := h.1 c4
    refine lv_iconst (v := (0 : Int32)) hx hb dX3_takesOf_19 (by decide) ?_
    refine cl_i0 F (va_runS (As := [.int (0 : Int32)]) (rest := [.int (fd 16), .ref o]) ⟨hx, hb, hml, hown, hts⟩ (ct_X3_flag h _) (va_cwS 1 hts (lw_S q1407 q1408 q97 q1409) rfl rfl rfl (by decide +kernel) ⟨Nat.le_trans (Nat.le_of_ble_eq_true rfl) hRf, Nat.le_trans (Nat.le_of_ble_eq_true rfl) hRl⟩) ⟨ct_blind, ct_at F hS ct_nP ct_nD⟩ rfl rfl hl.1 rfl (lv_room (Nat.le_of_ble_eq_true rfl)) dX3_takesOf_20 ⟨hC, hSl⟩) rfl rfl hP hS ?_
    rintro x2 _ H locs h hP hS
    refine lv_iadd hx hb dX3_takesOf_23 ?_
    refine pt_put (v := .int ((fd 16) + x2)) hx hb hts in_X3 tyX3 tyX3_ok nmX3 hown hK hP hD hS 0 rfl rfl 16 (Nat.le_of_ble_eq_true rfl) (hts _ q1234) (fun _ h => h) rfl (ty := .int) (by decide +kernel) rfl rfl (Nat.le_of_ble_eq_true rfl) dX3_takesOf_24 wmF_16 (fun H locs hP hD hS => ?_)
    refine lv_iload_n hx hb dX3_takesOf_27 rfl (lv_at hl 0 rfl) ?_
    exact rt_i F dX3_takesOf_28 rfl ((upd fd 16 ((fd 16) + x2))) h hP hD hS (Nat.le_refl _) (Nat.le_refl _)
  · replace h := h.2 c4
    refine lv_iconst (v := (1 : Int32)) hx hb dX3_takesOf_15 (by decide) ?_
    refine lv_goto (tgt := 20) hx hb dX3_takesOf_16 (by decide) ?_
    refine cl_i0 F (va_runS (As := [.int (1 : Int32)]) (rest := [.int (fd 16), .ref o]) ⟨hx, hb, hml, hown, hts⟩ (ct_X3_flag h _) (va_cwS 1 hts (lw_S q1407 q1408 q97 q1409) rfl rfl rfl (by decide +kernel) ⟨Nat.le_trans (Nat.le_of_ble_eq_true rfl) hRf, Nat.le_trans (Nat.le_of_ble_eq_true rfl) hRl⟩) ⟨ct_blind, ct_at F hS ct_nP ct_nD⟩ rfl rfl hl.1 rfl (lv_room (Nat.le_of_ble_eq_true rfl)) dX3_takesOf_20 ⟨hC, hSl⟩) rfl rfl hP hS ?_
    rintro x3 _ H locs h hP hS
    refine lv_iadd hx hb dX3_takesOf_23 ?_
    refine pt_put (v := .int ((fd 16) + x3)) hx hb hts in_X3 tyX3 tyX3_ok nmX3 hown hK hP hD hS 0 rfl rfl 16 (Nat.le_of_ble_eq_true rfl) (hts _ q1234) (fun _ h => h) rfl (ty := .int) (by decide +kernel) rfl rfl (Nat.le_of_ble_eq_true rfl) dX3_takesOf_24 wmF_16 (fun H locs hP hD hS => ?_)
    refine lv_iload_n hx hb dX3_takesOf_27 rfl (lv_at hl 0 rfl) ?_
    exact rt_i F dX3_takesOf_28 rfl ((upd fd 16 ((fd 16) + x3))) h hP hD hS (Nat.le_refl _) (Nat.le_refl _)
set_option maxHeartbeats 4000000 in
theorem ct_M_takesOf_i1 {l : Launch} {V : evT} {D : va_G} {gI : Nat → ClassId} {o : Nat} {ad : Nat → Nat} {fd : Nat → Int32} {ar : Nat → Nat → Int32} {lw : Nat → Int64} {Q : Int32 → (Nat → Int32) → Prop} (h : wp_M_takesOf 1 fd ar lw Q) : ct_i l V D vwCl (tyL gI) yX3_takesOf cX3_takesOf 3 .int { frames := 6, cells := 0, slots := 0, locals := 119 } [.ref o, .ref (V.1 1)] (wm gI o ad fd ar lw) (fun u : (Nat → Int32) => (wm gI o ad u ar lw)) (fun (x : Int32) (u : (Nat → Int32)) => Q x u) := by
  refine ct_ofi RX3 rfl (by decide +kernel) (Nat.le_of_ble_eq_true rfl) ?_
  intro p e s m args below meth c A F hP hD ls hl
  obtain ⟨⟨hx, hb, hml, hown, hts⟩, hr, hlocks, hA, hK, hE⟩ := id F
  have hS : va_S A s.heap s.heap [] := va_S.rf
  have hl : lv_has ls 3 [(0, .ref o), (1, .ref (V.1 1))] := hl
  have hRf : 6 ≤ ({ frames := 6, cells := 0, slots := 0, locals := 119 } : Room).frames := Nat.le_refl _
  have hRl : 119 ≤ ({ frames := 6, cells := 0, slots := 0, locals := 119 } : Room).locals := Nat.le_refl _
  have hC : 0 ≤ ({ frames := 6, cells := 0, slots := 0, locals := 119 } : Room).cells := Nat.le_refl _
  have hSl : 0 ≤ ({ frames := 6, cells := 0, slots := 0, locals := 119 } : Room).slots := Nat.le_refl _
  unfold wp_M_takesOf at h
  refine lv_aload_n hx hb dX3_takesOf_0 rfl (lv_at hl 0 rfl) ?_
  refine lv_aload_n hx hb dX3_takesOf_1 rfl (lv_at hl 1 rfl) ?_
  refine cl_i F (va_runV (As := [.ref (V.1 1)]) (rest := []) ⟨hx, hb, hml, hown, hts⟩ (ct_M_among_i1 h _) (cwV 1 hts (lw_V q1465 q1467 qs49 q97 q1468) rfl rfl rfl (by decide +kernel) ⟨Nat.le_trans (Nat.le_of_ble_eq_true rfl) hRf, Nat.le_trans (Nat.le_of_ble_eq_true rfl) hRl⟩) ⟨ct_blind, va_recv hK hP (ci := 2) (q0 := 0) rfl rfl, ct_at F hS hP hD⟩ rfl rfl hl.1 rfl (lv_room (Nat.le_of_ble_eq_true rfl)) dX3_takesOf_2 ⟨hC, hSl⟩) rfl rfl hD hS ?_
  rintro x1 _ H locs h hP hD hS
  refine lv_istore_n (lv' := [(2, .int x1), (0, .ref o), (1, .ref (V.1 1))]) hx hb dX3_takesOf_5 rfl hl (by decide) rfl (fun ls hl => ?_)
  refine lv_aload_n hx hb dX3_takesOf_6 rfl (lv_at hl 1 rfl) ?_
  refine lv_dup hx hb dX3_takesOf_7 rfl ?_
  refine va_get hx hb hts in_X3 hown hK hP 0 rfl rfl 16 (Nat.le_of_ble_eq_true rfl) (hts _ q1234) (fun _ h => h) (v := .int (fd 16)) rfl dX3_takesOf_8 ?_
  refine lv_iload_n hx hb dX3_takesOf_11 rfl (lv_at hl 0 rfl) ?_
  refine lv_if_lt (tgt := 19) hx hb dX3_takesOf_12 (by decide) (fun c4 => ?_) (fun c4 => ?_)
  · replace h := h.1 c4
    refine lv_iconst (v := (0 : Int32)) hx hb dX3_takesOf_19 (by decide) ?_
    refine cl_i0 F (va_runS (As := [.int (0 : Int32)]) (rest := [.int (fd 16), .ref o]) ⟨hx, hb, hml, hown, hts⟩ (ct_X3_flag h _) (va_cwS 1 hts (lw_S q1407 q1408 q97 q1409) rfl rfl rfl (by decide +kernel) ⟨Nat.le_trans (Nat.le_of_ble_eq_true rfl) hRf, Nat.le_trans (Nat.le_of_ble_eq_true rfl) hRl⟩) ⟨ct_blind, ct_at F hS ct_nP ct_nD⟩ rfl rfl hl.1 rfl (lv_room (Nat.le_of_ble_eq_true rfl)) dX3_takesOf_20 ⟨hC, hSl⟩) rfl rfl hP hS ?_
    rintro x2 _ H locs h hP hS
    refine lv_iadd hx hb dX3_takesOf_23 ?_
    refine pt_put (v := .int ((fd 16) + x2)) hx hb hts in_X3 tyX3 tyX3_ok nmX3 hown hK hP hD hS 0 rfl rfl 16 (Nat.le_of_ble_eq_true rfl) (hts _ q1234) (fun _ h => h) rfl (ty := .int) (by decide +kernel) rfl rfl (Nat.le_of_ble_eq_true rfl) dX3_takesOf_24 wmF_16 (fun H locs hP hD hS => ?_)
    refine lv_iload_n hx hb dX3_takesOf_27 rfl (lv_at hl 0 rfl) ?_
    exact rt_i F dX3_takesOf_28 rfl ((upd fd 16 ((fd 16) + x2))) h hP hD hS (Nat.le_refl _) (Nat.le_refl _)
  · replace h := h.2 c4
    refine lv_iconst (v := (1 : Int32)) hx hb dX3_takesOf_15 (by decide) ?_
    refine lv_goto (tgt := 20) hx hb dX3_takesOf_16 (by decide) ?_
    refine cl_i0 F (va_runS (As := [.int (1 : Int32)]) (rest := [.int (fd 16), .ref o]) ⟨hx, hb, hml, hown, hts⟩ (ct_X3_flag h _) (va_cwS 1 hts (lw_S q1407 q1408 q97 q1409) rfl rfl rfl (by decide +kernel) ⟨Nat.le_trans (Nat.le_of_ble_eq_true rfl) hRf, Nat.le_trans (Nat.le_of_ble_eq_true rfl) hRl⟩) ⟨ct_blind, ct_at F hS ct_nP ct_nD⟩ rfl rfl hl.1 rfl (lv_room (Nat.le_of_ble_eq_true rfl)) dX3_takesOf_20 ⟨hC, hSl⟩) rfl rfl hP hS ?_
    rintro x3 _ H locs h hP hS
    refine lv_iadd hx hb dX3_takesOf_23 ?_
    refine pt_put (v := .int ((fd 16) + x3)) hx hb hts in_X3 tyX3 tyX3_ok nmX3 hown hK hP hD hS 0 rfl rfl 16 (Nat.le_of_ble_eq_true rfl) (hts _ q1234) (fun _ h => h) rfl (ty := .int) (by decide +kernel) rfl rfl (Nat.le_of_ble_eq_true rfl) dX3_takesOf_24 wmF_16 (fun H locs hP hD hS => ?_)
    refine lv_iload_n hx hb dX3_takesOf_27 rfl (lv_at hl 0 rfl) ?_
    exact rt_i F dX3_takesOf_28 rfl ((upd fd 16 ((fd 16) + x3))) h hP hD hS (Nat.le_refl _) (Nat.le_refl _)
set_option maxHeartbeats 4000000 in
theorem ct_M_takesOf_i2 {l : Launch} {V : evT} {D : va_G} {gI : Nat → ClassId} {o : Nat} {ad : Nat → Nat} {fd : Nat → Int32} {ar : Nat → Nat → Int32} {lw : Nat → Int64} {Q : Int32 → (Nat → Int32) → Prop} (h : wp_M_takesOf 2 fd ar lw Q) : ct_i l V D vwCl (tyL gI) yX3_takesOf cX3_takesOf 3 .int { frames := 6, cells := 0, slots := 0, locals := 119 } [.ref o, .ref (V.1 2)] (wm gI o ad fd ar lw) (fun u : (Nat → Int32) => (wm gI o ad u ar lw)) (fun (x : Int32) (u : (Nat → Int32)) => Q x u) := by
  refine ct_ofi RX3 rfl (by decide +kernel) (Nat.le_of_ble_eq_true rfl) ?_
  intro p e s m args below meth c A F hP hD ls hl
  obtain ⟨⟨hx, hb, hml, hown, hts⟩, hr, hlocks, hA, hK, hE⟩ := id F
  have hS : va_S A s.heap s.heap [] := va_S.rf
  have hl : lv_has ls 3 [(0, .ref o), (1, .ref (V.1 2))] := hl
  have hRf : 6 ≤ ({ frames := 6, cells := 0, slots := 0, locals := 119 } : Room).frames := Nat.le_refl _
  have hRl : 119 ≤ ({ frames := 6, cells := 0, slots := 0, locals := 119 } : Room).locals := Nat.le_refl _
  have hC : 0 ≤ ({ frames := 6, cells := 0, slots := 0, locals := 119 } : Room).cells := Nat.le_refl _
  have hSl : 0 ≤ ({ frames := 6, cells := 0, slots := 0, locals := 119 } : Room).slots := Nat.le_refl _
  unfold wp_M_takesOf at h
  refine lv_aload_n hx hb dX3_takesOf_0 rfl (lv_at hl 0 rfl) ?_
  refine lv_aload_n hx hb dX3_takesOf_1 rfl (lv_at hl 1 rfl) ?_
  refine cl_i F (va_runV (As := [.ref (V.1 2)]) (rest := []) ⟨hx, hb, hml, hown, hts⟩ (ct_M_among_i2 h _) (cwV 1 hts (lw_V q1465 q1467 qs49 q97 q1468) rfl rfl rfl (by decide +kernel) ⟨Nat.le_trans (Nat.le_of_ble_eq_true rfl) hRf, Nat.le_trans (Nat.le_of_ble_eq_true rfl) hRl⟩) ⟨ct_blind, va_recv hK hP (ci := 2) (q0 := 0) rfl rfl, ct_at F hS hP hD⟩ rfl rfl hl.1 rfl (lv_room (Nat.le_of_ble_eq_true rfl)) dX3_takesOf_2 ⟨hC, hSl⟩) rfl rfl hD hS ?_
  rintro x1 _ H locs h hP hD hS
  refine lv_istore_n (lv' := [(2, .int x1), (0, .ref o), (1, .ref (V.1 2))]) hx hb dX3_takesOf_5 rfl hl (by decide) rfl (fun ls hl => ?_)
  refine lv_aload_n hx hb dX3_takesOf_6 rfl (lv_at hl 1 rfl) ?_
  refine lv_dup hx hb dX3_takesOf_7 rfl ?_
  refine va_get hx hb hts in_X3 hown hK hP 0 rfl rfl 16 (Nat.le_of_ble_eq_true rfl) (hts _ q1234) (fun _ h => h) (v := .int (fd 16)) rfl dX3_takesOf_8 ?_
  refine lv_iload_n hx hb dX3_takesOf_11 rfl (lv_at hl 0 rfl) ?_
  refine lv_if_lt (tgt := 19) hx hb dX3_takesOf_12 (by decide) (fun c4 => ?_) (fun c4 => ?_)
  · replace h := h.1 c4
    refine lv_iconst (v := (0 : Int32)) hx hb dX3_takesOf_19 (by decide) ?_
    refine cl_i0 F (va_runS (As := [.int (0 : Int32)]) (rest := [.int (fd 16), .ref o]) ⟨hx, hb, hml, hown, hts⟩ (ct_X3_flag h _) (va_cwS 1 hts (lw_S q1407 q1408 q97 q1409) rfl rfl rfl (by decide +kernel) ⟨Nat.le_trans (Nat.le_of_ble_eq_true rfl) hRf, Nat.le_trans (Nat.le_of_ble_eq_true rfl) hRl⟩) ⟨ct_blind, ct_at F hS ct_nP ct_nD⟩ rfl rfl hl.1 rfl (lv_room (Nat.le_of_ble_eq_true rfl)) dX3_takesOf_20 ⟨hC, hSl⟩) rfl rfl hP hS ?_
    rintro x2 _ H locs h hP hS
    refine lv_iadd hx hb dX3_takesOf_23 ?_
    refine pt_put (v := .int ((fd 16) + x2)) hx hb hts in_X3 tyX3 tyX3_ok nmX3 hown hK hP hD hS 0 rfl rfl 16 (Nat.le_of_ble_eq_true rfl) (hts _ q1234) (fun _ h => h) rfl (ty := .int) (by decide +kernel) rfl rfl (Nat.le_of_ble_eq_true rfl) dX3_takesOf_24 wmF_16 (fun H locs hP hD hS => ?_)
    refine lv_iload_n hx hb dX3_takesOf_27 rfl (lv_at hl 0 rfl) ?_
    exact rt_i F dX3_takesOf_28 rfl ((upd fd 16 ((fd 16) + x2))) h hP hD hS (Nat.le_refl _) (Nat.le_refl _)
  · replace h := h.2 c4
    refine lv_iconst (v := (1 : Int32)) hx hb dX3_takesOf_15 (by decide) ?_
    refine lv_goto (tgt := 20) hx hb dX3_takesOf_16 (by decide) ?_
    refine cl_i0 F (va_runS (As := [.int (1 : Int32)]) (rest := [.int (fd 16), .ref o]) ⟨hx, hb, hml, hown, hts⟩ (ct_X3_flag h _) (va_cwS 1 hts (lw_S q1407 q1408 q97 q1409) rfl rfl rfl (by decide +kernel) ⟨Nat.le_trans (Nat.le_of_ble_eq_true rfl) hRf, Nat.le_trans (Nat.le_of_ble_eq_true rfl) hRl⟩) ⟨ct_blind, ct_at F hS ct_nP ct_nD⟩ rfl rfl hl.1 rfl (lv_room (Nat.le_of_ble_eq_true rfl)) dX3_takesOf_20 ⟨hC, hSl⟩) rfl rfl hP hS ?_
    rintro x3 _ H locs h hP hS
    refine lv_iadd hx hb dX3_takesOf_23 ?_
    refine pt_put (v := .int ((fd 16) + x3)) hx hb hts in_X3 tyX3 tyX3_ok nmX3 hown hK hP hD hS 0 rfl rfl 16 (Nat.le_of_ble_eq_true rfl) (hts _ q1234) (fun _ h => h) rfl (ty := .int) (by decide +kernel) rfl rfl (Nat.le_of_ble_eq_true rfl) dX3_takesOf_24 wmF_16 (fun H locs hP hD hS => ?_)
    refine lv_iload_n hx hb dX3_takesOf_27 rfl (lv_at hl 0 rfl) ?_
    exact rt_i F dX3_takesOf_28 rfl ((upd fd 16 ((fd 16) + x3))) h hP hD hS (Nat.le_refl _) (Nat.le_refl _)
set_option maxHeartbeats 4000000 in
theorem ct_M_takesOf_i3 {l : Launch} {V : evT} {D : va_G} {gI : Nat → ClassId} {o : Nat} {ad : Nat → Nat} {fd : Nat → Int32} {ar : Nat → Nat → Int32} {lw : Nat → Int64} {Q : Int32 → (Nat → Int32) → Prop} (h : wp_M_takesOf 3 fd ar lw Q) : ct_i l V D vwCl (tyL gI) yX3_takesOf cX3_takesOf 3 .int { frames := 6, cells := 0, slots := 0, locals := 119 } [.ref o, .ref (V.1 3)] (wm gI o ad fd ar lw) (fun u : (Nat → Int32) => (wm gI o ad u ar lw)) (fun (x : Int32) (u : (Nat → Int32)) => Q x u) := by
  refine ct_ofi RX3 rfl (by decide +kernel) (Nat.le_of_ble_eq_true rfl) ?_
  intro p e s m args below meth c A F hP hD ls hl
  obtain ⟨⟨hx, hb, hml, hown, hts⟩, hr, hlocks, hA, hK, hE⟩ := id F
  have hS : va_S A s.heap s.heap [] := va_S.rf
  have hl : lv_has ls 3 [(0, .ref o), (1, .ref (V.1 3))] := hl
  have hRf : 6 ≤ ({ frames := 6, cells := 0, slots := 0, locals := 119 } : Room).frames := Nat.le_refl _
  have hRl : 119 ≤ ({ frames := 6, cells := 0, slots := 0, locals := 119 } : Room).locals := Nat.le_refl _
  have hC : 0 ≤ ({ frames := 6, cells := 0, slots := 0, locals := 119 } : Room).cells := Nat.le_refl _
  have hSl : 0 ≤ ({ frames := 6, cells := 0, slots := 0, locals := 119 } : Room).slots := Nat.le_refl _
  unfold wp_M_takesOf at h
  refine lv_aload_n hx hb dX3_takesOf_0 rfl (lv_at hl 0 rfl) ?_
  refine lv_aload_n hx hb dX3_takesOf_1 rfl (lv_at hl 1 rfl) ?_
  refine cl_i F (va_runV (As := [.ref (V.1 3)]) (rest := []) ⟨hx, hb, hml, hown, hts⟩ (ct_M_among_i3 h _) (cwV 1 hts (lw_V q1465 q1467 qs49 q97 q1468) rfl rfl rfl (by decide +kernel) ⟨Nat.le_trans (Nat.le_of_ble_eq_true rfl) hRf, Nat.le_trans (Nat.le_of_ble_eq_true rfl) hRl⟩) ⟨ct_blind, va_recv hK hP (ci := 2) (q0 := 0) rfl rfl, ct_at F hS hP hD⟩ rfl rfl hl.1 rfl (lv_room (Nat.le_of_ble_eq_true rfl)) dX3_takesOf_2 ⟨hC, hSl⟩) rfl rfl hD hS ?_
  rintro x1 _ H locs h hP hD hS
  refine lv_istore_n (lv' := [(2, .int x1), (0, .ref o), (1, .ref (V.1 3))]) hx hb dX3_takesOf_5 rfl hl (by decide) rfl (fun ls hl => ?_)
  refine lv_aload_n hx hb dX3_takesOf_6 rfl (lv_at hl 1 rfl) ?_
  refine lv_dup hx hb dX3_takesOf_7 rfl ?_
  refine va_get hx hb hts in_X3 hown hK hP 0 rfl rfl 16 (Nat.le_of_ble_eq_true rfl) (hts _ q1234) (fun _ h => h) (v := .int (fd 16)) rfl dX3_takesOf_8 ?_
  refine lv_iload_n hx hb dX3_takesOf_11 rfl (lv_at hl 0 rfl) ?_
  refine lv_if_lt (tgt := 19) hx hb dX3_takesOf_12 (by decide) (fun c4 => ?_) (fun c4 => ?_)
  · replace h := h.1 c4
    refine lv_iconst (v := (0 : Int32)) hx hb dX3_takesOf_19 (by decide) ?_
    refine cl_i0 F (va_runS (As := [.int (0 : Int32)]) (rest := [.int (fd 16), .ref o]) ⟨hx, hb, hml, hown, hts⟩ (ct_X3_flag h _) (va_cwS 1 hts (lw_S q1407 q1408 q97 q1409) rfl rfl rfl (by decide +kernel) ⟨Nat.le_trans (Nat.le_of_ble_eq_true rfl) hRf, Nat.le_trans (Nat.le_of_ble_eq_true rfl) hRl⟩) ⟨ct_blind, ct_at F hS ct_nP ct_nD⟩ rfl rfl hl.1 rfl (lv_room (Nat.le_of_ble_eq_true rfl)) dX3_takesOf_20 ⟨hC, hSl⟩) rfl rfl hP hS ?_
    rintro x2 _ H locs h hP hS
    refine lv_iadd hx hb dX3_takesOf_23 ?_
    refine pt_put (v := .int ((fd 16) + x2)) hx hb hts in_X3 tyX3 tyX3_ok nmX3 hown hK hP hD hS 0 rfl rfl 16 (Nat.le_of_ble_eq_true rfl) (hts _ q1234) (fun _ h => h) rfl (ty := .int) (by decide +kernel) rfl rfl (Nat.le_of_ble_eq_true rfl) dX3_takesOf_24 wmF_16 (fun H locs hP hD hS => ?_)
    refine lv_iload_n hx hb dX3_takesOf_27 rfl (lv_at hl 0 rfl) ?_
    exact rt_i F dX3_takesOf_28 rfl ((upd fd 16 ((fd 16) + x2))) h hP hD hS (Nat.le_refl _) (Nat.le_refl _)
  · replace h := h.2 c4
    refine lv_iconst (v := (1 : Int32)) hx hb dX3_takesOf_15 (by decide) ?_
    refine lv_goto (tgt := 20) hx hb dX3_takesOf_16 (by decide) ?_
    refine cl_i0 F (va_runS (As := [.int (1 : Int32)]) (rest := [.int (fd 16), .ref o]) ⟨hx, hb, hml, hown, hts⟩ (ct_X3_flag h _) (va_cwS 1 hts (lw_S q1407 q1408 q97 q1409) rfl rfl rfl (by decide +kernel) ⟨Nat.le_trans (Nat.le_of_ble_eq_true rfl) hRf, Nat.le_trans (Nat.le_of_ble_eq_true rfl) hRl⟩) ⟨ct_blind, ct_at F hS ct_nP ct_nD⟩ rfl rfl hl.1 rfl (lv_room (Nat.le_of_ble_eq_true rfl)) dX3_takesOf_20 ⟨hC, hSl⟩) rfl rfl hP hS ?_
    rintro x3 _ H locs h hP hS
    refine lv_iadd hx hb dX3_takesOf_23 ?_
    refine pt_put (v := .int ((fd 16) + x3)) hx hb hts in_X3 tyX3 tyX3_ok nmX3 hown hK hP hD hS 0 rfl rfl 16 (Nat.le_of_ble_eq_true rfl) (hts _ q1234) (fun _ h => h) rfl (ty := .int) (by decide +kernel) rfl rfl (Nat.le_of_ble_eq_true rfl) dX3_takesOf_24 wmF_16 (fun H locs hP hD hS => ?_)
    refine lv_iload_n hx hb dX3_takesOf_27 rfl (lv_at hl 0 rfl) ?_
    exact rt_i F dX3_takesOf_28 rfl ((upd fd 16 ((fd 16) + x3))) h hP hD hS (Nat.le_refl _) (Nat.le_refl _)
set_option maxHeartbeats 4000000 in
theorem ct_M_takesOf_i4 {l : Launch} {V : evT} {D : va_G} {gI : Nat → ClassId} {o : Nat} {ad : Nat → Nat} {fd : Nat → Int32} {ar : Nat → Nat → Int32} {lw : Nat → Int64} {Q : Int32 → (Nat → Int32) → Prop} (h : wp_M_takesOf 4 fd ar lw Q) : ct_i l V D vwCl (tyL gI) yX3_takesOf cX3_takesOf 3 .int { frames := 6, cells := 0, slots := 0, locals := 119 } [.ref o, .ref (V.1 4)] (wm gI o ad fd ar lw) (fun u : (Nat → Int32) => (wm gI o ad u ar lw)) (fun (x : Int32) (u : (Nat → Int32)) => Q x u) := by
  refine ct_ofi RX3 rfl (by decide +kernel) (Nat.le_of_ble_eq_true rfl) ?_
  intro p e s m args below meth c A F hP hD ls hl
  obtain ⟨⟨hx, hb, hml, hown, hts⟩, hr, hlocks, hA, hK, hE⟩ := id F
  have hS : va_S A s.heap s.heap [] := va_S.rf
  have hl : lv_has ls 3 [(0, .ref o), (1, .ref (V.1 4))] := hl
  have hRf : 6 ≤ ({ frames := 6, cells := 0, slots := 0, locals := 119 } : Room).frames := Nat.le_refl _
  have hRl : 119 ≤ ({ frames := 6, cells := 0, slots := 0, locals := 119 } : Room).locals := Nat.le_refl _
  have hC : 0 ≤ ({ frames := 6, cells := 0, slots := 0, locals := 119 } : Room).cells := Nat.le_refl _
  have hSl : 0 ≤ ({ frames := 6, cells := 0, slots := 0, locals := 119 } : Room).slots := Nat.le_refl _
  unfold wp_M_takesOf at h
  refine lv_aload_n hx hb dX3_takesOf_0 rfl (lv_at hl 0 rfl) ?_
  refine lv_aload_n hx hb dX3_takesOf_1 rfl (lv_at hl 1 rfl) ?_
  refine cl_i F (va_runV (As := [.ref (V.1 4)]) (rest := []) ⟨hx, hb, hml, hown, hts⟩ (ct_M_among_i4 h _) (cwV 1 hts (lw_V q1465 q1467 qs49 q97 q1468) rfl rfl rfl (by decide +kernel) ⟨Nat.le_trans (Nat.le_of_ble_eq_true rfl) hRf, Nat.le_trans (Nat.le_of_ble_eq_true rfl) hRl⟩) ⟨ct_blind, va_recv hK hP (ci := 2) (q0 := 0) rfl rfl, ct_at F hS hP hD⟩ rfl rfl hl.1 rfl (lv_room (Nat.le_of_ble_eq_true rfl)) dX3_takesOf_2 ⟨hC, hSl⟩) rfl rfl hD hS ?_
  rintro x1 _ H locs h hP hD hS
  refine lv_istore_n (lv' := [(2, .int x1), (0, .ref o), (1, .ref (V.1 4))]) hx hb dX3_takesOf_5 rfl hl (by decide) rfl (fun ls hl => ?_)
  refine lv_aload_n hx hb dX3_takesOf_6 rfl (lv_at hl 1 rfl) ?_
  refine lv_dup hx hb dX3_takesOf_7 rfl ?_
  refine va_get hx hb hts in_X3 hown hK hP 0 rfl rfl 16 (Nat.le_of_ble_eq_true rfl) (hts _ q1234) (fun _ h => h) (v := .int (fd 16)) rfl dX3_takesOf_8 ?_
  refine lv_iload_n hx hb dX3_takesOf_11 rfl (lv_at hl 0 rfl) ?_
  refine lv_if_lt (tgt := 19) hx hb dX3_takesOf_12 (by decide) (fun c4 => ?_) (fun c4 => ?_)
  · replace h := h.1 c4
    refine lv_iconst (v := (0 : Int32)) hx hb dX3_takesOf_19 (by decide) ?_
    refine cl_i0 F (va_runS (As := [.int (0 : Int32)]) (rest := [.int (fd 16), .ref o]) ⟨hx, hb, hml, hown, hts⟩ (ct_X3_flag h _) (va_cwS 1 hts (lw_S q1407 q1408 q97 q1409) rfl rfl rfl (by decide +kernel) ⟨Nat.le_trans (Nat.le_of_ble_eq_true rfl) hRf, Nat.le_trans (Nat.le_of_ble_eq_true rfl) hRl⟩) ⟨ct_blind, ct_at F hS ct_nP ct_nD⟩ rfl rfl hl.1 rfl (lv_room (Nat.le_of_ble_eq_true rfl)) dX3_takesOf_20 ⟨hC, hSl⟩) rfl rfl hP hS ?_
    rintro x2 _ H locs h hP hS
    refine lv_iadd hx hb dX3_takesOf_23 ?_
    refine pt_put (v := .int ((fd 16) + x2)) hx hb hts in_X3 tyX3 tyX3_ok nmX3 hown hK hP hD hS 0 rfl rfl 16 (Nat.le_of_ble_eq_true rfl) (hts _ q1234) (fun _ h => h) rfl (ty := .int) (by decide +kernel) rfl rfl (Nat.le_of_ble_eq_true rfl) dX3_takesOf_24 wmF_16 (fun H locs hP hD hS => ?_)
    refine lv_iload_n hx hb dX3_takesOf_27 rfl (lv_at hl 0 rfl) ?_
    exact rt_i F dX3_takesOf_28 rfl ((upd fd 16 ((fd 16) + x2))) h hP hD hS (Nat.le_refl _) (Nat.le_refl _)
  · replace h := h.2 c4
    refine lv_iconst (v := (1 : Int32)) hx hb dX3_takesOf_15 (by decide) ?_
    refine lv_goto (tgt := 20) hx hb dX3_takesOf_16 (by decide) ?_
    refine cl_i0 F (va_runS (As := [.int (1 : Int32)]) (rest := [.int (fd 16), .ref o]) ⟨hx, hb, hml, hown, hts⟩ (ct_X3_flag h _) (va_cwS 1 hts (lw_S q1407 q1408 q97 q1409) rfl rfl rfl (by decide +kernel) ⟨Nat.le_trans (Nat.le_of_ble_eq_true rfl) hRf, Nat.le_trans (Nat.le_of_ble_eq_true rfl) hRl⟩) ⟨ct_blind, ct_at F hS ct_nP ct_nD⟩ rfl rfl hl.1 rfl (lv_room (Nat.le_of_ble_eq_true rfl)) dX3_takesOf_20 ⟨hC, hSl⟩) rfl rfl hP hS ?_
    rintro x3 _ H locs h hP hS
    refine lv_iadd hx hb dX3_takesOf_23 ?_
    refine pt_put (v := .int ((fd 16) + x3)) hx hb hts in_X3 tyX3 tyX3_ok nmX3 hown hK hP hD hS 0 rfl rfl 16 (Nat.le_of_ble_eq_true rfl) (hts _ q1234) (fun _ h => h) rfl (ty := .int) (by decide +kernel) rfl rfl (Nat.le_of_ble_eq_true rfl) dX3_takesOf_24 wmF_16 (fun H locs hP hD hS => ?_)
    refine lv_iload_n hx hb dX3_takesOf_27 rfl (lv_at hl 0 rfl) ?_
    exact rt_i F dX3_takesOf_28 rfl ((upd fd 16 ((fd 16) + x3))) h hP hD hS (Nat.le_refl _) (Nat.le_refl _)
set_option maxHeartbeats 4000000 in
theorem ct_M_takesOf_i5 {l : Launch} {V : evT} {D : va_G} {gI : Nat → ClassId} {o : Nat} {ad : Nat → Nat} {fd : Nat → Int32} {ar : Nat → Nat → Int32} {lw : Nat → Int64} {Q : Int32 → (Nat → Int32) → Prop} (h : wp_M_takesOf 5 fd ar lw Q) : ct_i l V D vwCl (tyL gI) yX3_takesOf cX3_takesOf 3 .int { frames := 6, cells := 0, slots := 0, locals := 119 } [.ref o, .ref (V.1 5)] (wm gI o ad fd ar lw) (fun u : (Nat → Int32) => (wm gI o ad u ar lw)) (fun (x : Int32) (u : (Nat → Int32)) => Q x u) := by
  refine ct_ofi RX3 rfl (by decide +kernel) (Nat.le_of_ble_eq_true rfl) ?_
  intro p e s m args below meth c A F hP hD ls hl
  obtain ⟨⟨hx, hb, hml, hown, hts⟩, hr, hlocks, hA, hK, hE⟩ := id F
  have hS : va_S A s.heap s.heap [] := va_S.rf
  have hl : lv_has ls 3 [(0, .ref o), (1, .ref (V.1 5))] := hl
  have hRf : 6 ≤ ({ frames := 6, cells := 0, slots := 0, locals := 119 } : Room).frames := Nat.le_refl _
  have hRl : 119 ≤ ({ frames := 6, cells := 0, slots := 0, locals := 119 } : Room).locals := Nat.le_refl _
  have hC : 0 ≤ ({ frames := 6, cells := 0, slots := 0, locals := 119 } : Room).cells := Nat.le_refl _
  have hSl : 0 ≤ ({ frames := 6, cells := 0, slots := 0, locals := 119 } : Room).slots := Nat.le_refl _
  unfold wp_M_takesOf at h
  refine lv_aload_n hx hb dX3_takesOf_0 rfl (lv_at hl 0 rfl) ?_
  refine lv_aload_n hx hb dX3_takesOf_1 rfl (lv_at hl 1 rfl) ?_
  refine cl_i F (va_runV (As := [.ref (V.1 5)]) (rest := []) ⟨hx, hb, hml, hown, hts⟩ (ct_M_among_i5 h _) (cwV 1 hts (lw_V q1465 q1467 qs49 q97 q1468) rfl rfl rfl (by decide +kernel) ⟨Nat.le_trans (Nat.le_of_ble_eq_true rfl) hRf, Nat.le_trans (Nat.le_of_ble_eq_true rfl) hRl⟩) ⟨ct_blind, va_recv hK hP (ci := 2) (q0 := 0) rfl rfl, ct_at F hS hP hD⟩ rfl rfl hl.1 rfl (lv_room (Nat.le_of_ble_eq_true rfl)) dX3_takesOf_2 ⟨hC, hSl⟩) rfl rfl hD hS ?_
  rintro x1 _ H locs h hP hD hS
  refine lv_istore_n (lv' := [(2, .int x1), (0, .ref o), (1, .ref (V.1 5))]) hx hb dX3_takesOf_5 rfl hl (by decide) rfl (fun ls hl => ?_)
  refine lv_aload_n hx hb dX3_takesOf_6 rfl (lv_at hl 1 rfl) ?_
  refine lv_dup hx hb dX3_takesOf_7 rfl ?_
  refine va_get hx hb hts in_X3 hown hK hP 0 rfl rfl 16 (Nat.le_of_ble_eq_true rfl) (hts _ q1234) (fun _ h => h) (v := .int (fd 16)) rfl dX3_takesOf_8 ?_
  refine lv_iload_n hx hb dX3_takesOf_11 rfl (lv_at hl 0 rfl) ?_
  refine lv_if_lt (tgt := 19) hx hb dX3_takesOf_12 (by decide) (fun c4 => ?_) (fun c4 => ?_)
  · replace h := h.1 c4
    refine lv_iconst (v := (0 : Int32)) hx hb dX3_takesOf_19 (by decide) ?_
    refine cl_i0 F (va_runS (As := [.int (0 : Int32)]) (rest := [.int (fd 16), .ref o]) ⟨hx, hb, hml, hown, hts⟩ (ct_X3_flag h _) (va_cwS 1 hts (lw_S q1407 q1408 q97 q1409) rfl rfl rfl (by decide +kernel) ⟨Nat.le_trans (Nat.le_of_ble_eq_true rfl) hRf, Nat.le_trans (Nat.le_of_ble_eq_true rfl) hRl⟩) ⟨ct_blind, ct_at F hS ct_nP ct_nD⟩ rfl rfl hl.1 rfl (lv_room (Nat.le_of_ble_eq_true rfl)) dX3_takesOf_20 ⟨hC, hSl⟩) rfl rfl hP hS ?_
    rintro x2 _ H locs h hP hS
    refine lv_iadd hx hb dX3_takesOf_23 ?_
    refine pt_put (v := .int ((fd 16) + x2)) hx hb hts in_X3 tyX3 tyX3_ok nmX3 hown hK hP hD hS 0 rfl rfl 16 (Nat.le_of_ble_eq_true rfl) (hts _ q1234) (fun _ h => h) rfl (ty := .int) (by decide +kernel) rfl rfl (Nat.le_of_ble_eq_true rfl) dX3_takesOf_24 wmF_16 (fun H locs hP hD hS => ?_)
    refine lv_iload_n hx hb dX3_takesOf_27 rfl (lv_at hl 0 rfl) ?_
    exact rt_i F dX3_takesOf_28 rfl ((upd fd 16 ((fd 16) + x2))) h hP hD hS (Nat.le_refl _) (Nat.le_refl _)
  · replace h := h.2 c4
    refine lv_iconst (v := (1 : Int32)) hx hb dX3_takesOf_15 (by decide) ?_
    refine lv_goto (tgt := 20) hx hb dX3_takesOf_16 (by decide) ?_
    refine cl_i0 F (va_runS (As := [.int (1 : Int32)]) (rest := [.int (fd 16), .ref o]) ⟨hx, hb, hml, hown, hts⟩ (ct_X3_flag h _) (va_cwS 1 hts (lw_S q1407 q1408 q97 q1409) rfl rfl rfl (by decide +kernel) ⟨Nat.le_trans (Nat.le_of_ble_eq_true rfl) hRf, Nat.le_trans (Nat.le_of_ble_eq_true rfl) hRl⟩) ⟨ct_blind, ct_at F hS ct_nP ct_nD⟩ rfl rfl hl.1 rfl (lv_room (Nat.le_of_ble_eq_true rfl)) dX3_takesOf_20 ⟨hC, hSl⟩) rfl rfl hP hS ?_
    rintro x3 _ H locs h hP hS
    refine lv_iadd hx hb dX3_takesOf_23 ?_
    refine pt_put (v := .int ((fd 16) + x3)) hx hb hts in_X3 tyX3 tyX3_ok nmX3 hown hK hP hD hS 0 rfl rfl 16 (Nat.le_of_ble_eq_true rfl) (hts _ q1234) (fun _ h => h) rfl (ty := .int) (by decide +kernel) rfl rfl (Nat.le_of_ble_eq_true rfl) dX3_takesOf_24 wmF_16 (fun H locs hP hD hS => ?_)
    refine lv_iload_n hx hb dX3_takesOf_27 rfl (lv_at hl 0 rfl) ?_
    exact rt_i F dX3_takesOf_28 rfl ((upd fd 16 ((fd 16) + x3))) h hP hD hS (Nat.le_refl _) (Nat.le_refl _)
set_option maxHeartbeats 4000000 in
theorem ct_M_takesOf_i6 {l : Launch} {V : evT} {D : va_G} {gI : Nat → ClassId} {o : Nat} {ad : Nat → Nat} {fd : Nat → Int32} {ar : Nat → Nat → Int32} {lw : Nat → Int64} {Q : Int32 → (Nat → Int32) → Prop} (h : wp_M_takesOf 6 fd ar lw Q) : ct_i l V D vwCl (tyL gI) yX3_takesOf cX3_takesOf 3 .int { frames := 6, cells := 0, slots := 0, locals := 119 } [.ref o, .ref (V.1 6)] (wm gI o ad fd ar lw) (fun u : (Nat → Int32) => (wm gI o ad u ar lw)) (fun (x : Int32) (u : (Nat → Int32)) => Q x u) := by
  refine ct_ofi RX3 rfl (by decide +kernel) (Nat.le_of_ble_eq_true rfl) ?_
  intro p e s m args below meth c A F hP hD ls hl
  obtain ⟨⟨hx, hb, hml, hown, hts⟩, hr, hlocks, hA, hK, hE⟩ := id F
  have hS : va_S A s.heap s.heap [] := va_S.rf
  have hl : lv_has ls 3 [(0, .ref o), (1, .ref (V.1 6))] := hl
  have hRf : 6 ≤ ({ frames := 6, cells := 0, slots := 0, locals := 119 } : Room).frames := Nat.le_refl _
  have hRl : 119 ≤ ({ frames := 6, cells := 0, slots := 0, locals := 119 } : Room).locals := Nat.le_refl _
  have hC : 0 ≤ ({ frames := 6, cells := 0, slots := 0, locals := 119 } : Room).cells := Nat.le_refl _
  have hSl : 0 ≤ ({ frames := 6, cells := 0, slots := 0, locals := 119 } : Room).slots := Nat.le_refl _
  unfold wp_M_takesOf at h
  refine lv_aload_n hx hb dX3_takesOf_0 rfl (lv_at hl 0 rfl) ?_
  refine lv_aload_n hx hb dX3_takesOf_1 rfl (lv_at hl 1 rfl) ?_
  refine cl_i F (va_runV (As := [.ref (V.1 6)]) (rest := []) ⟨hx, hb, hml, hown, hts⟩ (ct_M_among_i6 h _) (cwV 1 hts (lw_V q1465 q1467 qs49 q97 q1468) rfl rfl rfl (by decide +kernel) ⟨Nat.le_trans (Nat.le_of_ble_eq_true rfl) hRf, Nat.le_trans (Nat.le_of_ble_eq_true rfl) hRl⟩) ⟨ct_blind, va_recv hK hP (ci := 2) (q0 := 0) rfl rfl, ct_at F hS hP hD⟩ rfl rfl hl.1 rfl (lv_room (Nat.le_of_ble_eq_true rfl)) dX3_takesOf_2 ⟨hC, hSl⟩) rfl rfl hD hS ?_
  rintro x1 _ H locs h hP hD hS
  refine lv_istore_n (lv' := [(2, .int x1), (0, .ref o), (1, .ref (V.1 6))]) hx hb dX3_takesOf_5 rfl hl (by decide) rfl (fun ls hl => ?_)
  refine lv_aload_n hx hb dX3_takesOf_6 rfl (lv_at hl 1 rfl) ?_
  refine lv_dup hx hb dX3_takesOf_7 rfl ?_
  refine va_get hx hb hts in_X3 hown hK hP 0 rfl rfl 16 (Nat.le_of_ble_eq_true rfl) (hts _ q1234) (fun _ h => h) (v := .int (fd 16)) rfl dX3_takesOf_8 ?_
  refine lv_iload_n hx hb dX3_takesOf_11 rfl (lv_at hl 0 rfl) ?_
  refine lv_if_lt (tgt := 19) hx hb dX3_takesOf_12 (by decide) (fun c4 => ?_) (fun c4 => ?_)
  · replace h := h.1 c4
    refine lv_iconst (v := (0 : Int32)) hx hb dX3_takesOf_19 (by decide) ?_
    refine cl_i0 F (va_runS (As := [.int (0 : Int32)]) (rest := [.int (fd 16), .ref o]) ⟨hx, hb, hml, hown, hts⟩ (ct_X3_flag h _) (va_cwS 1 hts (lw_S q1407 q1408 q97 q1409) rfl rfl rfl (by decide +kernel) ⟨Nat.le_trans (Nat.le_of_ble_eq_true rfl) hRf, Nat.le_trans (Nat.le_of_ble_eq_true rfl) hRl⟩) ⟨ct_blind, ct_at F hS ct_nP ct_nD⟩ rfl rfl hl.1 rfl (lv_room (Nat.le_of_ble_eq_true rfl)) dX3_takesOf_20 ⟨hC, hSl⟩) rfl rfl hP hS ?_
    rintro x2 _ H locs h hP hS
    refine lv_iadd hx hb dX3_takesOf_23 ?_
    refine pt_put (v := .int ((fd 16) + x2)) hx hb hts in_X3 tyX3 tyX3_ok nmX3 hown hK hP hD hS 0 rfl rfl 16 (Nat.le_of_ble_eq_true rfl) (hts _ q1234) (fun _ h => h) rfl (ty := .int) (by decide +kernel) rfl rfl (Nat.le_of_ble_eq_true rfl) dX3_takesOf_24 wmF_16 (fun H locs hP hD hS => ?_)
    refine lv_iload_n hx hb dX3_takesOf_27 rfl (lv_at hl 0 rfl) ?_
    exact rt_i F dX3_takesOf_28 rfl ((upd fd 16 ((fd 16) + x2))) h hP hD hS (Nat.le_refl _) (Nat.le_refl _)
  · replace h := h.2 c4
    refine lv_iconst (v := (1 : Int32)) hx hb dX3_takesOf_15 (by decide) ?_
    refine lv_goto (tgt := 20) hx hb dX3_takesOf_16 (by decide) ?_
    refine cl_i0 F (va_runS (As := [.int (1 : Int32)]) (rest := [.int (fd 16), .ref o]) ⟨hx, hb, hml, hown, hts⟩ (ct_X3_flag h _) (va_cwS 1 hts (lw_S q1407 q1408 q97 q1409) rfl rfl rfl (by decide +kernel) ⟨Nat.le_trans (Nat.le_of_ble_eq_true rfl) hRf, Nat.le_trans (Nat.le_of_ble_eq_true rfl) hRl⟩) ⟨ct_blind, ct_at F hS ct_nP ct_nD⟩ rfl rfl hl.1 rfl (lv_room (Nat.le_of_ble_eq_true rfl)) dX3_takesOf_20 ⟨hC, hSl⟩) rfl rfl hP hS ?_
    rintro x3 _ H locs h hP hS
    refine lv_iadd hx hb dX3_takesOf_23 ?_
    refine pt_put (v := .int ((fd 16) + x3)) hx hb hts in_X3 tyX3 tyX3_ok nmX3 hown hK hP hD hS 0 rfl rfl 16 (Nat.le_of_ble_eq_true rfl) (hts _ q1234) (fun _ h => h) rfl (ty := .int) (by decide +kernel) rfl rfl (Nat.le_of_ble_eq_true rfl) dX3_takesOf_24 wmF_16 (fun H locs hP hD hS => ?_)
    refine lv_iload_n hx hb dX3_takesOf_27 rfl (lv_at hl 0 rfl) ?_
    exact rt_i F dX3_takesOf_28 rfl ((upd fd 16 ((fd 16) + x3))) h hP hD hS (Nat.le_refl _) (Nat.le_refl _)
set_option maxHeartbeats 4000000 in
theorem ct_M_isCell {l : Launch} {V : evT} {D : va_G} {gI : Nat → ClassId} {o : Nat} {ad : Nat → Nat} {v1 : Int32} {fd : Nat → Int32} {ar : Nat → Nat → Int32} {lw : Nat → Int64} {Q : Int32 → Prop} (h : wp_M_isCell v1 fd ar lw Q) : ct_i l V D vwCl (tyL gI) yX3_isCell cX3_isCell 2 .boolean { frames := 2, cells := 0, slots := 0, locals := 37 } [.ref o, .int v1] (wm gI o ad fd ar lw) (fun u : Unit => (wm gI o ad fd ar lw)) (fun (x : Int32) (u : Unit) => Q x) := by
  refine ct_ofi RX3 rfl (by decide +kernel) (Nat.le_of_ble_eq_true rfl) ?_
  intro p e s m args below meth c A F hP hD ls hl
  obtain ⟨⟨hx, hb, hml, hown, hts⟩, hr, hlocks, hA, hK, hE⟩ := id F
  have hS : va_S A s.heap s.heap [] := va_S.rf
  have hl : lv_has ls 2 [(0, .ref o), (1, .int v1)] := hl
  have hRf : 2 ≤ ({ frames := 2, cells := 0, slots := 0, locals := 37 } : Room).frames := Nat.le_refl _
  have hRl : 37 ≤ ({ frames := 2, cells := 0, slots := 0, locals := 37 } : Room).locals := Nat.le_refl _
  have hC : 0 ≤ ({ frames := 2, cells := 0, slots := 0, locals := 37 } : Room).cells := Nat.le_refl _
  have hSl : 0 ≤ ({ frames := 2, cells := 0, slots := 0, locals := 37 } : Room).slots := Nat.le_refl _
  unfold wp_M_isCell at h
  refine lv_iload_n hx hb dX3_isCell_0 rfl (lv_at hl 1 rfl) ?_
  refine lv_i2l (v := (v1.toInt64)) hx hb dX3_isCell_1 rfl ?_
  refine lv_lconst (v := (0 : Int64)) hx hb dX3_isCell_2 (by decide) ?_
  refine lv_aload_n hx hb dX3_isCell_3 rfl (lv_at hl 0 rfl) ?_
  refine va_get hx hb hts in_X3 hown hK hP 0 rfl rfl 3 (Nat.le_of_ble_eq_true rfl) (hts _ q1221) (fun _ h => h) (v := .int (fd 3)) rfl dX3_isCell_4 ?_
  refine lv_iconst (v := (1 : Int32)) hx hb dX3_isCell_7 (by decide) ?_
  refine lv_isub hx hb dX3_isCell_8 ?_
  refine lv_i2l (v := (((fd 3) - (1 : Int32)).toInt64)) hx hb dX3_isCell_9 rfl ?_
  refine cl_i0 F (va_runS (As := [.long (v1.toInt64), .long (0 : Int64), .long (((fd 3) - (1 : Int32)).toInt64)]) (rest := []) ⟨hx, hb, hml, hown, hts⟩ (ct_X3_in h _) (va_cwS 3 hts (lw_S q1391 q1392 q97 q1393) rfl rfl rfl (by decide +kernel) ⟨Nat.le_trans (Nat.le_of_ble_eq_true rfl) hRf, Nat.le_trans (Nat.le_of_ble_eq_true rfl) hRl⟩) ⟨ct_blind, ct_at F hS ct_nP ct_nD⟩ rfl rfl hl.1 rfl (lv_room (Nat.le_of_ble_eq_true rfl)) dX3_isCell_10 ⟨hC, hSl⟩) rfl rfl hP hS ?_
  rintro x1 _ H locs h hP hS
  exact rt_i F dX3_isCell_13 (by rcases h.1 with e | e <;> rw [e] <;> rfl) () h.2 hP hD hS (Nat.le_refl _) (Nat.le_refl _)
set_option maxHeartbeats 4000000 in
theorem lp_M_childrenAt_L1_i12 {p : Program} {l : Launch} {e : Env} {R : Room} {s : State} {m : MethodId} {args : Array Value} {below : List Frame} {meth : Method} {c : Code} {cells slots : Nat} {A : Nat → Prop} {Qf : State → Prop} {V : evT} {D : va_G} {gI : Nat → ClassId} {o : Nat} {ad : Nat → Nat} {v2 : Int32} {fd : Nat → Int32} {ar : Nat → Nat → Int32} {lw : Nat → Int64} {K41 : (Int32) → Prop} (F : ct_F p m c meth cX3_childrenAt 5 s args RX3 (some .int) A V D vwCl (tyL gI)) (hRf : 2 ≤ R.frames) (hRl : 33 ≤ R.locals) (hC : cells ≤ R.cells) (hSl : slots ≤ R.slots)
    (hK41 : ∀ (v3 : Int32), K41 v3 → ∀ (H : Heap) (locs : List Loc) (ls : Array Slot), va_P D vwCl (wm gI o ad fd ar lw) H → va_D A (wm gI o ad fd ar lw) → va_S A s.heap H locs → lv_has ls 5 [(3, .int v3)] → W p l e R s m args below meth c H locs cells slots Qf (F0 m 41 ls [])) :
    ∀ (n : Nat) (v3 : Int32) (v4 : Int32), wp_M_childrenAt_L1 12 v2 fd ar lw K41 n v3 v4 → ∀ (H : Heap) (locs : List Loc) (ls : Array Slot), va_P D vwCl (wm gI o ad fd ar lw) H → va_D A (wm gI o ad fd ar lw) → va_S A s.heap H locs → lv_has ls 5 [(0, .ref o), (1, .ref (ad 12)), (2, .int v2), (3, .int v3), (4, .int v4)] → W p l e R s m args below meth c H locs cells slots Qf (F0 m 5 ls []) := by
  obtain ⟨⟨hx, hb, hml, hown, hts⟩, hr, hlocks, hA, hK, hE⟩ := id F
  intro n
  induction n with
  | zero => intro v3 v4 h; exact h.elim
  | succ n ih =>
    intro v3 v4 h H locs ls hP hD hS hl
    unfold wp_M_childrenAt_L1 at h
    refine lv_iload hx hb dX3_childrenAt_5 (lv_at hl 4 rfl) ?_
    refine lv_aload_n hx hb dX3_childrenAt_7 rfl (lv_at hl 0 rfl) ?_
    refine va_get hx hb hts in_X3 hown hK hP 0 rfl rfl 4 (Nat.le_of_ble_eq_true rfl) (hts _ q1222) (fun _ h => h) (v := .int (fd 4)) rfl dX3_childrenAt_8 ?_
    refine lv_icmp_ge (tgt := 41) hx hb dX3_childrenAt_11 (by decide) (fun c3 => ?_) (fun c3 => ?_)
    · replace h := h.1 c3
      exact hK41 _ h _ _ _ hP hD hS (lv_sub hl [3] rfl)
    · replace h := h.2 c3
      refine lv_iload_n hx hb dX3_childrenAt_14 rfl (lv_at hl 3 rfl) ?_
      refine lv_aload_n hx hb dX3_childrenAt_15 rfl (lv_at hl 1 rfl) ?_
      refine lv_iload hx hb dX3_childrenAt_16 (lv_at hl 4 rfl) ?_
      refine cl_i F (va_runS (As := [.ref (ad 12), .int v4]) (rest := [.int v3]) ⟨hx, hb, hml, hown, hts⟩ (ct_M_atOf_i12 h _) (va_cwS 2 hts (lw_S q1517 q1518 q97 q1519) rfl rfl rfl (by decide +kernel) ⟨Nat.le_trans (Nat.le_of_ble_eq_true rfl) hRf, Nat.le_trans (Nat.le_of_ble_eq_true rfl) hRl⟩) ⟨ct_blind, ct_at F hS hP hD⟩ rfl rfl hl.1 rfl (lv_room (Nat.le_of_ble_eq_true rfl)) dX3_childrenAt_18 ⟨hC, hSl⟩) rfl rfl hD hS ?_
      rintro x1 _ H locs h hP hD hS
      refine lv_iload_n hx hb dX3_childrenAt_21 rfl (lv_at hl 2 rfl) ?_
      refine lv_icmp_ne (tgt := 32) hx hb dX3_childrenAt_22 (by decide) (fun c2 => ?_) (fun c2 => ?_)
      · replace h := h.1 c2
        refine lv_iconst (v := (0 : Int32)) hx hb dX3_childrenAt_32 (by decide) ?_
        refine lv_ior hx hb dX3_childrenAt_33 ?_
        refine lv_istore_n (lv' := [(3, .int (v3 ||| (0 : Int32))), (0, .ref o), (1, .ref (ad 12)), (2, .int v2), (4, .int v4)]) hx hb dX3_childrenAt_34 rfl hl (by decide) rfl (fun ls hl => ?_)
        refine lv_iinc (v := (v4 + (1 : Int32))) (lv' := [(4, .int (v4 + (1 : Int32))), (3, .int (v3 ||| (0 : Int32))), (0, .ref o), (1, .ref (ad 12)), (2, .int v2)]) hx hb dX3_childrenAt_35 hl (k := 4) rfl rfl (by decide) rfl (fun ls hl => ?_)
        refine lv_goto (tgt := 5) hx hb dX3_childrenAt_38 (by decide) ?_
        exact ih _ _ h _ _ _ hP hD hS (lv_sub hl [2, 3, 4, 1, 0] rfl)
      · replace h := h.2 c2
        refine lv_iconst (v := (1 : Int32)) hx hb dX3_childrenAt_25 (by decide) ?_
        refine lv_iload hx hb dX3_childrenAt_26 (lv_at hl 4 rfl) ?_
        refine lv_ishl hx hb dX3_childrenAt_28 ?_
        refine lv_goto (tgt := 33) hx hb dX3_childrenAt_29 (by decide) ?_
        refine lv_ior hx hb dX3_childrenAt_33 ?_
        refine lv_istore_n (lv' := [(3, .int (v3 ||| ((1 : Int32) <<< (v4 &&& 31)))), (0, .ref o), (1, .ref (ad 12)), (2, .int v2), (4, .int v4)]) hx hb dX3_childrenAt_34 rfl hl (by decide) rfl (fun ls hl => ?_)
        refine lv_iinc (v := (v4 + (1 : Int32))) (lv' := [(4, .int (v4 + (1 : Int32))), (3, .int (v3 ||| ((1 : Int32) <<< (v4 &&& 31)))), (0, .ref o), (1, .ref (ad 12)), (2, .int v2)]) hx hb dX3_childrenAt_35 hl (k := 4) rfl rfl (by decide) rfl (fun ls hl => ?_)
        refine lv_goto (tgt := 5) hx hb dX3_childrenAt_38 (by decide) ?_
        exact ih _ _ h _ _ _ hP hD hS (lv_sub hl [2, 3, 4, 1, 0] rfl)
set_option maxHeartbeats 4000000 in
theorem ct_M_childrenAt_i12 {l : Launch} {V : evT} {D : va_G} {gI : Nat → ClassId} {o : Nat} {ad : Nat → Nat} {v2 : Int32} {fd : Nat → Int32} {ar : Nat → Nat → Int32} {lw : Nat → Int64} {Q : Int32 → Prop} (h : wp_M_childrenAt 12 v2 fd ar lw Q) : ct_i l V D vwCl (tyL gI) yX3_childrenAt cX3_childrenAt 5 .int { frames := 2, cells := 0, slots := 0, locals := 33 } [.ref o, .ref (ad 12), .int v2] (wm gI o ad fd ar lw) (fun u : Unit => (wm gI o ad fd ar lw)) (fun (x : Int32) (u : Unit) => Q x) := by
  refine ct_ofi RX3 rfl (by decide +kernel) (Nat.le_of_ble_eq_true rfl) ?_
  intro p e s m args below meth c A F hP hD ls hl
  obtain ⟨⟨hx, hb, hml, hown, hts⟩, hr, hlocks, hA, hK, hE⟩ := id F
  have hS : va_S A s.heap s.heap [] := va_S.rf
  have hl : lv_has ls 5 [(0, .ref o), (1, .ref (ad 12)), (2, .int v2)] := hl
  have hRf : 2 ≤ ({ frames := 2, cells := 0, slots := 0, locals := 33 } : Room).frames := Nat.le_refl _
  have hRl : 33 ≤ ({ frames := 2, cells := 0, slots := 0, locals := 33 } : Room).locals := Nat.le_refl _
  have hC : 0 ≤ ({ frames := 2, cells := 0, slots := 0, locals := 33 } : Room).cells := Nat.le_refl _
  have hSl : 0 ≤ ({ frames := 2, cells := 0, slots := 0, locals := 33 } : Room).slots := Nat.le_refl _
  unfold wp_M_childrenAt at h
  refine lv_iconst (v := (0 : Int32)) hx hb dX3_childrenAt_0 (by decide) ?_
  refine lv_istore_n (lv' := [(3, .int (0 : Int32)), (0, .ref o), (1, .ref (ad 12)), (2, .int v2)]) hx hb dX3_childrenAt_1 rfl hl (by decide) rfl (fun ls hl => ?_)
  refine lv_iconst (v := (0 : Int32)) hx hb dX3_childrenAt_2 (by decide) ?_
  refine lv_istore (lv' := [(4, .int (0 : Int32)), (3, .int (0 : Int32)), (0, .ref o), (1, .ref (ad 12)), (2, .int v2)]) hx hb dX3_childrenAt_3 hl (by decide) rfl (fun ls hl => ?_)
  obtain ⟨k5, h⟩ := h
  refine lp_M_childrenAt_L1_i12 F hRf hRl hC hSl ?hk41 k5 _ _ h _ _ _ hP hD hS (lv_sub hl [2, 3, 4, 1, 0] rfl)
  case hk41 =>
    intro v3_4 h H locs ls hP hD hS hl
    refine lv_iload_n hx hb dX3_childrenAt_41 rfl (lv_at hl 0 rfl) ?_
    exact rt_i F dX3_childrenAt_42 rfl () h hP hD hS (Nat.le_refl _) (Nat.le_refl _)
set_option maxHeartbeats 4000000 in
theorem lp_M_childrenAt_L1_i13 {p : Program} {l : Launch} {e : Env} {R : Room} {s : State} {m : MethodId} {args : Array Value} {below : List Frame} {meth : Method} {c : Code} {cells slots : Nat} {A : Nat → Prop} {Qf : State → Prop} {V : evT} {D : va_G} {gI : Nat → ClassId} {o : Nat} {ad : Nat → Nat} {v2 : Int32} {fd : Nat → Int32} {ar : Nat → Nat → Int32} {lw : Nat → Int64} {K41 : (Int32) → Prop} (F : ct_F p m c meth cX3_childrenAt 5 s args RX3 (some .int) A V D vwCl (tyL gI)) (hRf : 2 ≤ R.frames) (hRl : 33 ≤ R.locals) (hC : cells ≤ R.cells) (hSl : slots ≤ R.slots)
    (hK41 : ∀ (v3 : Int32), K41 v3 → ∀ (H : Heap) (locs : List Loc) (ls : Array Slot), va_P D vwCl (wm gI o ad fd ar lw) H → va_D A (wm gI o ad fd ar lw) → va_S A s.heap H locs → lv_has ls 5 [(3, .int v3)] → W p l e R s m args below meth c H locs cells slots Qf (F0 m 41 ls [])) :
    ∀ (n : Nat) (v3 : Int32) (v4 : Int32), wp_M_childrenAt_L1 13 v2 fd ar lw K41 n v3 v4 → ∀ (H : Heap) (locs : List Loc) (ls : Array Slot), va_P D vwCl (wm gI o ad fd ar lw) H → va_D A (wm gI o ad fd ar lw) → va_S A s.heap H locs → lv_has ls 5 [(0, .ref o), (1, .ref (ad 13)), (2, .int v2), (3, .int v3), (4, .int v4)] → W p l e R s m args below meth c H locs cells slots Qf (F0 m 5 ls []) := by
  obtain ⟨⟨hx, hb, hml, hown, hts⟩, hr, hlocks, hA, hK, hE⟩ := id F
  intro n
  induction n with
  | zero => intro v3 v4 h; exact h.elim
  | succ n ih =>
    intro v3 v4 h H locs ls hP hD hS hl
    unfold wp_M_childrenAt_L1 at h
    refine lv_iload hx hb dX3_childrenAt_5 (lv_at hl 4 rfl) ?_
    refine lv_aload_n hx hb dX3_childrenAt_7 rfl (lv_at hl 0 rfl) ?_
    refine va_get hx hb hts in_X3 hown hK hP 0 rfl rfl 4 (Nat.le_of_ble_eq_true rfl) (hts _ q1222) (fun _ h => h) (v := .int (fd 4)) rfl dX3_childrenAt_8 ?_
    refine lv_icmp_ge (tgt := 41) hx hb dX3_childrenAt_11 (by decide) (fun c3 => ?_) (fun c3 => ?_)
    · replace h := h.1 c3
      exact hK41 _ h _ _ _ hP hD hS (lv_sub hl [3] rfl)
    · replace h := h.2 c3
      refine lv_iload_n hx hb dX3_childrenAt_14 rfl (lv_at hl 3 rfl) ?_
      refine lv_aload_n hx hb dX3_childrenAt_15 rfl (lv_at hl 1 rfl) ?_
      refine lv_iload hx hb dX3_childrenAt_16 (lv_at hl 4 rfl) ?_
      refine cl_i F (va_runS (As := [.ref (ad 13), .int v4]) (rest := [.int v3]) ⟨hx, hb, hml, hown, hts⟩ (ct_M_atOf_i13 h _) (va_cwS 2 hts (lw_S q1517 q1518 q97 q1519) rfl rfl rfl (by decide +kernel) ⟨Nat.le_trans (Nat.le_of_ble_eq_true rfl) hRf, Nat.le_trans (Nat.le_of_ble_eq_true rfl) hRl⟩) ⟨ct_blind, ct_at F hS hP hD⟩ rfl rfl hl.1 rfl (lv_room (Nat.le_of_ble_eq_true rfl)) dX3_childrenAt_18 ⟨hC, hSl⟩) rfl rfl hD hS ?_
      rintro x1 _ H locs h hP hD hS
      refine lv_iload_n hx hb dX3_childrenAt_21 rfl (lv_at hl 2 rfl) ?_
      refine lv_icmp_ne (tgt := 32) hx hb dX3_childrenAt_22 (by decide) (fun c2 => ?_) (fun c2 => ?_)
      · replace h := h.1 c2
        refine lv_iconst (v := (0 : Int32)) hx hb dX3_childrenAt_32 (by decide) ?_
        refine lv_ior hx hb dX3_childrenAt_33 ?_
        refine lv_istore_n (lv' := [(3, .int (v3 ||| (0 : Int32))), (0, .ref o), (1, .ref (ad 13)), (2, .int v2), (4, .int v4)]) hx hb dX3_childrenAt_34 rfl hl (by decide) rfl (fun ls hl => ?_)
        refine lv_iinc (v := (v4 + (1 : Int32))) (lv' := [(4, .int (v4 + (1 : Int32))), (3, .int (v3 ||| (0 : Int32))), (0, .ref o), (1, .ref (ad 13)), (2, .int v2)]) hx hb dX3_childrenAt_35 hl (k := 4) rfl rfl (by decide) rfl (fun ls hl => ?_)
        refine lv_goto (tgt := 5) hx hb dX3_childrenAt_38 (by decide) ?_
        exact ih _ _ h _ _ _ hP hD hS (lv_sub hl [2, 3, 4, 1, 0] rfl)
      · replace h := h.2 c2
        refine lv_iconst (v := (1 : Int32)) hx hb dX3_childrenAt_25 (by decide) ?_
        refine lv_iload hx hb dX3_childrenAt_26 (lv_at hl 4 rfl) ?_
        refine lv_ishl hx hb dX3_childrenAt_28 ?_
        refine lv_goto (tgt := 33) hx hb dX3_childrenAt_29 (by decide) ?_
        refine lv_ior hx hb dX3_childrenAt_33 ?_
        refine lv_istore_n (lv' := [(3, .int (v3 ||| ((1 : Int32) <<< (v4 &&& 31)))), (0, .ref o), (1, .ref (ad 13)), (2, .int v2), (4, .int v4)]) hx hb dX3_childrenAt_34 rfl hl (by decide) rfl (fun ls hl => ?_)
        refine lv_iinc (v := (v4 + (1 : Int32))) (lv' := [(4, .int (v4 + (1 : Int32))), (3, .int (v3 ||| ((1 : Int32) <<< (v4 &&& 31)))), (0, .ref o), (1, .ref (ad 13)), (2, .int v2)]) hx hb dX3_childrenAt_35 hl (k := 4) rfl rfl (by decide) rfl (fun ls hl => ?_)
        refine lv_goto (tgt := 5) hx hb dX3_childrenAt_38 (by decide) ?_
        exact ih _ _ h _ _ _ hP hD hS (lv_sub hl [2, 3, 4, 1, 0] rfl)
set_option maxHeartbeats 4000000 in
theorem ct_M_childrenAt_i13 {l : Launch} {V : evT} {D : va_G} {gI : Nat → ClassId} {o : Nat} {ad : Nat → Nat} {v2 : Int32} {fd : Nat → Int32} {ar : Nat → Nat → Int32} {lw : Nat → Int64} {Q : Int32 → Prop} (h : wp_M_childrenAt 13 v2 fd ar lw Q) : ct_i l V D vwCl (tyL gI) yX3_childrenAt cX3_childrenAt 5 .int { frames := 2, cells := 0, slots := 0, locals := 33 } [.ref o, .ref (ad 13), .int v2] (wm gI o ad fd ar lw) (fun u : Unit => (wm gI o ad fd ar lw)) (fun (x : Int32) (u : Unit) => Q x) := by
  refine ct_ofi RX3 rfl (by decide +kernel) (Nat.le_of_ble_eq_true rfl) ?_
  intro p e s m args below meth c A F hP hD ls hl
  obtain ⟨⟨hx, hb, hml, hown, hts⟩, hr, hlocks, hA, hK, hE⟩ := id F
  have hS : va_S A s.heap s.heap [] := va_S.rf
  have hl : lv_has ls 5 [(0, .ref o), (1, .ref (ad 13)), (2, .int v2)] := hl
  have hRf : 2 ≤ ({ frames := 2, cells := 0, slots := 0, locals := 33 } : Room).frames := Nat.le_refl _
  have hRl : 33 ≤ ({ frames := 2, cells := 0, slots := 0, locals := 33 } : Room).locals := Nat.le_refl _
  have hC : 0 ≤ ({ frames := 2, cells := 0, slots := 0, locals := 33 } : Room).cells := Nat.le_refl _
  have hSl : 0 ≤ ({ frames := 2, cells := 0, slots := 0, locals := 33 } : Room).slots := Nat.le_refl _
  unfold wp_M_childrenAt at h
  refine lv_iconst (v := (0 : Int32)) hx hb dX3_childrenAt_0 (by decide) ?_
  refine lv_istore_n (lv' := [(3, .int (0 : Int32)), (0, .ref o), (1, .ref (ad 13)), (2, .int v2)]) hx hb dX3_childrenAt_1 rfl hl (by decide) rfl (fun ls hl => ?_)
  refine lv_iconst (v := (0 : Int32)) hx hb dX3_childrenAt_2 (by decide) ?_
  refine lv_istore (lv' := [(4, .int (0 : Int32)), (3, .int (0 : Int32)), (0, .ref o), (1, .ref (ad 13)), (2, .int v2)]) hx hb dX3_childrenAt_3 hl (by decide) rfl (fun ls hl => ?_)
  obtain ⟨k5, h⟩ := h
  refine lp_M_childrenAt_L1_i13 F hRf hRl hC hSl ?hk41 k5 _ _ h _ _ _ hP hD hS (lv_sub hl [2, 3, 4, 1, 0] rfl)
  case hk41 =>
    intro v3_4 h H locs ls hP hD hS hl
    refine lv_iload_n hx hb dX3_childrenAt_41 rfl (lv_at hl 0 rfl) ?_
    exact rt_i F dX3_childrenAt_42 rfl () h hP hD hS (Nat.le_refl _) (Nat.le_refl _)
set_option maxHeartbeats 4000000 in
theorem ct_M_isChild {l : Launch} {V : evT} {D : va_G} {gI : Nat → ClassId} {o : Nat} {ad : Nat → Nat} {v1 : Int32} {fd : Nat → Int32} {ar : Nat → Nat → Int32} {lw : Nat → Int64} {Q : Int32 → Prop} (h : wp_M_isChild v1 fd ar lw Q) : ct_i l V D vwCl (tyL gI) yX3_isChild cX3_isChild 2 .boolean { frames := 2, cells := 0, slots := 0, locals := 37 } [.ref o, .int v1] (wm gI o ad fd ar lw) (fun u : Unit => (wm gI o ad fd ar lw)) (fun (x : Int32) (u : Unit) => Q x) := by
  refine ct_ofi RX3 rfl (by decide +kernel) (Nat.le_of_ble_eq_true rfl) ?_
  intro p e s m args below meth c A F hP hD ls hl
  obtain ⟨⟨hx, hb, hml, hown, hts⟩, hr, hlocks, hA, hK, hE⟩ := id F
  have hS : va_S A s.heap s.heap [] := va_S.rf
  have hl : lv_has ls 2 [(0, .ref o), (1, .int v1)] := hl
  have hRf : 2 ≤ ({ frames := 2, cells := 0, slots := 0, locals := 37 } : Room).frames := Nat.le_refl _
  have hRl : 37 ≤ ({ frames := 2, cells := 0, slots := 0, locals := 37 } : Room).locals := Nat.le_refl _
  have hC : 0 ≤ ({ frames := 2, cells := 0, slots := 0, locals := 37 } : Room).cells := Nat.le_refl _
  have hSl : 0 ≤ ({ frames := 2, cells := 0, slots := 0, locals := 37 } : Room).slots := Nat.le_refl _
  unfold wp_M_isChild at h
  refine lv_iload_n hx hb dX3_isChild_0 rfl (lv_at hl 1 rfl) ?_
  refine lv_i2l (v := (v1.toInt64)) hx hb dX3_isChild_1 rfl ?_
  refine lv_lconst (v := (0 : Int64)) hx hb dX3_isChild_2 (by decide) ?_
  refine lv_aload_n hx hb dX3_isChild_3 rfl (lv_at hl 0 rfl) ?_
  refine va_get hx hb hts in_X3 hown hK hP 0 rfl rfl 4 (Nat.le_of_ble_eq_true rfl) (hts _ q1222) (fun _ h => h) (v := .int (fd 4)) rfl dX3_isChild_4 ?_
  refine lv_iconst (v := (1 : Int32)) hx hb dX3_isChild_7 (by decide) ?_
  refine lv_isub hx hb dX3_isChild_8 ?_
  refine lv_i2l (v := (((fd 4) - (1 : Int32)).toInt64)) hx hb dX3_isChild_9 rfl ?_
  refine cl_i0 F (va_runS (As := [.long (v1.toInt64), .long (0 : Int64), .long (((fd 4) - (1 : Int32)).toInt64)]) (rest := []) ⟨hx, hb, hml, hown, hts⟩ (ct_X3_in h _) (va_cwS 3 hts (lw_S q1391 q1392 q97 q1393) rfl rfl rfl (by decide +kernel) ⟨Nat.le_trans (Nat.le_of_ble_eq_true rfl) hRf, Nat.le_trans (Nat.le_of_ble_eq_true rfl) hRl⟩) ⟨ct_blind, ct_at F hS ct_nP ct_nD⟩ rfl rfl hl.1 rfl (lv_room (Nat.le_of_ble_eq_true rfl)) dX3_isChild_10 ⟨hC, hSl⟩) rfl rfl hP hS ?_
  rintro x1 _ H locs h hP hS
  exact rt_i F dX3_isChild_13 (by rcases h.1 with e | e <;> rw [e] <;> rfl) () h.2 hP hD hS (Nat.le_refl _) (Nat.le_refl _)
set_option maxHeartbeats 4000000 in
theorem ct_M_areNear_i12 {l : Launch} {V : evT} {D : va_G} {gI : Nat → ClassId} {o : Nat} {ad : Nat → Nat} {v2 : Int32} {v3 : Int32} {fd : Nat → Int32} {ar : Nat → Nat → Int32} {lw : Nat → Int64} {Q : Int32 → Prop} (h : wp_M_areNear 12 v2 v3 fd ar lw Q) : ct_i l V D vwCl (tyL gI) yX3_areNear cX3_areNear 4 .boolean { frames := 2, cells := 0, slots := 0, locals := 33 } [.ref o, .ref (ad 12), .int v2, .int v3] (wm gI o ad fd ar lw) (fun u : Unit => (wm gI o ad fd ar lw)) (fun (x : Int32) (u : Unit) => Q x) := by
  refine ct_ofi RX3 rfl (by decide +kernel) (Nat.le_of_ble_eq_true rfl) ?_
  intro p e s m args below meth c A F hP hD ls hl
  obtain ⟨⟨hx, hb, hml, hown, hts⟩, hr, hlocks, hA, hK, hE⟩ := id F
  have hS : va_S A s.heap s.heap [] := va_S.rf
  have hl : lv_has ls 4 [(0, .ref o), (1, .ref (ad 12)), (2, .int v2), (3, .int v3)] := hl
  have hRf : 2 ≤ ({ frames := 2, cells := 0, slots := 0, locals := 33 } : Room).frames := Nat.le_refl _
  have hRl : 33 ≤ ({ frames := 2, cells := 0, slots := 0, locals := 33 } : Room).locals := Nat.le_refl _
  have hC : 0 ≤ ({ frames := 2, cells := 0, slots := 0, locals := 33 } : Room).cells := Nat.le_refl _
  have hSl : 0 ≤ ({ frames := 2, cells := 0, slots := 0, locals := 33 } : Room).slots := Nat.le_refl _
  unfold wp_M_areNear at h
  refine lv_iload_n hx hb dX3_areNear_0 rfl (lv_at hl 2 rfl) ?_
  refine lv_if_lt (tgt := 46) hx hb dX3_areNear_1 (by decide) (fun c9 => ?_) (fun c9 => ?_)
  · replace h := h.1 c9
    refine lv_iconst (v := (0 : Int32)) hx hb dX3_areNear_46 (by decide) ?_
    exact rt_i F dX3_areNear_47 rfl () h hP hD hS (Nat.le_refl _) (Nat.le_refl _)
  · replace h := h.2 c9
    refine lv_iload_n hx hb dX3_areNear_4 rfl (lv_at hl 3 rfl) ?_
    refine lv_if_lt (tgt := 46) hx hb dX3_areNear_5 (by decide) (fun c8 => ?_) (fun c8 => ?_)
    · replace h := h.1 c8
      refine lv_iconst (v := (0 : Int32)) hx hb dX3_areNear_46 (by decide) ?_
      exact rt_i F dX3_areNear_47 rfl () h hP hD hS (Nat.le_refl _) (Nat.le_refl _)
    · replace h := h.2 c8
      refine lv_aload_n hx hb dX3_areNear_8 rfl (lv_at hl 1 rfl) ?_
      refine lv_iload_n hx hb dX3_areNear_9 rfl (lv_at hl 2 rfl) ?_
      refine cl_i F (va_runS (As := [.ref (ad 12), .int v2]) (rest := []) ⟨hx, hb, hml, hown, hts⟩ (ct_M_atOf_i12 h _) (va_cwS 2 hts (lw_S q1517 q1518 q97 q1519) rfl rfl rfl (by decide +kernel) ⟨Nat.le_trans (Nat.le_of_ble_eq_true rfl) hRf, Nat.le_trans (Nat.le_of_ble_eq_true rfl) hRl⟩) ⟨ct_blind, ct_at F hS hP hD⟩ rfl rfl hl.1 rfl (lv_room (Nat.le_of_ble_eq_true rfl)) dX3_areNear_10 ⟨hC, hSl⟩) rfl rfl hD hS ?_
      rintro x1 _ H locs h hP hD hS
      refine lv_if_lt (tgt := 46) hx hb dX3_areNear_13 (by decide) (fun c7 => ?_) (fun c7 => ?_)
      · replace h := h.1 c7
        refine lv_iconst (v := (0 : Int32)) hx hb dX3_areNear_46 (by decide) ?_
        exact rt_i F dX3_areNear_47 rfl () h hP hD hS (Nat.le_refl _) (Nat.le_refl _)
      · replace h := h.2 c7
        refine lv_aload_n hx hb dX3_areNear_16 rfl (lv_at hl 1 rfl) ?_
        refine lv_iload_n hx hb dX3_areNear_17 rfl (lv_at hl 3 rfl) ?_
        refine cl_i F (va_runS (As := [.ref (ad 12), .int v3]) (rest := []) ⟨hx, hb, hml, hown, hts⟩ (ct_M_atOf_i12 h _) (va_cwS 2 hts (lw_S q1517 q1518 q97 q1519) rfl rfl rfl (by decide +kernel) ⟨Nat.le_trans (Nat.le_of_ble_eq_true rfl) hRf, Nat.le_trans (Nat.le_of_ble_eq_true rfl) hRl⟩) ⟨ct_blind, ct_at F hS hP hD⟩ rfl rfl hl.1 rfl (lv_room (Nat.le_of_ble_eq_true rfl)) dX3_areNear_18 ⟨hC, hSl⟩) rfl rfl hD hS ?_
        rintro x2 _ H locs h hP hD hS
        refine lv_if_lt (tgt := 46) hx hb dX3_areNear_21 (by decide) (fun c6 => ?_) (fun c6 => ?_)
        · replace h := h.1 c6
          refine lv_iconst (v := (0 : Int32)) hx hb dX3_areNear_46 (by decide) ?_
          exact rt_i F dX3_areNear_47 rfl () h hP hD hS (Nat.le_refl _) (Nat.le_refl _)
        · replace h := h.2 c6
          refine lv_aload_n hx hb dX3_areNear_24 rfl (lv_at hl 1 rfl) ?_
          refine lv_iload_n hx hb dX3_areNear_25 rfl (lv_at hl 2 rfl) ?_
          refine cl_i F (va_runS (As := [.ref (ad 12), .int v2]) (rest := []) ⟨hx, hb, hml, hown, hts⟩ (ct_M_atOf_i12 h _) (va_cwS 2 hts (lw_S q1517 q1518 q97 q1519) rfl rfl rfl (by decide +kernel) ⟨Nat.le_trans (Nat.le_of_ble_eq_true rfl) hRf, Nat.le_trans (Nat.le_of_ble_eq_true rfl) hRl⟩) ⟨ct_blind, ct_at F hS hP hD⟩ rfl rfl hl.1 rfl (lv_room (Nat.le_of_ble_eq_true rfl)) dX3_areNear_26 ⟨hC, hSl⟩) rfl rfl hD hS ?_
          rintro x3 _ H locs h hP hD hS
          refine lv_aload_n hx hb dX3_areNear_29 rfl (lv_at hl 1 rfl) ?_
          refine lv_iload_n hx hb dX3_areNear_30 rfl (lv_at hl 3 rfl) ?_
          refine cl_i F (va_runS (As := [.ref (ad 12), .int v3]) (rest := [.int x3]) ⟨hx, hb, hml, hown, hts⟩ (ct_M_atOf_i12 h _) (va_cwS 2 hts (lw_S q1517 q1518 q97 q1519) rfl rfl rfl (by decide +kernel) ⟨Nat.le_trans (Nat.le_of_ble_eq_true rfl) hRf, Nat.le_trans (Nat.le_of_ble_eq_true rfl) hRl⟩) ⟨ct_blind, ct_at F hS hP hD⟩ rfl rfl hl.1 rfl (lv_room (Nat.le_of_ble_eq_true rfl)) dX3_areNear_31 ⟨hC, hSl⟩) rfl rfl hD hS ?_
          rintro x4 _ H locs h hP hD hS
          refine lv_isub hx hb dX3_areNear_34 ?_
          refine va_mabs hx hb (hml.trans hl.1.symm) hown (hts _ q1547) (hts _ q726) (hts _ q100) (hts _ q727) (Nat.le_trans (Nat.le_of_ble_eq_true rfl) hRf) (Nat.le_trans (Nat.le_of_ble_eq_true rfl) hRl) hC hSl dX3_areNear_35 ?_
          refine lv_iconst (v := (1 : Int32)) hx hb dX3_areNear_38 (by decide) ?_
          refine lv_icmp_gt (tgt := 46) hx hb dX3_areNear_39 (by decide) (fun c5 => ?_) (fun c5 => ?_)
          · replace h := h.1 c5
            refine lv_iconst (v := (0 : Int32)) hx hb dX3_areNear_46 (by decide) ?_
            exact rt_i F dX3_areNear_47 rfl () h hP hD hS (Nat.le_refl _) (Nat.le_refl _)
          · replace h := h.2 c5
            refine lv_iconst (v := (1 : Int32)) hx hb dX3_areNear_42 (by decide) ?_
            refine lv_goto (tgt := 47) hx hb dX3_areNear_43 (by decide) ?_
            exact rt_i F dX3_areNear_47 rfl () h hP hD hS (Nat.le_refl _) (Nat.le_refl _)
set_option maxHeartbeats 4000000 in
theorem ct_M_areNear_i13 {l : Launch} {V : evT} {D : va_G} {gI : Nat → ClassId} {o : Nat} {ad : Nat → Nat} {v2 : Int32} {v3 : Int32} {fd : Nat → Int32} {ar : Nat → Nat → Int32} {lw : Nat → Int64} {Q : Int32 → Prop} (h : wp_M_areNear 13 v2 v3 fd ar lw Q) : ct_i l V D vwCl (tyL gI) yX3_areNear cX3_areNear 4 .boolean { frames := 2, cells := 0, slots := 0, locals := 33 } [.ref o, .ref (ad 13), .int v2, .int v3] (wm gI o ad fd ar lw) (fun u : Unit => (wm gI o ad fd ar lw)) (fun (x : Int32) (u : Unit) => Q x) := by
  refine ct_ofi RX3 rfl (by decide +kernel) (Nat.le_of_ble_eq_true rfl) ?_
  intro p e s m args below meth c A F hP hD ls hl
  obtain ⟨⟨hx, hb, hml, hown, hts⟩, hr, hlocks, hA, hK, hE⟩ := id F
  have hS : va_S A s.heap s.heap [] := va_S.rf
  have hl : lv_has ls 4 [(0, .ref o), (1, .ref (ad 13)), (2, .int v2), (3, .int v3)] := hl
  have hRf : 2 ≤ ({ frames := 2, cells := 0, slots := 0, locals := 33 } : Room).frames := Nat.le_refl _
  have hRl : 33 ≤ ({ frames := 2, cells := 0, slots := 0, locals := 33 } : Room).locals := Nat.le_refl _
  have hC : 0 ≤ ({ frames := 2, cells := 0, slots := 0, locals := 33 } : Room).cells := Nat.le_refl _
  have hSl : 0 ≤ ({ frames := 2, cells := 0, slots := 0, locals := 33 } : Room).slots := Nat.le_refl _
  unfold wp_M_areNear at h
  refine lv_iload_n hx hb dX3_areNear_0 rfl (lv_at hl 2 rfl) ?_
  refine lv_if_lt (tgt := 46) hx hb dX3_areNear_1 (by decide) (fun c9 => ?_) (fun c9 => ?_)
  · replace h := h.1 c9
    refine lv_iconst (v := (0 : Int32)) hx hb dX3_areNear_46 (by decide) ?_
    exact rt_i F dX3_areNear_47 rfl () h hP hD hS (Nat.le_refl _) (Nat.le_refl _)
  · replace h := h.2 c9
    refine lv_iload_n hx hb dX3_areNear_4 rfl (lv_at hl 3 rfl) ?_
    refine lv_if_lt (tgt := 46) hx hb dX3_areNear_5 (by decide) (fun c8 => ?_) (fun c8 => ?_)
    · replace h := h.1 c8
      refine lv_iconst (v := (0 : Int32)) hx hb dX3_areNear_46 (by decide) ?_
      exact rt_i F dX3_areNear_47 rfl () h hP hD hS (Nat.le_refl _) (Nat.le_refl _)
    · replace h := h.2 c8
      refine lv_aload_n hx hb dX3_areNear_8 rfl (lv_at hl 1 rfl) ?_
      refine lv_iload_n hx hb dX3_areNear_9 rfl (lv_at hl 2 rfl) ?_
      refine cl_i F (va_runS (As := [.ref (ad 13), .int v2]) (rest := []) ⟨hx, hb, hml, hown, hts⟩ (ct_M_atOf_i13 h _) (va_cwS 2 hts (lw_S q1517 q1518 q97 q1519) rfl rfl rfl (by decide +kernel) ⟨Nat.le_trans (Nat.le_of_ble_eq_true rfl) hRf, Nat.le_trans (Nat.le_of_ble_eq_true rfl) hRl⟩) ⟨ct_blind, ct_at F hS hP hD⟩ rfl rfl hl.1 rfl (lv_room (Nat.le_of_ble_eq_true rfl)) dX3_areNear_10 ⟨hC, hSl⟩) rfl rfl hD hS ?_
      rintro x1 _ H locs h hP hD hS
      refine lv_if_lt (tgt := 46) hx hb dX3_areNear_13 (by decide) (fun c7 => ?_) (fun c7 => ?_)
      · replace h := h.1 c7
        refine lv_iconst (v := (0 : Int32)) hx hb dX3_areNear_46 (by decide) ?_
        exact rt_i F dX3_areNear_47 rfl () h hP hD hS (Nat.le_refl _) (Nat.le_refl _)
      · replace h := h.2 c7
        refine lv_aload_n hx hb dX3_areNear_16 rfl (lv_at hl 1 rfl) ?_
        refine lv_iload_n hx hb dX3_areNear_17 rfl (lv_at hl 3 rfl) ?_
        refine cl_i F (va_runS (As := [.ref (ad 13), .int v3]) (rest := []) ⟨hx, hb, hml, hown, hts⟩ (ct_M_atOf_i13 h _) (va_cwS 2 hts (lw_S q1517 q1518 q97 q1519) rfl rfl rfl (by decide +kernel) ⟨Nat.le_trans (Nat.le_of_ble_eq_true rfl) hRf, Nat.le_trans (Nat.le_of_ble_eq_true rfl) hRl⟩) ⟨ct_blind, ct_at F hS hP hD⟩ rfl rfl hl.1 rfl (lv_room (Nat.le_of_ble_eq_true rfl)) dX3_areNear_18 ⟨hC, hSl⟩) rfl rfl hD hS ?_
        rintro x2 _ H locs h hP hD hS
        refine lv_if_lt (tgt := 46) hx hb dX3_areNear_21 (by decide) (fun c6 => ?_) (fun c6 => ?_)
        · replace h := h.1 c6
          refine lv_iconst (v := (0 : Int32)) hx hb dX3_areNear_46 (by decide) ?_
          exact rt_i F dX3_areNear_47 rfl () h hP hD hS (Nat.le_refl _) (Nat.le_refl _)
        · replace h := h.2 c6
          refine lv_aload_n hx hb dX3_areNear_24 rfl (lv_at hl 1 rfl) ?_
          refine lv_iload_n hx hb dX3_areNear_25 rfl (lv_at hl 2 rfl) ?_
          refine cl_i F (va_runS (As := [.ref (ad 13), .int v2]) (rest := []) ⟨hx, hb, hml, hown, hts⟩ (ct_M_atOf_i13 h _) (va_cwS 2 hts (lw_S q1517 q1518 q97 q1519) rfl rfl rfl (by decide +kernel) ⟨Nat.le_trans (Nat.le_of_ble_eq_true rfl) hRf, Nat.le_trans (Nat.le_of_ble_eq_true rfl) hRl⟩) ⟨ct_blind, ct_at F hS hP hD⟩ rfl rfl hl.1 rfl (lv_room (Nat.le_of_ble_eq_true rfl)) dX3_areNear_26 ⟨hC, hSl⟩) rfl rfl hD hS ?_
          rintro x3 _ H locs h hP hD hS
          refine lv_aload_n hx hb dX3_areNear_29 rfl (lv_at hl 1 rfl) ?_
          refine lv_iload_n hx hb dX3_areNear_30 rfl (lv_at hl 3 rfl) ?_
          refine cl_i F (va_runS (As := [.ref (ad 13), .int v3]) (rest := [.int x3]) ⟨hx, hb, hml, hown, hts⟩ (ct_M_atOf_i13 h _) (va_cwS 2 hts (lw_S q1517 q1518 q97 q1519) rfl rfl rfl (by decide +kernel) ⟨Nat.le_trans (Nat.le_of_ble_eq_true rfl) hRf, Nat.le_trans (Nat.le_of_ble_eq_true rfl) hRl⟩) ⟨ct_blind, ct_at F hS hP hD⟩ rfl rfl hl.1 rfl (lv_room (Nat.le_of_ble_eq_true rfl)) dX3_areNear_31 ⟨hC, hSl⟩) rfl rfl hD hS ?_
          rintro x4 _ H locs h hP hD hS
          refine lv_isub hx hb dX3_areNear_34 ?_
          refine va_mabs hx hb (hml.trans hl.1.symm) hown (hts _ q1547) (hts _ q726) (hts _ q100) (hts _ q727) (Nat.le_trans (Nat.le_of_ble_eq_true rfl) hRf) (Nat.le_trans (Nat.le_of_ble_eq_true rfl) hRl) hC hSl dX3_areNear_35 ?_
          refine lv_iconst (v := (1 : Int32)) hx hb dX3_areNear_38 (by decide) ?_
          refine lv_icmp_gt (tgt := 46) hx hb dX3_areNear_39 (by decide) (fun c5 => ?_) (fun c5 => ?_)
          · replace h := h.1 c5
            refine lv_iconst (v := (0 : Int32)) hx hb dX3_areNear_46 (by decide) ?_
            exact rt_i F dX3_areNear_47 rfl () h hP hD hS (Nat.le_refl _) (Nat.le_refl _)
          · replace h := h.2 c5
            refine lv_iconst (v := (1 : Int32)) hx hb dX3_areNear_42 (by decide) ?_
            refine lv_goto (tgt := 47) hx hb dX3_areNear_43 (by decide) ?_
            exact rt_i F dX3_areNear_47 rfl () h hP hD hS (Nat.le_refl _) (Nat.le_refl _)
set_option maxHeartbeats 4000000 in
theorem lp_M_set_J2 {p : Program} {l : Launch} {e : Env} {R : Room} {s : State} {m : MethodId} {args : Array Value} {below : List Frame} {meth : Method} {c : Code} {cells slots : Nat} {A : Nat → Prop} {V : evT} {D : va_G} {gI : Nat → ClassId} {o : Nat} {ad : Nat → Nat} {v1 : Int32} {v2 : Int32} {fd : Nat → Int32} {lw : Nat → Int64} {Q : Int32 → (Nat → Int32) → (Nat → Nat → Int32) → Prop} (F : ct_F p m c meth cX3_set 5 s args RX3 (some .int) A V D vwCl (tyL gI)) (hRf : 2 ≤ R.frames) (hRl : 37 ≤ R.locals) (hC : cells ≤ R.cells) (hSl : slots ≤ R.slots) :
    ∀ (t0 : Int64) (t1 : Int64) (t2 : Int64) (ar : Nat → Nat → Int32), wp_M_set_J2 v1 v2 fd lw Q t0 t1 t2 ar → ∀ (H : Heap) (locs : List Loc) (ls : Array Slot), va_P D vwCl (wm gI o ad fd ar lw) H → va_D A (wm gI o ad fd ar lw) → va_S A s.heap H locs → lv_has ls 5 [(0, .ref o), (1, .int v1), (2, .int v2)] → W p l e R s m args below meth c H locs cells slots (MQ below (va_Qi (fun (x : Int32) (u : (Nat → Int32) × (Nat → Nat → Int32)) => Q x u.1 u.2) (fun u t => va_P D vwCl (wm gI o ad u.1 u.2 lw) t.heap ∧ va_K D vwCl (tyL gI) t ∧ va_D A (wm gI o ad u.1 u.2 lw)) A) args s cells slots A) (F0 m 53 ls [.long t0, .long t1, .long t2]) := by
  obtain ⟨⟨hx, hb, hml, hown, hts⟩, hr, hlocks, hA, hK, hE⟩ := id F
  intro t0 t1 t2 ar h H locs ls hP hD hS hl
  unfold wp_M_set_J2 at h
  refine cl_i0 F (va_runS (As := [.long t2, .long t1, .long t0]) (rest := []) ⟨hx, hb, hml, hown, hts⟩ (ct_X3_in h _) (va_cwS 3 hts (lw_S q1391 q1392 q97 q1393) rfl rfl rfl (by decide +kernel) ⟨Nat.le_trans (Nat.le_of_ble_eq_true rfl) hRf, Nat.le_trans (Nat.le_of_ble_eq_true rfl) hRl⟩) ⟨ct_blind, ct_at F hS ct_nP ct_nD⟩ rfl rfl hl.1 rfl (lv_room (Nat.le_of_ble_eq_true rfl)) dX3_set_53 ⟨hC, hSl⟩) rfl rfl hP hS ?_
  rintro x2 _ H locs h hP hS
  refine lv_if_ne (tgt := 61) hx hb dX3_set_56 (by decide) (fun c3 => ?_) (fun c3 => ?_)
  · replace h := h.1 c3
    refine lv_aload_n hx hb dX3_set_61 rfl (lv_at hl 0 rfl) ?_
    refine va_get hx hb hts in_X3 hown hK hP 0 rfl rfl 11 (Nat.le_of_ble_eq_true rfl) (hts _ q1229) (fun _ h => h) (v := .ref (ad 11)) rfl dX3_set_62 ?_
    refine lv_iload_n hx hb dX3_set_65 rfl (lv_at hl 1 rfl) ?_
    refine va_iald (f := (ar 11)) hx hb hK hP 7 0 rfl rfl h.1 dX3_set_66 ?_
    replace h := h.2
    refine lv_istore (lv' := [(4, .int (ar 11 v1.toNatClampNeg)), (0, .ref o), (1, .int v1), (2, .int v2)]) hx hb dX3_set_67 hl (by decide) rfl (fun ls hl => ?_)
    refine lv_aload_n hx hb dX3_set_69 rfl (lv_at hl 1 rfl) ?_
    refine va_get hx hb hts in_X3 hown hK hP 0 rfl rfl 11 (Nat.le_of_ble_eq_true rfl) (hts _ q1229) (fun _ h => h) (v := .ref (ad 11)) rfl dX3_set_70 ?_
    refine lv_iload_n hx hb dX3_set_73 rfl (lv_at hl 2 rfl) ?_
    refine lv_iload_n hx hb dX3_set_74 rfl (lv_at hl 3 rfl) ?_
    refine pt_iast (f := (ar 11)) hx hb hK hP hD hS 7 0 rfl rfl h.1 dX3_set_75 wmA_11 (fun H locs hP hD hS => ?_)
    replace h := h.2
    refine lv_iload hx hb dX3_set_76 (lv_at hl 0 rfl) ?_
    exact rt_i F dX3_set_78 rfl (fd, (va_up ar 11 (upd (ar 11) v1.toNatClampNeg v2))) h hP hD hS (Nat.le_refl _) (Nat.le_refl _)
  · replace h := h.2 c3
    refine lv_iconst (v := (-1 : Int32)) hx hb dX3_set_59 (by decide) ?_
    exact rt_i F dX3_set_60 rfl (fd, ar) h hP hD hS (Nat.le_refl _) (Nat.le_refl _)
set_option maxHeartbeats 4000000 in
theorem lp_M_set_J1 {p : Program} {l : Launch} {e : Env} {R : Room} {s : State} {m : MethodId} {args : Array Value} {below : List Frame} {meth : Method} {c : Code} {cells slots : Nat} {A : Nat → Prop} {V : evT} {D : va_G} {gI : Nat → ClassId} {o : Nat} {ad : Nat → Nat} {v1 : Int32} {v2 : Int32} {fd : Nat → Int32} {lw : Nat → Int64} {Q : Int32 → (Nat → Int32) → (Nat → Nat → Int32) → Prop} (F : ct_F p m c meth cX3_set 5 s args RX3 (some .int) A V D vwCl (tyL gI)) (hRf : 2 ≤ R.frames) (hRl : 37 ≤ R.locals) (hC : cells ≤ R.cells) (hSl : slots ≤ R.slots) :
    ∀ (t0 : Int32) (ar : Nat → Nat → Int32), wp_M_set_J1 v1 v2 fd lw Q t0 ar → ∀ (H : Heap) (locs : List Loc) (ls : Array Slot), va_P D vwCl (wm gI o ad fd ar lw) H → va_D A (wm gI o ad fd ar lw) → va_S A s.heap H locs → lv_has ls 5 [(0, .ref o), (1, .int v1), (2, .int v2)] → W p l e R s m args below meth c H locs cells slots (MQ below (va_Qi (fun (x : Int32) (u : (Nat → Int32) × (Nat → Nat → Int32)) => Q x u.1 u.2) (fun u t => va_P D vwCl (wm gI o ad u.1 u.2 lw) t.heap ∧ va_K D vwCl (tyL gI) t ∧ va_D A (wm gI o ad u.1 u.2 lw)) A) args s cells slots A) (F0 m 24 ls [.int t0]) := by
  obtain ⟨⟨hx, hb, hml, hown, hts⟩, hr, hlocks, hA, hK, hE⟩ := id F
  intro t0 ar h H locs ls hP hD hS hl
  unfold wp_M_set_J1 at h
  refine lv_istore_n (lv' := [(3, .int t0), (0, .ref o), (1, .int v1), (2, .int v2)]) hx hb dX3_set_24 rfl hl (by decide) rfl (fun ls hl => ?_)
  refine lv_iload_n hx hb dX3_set_25 rfl (lv_at hl 2 rfl) ?_
  refine lv_i2l (v := (v1.toInt64)) hx hb dX3_set_26 rfl ?_
  refine lv_lconst (v := (0 : Int64)) hx hb dX3_set_27 (by decide) ?_
  refine lv_lconst (v := (1 : Int64)) hx hb dX3_set_28 (by decide) ?_
  refine cl_i0 F (va_runS (As := [.long (v1.toInt64), .long (0 : Int64), .long (1 : Int64)]) (rest := []) ⟨hx, hb, hml, hown, hts⟩ (ct_X3_in h _) (va_cwS 3 hts (lw_S q1391 q1392 q97 q1393) rfl rfl rfl (by decide +kernel) ⟨Nat.le_trans (Nat.le_of_ble_eq_true rfl) hRf, Nat.le_trans (Nat.le_of_ble_eq_true rfl) hRl⟩) ⟨ct_blind, ct_at F hS ct_nP ct_nD⟩ rfl rfl hl.1 rfl (lv_room (Nat.le_of_ble_eq_true rfl)) dX3_set_29 ⟨hC, hSl⟩) rfl rfl hP hS ?_
  rintro x1 _ H locs h hP hS
  refine lv_if_eq (tgt := 59) hx hb dX3_set_32 (by decide) (fun c5 => ?_) (fun c5 => ?_)
  · replace h := h.1 c5
    refine lv_iconst (v := (-1 : Int32)) hx hb dX3_set_59 (by decide) ?_
    exact rt_i F dX3_set_60 rfl (fd, ar) h hP hD hS (Nat.le_refl _) (Nat.le_refl _)
  · replace h := h.2 c5
    refine lv_iload_n hx hb dX3_set_35 rfl (lv_at hl 3 rfl) ?_
    refine lv_i2l (v := (v2.toInt64)) hx hb dX3_set_36 rfl ?_
    refine lv_iload_n hx hb dX3_set_37 rfl (lv_at hl 0 rfl) ?_
    refine lv_i2l (v := (t0.toInt64)) hx hb dX3_set_38 rfl ?_
    refine lv_iload_n hx hb dX3_set_39 rfl (lv_at hl 2 rfl) ?_
    refine lv_iconst (v := (1 : Int32)) hx hb dX3_set_40 (by decide) ?_
    refine lv_icmp_ne (tgt := 50) hx hb dX3_set_41 (by decide) (fun c4 => ?_) (fun c4 => ?_)
    · replace h := h.1 c4
      refine lv_ldc2 (v := (9 : Int64)) hx hb hown (hts _ q1554) dX3_set_50 ?_
      refine lp_M_set_J2 F hRf hRl hC hSl  _ _ _ _ h _ _ _ hP hD hS (lv_sub hl [1, 2, 3] rfl)
    · replace h := h.2 c4
      refine lv_ldc2 (v := (8 : Int64)) hx hb hown (hts _ q1553) dX3_set_44 ?_
      refine lv_goto (tgt := 53) hx hb dX3_set_47 (by decide) ?_
      refine lp_M_set_J2 F hRf hRl hC hSl  _ _ _ _ h _ _ _ hP hD hS (lv_sub hl [1, 2, 3] rfl)
set_option maxHeartbeats 4000000 in
theorem ct_M_set {l : Launch} {V : evT} {D : va_G} {gI : Nat → ClassId} {o : Nat} {ad : Nat → Nat} {v1 : Int32} {v2 : Int32} {fd : Nat → Int32} {ar : Nat → Nat → Int32} {lw : Nat → Int64} {Q : Int32 → (Nat → Int32) → (Nat → Nat → Int32) → Prop} (h : wp_M_set v1 v2 fd ar lw Q) : ct_i l V D vwCl (tyL gI) yX3_set cX3_set 5 .int { frames := 2, cells := 0, slots := 0, locals := 37 } [.ref o, .int v1, .int v2] (wm gI o ad fd ar lw) (fun u : (Nat → Int32) × (Nat → Nat → Int32) => (wm gI o ad u.1 u.2 lw)) (fun (x : Int32) (u : (Nat → Int32) × (Nat → Nat → Int32)) => Q x u.1 u.2) := by
  refine ct_ofi RX3 rfl (by decide +kernel) (Nat.le_of_ble_eq_true rfl) ?_
  intro p e s m args below meth c A F hP hD ls hl
  obtain ⟨⟨hx, hb, hml, hown, hts⟩, hr, hlocks, hA, hK, hE⟩ := id F
  have hS : va_S A s.heap s.heap [] := va_S.rf
  have hl : lv_has ls 5 [(0, .ref o), (1, .int v1), (2, .int v2)] := hl
  have hRf : 2 ≤ ({ frames := 2, cells := 0, slots := 0, locals := 37 } : Room).frames := Nat.le_refl _
  have hRl : 37 ≤ ({ frames := 2, cells := 0, slots := 0, locals := 37 } : Room).locals := Nat.le_refl _
  have hC : 0 ≤ ({ frames := 2, cells := 0, slots := 0, locals := 37 } : Room).cells := Nat.le_refl _
  have hSl : 0 ≤ ({ frames := 2, cells := 0, slots := 0, locals := 37 } : Room).slots := Nat.le_refl _
  unfold wp_M_set at h
  refine lv_aload_n hx hb dX3_set_0 rfl (lv_at hl 0 rfl) ?_
  refine lv_iconst (v := (0 : Int32)) hx hb dX3_set_1 (by decide) ?_
  refine pt_put (v := .int (0 : Int32)) hx hb hts in_X3 tyX3 tyX3_ok nmX3 hown hK hP hD hS 0 rfl rfl 0 (Nat.le_of_ble_eq_true rfl) (hts _ q1218) (fun _ h => h) rfl (ty := .int) (by decide +kernel) rfl rfl (Nat.le_of_ble_eq_true rfl) dX3_set_2 wmF_0 (fun H locs hP hD hS => ?_)
  refine lv_iload_n hx hb dX3_set_5 rfl (lv_at hl 1 rfl) ?_
  refine lv_iconst (v := (1 : Int32)) hx hb dX3_set_6 (by decide) ?_
  refine lv_icmp_ne (tgt := 23) hx hb dX3_set_7 (by decide) (fun c7 => ?_) (fun c7 => ?_)
  · replace h := h.1 c7
    refine lv_iconst (v := (0 : Int32)) hx hb dX3_set_23 (by decide) ?_
    refine lp_M_set_J1 F hRf hRl hC hSl  _ _ h _ _ _ hP hD hS (lv_sub hl [0, 1, 2] rfl)
  · replace h := h.2 c7
    refine lv_aload_n hx hb dX3_set_10 rfl (lv_at hl 0 rfl) ?_
    refine va_get hx hb hts in_X3 hown hK hP 0 rfl rfl 12 (Nat.le_of_ble_eq_true rfl) (hts _ q1230) (fun _ h => h) (v := .ref (ad 12)) rfl dX3_set_11 ?_
    refine lv_bipush (v := (41 : Int32)) hx hb dX3_set_14 (by decide) ?_
    refine va_iald (f := (ar 12)) hx hb hK hP 8 0 rfl rfl (by unfold vp_in; decide) dX3_set_16 ?_
    refine cl_i0 F (va_runS (As := [.int (ar 12 (41 : Int32).toNatClampNeg)]) (rest := []) ⟨hx, hb, hml, hown, hts⟩ (ct_J10_bitCount h _) (va_cwS 1 hts (lw_S q1552 q586 q112 q587) rfl rfl rfl (by decide +kernel) ⟨Nat.le_trans (Nat.le_of_ble_eq_true rfl) hRf, Nat.le_trans (Nat.le_of_ble_eq_true rfl) hRl⟩) ⟨ct_blind, ct_at F hS ct_nP ct_nD⟩ rfl rfl hl.1 rfl (lv_room (Nat.le_of_ble_eq_true rfl)) dX3_set_17 ⟨hC, hSl⟩) rfl rfl hP hS ?_
    rintro x6 _ H locs h hP hS
    refine lv_goto (tgt := 24) hx hb dX3_set_20 (by decide) ?_
    refine lp_M_set_J1 F hRf hRl hC hSl  _ _ h _ _ _ hP hD hS (lv_sub hl [0, 1, 2] rfl)
set_option maxHeartbeats 4000000 in
theorem lp_M_sheet_J5 {p : Program} {l : Launch} {e : Env} {R : Room} {s : State} {m : MethodId} {args : Array Value} {below : List Frame} {meth : Method} {c : Code} {cells slots : Nat} {A : Nat → Prop} {Qf : State → Prop} {V : evT} {D : va_G} {gI : Nat → ClassId} {o : Nat} {ad : Nat → Nat} {v1 : Int32} {v2 : Int32} {v4 : Int32} {fd : Nat → Int32} {lw : Nat → Int64} {K46 : (Int32) → (Int32) → (Int32) → (Nat → Nat → Int32) → Prop} (F : ct_F p m c meth cX3_sheet 9 s args RX3 (some .int) A V D vwCl (tyL gI)) (hRf : 2 ≤ R.frames) (hRl : 37 ≤ R.locals) (hC : cells ≤ R.cells) (hSl : slots ≤ R.slots)
    (hK46 : ∀ (v5 : Int32) (v6 : Int32) (v7 : Int32) (ar : Nat → Nat → Int32), K46 v5 v6 v7 ar → ∀ (H : Heap) (locs : List Loc) (ls : Array Slot), va_P D vwCl (wm gI o ad fd ar lw) H → va_D A (wm gI o ad fd ar lw) → va_S A s.heap H locs → lv_has ls 9 [(0, .ref o), (1, .int v1), (2, .int v2), (4, .int v4), (5, .int v5), (6, .int v6), (7, .int v7)] → W p l e R s m args below meth c H locs cells slots Qf (F0 m 46 ls [])) :
    ∀ (v5 : Int32) (v6 : Int32) (v7 : Int32) (t0 : Int32) (t1 : Int32) (ar : Nat → Nat → Int32), wp_M_sheet_J5 v1 v2 v4 fd lw K46 v5 v6 v7 t0 t1 ar → ∀ (H : Heap) (locs : List Loc) (ls : Array Slot), va_P D vwCl (wm gI o ad fd ar lw) H → va_D A (wm gI o ad fd ar lw) → va_S A s.heap H locs → lv_has ls 9 [(0, .ref o), (1, .int v1), (2, .int v2), (4, .int v4), (5, .int v5), (6, .int v6), (7, .int v7)] → W p l e R s m args below meth c H locs cells slots Qf (F0 m 119 ls [.int t0, .int t1, .ref (ad 12)]) := by
  obtain ⟨⟨hx, hb, hml, hown, hts⟩, hr, hlocks, hA, hK, hE⟩ := id F
  intro v5 v6 v7 t0 t1 ar h H locs ls hP hD hS hl
  unfold wp_M_sheet_J5 at h
  refine pt_iast (f := (ar 12)) hx hb hK hP hD hS 8 0 rfl rfl h.1 dX3_sheet_119 wmA_12 (fun H locs hP hD hS => ?_)
  replace h := h.2
  refine lv_iload hx hb dX3_sheet_120 (lv_at hl 4 rfl) ?_
  refine lv_aload_n hx hb dX3_sheet_122 rfl (lv_at hl 0 rfl) ?_
  refine va_get hx hb hts in_X3 hown hK hP 0 rfl rfl 12 (Nat.le_of_ble_eq_true rfl) (hts _ q1230) (fun _ h => h) (v := .ref (ad 12)) rfl dX3_sheet_123 ?_
  refine lv_iload hx hb dX3_sheet_126 (lv_at hl 6 rfl) ?_
  refine cl_i F (va_runS (As := [.ref (ad 12), .int v7]) (rest := [.int v5]) ⟨hx, hb, hml, hown, hts⟩ (ct_M_moodOf_i12 h _) (va_cwS 2 hts (lw_S q1532 q1533 q97 q1534) rfl rfl rfl (by decide +kernel) ⟨Nat.le_trans (Nat.le_of_ble_eq_true rfl) hRf, Nat.le_trans (Nat.le_of_ble_eq_true rfl) hRl⟩) ⟨ct_blind, ct_at F hS hP hD⟩ rfl rfl hl.1 rfl (lv_room (Nat.le_of_ble_eq_true rfl)) dX3_sheet_128 ⟨hC, hSl⟩) rfl rfl hD hS ?_
  rintro x2 _ H locs h hP hD hS
  refine lv_iadd hx hb dX3_sheet_131 ?_
  refine lv_istore (lv' := [(5, .int (v5 + x2)), (0, .ref o), (1, .int v1), (2, .int v2), (4, .int v4), (6, .int v6), (7, .int v7)]) hx hb dX3_sheet_132 hl (by decide) rfl (fun ls hl => ?_)
  refine lv_iload hx hb dX3_sheet_134 (lv_at hl 5 rfl) ?_
  refine lv_iload hx hb dX3_sheet_136 (lv_at hl 4 rfl) ?_
  refine lv_iadd hx hb dX3_sheet_138 ?_
  refine lv_istore (lv' := [(6, .int (v6 + v4)), (5, .int (v5 + x2)), (0, .ref o), (1, .int v1), (2, .int v2), (4, .int v4), (7, .int v7)]) hx hb dX3_sheet_139 hl (by decide) rfl (fun ls hl => ?_)
  refine lv_iinc (v := (v7 + (1 : Int32))) (lv' := [(7, .int (v7 + (1 : Int32))), (6, .int (v6 + v4)), (5, .int (v5 + x2)), (0, .ref o), (1, .int v1), (2, .int v2), (4, .int v4)]) hx hb dX3_sheet_141 hl (k := 6) rfl rfl (by decide) rfl (fun ls hl => ?_)
  refine lv_goto (tgt := 46) hx hb dX3_sheet_144 (by decide) ?_
  exact hK46 _ _ _ _ h _ _ _ hP hD hS (lv_sub hl [3, 4, 5, 6, 2, 1, 0] rfl)
set_option maxHeartbeats 4000000 in
theorem lp_M_sheet_J4 {p : Program} {l : Launch} {e : Env} {R : Room} {s : State} {m : MethodId} {args : Array Value} {below : List Frame} {meth : Method} {c : Code} {cells slots : Nat} {A : Nat → Prop} {Qf : State → Prop} {V : evT} {D : va_G} {gI : Nat → ClassId} {o : Nat} {ad : Nat → Nat} {v1 : Int32} {v2 : Int32} {v4 : Int32} {fd : Nat → Int32} {lw : Nat → Int64} {K46 : (Int32) → (Int32) → (Int32) → (Nat → Nat → Int32) → Prop} (F : ct_F p m c meth cX3_sheet 9 s args RX3 (some .int) A V D vwCl (tyL gI)) (hRf : 2 ≤ R.frames) (hRl : 37 ≤ R.locals) (hC : cells ≤ R.cells) (hSl : slots ≤ R.slots)
    (hK46 : ∀ (v5 : Int32) (v6 : Int32) (v7 : Int32) (ar : Nat → Nat → Int32), K46 v5 v6 v7 ar → ∀ (H : Heap) (locs : List Loc) (ls : Array Slot), va_P D vwCl (wm gI o ad fd ar lw) H → va_D A (wm gI o ad fd ar lw) → va_S A s.heap H locs → lv_has ls 9 [(0, .ref o), (1, .int v1), (2, .int v2), (4, .int v4), (5, .int v5), (6, .int v6), (7, .int v7)] → W p l e R s m args below meth c H locs cells slots Qf (F0 m 46 ls [])) :
    ∀ (v5 : Int32) (v6 : Int32) (v7 : Int32) (t0 : Int32) (ar : Nat → Nat → Int32), wp_M_sheet_J4 v1 v2 v4 fd lw K46 v5 v6 v7 t0 ar → ∀ (H : Heap) (locs : List Loc) (ls : Array Slot), va_P D vwCl (wm gI o ad fd ar lw) H → va_D A (wm gI o ad fd ar lw) → va_S A s.heap H locs → lv_has ls 9 [(0, .ref o), (1, .int v1), (2, .int v2), (4, .int v4), (5, .int v5), (6, .int v6), (7, .int v7)] → W p l e R s m args below meth c H locs cells slots Qf (F0 m 104 ls [.int t0, .ref (ad 12)]) := by
  obtain ⟨⟨hx, hb, hml, hown, hts⟩, hr, hlocks, hA, hK, hE⟩ := id F
  intro v5 v6 v7 t0 ar h H locs ls hP hD hS hl
  unfold wp_M_sheet_J4 at h
  refine lv_iconst (v := (0 : Int32)) hx hb dX3_sheet_104 (by decide) ?_
  refine lv_goto (tgt := 119) hx hb dX3_sheet_105 (by decide) ?_
  refine lp_M_sheet_J5 F hRf hRl hC hSl ?hk46 _ _ _ _ _ _ h _ _ _ hP hD hS (lv_sub hl [0, 1, 2, 3, 4, 5, 6] rfl)
  case hk46 =>
    intro v5_3 v6_4 v7_5 ar_6 h H locs ls hP hD hS hl
    exact hK46 _ _ _ _ h _ _ _ hP hD hS (lv_sub hl [0, 1, 2, 3, 4, 5, 6] rfl)
set_option maxHeartbeats 4000000 in
theorem lp_M_sheet_J3 {p : Program} {l : Launch} {e : Env} {R : Room} {s : State} {m : MethodId} {args : Array Value} {below : List Frame} {meth : Method} {c : Code} {cells slots : Nat} {A : Nat → Prop} {Qf : State → Prop} {V : evT} {D : va_G} {gI : Nat → ClassId} {o : Nat} {ad : Nat → Nat} {v1 : Int32} {v2 : Int32} {v4 : Int32} {fd : Nat → Int32} {lw : Nat → Int64} {K46 : (Int32) → (Int32) → (Int32) → (Nat → Nat → Int32) → Prop} (F : ct_F p m c meth cX3_sheet 9 s args RX3 (some .int) A V D vwCl (tyL gI)) (hRf : 2 ≤ R.frames) (hRl : 37 ≤ R.locals) (hC : cells ≤ R.cells) (hSl : slots ≤ R.slots)
    (hK46 : ∀ (v5 : Int32) (v6 : Int32) (v7 : Int32) (ar : Nat → Nat → Int32), K46 v5 v6 v7 ar → ∀ (H : Heap) (locs : List Loc) (ls : Array Slot), va_P D vwCl (wm gI o ad fd ar lw) H → va_D A (wm gI o ad fd ar lw) → va_S A s.heap H locs → lv_has ls 9 [(0, .ref o), (1, .int v1), (2, .int v2), (4, .int v4), (5, .int v5), (6, .int v6), (7, .int v7)] → W p l e R s m args below meth c H locs cells slots Qf (F0 m 46 ls [])) :
    ∀ (v5 : Int32) (v6 : Int32) (v7 : Int32) (t0 : Int32) (ar : Nat → Nat → Int32), wp_M_sheet_J3 v1 v2 v4 fd lw K46 v5 v6 v7 t0 ar → ∀ (H : Heap) (locs : List Loc) (ls : Array Slot), va_P D vwCl (wm gI o ad fd ar lw) H → va_D A (wm gI o ad fd ar lw) → va_S A s.heap H locs → lv_has ls 9 [(0, .ref o), (1, .int v1), (2, .int v2), (4, .int v4), (5, .int v5), (6, .int v6), (7, .int v7)] → W p l e R s m args below meth c H locs cells slots Qf (F0 m 78 ls [.int t0]) := by
  obtain ⟨⟨hx, hb, hml, hown, hts⟩, hr, hlocks, hA, hK, hE⟩ := id F
  intro v5 v6 v7 t0 ar h H locs ls hP hD hS hl
  unfold wp_M_sheet_J3 at h
  refine lv_istore (lv' := [(8, .int t0), (0, .ref o), (1, .int v1), (2, .int v2), (4, .int v4), (5, .int v5), (6, .int v6), (7, .int v7)]) hx hb dX3_sheet_78 hl (by decide) rfl (fun ls hl => ?_)
  refine lv_aload_n hx hb dX3_sheet_80 rfl (lv_at hl 1 rfl) ?_
  refine va_get hx hb hts in_X3 hown hK hP 0 rfl rfl 12 (Nat.le_of_ble_eq_true rfl) (hts _ q1230) (fun _ h => h) (v := .ref (ad 12)) rfl dX3_sheet_81 ?_
  refine lv_bipush (v := (25 : Int32)) hx hb dX3_sheet_84 (by decide) ?_
  refine lv_iconst (v := (2 : Int32)) hx hb dX3_sheet_86 (by decide) ?_
  refine lv_iload hx hb dX3_sheet_87 (lv_at hl 7 rfl) ?_
  refine lv_imul hx hb dX3_sheet_89 ?_
  refine lv_iadd hx hb dX3_sheet_90 ?_
  refine lv_iconst (v := (1 : Int32)) hx hb dX3_sheet_91 (by decide) ?_
  refine lv_iadd hx hb dX3_sheet_92 ?_
  refine lv_iload_n hx hb dX3_sheet_93 rfl (lv_at hl 2 rfl) ?_
  refine lv_iconst (v := (3 : Int32)) hx hb dX3_sheet_94 (by decide) ?_
  refine lv_icmp_eq (tgt := 104) hx hb dX3_sheet_95 (by decide) (fun c20 => ?_) (fun c20 => ?_)
  · replace h := h.1 c20
    refine lp_M_sheet_J4 F hRf hRl hC hSl ?hk46 _ _ _ _ _ h _ _ _ hP hD hS (lv_sub hl [1, 2, 3, 4, 5, 6, 7] rfl)
    case hk46 =>
      intro v5_7 v6_8 v7_9 ar_10 h H locs ls hP hD hS hl
      exact hK46 _ _ _ _ h _ _ _ hP hD hS (lv_sub hl [0, 1, 2, 3, 4, 5, 6] rfl)
  · replace h := h.2 c20
    refine lv_iload hx hb dX3_sheet_98 (lv_at hl 7 rfl) ?_
    refine lv_iload_n hx hb dX3_sheet_100 rfl (lv_at hl 3 rfl) ?_
    refine lv_icmp_lt (tgt := 108) hx hb dX3_sheet_101 (by decide) (fun c19 => ?_) (fun c19 => ?_)
    · replace h := h.1 c19
      refine lv_iconst (v := (0 : Int32)) hx hb dX3_sheet_108 (by decide) ?_
      refine lv_bipush (v := (9 : Int32)) hx hb dX3_sheet_109 (by decide) ?_
      refine lv_iload hx hb dX3_sheet_111 (lv_at hl 0 rfl) ?_
      refine va_mmin hx hb (hml.trans hl.1.symm) hown (hts _ q1402) (hts _ q336) (hts _ q100) (hts _ q337) (Nat.le_trans (Nat.le_of_ble_eq_true rfl) hRf) (Nat.le_trans (Nat.le_of_ble_eq_true rfl) hRl) hC hSl dX3_sheet_113 ?_
      refine va_mmax hx hb (hml.trans hl.1.symm) hown (hts _ q1560) (hts _ q636) (hts _ q100) (hts _ q637) (Nat.le_trans (Nat.le_of_ble_eq_true rfl) hRf) (Nat.le_trans (Nat.le_of_ble_eq_true rfl) hRl) hC hSl dX3_sheet_116 ?_
      refine lp_M_sheet_J5 F hRf hRl hC hSl ?hk46 _ _ _ _ _ _ h _ _ _ hP hD hS (lv_sub hl [1, 2, 3, 4, 5, 6, 7] rfl)
      case hk46 =>
        intro v5_11 v6_12 v7_13 ar_14 h H locs ls hP hD hS hl
        exact hK46 _ _ _ _ h _ _ _ hP hD hS (lv_sub hl [0, 1, 2, 3, 4, 5, 6] rfl)
    · replace h := h.2 c19
      refine lp_M_sheet_J4 F hRf hRl hC hSl ?hk46 _ _ _ _ _ h _ _ _ hP hD hS (lv_sub hl [1, 2, 3, 4, 5, 6, 7] rfl)
      case hk46 =>
        intro v5_15 v6_16 v7_17 ar_18 h H locs ls hP hD hS hl
        exact hK46 _ _ _ _ h _ _ _ hP hD hS (lv_sub hl [0, 1, 2, 3, 4, 5, 6] rfl)
set_option maxHeartbeats 4000000 in
theorem lp_M_sheet_L2 {p : Program} {l : Launch} {e : Env} {R : Room} {s : State} {m : MethodId} {args : Array Value} {below : List Frame} {meth : Method} {c : Code} {cells slots : Nat} {A : Nat → Prop} {Qf : State → Prop} {V : evT} {D : va_G} {gI : Nat → ClassId} {o : Nat} {ad : Nat → Nat} {v1 : Int32} {v2 : Int32} {v4 : Int32} {fd : Nat → Int32} {lw : Nat → Int64} {K147 : (Int32) → (Nat → Nat → Int32) → Prop} (F : ct_F p m c meth cX3_sheet 9 s args RX3 (some .int) A V D vwCl (tyL gI)) (hRf : 2 ≤ R.frames) (hRl : 37 ≤ R.locals) (hC : cells ≤ R.cells) (hSl : slots ≤ R.slots)
    (hK147 : ∀ (v5 : Int32) (ar : Nat → Nat → Int32), K147 v5 ar → ∀ (H : Heap) (locs : List Loc) (ls : Array Slot), va_P D vwCl (wm gI o ad fd ar lw) H → va_D A (wm gI o ad fd ar lw) → va_S A s.heap H locs → lv_has ls 9 [(1, .int v1), (5, .int v5)] → W p l e R s m args below meth c H locs cells slots Qf (F0 m 147 ls [])) :
    ∀ (n : Nat) (v5 : Int32) (v6 : Int32) (v7 : Int32) (ar : Nat → Nat → Int32), wp_M_sheet_L2 v1 v2 v4 fd lw K147 n v5 v6 v7 ar → ∀ (H : Heap) (locs : List Loc) (ls : Array Slot), va_P D vwCl (wm gI o ad fd ar lw) H → va_D A (wm gI o ad fd ar lw) → va_S A s.heap H locs → lv_has ls 9 [(0, .ref o), (1, .int v1), (2, .int v2), (4, .int v4), (5, .int v5), (6, .int v6), (7, .int v7)] → W p l e R s m args below meth c H locs cells slots Qf (F0 m 46 ls []) := by
  obtain ⟨⟨hx, hb, hml, hown, hts⟩, hr, hlocks, hA, hK, hE⟩ := id F
  intro n
  induction n with
  | zero => intro v5 v6 v7 ar h; exact h.elim
  | succ n ih =>
    intro v5 v6 v7 ar h H locs ls hP hD hS hl
    unfold wp_M_sheet_L2 at h
    refine lv_iload hx hb dX3_sheet_46 (lv_at hl 6 rfl) ?_
    refine lv_aload_n hx hb dX3_sheet_48 rfl (lv_at hl 0 rfl) ?_
    refine va_get hx hb hts in_X3 hown hK hP 0 rfl rfl 4 (Nat.le_of_ble_eq_true rfl) (hts _ q1222) (fun _ h => h) (v := .int (fd 4)) rfl dX3_sheet_49 ?_
    refine lv_icmp_ge (tgt := 147) hx hb dX3_sheet_52 (by decide) (fun c35 => ?_) (fun c35 => ?_)
    · replace h := h.1 c35
      exact hK147 _ _ h _ _ _ hP hD hS (lv_sub hl [1, 4] rfl)
    · replace h := h.2 c35
      refine lv_iload_n hx hb dX3_sheet_55 rfl (lv_at hl 1 rfl) ?_
      refine lv_if_ne (tgt := 65) hx hb dX3_sheet_56 (by decide) (fun c34 => ?_) (fun c34 => ?_)
      · replace h := h.1 c34
        refine lv_iload_n hx hb dX3_sheet_65 rfl (lv_at hl 1 rfl) ?_
        refine lv_iconst (v := (1 : Int32)) hx hb dX3_sheet_66 (by decide) ?_
        refine lv_icmp_ne (tgt := 76) hx hb dX3_sheet_67 (by decide) (fun c29 => ?_) (fun c29 => ?_)
        · replace h := h.1 c29
          refine lv_iload hx hb dX3_sheet_76 (lv_at hl 5 rfl) ?_
          refine lp_M_sheet_J3 F hRf hRl hC hSl ?hk46 _ _ _ _ _ h _ _ _ hP hD hS (lv_sub hl [0, 1, 2, 3, 4, 5, 6] rfl)
          case hk46 =>
            intro v5_21 v6_22 v7_23 ar_24 h H locs ls hP hD hS hl
            exact ih _ _ _ _ h _ _ _ hP hD hS (lv_sub hl [0, 1, 2, 3, 4, 5, 6] rfl)
        · replace h := h.2 c29
          refine lv_iload hx hb dX3_sheet_70 (lv_at hl 5 rfl) ?_
          refine lv_i2s (v := (v6.toInt16.toInt32)) hx hb dX3_sheet_72 rfl ?_
          refine lv_goto (tgt := 78) hx hb dX3_sheet_73 (by decide) ?_
          refine lp_M_sheet_J3 F hRf hRl hC hSl ?hk46 _ _ _ _ _ h _ _ _ hP hD hS (lv_sub hl [0, 1, 2, 3, 4, 5, 6] rfl)
          case hk46 =>
            intro v5_25 v6_26 v7_27 ar_28 h H locs ls hP hD hS hl
            exact ih _ _ _ _ h _ _ _ hP hD hS (lv_sub hl [0, 1, 2, 3, 4, 5, 6] rfl)
      · replace h := h.2 c34
        refine lv_iload hx hb dX3_sheet_59 (lv_at hl 5 rfl) ?_
        refine lv_i2b (v := (v6.toInt8.toInt32)) hx hb dX3_sheet_61 rfl ?_
        refine lv_goto (tgt := 78) hx hb dX3_sheet_62 (by decide) ?_
        refine lp_M_sheet_J3 F hRf hRl hC hSl ?hk46 _ _ _ _ _ h _ _ _ hP hD hS (lv_sub hl [0, 1, 2, 3, 4, 5, 6] rfl)
        case hk46 =>
          intro v5_30 v6_31 v7_32 ar_33 h H locs ls hP hD hS hl
          exact ih _ _ _ _ h _ _ _ hP hD hS (lv_sub hl [0, 1, 2, 3, 4, 5, 6] rfl)
set_option maxHeartbeats 4000000 in
theorem lp_M_sheet_J1 {p : Program} {l : Launch} {e : Env} {R : Room} {s : State} {m : MethodId} {args : Array Value} {below : List Frame} {meth : Method} {c : Code} {cells slots : Nat} {A : Nat → Prop} {V : evT} {D : va_G} {gI : Nat → ClassId} {o : Nat} {ad : Nat → Nat} {v1 : Int32} {v2 : Int32} {v3 : Int32} {v4 : Int32} {fd : Nat → Int32} {lw : Nat → Int64} {Q : Int32 → (Nat → Int32) → (Nat → Nat → Int32) → Prop} (F : ct_F p m c meth cX3_sheet 9 s args RX3 (some .int) A V D vwCl (tyL gI)) (hRf : 2 ≤ R.frames) (hRl : 37 ≤ R.locals) (hC : cells ≤ R.cells) (hSl : slots ≤ R.slots) :
    ∀ (ar : Nat → Nat → Int32), wp_M_sheet_J1 v1 v2 v3 v4 fd lw Q ar → ∀ (H : Heap) (locs : List Loc) (ls : Array Slot), va_P D vwCl (wm gI o ad fd ar lw) H → va_D A (wm gI o ad fd ar lw) → va_S A s.heap H locs → lv_has ls 9 [(0, .ref o), (1, .int v1), (2, .int v2), (3, .int v3), (4, .int v4)] → W p l e R s m args below meth c H locs cells slots (MQ below (va_Qi (fun (x : Int32) (u : (Nat → Int32) × (Nat → Nat → Int32)) => Q x u.1 u.2) (fun u t => va_P D vwCl (wm gI o ad u.1 u.2 lw) t.heap ∧ va_K D vwCl (tyL gI) t ∧ va_D A (wm gI o ad u.1 u.2 lw)) A) args s cells slots A) (F0 m 37 ls []) := by
  obtain ⟨⟨hx, hb, hml, hown, hts⟩, hr, hlocks, hA, hK, hE⟩ := id F
  intro ar h H locs ls hP hD hS hl
  unfold wp_M_sheet_J1 at h
  refine lv_iconst (v := (0 : Int32)) hx hb dX3_sheet_37 (by decide) ?_
  refine lv_istore (lv' := [(5, .int (0 : Int32)), (0, .ref o), (1, .int v1), (2, .int v2), (3, .int v3), (4, .int v4)]) hx hb dX3_sheet_38 hl (by decide) rfl (fun ls hl => ?_)
  refine lv_iload_n hx hb dX3_sheet_40 rfl (lv_at hl 4 rfl) ?_
  refine lv_istore (lv' := [(6, .int v3), (5, .int (0 : Int32)), (0, .ref o), (1, .int v1), (2, .int v2), (3, .int v3), (4, .int v4)]) hx hb dX3_sheet_41 hl (by decide) rfl (fun ls hl => ?_)
  refine lv_iconst (v := (0 : Int32)) hx hb dX3_sheet_43 (by decide) ?_
  refine lv_istore (lv' := [(7, .int (0 : Int32)), (6, .int v3), (5, .int (0 : Int32)), (0, .ref o), (1, .int v1), (2, .int v2), (3, .int v3), (4, .int v4)]) hx hb dX3_sheet_44 hl (by decide) rfl (fun ls hl => ?_)
  obtain ⟨k46, h⟩ := h
  refine lp_M_sheet_L2 F hRf hRl hC hSl ?hk147 k46 _ _ _ _ h _ _ _ hP hD hS (lv_sub hl [3, 4, 5, 7, 2, 1, 0] rfl)
  case hk147 =>
    intro v5_36 ar_37 h H locs ls hP hD hS hl
    refine lv_iload_n hx hb dX3_sheet_147 rfl (lv_at hl 0 rfl) ?_
    refine lv_iconst (v := (3 : Int32)) hx hb dX3_sheet_148 (by decide) ?_
    refine lv_icmp_ne (tgt := 157) hx hb dX3_sheet_149 (by decide) (fun c38 => ?_) (fun c38 => ?_)
    · replace h := h.1 c38
      refine lv_iload hx hb dX3_sheet_157 (lv_at hl 1 rfl) ?_
      exact rt_i F dX3_sheet_159 rfl (fd, ar_37) h hP hD hS (Nat.le_refl _) (Nat.le_refl _)
    · replace h := h.2 c38
      refine lv_bipush (v := (-3 : Int32)) hx hb dX3_sheet_152 (by decide) ?_
      refine lv_goto (tgt := 159) hx hb dX3_sheet_154 (by decide) ?_
      exact rt_i F dX3_sheet_159 rfl (fd, ar_37) h hP hD hS (Nat.le_refl _) (Nat.le_refl _)
set_option maxHeartbeats 4000000 in
theorem ct_M_sheet {l : Launch} {V : evT} {D : va_G} {gI : Nat → ClassId} {o : Nat} {ad : Nat → Nat} {v1 : Int32} {v2 : Int32} {v3 : Int32} {v4 : Int32} {fd : Nat → Int32} {ar : Nat → Nat → Int32} {lw : Nat → Int64} {Q : Int32 → (Nat → Int32) → (Nat → Nat → Int32) → Prop} (h : wp_M_sheet v1 v2 v3 v4 fd ar lw Q) : ct_i l V D vwCl (tyL gI) yX3_sheet cX3_sheet 9 .int { frames := 2, cells := 0, slots := 0, locals := 37 } [.ref o, .int v1, .int v2, .int v3, .int v4] (wm gI o ad fd ar lw) (fun u : (Nat → Int32) × (Nat → Nat → Int32) => (wm gI o ad u.1 u.2 lw)) (fun (x : Int32) (u : (Nat → Int32) × (Nat → Nat → Int32)) => Q x u.1 u.2) := by
  refine ct_ofi RX3 rfl (by decide +kernel) (Nat.le_of_ble_eq_true rfl) ?_
  intro p e s m args below meth c A F hP hD ls hl
  obtain ⟨⟨hx, hb, hml, hown, hts⟩, hr, hlocks, hA, hK, hE⟩ := id F
  have hS : va_S A s.heap s.heap [] := va_S.rf
  have hl : lv_has ls 9 [(0, .ref o), (1, .int v1), (2, .int v2), (3, .int v3), (4, .int v4)] := hl
  have hRf : 2 ≤ ({ frames := 2, cells := 0, slots := 0, locals := 37 } : Room).frames := Nat.le_refl _
  have hRl : 37 ≤ ({ frames := 2, cells := 0, slots := 0, locals := 37 } : Room).locals := Nat.le_refl _
  have hC : 0 ≤ ({ frames := 2, cells := 0, slots := 0, locals := 37 } : Room).cells := Nat.le_refl _
  have hSl : 0 ≤ ({ frames := 2, cells := 0, slots := 0, locals := 37 } : Room).slots := Nat.le_refl _
  unfold wp_M_sheet at h
  refine lv_aload_n hx hb dX3_sheet_0 rfl (lv_at hl 0 rfl) ?_
  refine lv_iconst (v := (0 : Int32)) hx hb dX3_sheet_1 (by decide) ?_
  refine pt_put (v := .int (0 : Int32)) hx hb hts in_X3 tyX3 tyX3_ok nmX3 hown hK hP hD hS 0 rfl rfl 0 (Nat.le_of_ble_eq_true rfl) (hts _ q1218) (fun _ h => h) rfl (ty := .int) (by decide +kernel) rfl rfl (Nat.le_of_ble_eq_true rfl) dX3_sheet_2 wmF_0 (fun H locs hP hD hS => ?_)
  refine lv_iload_n hx hb dX3_sheet_5 rfl (lv_at hl 1 rfl) ?_
  refine lv_i2l (v := (v1.toInt64)) hx hb dX3_sheet_6 rfl ?_
  refine lv_lconst (v := (0 : Int64)) hx hb dX3_sheet_7 (by decide) ?_
  refine lv_ldc2 (v := (3 : Int64)) hx hb hown (hts _ q1559) dX3_sheet_8 ?_
  refine cl_i0 F (va_runS (As := [.long (v1.toInt64), .long (0 : Int64), .long (3 : Int64)]) (rest := []) ⟨hx, hb, hml, hown, hts⟩ (ct_X3_in h _) (va_cwS 3 hts (lw_S q1391 q1392 q97 q1393) rfl rfl rfl (by decide +kernel) ⟨Nat.le_trans (Nat.le_of_ble_eq_true rfl) hRf, Nat.le_trans (Nat.le_of_ble_eq_true rfl) hRl⟩) ⟨ct_blind, ct_at F hS ct_nP ct_nD⟩ rfl rfl hl.1 rfl (lv_room (Nat.le_of_ble_eq_true rfl)) dX3_sheet_11 ⟨hC, hSl⟩) rfl rfl hP hS ?_
  rintro x1 _ H locs h hP hS
  refine lv_if_eq (tgt := 23) hx hb dX3_sheet_14 (by decide) (fun c42 => ?_) (fun c42 => ?_)
  · replace h := h.1 c42
    refine lv_iconst (v := (-1 : Int32)) hx hb dX3_sheet_23 (by decide) ?_
    exact rt_i F dX3_sheet_24 rfl ((upd fd 0 (0 : Int32)), ar) h hP hD hS (Nat.le_refl _) (Nat.le_refl _)
  · replace h := h.2 c42
    refine lv_iload_n hx hb dX3_sheet_17 rfl (lv_at hl 2 rfl) ?_
    refine lv_bipush (v := (8 : Int32)) hx hb dX3_sheet_18 (by decide) ?_
    refine lv_icmp_le (tgt := 25) hx hb dX3_sheet_20 (by decide) (fun c41 => ?_) (fun c41 => ?_)
    · replace h := h.1 c41
      refine lv_iload_n hx hb dX3_sheet_25 rfl (lv_at hl 1 rfl) ?_
      refine lv_iconst (v := (3 : Int32)) hx hb dX3_sheet_26 (by decide) ?_
      refine lv_icmp_eq (tgt := 37) hx hb dX3_sheet_27 (by decide) (fun c40 => ?_) (fun c40 => ?_)
      · replace h := h.1 c40
        refine lp_M_sheet_J1 F hRf hRl hC hSl  _ h _ _ _ hP hD hS (lv_sub hl [0, 1, 2, 3, 4] rfl)
      · replace h := h.2 c40
        refine lv_iload_n hx hb dX3_sheet_30 rfl (lv_at hl 2 rfl) ?_
        refine lv_if_ge (tgt := 37) hx hb dX3_sheet_31 (by decide) (fun c39 => ?_) (fun c39 => ?_)
        · replace h := h.1 c39
          refine lp_M_sheet_J1 F hRf hRl hC hSl  _ h _ _ _ hP hD hS (lv_sub hl [0, 1, 2, 3, 4] rfl)
        · replace h := h.2 c39
          refine lv_bipush (v := (-2 : Int32)) hx hb dX3_sheet_34 (by decide) ?_
          exact rt_i F dX3_sheet_36 rfl ((upd fd 0 (0 : Int32)), ar) h hP hD hS (Nat.le_refl _) (Nat.le_refl _)
    · replace h := h.2 c41
      refine lv_iconst (v := (-1 : Int32)) hx hb dX3_sheet_23 (by decide) ?_
      exact rt_i F dX3_sheet_24 rfl ((upd fd 0 (0 : Int32)), ar) h hP hD hS (Nat.le_refl _) (Nat.le_refl _)
set_option maxHeartbeats 4000000 in
theorem ct_M_counts {l : Launch} {V : evT} {D : va_G} {gI : Nat → ClassId} {o : Nat} {ad : Nat → Nat} {v1 : Int32} {fd : Nat → Int32} {ar : Nat → Nat → Int32} {lw : Nat → Int64} {Q : Int32 → (Nat → Int32) → (Nat → Nat → Int32) → Prop} (h : wp_M_counts v1 fd ar lw Q) : ct_i l V D vwCl (tyL gI) yX3_counts cX3_counts 2 .int { frames := 2, cells := 0, slots := 0, locals := 34 } [.ref o, .int v1] (wm gI o ad fd ar lw) (fun u : (Nat → Int32) × (Nat → Nat → Int32) => (wm gI o ad u.1 u.2 lw)) (fun (x : Int32) (u : (Nat → Int32) × (Nat → Nat → Int32)) => Q x u.1 u.2) := by
  refine ct_ofi RX3 rfl (by decide +kernel) (Nat.le_of_ble_eq_true rfl) ?_
  intro p e s m args below meth c A F hP hD ls hl
  obtain ⟨⟨hx, hb, hml, hown, hts⟩, hr, hlocks, hA, hK, hE⟩ := id F
  have hS : va_S A s.heap s.heap [] := va_S.rf
  have hl : lv_has ls 2 [(0, .ref o), (1, .int v1)] := hl
  have hRf : 2 ≤ ({ frames := 2, cells := 0, slots := 0, locals := 34 } : Room).frames := Nat.le_refl _
  have hRl : 34 ≤ ({ frames := 2, cells := 0, slots := 0, locals := 34 } : Room).locals := Nat.le_refl _
  have hC : 0 ≤ ({ frames := 2, cells := 0, slots := 0, locals := 34 } : Room).cells := Nat.le_refl _
  have hSl : 0 ≤ ({ frames := 2, cells := 0, slots := 0, locals := 34 } : Room).slots := Nat.le_refl _
  unfold wp_M_counts at h
  refine lv_iload_n hx hb dX3_counts_0 rfl (lv_at hl 1 rfl) ?_
  refine lv_if_ge (tgt := 8) hx hb dX3_counts_1 (by decide) (fun c4 => ?_) (fun c4 => ?_)
  · replace h := h.1 c4
    refine lv_aload_n hx hb dX3_counts_8 rfl (lv_at hl 0 rfl) ?_
    refine lv_iload_n hx hb dX3_counts_9 rfl (lv_at hl 1 rfl) ?_
    refine cl_i F (va_runV (As := [.int v1]) (rest := []) ⟨hx, hb, hml, hown, hts⟩ (ct_M_adds h _) (cwV 1 hts (lw_V q1581 q1583 qs62 q97 q1584) rfl rfl rfl (by decide +kernel) ⟨Nat.le_trans (Nat.le_of_ble_eq_true rfl) hRf, Nat.le_trans (Nat.le_of_ble_eq_true rfl) hRl⟩) ⟨ct_blind, va_recv hK hP (ci := 2) (q0 := 0) rfl rfl, ct_at F hS hP hD⟩ rfl rfl hl.1 rfl (lv_room (Nat.le_of_ble_eq_true rfl)) dX3_counts_10 ⟨hC, hSl⟩) rfl rfl hD hS ?_
    rintro x1 ⟨fd2, ar3⟩ H locs h hP hD hS
    exact rt_i F dX3_counts_13 rfl (fd2, ar3) h hP hD hS (Nat.le_refl _) (Nat.le_refl _)
  · replace h := h.2 c4
    refine lv_iload_n hx hb dX3_counts_4 rfl (lv_at hl 1 rfl) ?_
    refine lv_goto (tgt := 13) hx hb dX3_counts_5 (by decide) ?_
    exact rt_i F dX3_counts_13 rfl (fd, ar) h hP hD hS (Nat.le_refl _) (Nat.le_refl _)
set_option maxHeartbeats 4000000 in
theorem ct_X3_worked {l : Launch} {V : evT} {D : va_G} {gI : Nat → ClassId} {v0 : Int32} {v1 : Int32} {v2 : Int32} {Q : Int32 → Prop} (h : wp_X3_worked v0 v1 v2  Q) : ct_i l V D vwCl (tyL gI) yX3_worked cX3_worked 3 .int { frames := 2, cells := 0, slots := 0, locals := 32 } [.int v0, .int v1, .int v2] [] (fun u : Unit => []) (fun (x : Int32) (u : Unit) => Q x) := by
  refine ct_ofi RX3 rfl (by decide +kernel) (Nat.le_of_ble_eq_true rfl) ?_
  intro p e s m args below meth c A F hP hD ls hl
  obtain ⟨⟨hx, hb, hml, hown, hts⟩, hr, hlocks, hA, hK, hE⟩ := id F
  have hS : va_S A s.heap s.heap [] := va_S.rf
  have hl : lv_has ls 3 [(0, .int v0), (1, .int v1), (2, .int v2)] := hl
  have hRf : 2 ≤ ({ frames := 2, cells := 0, slots := 0, locals := 32 } : Room).frames := Nat.le_refl _
  have hRl : 32 ≤ ({ frames := 2, cells := 0, slots := 0, locals := 32 } : Room).locals := Nat.le_refl _
  have hC : 0 ≤ ({ frames := 2, cells := 0, slots := 0, locals := 32 } : Room).cells := Nat.le_refl _
  have hSl : 0 ≤ ({ frames := 2, cells := 0, slots := 0, locals := 32 } : Room).slots := Nat.le_refl _
  unfold wp_X3_worked at h
  refine lv_iload_n hx hb dX3_worked_0 rfl (lv_at hl 0 rfl) ?_
  by_cases c1 : v0 = (0 : Int32)
  · replace h := h.1 c1
    refine lv_tableIn (off := 39) (tgt := 40) hx hb dX3_worked_1 (by rw [c1]; decide) (by rw [c1]; decide) (by rw [c1]; rfl) (by decide) ?_
    refine lv_iload_n hx hb dX3_worked_40 rfl (lv_at hl 1 rfl) ?_
    refine lv_iload_n hx hb dX3_worked_41 rfl (lv_at hl 2 rfl) ?_
    refine lv_icmp_ge (tgt := 49) hx hb dX3_worked_42 (by decide) (fun c4 => ?_) (fun c4 => ?_)
    · replace h := h.1 c4
      refine lv_iconst (v := (0 : Int32)) hx hb dX3_worked_49 (by decide) ?_
      refine cl_i0 F (va_runS (As := [.int (0 : Int32)]) (rest := []) ⟨hx, hb, hml, hown, hts⟩ (ct_X3_flag h _) (va_cwS 1 hts (lw_S q1407 q1408 q97 q1409) rfl rfl rfl (by decide +kernel) ⟨Nat.le_trans (Nat.le_of_ble_eq_true rfl) hRf, Nat.le_trans (Nat.le_of_ble_eq_true rfl) hRl⟩) ⟨ct_blind, ct_at F hS ct_nP ct_nD⟩ rfl rfl hl.1 rfl (lv_room (Nat.le_of_ble_eq_true rfl)) dX3_worked_50 ⟨hC, hSl⟩) rfl rfl hP hS ?_
      rintro x2 _ H locs h hP hS
      exact rt_i F dX3_worked_53 rfl () h hP hD hS (Nat.le_refl _) (Nat.le_refl _)
    · replace h := h.2 c4
      refine lv_iconst (v := (1 : Int32)) hx hb dX3_worked_45 (by decide) ?_
      refine lv_goto (tgt := 50) hx hb dX3_worked_46 (by decide) ?_
      refine cl_i0 F (va_runS (As := [.int (1 : Int32)]) (rest := []) ⟨hx, hb, hml, hown, hts⟩ (ct_X3_flag h _) (va_cwS 1 hts (lw_S q1407 q1408 q97 q1409) rfl rfl rfl (by decide +kernel) ⟨Nat.le_trans (Nat.le_of_ble_eq_true rfl) hRf, Nat.le_trans (Nat.le_of_ble_eq_true rfl) hRl⟩) ⟨ct_blind, ct_at F hS ct_nP ct_nD⟩ rfl rfl hl.1 rfl (lv_room (Nat.le_of_ble_eq_true rfl)) dX3_worked_50 ⟨hC, hSl⟩) rfl rfl hP hS ?_
      rintro x3 _ H locs h hP hS
      exact rt_i F dX3_worked_53 rfl () h hP hD hS (Nat.le_refl _) (Nat.le_refl _)
  replace h := h.2 c1
  by_cases c5 : v0 = (1 : Int32)
  · replace h := h.1 c5
    refine lv_tableIn (off := 53) (tgt := 54) hx hb dX3_worked_1 (by rw [c5]; decide) (by rw [c5]; decide) (by rw [c5]; rfl) (by decide) ?_
    refine lv_iload_n hx hb dX3_worked_54 rfl (lv_at hl 1 rfl) ?_
    refine lv_iload_n hx hb dX3_worked_55 rfl (lv_at hl 2 rfl) ?_
    refine lv_icmp_le (tgt := 63) hx hb dX3_worked_56 (by decide) (fun c8 => ?_) (fun c8 => ?_)
    · replace h := h.1 c8
      refine lv_iconst (v := (0 : Int32)) hx hb dX3_worked_63 (by decide) ?_
      refine cl_i0 F (va_runS (As := [.int (0 : Int32)]) (rest := []) ⟨hx, hb, hml, hown, hts⟩ (ct_X3_flag h _) (va_cwS 1 hts (lw_S q1407 q1408 q97 q1409) rfl rfl rfl (by decide +kernel) ⟨Nat.le_trans (Nat.le_of_ble_eq_true rfl) hRf, Nat.le_trans (Nat.le_of_ble_eq_true rfl) hRl⟩) ⟨ct_blind, ct_at F hS ct_nP ct_nD⟩ rfl rfl hl.1 rfl (lv_room (Nat.le_of_ble_eq_true rfl)) dX3_worked_64 ⟨hC, hSl⟩) rfl rfl hP hS ?_
      rintro x6 _ H locs h hP hS
      exact rt_i F dX3_worked_67 rfl () h hP hD hS (Nat.le_refl _) (Nat.le_refl _)
    · replace h := h.2 c8
      refine lv_iconst (v := (1 : Int32)) hx hb dX3_worked_59 (by decide) ?_
      refine lv_goto (tgt := 64) hx hb dX3_worked_60 (by decide) ?_
      refine cl_i0 F (va_runS (As := [.int (1 : Int32)]) (rest := []) ⟨hx, hb, hml, hown, hts⟩ (ct_X3_flag h _) (va_cwS 1 hts (lw_S q1407 q1408 q97 q1409) rfl rfl rfl (by decide +kernel) ⟨Nat.le_trans (Nat.le_of_ble_eq_true rfl) hRf, Nat.le_trans (Nat.le_of_ble_eq_true rfl) hRl⟩) ⟨ct_blind, ct_at F hS ct_nP ct_nD⟩ rfl rfl hl.1 rfl (lv_room (Nat.le_of_ble_eq_true rfl)) dX3_worked_64 ⟨hC, hSl⟩) rfl rfl hP hS ?_
      rintro x7 _ H locs h hP hS
      exact rt_i F dX3_worked_67 rfl () h hP hD hS (Nat.le_refl _) (Nat.le_refl _)
  replace h := h.2 c5
  by_cases c9 : v0 = (2 : Int32)
  · replace h := h.1 c9
    refine lv_tableIn (off := 67) (tgt := 68) hx hb dX3_worked_1 (by rw [c9]; decide) (by rw [c9]; decide) (by rw [c9]; rfl) (by decide) ?_
    refine lv_iload_n hx hb dX3_worked_68 rfl (lv_at hl 1 rfl) ?_
    refine lv_iload_n hx hb dX3_worked_69 rfl (lv_at hl 2 rfl) ?_
    refine lv_icmp_ne (tgt := 77) hx hb dX3_worked_70 (by decide) (fun c12 => ?_) (fun c12 => ?_)
    · replace h := h.1 c12
      refine lv_iconst (v := (0 : Int32)) hx hb dX3_worked_77 (by decide) ?_
      refine cl_i0 F (va_runS (As := [.int (0 : Int32)]) (rest := []) ⟨hx, hb, hml, hown, hts⟩ (ct_X3_flag h _) (va_cwS 1 hts (lw_S q1407 q1408 q97 q1409) rfl rfl rfl (by decide +kernel) ⟨Nat.le_trans (Nat.le_of_ble_eq_true rfl) hRf, Nat.le_trans (Nat.le_of_ble_eq_true rfl) hRl⟩) ⟨ct_blind, ct_at F hS ct_nP ct_nD⟩ rfl rfl hl.1 rfl (lv_room (Nat.le_of_ble_eq_true rfl)) dX3_worked_78 ⟨hC, hSl⟩) rfl rfl hP hS ?_
      rintro x10 _ H locs h hP hS
      exact rt_i F dX3_worked_81 rfl () h hP hD hS (Nat.le_refl _) (Nat.le_refl _)
    · replace h := h.2 c12
      refine lv_iconst (v := (1 : Int32)) hx hb dX3_worked_73 (by decide) ?_
      refine lv_goto (tgt := 78) hx hb dX3_worked_74 (by decide) ?_
      refine cl_i0 F (va_runS (As := [.int (1 : Int32)]) (rest := []) ⟨hx, hb, hml, hown, hts⟩ (ct_X3_flag h _) (va_cwS 1 hts (lw_S q1407 q1408 q97 q1409) rfl rfl rfl (by decide +kernel) ⟨Nat.le_trans (Nat.le_of_ble_eq_true rfl) hRf, Nat.le_trans (Nat.le_of_ble_eq_true rfl) hRl⟩) ⟨ct_blind, ct_at F hS ct_nP ct_nD⟩ rfl rfl hl.1 rfl (lv_room (Nat.le_of_ble_eq_true rfl)) dX3_worked_78 ⟨hC, hSl⟩) rfl rfl hP hS ?_
      rintro x11 _ H locs h hP hS
      exact rt_i F dX3_worked_81 rfl () h hP hD hS (Nat.le_refl _) (Nat.le_refl _)
  replace h := h.2 c9
  by_cases c13 : v0 = (3 : Int32)
  · replace h := h.1 c13
    refine lv_tableIn (off := 81) (tgt := 82) hx hb dX3_worked_1 (by rw [c13]; decide) (by rw [c13]; decide) (by rw [c13]; rfl) (by decide) ?_
    refine lv_iload_n hx hb dX3_worked_82 rfl (lv_at hl 1 rfl) ?_
    refine lv_iload_n hx hb dX3_worked_83 rfl (lv_at hl 2 rfl) ?_
    refine lv_iadd hx hb dX3_worked_84 ?_
    exact rt_i F dX3_worked_85 rfl () h hP hD hS (Nat.le_refl _) (Nat.le_refl _)
  replace h := h.2 c13
  by_cases c14 : v0 = (4 : Int32)
  · replace h := h.1 c14
    refine lv_tableIn (off := 85) (tgt := 86) hx hb dX3_worked_1 (by rw [c14]; decide) (by rw [c14]; decide) (by rw [c14]; rfl) (by decide) ?_
    refine lv_iload_n hx hb dX3_worked_86 rfl (lv_at hl 1 rfl) ?_
    refine lv_iload_n hx hb dX3_worked_87 rfl (lv_at hl 2 rfl) ?_
    refine lv_isub hx hb dX3_worked_88 ?_
    exact rt_i F dX3_worked_89 rfl () h hP hD hS (Nat.le_refl _) (Nat.le_refl _)
  replace h := h.2 c14
  by_cases c15 : v0 = (5 : Int32)
  · replace h := h.1 c15
    refine lv_tableIn (off := 89) (tgt := 90) hx hb dX3_worked_1 (by rw [c15]; decide) (by rw [c15]; decide) (by rw [c15]; rfl) (by decide) ?_
    refine lv_iload_n hx hb dX3_worked_90 rfl (lv_at hl 1 rfl) ?_
    refine lv_iload_n hx hb dX3_worked_91 rfl (lv_at hl 2 rfl) ?_
    refine lv_imul hx hb dX3_worked_92 ?_
    exact rt_i F dX3_worked_93 rfl () h hP hD hS (Nat.le_refl _) (Nat.le_refl _)
  replace h := h.2 c15
  have hsw : v0.toInt < (0 : Int) ∨ (5 : Int) < v0.toInt := by
    have := lv_neT (a := 0) c1 (by decide)
    have := lv_neT (a := 1) c5 (by decide)
    have := lv_neT (a := 2) c9 (by decide)
    have := lv_neT (a := 3) c13 (by decide)
    have := lv_neT (a := 4) c14 (by decide)
    have := lv_neT (a := 5) c15 (by decide)
    omega
  refine lv_tableOut (tgt := 94) hx hb dX3_worked_1 hsw (by decide) ?_
  refine lv_iload_n hx hb dX3_worked_94 rfl (lv_at hl 2 rfl) ?_
  refine lv_if_ne (tgt := 102) hx hb dX3_worked_95 (by decide) (fun c16 => ?_) (fun c16 => ?_)
  · replace h := h.1 c16
    refine lv_iload_n hx hb dX3_worked_102 rfl (lv_at hl 1 rfl) ?_
    refine lv_iload_n hx hb dX3_worked_103 rfl (lv_at hl 2 rfl) ?_
    refine lv_idiv hx hb dX3_worked_104 h.1 ?_
    replace h := h.2
    exact rt_i F dX3_worked_105 rfl () h hP hD hS (Nat.le_refl _) (Nat.le_refl _)
  · replace h := h.2 c16
    refine lv_iconst (v := (0 : Int32)) hx hb dX3_worked_98 (by decide) ?_
    refine lv_goto (tgt := 105) hx hb dX3_worked_99 (by decide) ?_
    exact rt_i F dX3_worked_105 rfl () h hP hD hS (Nat.le_refl _) (Nat.le_refl _)
