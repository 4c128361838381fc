/-! walks of a beach -/
set_option maxRecDepth 100000
set_option maxHeartbeats 4000000 in
theorem lp_A_fill_L1 {p : Program} {l : Launch} {e : Env} {R : Room} {s : State} {m : MethodId} {args : Array Value} {below : List Frame} {meth : Method} {c : Code} {cells slots : Nat} {A : Nat → Prop} {Qf : State → Prop} {V : evT} {D : va_G} {gI : Nat → ClassId} {pa na : Nat} {v1 : Int32} {v3 : Int32} {K20 : (Nat → Int32) → Prop} (F : ct_F p m c meth cJ0_fill 4 s args RJ0 none A V D vwCl (tyL gI)) (hRf : 1 ≤ R.frames) (hRl : 12 ≤ R.locals) (hC : cells ≤ R.cells) (hSl : slots ≤ R.slots)
    (hK20 : ∀ (f : Nat → Int32), K20 f → ∀ (H : Heap) (locs : List Loc) (ls : Array Slot), va_P D vwCl [(pa, .inl (gI 0, na, .inl f))] H → va_D A [(pa, .inl (gI 0, na, .inl f))] → va_S A s.heap H locs → lv_has ls 4 [] → W p l e R s m args below meth c H locs cells slots Qf (F0 m 20 ls [])) :
    ∀ (n : Nat) (v2 : Int32) (f : Nat → Int32), wp_A_fill_L1 na v1 v3 K20 n v2 f → ∀ (H : Heap) (locs : List Loc) (ls : Array Slot), va_P D vwCl [(pa, .inl (gI 0, na, .inl f))] H → va_D A [(pa, .inl (gI 0, na, .inl f))] → va_S A s.heap H locs → lv_has ls 4 [(0, .ref pa), (1, .int v1), (2, .int v2), (3, .int v3)] → W p l e R s m args below meth c H locs cells slots Qf (F0 m 5 ls []) := by
  obtain ⟨⟨hx, hb, hml, hown, hts⟩, hr, hlocks, hA, hK, hE⟩ := id F
  intro n
  induction n with
  | zero => intro v2 f h; exact h.elim
  | succ n ih =>
    intro v2 f h H locs ls hP hD hS hl
    unfold wp_A_fill_L1 at h
    refine lv_iload_n hx hb dJ0_fill_5 rfl (lv_at hl 2 rfl) ?_
    refine lv_iload_n hx hb dJ0_fill_6 rfl (lv_at hl 3 rfl) ?_
    refine lv_icmp_ge (tgt := 20) hx hb dJ0_fill_7 (by decide) (fun c1 => ?_) (fun c1 => ?_)
    · replace h := h.1 c1
      exact hK20 _ h _ _ _ hP hD hS (lv_sub hl [] rfl)
    · replace h := h.2 c1
      refine lv_aload_n hx hb dJ0_fill_10 rfl (lv_at hl 0 rfl) ?_
      refine lv_iload_n hx hb dJ0_fill_11 rfl (lv_at hl 2 rfl) ?_
      refine lv_iload_n hx hb dJ0_fill_12 rfl (lv_at hl 1 rfl) ?_
      refine pt_iast (f := f) hx hb hK hP hD hS 0 0 rfl rfl h.1 dJ0_fill_13 rfl (fun H locs hP hD hS => ?_)
      replace h := h.2
      refine lv_iinc (v := (v2 + (1 : Int32))) (lv' := [(2, .int (v2 + (1 : Int32))), (0, .ref pa), (1, .int v1), (3, .int v3)]) hx hb dJ0_fill_14 hl (k := 2) rfl rfl (by decide) rfl (fun ls hl => ?_)
      refine lv_goto (tgt := 5) hx hb dJ0_fill_17 (by decide) ?_
      exact ih _ _ h _ _ _ hP hD hS (lv_sub hl [1, 2, 0, 3] rfl)
set_option maxHeartbeats 4000000 in
theorem ct_A_fill {l : Launch} {V : evT} {D : va_G} {gI : Nat → ClassId} {pa na : Nat} {v1 : Int32} {f : Nat → Int32} {Q : (Nat → Int32) → Prop} (h : wp_A_fill na v1 f Q) : ct_v l V D vwCl (tyL gI) yJ0_fill cJ0_fill 4 { frames := 1, cells := 0, slots := 0, locals := 12 } [.ref pa, .int v1] [(pa, .inl (gI 0, na, .inl f))] (fun u : (Nat → Int32) => [(pa, .inl (gI 0, na, .inl u))]) (fun (u : (Nat → Int32)) => Q u) := by
  refine ct_ofv RJ0 rfl (by decide +kernel) (Nat.le_of_ble_eq_true rfl) ?_
  intro p e s m args below meth c A F _ hP hD ls hl
  obtain ⟨⟨hx, hb, hml, hown, hts⟩, hr, hlocks, hA, hK, hE⟩ := id F
  have hS : va_S A s.heap s.heap [] := va_S.rf
  have hl : lv_has ls 4 [(0, .ref pa), (1, .int v1)] := hl
  have hRf : 1 ≤ ({ frames := 1, cells := 0, slots := 0, locals := 12 } : Room).frames := Nat.le_refl _
  have hRl : 12 ≤ ({ frames := 1, cells := 0, slots := 0, locals := 12 } : Room).locals := Nat.le_refl _
  have hC : 0 ≤ ({ frames := 1, cells := 0, slots := 0, locals := 12 } : Room).cells := Nat.le_refl _
  have hSl : 0 ≤ ({ frames := 1, cells := 0, slots := 0, locals := 12 } : Room).slots := Nat.le_refl _
  unfold wp_A_fill at h
  refine lv_iconst (v := (0 : Int32)) hx hb dJ0_fill_0 (by decide) ?_
  refine lv_istore_n (lv' := [(2, .int (0 : Int32)), (0, .ref pa), (1, .int v1)]) hx hb dJ0_fill_1 rfl hl (by decide) rfl (fun ls hl => ?_)
  refine lv_aload_n hx hb dJ0_fill_2 rfl (lv_at hl 1 rfl) ?_
  refine va_alen (v := (nI na)) hx hb hK hP 0 0 rfl rfl rfl dJ0_fill_3 ?_
  refine lv_istore_n (lv' := [(3, .int (nI na)), (2, .int (0 : Int32)), (0, .ref pa), (1, .int v1)]) hx hb dJ0_fill_4 rfl hl (by decide) rfl (fun ls hl => ?_)
  obtain ⟨k5, h⟩ := h
  refine lp_A_fill_L1 F hRf hRl hC hSl ?hk20 k5 _ _ h _ _ _ hP hD hS (lv_sub hl [2, 3, 1, 0] rfl)
  case hk20 =>
    intro f_2 h H locs ls hP hD hS hl
    exact rt_v F dJ0_fill_20 (f_2) h hP hD hS (Nat.le_refl _) (Nat.le_refl _)
set_option maxHeartbeats 4000000 in
theorem lp_A_sum_L1 {p : Program} {l : Launch} {e : Env} {R : Room} {s : State} {m : MethodId} {args : Array Value} {below : List Frame} {meth : Method} {c : Code} {cells slots : Nat} {A : Nat → Prop} {Qf : State → Prop} {V : evT} {D : va_G} {gI : Nat → ClassId} {pa na : Nat} {v3 : Int32} {f : Nat → Int32} {K33 : (Int32) → Prop} (F : ct_F p m c meth cX2_sum 6 s args RX2 (some .int) A V D vwCl (tyL gI)) (hRf : 1 ≤ R.frames) (hRl : 12 ≤ R.locals) (hC : cells ≤ R.cells) (hSl : slots ≤ R.slots)
    (hK33 : ∀ (v1 : Int32), K33 v1 → ∀ (H : Heap) (locs : List Loc) (ls : Array Slot), va_P D vwCl [(pa, .inl (gI 0, na, .inl f))] H → va_D A [(pa, .inl (gI 0, na, .inl f))] → va_S A s.heap H locs → lv_has ls 6 [(1, .int v1)] → W p l e R s m args below meth c H locs cells slots Qf (F0 m 33 ls [])) :
    ∀ (n : Nat) (v1 : Int32) (v4 : Int32), wp_A_sum_L1 na v3 f K33 n v1 v4 → ∀ (H : Heap) (locs : List Loc) (ls : Array Slot), va_P D vwCl [(pa, .inl (gI 0, na, .inl f))] H → va_D A [(pa, .inl (gI 0, na, .inl f))] → va_S A s.heap H locs → lv_has ls 6 [(1, .int v1), (2, .ref pa), (3, .int v3), (4, .int v4)] → W p l e R s m args below meth c H locs cells slots Qf (F0 m 10 ls []) := by
  obtain ⟨⟨hx, hb, hml, hown, hts⟩, hr, hlocks, hA, hK, hE⟩ := id F
  intro n
  induction n with
  | zero => intro v1 v4 h; exact h.elim
  | succ n ih =>
    intro v1 v4 h H locs ls hP hD hS hl
    unfold wp_A_sum_L1 at h
    refine lv_iload hx hb dX2_sum_10 (lv_at hl 3 rfl) ?_
    refine lv_iload_n hx hb dX2_sum_12 rfl (lv_at hl 2 rfl) ?_
    refine lv_icmp_ge (tgt := 33) hx hb dX2_sum_13 (by decide) (fun c1 => ?_) (fun c1 => ?_)
    · replace h := h.1 c1
      exact hK33 _ h _ _ _ hP hD hS (lv_sub hl [0] rfl)
    · replace h := h.2 c1
      refine lv_aload_n hx hb dX2_sum_16 rfl (lv_at hl 1 rfl) ?_
      refine lv_iload hx hb dX2_sum_17 (lv_at hl 3 rfl) ?_
      refine va_iald (f := f) hx hb hK hP 0 0 rfl rfl h.1 dX2_sum_19 ?_
      replace h := h.2
      refine lv_istore (lv' := [(5, .int (f v4.toNatClampNeg)), (1, .int v1), (2, .ref pa), (3, .int v3), (4, .int v4)]) hx hb dX2_sum_20 hl (by decide) rfl (fun ls hl => ?_)
      refine lv_iload_n hx hb dX2_sum_22 rfl (lv_at hl 1 rfl) ?_
      refine lv_iload hx hb dX2_sum_23 (lv_at hl 0 rfl) ?_
      refine lv_iadd hx hb dX2_sum_25 ?_
      refine lv_istore_n (lv' := [(1, .int (v1 + (f v4.toNatClampNeg))), (5, .int (f v4.toNatClampNeg)), (2, .ref pa), (3, .int v3), (4, .int v4)]) hx hb dX2_sum_26 rfl hl (by decide) rfl (fun ls hl => ?_)
      refine lv_iinc (v := (v4 + (1 : Int32))) (lv' := [(4, .int (v4 + (1 : Int32))), (1, .int (v1 + (f v4.toNatClampNeg))), (5, .int (f v4.toNatClampNeg)), (2, .ref pa), (3, .int v3)]) hx hb dX2_sum_27 hl (k := 4) rfl rfl (by decide) rfl (fun ls hl => ?_)
      refine lv_goto (tgt := 10) hx hb dX2_sum_30 (by decide) ?_
      exact ih _ _ h _ _ _ hP hD hS (lv_sub hl [1, 3, 4, 0] rfl)
set_option maxHeartbeats 4000000 in
theorem ct_A_sum {l : Launch} {V : evT} {D : va_G} {gI : Nat → ClassId} {pa na : Nat} {f : Nat → Int32} {Q : Int32 → Prop} (h : wp_A_sum na f Q) : ct_i l V D vwCl (tyL gI) yX2_sum cX2_sum 6 .int { frames := 1, cells := 0, slots := 0, locals := 12 } [.ref pa] [(pa, .inl (gI 0, na, .inl f))] (fun u : Unit => [(pa, .inl (gI 0, na, .inl f))]) (fun (x : Int32) (u : Unit) => Q x) := by
  refine ct_ofi RX2 rfl (by decide +kernel) (Nat.le_of_ble_eq_true rfl) ?_
  intro p e s m args below meth c A F hP hD ls hl
  obtain ⟨⟨hx, hb, hml, hown, hts⟩, hr, hlocks, hA, hK, hE⟩ := id F
  have hS : va_S A s.heap s.heap [] := va_S.rf
  have hl : lv_has ls 6 [(0, .ref pa)] := hl
  have hRf : 1 ≤ ({ frames := 1, cells := 0, slots := 0, locals := 12 } : Room).frames := Nat.le_refl _
  have hRl : 12 ≤ ({ frames := 1, cells := 0, slots := 0, locals := 12 } : Room).locals := Nat.le_refl _
  have hC : 0 ≤ ({ frames := 1, cells := 0, slots := 0, locals := 12 } : Room).cells := Nat.le_refl _
  have hSl : 0 ≤ ({ frames := 1, cells := 0, slots := 0, locals := 12 } : Room).slots := Nat.le_refl _
  unfold wp_A_sum at h
  refine lv_iconst (v := (0 : Int32)) hx hb dX2_sum_0 (by decide) ?_
  refine lv_istore_n (lv' := [(1, .int (0 : Int32)), (0, .ref pa)]) hx hb dX2_sum_1 rfl hl (by decide) rfl (fun ls hl => ?_)
  refine lv_aload_n hx hb dX2_sum_2 rfl (lv_at hl 1 rfl) ?_
  refine lv_astore_n (lv' := [(2, .ref pa), (1, .int (0 : Int32)), (0, .ref pa)]) hx hb dX2_sum_3 rfl hl (by decide) rfl (fun ls hl => ?_)
  refine lv_aload_n hx hb dX2_sum_4 rfl (lv_at hl 0 rfl) ?_
  refine va_alen (v := (nI na)) hx hb hK hP 0 0 rfl rfl rfl dX2_sum_5 ?_
  refine lv_istore_n (lv' := [(3, .int (nI na)), (2, .ref pa), (1, .int (0 : Int32)), (0, .ref pa)]) hx hb dX2_sum_6 rfl hl (by decide) rfl (fun ls hl => ?_)
  refine lv_iconst (v := (0 : Int32)) hx hb dX2_sum_7 (by decide) ?_
  refine lv_istore (lv' := [(4, .int (0 : Int32)), (3, .int (nI na)), (2, .ref pa), (1, .int (0 : Int32)), (0, .ref pa)]) hx hb dX2_sum_8 hl (by decide) rfl (fun ls hl => ?_)
  obtain ⟨k10, h⟩ := h
  refine lp_A_sum_L1 F hRf hRl hC hSl ?hk33 k10 _ _ h _ _ _ hP hD hS (lv_sub hl [3, 2, 1, 0] rfl)
  case hk33 =>
    intro v1_2 h H locs ls hP hD hS hl
    refine lv_iload_n hx hb dX2_sum_33 rfl (lv_at hl 0 rfl) ?_
    exact rt_i F dX2_sum_34 rfl () h hP hD hS (Nat.le_refl _) (Nat.le_refl _)
set_option maxHeartbeats 4000000 in
theorem lp_B_wet_L1 {p : Program} {l : Launch} {e : Env} {R : Room} {s : State} {m : MethodId} {args : Array Value} {below : List Frame} {meth : Method} {c : Code} {cells slots : Nat} {A : Nat → Prop} {Qf : State → Prop} {V : evT} {D : va_G} {gI : Nat → ClassId} {o : Nat} {ab : Nat → Nat} {v1 : Int32} {wl : Nat → Int32} {dp : Nat → Int32} {aa : Nat → Int32} {md : Nat → Int32} {mo : Int32} {sp : Int32} {ti : Int32} {K34 : (Int32) → Prop} (F : ct_F p m c meth cX2_wet 4 s args RX2 (some .int) A V D vwCl (tyL gI)) (hRf : 1 ≤ R.frames) (hRl : 12 ≤ R.locals) (hC : cells ≤ R.cells) (hSl : slots ≤ R.slots)
    (hK34 : ∀ (v2 : Int32), K34 v2 → ∀ (H : Heap) (locs : List Loc) (ls : Array Slot), va_P D vwCl (wB gI o ab wl dp aa md mo sp ti) H → va_D A (wB gI o ab wl dp aa md mo sp ti) → va_S A s.heap H locs → lv_has ls 4 [(2, .int v2)] → W p l e R s m args below meth c H locs cells slots Qf (F0 m 34 ls [])) :
    ∀ (n : Nat) (v2 : Int32) (v3 : Int32), wp_B_wet_L1 v1 wl dp aa md mo sp ti K34 n v2 v3 → ∀ (H : Heap) (locs : List Loc) (ls : Array Slot), va_P D vwCl (wB gI o ab wl dp aa md mo sp ti) H → va_D A (wB gI o ab wl dp aa md mo sp ti) → va_S A s.heap H locs → lv_has ls 4 [(0, .ref o), (1, .int v1), (2, .int v2), (3, .int v3)] → W p l e R s m args below meth c H locs cells slots Qf (F0 m 4 ls []) := by
  obtain ⟨⟨hx, hb, hml, hown, hts⟩, hr, hlocks, hA, hK, hE⟩ := id F
  intro n
  induction n with
  | zero => intro v2 v3 h; exact h.elim
  | succ n ih =>
    intro v2 v3 h H locs ls hP hD hS hl
    unfold wp_B_wet_L1 at h
    refine lv_iload_n hx hb dX2_wet_4 rfl (lv_at hl 3 rfl) ?_
    refine lv_iload_n hx hb dX2_wet_5 rfl (lv_at hl 1 rfl) ?_
    refine lv_icmp_ge (tgt := 34) hx hb dX2_wet_6 (by decide) (fun c2 => ?_) (fun c2 => ?_)
    · replace h := h.1 c2
      exact hK34 _ h _ _ _ hP hD hS (lv_sub hl [2] rfl)
    · replace h := h.2 c2
      refine lv_iload_n hx hb dX2_wet_9 rfl (lv_at hl 2 rfl) ?_
      refine lv_aload_n hx hb dX2_wet_10 rfl (lv_at hl 0 rfl) ?_
      refine va_get hx hb hts in_X2 hown hK hP 0 rfl rfl 1 (Nat.le_of_ble_eq_true rfl) (hts _ q136) (fun _ h => h) (v := .ref (ab 1)) rfl dX2_wet_11 ?_
      refine lv_iload_n hx hb dX2_wet_14 rfl (lv_at hl 3 rfl) ?_
      refine va_iald (f := dp) hx hb hK hP 2 0 rfl rfl h.1 dX2_wet_15 ?_
      replace h := h.2
      refine lv_if_le (tgt := 25) hx hb dX2_wet_16 (by decide) (fun c1 => ?_) (fun c1 => ?_)
      · replace h := h.1 c1
        refine lv_iconst (v := (0 : Int32)) hx hb dX2_wet_25 (by decide) ?_
        refine lv_ior hx hb dX2_wet_26 ?_
        refine lv_istore_n (lv' := [(2, .int (v2 ||| (0 : Int32))), (0, .ref o), (1, .int v1), (3, .int v3)]) hx hb dX2_wet_27 rfl hl (by decide) rfl (fun ls hl => ?_)
        refine lv_iinc (v := (v3 + (1 : Int32))) (lv' := [(3, .int (v3 + (1 : Int32))), (2, .int (v2 ||| (0 : Int32))), (0, .ref o), (1, .int v1)]) hx hb dX2_wet_28 hl (k := 3) rfl rfl (by decide) rfl (fun ls hl => ?_)
        refine lv_goto (tgt := 4) hx hb dX2_wet_31 (by decide) ?_
        exact ih _ _ h _ _ _ hP hD hS (lv_sub hl [2, 3, 1, 0] rfl)
      · replace h := h.2 c1
        refine lv_iconst (v := (1 : Int32)) hx hb dX2_wet_19 (by decide) ?_
        refine lv_iload_n hx hb dX2_wet_20 rfl (lv_at hl 3 rfl) ?_
        refine lv_ishl hx hb dX2_wet_21 ?_
        refine lv_goto (tgt := 26) hx hb dX2_wet_22 (by decide) ?_
        refine lv_ior hx hb dX2_wet_26 ?_
        refine lv_istore_n (lv' := [(2, .int (v2 ||| ((1 : Int32) <<< (v3 &&& 31)))), (0, .ref o), (1, .int v1), (3, .int v3)]) hx hb dX2_wet_27 rfl hl (by decide) rfl (fun ls hl => ?_)
        refine lv_iinc (v := (v3 + (1 : Int32))) (lv' := [(3, .int (v3 + (1 : Int32))), (2, .int (v2 ||| ((1 : Int32) <<< (v3 &&& 31)))), (0, .ref o), (1, .int v1)]) hx hb dX2_wet_28 hl (k := 3) rfl rfl (by decide) rfl (fun ls hl => ?_)
        refine lv_goto (tgt := 4) hx hb dX2_wet_31 (by decide) ?_
        exact ih _ _ h _ _ _ hP hD hS (lv_sub hl [2, 3, 1, 0] rfl)
set_option maxHeartbeats 4000000 in
theorem ct_B_wet {l : Launch} {V : evT} {D : va_G} {gI : Nat → ClassId} {o : Nat} {ab : Nat → Nat} {v1 : Int32} {wl : Nat → Int32} {dp : Nat → Int32} {aa : Nat → Int32} {md : Nat → Int32} {mo : Int32} {sp : Int32} {ti : Int32} {Q : Int32 → Prop} (h : wp_B_wet v1 wl dp aa md mo sp ti Q) : ct_i l V D vwCl (tyL gI) yX2_wet cX2_wet 4 .int { frames := 1, cells := 0, slots := 0, locals := 12 } [.ref o, .int v1] (wB gI o ab wl dp aa md mo sp ti) (fun u : Unit => (wB gI o ab wl dp aa md mo sp ti)) (fun (x : Int32) (u : Unit) => Q x) := by
  refine ct_ofi RX2 rfl (by decide +kernel) (Nat.le_of_ble_eq_true rfl) ?_
  intro p e s m args below meth c A F hP hD ls hl
  obtain ⟨⟨hx, hb, hml, hown, hts⟩, hr, hlocks, hA, hK, hE⟩ := id F
  have hS : va_S A s.heap s.heap [] := va_S.rf
  have hl : lv_has ls 4 [(0, .ref o), (1, .int v1)] := hl
  have hRf : 1 ≤ ({ frames := 1, cells := 0, slots := 0, locals := 12 } : Room).frames := Nat.le_refl _
  have hRl : 12 ≤ ({ frames := 1, cells := 0, slots := 0, locals := 12 } : Room).locals := Nat.le_refl _
  have hC : 0 ≤ ({ frames := 1, cells := 0, slots := 0, locals := 12 } : Room).cells := Nat.le_refl _
  have hSl : 0 ≤ ({ frames := 1, cells := 0, slots := 0, locals := 12 } : Room).slots := Nat.le_refl _
  unfold wp_B_wet at h
  refine lv_iconst (v := (0 : Int32)) hx hb dX2_wet_0 (by decide) ?_
  refine lv_istore_n (lv' := [(2, .int (0 : Int32)), (0, .ref o), (1, .int v1)]) hx hb dX2_wet_1 rfl hl (by decide) rfl (fun ls hl => ?_)
  refine lv_iconst (v := (0 : Int32)) hx hb dX2_wet_2 (by decide) ?_
  refine lv_istore_n (lv' := [(3, .int (0 : Int32)), (2, .int (0 : Int32)), (0, .ref o), (1, .int v1)]) hx hb dX2_wet_3 rfl hl (by decide) rfl (fun ls hl => ?_)
  obtain ⟨k4, h⟩ := h
  refine lp_B_wet_L1 F hRf hRl hC hSl ?hk34 k4 _ _ h _ _ _ hP hD hS (lv_sub hl [2, 3, 1, 0] rfl)
  case hk34 =>
    intro v2_3 h H locs ls hP hD hS hl
    refine lv_iload_n hx hb dX2_wet_34 rfl (lv_at hl 0 rfl) ?_
    exact rt_i F dX2_wet_35 rfl () h hP hD hS (Nat.le_refl _) (Nat.le_refl _)
set_option maxHeartbeats 4000000 in
theorem lp_B_atHome_L1 {p : Program} {l : Launch} {e : Env} {R : Room} {s : State} {m : MethodId} {args : Array Value} {below : List Frame} {meth : Method} {c : Code} {cells slots : Nat} {A : Nat → Prop} {Qf : State → Prop} {V : evT} {D : va_G} {gI : Nat → ClassId} {o : Nat} {ab : Nat → Nat} {v1 : Int32} {wl : Nat → Int32} {dp : Nat → Int32} {aa : Nat → Int32} {md : Nat → Int32} {mo : Int32} {sp : Int32} {ti : Int32} {K35 : (Int32) → Prop} (F : ct_F p m c meth cX2_atHome 4 s args RX2 (some .int) A V D vwCl (tyL gI)) (hRf : 1 ≤ R.frames) (hRl : 12 ≤ R.locals) (hC : cells ≤ R.cells) (hSl : slots ≤ R.slots)
    (hK35 : ∀ (v2 : Int32), K35 v2 → ∀ (H : Heap) (locs : List Loc) (ls : Array Slot), va_P D vwCl (wB gI o ab wl dp aa md mo sp ti) H → va_D A (wB gI o ab wl dp aa md mo sp ti) → va_S A s.heap H locs → lv_has ls 4 [(2, .int v2)] → W p l e R s m args below meth c H locs cells slots Qf (F0 m 35 ls [])) :
    ∀ (n : Nat) (v2 : Int32) (v3 : Int32), wp_B_atHome_L1 v1 wl dp aa md mo sp ti K35 n v2 v3 → ∀ (H : Heap) (locs : List Loc) (ls : Array Slot), va_P D vwCl (wB gI o ab wl dp aa md mo sp ti) H → va_D A (wB gI o ab wl dp aa md mo sp ti) → va_S A s.heap H locs → lv_has ls 4 [(0, .ref o), (1, .int v1), (2, .int v2), (3, .int v3)] → W p l e R s m args below meth c H locs cells slots Qf (F0 m 4 ls []) := by
  obtain ⟨⟨hx, hb, hml, hown, hts⟩, hr, hlocks, hA, hK, hE⟩ := id F
  intro n
  induction n with
  | zero => intro v2 v3 h; exact h.elim
  | succ n ih =>
    intro v2 v3 h H locs ls hP hD hS hl
    unfold wp_B_atHome_L1 at h
    refine lv_iload_n hx hb dX2_atHome_4 rfl (lv_at hl 3 rfl) ?_
    refine lv_iload_n hx hb dX2_atHome_5 rfl (lv_at hl 1 rfl) ?_
    refine lv_icmp_ge (tgt := 35) hx hb dX2_atHome_6 (by decide) (fun c2 => ?_) (fun c2 => ?_)
    · replace h := h.1 c2
      exact hK35 _ h _ _ _ hP hD hS (lv_sub hl [2] rfl)
    · replace h := h.2 c2
      refine lv_iload_n hx hb dX2_atHome_9 rfl (lv_at hl 2 rfl) ?_
      refine lv_aload_n hx hb dX2_atHome_10 rfl (lv_at hl 0 rfl) ?_
      refine va_get hx hb hts in_X2 hown hK hP 0 rfl rfl 2 (Nat.le_of_ble_eq_true rfl) (hts _ q138) (fun _ h => h) (v := .ref (ab 2)) rfl dX2_atHome_11 ?_
      refine lv_iload_n hx hb dX2_atHome_14 rfl (lv_at hl 3 rfl) ?_
      refine va_iald (f := aa) hx hb hK hP 3 0 rfl rfl h.1 dX2_atHome_15 ?_
      replace h := h.2
      refine lv_iconst (v := (-1 : Int32)) hx hb dX2_atHome_16 (by decide) ?_
      refine lv_icmp_ne (tgt := 26) hx hb dX2_atHome_17 (by decide) (fun c1 => ?_) (fun c1 => ?_)
      · replace h := h.1 c1
        refine lv_iconst (v := (0 : Int32)) hx hb dX2_atHome_26 (by decide) ?_
        refine lv_ior hx hb dX2_atHome_27 ?_
        refine lv_istore_n (lv' := [(2, .int (v2 ||| (0 : Int32))), (0, .ref o), (1, .int v1), (3, .int v3)]) hx hb dX2_atHome_28 rfl hl (by decide) rfl (fun ls hl => ?_)
        refine lv_iinc (v := (v3 + (1 : Int32))) (lv' := [(3, .int (v3 + (1 : Int32))), (2, .int (v2 ||| (0 : Int32))), (0, .ref o), (1, .int v1)]) hx hb dX2_atHome_29 hl (k := 3) rfl rfl (by decide) rfl (fun ls hl => ?_)
        refine lv_goto (tgt := 4) hx hb dX2_atHome_32 (by decide) ?_
        exact ih _ _ h _ _ _ hP hD hS (lv_sub hl [2, 3, 1, 0] rfl)
      · replace h := h.2 c1
        refine lv_iconst (v := (1 : Int32)) hx hb dX2_atHome_20 (by decide) ?_
        refine lv_iload_n hx hb dX2_atHome_21 rfl (lv_at hl 3 rfl) ?_
        refine lv_ishl hx hb dX2_atHome_22 ?_
        refine lv_goto (tgt := 27) hx hb dX2_atHome_23 (by decide) ?_
        refine lv_ior hx hb dX2_atHome_27 ?_
        refine lv_istore_n (lv' := [(2, .int (v2 ||| ((1 : Int32) <<< (v3 &&& 31)))), (0, .ref o), (1, .int v1), (3, .int v3)]) hx hb dX2_atHome_28 rfl hl (by decide) rfl (fun ls hl => ?_)
        refine lv_iinc (v := (v3 + (1 : Int32))) (lv' := [(3, .int (v3 + (1 : Int32))), (2, .int (v2 ||| ((1 : Int32) <<< (v3 &&& 31)))), (0, .ref o), (1, .int v1)]) hx hb dX2_atHome_29 hl (k := 3) rfl rfl (by decide) rfl (fun ls hl => ?_)
        refine lv_goto (tgt := 4) hx hb dX2_atHome_32 (by decide) ?_
        exact ih _ _ h _ _ _ hP hD hS (lv_sub hl [2, 3, 1, 0] rfl)
set_option maxHeartbeats 4000000 in
theorem ct_B_atHome {l : Launch} {V : evT} {D : va_G} {gI : Nat → ClassId} {o : Nat} {ab : Nat → Nat} {v1 : Int32} {wl : Nat → Int32} {dp : Nat → Int32} {aa : Nat → Int32} {md : Nat → Int32} {mo : Int32} {sp : Int32} {ti : Int32} {Q : Int32 → Prop} (h : wp_B_atHome v1 wl dp aa md mo sp ti Q) : ct_i l V D vwCl (tyL gI) yX2_atHome cX2_atHome 4 .int { frames := 1, cells := 0, slots := 0, locals := 12 } [.ref o, .int v1] (wB gI o ab wl dp aa md mo sp ti) (fun u : Unit => (wB gI o ab wl dp aa md mo sp ti)) (fun (x : Int32) (u : Unit) => Q x) := by
  refine ct_ofi RX2 rfl (by decide +kernel) (Nat.le_of_ble_eq_true rfl) ?_
  intro p e s m args below meth c A F hP hD ls hl
  obtain ⟨⟨hx, hb, hml, hown, hts⟩, hr, hlocks, hA, hK, hE⟩ := id F
  have hS : va_S A s.heap s.heap [] := va_S.rf
  have hl : lv_has ls 4 [(0, .ref o), (1, .int v1)] := hl
  have hRf : 1 ≤ ({ frames := 1, cells := 0, slots := 0, locals := 12 } : Room).frames := Nat.le_refl _
  have hRl : 12 ≤ ({ frames := 1, cells := 0, slots := 0, locals := 12 } : Room).locals := Nat.le_refl _
  have hC : 0 ≤ ({ frames := 1, cells := 0, slots := 0, locals := 12 } : Room).cells := Nat.le_refl _
  have hSl : 0 ≤ ({ frames := 1, cells := 0, slots := 0, locals := 12 } : Room).slots := Nat.le_refl _
  unfold wp_B_atHome at h
  refine lv_iconst (v := (0 : Int32)) hx hb dX2_atHome_0 (by decide) ?_
  refine lv_istore_n (lv' := [(2, .int (0 : Int32)), (0, .ref o), (1, .int v1)]) hx hb dX2_atHome_1 rfl hl (by decide) rfl (fun ls hl => ?_)
  refine lv_iconst (v := (0 : Int32)) hx hb dX2_atHome_2 (by decide) ?_
  refine lv_istore_n (lv' := [(3, .int (0 : Int32)), (2, .int (0 : Int32)), (0, .ref o), (1, .int v1)]) hx hb dX2_atHome_3 rfl hl (by decide) rfl (fun ls hl => ?_)
  obtain ⟨k4, h⟩ := h
  refine lp_B_atHome_L1 F hRf hRl hC hSl ?hk35 k4 _ _ h _ _ _ hP hD hS (lv_sub hl [2, 3, 1, 0] rfl)
  case hk35 =>
    intro v2_3 h H locs ls hP hD hS hl
    refine lv_iload_n hx hb dX2_atHome_35 rfl (lv_at hl 0 rfl) ?_
    exact rt_i F dX2_atHome_36 rfl () h hP hD hS (Nat.le_refl _) (Nat.le_refl _)
set_option maxHeartbeats 4000000 in
theorem lp_B_those_L1 {p : Program} {l : Launch} {e : Env} {R : Room} {s : State} {m : MethodId} {args : Array Value} {below : List Frame} {meth : Method} {c : Code} {cells slots : Nat} {A : Nat → Prop} {Qf : State → Prop} {V : evT} {D : va_G} {gI : Nat → ClassId} {o : Nat} {ab : Nat → Nat} {v1 : Int32} {v2 : Int32} {wl : Nat → Int32} {dp : Nat → Int32} {aa : Nat → Int32} {md : Nat → Int32} {mo : Int32} {sp : Int32} {ti : Int32} {K39 : (Int32) → Prop} (F : ct_F p m c meth cX2_those 5 s args RX2 (some .int) A V D vwCl (tyL gI)) (hRf : 1 ≤ R.frames) (hRl : 12 ≤ R.locals) (hC : cells ≤ R.cells) (hSl : slots ≤ R.slots)
    (hK39 : ∀ (v3 : Int32), K39 v3 → ∀ (H : Heap) (locs : List Loc) (ls : Array Slot), va_P D vwCl (wB gI o ab wl dp aa md mo sp ti) H → va_D A (wB gI o ab wl dp aa md mo sp ti) → va_S A s.heap H locs → lv_has ls 5 [(3, .int v3)] → W p l e R s m args below meth c H locs cells slots Qf (F0 m 39 ls [])) :
    ∀ (n : Nat) (v3 : Int32) (v4 : Int32), wp_B_those_L1 v1 v2 wl dp aa md mo sp ti K39 n v3 v4 → ∀ (H : Heap) (locs : List Loc) (ls : Array Slot), va_P D vwCl (wB gI o ab wl dp aa md mo sp ti) H → va_D A (wB gI o ab wl dp aa md mo sp ti) → va_S A s.heap H locs → lv_has ls 5 [(0, .ref o), (1, .int v1), (2, .int v2), (3, .int v3), (4, .int v4)] → W p l e R s m args below meth c H locs cells slots Qf (F0 m 5 ls []) := by
  obtain ⟨⟨hx, hb, hml, hown, hts⟩, hr, hlocks, hA, hK, hE⟩ := id F
  intro n
  induction n with
  | zero => intro v3 v4 h; exact h.elim
  | succ n ih =>
    intro v3 v4 h H locs ls hP hD hS hl
    unfold wp_B_those_L1 at h
    refine lv_iload hx hb dX2_those_5 (lv_at hl 4 rfl) ?_
    refine lv_iload_n hx hb dX2_those_7 rfl (lv_at hl 2 rfl) ?_
    refine lv_icmp_ge (tgt := 39) hx hb dX2_those_8 (by decide) (fun c2 => ?_) (fun c2 => ?_)
    · replace h := h.1 c2
      exact hK39 _ h _ _ _ hP hD hS (lv_sub hl [3] rfl)
    · replace h := h.2 c2
      refine lv_iload_n hx hb dX2_those_11 rfl (lv_at hl 3 rfl) ?_
      refine lv_aload_n hx hb dX2_those_12 rfl (lv_at hl 0 rfl) ?_
      refine va_get hx hb hts in_X2 hown hK hP 0 rfl rfl 2 (Nat.le_of_ble_eq_true rfl) (hts _ q138) (fun _ h => h) (v := .ref (ab 2)) rfl dX2_those_13 ?_
      refine lv_iload hx hb dX2_those_16 (lv_at hl 4 rfl) ?_
      refine va_iald (f := aa) hx hb hK hP 3 0 rfl rfl h.1 dX2_those_18 ?_
      replace h := h.2
      refine lv_iload_n hx hb dX2_those_19 rfl (lv_at hl 1 rfl) ?_
      refine lv_icmp_ne (tgt := 30) hx hb dX2_those_20 (by decide) (fun c1 => ?_) (fun c1 => ?_)
      · replace h := h.1 c1
        refine lv_iconst (v := (0 : Int32)) hx hb dX2_those_30 (by decide) ?_
        refine lv_ior hx hb dX2_those_31 ?_
        refine lv_istore_n (lv' := [(3, .int (v3 ||| (0 : Int32))), (0, .ref o), (1, .int v1), (2, .int v2), (4, .int v4)]) hx hb dX2_those_32 rfl hl (by decide) rfl (fun ls hl => ?_)
        refine lv_iinc (v := (v4 + (1 : Int32))) (lv' := [(4, .int (v4 + (1 : Int32))), (3, .int (v3 ||| (0 : Int32))), (0, .ref o), (1, .int v1), (2, .int v2)]) hx hb dX2_those_33 hl (k := 4) rfl rfl (by decide) rfl (fun ls hl => ?_)
        refine lv_goto (tgt := 5) hx hb dX2_those_36 (by decide) ?_
        exact ih _ _ h _ _ _ hP hD hS (lv_sub hl [2, 3, 4, 1, 0] rfl)
      · replace h := h.2 c1
        refine lv_iconst (v := (1 : Int32)) hx hb dX2_those_23 (by decide) ?_
        refine lv_iload hx hb dX2_those_24 (lv_at hl 4 rfl) ?_
        refine lv_ishl hx hb dX2_those_26 ?_
        refine lv_goto (tgt := 31) hx hb dX2_those_27 (by decide) ?_
        refine lv_ior hx hb dX2_those_31 ?_
        refine lv_istore_n (lv' := [(3, .int (v3 ||| ((1 : Int32) <<< (v4 &&& 31)))), (0, .ref o), (1, .int v1), (2, .int v2), (4, .int v4)]) hx hb dX2_those_32 rfl hl (by decide) rfl (fun ls hl => ?_)
        refine lv_iinc (v := (v4 + (1 : Int32))) (lv' := [(4, .int (v4 + (1 : Int32))), (3, .int (v3 ||| ((1 : Int32) <<< (v4 &&& 31)))), (0, .ref o), (1, .int v1), (2, .int v2)]) hx hb dX2_those_33 hl (k := 4) rfl rfl (by decide) rfl (fun ls hl => ?_)
        refine lv_goto (tgt := 5) hx hb dX2_those_36 (by decide) ?_
        exact ih _ _ h _ _ _ hP hD hS (lv_sub hl [2, 3, 4, 1, 0] rfl)
set_option maxHeartbeats 4000000 in
theorem ct_B_those {l : Launch} {V : evT} {D : va_G} {gI : Nat → ClassId} {o : Nat} {ab : Nat → Nat} {v1 : Int32} {v2 : Int32} {wl : Nat → Int32} {dp : Nat → Int32} {aa : Nat → Int32} {md : Nat → Int32} {mo : Int32} {sp : Int32} {ti : Int32} {Q : Int32 → Prop} (h : wp_B_those v1 v2 wl dp aa md mo sp ti Q) : ct_i l V D vwCl (tyL gI) yX2_those cX2_those 5 .int { frames := 1, cells := 0, slots := 0, locals := 12 } [.ref o, .int v1, .int v2] (wB gI o ab wl dp aa md mo sp ti) (fun u : Unit => (wB gI o ab wl dp aa md mo sp ti)) (fun (x : Int32) (u : Unit) => Q x) := by
  refine ct_ofi RX2 rfl (by decide +kernel) (Nat.le_of_ble_eq_true rfl) ?_
  intro p e s m args below meth c A F hP hD ls hl
  obtain ⟨⟨hx, hb, hml, hown, hts⟩, hr, hlocks, hA, hK, hE⟩ := id F
  have hS : va_S A s.heap s.heap [] := va_S.rf
  have hl : lv_has ls 5 [(0, .ref o), (1, .int v1), (2, .int v2)] := hl
  have hRf : 1 ≤ ({ frames := 1, cells := 0, slots := 0, locals := 12 } : Room).frames := Nat.le_refl _
  have hRl : 12 ≤ ({ frames := 1, cells := 0, slots := 0, locals := 12 } : Room).locals := Nat.le_refl _
  have hC : 0 ≤ ({ frames := 1, cells := 0, slots := 0, locals := 12 } : Room).cells := Nat.le_refl _
  have hSl : 0 ≤ ({ frames := 1, cells := 0, slots := 0, locals := 12 } : Room).slots := Nat.le_refl _
  unfold wp_B_those at h
  refine lv_iconst (v := (0 : Int32)) hx hb dX2_those_0 (by decide) ?_
  refine lv_istore_n (lv' := [(3, .int (0 : Int32)), (0, .ref o), (1, .int v1), (2, .int v2)]) hx hb dX2_those_1 rfl hl (by decide) rfl (fun ls hl => ?_)
  refine lv_iconst (v := (0 : Int32)) hx hb dX2_those_2 (by decide) ?_
  refine lv_istore (lv' := [(4, .int (0 : Int32)), (3, .int (0 : Int32)), (0, .ref o), (1, .int v1), (2, .int v2)]) hx hb dX2_those_3 hl (by decide) rfl (fun ls hl => ?_)
  obtain ⟨k5, h⟩ := h
  refine lp_B_those_L1 F hRf hRl hC hSl ?hk39 k5 _ _ h _ _ _ hP hD hS (lv_sub hl [2, 3, 4, 1, 0] rfl)
  case hk39 =>
    intro v3_3 h H locs ls hP hD hS hl
    refine lv_iload_n hx hb dX2_those_39 rfl (lv_at hl 0 rfl) ?_
    exact rt_i F dX2_those_40 rfl () h hP hD hS (Nat.le_refl _) (Nat.le_refl _)
set_option maxHeartbeats 4000000 in
theorem ct_B_spill {l : Launch} {V : evT} {D : va_G} {gI : Nat → ClassId} {o : Nat} {ab : Nat → Nat} {v1 : Int32} {v2 : Int32} {v3 : Int32} {wl : Nat → Int32} {dp : Nat → Int32} {aa : Nat → Int32} {md : Nat → Int32} {mo : Int32} {sp : Int32} {ti : Int32} {Q : Int32 → (Nat → Int32) → Prop} (h : wp_B_spill v1 v2 v3 wl dp aa md mo sp ti Q) : ct_i l V D vwCl (tyL gI) yX2_spill cX2_spill 5 .boolean { frames := 1, cells := 0, slots := 0, locals := 12 } [.ref o, .int v1, .int v2, .int v3] (wB gI o ab wl dp aa md mo sp ti) (fun u : (Nat → Int32) => (wB gI o ab wl u aa md mo sp ti)) (fun (x : Int32) (u : (Nat → Int32)) => Q x u) := by
  refine ct_ofi RX2 rfl (by decide +kernel) (Nat.le_of_ble_eq_true rfl) ?_
  intro p e s m args below meth c A F hP hD ls hl
  obtain ⟨⟨hx, hb, hml, hown, hts⟩, hr, hlocks, hA, hK, hE⟩ := id F
  have hS : va_S A s.heap s.heap [] := va_S.rf
  have hl : lv_has ls 5 [(0, .ref o), (1, .int v1), (2, .int v2), (3, .int v3)] := hl
  have hRf : 1 ≤ ({ frames := 1, cells := 0, slots := 0, locals := 12 } : Room).frames := Nat.le_refl _
  have hRl : 12 ≤ ({ frames := 1, cells := 0, slots := 0, locals := 12 } : Room).locals := Nat.le_refl _
  have hC : 0 ≤ ({ frames := 1, cells := 0, slots := 0, locals := 12 } : Room).cells := Nat.le_refl _
  have hSl : 0 ≤ ({ frames := 1, cells := 0, slots := 0, locals := 12 } : Room).slots := Nat.le_refl _
  unfold wp_B_spill at h
  refine lv_aload_n hx hb dX2_spill_0 rfl (lv_at hl 0 rfl) ?_
  refine va_get hx hb hts in_X2 hown hK hP 0 rfl rfl 1 (Nat.le_of_ble_eq_true rfl) (hts _ q136) (fun _ h => h) (v := .ref (ab 1)) rfl dX2_spill_1 ?_
  refine lv_iload_n hx hb dX2_spill_4 rfl (lv_at hl 1 rfl) ?_
  refine va_iald (f := dp) hx hb hK hP 2 0 rfl rfl h.1 dX2_spill_5 ?_
  replace h := h.2
  refine lv_iload_n hx hb dX2_spill_6 rfl (lv_at hl 3 rfl) ?_
  refine lv_isub hx hb dX2_spill_7 ?_
  refine lv_iconst (v := (1 : Int32)) hx hb dX2_spill_8 (by decide) ?_
  refine lv_isub hx hb dX2_spill_9 ?_
  refine lv_istore (lv' := [(4, .int (((dp v1.toNatClampNeg) - v3) - (1 : Int32))), (0, .ref o), (1, .int v1), (2, .int v2), (3, .int v3)]) hx hb dX2_spill_10 hl (by decide) rfl (fun ls hl => ?_)
  refine lv_iload hx hb dX2_spill_12 (lv_at hl 0 rfl) ?_
  refine lv_aload_n hx hb dX2_spill_14 rfl (lv_at hl 1 rfl) ?_
  refine va_get hx hb hts in_X2 hown hK hP 0 rfl rfl 1 (Nat.le_of_ble_eq_true rfl) (hts _ q136) (fun _ h => h) (v := .ref (ab 1)) rfl dX2_spill_15 ?_
  refine lv_iload_n hx hb dX2_spill_18 rfl (lv_at hl 3 rfl) ?_
  refine va_iald (f := dp) hx hb hK hP 2 0 rfl rfl h.1 dX2_spill_19 ?_
  replace h := h.2
  refine lv_icmp_gt (tgt := 25) hx hb dX2_spill_20 (by decide) (fun c1 => ?_) (fun c1 => ?_)
  · replace h := h.1 c1
    refine lv_aload_n hx hb dX2_spill_25 rfl (lv_at hl 1 rfl) ?_
    refine va_get hx hb hts in_X2 hown hK hP 0 rfl rfl 1 (Nat.le_of_ble_eq_true rfl) (hts _ q136) (fun _ h => h) (v := .ref (ab 1)) rfl dX2_spill_26 ?_
    refine lv_iload_n hx hb dX2_spill_29 rfl (lv_at hl 3 rfl) ?_
    refine lv_iload hx hb dX2_spill_30 (lv_at hl 0 rfl) ?_
    refine pt_iast (f := dp) hx hb hK hP hD hS 2 0 rfl rfl h.1 dX2_spill_32 rfl (fun H locs hP hD hS => ?_)
    replace h := h.2
    refine lv_iconst (v := (1 : Int32)) hx hb dX2_spill_33 (by decide) ?_
    exact rt_i F dX2_spill_34 rfl ((upd dp v2.toNatClampNeg (((dp v1.toNatClampNeg) - v3) - (1 : Int32)))) h hP hD hS (Nat.le_refl _) (Nat.le_refl _)
  · replace h := h.2 c1
    refine lv_iconst (v := (0 : Int32)) hx hb dX2_spill_23 (by decide) ?_
    exact rt_i F dX2_spill_24 rfl (dp) h hP hD hS (Nat.le_refl _) (Nat.le_refl _)
set_option maxHeartbeats 4000000 in
theorem lp_B_flow_L2 {p : Program} {l : Launch} {e : Env} {R : Room} {s : State} {m : MethodId} {args : Array Value} {below : List Frame} {meth : Method} {c : Code} {cells slots : Nat} {A : Nat → Prop} {Qf : State → Prop} {V : evT} {D : va_G} {gI : Nat → ClassId} {o : Nat} {ab : Nat → Nat} {pd : Nat} {v1 : Int32} {wl : Nat → Int32} {aa : Nat → Int32} {md : Nat → Int32} {mo : Int32} {sp : Int32} {ti : Int32} {dk : Nat → Int32} {K59 : (Int32) → (Nat → Int32) → Prop} (F : ct_F p m c meth cX2_flow 5 s args RX2 none A V D vwCl (tyL gI)) (hRf : 2 ≤ R.frames) (hRl : 36 ≤ R.locals) (hC : cells ≤ R.cells) (hSl : slots ≤ R.slots)
    (hK59 : ∀ (v3 : Int32) (dp : Nat → Int32), K59 v3 dp → ∀ (H : Heap) (locs : List Loc) (ls : Array Slot), va_P D vwCl (wBD gI o ab pd wl dp aa md mo sp ti dk) H → va_D A (wBD gI o ab pd wl dp aa md mo sp ti dk) → va_S A s.heap H locs → lv_has ls 5 [(0, .ref o), (1, .int v1), (2, .ref pd), (3, .int v3)] → W p l e R s m args below meth c H locs cells slots Qf (F0 m 59 ls [])) :
    ∀ (n : Nat) (v3 : Int32) (v4 : Int32) (dp : Nat → Int32), wp_B_flow_L2 v1 wl aa md mo sp ti dk K59 n v3 v4 dp → ∀ (H : Heap) (locs : List Loc) (ls : Array Slot), va_P D vwCl (wBD gI o ab pd wl dp aa md mo sp ti dk) H → va_D A (wBD gI o ab pd wl dp aa md mo sp ti dk) → va_S A s.heap H locs → lv_has ls 5 [(0, .ref o), (1, .int v1), (2, .ref pd), (3, .int v3), (4, .int v4)] → W p l e R s m args below meth c H locs cells slots Qf (F0 m 11 ls []) := by
  obtain ⟨⟨hx, hb, hml, hown, hts⟩, hr, hlocks, hA, hK, hE⟩ := id F
  intro n
  induction n with
  | zero => intro v3 v4 dp h; exact h.elim
  | succ n ih =>
    intro v3 v4 dp h H locs ls hP hD hS hl
    unfold wp_B_flow_L2 at h
    refine lv_iload hx hb dX2_flow_11 (lv_at hl 4 rfl) ?_
    refine lv_iconst (v := (1 : Int32)) hx hb dX2_flow_13 (by decide) ?_
    refine lv_iadd hx hb dX2_flow_14 ?_
    refine lv_iload_n hx hb dX2_flow_15 rfl (lv_at hl 1 rfl) ?_
    refine lv_icmp_ge (tgt := 59) hx hb dX2_flow_16 (by decide) (fun c5 => ?_) (fun c5 => ?_)
    · replace h := h.1 c5
      exact hK59 _ _ h _ _ _ hP hD hS (lv_sub hl [0, 1, 2, 3] rfl)
    · replace h := h.2 c5
      refine lv_iload_n hx hb dX2_flow_19 rfl (lv_at hl 3 rfl) ?_
      refine lv_aload_n hx hb dX2_flow_20 rfl (lv_at hl 0 rfl) ?_
      refine lv_iload hx hb dX2_flow_21 (lv_at hl 4 rfl) ?_
      refine lv_iload hx hb dX2_flow_23 (lv_at hl 4 rfl) ?_
      refine lv_iconst (v := (1 : Int32)) hx hb dX2_flow_25 (by decide) ?_
      refine lv_iadd hx hb dX2_flow_26 ?_
      refine lv_aload_n hx hb dX2_flow_27 rfl (lv_at hl 2 rfl) ?_
      refine lv_iload hx hb dX2_flow_28 (lv_at hl 4 rfl) ?_
      refine va_iald (f := dk) hx hb hK hP 5 0 rfl rfl h.1 dX2_flow_30 ?_
      replace h := h.2
      refine cl_iL F (va_runV (As := [.int v4, .int (v4 + (1 : Int32)), .int (dk v4.toNatClampNeg)]) (rest := [.int v3]) ⟨hx, hb, hml, hown, hts⟩ (ct_B_spill (o := o) (ab := ab) h _) (cwV 3 hts (lw_V q764 q766 qs24 q95 q767) rfl rfl rfl (by decide +kernel) ⟨Nat.le_trans (Nat.le_of_ble_eq_true rfl) hRf, Nat.le_trans (Nat.le_of_ble_eq_true rfl) hRl⟩) ⟨ct_blind, va_recv hK hP (ci := 1) (q0 := 0) rfl rfl, ct_at F hS (putL_P hP (ps := [0, 1, 2, 3, 4]) rfl) (hD.sub ([0, 1, 2, 3, 4]) (by decide) rfl)⟩ rfl rfl hl.1 rfl (lv_room (Nat.le_of_ble_eq_true rfl)) dX2_flow_31 ⟨hC, hSl⟩) rfl rfl hP hD hS (ps := [0, 1, 2, 3, 4]) rfl (fun _ => rfl) (fun _ => rfl) ?_
      rintro x1 dp2 H locs h hP hD hS
      refine lv_ior hx hb dX2_flow_34 ?_
      refine lv_istore_n (lv' := [(3, .int (v3 ||| x1)), (0, .ref o), (1, .int v1), (2, .ref pd), (4, .int v4)]) hx hb dX2_flow_35 rfl hl (by decide) rfl (fun ls hl => ?_)
      refine lv_iload_n hx hb dX2_flow_36 rfl (lv_at hl 0 rfl) ?_
      refine lv_aload_n hx hb dX2_flow_37 rfl (lv_at hl 1 rfl) ?_
      refine lv_iload hx hb dX2_flow_38 (lv_at hl 4 rfl) ?_
      refine lv_iconst (v := (1 : Int32)) hx hb dX2_flow_40 (by decide) ?_
      refine lv_iadd hx hb dX2_flow_41 ?_
      refine lv_iload hx hb dX2_flow_42 (lv_at hl 4 rfl) ?_
      refine lv_aload_n hx hb dX2_flow_44 rfl (lv_at hl 3 rfl) ?_
      refine lv_iload hx hb dX2_flow_45 (lv_at hl 4 rfl) ?_
      refine va_iald (f := dk) hx hb hK hP 5 0 rfl rfl h.1 dX2_flow_47 ?_
      replace h := h.2
      refine cl_iL F (va_runV (As := [.int (v4 + (1 : Int32)), .int v4, .int (dk v4.toNatClampNeg)]) (rest := [.int (v3 ||| x1)]) ⟨hx, hb, hml, hown, hts⟩ (ct_B_spill (o := o) (ab := ab) h _) (cwV 3 hts (lw_V q764 q766 qs24 q95 q767) rfl rfl rfl (by decide +kernel) ⟨Nat.le_trans (Nat.le_of_ble_eq_true rfl) hRf, Nat.le_trans (Nat.le_of_ble_eq_true rfl) hRl⟩) ⟨ct_blind, va_recv hK hP (ci := 1) (q0 := 0) rfl rfl, ct_at F hS (putL_P hP (ps := [0, 1, 2, 3, 4]) rfl) (hD.sub ([0, 1, 2, 3, 4]) (by decide) rfl)⟩ rfl rfl hl.1 rfl (lv_room (Nat.le_of_ble_eq_true rfl)) dX2_flow_48 ⟨hC, hSl⟩) rfl rfl hP hD hS (ps := [0, 1, 2, 3, 4]) rfl (fun _ => rfl) (fun _ => rfl) ?_
      rintro x3 dp4 H locs h hP hD hS
      refine lv_ior hx hb dX2_flow_51 ?_
      refine lv_istore_n (lv' := [(3, .int ((v3 ||| x1) ||| x3)), (0, .ref o), (1, .int v1), (2, .ref pd), (4, .int v4)]) hx hb dX2_flow_52 rfl hl (by decide) rfl (fun ls hl => ?_)
      refine lv_iinc (v := (v4 + (1 : Int32))) (lv' := [(4, .int (v4 + (1 : Int32))), (3, .int ((v3 ||| x1) ||| x3)), (0, .ref o), (1, .int v1), (2, .ref pd)]) hx hb dX2_flow_53 hl (k := 4) rfl rfl (by decide) rfl (fun ls hl => ?_)
      refine lv_goto (tgt := 11) hx hb dX2_flow_56 (by decide) ?_
      exact ih _ _ _ h _ _ _ hP hD hS (lv_sub hl [2, 3, 4, 1, 0] rfl)
set_option maxHeartbeats 4000000 in
theorem lp_B_flow_L1 {p : Program} {l : Launch} {e : Env} {R : Room} {s : State} {m : MethodId} {args : Array Value} {below : List Frame} {meth : Method} {c : Code} {cells slots : Nat} {A : Nat → Prop} {Qf : State → Prop} {V : evT} {D : va_G} {gI : Nat → ClassId} {o : Nat} {ab : Nat → Nat} {pd : Nat} {v1 : Int32} {wl : Nat → Int32} {aa : Nat → Int32} {md : Nat → Int32} {mo : Int32} {sp : Int32} {ti : Int32} {dk : Nat → Int32} {K62 : (Nat → Int32) → Prop} (F : ct_F p m c meth cX2_flow 5 s args RX2 none A V D vwCl (tyL gI)) (hRf : 2 ≤ R.frames) (hRl : 36 ≤ R.locals) (hC : cells ≤ R.cells) (hSl : slots ≤ R.slots)
    (hK62 : ∀ (dp : Nat → Int32), K62 dp → ∀ (H : Heap) (locs : List Loc) (ls : Array Slot), va_P D vwCl (wBD gI o ab pd wl dp aa md mo sp ti dk) H → va_D A (wBD gI o ab pd wl dp aa md mo sp ti dk) → va_S A s.heap H locs → lv_has ls 5 [] → W p l e R s m args below meth c H locs cells slots Qf (F0 m 62 ls [])) :
    ∀ (n : Nat) (v3 : Int32) (dp : Nat → Int32), wp_B_flow_L1 v1 wl aa md mo sp ti dk K62 n v3 dp → ∀ (H : Heap) (locs : List Loc) (ls : Array Slot), va_P D vwCl (wBD gI o ab pd wl dp aa md mo sp ti dk) H → va_D A (wBD gI o ab pd wl dp aa md mo sp ti dk) → va_S A s.heap H locs → lv_has ls 5 [(0, .ref o), (1, .int v1), (2, .ref pd), (3, .int v3)] → W p l e R s m args below meth c H locs cells slots Qf (F0 m 2 ls []) := by
  obtain ⟨⟨hx, hb, hml, hown, hts⟩, hr, hlocks, hA, hK, hE⟩ := id F
  intro n
  induction n with
  | zero => intro v3 dp h; exact h.elim
  | succ n ih =>
    intro v3 dp h H locs ls hP hD hS hl
    unfold wp_B_flow_L1 at h
    refine lv_iload_n hx hb dX2_flow_2 rfl (lv_at hl 3 rfl) ?_
    refine lv_if_eq (tgt := 62) hx hb dX2_flow_3 (by decide) (fun c8 => ?_) (fun c8 => ?_)
    · replace h := h.1 c8
      exact hK62 _ h _ _ _ hP hD hS (lv_sub hl [] rfl)
    · replace h := h.2 c8
      refine lv_iconst (v := (0 : Int32)) hx hb dX2_flow_6 (by decide) ?_
      refine lv_istore_n (lv' := [(3, .int (0 : Int32)), (0, .ref o), (1, .int v1), (2, .ref pd)]) hx hb dX2_flow_7 rfl hl (by decide) rfl (fun ls hl => ?_)
      refine lv_iconst (v := (0 : Int32)) hx hb dX2_flow_8 (by decide) ?_
      refine lv_istore (lv' := [(4, .int (0 : Int32)), (3, .int (0 : Int32)), (0, .ref o), (1, .int v1), (2, .ref pd)]) hx hb dX2_flow_9 hl (by decide) rfl (fun ls hl => ?_)
      obtain ⟨k11, h⟩ := h
      refine lp_B_flow_L2 F hRf hRl hC hSl ?hk59 k11 _ _ _ h _ _ _ hP hD hS (lv_sub hl [2, 3, 4, 1, 0] rfl)
      case hk59 =>
        intro v3_6 dp_7 h H locs ls hP hD hS hl
        refine lv_goto (tgt := 2) hx hb dX2_flow_59 (by decide) ?_
        exact ih _ _ h _ _ _ hP hD hS (lv_sub hl [0, 1, 2, 3] rfl)
set_option maxHeartbeats 4000000 in
theorem ct_B_flow {l : Launch} {V : evT} {D : va_G} {gI : Nat → ClassId} {o : Nat} {ab : Nat → Nat} {pd : Nat} {v1 : Int32} {wl : Nat → Int32} {dp : Nat → Int32} {aa : Nat → Int32} {md : Nat → Int32} {mo : Int32} {sp : Int32} {ti : Int32} {dk : Nat → Int32} {Q : (Nat → Int32) → Prop} (h : wp_B_flow v1 wl dp aa md mo sp ti dk Q) : ct_v l V D vwCl (tyL gI) yX2_flow cX2_flow 5 { frames := 2, cells := 0, slots := 0, locals := 36 } [.ref o, .int v1, .ref pd] (wBD gI o ab pd wl dp aa md mo sp ti dk) (fun u : (Nat → Int32) => (wBD gI o ab pd wl u aa md mo sp ti dk)) (fun (u : (Nat → Int32)) => Q u) := by
  refine ct_ofv RX2 rfl (by decide +kernel) (Nat.le_of_ble_eq_true rfl) ?_
  intro p e s m args below meth c A F _ hP hD ls hl
  obtain ⟨⟨hx, hb, hml, hown, hts⟩, hr, hlocks, hA, hK, hE⟩ := id F
  have hS : va_S A s.heap s.heap [] := va_S.rf
  have hl : lv_has ls 5 [(0, .ref o), (1, .int v1), (2, .ref pd)] := hl
  have hRf : 2 ≤ ({ frames := 2, cells := 0, slots := 0, locals := 36 } : Room).frames := Nat.le_refl _
  have hRl : 36 ≤ ({ frames := 2, cells := 0, slots := 0, locals := 36 } : Room).locals := Nat.le_refl _
  have hC : 0 ≤ ({ frames := 2, cells := 0, slots := 0, locals := 36 } : Room).cells := Nat.le_refl _
  have hSl : 0 ≤ ({ frames := 2, cells := 0, slots := 0, locals := 36 } : Room).slots := Nat.le_refl _
  unfold wp_B_flow at h
  refine lv_iconst (v := (1 : Int32)) hx hb dX2_flow_0 (by decide) ?_
  refine lv_istore_n (lv' := [(3, .int (1 : Int32)), (0, .ref o), (1, .int v1), (2, .ref pd)]) hx hb dX2_flow_1 rfl hl (by decide) rfl (fun ls hl => ?_)
  obtain ⟨k2, h⟩ := h
  refine lp_B_flow_L1 F hRf hRl hC hSl ?hk62 k2 _ _ h _ _ _ hP hD hS (lv_sub hl [1, 2, 3, 0] rfl)
  case hk62 =>
    intro dp_9 h H locs ls hP hD hS hl
    exact rt_v F dX2_flow_62 (dp_9) h hP hD hS (Nat.le_refl _) (Nat.le_refl _)
set_option maxHeartbeats 4000000 in
theorem ct_B_clear {l : Launch} {V : evT} {D : va_G} {gI : Nat → ClassId} {o : Nat} {ab : Nat → Nat} {wl : Nat → Int32} {dp : Nat → Int32} {aa : Nat → Int32} {md : Nat → Int32} {mo : Int32} {sp : Int32} {ti : Int32} {Q : (Nat → Int32) → (Nat → Int32) → (Nat → Int32) → (Int32) → (Int32) → Prop} (h : wp_B_clear wl dp aa md mo sp ti Q) : ct_v l V D vwCl (tyL gI) yX2_clear cX2_clear 1 { frames := 2, cells := 0, slots := 0, locals := 35 } [.ref o] (wB gI o ab wl dp aa md mo sp ti) (fun u : (Nat → Int32) × (Nat → Int32) × (Nat → Int32) × (Int32) × (Int32) => (wB gI o ab u.1 u.2.1 u.2.2.1 md u.2.2.2.1 sp u.2.2.2.2)) (fun (u : (Nat → Int32) × (Nat → Int32) × (Nat → Int32) × (Int32) × (Int32)) => Q u.1 u.2.1 u.2.2.1 u.2.2.2.1 u.2.2.2.2) := by
  refine ct_ofv RX2 rfl (by decide +kernel) (Nat.le_of_ble_eq_true rfl) ?_
  intro p e s m args below meth c A F _ hP hD ls hl
  obtain ⟨⟨hx, hb, hml, hown, hts⟩, hr, hlocks, hA, hK, hE⟩ := id F
  have hS : va_S A s.heap s.heap [] := va_S.rf
  have hl : lv_has ls 1 [(0, .ref o)] := hl
  have hRf : 2 ≤ ({ frames := 2, cells := 0, slots := 0, locals := 35 } : Room).frames := Nat.le_refl _
  have hRl : 35 ≤ ({ frames := 2, cells := 0, slots := 0, locals := 35 } : Room).locals := Nat.le_refl _
  have hC : 0 ≤ ({ frames := 2, cells := 0, slots := 0, locals := 35 } : Room).cells := Nat.le_refl _
  have hSl : 0 ≤ ({ frames := 2, cells := 0, slots := 0, locals := 35 } : Room).slots := Nat.le_refl _
  unfold wp_B_clear at h
  refine lv_aload_n hx hb dX2_clear_0 rfl (lv_at hl 0 rfl) ?_
  refine va_get hx hb hts in_X2 hown hK hP 0 rfl rfl 0 (Nat.le_of_ble_eq_true rfl) (hts _ q134) (fun _ h => h) (v := .ref (ab 0)) rfl dX2_clear_1 ?_
  refine lv_iconst (v := (0 : Int32)) hx hb dX2_clear_4 (by decide) ?_
  refine cl_vL F (va_runS (As := [.ref (ab 0), .int (0 : Int32)]) (rest := []) ⟨hx, hb, hml, hown, hts⟩ (ct_A_fill  h _) (va_cwS 2 hts (lw_S q175 q176 q96 q177) rfl rfl rfl (by decide +kernel) ⟨Nat.le_trans (Nat.le_of_ble_eq_true rfl) hRf, Nat.le_trans (Nat.le_of_ble_eq_true rfl) hRl⟩) ⟨ct_blind, ct_at F hS (putL_P hP (ps := [1]) rfl) (hD.sub ([1]) (by decide) rfl)⟩ rfl rfl hl.1 rfl (lv_room (Nat.le_of_ble_eq_true rfl)) dX2_clear_5 ⟨hC, hSl⟩) rfl rfl hP hD hS (ps := [1]) rfl (fun _ => rfl) (fun _ => rfl) ?_
  rintro f1 H locs h hP hD hS
  refine lv_aload_n hx hb dX2_clear_8 rfl (lv_at hl 0 rfl) ?_
  refine va_get hx hb hts in_X2 hown hK hP 0 rfl rfl 1 (Nat.le_of_ble_eq_true rfl) (hts _ q136) (fun _ h => h) (v := .ref (ab 1)) rfl dX2_clear_9 ?_
  refine lv_iconst (v := (0 : Int32)) hx hb dX2_clear_12 (by decide) ?_
  refine cl_vL F (va_runS (As := [.ref (ab 1), .int (0 : Int32)]) (rest := []) ⟨hx, hb, hml, hown, hts⟩ (ct_A_fill  h _) (va_cwS 2 hts (lw_S q175 q176 q96 q177) rfl rfl rfl (by decide +kernel) ⟨Nat.le_trans (Nat.le_of_ble_eq_true rfl) hRf, Nat.le_trans (Nat.le_of_ble_eq_true rfl) hRl⟩) ⟨ct_blind, ct_at F hS (putL_P hP (ps := [2]) rfl) (hD.sub ([2]) (by decide) rfl)⟩ rfl rfl hl.1 rfl (lv_room (Nat.le_of_ble_eq_true rfl)) dX2_clear_13 ⟨hC, hSl⟩) rfl rfl hP hD hS (ps := [2]) rfl (fun _ => rfl) (fun _ => rfl) ?_
  rintro f2 H locs h hP hD hS
  refine lv_aload_n hx hb dX2_clear_16 rfl (lv_at hl 0 rfl) ?_
  refine va_get hx hb hts in_X2 hown hK hP 0 rfl rfl 2 (Nat.le_of_ble_eq_true rfl) (hts _ q138) (fun _ h => h) (v := .ref (ab 2)) rfl dX2_clear_17 ?_
  refine lv_iconst (v := (-1 : Int32)) hx hb dX2_clear_20 (by decide) ?_
  refine cl_vL F (va_runS (As := [.ref (ab 2), .int (-1 : Int32)]) (rest := []) ⟨hx, hb, hml, hown, hts⟩ (ct_A_fill  h _) (va_cwS 2 hts (lw_S q175 q176 q96 q177) rfl rfl rfl (by decide +kernel) ⟨Nat.le_trans (Nat.le_of_ble_eq_true rfl) hRf, Nat.le_trans (Nat.le_of_ble_eq_true rfl) hRl⟩) ⟨ct_blind, ct_at F hS (putL_P hP (ps := [3]) rfl) (hD.sub ([3]) (by decide) rfl)⟩ rfl rfl hl.1 rfl (lv_room (Nat.le_of_ble_eq_true rfl)) dX2_clear_21 ⟨hC, hSl⟩) rfl rfl hP hD hS (ps := [3]) rfl (fun _ => rfl) (fun _ => rfl) ?_
  rintro f3 H locs h hP hD hS
  refine lv_aload_n hx hb dX2_clear_24 rfl (lv_at hl 0 rfl) ?_
  refine lv_iconst (v := (0 : Int32)) hx hb dX2_clear_25 (by decide) ?_
  refine pt_put (v := .int (0 : Int32)) hx hb hts in_X2 tyX2 tyX2_ok nmX2 hown hK hP hD hS 0 rfl rfl 4 (Nat.le_of_ble_eq_true rfl) (hts _ q145) (fun _ h => h) rfl (ty := .int) (by decide +kernel) rfl rfl (Nat.le_of_ble_eq_true rfl) dX2_clear_26 rfl (fun H locs hP hD hS => ?_)
  refine lv_aload_n hx hb dX2_clear_29 rfl (lv_at hl 0 rfl) ?_
  refine lv_iconst (v := (0 : Int32)) hx hb dX2_clear_30 (by decide) ?_
  refine pt_put (v := .int (0 : Int32)) hx hb hts in_X2 tyX2 tyX2_ok nmX2 hown hK hP hD hS 0 rfl rfl 6 (Nat.le_of_ble_eq_true rfl) (hts _ q149) (fun _ h => h) rfl (ty := .int) (by decide +kernel) rfl rfl (Nat.le_of_ble_eq_true rfl) dX2_clear_31 rfl (fun H locs hP hD hS => ?_)
  exact rt_v F dX2_clear_34 (f1, f2, f3, (0 : Int32), (0 : Int32)) h hP hD hS (Nat.le_refl _) (Nat.le_refl _)
set_option maxHeartbeats 4000000 in
theorem ct_B_be {l : Launch} {V : evT} {D : va_G} {gI : Nat → ClassId} {o : Nat} {ab : Nat → Nat} {o2 : Nat} {ab2 : Nat → Nat} {wl : Nat → Int32} {dp : Nat → Int32} {aa : Nat → Int32} {md : Nat → Int32} {mo : Int32} {sp : Int32} {ti : Int32} {wl2 : Nat → Int32} {dp2 : Nat → Int32} {aa2 : Nat → Int32} {md2 : Nat → Int32} {mo2 : Int32} {sp2 : Int32} {ti2 : Int32} {Q : (Nat → Int32) → (Nat → Int32) → (Nat → Int32) → (Nat → Int32) → (Int32) → (Int32) → (Int32) → Prop} (h : wp_B_be wl dp aa md mo sp ti wl2 dp2 aa2 md2 mo2 sp2 ti2 Q) : ct_v l V D vwCl (tyL gI) yX2_be cX2_be 2 { frames := 1, cells := 0, slots := 0, locals := 60 } [.ref o, .ref o2] (wBB gI o ab o2 ab2 wl dp aa md mo sp ti wl2 dp2 aa2 md2 mo2 sp2 ti2) (fun u : (Nat → Int32) × (Nat → Int32) × (Nat → Int32) × (Nat → Int32) × (Int32) × (Int32) × (Int32) => (wBB gI o ab o2 ab2 u.1 u.2.1 u.2.2.1 u.2.2.2.1 u.2.2.2.2.1 u.2.2.2.2.2.1 u.2.2.2.2.2.2 wl2 dp2 aa2 md2 mo2 sp2 ti2)) (fun (u : (Nat → Int32) × (Nat → Int32) × (Nat → Int32) × (Nat → Int32) × (Int32) × (Int32) × (Int32)) => Q u.1 u.2.1 u.2.2.1 u.2.2.2.1 u.2.2.2.2.1 u.2.2.2.2.2.1 u.2.2.2.2.2.2) := by
  refine ct_ofv RX2 rfl (by decide +kernel) (Nat.le_of_ble_eq_true rfl) ?_
  intro p e s m args below meth c A F _ hP hD ls hl
  obtain ⟨⟨hx, hb, hml, hown, hts⟩, hr, hlocks, hA, hK, hE⟩ := id F
  have hS : va_S A s.heap s.heap [] := va_S.rf
  have hl : lv_has ls 2 [(0, .ref o), (1, .ref o2)] := hl
  have hRf : 1 ≤ ({ frames := 1, cells := 0, slots := 0, locals := 60 } : Room).frames := Nat.le_refl _
  have hRl : 60 ≤ ({ frames := 1, cells := 0, slots := 0, locals := 60 } : Room).locals := Nat.le_refl _
  have hC : 0 ≤ ({ frames := 1, cells := 0, slots := 0, locals := 60 } : Room).cells := Nat.le_refl _
  have hSl : 0 ≤ ({ frames := 1, cells := 0, slots := 0, locals := 60 } : Room).slots := Nat.le_refl _
  unfold wp_B_be at h
  refine lv_aload_n hx hb dX2_be_0 rfl (lv_at hl 1 rfl) ?_
  refine va_get hx hb hts in_X2 hown hK hP 5 rfl rfl 0 (Nat.le_of_ble_eq_true rfl) (hts _ q134) (fun _ h => h) (v := .ref (ab2 0)) rfl dX2_be_1 ?_
  refine lv_iconst (v := (0 : Int32)) hx hb dX2_be_4 (by decide) ?_
  refine lv_aload_n hx hb dX2_be_5 rfl (lv_at hl 0 rfl) ?_
  refine va_get hx hb hts in_X2 hown hK hP 0 rfl rfl 0 (Nat.le_of_ble_eq_true rfl) (hts _ q134) (fun _ h => h) (v := .ref (ab 0)) rfl dX2_be_6 ?_
  refine lv_iconst (v := (0 : Int32)) hx hb dX2_be_9 (by decide) ?_
  refine lv_bipush (v := (12 : Int32)) hx hb dX2_be_10 (by decide) ?_
  refine pt_copyi hx hb (hml.trans hl.1.symm) hown (hts _ q663) (hts _ q468) (hts _ q467) (hts _ q104) hK hP hD hS 6 1 0 0 (f := wl2) (g := wl) (ty := .int) rfl rfl rfl rfl rfl (by decide) (by decide) (by decide) (Nat.le_of_ble_eq_true rfl) (Nat.le_of_ble_eq_true rfl) (fun _ _ => rfl) (Nat.le_trans (Nat.le_of_ble_eq_true rfl) hRf) (Nat.le_trans (by decide +kernel) hRl) dX2_be_12 rfl (fun H locs hP hD hS => ?_)
  refine lv_aload_n hx hb dX2_be_15 rfl (lv_at hl 1 rfl) ?_
  refine va_get hx hb hts in_X2 hown hK hP 5 rfl rfl 1 (Nat.le_of_ble_eq_true rfl) (hts _ q136) (fun _ h => h) (v := .ref (ab2 1)) rfl dX2_be_16 ?_
  refine lv_iconst (v := (0 : Int32)) hx hb dX2_be_19 (by decide) ?_
  refine lv_aload_n hx hb dX2_be_20 rfl (lv_at hl 0 rfl) ?_
  refine va_get hx hb hts in_X2 hown hK hP 0 rfl rfl 1 (Nat.le_of_ble_eq_true rfl) (hts _ q136) (fun _ h => h) (v := .ref (ab 1)) rfl dX2_be_21 ?_
  refine lv_iconst (v := (0 : Int32)) hx hb dX2_be_24 (by decide) ?_
  refine lv_bipush (v := (12 : Int32)) hx hb dX2_be_25 (by decide) ?_
  refine pt_copyi hx hb (hml.trans hl.1.symm) hown (hts _ q663) (hts _ q468) (hts _ q467) (hts _ q104) hK hP hD hS 7 2 0 0 (f := dp2) (g := dp) (ty := .int) rfl rfl rfl rfl rfl (by decide) (by decide) (by decide) (Nat.le_of_ble_eq_true rfl) (Nat.le_of_ble_eq_true rfl) (fun _ _ => rfl) (Nat.le_trans (Nat.le_of_ble_eq_true rfl) hRf) (Nat.le_trans (by decide +kernel) hRl) dX2_be_27 rfl (fun H locs hP hD hS => ?_)
  refine lv_aload_n hx hb dX2_be_30 rfl (lv_at hl 1 rfl) ?_
  refine va_get hx hb hts in_X2 hown hK hP 5 rfl rfl 2 (Nat.le_of_ble_eq_true rfl) (hts _ q138) (fun _ h => h) (v := .ref (ab2 2)) rfl dX2_be_31 ?_
  refine lv_iconst (v := (0 : Int32)) hx hb dX2_be_34 (by decide) ?_
  refine lv_aload_n hx hb dX2_be_35 rfl (lv_at hl 0 rfl) ?_
  refine va_get hx hb hts in_X2 hown hK hP 0 rfl rfl 2 (Nat.le_of_ble_eq_true rfl) (hts _ q138) (fun _ h => h) (v := .ref (ab 2)) rfl dX2_be_36 ?_
  refine lv_iconst (v := (0 : Int32)) hx hb dX2_be_39 (by decide) ?_
  refine lv_bipush (v := (8 : Int32)) hx hb dX2_be_40 (by decide) ?_
  refine pt_copyi hx hb (hml.trans hl.1.symm) hown (hts _ q663) (hts _ q468) (hts _ q467) (hts _ q104) hK hP hD hS 8 3 0 0 (f := aa2) (g := aa) (ty := .int) rfl rfl rfl rfl rfl (by decide) (by decide) (by decide) (Nat.le_of_ble_eq_true rfl) (Nat.le_of_ble_eq_true rfl) (fun _ _ => rfl) (Nat.le_trans (Nat.le_of_ble_eq_true rfl) hRf) (Nat.le_trans (by decide +kernel) hRl) dX2_be_42 rfl (fun H locs hP hD hS => ?_)
  refine lv_aload_n hx hb dX2_be_45 rfl (lv_at hl 1 rfl) ?_
  refine va_get hx hb hts in_X2 hown hK hP 5 rfl rfl 3 (Nat.le_of_ble_eq_true rfl) (hts _ q142) (fun _ h => h) (v := .ref (ab2 3)) rfl dX2_be_46 ?_
  refine lv_iconst (v := (0 : Int32)) hx hb dX2_be_49 (by decide) ?_
  refine lv_aload_n hx hb dX2_be_50 rfl (lv_at hl 0 rfl) ?_
  refine va_get hx hb hts in_X2 hown hK hP 0 rfl rfl 3 (Nat.le_of_ble_eq_true rfl) (hts _ q142) (fun _ h => h) (v := .ref (ab 3)) rfl dX2_be_51 ?_
  refine lv_iconst (v := (0 : Int32)) hx hb dX2_be_54 (by decide) ?_
  refine lv_bipush (v := (8 : Int32)) hx hb dX2_be_55 (by decide) ?_
  refine pt_copyi hx hb (hml.trans hl.1.symm) hown (hts _ q663) (hts _ q468) (hts _ q467) (hts _ q104) hK hP hD hS 9 4 0 0 (f := md2) (g := md) (ty := .int) rfl rfl rfl rfl rfl (by decide) (by decide) (by decide) (Nat.le_of_ble_eq_true rfl) (Nat.le_of_ble_eq_true rfl) (fun _ _ => rfl) (Nat.le_trans (Nat.le_of_ble_eq_true rfl) hRf) (Nat.le_trans (by decide +kernel) hRl) dX2_be_57 rfl (fun H locs hP hD hS => ?_)
  refine lv_aload_n hx hb dX2_be_60 rfl (lv_at hl 0 rfl) ?_
  refine lv_aload_n hx hb dX2_be_61 rfl (lv_at hl 1 rfl) ?_
  refine va_get hx hb hts in_X2 hown hK hP 5 rfl rfl 4 (Nat.le_of_ble_eq_true rfl) (hts _ q145) (fun _ h => h) (v := .int mo2) rfl dX2_be_62 ?_
  refine pt_put (v := .int mo2) hx hb hts in_X2 tyX2 tyX2_ok nmX2 hown hK hP hD hS 0 rfl rfl 4 (Nat.le_of_ble_eq_true rfl) (hts _ q145) (fun _ h => h) rfl (ty := .int) (by decide +kernel) rfl rfl (Nat.le_of_ble_eq_true rfl) dX2_be_65 rfl (fun H locs hP hD hS => ?_)
  refine lv_aload_n hx hb dX2_be_68 rfl (lv_at hl 0 rfl) ?_
  refine lv_aload_n hx hb dX2_be_69 rfl (lv_at hl 1 rfl) ?_
  refine va_get hx hb hts in_X2 hown hK hP 5 rfl rfl 5 (Nat.le_of_ble_eq_true rfl) (hts _ q147) (fun _ h => h) (v := .int sp2) rfl dX2_be_70 ?_
  refine pt_put (v := .int sp2) hx hb hts in_X2 tyX2 tyX2_ok nmX2 hown hK hP hD hS 0 rfl rfl 5 (Nat.le_of_ble_eq_true rfl) (hts _ q147) (fun _ h => h) rfl (ty := .int) (by decide +kernel) rfl rfl (Nat.le_of_ble_eq_true rfl) dX2_be_73 rfl (fun H locs hP hD hS => ?_)
  refine lv_aload_n hx hb dX2_be_76 rfl (lv_at hl 0 rfl) ?_
  refine lv_aload_n hx hb dX2_be_77 rfl (lv_at hl 1 rfl) ?_
  refine va_get hx hb hts in_X2 hown hK hP 5 rfl rfl 6 (Nat.le_of_ble_eq_true rfl) (hts _ q149) (fun _ h => h) (v := .int ti2) rfl dX2_be_78 ?_
  refine pt_put (v := .int ti2) hx hb hts in_X2 tyX2 tyX2_ok nmX2 hown hK hP hD hS 0 rfl rfl 6 (Nat.le_of_ble_eq_true rfl) (hts _ q149) (fun _ h => h) rfl (ty := .int) (by decide +kernel) rfl rfl (Nat.le_of_ble_eq_true rfl) dX2_be_81 rfl (fun H locs hP hD hS => ?_)
  exact rt_v F dX2_be_84 ((va_cpy wl2 wl (0 : Int32).toNatClampNeg (0 : Int32).toNatClampNeg (12 : Int32).toNatClampNeg), (va_cpy dp2 dp (0 : Int32).toNatClampNeg (0 : Int32).toNatClampNeg (12 : Int32).toNatClampNeg), (va_cpy aa2 aa (0 : Int32).toNatClampNeg (0 : Int32).toNatClampNeg (8 : Int32).toNatClampNeg), (va_cpy md2 md (0 : Int32).toNatClampNeg (0 : Int32).toNatClampNeg (8 : Int32).toNatClampNeg), mo2, sp2, ti2) h hP hD hS (Nat.le_refl _) (Nat.le_refl _)
