/-! walks of the JDK's methods -/
set_option maxRecDepth 100000
set_option maxHeartbeats 4000000 in
theorem ct_J10_bitCount {l : Launch} {V : evT} {D : va_G} {gI : Nat → ClassId} {v0 : Int32} {Q : Int32 → Prop} (h : wp_J10_bitCount v0  Q) : ct_i l V D vwCl (tyL gI) yJ10_bitCount cJ10_bitCount 1 .int { frames := 1, cells := 0, slots := 0, locals := 12 } [.int v0] [] (fun u : Unit => []) (fun (x : Int32) (u : Unit) => Q x) := by
  refine ct_ofi RJ10 rfl (by decide +kernel) (Nat.le_of_ble_eq_true rfl) ?_
  intro p e s m args below meth c A F hP hD ls hl
  obtain ⟨⟨hx, hb, hml, hown, hts⟩, hr, hlocks, hA, hK, hE⟩ := id F
  have hS : va_S A s.heap s.heap [] := va_S.rf
  have hl : lv_has ls 1 [(0, .int v0)] := hl
  have hRf : 1 ≤ ({ frames := 1, cells := 0, slots := 0, locals := 12 } : Room).frames := Nat.le_refl _
  have hRl : 12 ≤ ({ frames := 1, cells := 0, slots := 0, locals := 12 } : Room).locals := Nat.le_refl _
  have hC : 0 ≤ ({ frames := 1, cells := 0, slots := 0, locals := 12 } : Room).cells := Nat.le_refl _
  have hSl : 0 ≤ ({ frames := 1, cells := 0, slots := 0, locals := 12 } : Room).slots := Nat.le_refl _
  unfold wp_J10_bitCount at h
  refine lv_iload_n hx hb dJ10_bitCount_0 rfl (lv_at hl 0 rfl) ?_
  refine lv_iload_n hx hb dJ10_bitCount_1 rfl (lv_at hl 0 rfl) ?_
  refine lv_iconst (v := (1 : Int32)) hx hb dJ10_bitCount_2 (by decide) ?_
  refine lv_iushr (v := (v0.toUInt32 >>> ((1 : Int32).toUInt32 &&& Int32.toUInt32 31)).toInt32) hx hb dJ10_bitCount_3 rfl ?_
  refine lv_ldcw (v := (1431655765 : Int32)) hx hb hown (hts _ q588) dJ10_bitCount_4 ?_
  refine lv_iand hx hb dJ10_bitCount_7 ?_
  refine lv_isub hx hb dJ10_bitCount_8 ?_
  refine lv_topi (fun x1 ex1 => ?_)
  replace h := h x1 ex1
  refine lv_istore_n (lv' := [(0, .int x1)]) hx hb dJ10_bitCount_9 rfl hl (by decide) rfl (fun ls hl => ?_)
  refine lv_iload_n hx hb dJ10_bitCount_10 rfl (lv_at hl 0 rfl) ?_
  refine lv_ldcw (v := (858993459 : Int32)) hx hb hown (hts _ q589) dJ10_bitCount_11 ?_
  refine lv_iand hx hb dJ10_bitCount_14 ?_
  refine lv_iload_n hx hb dJ10_bitCount_15 rfl (lv_at hl 0 rfl) ?_
  refine lv_iconst (v := (2 : Int32)) hx hb dJ10_bitCount_16 (by decide) ?_
  refine lv_iushr (v := (x1.toUInt32 >>> ((2 : Int32).toUInt32 &&& Int32.toUInt32 31)).toInt32) hx hb dJ10_bitCount_17 rfl ?_
  refine lv_ldcw (v := (858993459 : Int32)) hx hb hown (hts _ q589) dJ10_bitCount_18 ?_
  refine lv_iand hx hb dJ10_bitCount_21 ?_
  refine lv_iadd hx hb dJ10_bitCount_22 ?_
  refine lv_topi (fun x2 ex2 => ?_)
  replace h := h x2 ex2
  refine lv_istore_n (lv' := [(0, .int x2)]) hx hb dJ10_bitCount_23 rfl hl (by decide) rfl (fun ls hl => ?_)
  refine lv_iload_n hx hb dJ10_bitCount_24 rfl (lv_at hl 0 rfl) ?_
  refine lv_iload_n hx hb dJ10_bitCount_25 rfl (lv_at hl 0 rfl) ?_
  refine lv_iconst (v := (4 : Int32)) hx hb dJ10_bitCount_26 (by decide) ?_
  refine lv_iushr (v := (x2.toUInt32 >>> ((4 : Int32).toUInt32 &&& Int32.toUInt32 31)).toInt32) hx hb dJ10_bitCount_27 rfl ?_
  refine lv_iadd hx hb dJ10_bitCount_28 ?_
  refine lv_ldcw (v := (252645135 : Int32)) hx hb hown (hts _ q590) dJ10_bitCount_29 ?_
  refine lv_iand hx hb dJ10_bitCount_32 ?_
  refine lv_topi (fun x3 ex3 => ?_)
  replace h := h x3 ex3
  refine lv_istore_n (lv' := [(0, .int x3)]) hx hb dJ10_bitCount_33 rfl hl (by decide) rfl (fun ls hl => ?_)
  refine lv_iload_n hx hb dJ10_bitCount_34 rfl (lv_at hl 0 rfl) ?_
  refine lv_iload_n hx hb dJ10_bitCount_35 rfl (lv_at hl 0 rfl) ?_
  refine lv_bipush (v := (8 : Int32)) hx hb dJ10_bitCount_36 (by decide) ?_
  refine lv_iushr (v := (x3.toUInt32 >>> ((8 : Int32).toUInt32 &&& Int32.toUInt32 31)).toInt32) hx hb dJ10_bitCount_38 rfl ?_
  refine lv_iadd hx hb dJ10_bitCount_39 ?_
  refine lv_topi (fun x4 ex4 => ?_)
  replace h := h x4 ex4
  refine lv_istore_n (lv' := [(0, .int x4)]) hx hb dJ10_bitCount_40 rfl hl (by decide) rfl (fun ls hl => ?_)
  refine lv_iload_n hx hb dJ10_bitCount_41 rfl (lv_at hl 0 rfl) ?_
  refine lv_iload_n hx hb dJ10_bitCount_42 rfl (lv_at hl 0 rfl) ?_
  refine lv_bipush (v := (16 : Int32)) hx hb dJ10_bitCount_43 (by decide) ?_
  refine lv_iushr (v := (x4.toUInt32 >>> ((16 : Int32).toUInt32 &&& Int32.toUInt32 31)).toInt32) hx hb dJ10_bitCount_45 rfl ?_
  refine lv_iadd hx hb dJ10_bitCount_46 ?_
  refine lv_topi (fun x5 ex5 => ?_)
  replace h := h x5 ex5
  refine lv_istore_n (lv' := [(0, .int x5)]) hx hb dJ10_bitCount_47 rfl hl (by decide) rfl (fun ls hl => ?_)
  refine lv_iload_n hx hb dJ10_bitCount_48 rfl (lv_at hl 0 rfl) ?_
  refine lv_bipush (v := (63 : Int32)) hx hb dJ10_bitCount_49 (by decide) ?_
  refine lv_iand hx hb dJ10_bitCount_51 ?_
  exact rt_i F dJ10_bitCount_52 rfl () h hP hD hS (Nat.le_refl _) (Nat.le_refl _)
set_option maxHeartbeats 4000000 in
theorem ct_J4_coder_i0 {l : Launch} {V : evT} {D : va_G} {gI : Nat → ClassId} {Q : Int32 → Prop} (h : wp_J4_coder 0  Q) : ct_i l V D vwCl (tyL gI) yJ4_coder cJ4_coder 1 .byte { frames := 1, cells := 0, slots := 0, locals := 12 } [.ref (V.1 0)] [] (fun u : Unit => []) (fun (x : Int32) (u : Unit) => Q x) := by
  refine ct_ofi RJ4 rfl (by decide +kernel) (Nat.le_of_ble_eq_true rfl) ?_
  intro p e s m args below meth c A F hP hD ls hl
  obtain ⟨⟨hx, hb, hml, hown, hts⟩, hr, hlocks, hA, hK, hE⟩ := id F
  have hS : va_S A s.heap s.heap [] := va_S.rf
  have hl : lv_has ls 1 [(0, .ref (V.1 0))] := hl
  have hRf : 1 ≤ ({ frames := 1, cells := 0, slots := 0, locals := 12 } : Room).frames := Nat.le_refl _
  have hRl : 12 ≤ ({ frames := 1, cells := 0, slots := 0, locals := 12 } : Room).locals := Nat.le_refl _
  have hC : 0 ≤ ({ frames := 1, cells := 0, slots := 0, locals := 12 } : Room).cells := Nat.le_refl _
  have hSl : 0 ≤ ({ frames := 1, cells := 0, slots := 0, locals := 12 } : Room).slots := Nat.le_refl _
  unfold wp_J4_coder at h
  refine va_gets hx hb hE.2.2.2.2.2.1 hS hown (hts _ q833) (fun _ h => h) dJ4_coder_0 ?_
  refine lv_if_eq (tgt := 13) hx hb dJ4_coder_3 (by decide) (fun c1 => ?_) (fun c1 => ?_)
  · replace h := h.1 c1
    refine lv_iconst (v := (1 : Int32)) hx hb dJ4_coder_13 (by decide) ?_
    exact rt_i F dJ4_coder_14 rfl () h hP hD hS (Nat.le_refl _) (Nat.le_refl _)
  · replace h := h.2 c1
    refine lv_aload_n hx hb dJ4_coder_6 rfl (lv_at hl 0 rfl) ?_
    refine vk_getf (v := .int (0 : Int32)) hx hb ((hE.2.2.1 0 _ rfl).2.1 0 (by decide)).2.1 hS hown (hts _ q1881) (fun _ h => h) dJ4_coder_7 ?_
    refine lv_goto (tgt := 14) hx hb dJ4_coder_10 (by decide) ?_
    exact rt_i F dJ4_coder_14 rfl () h hP hD hS (Nat.le_refl _) (Nat.le_refl _)
set_option maxHeartbeats 4000000 in
theorem ct_J4_coder_i1 {l : Launch} {V : evT} {D : va_G} {gI : Nat → ClassId} {Q : Int32 → Prop} (h : wp_J4_coder 1  Q) : ct_i l V D vwCl (tyL gI) yJ4_coder cJ4_coder 1 .byte { frames := 1, cells := 0, slots := 0, locals := 12 } [.ref (V.1 1)] [] (fun u : Unit => []) (fun (x : Int32) (u : Unit) => Q x) := by
  refine ct_ofi RJ4 rfl (by decide +kernel) (Nat.le_of_ble_eq_true rfl) ?_
  intro p e s m args below meth c A F hP hD ls hl
  obtain ⟨⟨hx, hb, hml, hown, hts⟩, hr, hlocks, hA, hK, hE⟩ := id F
  have hS : va_S A s.heap s.heap [] := va_S.rf
  have hl : lv_has ls 1 [(0, .ref (V.1 1))] := hl
  have hRf : 1 ≤ ({ frames := 1, cells := 0, slots := 0, locals := 12 } : Room).frames := Nat.le_refl _
  have hRl : 12 ≤ ({ frames := 1, cells := 0, slots := 0, locals := 12 } : Room).locals := Nat.le_refl _
  have hC : 0 ≤ ({ frames := 1, cells := 0, slots := 0, locals := 12 } : Room).cells := Nat.le_refl _
  have hSl : 0 ≤ ({ frames := 1, cells := 0, slots := 0, locals := 12 } : Room).slots := Nat.le_refl _
  unfold wp_J4_coder at h
  refine va_gets hx hb hE.2.2.2.2.2.1 hS hown (hts _ q833) (fun _ h => h) dJ4_coder_0 ?_
  refine lv_if_eq (tgt := 13) hx hb dJ4_coder_3 (by decide) (fun c1 => ?_) (fun c1 => ?_)
  · replace h := h.1 c1
    refine lv_iconst (v := (1 : Int32)) hx hb dJ4_coder_13 (by decide) ?_
    exact rt_i F dJ4_coder_14 rfl () h hP hD hS (Nat.le_refl _) (Nat.le_refl _)
  · replace h := h.2 c1
    refine lv_aload_n hx hb dJ4_coder_6 rfl (lv_at hl 0 rfl) ?_
    refine vk_getf (v := .int (0 : Int32)) hx hb ((hE.2.2.1 1 _ rfl).2.1 0 (by decide)).2.1 hS hown (hts _ q1881) (fun _ h => h) dJ4_coder_7 ?_
    refine lv_goto (tgt := 14) hx hb dJ4_coder_10 (by decide) ?_
    exact rt_i F dJ4_coder_14 rfl () h hP hD hS (Nat.le_refl _) (Nat.le_refl _)
set_option maxHeartbeats 4000000 in
theorem ct_J4_coder_i2 {l : Launch} {V : evT} {D : va_G} {gI : Nat → ClassId} {Q : Int32 → Prop} (h : wp_J4_coder 2  Q) : ct_i l V D vwCl (tyL gI) yJ4_coder cJ4_coder 1 .byte { frames := 1, cells := 0, slots := 0, locals := 12 } [.ref (V.1 2)] [] (fun u : Unit => []) (fun (x : Int32) (u : Unit) => Q x) := by
  refine ct_ofi RJ4 rfl (by decide +kernel) (Nat.le_of_ble_eq_true rfl) ?_
  intro p e s m args below meth c A F hP hD ls hl
  obtain ⟨⟨hx, hb, hml, hown, hts⟩, hr, hlocks, hA, hK, hE⟩ := id F
  have hS : va_S A s.heap s.heap [] := va_S.rf
  have hl : lv_has ls 1 [(0, .ref (V.1 2))] := hl
  have hRf : 1 ≤ ({ frames := 1, cells := 0, slots := 0, locals := 12 } : Room).frames := Nat.le_refl _
  have hRl : 12 ≤ ({ frames := 1, cells := 0, slots := 0, locals := 12 } : Room).locals := Nat.le_refl _
  have hC : 0 ≤ ({ frames := 1, cells := 0, slots := 0, locals := 12 } : Room).cells := Nat.le_refl _
  have hSl : 0 ≤ ({ frames := 1, cells := 0, slots := 0, locals := 12 } : Room).slots := Nat.le_refl _
  unfold wp_J4_coder at h
  refine va_gets hx hb hE.2.2.2.2.2.1 hS hown (hts _ q833) (fun _ h => h) dJ4_coder_0 ?_
  refine lv_if_eq (tgt := 13) hx hb dJ4_coder_3 (by decide) (fun c1 => ?_) (fun c1 => ?_)
  · replace h := h.1 c1
    refine lv_iconst (v := (1 : Int32)) hx hb dJ4_coder_13 (by decide) ?_
    exact rt_i F dJ4_coder_14 rfl () h hP hD hS (Nat.le_refl _) (Nat.le_refl _)
  · replace h := h.2 c1
    refine lv_aload_n hx hb dJ4_coder_6 rfl (lv_at hl 0 rfl) ?_
    refine vk_getf (v := .int (0 : Int32)) hx hb ((hE.2.2.1 2 _ rfl).2.1 0 (by decide)).2.1 hS hown (hts _ q1881) (fun _ h => h) dJ4_coder_7 ?_
    refine lv_goto (tgt := 14) hx hb dJ4_coder_10 (by decide) ?_
    exact rt_i F dJ4_coder_14 rfl () h hP hD hS (Nat.le_refl _) (Nat.le_refl _)
set_option maxHeartbeats 4000000 in
theorem ct_J4_coder_i3 {l : Launch} {V : evT} {D : va_G} {gI : Nat → ClassId} {Q : Int32 → Prop} (h : wp_J4_coder 3  Q) : ct_i l V D vwCl (tyL gI) yJ4_coder cJ4_coder 1 .byte { frames := 1, cells := 0, slots := 0, locals := 12 } [.ref (V.1 3)] [] (fun u : Unit => []) (fun (x : Int32) (u : Unit) => Q x) := by
  refine ct_ofi RJ4 rfl (by decide +kernel) (Nat.le_of_ble_eq_true rfl) ?_
  intro p e s m args below meth c A F hP hD ls hl
  obtain ⟨⟨hx, hb, hml, hown, hts⟩, hr, hlocks, hA, hK, hE⟩ := id F
  have hS : va_S A s.heap s.heap [] := va_S.rf
  have hl : lv_has ls 1 [(0, .ref (V.1 3))] := hl
  have hRf : 1 ≤ ({ frames := 1, cells := 0, slots := 0, locals := 12 } : Room).frames := Nat.le_refl _
  have hRl : 12 ≤ ({ frames := 1, cells := 0, slots := 0, locals := 12 } : Room).locals := Nat.le_refl _
  have hC : 0 ≤ ({ frames := 1, cells := 0, slots := 0, locals := 12 } : Room).cells := Nat.le_refl _
  have hSl : 0 ≤ ({ frames := 1, cells := 0, slots := 0, locals := 12 } : Room).slots := Nat.le_refl _
  unfold wp_J4_coder at h
  refine va_gets hx hb hE.2.2.2.2.2.1 hS hown (hts _ q833) (fun _ h => h) dJ4_coder_0 ?_
  refine lv_if_eq (tgt := 13) hx hb dJ4_coder_3 (by decide) (fun c1 => ?_) (fun c1 => ?_)
  · replace h := h.1 c1
    refine lv_iconst (v := (1 : Int32)) hx hb dJ4_coder_13 (by decide) ?_
    exact rt_i F dJ4_coder_14 rfl () h hP hD hS (Nat.le_refl _) (Nat.le_refl _)
  · replace h := h.2 c1
    refine lv_aload_n hx hb dJ4_coder_6 rfl (lv_at hl 0 rfl) ?_
    refine vk_getf (v := .int (0 : Int32)) hx hb ((hE.2.2.1 3 _ rfl).2.1 0 (by decide)).2.1 hS hown (hts _ q1881) (fun _ h => h) dJ4_coder_7 ?_
    refine lv_goto (tgt := 14) hx hb dJ4_coder_10 (by decide) ?_
    exact rt_i F dJ4_coder_14 rfl () h hP hD hS (Nat.le_refl _) (Nat.le_refl _)
set_option maxHeartbeats 4000000 in
theorem ct_J4_coder_i4 {l : Launch} {V : evT} {D : va_G} {gI : Nat → ClassId} {Q : Int32 → Prop} (h : wp_J4_coder 4  Q) : ct_i l V D vwCl (tyL gI) yJ4_coder cJ4_coder 1 .byte { frames := 1, cells := 0, slots := 0, locals := 12 } [.ref (V.1 4)] [] (fun u : Unit => []) (fun (x : Int32) (u : Unit) => Q x) := by
  refine ct_ofi RJ4 rfl (by decide +kernel) (Nat.le_of_ble_eq_true rfl) ?_
  intro p e s m args below meth c A F hP hD ls hl
  obtain ⟨⟨hx, hb, hml, hown, hts⟩, hr, hlocks, hA, hK, hE⟩ := id F
  have hS : va_S A s.heap s.heap [] := va_S.rf
  have hl : lv_has ls 1 [(0, .ref (V.1 4))] := hl
  have hRf : 1 ≤ ({ frames := 1, cells := 0, slots := 0, locals := 12 } : Room).frames := Nat.le_refl _
  have hRl : 12 ≤ ({ frames := 1, cells := 0, slots := 0, locals := 12 } : Room).locals := Nat.le_refl _
  have hC : 0 ≤ ({ frames := 1, cells := 0, slots := 0, locals := 12 } : Room).cells := Nat.le_refl _
  have hSl : 0 ≤ ({ frames := 1, cells := 0, slots := 0, locals := 12 } : Room).slots := Nat.le_refl _
  unfold wp_J4_coder at h
  refine va_gets hx hb hE.2.2.2.2.2.1 hS hown (hts _ q833) (fun _ h => h) dJ4_coder_0 ?_
  refine lv_if_eq (tgt := 13) hx hb dJ4_coder_3 (by decide) (fun c1 => ?_) (fun c1 => ?_)
  · replace h := h.1 c1
    refine lv_iconst (v := (1 : Int32)) hx hb dJ4_coder_13 (by decide) ?_
    exact rt_i F dJ4_coder_14 rfl () h hP hD hS (Nat.le_refl _) (Nat.le_refl _)
  · replace h := h.2 c1
    refine lv_aload_n hx hb dJ4_coder_6 rfl (lv_at hl 0 rfl) ?_
    refine vk_getf (v := .int (0 : Int32)) hx hb ((hE.2.2.1 4 _ rfl).2.1 0 (by decide)).2.1 hS hown (hts _ q1881) (fun _ h => h) dJ4_coder_7 ?_
    refine lv_goto (tgt := 14) hx hb dJ4_coder_10 (by decide) ?_
    exact rt_i F dJ4_coder_14 rfl () h hP hD hS (Nat.le_refl _) (Nat.le_refl _)
set_option maxHeartbeats 4000000 in
theorem ct_J4_coder_i5 {l : Launch} {V : evT} {D : va_G} {gI : Nat → ClassId} {Q : Int32 → Prop} (h : wp_J4_coder 5  Q) : ct_i l V D vwCl (tyL gI) yJ4_coder cJ4_coder 1 .byte { frames := 1, cells := 0, slots := 0, locals := 12 } [.ref (V.1 5)] [] (fun u : Unit => []) (fun (x : Int32) (u : Unit) => Q x) := by
  refine ct_ofi RJ4 rfl (by decide +kernel) (Nat.le_of_ble_eq_true rfl) ?_
  intro p e s m args below meth c A F hP hD ls hl
  obtain ⟨⟨hx, hb, hml, hown, hts⟩, hr, hlocks, hA, hK, hE⟩ := id F
  have hS : va_S A s.heap s.heap [] := va_S.rf
  have hl : lv_has ls 1 [(0, .ref (V.1 5))] := hl
  have hRf : 1 ≤ ({ frames := 1, cells := 0, slots := 0, locals := 12 } : Room).frames := Nat.le_refl _
  have hRl : 12 ≤ ({ frames := 1, cells := 0, slots := 0, locals := 12 } : Room).locals := Nat.le_refl _
  have hC : 0 ≤ ({ frames := 1, cells := 0, slots := 0, locals := 12 } : Room).cells := Nat.le_refl _
  have hSl : 0 ≤ ({ frames := 1, cells := 0, slots := 0, locals := 12 } : Room).slots := Nat.le_refl _
  unfold wp_J4_coder at h
  refine va_gets hx hb hE.2.2.2.2.2.1 hS hown (hts _ q833) (fun _ h => h) dJ4_coder_0 ?_
  refine lv_if_eq (tgt := 13) hx hb dJ4_coder_3 (by decide) (fun c1 => ?_) (fun c1 => ?_)
  · replace h := h.1 c1
    refine lv_iconst (v := (1 : Int32)) hx hb dJ4_coder_13 (by decide) ?_
    exact rt_i F dJ4_coder_14 rfl () h hP hD hS (Nat.le_refl _) (Nat.le_refl _)
  · replace h := h.2 c1
    refine lv_aload_n hx hb dJ4_coder_6 rfl (lv_at hl 0 rfl) ?_
    refine vk_getf (v := .int (0 : Int32)) hx hb ((hE.2.2.1 5 _ rfl).2.1 0 (by decide)).2.1 hS hown (hts _ q1881) (fun _ h => h) dJ4_coder_7 ?_
    refine lv_goto (tgt := 14) hx hb dJ4_coder_10 (by decide) ?_
    exact rt_i F dJ4_coder_14 rfl () h hP hD hS (Nat.le_refl _) (Nat.le_refl _)
set_option maxHeartbeats 4000000 in
theorem ct_J4_coder_i6 {l : Launch} {V : evT} {D : va_G} {gI : Nat → ClassId} {Q : Int32 → Prop} (h : wp_J4_coder 6  Q) : ct_i l V D vwCl (tyL gI) yJ4_coder cJ4_coder 1 .byte { frames := 1, cells := 0, slots := 0, locals := 12 } [.ref (V.1 6)] [] (fun u : Unit => []) (fun (x : Int32) (u : Unit) => Q x) := by
  refine ct_ofi RJ4 rfl (by decide +kernel) (Nat.le_of_ble_eq_true rfl) ?_
  intro p e s m args below meth c A F hP hD ls hl
  obtain ⟨⟨hx, hb, hml, hown, hts⟩, hr, hlocks, hA, hK, hE⟩ := id F
  have hS : va_S A s.heap s.heap [] := va_S.rf
  have hl : lv_has ls 1 [(0, .ref (V.1 6))] := hl
  have hRf : 1 ≤ ({ frames := 1, cells := 0, slots := 0, locals := 12 } : Room).frames := Nat.le_refl _
  have hRl : 12 ≤ ({ frames := 1, cells := 0, slots := 0, locals := 12 } : Room).locals := Nat.le_refl _
  have hC : 0 ≤ ({ frames := 1, cells := 0, slots := 0, locals := 12 } : Room).cells := Nat.le_refl _
  have hSl : 0 ≤ ({ frames := 1, cells := 0, slots := 0, locals := 12 } : Room).slots := Nat.le_refl _
  unfold wp_J4_coder at h
  refine va_gets hx hb hE.2.2.2.2.2.1 hS hown (hts _ q833) (fun _ h => h) dJ4_coder_0 ?_
  refine lv_if_eq (tgt := 13) hx hb dJ4_coder_3 (by decide) (fun c1 => ?_) (fun c1 => ?_)
  · replace h := h.1 c1
    refine lv_iconst (v := (1 : Int32)) hx hb dJ4_coder_13 (by decide) ?_
    exact rt_i F dJ4_coder_14 rfl () h hP hD hS (Nat.le_refl _) (Nat.le_refl _)
  · replace h := h.2 c1
    refine lv_aload_n hx hb dJ4_coder_6 rfl (lv_at hl 0 rfl) ?_
    refine vk_getf (v := .int (0 : Int32)) hx hb ((hE.2.2.1 6 _ rfl).2.1 0 (by decide)).2.1 hS hown (hts _ q1881) (fun _ h => h) dJ4_coder_7 ?_
    refine lv_goto (tgt := 14) hx hb dJ4_coder_10 (by decide) ?_
    exact rt_i F dJ4_coder_14 rfl () h hP hD hS (Nat.le_refl _) (Nat.le_refl _)
set_option maxHeartbeats 4000000 in
theorem ct_J4_coder_i7 {l : Launch} {V : evT} {D : va_G} {gI : Nat → ClassId} {Q : Int32 → Prop} (h : wp_J4_coder 7  Q) : ct_i l V D vwCl (tyL gI) yJ4_coder cJ4_coder 1 .byte { frames := 1, cells := 0, slots := 0, locals := 12 } [.ref (V.1 7)] [] (fun u : Unit => []) (fun (x : Int32) (u : Unit) => Q x) := by
  refine ct_ofi RJ4 rfl (by decide +kernel) (Nat.le_of_ble_eq_true rfl) ?_
  intro p e s m args below meth c A F hP hD ls hl
  obtain ⟨⟨hx, hb, hml, hown, hts⟩, hr, hlocks, hA, hK, hE⟩ := id F
  have hS : va_S A s.heap s.heap [] := va_S.rf
  have hl : lv_has ls 1 [(0, .ref (V.1 7))] := hl
  have hRf : 1 ≤ ({ frames := 1, cells := 0, slots := 0, locals := 12 } : Room).frames := Nat.le_refl _
  have hRl : 12 ≤ ({ frames := 1, cells := 0, slots := 0, locals := 12 } : Room).locals := Nat.le_refl _
  have hC : 0 ≤ ({ frames := 1, cells := 0, slots := 0, locals := 12 } : Room).cells := Nat.le_refl _
  have hSl : 0 ≤ ({ frames := 1, cells := 0, slots := 0, locals := 12 } : Room).slots := Nat.le_refl _
  unfold wp_J4_coder at h
  refine va_gets hx hb hE.2.2.2.2.2.1 hS hown (hts _ q833) (fun _ h => h) dJ4_coder_0 ?_
  refine lv_if_eq (tgt := 13) hx hb dJ4_coder_3 (by decide) (fun c1 => ?_) (fun c1 => ?_)
  · replace h := h.1 c1
    refine lv_iconst (v := (1 : Int32)) hx hb dJ4_coder_13 (by decide) ?_
    exact rt_i F dJ4_coder_14 rfl () h hP hD hS (Nat.le_refl _) (Nat.le_refl _)
  · replace h := h.2 c1
    refine lv_aload_n hx hb dJ4_coder_6 rfl (lv_at hl 0 rfl) ?_
    refine vk_getf (v := .int (0 : Int32)) hx hb ((hE.2.2.1 7 _ rfl).2.1 0 (by decide)).2.1 hS hown (hts _ q1881) (fun _ h => h) dJ4_coder_7 ?_
    refine lv_goto (tgt := 14) hx hb dJ4_coder_10 (by decide) ?_
    exact rt_i F dJ4_coder_14 rfl () h hP hD hS (Nat.le_refl _) (Nat.le_refl _)
set_option maxHeartbeats 4000000 in
theorem ct_J4_length_i0 {l : Launch} {V : evT} {D : va_G} {gI : Nat → ClassId} {Q : Int32 → Prop} (h : wp_J4_length 0  Q) : ct_i l V D vwCl (tyL gI) yJ4_length cJ4_length 1 .int { frames := 2, cells := 0, slots := 0, locals := 32 } [.ref (V.1 0)] [] (fun u : Unit => []) (fun (x : Int32) (u : Unit) => Q x) := by
  refine ct_ofi RJ4 rfl (by decide +kernel) (Nat.le_of_ble_eq_true rfl) ?_
  intro p e s m args below meth c A F hP hD ls hl
  obtain ⟨⟨hx, hb, hml, hown, hts⟩, hr, hlocks, hA, hK, hE⟩ := id F
  have hS : va_S A s.heap s.heap [] := va_S.rf
  have hl : lv_has ls 1 [(0, .ref (V.1 0))] := hl
  have hRf : 2 ≤ ({ frames := 2, cells := 0, slots := 0, locals := 32 } : Room).frames := Nat.le_refl _
  have hRl : 32 ≤ ({ frames := 2, cells := 0, slots := 0, locals := 32 } : Room).locals := Nat.le_refl _
  have hC : 0 ≤ ({ frames := 2, cells := 0, slots := 0, locals := 32 } : Room).cells := Nat.le_refl _
  have hSl : 0 ≤ ({ frames := 2, cells := 0, slots := 0, locals := 32 } : Room).slots := Nat.le_refl _
  unfold wp_J4_length at h
  refine lv_aload_n hx hb dJ4_length_0 rfl (lv_at hl 0 rfl) ?_
  refine vk_getf (v := .ref (V.2 0)) hx hb ((hE.2.2.1 0 _ rfl).2.1 0 (by decide)).2.2.1 hS hown (hts _ q1880) (fun _ h => h) dJ4_length_1 ?_
  refine va_tlen (v := nI (sB 0).length) hx hb ((hE.2.2.1 0 _ rfl).2.1 0 (by decide)).2.2.2 hS rfl dJ4_length_4 ?_
  refine lv_aload_n hx hb dJ4_length_5 rfl (lv_at hl 0 rfl) ?_
  refine cl_i0 F (va_runV (As := []) (rest := [.int (nI (sB 0).length)]) ⟨hx, hb, hml, hown, hts⟩ (ct_J4_coder_i0 h _) (cwV 0 hts (lw_V q839 q840 q841 q106 q842) rfl rfl rfl (by decide +kernel) ⟨Nat.le_trans (Nat.le_of_ble_eq_true rfl) hRf, Nat.le_trans (Nat.le_of_ble_eq_true rfl) hRl⟩) ⟨ct_blind, vk_recv (N := 1) (i := 0) (hE.2.2.1 0 _ rfl).2 (by decide) hS, ct_at F hS ct_nP ct_nD⟩ rfl rfl hl.1 rfl (lv_room (Nat.le_of_ble_eq_true rfl)) dJ4_length_6 ⟨hC, hSl⟩) rfl rfl hP hS ?_
  rintro x1 _ H locs h hP hS
  refine lv_ishr hx hb dJ4_length_9 ?_
  exact rt_i F dJ4_length_10 rfl () h hP hD hS (Nat.le_refl _) (Nat.le_refl _)
set_option maxHeartbeats 4000000 in
theorem ct_J4_length_i1 {l : Launch} {V : evT} {D : va_G} {gI : Nat → ClassId} {Q : Int32 → Prop} (h : wp_J4_length 1  Q) : ct_i l V D vwCl (tyL gI) yJ4_length cJ4_length 1 .int { frames := 2, cells := 0, slots := 0, locals := 32 } [.ref (V.1 1)] [] (fun u : Unit => []) (fun (x : Int32) (u : Unit) => Q x) := by
  refine ct_ofi RJ4 rfl (by decide +kernel) (Nat.le_of_ble_eq_true rfl) ?_
  intro p e s m args below meth c A F hP hD ls hl
  obtain ⟨⟨hx, hb, hml, hown, hts⟩, hr, hlocks, hA, hK, hE⟩ := id F
  have hS : va_S A s.heap s.heap [] := va_S.rf
  have hl : lv_has ls 1 [(0, .ref (V.1 1))] := hl
  have hRf : 2 ≤ ({ frames := 2, cells := 0, slots := 0, locals := 32 } : Room).frames := Nat.le_refl _
  have hRl : 32 ≤ ({ frames := 2, cells := 0, slots := 0, locals := 32 } : Room).locals := Nat.le_refl _
  have hC : 0 ≤ ({ frames := 2, cells := 0, slots := 0, locals := 32 } : Room).cells := Nat.le_refl _
  have hSl : 0 ≤ ({ frames := 2, cells := 0, slots := 0, locals := 32 } : Room).slots := Nat.le_refl _
  unfold wp_J4_length at h
  refine lv_aload_n hx hb dJ4_length_0 rfl (lv_at hl 0 rfl) ?_
  refine vk_getf (v := .ref (V.2 1)) hx hb ((hE.2.2.1 1 _ rfl).2.1 0 (by decide)).2.2.1 hS hown (hts _ q1880) (fun _ h => h) dJ4_length_1 ?_
  refine va_tlen (v := nI (sB 1).length) hx hb ((hE.2.2.1 1 _ rfl).2.1 0 (by decide)).2.2.2 hS rfl dJ4_length_4 ?_
  refine lv_aload_n hx hb dJ4_length_5 rfl (lv_at hl 0 rfl) ?_
  refine cl_i0 F (va_runV (As := []) (rest := [.int (nI (sB 1).length)]) ⟨hx, hb, hml, hown, hts⟩ (ct_J4_coder_i1 h _) (cwV 0 hts (lw_V q839 q840 q841 q106 q842) rfl rfl rfl (by decide +kernel) ⟨Nat.le_trans (Nat.le_of_ble_eq_true rfl) hRf, Nat.le_trans (Nat.le_of_ble_eq_true rfl) hRl⟩) ⟨ct_blind, vk_recv (N := 1) (i := 0) (hE.2.2.1 1 _ rfl).2 (by decide) hS, ct_at F hS ct_nP ct_nD⟩ rfl rfl hl.1 rfl (lv_room (Nat.le_of_ble_eq_true rfl)) dJ4_length_6 ⟨hC, hSl⟩) rfl rfl hP hS ?_
  rintro x1 _ H locs h hP hS
  refine lv_ishr hx hb dJ4_length_9 ?_
  exact rt_i F dJ4_length_10 rfl () h hP hD hS (Nat.le_refl _) (Nat.le_refl _)
set_option maxHeartbeats 4000000 in
theorem ct_J4_length_i2 {l : Launch} {V : evT} {D : va_G} {gI : Nat → ClassId} {Q : Int32 → Prop} (h : wp_J4_length 2  Q) : ct_i l V D vwCl (tyL gI) yJ4_length cJ4_length 1 .int { frames := 2, cells := 0, slots := 0, locals := 32 } [.ref (V.1 2)] [] (fun u : Unit => []) (fun (x : Int32) (u : Unit) => Q x) := by
  refine ct_ofi RJ4 rfl (by decide +kernel) (Nat.le_of_ble_eq_true rfl) ?_
  intro p e s m args below meth c A F hP hD ls hl
  obtain ⟨⟨hx, hb, hml, hown, hts⟩, hr, hlocks, hA, hK, hE⟩ := id F
  have hS : va_S A s.heap s.heap [] := va_S.rf
  have hl : lv_has ls 1 [(0, .ref (V.1 2))] := hl
  have hRf : 2 ≤ ({ frames := 2, cells := 0, slots := 0, locals := 32 } : Room).frames := Nat.le_refl _
  have hRl : 32 ≤ ({ frames := 2, cells := 0, slots := 0, locals := 32 } : Room).locals := Nat.le_refl _
  have hC : 0 ≤ ({ frames := 2, cells := 0, slots := 0, locals := 32 } : Room).cells := Nat.le_refl _
  have hSl : 0 ≤ ({ frames := 2, cells := 0, slots := 0, locals := 32 } : Room).slots := Nat.le_refl _
  unfold wp_J4_length at h
  refine lv_aload_n hx hb dJ4_length_0 rfl (lv_at hl 0 rfl) ?_
  refine vk_getf (v := .ref (V.2 2)) hx hb ((hE.2.2.1 2 _ rfl).2.1 0 (by decide)).2.2.1 hS hown (hts _ q1880) (fun _ h => h) dJ4_length_1 ?_
  refine va_tlen (v := nI (sB 2).length) hx hb ((hE.2.2.1 2 _ rfl).2.1 0 (by decide)).2.2.2 hS rfl dJ4_length_4 ?_
  refine lv_aload_n hx hb dJ4_length_5 rfl (lv_at hl 0 rfl) ?_
  refine cl_i0 F (va_runV (As := []) (rest := [.int (nI (sB 2).length)]) ⟨hx, hb, hml, hown, hts⟩ (ct_J4_coder_i2 h _) (cwV 0 hts (lw_V q839 q840 q841 q106 q842) rfl rfl rfl (by decide +kernel) ⟨Nat.le_trans (Nat.le_of_ble_eq_true rfl) hRf, Nat.le_trans (Nat.le_of_ble_eq_true rfl) hRl⟩) ⟨ct_blind, vk_recv (N := 1) (i := 0) (hE.2.2.1 2 _ rfl).2 (by decide) hS, ct_at F hS ct_nP ct_nD⟩ rfl rfl hl.1 rfl (lv_room (Nat.le_of_ble_eq_true rfl)) dJ4_length_6 ⟨hC, hSl⟩) rfl rfl hP hS ?_
  rintro x1 _ H locs h hP hS
  refine lv_ishr hx hb dJ4_length_9 ?_
  exact rt_i F dJ4_length_10 rfl () h hP hD hS (Nat.le_refl _) (Nat.le_refl _)
set_option maxHeartbeats 4000000 in
theorem ct_J4_length_i3 {l : Launch} {V : evT} {D : va_G} {gI : Nat → ClassId} {Q : Int32 → Prop} (h : wp_J4_length 3  Q) : ct_i l V D vwCl (tyL gI) yJ4_length cJ4_length 1 .int { frames := 2, cells := 0, slots := 0, locals := 32 } [.ref (V.1 3)] [] (fun u : Unit => []) (fun (x : Int32) (u : Unit) => Q x) := by
  refine ct_ofi RJ4 rfl (by decide +kernel) (Nat.le_of_ble_eq_true rfl) ?_
  intro p e s m args below meth c A F hP hD ls hl
  obtain ⟨⟨hx, hb, hml, hown, hts⟩, hr, hlocks, hA, hK, hE⟩ := id F
  have hS : va_S A s.heap s.heap [] := va_S.rf
  have hl : lv_has ls 1 [(0, .ref (V.1 3))] := hl
  have hRf : 2 ≤ ({ frames := 2, cells := 0, slots := 0, locals := 32 } : Room).frames := Nat.le_refl _
  have hRl : 32 ≤ ({ frames := 2, cells := 0, slots := 0, locals := 32 } : Room).locals := Nat.le_refl _
  have hC : 0 ≤ ({ frames := 2, cells := 0, slots := 0, locals := 32 } : Room).cells := Nat.le_refl _
  have hSl : 0 ≤ ({ frames := 2, cells := 0, slots := 0, locals := 32 } : Room).slots := Nat.le_refl _
  unfold wp_J4_length at h
  refine lv_aload_n hx hb dJ4_length_0 rfl (lv_at hl 0 rfl) ?_
  refine vk_getf (v := .ref (V.2 3)) hx hb ((hE.2.2.1 3 _ rfl).2.1 0 (by decide)).2.2.1 hS hown (hts _ q1880) (fun _ h => h) dJ4_length_1 ?_
  refine va_tlen (v := nI (sB 3).length) hx hb ((hE.2.2.1 3 _ rfl).2.1 0 (by decide)).2.2.2 hS rfl dJ4_length_4 ?_
  refine lv_aload_n hx hb dJ4_length_5 rfl (lv_at hl 0 rfl) ?_
  refine cl_i0 F (va_runV (As := []) (rest := [.int (nI (sB 3).length)]) ⟨hx, hb, hml, hown, hts⟩ (ct_J4_coder_i3 h _) (cwV 0 hts (lw_V q839 q840 q841 q106 q842) rfl rfl rfl (by decide +kernel) ⟨Nat.le_trans (Nat.le_of_ble_eq_true rfl) hRf, Nat.le_trans (Nat.le_of_ble_eq_true rfl) hRl⟩) ⟨ct_blind, vk_recv (N := 1) (i := 0) (hE.2.2.1 3 _ rfl).2 (by decide) hS, ct_at F hS ct_nP ct_nD⟩ rfl rfl hl.1 rfl (lv_room (Nat.le_of_ble_eq_true rfl)) dJ4_length_6 ⟨hC, hSl⟩) rfl rfl hP hS ?_
  rintro x1 _ H locs h hP hS
  refine lv_ishr hx hb dJ4_length_9 ?_
  exact rt_i F dJ4_length_10 rfl () h hP hD hS (Nat.le_refl _) (Nat.le_refl _)
set_option maxHeartbeats 4000000 in
theorem ct_J4_length_i4 {l : Launch} {V : evT} {D : va_G} {gI : Nat → ClassId} {Q : Int32 → Prop} (h : wp_J4_length 4  Q) : ct_i l V D vwCl (tyL gI) yJ4_length cJ4_length 1 .int { frames := 2, cells := 0, slots := 0, locals := 32 } [.ref (V.1 4)] [] (fun u : Unit => []) (fun (x : Int32) (u : Unit) => Q x) := by
  refine ct_ofi RJ4 rfl (by decide +kernel) (Nat.le_of_ble_eq_true rfl) ?_
  intro p e s m args below meth c A F hP hD ls hl
  obtain ⟨⟨hx, hb, hml, hown, hts⟩, hr, hlocks, hA, hK, hE⟩ := id F
  have hS : va_S A s.heap s.heap [] := va_S.rf
  have hl : lv_has ls 1 [(0, .ref (V.1 4))] := hl
  have hRf : 2 ≤ ({ frames := 2, cells := 0, slots := 0, locals := 32 } : Room).frames := Nat.le_refl _
  have hRl : 32 ≤ ({ frames := 2, cells := 0, slots := 0, locals := 32 } : Room).locals := Nat.le_refl _
  have hC : 0 ≤ ({ frames := 2, cells := 0, slots := 0, locals := 32 } : Room).cells := Nat.le_refl _
  have hSl : 0 ≤ ({ frames := 2, cells := 0, slots := 0, locals := 32 } : Room).slots := Nat.le_refl _
  unfold wp_J4_length at h
  refine lv_aload_n hx hb dJ4_length_0 rfl (lv_at hl 0 rfl) ?_
  refine vk_getf (v := .ref (V.2 4)) hx hb ((hE.2.2.1 4 _ rfl).2.1 0 (by decide)).2.2.1 hS hown (hts _ q1880) (fun _ h => h) dJ4_length_1 ?_
  refine va_tlen (v := nI (sB 4).length) hx hb ((hE.2.2.1 4 _ rfl).2.1 0 (by decide)).2.2.2 hS rfl dJ4_length_4 ?_
  refine lv_aload_n hx hb dJ4_length_5 rfl (lv_at hl 0 rfl) ?_
  refine cl_i0 F (va_runV (As := []) (rest := [.int (nI (sB 4).length)]) ⟨hx, hb, hml, hown, hts⟩ (ct_J4_coder_i4 h _) (cwV 0 hts (lw_V q839 q840 q841 q106 q842) rfl rfl rfl (by decide +kernel) ⟨Nat.le_trans (Nat.le_of_ble_eq_true rfl) hRf, Nat.le_trans (Nat.le_of_ble_eq_true rfl) hRl⟩) ⟨ct_blind, vk_recv (N := 1) (i := 0) (hE.2.2.1 4 _ rfl).2 (by decide) hS, ct_at F hS ct_nP ct_nD⟩ rfl rfl hl.1 rfl (lv_room (Nat.le_of_ble_eq_true rfl)) dJ4_length_6 ⟨hC, hSl⟩) rfl rfl hP hS ?_
  rintro x1 _ H locs h hP hS
  refine lv_ishr hx hb dJ4_length_9 ?_
  exact rt_i F dJ4_length_10 rfl () h hP hD hS (Nat.le_refl _) (Nat.le_refl _)
set_option maxHeartbeats 4000000 in
theorem ct_J4_length_i5 {l : Launch} {V : evT} {D : va_G} {gI : Nat → ClassId} {Q : Int32 → Prop} (h : wp_J4_length 5  Q) : ct_i l V D vwCl (tyL gI) yJ4_length cJ4_length 1 .int { frames := 2, cells := 0, slots := 0, locals := 32 } [.ref (V.1 5)] [] (fun u : Unit => []) (fun (x : Int32) (u : Unit) => Q x) := by
  refine ct_ofi RJ4 rfl (by decide +kernel) (Nat.le_of_ble_eq_true rfl) ?_
  intro p e s m args below meth c A F hP hD ls hl
  obtain ⟨⟨hx, hb, hml, hown, hts⟩, hr, hlocks, hA, hK, hE⟩ := id F
  have hS : va_S A s.heap s.heap [] := va_S.rf
  have hl : lv_has ls 1 [(0, .ref (V.1 5))] := hl
  have hRf : 2 ≤ ({ frames := 2, cells := 0, slots := 0, locals := 32 } : Room).frames := Nat.le_refl _
  have hRl : 32 ≤ ({ frames := 2, cells := 0, slots := 0, locals := 32 } : Room).locals := Nat.le_refl _
  have hC : 0 ≤ ({ frames := 2, cells := 0, slots := 0, locals := 32 } : Room).cells := Nat.le_refl _
  have hSl : 0 ≤ ({ frames := 2, cells := 0, slots := 0, locals := 32 } : Room).slots := Nat.le_refl _
  unfold wp_J4_length at h
  refine lv_aload_n hx hb dJ4_length_0 rfl (lv_at hl 0 rfl) ?_
  refine vk_getf (v := .ref (V.2 5)) hx hb ((hE.2.2.1 5 _ rfl).2.1 0 (by decide)).2.2.1 hS hown (hts _ q1880) (fun _ h => h) dJ4_length_1 ?_
  refine va_tlen (v := nI (sB 5).length) hx hb ((hE.2.2.1 5 _ rfl).2.1 0 (by decide)).2.2.2 hS rfl dJ4_length_4 ?_
  refine lv_aload_n hx hb dJ4_length_5 rfl (lv_at hl 0 rfl) ?_
  refine cl_i0 F (va_runV (As := []) (rest := [.int (nI (sB 5).length)]) ⟨hx, hb, hml, hown, hts⟩ (ct_J4_coder_i5 h _) (cwV 0 hts (lw_V q839 q840 q841 q106 q842) rfl rfl rfl (by decide +kernel) ⟨Nat.le_trans (Nat.le_of_ble_eq_true rfl) hRf, Nat.le_trans (Nat.le_of_ble_eq_true rfl) hRl⟩) ⟨ct_blind, vk_recv (N := 1) (i := 0) (hE.2.2.1 5 _ rfl).2 (by decide) hS, ct_at F hS ct_nP ct_nD⟩ rfl rfl hl.1 rfl (lv_room (Nat.le_of_ble_eq_true rfl)) dJ4_length_6 ⟨hC, hSl⟩) rfl rfl hP hS ?_
  rintro x1 _ H locs h hP hS
  refine lv_ishr hx hb dJ4_length_9 ?_
  exact rt_i F dJ4_length_10 rfl () h hP hD hS (Nat.le_refl _) (Nat.le_refl _)
set_option maxHeartbeats 4000000 in
theorem ct_J4_length_i6 {l : Launch} {V : evT} {D : va_G} {gI : Nat → ClassId} {Q : Int32 → Prop} (h : wp_J4_length 6  Q) : ct_i l V D vwCl (tyL gI) yJ4_length cJ4_length 1 .int { frames := 2, cells := 0, slots := 0, locals := 32 } [.ref (V.1 6)] [] (fun u : Unit => []) (fun (x : Int32) (u : Unit) => Q x) := by
  refine ct_ofi RJ4 rfl (by decide +kernel) (Nat.le_of_ble_eq_true rfl) ?_
  intro p e s m args below meth c A F hP hD ls hl
  obtain ⟨⟨hx, hb, hml, hown, hts⟩, hr, hlocks, hA, hK, hE⟩ := id F
  have hS : va_S A s.heap s.heap [] := va_S.rf
  have hl : lv_has ls 1 [(0, .ref (V.1 6))] := hl
  have hRf : 2 ≤ ({ frames := 2, cells := 0, slots := 0, locals := 32 } : Room).frames := Nat.le_refl _
  have hRl : 32 ≤ ({ frames := 2, cells := 0, slots := 0, locals := 32 } : Room).locals := Nat.le_refl _
  have hC : 0 ≤ ({ frames := 2, cells := 0, slots := 0, locals := 32 } : Room).cells := Nat.le_refl _
  have hSl : 0 ≤ ({ frames := 2, cells := 0, slots := 0, locals := 32 } : Room).slots := Nat.le_refl _
  unfold wp_J4_length at h
  refine lv_aload_n hx hb dJ4_length_0 rfl (lv_at hl 0 rfl) ?_
  refine vk_getf (v := .ref (V.2 6)) hx hb ((hE.2.2.1 6 _ rfl).2.1 0 (by decide)).2.2.1 hS hown (hts _ q1880) (fun _ h => h) dJ4_length_1 ?_
  refine va_tlen (v := nI (sB 6).length) hx hb ((hE.2.2.1 6 _ rfl).2.1 0 (by decide)).2.2.2 hS rfl dJ4_length_4 ?_
  refine lv_aload_n hx hb dJ4_length_5 rfl (lv_at hl 0 rfl) ?_
  refine cl_i0 F (va_runV (As := []) (rest := [.int (nI (sB 6).length)]) ⟨hx, hb, hml, hown, hts⟩ (ct_J4_coder_i6 h _) (cwV 0 hts (lw_V q839 q840 q841 q106 q842) rfl rfl rfl (by decide +kernel) ⟨Nat.le_trans (Nat.le_of_ble_eq_true rfl) hRf, Nat.le_trans (Nat.le_of_ble_eq_true rfl) hRl⟩) ⟨ct_blind, vk_recv (N := 1) (i := 0) (hE.2.2.1 6 _ rfl).2 (by decide) hS, ct_at F hS ct_nP ct_nD⟩ rfl rfl hl.1 rfl (lv_room (Nat.le_of_ble_eq_true rfl)) dJ4_length_6 ⟨hC, hSl⟩) rfl rfl hP hS ?_
  rintro x1 _ H locs h hP hS
  refine lv_ishr hx hb dJ4_length_9 ?_
  exact rt_i F dJ4_length_10 rfl () h hP hD hS (Nat.le_refl _) (Nat.le_refl _)
set_option maxHeartbeats 4000000 in
theorem ct_J4_length_i7 {l : Launch} {V : evT} {D : va_G} {gI : Nat → ClassId} {Q : Int32 → Prop} (h : wp_J4_length 7  Q) : ct_i l V D vwCl (tyL gI) yJ4_length cJ4_length 1 .int { frames := 2, cells := 0, slots := 0, locals := 32 } [.ref (V.1 7)] [] (fun u : Unit => []) (fun (x : Int32) (u : Unit) => Q x) := by
  refine ct_ofi RJ4 rfl (by decide +kernel) (Nat.le_of_ble_eq_true rfl) ?_
  intro p e s m args below meth c A F hP hD ls hl
  obtain ⟨⟨hx, hb, hml, hown, hts⟩, hr, hlocks, hA, hK, hE⟩ := id F
  have hS : va_S A s.heap s.heap [] := va_S.rf
  have hl : lv_has ls 1 [(0, .ref (V.1 7))] := hl
  have hRf : 2 ≤ ({ frames := 2, cells := 0, slots := 0, locals := 32 } : Room).frames := Nat.le_refl _
  have hRl : 32 ≤ ({ frames := 2, cells := 0, slots := 0, locals := 32 } : Room).locals := Nat.le_refl _
  have hC : 0 ≤ ({ frames := 2, cells := 0, slots := 0, locals := 32 } : Room).cells := Nat.le_refl _
  have hSl : 0 ≤ ({ frames := 2, cells := 0, slots := 0, locals := 32 } : Room).slots := Nat.le_refl _
  unfold wp_J4_length at h
  refine lv_aload_n hx hb dJ4_length_0 rfl (lv_at hl 0 rfl) ?_
  refine vk_getf (v := .ref (V.2 7)) hx hb ((hE.2.2.1 7 _ rfl).2.1 0 (by decide)).2.2.1 hS hown (hts _ q1880) (fun _ h => h) dJ4_length_1 ?_
  refine va_tlen (v := nI (sB 7).length) hx hb ((hE.2.2.1 7 _ rfl).2.1 0 (by decide)).2.2.2 hS rfl dJ4_length_4 ?_
  refine lv_aload_n hx hb dJ4_length_5 rfl (lv_at hl 0 rfl) ?_
  refine cl_i0 F (va_runV (As := []) (rest := [.int (nI (sB 7).length)]) ⟨hx, hb, hml, hown, hts⟩ (ct_J4_coder_i7 h _) (cwV 0 hts (lw_V q839 q840 q841 q106 q842) rfl rfl rfl (by decide +kernel) ⟨Nat.le_trans (Nat.le_of_ble_eq_true rfl) hRf, Nat.le_trans (Nat.le_of_ble_eq_true rfl) hRl⟩) ⟨ct_blind, vk_recv (N := 1) (i := 0) (hE.2.2.1 7 _ rfl).2 (by decide) hS, ct_at F hS ct_nP ct_nD⟩ rfl rfl hl.1 rfl (lv_room (Nat.le_of_ble_eq_true rfl)) dJ4_length_6 ⟨hC, hSl⟩) rfl rfl hP hS ?_
  rintro x1 _ H locs h hP hS
  refine lv_ishr hx hb dJ4_length_9 ?_
  exact rt_i F dJ4_length_10 rfl () h hP hD hS (Nat.le_refl _) (Nat.le_refl _)
set_option maxHeartbeats 4000000 in
theorem ct_J4_isLatin1_i0 {l : Launch} {V : evT} {D : va_G} {gI : Nat → ClassId} {Q : Int32 → Prop} (h : wp_J4_isLatin1 0  Q) : ct_i l V D vwCl (tyL gI) yJ4_isLatin1 cJ4_isLatin1 1 .boolean { frames := 1, cells := 0, slots := 0, locals := 12 } [.ref (V.1 0)] [] (fun u : Unit => []) (fun (x : Int32) (u : Unit) => Q x) := by
  refine ct_ofi RJ4 rfl (by decide +kernel) (Nat.le_of_ble_eq_true rfl) ?_
  intro p e s m args below meth c A F hP hD ls hl
  obtain ⟨⟨hx, hb, hml, hown, hts⟩, hr, hlocks, hA, hK, hE⟩ := id F
  have hS : va_S A s.heap s.heap [] := va_S.rf
  have hl : lv_has ls 1 [(0, .ref (V.1 0))] := hl
  have hRf : 1 ≤ ({ frames := 1, cells := 0, slots := 0, locals := 12 } : Room).frames := Nat.le_refl _
  have hRl : 12 ≤ ({ frames := 1, cells := 0, slots := 0, locals := 12 } : Room).locals := Nat.le_refl _
  have hC : 0 ≤ ({ frames := 1, cells := 0, slots := 0, locals := 12 } : Room).cells := Nat.le_refl _
  have hSl : 0 ≤ ({ frames := 1, cells := 0, slots := 0, locals := 12 } : Room).slots := Nat.le_refl _
  unfold wp_J4_isLatin1 at h
  refine va_gets hx hb hE.2.2.2.2.2.1 hS hown (hts _ q833) (fun _ h => h) dJ4_isLatin1_0 ?_
  refine lv_if_eq (tgt := 17) hx hb dJ4_isLatin1_3 (by decide) (fun c2 => ?_) (fun c2 => ?_)
  · replace h := h.1 c2
    refine lv_iconst (v := (0 : Int32)) hx hb dJ4_isLatin1_17 (by decide) ?_
    exact rt_i F dJ4_isLatin1_18 rfl () h hP hD hS (Nat.le_refl _) (Nat.le_refl _)
  · replace h := h.2 c2
    refine lv_aload_n hx hb dJ4_isLatin1_6 rfl (lv_at hl 0 rfl) ?_
    refine vk_getf (v := .int (0 : Int32)) hx hb ((hE.2.2.1 0 _ rfl).2.1 0 (by decide)).2.1 hS hown (hts _ q1881) (fun _ h => h) dJ4_isLatin1_7 ?_
    refine lv_if_ne (tgt := 17) hx hb dJ4_isLatin1_10 (by decide) (fun c1 => ?_) (fun c1 => ?_)
    · replace h := h.1 c1
      refine lv_iconst (v := (0 : Int32)) hx hb dJ4_isLatin1_17 (by decide) ?_
      exact rt_i F dJ4_isLatin1_18 rfl () h hP hD hS (Nat.le_refl _) (Nat.le_refl _)
    · replace h := h.2 c1
      refine lv_iconst (v := (1 : Int32)) hx hb dJ4_isLatin1_13 (by decide) ?_
      refine lv_goto (tgt := 18) hx hb dJ4_isLatin1_14 (by decide) ?_
      exact rt_i F dJ4_isLatin1_18 rfl () h hP hD hS (Nat.le_refl _) (Nat.le_refl _)
set_option maxHeartbeats 4000000 in
theorem ct_J4_isLatin1_i1 {l : Launch} {V : evT} {D : va_G} {gI : Nat → ClassId} {Q : Int32 → Prop} (h : wp_J4_isLatin1 1  Q) : ct_i l V D vwCl (tyL gI) yJ4_isLatin1 cJ4_isLatin1 1 .boolean { frames := 1, cells := 0, slots := 0, locals := 12 } [.ref (V.1 1)] [] (fun u : Unit => []) (fun (x : Int32) (u : Unit) => Q x) := by
  refine ct_ofi RJ4 rfl (by decide +kernel) (Nat.le_of_ble_eq_true rfl) ?_
  intro p e s m args below meth c A F hP hD ls hl
  obtain ⟨⟨hx, hb, hml, hown, hts⟩, hr, hlocks, hA, hK, hE⟩ := id F
  have hS : va_S A s.heap s.heap [] := va_S.rf
  have hl : lv_has ls 1 [(0, .ref (V.1 1))] := hl
  have hRf : 1 ≤ ({ frames := 1, cells := 0, slots := 0, locals := 12 } : Room).frames := Nat.le_refl _
  have hRl : 12 ≤ ({ frames := 1, cells := 0, slots := 0, locals := 12 } : Room).locals := Nat.le_refl _
  have hC : 0 ≤ ({ frames := 1, cells := 0, slots := 0, locals := 12 } : Room).cells := Nat.le_refl _
  have hSl : 0 ≤ ({ frames := 1, cells := 0, slots := 0, locals := 12 } : Room).slots := Nat.le_refl _
  unfold wp_J4_isLatin1 at h
  refine va_gets hx hb hE.2.2.2.2.2.1 hS hown (hts _ q833) (fun _ h => h) dJ4_isLatin1_0 ?_
  refine lv_if_eq (tgt := 17) hx hb dJ4_isLatin1_3 (by decide) (fun c2 => ?_) (fun c2 => ?_)
  · replace h := h.1 c2
    refine lv_iconst (v := (0 : Int32)) hx hb dJ4_isLatin1_17 (by decide) ?_
    exact rt_i F dJ4_isLatin1_18 rfl () h hP hD hS (Nat.le_refl _) (Nat.le_refl _)
  · replace h := h.2 c2
    refine lv_aload_n hx hb dJ4_isLatin1_6 rfl (lv_at hl 0 rfl) ?_
    refine vk_getf (v := .int (0 : Int32)) hx hb ((hE.2.2.1 1 _ rfl).2.1 0 (by decide)).2.1 hS hown (hts _ q1881) (fun _ h => h) dJ4_isLatin1_7 ?_
    refine lv_if_ne (tgt := 17) hx hb dJ4_isLatin1_10 (by decide) (fun c1 => ?_) (fun c1 => ?_)
    · replace h := h.1 c1
      refine lv_iconst (v := (0 : Int32)) hx hb dJ4_isLatin1_17 (by decide) ?_
      exact rt_i F dJ4_isLatin1_18 rfl () h hP hD hS (Nat.le_refl _) (Nat.le_refl _)
    · replace h := h.2 c1
      refine lv_iconst (v := (1 : Int32)) hx hb dJ4_isLatin1_13 (by decide) ?_
      refine lv_goto (tgt := 18) hx hb dJ4_isLatin1_14 (by decide) ?_
      exact rt_i F dJ4_isLatin1_18 rfl () h hP hD hS (Nat.le_refl _) (Nat.le_refl _)
set_option maxHeartbeats 4000000 in
theorem ct_J4_isLatin1_i2 {l : Launch} {V : evT} {D : va_G} {gI : Nat → ClassId} {Q : Int32 → Prop} (h : wp_J4_isLatin1 2  Q) : ct_i l V D vwCl (tyL gI) yJ4_isLatin1 cJ4_isLatin1 1 .boolean { frames := 1, cells := 0, slots := 0, locals := 12 } [.ref (V.1 2)] [] (fun u : Unit => []) (fun (x : Int32) (u : Unit) => Q x) := by
  refine ct_ofi RJ4 rfl (by decide +kernel) (Nat.le_of_ble_eq_true rfl) ?_
  intro p e s m args below meth c A F hP hD ls hl
  obtain ⟨⟨hx, hb, hml, hown, hts⟩, hr, hlocks, hA, hK, hE⟩ := id F
  have hS : va_S A s.heap s.heap [] := va_S.rf
  have hl : lv_has ls 1 [(0, .ref (V.1 2))] := hl
  have hRf : 1 ≤ ({ frames := 1, cells := 0, slots := 0, locals := 12 } : Room).frames := Nat.le_refl _
  have hRl : 12 ≤ ({ frames := 1, cells := 0, slots := 0, locals := 12 } : Room).locals := Nat.le_refl _
  have hC : 0 ≤ ({ frames := 1, cells := 0, slots := 0, locals := 12 } : Room).cells := Nat.le_refl _
  have hSl : 0 ≤ ({ frames := 1, cells := 0, slots := 0, locals := 12 } : Room).slots := Nat.le_refl _
  unfold wp_J4_isLatin1 at h
  refine va_gets hx hb hE.2.2.2.2.2.1 hS hown (hts _ q833) (fun _ h => h) dJ4_isLatin1_0 ?_
  refine lv_if_eq (tgt := 17) hx hb dJ4_isLatin1_3 (by decide) (fun c2 => ?_) (fun c2 => ?_)
  · replace h := h.1 c2
    refine lv_iconst (v := (0 : Int32)) hx hb dJ4_isLatin1_17 (by decide) ?_
    exact rt_i F dJ4_isLatin1_18 rfl () h hP hD hS (Nat.le_refl _) (Nat.le_refl _)
  · replace h := h.2 c2
    refine lv_aload_n hx hb dJ4_isLatin1_6 rfl (lv_at hl 0 rfl) ?_
    refine vk_getf (v := .int (0 : Int32)) hx hb ((hE.2.2.1 2 _ rfl).2.1 0 (by decide)).2.1 hS hown (hts _ q1881) (fun _ h => h) dJ4_isLatin1_7 ?_
    refine lv_if_ne (tgt := 17) hx hb dJ4_isLatin1_10 (by decide) (fun c1 => ?_) (fun c1 => ?_)
    · replace h := h.1 c1
      refine lv_iconst (v := (0 : Int32)) hx hb dJ4_isLatin1_17 (by decide) ?_
      exact rt_i F dJ4_isLatin1_18 rfl () h hP hD hS (Nat.le_refl _) (Nat.le_refl _)
    · replace h := h.2 c1
      refine lv_iconst (v := (1 : Int32)) hx hb dJ4_isLatin1_13 (by decide) ?_
      refine lv_goto (tgt := 18) hx hb dJ4_isLatin1_14 (by decide) ?_
      exact rt_i F dJ4_isLatin1_18 rfl () h hP hD hS (Nat.le_refl _) (Nat.le_refl _)
set_option maxHeartbeats 4000000 in
theorem ct_J4_isLatin1_i3 {l : Launch} {V : evT} {D : va_G} {gI : Nat → ClassId} {Q : Int32 → Prop} (h : wp_J4_isLatin1 3  Q) : ct_i l V D vwCl (tyL gI) yJ4_isLatin1 cJ4_isLatin1 1 .boolean { frames := 1, cells := 0, slots := 0, locals := 12 } [.ref (V.1 3)] [] (fun u : Unit => []) (fun (x : Int32) (u : Unit) => Q x) := by
  refine ct_ofi RJ4 rfl (by decide +kernel) (Nat.le_of_ble_eq_true rfl) ?_
  intro p e s m args below meth c A F hP hD ls hl
  obtain ⟨⟨hx, hb, hml, hown, hts⟩, hr, hlocks, hA, hK, hE⟩ := id F
  have hS : va_S A s.heap s.heap [] := va_S.rf
  have hl : lv_has ls 1 [(0, .ref (V.1 3))] := hl
  have hRf : 1 ≤ ({ frames := 1, cells := 0, slots := 0, locals := 12 } : Room).frames := Nat.le_refl _
  have hRl : 12 ≤ ({ frames := 1, cells := 0, slots := 0, locals := 12 } : Room).locals := Nat.le_refl _
  have hC : 0 ≤ ({ frames := 1, cells := 0, slots := 0, locals := 12 } : Room).cells := Nat.le_refl _
  have hSl : 0 ≤ ({ frames := 1, cells := 0, slots := 0, locals := 12 } : Room).slots := Nat.le_refl _
  unfold wp_J4_isLatin1 at h
  refine va_gets hx hb hE.2.2.2.2.2.1 hS hown (hts _ q833) (fun _ h => h) dJ4_isLatin1_0 ?_
  refine lv_if_eq (tgt := 17) hx hb dJ4_isLatin1_3 (by decide) (fun c2 => ?_) (fun c2 => ?_)
  · replace h := h.1 c2
    refine lv_iconst (v := (0 : Int32)) hx hb dJ4_isLatin1_17 (by decide) ?_
    exact rt_i F dJ4_isLatin1_18 rfl () h hP hD hS (Nat.le_refl _) (Nat.le_refl _)
  · replace h := h.2 c2
    refine lv_aload_n hx hb dJ4_isLatin1_6 rfl (lv_at hl 0 rfl) ?_
    refine vk_getf (v := .int (0 : Int32)) hx hb ((hE.2.2.1 3 _ rfl).2.1 0 (by decide)).2.1 hS hown (hts _ q1881) (fun _ h => h) dJ4_isLatin1_7 ?_
    refine lv_if_ne (tgt := 17) hx hb dJ4_isLatin1_10 (by decide) (fun c1 => ?_) (fun c1 => ?_)
    · replace h := h.1 c1
      refine lv_iconst (v := (0 : Int32)) hx hb dJ4_isLatin1_17 (by decide) ?_
      exact rt_i F dJ4_isLatin1_18 rfl () h hP hD hS (Nat.le_refl _) (Nat.le_refl _)
    · replace h := h.2 c1
      refine lv_iconst (v := (1 : Int32)) hx hb dJ4_isLatin1_13 (by decide) ?_
      refine lv_goto (tgt := 18) hx hb dJ4_isLatin1_14 (by decide) ?_
      exact rt_i F dJ4_isLatin1_18 rfl () h hP hD hS (Nat.le_refl _) (Nat.le_refl _)
set_option maxHeartbeats 4000000 in
theorem ct_J4_isLatin1_i4 {l : Launch} {V : evT} {D : va_G} {gI : Nat → ClassId} {Q : Int32 → Prop} (h : wp_J4_isLatin1 4  Q) : ct_i l V D vwCl (tyL gI) yJ4_isLatin1 cJ4_isLatin1 1 .boolean { frames := 1, cells := 0, slots := 0, locals := 12 } [.ref (V.1 4)] [] (fun u : Unit => []) (fun (x : Int32) (u : Unit) => Q x) := by
  refine ct_ofi RJ4 rfl (by decide +kernel) (Nat.le_of_ble_eq_true rfl) ?_
  intro p e s m args below meth c A F hP hD ls hl
  obtain ⟨⟨hx, hb, hml, hown, hts⟩, hr, hlocks, hA, hK, hE⟩ := id F
  have hS : va_S A s.heap s.heap [] := va_S.rf
  have hl : lv_has ls 1 [(0, .ref (V.1 4))] := hl
  have hRf : 1 ≤ ({ frames := 1, cells := 0, slots := 0, locals := 12 } : Room).frames := Nat.le_refl _
  have hRl : 12 ≤ ({ frames := 1, cells := 0, slots := 0, locals := 12 } : Room).locals := Nat.le_refl _
  have hC : 0 ≤ ({ frames := 1, cells := 0, slots := 0, locals := 12 } : Room).cells := Nat.le_refl _
  have hSl : 0 ≤ ({ frames := 1, cells := 0, slots := 0, locals := 12 } : Room).slots := Nat.le_refl _
  unfold wp_J4_isLatin1 at h
  refine va_gets hx hb hE.2.2.2.2.2.1 hS hown (hts _ q833) (fun _ h => h) dJ4_isLatin1_0 ?_
  refine lv_if_eq (tgt := 17) hx hb dJ4_isLatin1_3 (by decide) (fun c2 => ?_) (fun c2 => ?_)
  · replace h := h.1 c2
    refine lv_iconst (v := (0 : Int32)) hx hb dJ4_isLatin1_17 (by decide) ?_
    exact rt_i F dJ4_isLatin1_18 rfl () h hP hD hS (Nat.le_refl _) (Nat.le_refl _)
  · replace h := h.2 c2
    refine lv_aload_n hx hb dJ4_isLatin1_6 rfl (lv_at hl 0 rfl) ?_
    refine vk_getf (v := .int (0 : Int32)) hx hb ((hE.2.2.1 4 _ rfl).2.1 0 (by decide)).2.1 hS hown (hts _ q1881) (fun _ h => h) dJ4_isLatin1_7 ?_
    refine lv_if_ne (tgt := 17) hx hb dJ4_isLatin1_10 (by decide) (fun c1 => ?_) (fun c1 => ?_)
    · replace h := h.1 c1
      refine lv_iconst (v := (0 : Int32)) hx hb dJ4_isLatin1_17 (by decide) ?_
      exact rt_i F dJ4_isLatin1_18 rfl () h hP hD hS (Nat.le_refl _) (Nat.le_refl _)
    · replace h := h.2 c1
      refine lv_iconst (v := (1 : Int32)) hx hb dJ4_isLatin1_13 (by decide) ?_
      refine lv_goto (tgt := 18) hx hb dJ4_isLatin1_14 (by decide) ?_
      exact rt_i F dJ4_isLatin1_18 rfl () h hP hD hS (Nat.le_refl _) (Nat.le_refl _)
set_option maxHeartbeats 4000000 in
theorem ct_J4_isLatin1_i5 {l : Launch} {V : evT} {D : va_G} {gI : Nat → ClassId} {Q : Int32 → Prop} (h : wp_J4_isLatin1 5  Q) : ct_i l V D vwCl (tyL gI) yJ4_isLatin1 cJ4_isLatin1 1 .boolean { frames := 1, cells := 0, slots := 0, locals := 12 } [.ref (V.1 5)] [] (fun u : Unit => []) (fun (x : Int32) (u : Unit) => Q x) := by
  refine ct_ofi RJ4 rfl (by decide +kernel) (Nat.le_of_ble_eq_true rfl) ?_
  intro p e s m args below meth c A F hP hD ls hl
  obtain ⟨⟨hx, hb, hml, hown, hts⟩, hr, hlocks, hA, hK, hE⟩ := id F
  have hS : va_S A s.heap s.heap [] := va_S.rf
  have hl : lv_has ls 1 [(0, .ref (V.1 5))] := hl
  have hRf : 1 ≤ ({ frames := 1, cells := 0, slots := 0, locals := 12 } : Room).frames := Nat.le_refl _
  have hRl : 12 ≤ ({ frames := 1, cells := 0, slots := 0, locals := 12 } : Room).locals := Nat.le_refl _
  have hC : 0 ≤ ({ frames := 1, cells := 0, slots := 0, locals := 12 } : Room).cells := Nat.le_refl _
  have hSl : 0 ≤ ({ frames := 1, cells := 0, slots := 0, locals := 12 } : Room).slots := Nat.le_refl _
  unfold wp_J4_isLatin1 at h
  refine va_gets hx hb hE.2.2.2.2.2.1 hS hown (hts _ q833) (fun _ h => h) dJ4_isLatin1_0 ?_
  refine lv_if_eq (tgt := 17) hx hb dJ4_isLatin1_3 (by decide) (fun c2 => ?_) (fun c2 => ?_)
  · replace h := h.1 c2
    refine lv_iconst (v := (0 : Int32)) hx hb dJ4_isLatin1_17 (by decide) ?_
    exact rt_i F dJ4_isLatin1_18 rfl () h hP hD hS (Nat.le_refl _) (Nat.le_refl _)
  · replace h := h.2 c2
    refine lv_aload_n hx hb dJ4_isLatin1_6 rfl (lv_at hl 0 rfl) ?_
    refine vk_getf (v := .int (0 : Int32)) hx hb ((hE.2.2.1 5 _ rfl).2.1 0 (by decide)).2.1 hS hown (hts _ q1881) (fun _ h => h) dJ4_isLatin1_7 ?_
    refine lv_if_ne (tgt := 17) hx hb dJ4_isLatin1_10 (by decide) (fun c1 => ?_) (fun c1 => ?_)
    · replace h := h.1 c1
      refine lv_iconst (v := (0 : Int32)) hx hb dJ4_isLatin1_17 (by decide) ?_
      exact rt_i F dJ4_isLatin1_18 rfl () h hP hD hS (Nat.le_refl _) (Nat.le_refl _)
    · replace h := h.2 c1
      refine lv_iconst (v := (1 : Int32)) hx hb dJ4_isLatin1_13 (by decide) ?_
      refine lv_goto (tgt := 18) hx hb dJ4_isLatin1_14 (by decide) ?_
      exact rt_i F dJ4_isLatin1_18 rfl () h hP hD hS (Nat.le_refl _) (Nat.le_refl _)
set_option maxHeartbeats 4000000 in
theorem ct_J4_isLatin1_i6 {l : Launch} {V : evT} {D : va_G} {gI : Nat → ClassId} {Q : Int32 → Prop} (h : wp_J4_isLatin1 6  Q) : ct_i l V D vwCl (tyL gI) yJ4_isLatin1 cJ4_isLatin1 1 .boolean { frames := 1, cells := 0, slots := 0, locals := 12 } [.ref (V.1 6)] [] (fun u : Unit => []) (fun (x : Int32) (u : Unit) => Q x) := by
  refine ct_ofi RJ4 rfl (by decide +kernel) (Nat.le_of_ble_eq_true rfl) ?_
  intro p e s m args below meth c A F hP hD ls hl
  obtain ⟨⟨hx, hb, hml, hown, hts⟩, hr, hlocks, hA, hK, hE⟩ := id F
  have hS : va_S A s.heap s.heap [] := va_S.rf
  have hl : lv_has ls 1 [(0, .ref (V.1 6))] := hl
  have hRf : 1 ≤ ({ frames := 1, cells := 0, slots := 0, locals := 12 } : Room).frames := Nat.le_refl _
  have hRl : 12 ≤ ({ frames := 1, cells := 0, slots := 0, locals := 12 } : Room).locals := Nat.le_refl _
  have hC : 0 ≤ ({ frames := 1, cells := 0, slots := 0, locals := 12 } : Room).cells := Nat.le_refl _
  have hSl : 0 ≤ ({ frames := 1, cells := 0, slots := 0, locals := 12 } : Room).slots := Nat.le_refl _
  unfold wp_J4_isLatin1 at h
  refine va_gets hx hb hE.2.2.2.2.2.1 hS hown (hts _ q833) (fun _ h => h) dJ4_isLatin1_0 ?_
  refine lv_if_eq (tgt := 17) hx hb dJ4_isLatin1_3 (by decide) (fun c2 => ?_) (fun c2 => ?_)
  · replace h := h.1 c2
    refine lv_iconst (v := (0 : Int32)) hx hb dJ4_isLatin1_17 (by decide) ?_
    exact rt_i F dJ4_isLatin1_18 rfl () h hP hD hS (Nat.le_refl _) (Nat.le_refl _)
  · replace h := h.2 c2
    refine lv_aload_n hx hb dJ4_isLatin1_6 rfl (lv_at hl 0 rfl) ?_
    refine vk_getf (v := .int (0 : Int32)) hx hb ((hE.2.2.1 6 _ rfl).2.1 0 (by decide)).2.1 hS hown (hts _ q1881) (fun _ h => h) dJ4_isLatin1_7 ?_
    refine lv_if_ne (tgt := 17) hx hb dJ4_isLatin1_10 (by decide) (fun c1 => ?_) (fun c1 => ?_)
    · replace h := h.1 c1
      refine lv_iconst (v := (0 : Int32)) hx hb dJ4_isLatin1_17 (by decide) ?_
      exact rt_i F dJ4_isLatin1_18 rfl () h hP hD hS (Nat.le_refl _) (Nat.le_refl _)
    · replace h := h.2 c1
      refine lv_iconst (v := (1 : Int32)) hx hb dJ4_isLatin1_13 (by decide) ?_
      refine lv_goto (tgt := 18) hx hb dJ4_isLatin1_14 (by decide) ?_
      exact rt_i F dJ4_isLatin1_18 rfl () h hP hD hS (Nat.le_refl _) (Nat.le_refl _)
set_option maxHeartbeats 4000000 in
theorem ct_J4_isLatin1_i7 {l : Launch} {V : evT} {D : va_G} {gI : Nat → ClassId} {Q : Int32 → Prop} (h : wp_J4_isLatin1 7  Q) : ct_i l V D vwCl (tyL gI) yJ4_isLatin1 cJ4_isLatin1 1 .boolean { frames := 1, cells := 0, slots := 0, locals := 12 } [.ref (V.1 7)] [] (fun u : Unit => []) (fun (x : Int32) (u : Unit) => Q x) := by
  refine ct_ofi RJ4 rfl (by decide +kernel) (Nat.le_of_ble_eq_true rfl) ?_
  intro p e s m args below meth c A F hP hD ls hl
  obtain ⟨⟨hx, hb, hml, hown, hts⟩, hr, hlocks, hA, hK, hE⟩ := id F
  have hS : va_S A s.heap s.heap [] := va_S.rf
  have hl : lv_has ls 1 [(0, .ref (V.1 7))] := hl
  have hRf : 1 ≤ ({ frames := 1, cells := 0, slots := 0, locals := 12 } : Room).frames := Nat.le_refl _
  have hRl : 12 ≤ ({ frames := 1, cells := 0, slots := 0, locals := 12 } : Room).locals := Nat.le_refl _
  have hC : 0 ≤ ({ frames := 1, cells := 0, slots := 0, locals := 12 } : Room).cells := Nat.le_refl _
  have hSl : 0 ≤ ({ frames := 1, cells := 0, slots := 0, locals := 12 } : Room).slots := Nat.le_refl _
  unfold wp_J4_isLatin1 at h
  refine va_gets hx hb hE.2.2.2.2.2.1 hS hown (hts _ q833) (fun _ h => h) dJ4_isLatin1_0 ?_
  refine lv_if_eq (tgt := 17) hx hb dJ4_isLatin1_3 (by decide) (fun c2 => ?_) (fun c2 => ?_)
  · replace h := h.1 c2
    refine lv_iconst (v := (0 : Int32)) hx hb dJ4_isLatin1_17 (by decide) ?_
    exact rt_i F dJ4_isLatin1_18 rfl () h hP hD hS (Nat.le_refl _) (Nat.le_refl _)
  · replace h := h.2 c2
    refine lv_aload_n hx hb dJ4_isLatin1_6 rfl (lv_at hl 0 rfl) ?_
    refine vk_getf (v := .int (0 : Int32)) hx hb ((hE.2.2.1 7 _ rfl).2.1 0 (by decide)).2.1 hS hown (hts _ q1881) (fun _ h => h) dJ4_isLatin1_7 ?_
    refine lv_if_ne (tgt := 17) hx hb dJ4_isLatin1_10 (by decide) (fun c1 => ?_) (fun c1 => ?_)
    · replace h := h.1 c1
      refine lv_iconst (v := (0 : Int32)) hx hb dJ4_isLatin1_17 (by decide) ?_
      exact rt_i F dJ4_isLatin1_18 rfl () h hP hD hS (Nat.le_refl _) (Nat.le_refl _)
    · replace h := h.2 c1
      refine lv_iconst (v := (1 : Int32)) hx hb dJ4_isLatin1_13 (by decide) ?_
      refine lv_goto (tgt := 18) hx hb dJ4_isLatin1_14 (by decide) ?_
      exact rt_i F dJ4_isLatin1_18 rfl () h hP hD hS (Nat.le_refl _) (Nat.le_refl _)
set_option maxHeartbeats 4000000 in
theorem ct_J6_checkIndexR {l : Launch} {V : evT} {D : va_G} {gI : Nat → ClassId} {v0 : Int32} {v1 : Int32} {t2 : Nat} {Q : Int32 → Prop} (h : wp_J6_checkIndex v0 v1  Q) : ct_i l V D vwCl (tyL gI) yJ6_checkIndex cJ6_checkIndex 3 .int { frames := 1, cells := 0, slots := 0, locals := 12 } [.int v0, .int v1, .ref t2] [] (fun u : Unit => []) (fun (x : Int32) (u : Unit) => Q x) := by
  refine ct_ofi RJ6 rfl (by decide +kernel) (Nat.le_of_ble_eq_true rfl) ?_
  intro p e s m args below meth c A F hP hD ls hl
  obtain ⟨⟨hx, hb, hml, hown, hts⟩, hr, hlocks, hA, hK, hE⟩ := id F
  have hS : va_S A s.heap s.heap [] := va_S.rf
  have hl : lv_has ls 3 [(0, .int v0), (1, .int v1), (2, .ref t2)] := hl
  have hRf : 1 ≤ ({ frames := 1, cells := 0, slots := 0, locals := 12 } : Room).frames := Nat.le_refl _
  have hRl : 12 ≤ ({ frames := 1, cells := 0, slots := 0, locals := 12 } : Room).locals := Nat.le_refl _
  have hC : 0 ≤ ({ frames := 1, cells := 0, slots := 0, locals := 12 } : Room).cells := Nat.le_refl _
  have hSl : 0 ≤ ({ frames := 1, cells := 0, slots := 0, locals := 12 } : Room).slots := Nat.le_refl _
  unfold wp_J6_checkIndex at h
  refine lv_iload_n hx hb dJ6_checkIndex_0 rfl (lv_at hl 0 rfl) ?_
  refine lv_if_lt (tgt := 9) hx hb dJ6_checkIndex_1 (by decide) (fun c2 => ?_) (fun c2 => ?_)
  · replace h := h.1 c2
    exact h.elim
  · replace h := h.2 c2
    refine lv_iload_n hx hb dJ6_checkIndex_4 rfl (lv_at hl 0 rfl) ?_
    refine lv_iload_n hx hb dJ6_checkIndex_5 rfl (lv_at hl 1 rfl) ?_
    refine lv_icmp_lt (tgt := 16) hx hb dJ6_checkIndex_6 (by decide) (fun c1 => ?_) (fun c1 => ?_)
    · replace h := h.1 c1
      refine lv_iload_n hx hb dJ6_checkIndex_16 rfl (lv_at hl 0 rfl) ?_
      exact rt_i F dJ6_checkIndex_17 rfl () h hP hD hS (Nat.le_refl _) (Nat.le_refl _)
    · replace h := h.2 c1
      exact h.elim
set_option maxHeartbeats 4000000 in
theorem ct_J6_checkIndexN {l : Launch} {V : evT} {D : va_G} {gI : Nat → ClassId} {v0 : Int32} {v1 : Int32} {Q : Int32 → Prop} (h : wp_J6_checkIndex v0 v1  Q) : ct_i l V D vwCl (tyL gI) yJ6_checkIndex cJ6_checkIndex 3 .int { frames := 1, cells := 0, slots := 0, locals := 12 } [.int v0, .int v1, .null] [] (fun u : Unit => []) (fun (x : Int32) (u : Unit) => Q x) := by
  refine ct_ofi RJ6 rfl (by decide +kernel) (Nat.le_of_ble_eq_true rfl) ?_
  intro p e s m args below meth c A F hP hD ls hl
  obtain ⟨⟨hx, hb, hml, hown, hts⟩, hr, hlocks, hA, hK, hE⟩ := id F
  have hS : va_S A s.heap s.heap [] := va_S.rf
  have hl : lv_has ls 3 [(0, .int v0), (1, .int v1), (2, .null)] := hl
  have hRf : 1 ≤ ({ frames := 1, cells := 0, slots := 0, locals := 12 } : Room).frames := Nat.le_refl _
  have hRl : 12 ≤ ({ frames := 1, cells := 0, slots := 0, locals := 12 } : Room).locals := Nat.le_refl _
  have hC : 0 ≤ ({ frames := 1, cells := 0, slots := 0, locals := 12 } : Room).cells := Nat.le_refl _
  have hSl : 0 ≤ ({ frames := 1, cells := 0, slots := 0, locals := 12 } : Room).slots := Nat.le_refl _
  unfold wp_J6_checkIndex at h
  refine lv_iload_n hx hb dJ6_checkIndex_0 rfl (lv_at hl 0 rfl) ?_
  refine lv_if_lt (tgt := 9) hx hb dJ6_checkIndex_1 (by decide) (fun c2 => ?_) (fun c2 => ?_)
  · replace h := h.1 c2
    exact h.elim
  · replace h := h.2 c2
    refine lv_iload_n hx hb dJ6_checkIndex_4 rfl (lv_at hl 0 rfl) ?_
    refine lv_iload_n hx hb dJ6_checkIndex_5 rfl (lv_at hl 1 rfl) ?_
    refine lv_icmp_lt (tgt := 16) hx hb dJ6_checkIndex_6 (by decide) (fun c1 => ?_) (fun c1 => ?_)
    · replace h := h.1 c1
      refine lv_iload_n hx hb dJ6_checkIndex_16 rfl (lv_at hl 0 rfl) ?_
      exact rt_i F dJ6_checkIndex_17 rfl () h hP hD hS (Nat.le_refl _) (Nat.le_refl _)
    · replace h := h.2 c1
      exact h.elim
set_option maxHeartbeats 4000000 in
theorem ct_J4_checkIndex {l : Launch} {V : evT} {D : va_G} {gI : Nat → ClassId} {v0 : Int32} {v1 : Int32} {Q : Prop} (h : wp_J4_checkIndex v0 v1  Q) : ct_v l V D vwCl (tyL gI) yJ4_checkIndex cJ4_checkIndex 2 { frames := 2, cells := 0, slots := 0, locals := 34 } [.int v0, .int v1] [] (fun u : Unit => []) (fun (_ : Unit) => Q) := by
  refine ct_ofv RJ4 rfl (by decide +kernel) (Nat.le_of_ble_eq_true rfl) ?_
  intro p e s m args below meth c A F _ hP hD ls hl
  obtain ⟨⟨hx, hb, hml, hown, hts⟩, hr, hlocks, hA, hK, hE⟩ := id F
  have hS : va_S A s.heap s.heap [] := va_S.rf
  have hl : lv_has ls 2 [(0, .int v0), (1, .int v1)] := hl
  have hRf : 2 ≤ ({ frames := 2, cells := 0, slots := 0, locals := 34 } : Room).frames := Nat.le_refl _
  have hRl : 34 ≤ ({ frames := 2, cells := 0, slots := 0, locals := 34 } : Room).locals := Nat.le_refl _
  have hC : 0 ≤ ({ frames := 2, cells := 0, slots := 0, locals := 34 } : Room).cells := Nat.le_refl _
  have hSl : 0 ≤ ({ frames := 2, cells := 0, slots := 0, locals := 34 } : Room).slots := Nat.le_refl _
  unfold wp_J4_checkIndex at h
  refine lv_iload_n hx hb dJ4_checkIndex_0 rfl (lv_at hl 0 rfl) ?_
  refine lv_iload_n hx hb dJ4_checkIndex_1 rfl (lv_at hl 1 rfl) ?_
  rcases hE.2.2.2.2.2.2.1 with hz | ⟨t2, hz⟩
  · refine va_gets hx hb hz hS hown (hts _ q872) (fun _ h => h) dJ4_checkIndex_2 ?_
    refine cl_i0 F (va_runS (As := [.int v0, .int v1, .null]) (rest := []) ⟨hx, hb, hml, hown, hts⟩ (ct_J6_checkIndexN h _) (va_cwS 3 hts (lw_S q1480 q1481 q108 q1482) rfl rfl rfl (by decide +kernel) ⟨Nat.le_trans (Nat.le_of_ble_eq_true rfl) hRf, Nat.le_trans (Nat.le_of_ble_eq_true rfl) hRl⟩) ⟨ct_blind, ct_at F hS ct_nP ct_nD⟩ rfl rfl hl.1 rfl (lv_room (Nat.le_of_ble_eq_true rfl)) dJ4_checkIndex_5 ⟨hC, hSl⟩) rfl rfl hP hS ?_
    rintro x1 _ H locs h hP hS
    refine lv_pop hx hb dJ4_checkIndex_8 rfl ?_
    exact rt_v F dJ4_checkIndex_9 () h hP hD hS (Nat.le_refl _) (Nat.le_refl _)
  · refine va_gets hx hb hz hS hown (hts _ q872) (fun _ h => h) dJ4_checkIndex_2 ?_
    refine cl_i0 F (va_runS (As := [.int v0, .int v1, .ref t2]) (rest := []) ⟨hx, hb, hml, hown, hts⟩ (ct_J6_checkIndexR h _) (va_cwS 3 hts (lw_S q1480 q1481 q108 q1482) rfl rfl rfl (by decide +kernel) ⟨Nat.le_trans (Nat.le_of_ble_eq_true rfl) hRf, Nat.le_trans (Nat.le_of_ble_eq_true rfl) hRl⟩) ⟨ct_blind, ct_at F hS ct_nP ct_nD⟩ rfl rfl hl.1 rfl (lv_room (Nat.le_of_ble_eq_true rfl)) dJ4_checkIndex_5 ⟨hC, hSl⟩) rfl rfl hP hS ?_
    rintro x1 _ H locs h hP hS
    refine lv_pop hx hb dJ4_checkIndex_8 rfl ?_
    exact rt_v F dJ4_checkIndex_9 () h hP hD hS (Nat.le_refl _) (Nat.le_refl _)
set_option maxHeartbeats 4000000 in
theorem ct_J5_charAt_i0 {l : Launch} {V : evT} {D : va_G} {gI : Nat → ClassId} {v1 : Int32} {Q : Int32 → Prop} (h : wp_J5_charAt 0 v1  Q) : ct_i l V D vwCl (tyL gI) yJ5_charAt cJ5_charAt 2 .char { frames := 3, cells := 0, slots := 0, locals := 55 } [.ref (V.2 0), .int v1] [] (fun u : Unit => []) (fun (x : Int32) (u : Unit) => Q x) := by
  refine ct_ofi RJ5 rfl (by decide +kernel) (Nat.le_of_ble_eq_true rfl) ?_
  intro p e s m args below meth c A F hP hD ls hl
  obtain ⟨⟨hx, hb, hml, hown, hts⟩, hr, hlocks, hA, hK, hE⟩ := id F
  have hS : va_S A s.heap s.heap [] := va_S.rf
  have hl : lv_has ls 2 [(0, .ref (V.2 0)), (1, .int v1)] := hl
  have hRf : 3 ≤ ({ frames := 3, cells := 0, slots := 0, locals := 55 } : Room).frames := Nat.le_refl _
  have hRl : 55 ≤ ({ frames := 3, cells := 0, slots := 0, locals := 55 } : Room).locals := Nat.le_refl _
  have hC : 0 ≤ ({ frames := 3, cells := 0, slots := 0, locals := 55 } : Room).cells := Nat.le_refl _
  have hSl : 0 ≤ ({ frames := 3, cells := 0, slots := 0, locals := 55 } : Room).slots := Nat.le_refl _
  unfold wp_J5_charAt at h
  refine lv_iload_n hx hb dJ5_charAt_0 rfl (lv_at hl 1 rfl) ?_
  refine lv_aload_n hx hb dJ5_charAt_1 rfl (lv_at hl 0 rfl) ?_
  refine va_tlen (v := nI (sB 0).length) hx hb ((hE.2.2.1 0 _ rfl).2.1 0 (by decide)).2.2.2 hS rfl dJ5_charAt_2 ?_
  refine cl_v0 F (va_runS (As := [.int v1, .int (nI (sB 0).length)]) (rest := []) ⟨hx, hb, hml, hown, hts⟩ (ct_J4_checkIndex h _) (va_cwS 2 hts (lw_S q1477 q1478 q106 q1479) rfl rfl rfl (by decide +kernel) ⟨Nat.le_trans (Nat.le_of_ble_eq_true rfl) hRf, Nat.le_trans (Nat.le_of_ble_eq_true rfl) hRl⟩) ⟨ct_blind, ct_at F hS ct_nP ct_nD⟩ rfl rfl hl.1 rfl (lv_room (Nat.le_of_ble_eq_true rfl)) dJ5_charAt_3 ⟨hC, hSl⟩) rfl rfl hP hS ?_
  rintro _ H locs h hP hS
  refine lv_aload_n hx hb dJ5_charAt_6 rfl (lv_at hl 0 rfl) ?_
  refine lv_iload_n hx hb dJ5_charAt_7 rfl (lv_at hl 1 rfl) ?_
  refine va_tb (v := .int ((sB 0).getD v1.toNatClampNeg 0)) hx hb ((hE.2.2.1 0 _ rfl).2.1 0 (by decide)).2.2.2 hS h.1 rfl dJ5_charAt_8 ?_
  replace h := h.2
  refine lv_sipush (v := (255 : Int32)) hx hb dJ5_charAt_9 (by decide) ?_
  refine lv_iand hx hb dJ5_charAt_12 ?_
  refine lv_i2c (v := (((((sB 0).getD v1.toNatClampNeg 0) &&& (255 : Int32)).toUInt32 % 65536).toInt32)) hx hb dJ5_charAt_13 rfl ?_
  exact rt_i F dJ5_charAt_14 h.1 () h.2 hP hD hS (Nat.le_refl _) (Nat.le_refl _)
set_option maxHeartbeats 4000000 in
theorem ct_J5_charAt_i1 {l : Launch} {V : evT} {D : va_G} {gI : Nat → ClassId} {v1 : Int32} {Q : Int32 → Prop} (h : wp_J5_charAt 1 v1  Q) : ct_i l V D vwCl (tyL gI) yJ5_charAt cJ5_charAt 2 .char { frames := 3, cells := 0, slots := 0, locals := 55 } [.ref (V.2 1), .int v1] [] (fun u : Unit => []) (fun (x : Int32) (u : Unit) => Q x) := by
  refine ct_ofi RJ5 rfl (by decide +kernel) (Nat.le_of_ble_eq_true rfl) ?_
  intro p e s m args below meth c A F hP hD ls hl
  obtain ⟨⟨hx, hb, hml, hown, hts⟩, hr, hlocks, hA, hK, hE⟩ := id F
  have hS : va_S A s.heap s.heap [] := va_S.rf
  have hl : lv_has ls 2 [(0, .ref (V.2 1)), (1, .int v1)] := hl
  have hRf : 3 ≤ ({ frames := 3, cells := 0, slots := 0, locals := 55 } : Room).frames := Nat.le_refl _
  have hRl : 55 ≤ ({ frames := 3, cells := 0, slots := 0, locals := 55 } : Room).locals := Nat.le_refl _
  have hC : 0 ≤ ({ frames := 3, cells := 0, slots := 0, locals := 55 } : Room).cells := Nat.le_refl _
  have hSl : 0 ≤ ({ frames := 3, cells := 0, slots := 0, locals := 55 } : Room).slots := Nat.le_refl _
  unfold wp_J5_charAt at h
  refine lv_iload_n hx hb dJ5_charAt_0 rfl (lv_at hl 1 rfl) ?_
  refine lv_aload_n hx hb dJ5_charAt_1 rfl (lv_at hl 0 rfl) ?_
  refine va_tlen (v := nI (sB 1).length) hx hb ((hE.2.2.1 1 _ rfl).2.1 0 (by decide)).2.2.2 hS rfl dJ5_charAt_2 ?_
  refine cl_v0 F (va_runS (As := [.int v1, .int (nI (sB 1).length)]) (rest := []) ⟨hx, hb, hml, hown, hts⟩ (ct_J4_checkIndex h _) (va_cwS 2 hts (lw_S q1477 q1478 q106 q1479) rfl rfl rfl (by decide +kernel) ⟨Nat.le_trans (Nat.le_of_ble_eq_true rfl) hRf, Nat.le_trans (Nat.le_of_ble_eq_true rfl) hRl⟩) ⟨ct_blind, ct_at F hS ct_nP ct_nD⟩ rfl rfl hl.1 rfl (lv_room (Nat.le_of_ble_eq_true rfl)) dJ5_charAt_3 ⟨hC, hSl⟩) rfl rfl hP hS ?_
  rintro _ H locs h hP hS
  refine lv_aload_n hx hb dJ5_charAt_6 rfl (lv_at hl 0 rfl) ?_
  refine lv_iload_n hx hb dJ5_charAt_7 rfl (lv_at hl 1 rfl) ?_
  refine va_tb (v := .int ((sB 1).getD v1.toNatClampNeg 0)) hx hb ((hE.2.2.1 1 _ rfl).2.1 0 (by decide)).2.2.2 hS h.1 rfl dJ5_charAt_8 ?_
  replace h := h.2
  refine lv_sipush (v := (255 : Int32)) hx hb dJ5_charAt_9 (by decide) ?_
  refine lv_iand hx hb dJ5_charAt_12 ?_
  refine lv_i2c (v := (((((sB 1).getD v1.toNatClampNeg 0) &&& (255 : Int32)).toUInt32 % 65536).toInt32)) hx hb dJ5_charAt_13 rfl ?_
  exact rt_i F dJ5_charAt_14 h.1 () h.2 hP hD hS (Nat.le_refl _) (Nat.le_refl _)
set_option maxHeartbeats 4000000 in
theorem ct_J5_charAt_i2 {l : Launch} {V : evT} {D : va_G} {gI : Nat → ClassId} {v1 : Int32} {Q : Int32 → Prop} (h : wp_J5_charAt 2 v1  Q) : ct_i l V D vwCl (tyL gI) yJ5_charAt cJ5_charAt 2 .char { frames := 3, cells := 0, slots := 0, locals := 55 } [.ref (V.2 2), .int v1] [] (fun u : Unit => []) (fun (x : Int32) (u : Unit) => Q x) := by
  refine ct_ofi RJ5 rfl (by decide +kernel) (Nat.le_of_ble_eq_true rfl) ?_
  intro p e s m args below meth c A F hP hD ls hl
  obtain ⟨⟨hx, hb, hml, hown, hts⟩, hr, hlocks, hA, hK, hE⟩ := id F
  have hS : va_S A s.heap s.heap [] := va_S.rf
  have hl : lv_has ls 2 [(0, .ref (V.2 2)), (1, .int v1)] := hl
  have hRf : 3 ≤ ({ frames := 3, cells := 0, slots := 0, locals := 55 } : Room).frames := Nat.le_refl _
  have hRl : 55 ≤ ({ frames := 3, cells := 0, slots := 0, locals := 55 } : Room).locals := Nat.le_refl _
  have hC : 0 ≤ ({ frames := 3, cells := 0, slots := 0, locals := 55 } : Room).cells := Nat.le_refl _
  have hSl : 0 ≤ ({ frames := 3, cells := 0, slots := 0, locals := 55 } : Room).slots := Nat.le_refl _
  unfold wp_J5_charAt at h
  refine lv_iload_n hx hb dJ5_charAt_0 rfl (lv_at hl 1 rfl) ?_
  refine lv_aload_n hx hb dJ5_charAt_1 rfl (lv_at hl 0 rfl) ?_
  refine va_tlen (v := nI (sB 2).length) hx hb ((hE.2.2.1 2 _ rfl).2.1 0 (by decide)).2.2.2 hS rfl dJ5_charAt_2 ?_
  refine cl_v0 F (va_runS (As := [.int v1, .int (nI (sB 2).length)]) (rest := []) ⟨hx, hb, hml, hown, hts⟩ (ct_J4_checkIndex h _) (va_cwS 2 hts (lw_S q1477 q1478 q106 q1479) rfl rfl rfl (by decide +kernel) ⟨Nat.le_trans (Nat.le_of_ble_eq_true rfl) hRf, Nat.le_trans (Nat.le_of_ble_eq_true rfl) hRl⟩) ⟨ct_blind, ct_at F hS ct_nP ct_nD⟩ rfl rfl hl.1 rfl (lv_room (Nat.le_of_ble_eq_true rfl)) dJ5_charAt_3 ⟨hC, hSl⟩) rfl rfl hP hS ?_
  rintro _ H locs h hP hS
  refine lv_aload_n hx hb dJ5_charAt_6 rfl (lv_at hl 0 rfl) ?_
  refine lv_iload_n hx hb dJ5_charAt_7 rfl (lv_at hl 1 rfl) ?_
  refine va_tb (v := .int ((sB 2).getD v1.toNatClampNeg 0)) hx hb ((hE.2.2.1 2 _ rfl).2.1 0 (by decide)).2.2.2 hS h.1 rfl dJ5_charAt_8 ?_
  replace h := h.2
  refine lv_sipush (v := (255 : Int32)) hx hb dJ5_charAt_9 (by decide) ?_
  refine lv_iand hx hb dJ5_charAt_12 ?_
  refine lv_i2c (v := (((((sB 2).getD v1.toNatClampNeg 0) &&& (255 : Int32)).toUInt32 % 65536).toInt32)) hx hb dJ5_charAt_13 rfl ?_
  exact rt_i F dJ5_charAt_14 h.1 () h.2 hP hD hS (Nat.le_refl _) (Nat.le_refl _)
set_option maxHeartbeats 4000000 in
theorem ct_J5_charAt_i3 {l : Launch} {V : evT} {D : va_G} {gI : Nat → ClassId} {v1 : Int32} {Q : Int32 → Prop} (h : wp_J5_charAt 3 v1  Q) : ct_i l V D vwCl (tyL gI) yJ5_charAt cJ5_charAt 2 .char { frames := 3, cells := 0, slots := 0, locals := 55 } [.ref (V.2 3), .int v1] [] (fun u : Unit => []) (fun (x : Int32) (u : Unit) => Q x) := by
  refine ct_ofi RJ5 rfl (by decide +kernel) (Nat.le_of_ble_eq_true rfl) ?_
  intro p e s m args below meth c A F hP hD ls hl
  obtain ⟨⟨hx, hb, hml, hown, hts⟩, hr, hlocks, hA, hK, hE⟩ := id F
  have hS : va_S A s.heap s.heap [] := va_S.rf
  have hl : lv_has ls 2 [(0, .ref (V.2 3)), (1, .int v1)] := hl
  have hRf : 3 ≤ ({ frames := 3, cells := 0, slots := 0, locals := 55 } : Room).frames := Nat.le_refl _
  have hRl : 55 ≤ ({ frames := 3, cells := 0, slots := 0, locals := 55 } : Room).locals := Nat.le_refl _
  have hC : 0 ≤ ({ frames := 3, cells := 0, slots := 0, locals := 55 } : Room).cells := Nat.le_refl _
  have hSl : 0 ≤ ({ frames := 3, cells := 0, slots := 0, locals := 55 } : Room).slots := Nat.le_refl _
  unfold wp_J5_charAt at h
  refine lv_iload_n hx hb dJ5_charAt_0 rfl (lv_at hl 1 rfl) ?_
  refine lv_aload_n hx hb dJ5_charAt_1 rfl (lv_at hl 0 rfl) ?_
  refine va_tlen (v := nI (sB 3).length) hx hb ((hE.2.2.1 3 _ rfl).2.1 0 (by decide)).2.2.2 hS rfl dJ5_charAt_2 ?_
  refine cl_v0 F (va_runS (As := [.int v1, .int (nI (sB 3).length)]) (rest := []) ⟨hx, hb, hml, hown, hts⟩ (ct_J4_checkIndex h _) (va_cwS 2 hts (lw_S q1477 q1478 q106 q1479) rfl rfl rfl (by decide +kernel) ⟨Nat.le_trans (Nat.le_of_ble_eq_true rfl) hRf, Nat.le_trans (Nat.le_of_ble_eq_true rfl) hRl⟩) ⟨ct_blind, ct_at F hS ct_nP ct_nD⟩ rfl rfl hl.1 rfl (lv_room (Nat.le_of_ble_eq_true rfl)) dJ5_charAt_3 ⟨hC, hSl⟩) rfl rfl hP hS ?_
  rintro _ H locs h hP hS
  refine lv_aload_n hx hb dJ5_charAt_6 rfl (lv_at hl 0 rfl) ?_
  refine lv_iload_n hx hb dJ5_charAt_7 rfl (lv_at hl 1 rfl) ?_
  refine va_tb (v := .int ((sB 3).getD v1.toNatClampNeg 0)) hx hb ((hE.2.2.1 3 _ rfl).2.1 0 (by decide)).2.2.2 hS h.1 rfl dJ5_charAt_8 ?_
  replace h := h.2
  refine lv_sipush (v := (255 : Int32)) hx hb dJ5_charAt_9 (by decide) ?_
  refine lv_iand hx hb dJ5_charAt_12 ?_
  refine lv_i2c (v := (((((sB 3).getD v1.toNatClampNeg 0) &&& (255 : Int32)).toUInt32 % 65536).toInt32)) hx hb dJ5_charAt_13 rfl ?_
  exact rt_i F dJ5_charAt_14 h.1 () h.2 hP hD hS (Nat.le_refl _) (Nat.le_refl _)
set_option maxHeartbeats 4000000 in
theorem ct_J5_charAt_i4 {l : Launch} {V : evT} {D : va_G} {gI : Nat → ClassId} {v1 : Int32} {Q : Int32 → Prop} (h : wp_J5_charAt 4 v1  Q) : ct_i l V D vwCl (tyL gI) yJ5_charAt cJ5_charAt 2 .char { frames := 3, cells := 0, slots := 0, locals := 55 } [.ref (V.2 4), .int v1] [] (fun u : Unit => []) (fun (x : Int32) (u : Unit) => Q x) := by
  refine ct_ofi RJ5 rfl (by decide +kernel) (Nat.le_of_ble_eq_true rfl) ?_
  intro p e s m args below meth c A F hP hD ls hl
  obtain ⟨⟨hx, hb, hml, hown, hts⟩, hr, hlocks, hA, hK, hE⟩ := id F
  have hS : va_S A s.heap s.heap [] := va_S.rf
  have hl : lv_has ls 2 [(0, .ref (V.2 4)), (1, .int v1)] := hl
  have hRf : 3 ≤ ({ frames := 3, cells := 0, slots := 0, locals := 55 } : Room).frames := Nat.le_refl _
  have hRl : 55 ≤ ({ frames := 3, cells := 0, slots := 0, locals := 55 } : Room).locals := Nat.le_refl _
  have hC : 0 ≤ ({ frames := 3, cells := 0, slots := 0, locals := 55 } : Room).cells := Nat.le_refl _
  have hSl : 0 ≤ ({ frames := 3, cells := 0, slots := 0, locals := 55 } : Room).slots := Nat.le_refl _
  unfold wp_J5_charAt at h
  refine lv_iload_n hx hb dJ5_charAt_0 rfl (lv_at hl 1 rfl) ?_
  refine lv_aload_n hx hb dJ5_charAt_1 rfl (lv_at hl 0 rfl) ?_
  refine va_tlen (v := nI (sB 4).length) hx hb ((hE.2.2.1 4 _ rfl).2.1 0 (by decide)).2.2.2 hS rfl dJ5_charAt_2 ?_
  refine cl_v0 F (va_runS (As := [.int v1, .int (nI (sB 4).length)]) (rest := []) ⟨hx, hb, hml, hown, hts⟩ (ct_J4_checkIndex h _) (va_cwS 2 hts (lw_S q1477 q1478 q106 q1479) rfl rfl rfl (by decide +kernel) ⟨Nat.le_trans (Nat.le_of_ble_eq_true rfl) hRf, Nat.le_trans (Nat.le_of_ble_eq_true rfl) hRl⟩) ⟨ct_blind, ct_at F hS ct_nP ct_nD⟩ rfl rfl hl.1 rfl (lv_room (Nat.le_of_ble_eq_true rfl)) dJ5_charAt_3 ⟨hC, hSl⟩) rfl rfl hP hS ?_
  rintro _ H locs h hP hS
  refine lv_aload_n hx hb dJ5_charAt_6 rfl (lv_at hl 0 rfl) ?_
  refine lv_iload_n hx hb dJ5_charAt_7 rfl (lv_at hl 1 rfl) ?_
  refine va_tb (v := .int ((sB 4).getD v1.toNatClampNeg 0)) hx hb ((hE.2.2.1 4 _ rfl).2.1 0 (by decide)).2.2.2 hS h.1 rfl dJ5_charAt_8 ?_
  replace h := h.2
  refine lv_sipush (v := (255 : Int32)) hx hb dJ5_charAt_9 (by decide) ?_
  refine lv_iand hx hb dJ5_charAt_12 ?_
  refine lv_i2c (v := (((((sB 4).getD v1.toNatClampNeg 0) &&& (255 : Int32)).toUInt32 % 65536).toInt32)) hx hb dJ5_charAt_13 rfl ?_
  exact rt_i F dJ5_charAt_14 h.1 () h.2 hP hD hS (Nat.le_refl _) (Nat.le_refl _)
set_option maxHeartbeats 4000000 in
theorem ct_J5_charAt_i5 {l : Launch} {V : evT} {D : va_G} {gI : Nat → ClassId} {v1 : Int32} {Q : Int32 → Prop} (h : wp_J5_charAt 5 v1  Q) : ct_i l V D vwCl (tyL gI) yJ5_charAt cJ5_charAt 2 .char { frames := 3, cells := 0, slots := 0, locals := 55 } [.ref (V.2 5), .int v1] [] (fun u : Unit => []) (fun (x : Int32) (u : Unit) => Q x) := by
  refine ct_ofi RJ5 rfl (by decide +kernel) (Nat.le_of_ble_eq_true rfl) ?_
  intro p e s m args below meth c A F hP hD ls hl
  obtain ⟨⟨hx, hb, hml, hown, hts⟩, hr, hlocks, hA, hK, hE⟩ := id F
  have hS : va_S A s.heap s.heap [] := va_S.rf
  have hl : lv_has ls 2 [(0, .ref (V.2 5)), (1, .int v1)] := hl
  have hRf : 3 ≤ ({ frames := 3, cells := 0, slots := 0, locals := 55 } : Room).frames := Nat.le_refl _
  have hRl : 55 ≤ ({ frames := 3, cells := 0, slots := 0, locals := 55 } : Room).locals := Nat.le_refl _
  have hC : 0 ≤ ({ frames := 3, cells := 0, slots := 0, locals := 55 } : Room).cells := Nat.le_refl _
  have hSl : 0 ≤ ({ frames := 3, cells := 0, slots := 0, locals := 55 } : Room).slots := Nat.le_refl _
  unfold wp_J5_charAt at h
  refine lv_iload_n hx hb dJ5_charAt_0 rfl (lv_at hl 1 rfl) ?_
  refine lv_aload_n hx hb dJ5_charAt_1 rfl (lv_at hl 0 rfl) ?_
  refine va_tlen (v := nI (sB 5).length) hx hb ((hE.2.2.1 5 _ rfl).2.1 0 (by decide)).2.2.2 hS rfl dJ5_charAt_2 ?_
  refine cl_v0 F (va_runS (As := [.int v1, .int (nI (sB 5).length)]) (rest := []) ⟨hx, hb, hml, hown, hts⟩ (ct_J4_checkIndex h _) (va_cwS 2 hts (lw_S q1477 q1478 q106 q1479) rfl rfl rfl (by decide +kernel) ⟨Nat.le_trans (Nat.le_of_ble_eq_true rfl) hRf, Nat.le_trans (Nat.le_of_ble_eq_true rfl) hRl⟩) ⟨ct_blind, ct_at F hS ct_nP ct_nD⟩ rfl rfl hl.1 rfl (lv_room (Nat.le_of_ble_eq_true rfl)) dJ5_charAt_3 ⟨hC, hSl⟩) rfl rfl hP hS ?_
  rintro _ H locs h hP hS
  refine lv_aload_n hx hb dJ5_charAt_6 rfl (lv_at hl 0 rfl) ?_
  refine lv_iload_n hx hb dJ5_charAt_7 rfl (lv_at hl 1 rfl) ?_
  refine va_tb (v := .int ((sB 5).getD v1.toNatClampNeg 0)) hx hb ((hE.2.2.1 5 _ rfl).2.1 0 (by decide)).2.2.2 hS h.1 rfl dJ5_charAt_8 ?_
  replace h := h.2
  refine lv_sipush (v := (255 : Int32)) hx hb dJ5_charAt_9 (by decide) ?_
  refine lv_iand hx hb dJ5_charAt_12 ?_
  refine lv_i2c (v := (((((sB 5).getD v1.toNatClampNeg 0) &&& (255 : Int32)).toUInt32 % 65536).toInt32)) hx hb dJ5_charAt_13 rfl ?_
  exact rt_i F dJ5_charAt_14 h.1 () h.2 hP hD hS (Nat.le_refl _) (Nat.le_refl _)
set_option maxHeartbeats 4000000 in
theorem ct_J5_charAt_i6 {l : Launch} {V : evT} {D : va_G} {gI : Nat → ClassId} {v1 : Int32} {Q : Int32 → Prop} (h : wp_J5_charAt 6 v1  Q) : ct_i l V D vwCl (tyL gI) yJ5_charAt cJ5_charAt 2 .char { frames := 3, cells := 0, slots := 0, locals := 55 } [.ref (V.2 6), .int v1] [] (fun u : Unit => []) (fun (x : Int32) (u : Unit) => Q x) := by
  refine ct_ofi RJ5 rfl (by decide +kernel) (Nat.le_of_ble_eq_true rfl) ?_
  intro p e s m args below meth c A F hP hD ls hl
  obtain ⟨⟨hx, hb, hml, hown, hts⟩, hr, hlocks, hA, hK, hE⟩ := id F
  have hS : va_S A s.heap s.heap [] := va_S.rf
  have hl : lv_has ls 2 [(0, .ref (V.2 6)), (1, .int v1)] := hl
  have hRf : 3 ≤ ({ frames := 3, cells := 0, slots := 0, locals := 55 } : Room).frames := Nat.le_refl _
  have hRl : 55 ≤ ({ frames := 3, cells := 0, slots := 0, locals := 55 } : Room).locals := Nat.le_refl _
  have hC : 0 ≤ ({ frames := 3, cells := 0, slots := 0, locals := 55 } : Room).cells := Nat.le_refl _
  have hSl : 0 ≤ ({ frames := 3, cells := 0, slots := 0, locals := 55 } : Room).slots := Nat.le_refl _
  unfold wp_J5_charAt at h
  refine lv_iload_n hx hb dJ5_charAt_0 rfl (lv_at hl 1 rfl) ?_
  refine lv_aload_n hx hb dJ5_charAt_1 rfl (lv_at hl 0 rfl) ?_
  refine va_tlen (v := nI (sB 6).length) hx hb ((hE.2.2.1 6 _ rfl).2.1 0 (by decide)).2.2.2 hS rfl dJ5_charAt_2 ?_
  refine cl_v0 F (va_runS (As := [.int v1, .int (nI (sB 6).length)]) (rest := []) ⟨hx, hb, hml, hown, hts⟩ (ct_J4_checkIndex h _) (va_cwS 2 hts (lw_S q1477 q1478 q106 q1479) rfl rfl rfl (by decide +kernel) ⟨Nat.le_trans (Nat.le_of_ble_eq_true rfl) hRf, Nat.le_trans (Nat.le_of_ble_eq_true rfl) hRl⟩) ⟨ct_blind, ct_at F hS ct_nP ct_nD⟩ rfl rfl hl.1 rfl (lv_room (Nat.le_of_ble_eq_true rfl)) dJ5_charAt_3 ⟨hC, hSl⟩) rfl rfl hP hS ?_
  rintro _ H locs h hP hS
  refine lv_aload_n hx hb dJ5_charAt_6 rfl (lv_at hl 0 rfl) ?_
  refine lv_iload_n hx hb dJ5_charAt_7 rfl (lv_at hl 1 rfl) ?_
  refine va_tb (v := .int ((sB 6).getD v1.toNatClampNeg 0)) hx hb ((hE.2.2.1 6 _ rfl).2.1 0 (by decide)).2.2.2 hS h.1 rfl dJ5_charAt_8 ?_
  replace h := h.2
  refine lv_sipush (v := (255 : Int32)) hx hb dJ5_charAt_9 (by decide) ?_
  refine lv_iand hx hb dJ5_charAt_12 ?_
  refine lv_i2c (v := (((((sB 6).getD v1.toNatClampNeg 0) &&& (255 : Int32)).toUInt32 % 65536).toInt32)) hx hb dJ5_charAt_13 rfl ?_
  exact rt_i F dJ5_charAt_14 h.1 () h.2 hP hD hS (Nat.le_refl _) (Nat.le_refl _)
set_option maxHeartbeats 4000000 in
theorem ct_J5_charAt_i7 {l : Launch} {V : evT} {D : va_G} {gI : Nat → ClassId} {v1 : Int32} {Q : Int32 → Prop} (h : wp_J5_charAt 7 v1  Q) : ct_i l V D vwCl (tyL gI) yJ5_charAt cJ5_charAt 2 .char { frames := 3, cells := 0, slots := 0, locals := 55 } [.ref (V.2 7), .int v1] [] (fun u : Unit => []) (fun (x : Int32) (u : Unit) => Q x) := by
  refine ct_ofi RJ5 rfl (by decide +kernel) (Nat.le_of_ble_eq_true rfl) ?_
  intro p e s m args below meth c A F hP hD ls hl
  obtain ⟨⟨hx, hb, hml, hown, hts⟩, hr, hlocks, hA, hK, hE⟩ := id F
  have hS : va_S A s.heap s.heap [] := va_S.rf
  have hl : lv_has ls 2 [(0, .ref (V.2 7)), (1, .int v1)] := hl
  have hRf : 3 ≤ ({ frames := 3, cells := 0, slots := 0, locals := 55 } : Room).frames := Nat.le_refl _
  have hRl : 55 ≤ ({ frames := 3, cells := 0, slots := 0, locals := 55 } : Room).locals := Nat.le_refl _
  have hC : 0 ≤ ({ frames := 3, cells := 0, slots := 0, locals := 55 } : Room).cells := Nat.le_refl _
  have hSl : 0 ≤ ({ frames := 3, cells := 0, slots := 0, locals := 55 } : Room).slots := Nat.le_refl _
  unfold wp_J5_charAt at h
  refine lv_iload_n hx hb dJ5_charAt_0 rfl (lv_at hl 1 rfl) ?_
  refine lv_aload_n hx hb dJ5_charAt_1 rfl (lv_at hl 0 rfl) ?_
  refine va_tlen (v := nI (sB 7).length) hx hb ((hE.2.2.1 7 _ rfl).2.1 0 (by decide)).2.2.2 hS rfl dJ5_charAt_2 ?_
  refine cl_v0 F (va_runS (As := [.int v1, .int (nI (sB 7).length)]) (rest := []) ⟨hx, hb, hml, hown, hts⟩ (ct_J4_checkIndex h _) (va_cwS 2 hts (lw_S q1477 q1478 q106 q1479) rfl rfl rfl (by decide +kernel) ⟨Nat.le_trans (Nat.le_of_ble_eq_true rfl) hRf, Nat.le_trans (Nat.le_of_ble_eq_true rfl) hRl⟩) ⟨ct_blind, ct_at F hS ct_nP ct_nD⟩ rfl rfl hl.1 rfl (lv_room (Nat.le_of_ble_eq_true rfl)) dJ5_charAt_3 ⟨hC, hSl⟩) rfl rfl hP hS ?_
  rintro _ H locs h hP hS
  refine lv_aload_n hx hb dJ5_charAt_6 rfl (lv_at hl 0 rfl) ?_
  refine lv_iload_n hx hb dJ5_charAt_7 rfl (lv_at hl 1 rfl) ?_
  refine va_tb (v := .int ((sB 7).getD v1.toNatClampNeg 0)) hx hb ((hE.2.2.1 7 _ rfl).2.1 0 (by decide)).2.2.2 hS h.1 rfl dJ5_charAt_8 ?_
  replace h := h.2
  refine lv_sipush (v := (255 : Int32)) hx hb dJ5_charAt_9 (by decide) ?_
  refine lv_iand hx hb dJ5_charAt_12 ?_
  refine lv_i2c (v := (((((sB 7).getD v1.toNatClampNeg 0) &&& (255 : Int32)).toUInt32 % 65536).toInt32)) hx hb dJ5_charAt_13 rfl ?_
  exact rt_i F dJ5_charAt_14 h.1 () h.2 hP hD hS (Nat.le_refl _) (Nat.le_refl _)
set_option maxHeartbeats 4000000 in
theorem ct_J4_charAt_i0 {l : Launch} {V : evT} {D : va_G} {gI : Nat → ClassId} {v1 : Int32} {Q : Int32 → Prop} (h : wp_J4_charAt 0 v1  Q) : ct_i l V D vwCl (tyL gI) yJ4_charAt cJ4_charAt 2 .char { frames := 4, cells := 0, slots := 0, locals := 76 } [.ref (V.1 0), .int v1] [] (fun u : Unit => []) (fun (x : Int32) (u : Unit) => Q x) := by
  refine ct_ofi RJ4 rfl (by decide +kernel) (Nat.le_of_ble_eq_true rfl) ?_
  intro p e s m args below meth c A F hP hD ls hl
  obtain ⟨⟨hx, hb, hml, hown, hts⟩, hr, hlocks, hA, hK, hE⟩ := id F
  have hS : va_S A s.heap s.heap [] := va_S.rf
  have hl : lv_has ls 2 [(0, .ref (V.1 0)), (1, .int v1)] := hl
  have hRf : 4 ≤ ({ frames := 4, cells := 0, slots := 0, locals := 76 } : Room).frames := Nat.le_refl _
  have hRl : 76 ≤ ({ frames := 4, cells := 0, slots := 0, locals := 76 } : Room).locals := Nat.le_refl _
  have hC : 0 ≤ ({ frames := 4, cells := 0, slots := 0, locals := 76 } : Room).cells := Nat.le_refl _
  have hSl : 0 ≤ ({ frames := 4, cells := 0, slots := 0, locals := 76 } : Room).slots := Nat.le_refl _
  unfold wp_J4_charAt at h
  refine lv_aload_n hx hb dJ4_charAt_0 rfl (lv_at hl 0 rfl) ?_
  refine cl_i0 F (va_runV (As := []) (rest := []) ⟨hx, hb, hml, hown, hts⟩ (ct_J4_isLatin1_i0 h _) (cwV 0 hts (lw_V q829 q830 q831 q106 q832) rfl rfl rfl (by decide +kernel) ⟨Nat.le_trans (Nat.le_of_ble_eq_true rfl) hRf, Nat.le_trans (Nat.le_of_ble_eq_true rfl) hRl⟩) ⟨ct_blind, vk_recv (N := 1) (i := 0) (hE.2.2.1 0 _ rfl).2 (by decide) hS, ct_at F hS ct_nP ct_nD⟩ rfl rfl hl.1 rfl (lv_room (Nat.le_of_ble_eq_true rfl)) dJ4_charAt_1 ⟨hC, hSl⟩) rfl rfl hP hS ?_
  rintro x1 _ H locs h hP hS
  refine lv_if_eq (tgt := 16) hx hb dJ4_charAt_4 (by decide) (fun c3 => ?_) (fun c3 => ?_)
  · replace h := h.1 c3
    exact h.elim
  · replace h := h.2 c3
    refine lv_aload_n hx hb dJ4_charAt_7 rfl (lv_at hl 0 rfl) ?_
    refine vk_getf (v := .ref (V.2 0)) hx hb ((hE.2.2.1 0 _ rfl).2.1 0 (by decide)).2.2.1 hS hown (hts _ q1880) (fun _ h => h) dJ4_charAt_8 ?_
    refine lv_iload_n hx hb dJ4_charAt_11 rfl (lv_at hl 1 rfl) ?_
    refine cl_i0 F (va_runS (As := [.ref (V.2 0), .int v1]) (rest := []) ⟨hx, hb, hml, hown, hts⟩ (ct_J5_charAt_i0 h _) (va_cwS 2 hts (lw_S q1474 q1475 q107 q1476) rfl rfl rfl (by decide +kernel) ⟨Nat.le_trans (Nat.le_of_ble_eq_true rfl) hRf, Nat.le_trans (Nat.le_of_ble_eq_true rfl) hRl⟩) ⟨ct_blind, ct_at F hS ct_nP ct_nD⟩ rfl rfl hl.1 rfl (lv_room (Nat.le_of_ble_eq_true rfl)) dJ4_charAt_12 ⟨hC, hSl⟩) rfl rfl hP hS ?_
    rintro x2 _ H locs h hP hS
    exact rt_i F dJ4_charAt_15 h.1 () h.2 hP hD hS (Nat.le_refl _) (Nat.le_refl _)
set_option maxHeartbeats 4000000 in
theorem ct_J4_charAt_i1 {l : Launch} {V : evT} {D : va_G} {gI : Nat → ClassId} {v1 : Int32} {Q : Int32 → Prop} (h : wp_J4_charAt 1 v1  Q) : ct_i l V D vwCl (tyL gI) yJ4_charAt cJ4_charAt 2 .char { frames := 4, cells := 0, slots := 0, locals := 76 } [.ref (V.1 1), .int v1] [] (fun u : Unit => []) (fun (x : Int32) (u : Unit) => Q x) := by
  refine ct_ofi RJ4 rfl (by decide +kernel) (Nat.le_of_ble_eq_true rfl) ?_
  intro p e s m args below meth c A F hP hD ls hl
  obtain ⟨⟨hx, hb, hml, hown, hts⟩, hr, hlocks, hA, hK, hE⟩ := id F
  have hS : va_S A s.heap s.heap [] := va_S.rf
  have hl : lv_has ls 2 [(0, .ref (V.1 1)), (1, .int v1)] := hl
  have hRf : 4 ≤ ({ frames := 4, cells := 0, slots := 0, locals := 76 } : Room).frames := Nat.le_refl _
  have hRl : 76 ≤ ({ frames := 4, cells := 0, slots := 0, locals := 76 } : Room).locals := Nat.le_refl _
  have hC : 0 ≤ ({ frames := 4, cells := 0, slots := 0, locals := 76 } : Room).cells := Nat.le_refl _
  have hSl : 0 ≤ ({ frames := 4, cells := 0, slots := 0, locals := 76 } : Room).slots := Nat.le_refl _
  unfold wp_J4_charAt at h
  refine lv_aload_n hx hb dJ4_charAt_0 rfl (lv_at hl 0 rfl) ?_
  refine cl_i0 F (va_runV (As := []) (rest := []) ⟨hx, hb, hml, hown, hts⟩ (ct_J4_isLatin1_i1 h _) (cwV 0 hts (lw_V q829 q830 q831 q106 q832) rfl rfl rfl (by decide +kernel) ⟨Nat.le_trans (Nat.le_of_ble_eq_true rfl) hRf, Nat.le_trans (Nat.le_of_ble_eq_true rfl) hRl⟩) ⟨ct_blind, vk_recv (N := 1) (i := 0) (hE.2.2.1 1 _ rfl).2 (by decide) hS, ct_at F hS ct_nP ct_nD⟩ rfl rfl hl.1 rfl (lv_room (Nat.le_of_ble_eq_true rfl)) dJ4_charAt_1 ⟨hC, hSl⟩) rfl rfl hP hS ?_
  rintro x1 _ H locs h hP hS
  refine lv_if_eq (tgt := 16) hx hb dJ4_charAt_4 (by decide) (fun c3 => ?_) (fun c3 => ?_)
  · replace h := h.1 c3
    exact h.elim
  · replace h := h.2 c3
    refine lv_aload_n hx hb dJ4_charAt_7 rfl (lv_at hl 0 rfl) ?_
    refine vk_getf (v := .ref (V.2 1)) hx hb ((hE.2.2.1 1 _ rfl).2.1 0 (by decide)).2.2.1 hS hown (hts _ q1880) (fun _ h => h) dJ4_charAt_8 ?_
    refine lv_iload_n hx hb dJ4_charAt_11 rfl (lv_at hl 1 rfl) ?_
    refine cl_i0 F (va_runS (As := [.ref (V.2 1), .int v1]) (rest := []) ⟨hx, hb, hml, hown, hts⟩ (ct_J5_charAt_i1 h _) (va_cwS 2 hts (lw_S q1474 q1475 q107 q1476) rfl rfl rfl (by decide +kernel) ⟨Nat.le_trans (Nat.le_of_ble_eq_true rfl) hRf, Nat.le_trans (Nat.le_of_ble_eq_true rfl) hRl⟩) ⟨ct_blind, ct_at F hS ct_nP ct_nD⟩ rfl rfl hl.1 rfl (lv_room (Nat.le_of_ble_eq_true rfl)) dJ4_charAt_12 ⟨hC, hSl⟩) rfl rfl hP hS ?_
    rintro x2 _ H locs h hP hS
    exact rt_i F dJ4_charAt_15 h.1 () h.2 hP hD hS (Nat.le_refl _) (Nat.le_refl _)
set_option maxHeartbeats 4000000 in
theorem ct_J4_charAt_i2 {l : Launch} {V : evT} {D : va_G} {gI : Nat → ClassId} {v1 : Int32} {Q : Int32 → Prop} (h : wp_J4_charAt 2 v1  Q) : ct_i l V D vwCl (tyL gI) yJ4_charAt cJ4_charAt 2 .char { frames := 4, cells := 0, slots := 0, locals := 76 } [.ref (V.1 2), .int v1] [] (fun u : Unit => []) (fun (x : Int32) (u : Unit) => Q x) := by
  refine ct_ofi RJ4 rfl (by decide +kernel) (Nat.le_of_ble_eq_true rfl) ?_
  intro p e s m args below meth c A F hP hD ls hl
  obtain ⟨⟨hx, hb, hml, hown, hts⟩, hr, hlocks, hA, hK, hE⟩ := id F
  have hS : va_S A s.heap s.heap [] := va_S.rf
  have hl : lv_has ls 2 [(0, .ref (V.1 2)), (1, .int v1)] := hl
  have hRf : 4 ≤ ({ frames := 4, cells := 0, slots := 0, locals := 76 } : Room).frames := Nat.le_refl _
  have hRl : 76 ≤ ({ frames := 4, cells := 0, slots := 0, locals := 76 } : Room).locals := Nat.le_refl _
  have hC : 0 ≤ ({ frames := 4, cells := 0, slots := 0, locals := 76 } : Room).cells := Nat.le_refl _
  have hSl : 0 ≤ ({ frames := 4, cells := 0, slots := 0, locals := 76 } : Room).slots := Nat.le_refl _
  unfold wp_J4_charAt at h
  refine lv_aload_n hx hb dJ4_charAt_0 rfl (lv_at hl 0 rfl) ?_
  refine cl_i0 F (va_runV (As := []) (rest := []) ⟨hx, hb, hml, hown, hts⟩ (ct_J4_isLatin1_i2 h _) (cwV 0 hts (lw_V q829 q830 q831 q106 q832) rfl rfl rfl (by decide +kernel) ⟨Nat.le_trans (Nat.le_of_ble_eq_true rfl) hRf, Nat.le_trans (Nat.le_of_ble_eq_true rfl) hRl⟩) ⟨ct_blind, vk_recv (N := 1) (i := 0) (hE.2.2.1 2 _ rfl).2 (by decide) hS, ct_at F hS ct_nP ct_nD⟩ rfl rfl hl.1 rfl (lv_room (Nat.le_of_ble_eq_true rfl)) dJ4_charAt_1 ⟨hC, hSl⟩) rfl rfl hP hS ?_
  rintro x1 _ H locs h hP hS
  refine lv_if_eq (tgt := 16) hx hb dJ4_charAt_4 (by decide) (fun c3 => ?_) (fun c3 => ?_)
  · replace h := h.1 c3
    exact h.elim
  · replace h := h.2 c3
    refine lv_aload_n hx hb dJ4_charAt_7 rfl (lv_at hl 0 rfl) ?_
    refine vk_getf (v := .ref (V.2 2)) hx hb ((hE.2.2.1 2 _ rfl).2.1 0 (by decide)).2.2.1 hS hown (hts _ q1880) (fun _ h => h) dJ4_charAt_8 ?_
    refine lv_iload_n hx hb dJ4_charAt_11 rfl (lv_at hl 1 rfl) ?_
    refine cl_i0 F (va_runS (As := [.ref (V.2 2), .int v1]) (rest := []) ⟨hx, hb, hml, hown, hts⟩ (ct_J5_charAt_i2 h _) (va_cwS 2 hts (lw_S q1474 q1475 q107 q1476) rfl rfl rfl (by decide +kernel) ⟨Nat.le_trans (Nat.le_of_ble_eq_true rfl) hRf, Nat.le_trans (Nat.le_of_ble_eq_true rfl) hRl⟩) ⟨ct_blind, ct_at F hS ct_nP ct_nD⟩ rfl rfl hl.1 rfl (lv_room (Nat.le_of_ble_eq_true rfl)) dJ4_charAt_12 ⟨hC, hSl⟩) rfl rfl hP hS ?_
    rintro x2 _ H locs h hP hS
    exact rt_i F dJ4_charAt_15 h.1 () h.2 hP hD hS (Nat.le_refl _) (Nat.le_refl _)
set_option maxHeartbeats 4000000 in
theorem ct_J4_charAt_i3 {l : Launch} {V : evT} {D : va_G} {gI : Nat → ClassId} {v1 : Int32} {Q : Int32 → Prop} (h : wp_J4_charAt 3 v1  Q) : ct_i l V D vwCl (tyL gI) yJ4_charAt cJ4_charAt 2 .char { frames := 4, cells := 0, slots := 0, locals := 76 } [.ref (V.1 3), .int v1] [] (fun u : Unit => []) (fun (x : Int32) (u : Unit) => Q x) := by
  refine ct_ofi RJ4 rfl (by decide +kernel) (Nat.le_of_ble_eq_true rfl) ?_
  intro p e s m args below meth c A F hP hD ls hl
  obtain ⟨⟨hx, hb, hml, hown, hts⟩, hr, hlocks, hA, hK, hE⟩ := id F
  have hS : va_S A s.heap s.heap [] := va_S.rf
  have hl : lv_has ls 2 [(0, .ref (V.1 3)), (1, .int v1)] := hl
  have hRf : 4 ≤ ({ frames := 4, cells := 0, slots := 0, locals := 76 } : Room).frames := Nat.le_refl _
  have hRl : 76 ≤ ({ frames := 4, cells := 0, slots := 0, locals := 76 } : Room).locals := Nat.le_refl _
  have hC : 0 ≤ ({ frames := 4, cells := 0, slots := 0, locals := 76 } : Room).cells := Nat.le_refl _
  have hSl : 0 ≤ ({ frames := 4, cells := 0, slots := 0, locals := 76 } : Room).slots := Nat.le_refl _
  unfold wp_J4_charAt at h
  refine lv_aload_n hx hb dJ4_charAt_0 rfl (lv_at hl 0 rfl) ?_
  refine cl_i0 F (va_runV (As := []) (rest := []) ⟨hx, hb, hml, hown, hts⟩ (ct_J4_isLatin1_i3 h _) (cwV 0 hts (lw_V q829 q830 q831 q106 q832) rfl rfl rfl (by decide +kernel) ⟨Nat.le_trans (Nat.le_of_ble_eq_true rfl) hRf, Nat.le_trans (Nat.le_of_ble_eq_true rfl) hRl⟩) ⟨ct_blind, vk_recv (N := 1) (i := 0) (hE.2.2.1 3 _ rfl).2 (by decide) hS, ct_at F hS ct_nP ct_nD⟩ rfl rfl hl.1 rfl (lv_room (Nat.le_of_ble_eq_true rfl)) dJ4_charAt_1 ⟨hC, hSl⟩) rfl rfl hP hS ?_
  rintro x1 _ H locs h hP hS
  refine lv_if_eq (tgt := 16) hx hb dJ4_charAt_4 (by decide) (fun c3 => ?_) (fun c3 => ?_)
  · replace h := h.1 c3
    exact h.elim
  · replace h := h.2 c3
    refine lv_aload_n hx hb dJ4_charAt_7 rfl (lv_at hl 0 rfl) ?_
    refine vk_getf (v := .ref (V.2 3)) hx hb ((hE.2.2.1 3 _ rfl).2.1 0 (by decide)).2.2.1 hS hown (hts _ q1880) (fun _ h => h) dJ4_charAt_8 ?_
    refine lv_iload_n hx hb dJ4_charAt_11 rfl (lv_at hl 1 rfl) ?_
    refine cl_i0 F (va_runS (As := [.ref (V.2 3), .int v1]) (rest := []) ⟨hx, hb, hml, hown, hts⟩ (ct_J5_charAt_i3 h _) (va_cwS 2 hts (lw_S q1474 q1475 q107 q1476) rfl rfl rfl (by decide +kernel) ⟨Nat.le_trans (Nat.le_of_ble_eq_true rfl) hRf, Nat.le_trans (Nat.le_of_ble_eq_true rfl) hRl⟩) ⟨ct_blind, ct_at F hS ct_nP ct_nD⟩ rfl rfl hl.1 rfl (lv_room (Nat.le_of_ble_eq_true rfl)) dJ4_charAt_12 ⟨hC, hSl⟩) rfl rfl hP hS ?_
    rintro x2 _ H locs h hP hS
    exact rt_i F dJ4_charAt_15 h.1 () h.2 hP hD hS (Nat.le_refl _) (Nat.le_refl _)
set_option maxHeartbeats 4000000 in
theorem ct_J4_charAt_i4 {l : Launch} {V : evT} {D : va_G} {gI : Nat → ClassId} {v1 : Int32} {Q : Int32 → Prop} (h : wp_J4_charAt 4 v1  Q) : ct_i l V D vwCl (tyL gI) yJ4_charAt cJ4_charAt 2 .char { frames := 4, cells := 0, slots := 0, locals := 76 } [.ref (V.1 4), .int v1] [] (fun u : Unit => []) (fun (x : Int32) (u : Unit) => Q x) := by
  refine ct_ofi RJ4 rfl (by decide +kernel) (Nat.le_of_ble_eq_true rfl) ?_
  intro p e s m args below meth c A F hP hD ls hl
  obtain ⟨⟨hx, hb, hml, hown, hts⟩, hr, hlocks, hA, hK, hE⟩ := id F
  have hS : va_S A s.heap s.heap [] := va_S.rf
  have hl : lv_has ls 2 [(0, .ref (V.1 4)), (1, .int v1)] := hl
  have hRf : 4 ≤ ({ frames := 4, cells := 0, slots := 0, locals := 76 } : Room).frames := Nat.le_refl _
  have hRl : 76 ≤ ({ frames := 4, cells := 0, slots := 0, locals := 76 } : Room).locals := Nat.le_refl _
  have hC : 0 ≤ ({ frames := 4, cells := 0, slots := 0, locals := 76 } : Room).cells := Nat.le_refl _
  have hSl : 0 ≤ ({ frames := 4, cells := 0, slots := 0, locals := 76 } : Room).slots := Nat.le_refl _
  unfold wp_J4_charAt at h
  refine lv_aload_n hx hb dJ4_charAt_0 rfl (lv_at hl 0 rfl) ?_
  refine cl_i0 F (va_runV (As := []) (rest := []) ⟨hx, hb, hml, hown, hts⟩ (ct_J4_isLatin1_i4 h _) (cwV 0 hts (lw_V q829 q830 q831 q106 q832) rfl rfl rfl (by decide +kernel) ⟨Nat.le_trans (Nat.le_of_ble_eq_true rfl) hRf, Nat.le_trans (Nat.le_of_ble_eq_true rfl) hRl⟩) ⟨ct_blind, vk_recv (N := 1) (i := 0) (hE.2.2.1 4 _ rfl).2 (by decide) hS, ct_at F hS ct_nP ct_nD⟩ rfl rfl hl.1 rfl (lv_room (Nat.le_of_ble_eq_true rfl)) dJ4_charAt_1 ⟨hC, hSl⟩) rfl rfl hP hS ?_
  rintro x1 _ H locs h hP hS
  refine lv_if_eq (tgt := 16) hx hb dJ4_charAt_4 (by decide) (fun c3 => ?_) (fun c3 => ?_)
  · replace h := h.1 c3
    exact h.elim
  · replace h := h.2 c3
    refine lv_aload_n hx hb dJ4_charAt_7 rfl (lv_at hl 0 rfl) ?_
    refine vk_getf (v := .ref (V.2 4)) hx hb ((hE.2.2.1 4 _ rfl).2.1 0 (by decide)).2.2.1 hS hown (hts _ q1880) (fun _ h => h) dJ4_charAt_8 ?_
    refine lv_iload_n hx hb dJ4_charAt_11 rfl (lv_at hl 1 rfl) ?_
    refine cl_i0 F (va_runS (As := [.ref (V.2 4), .int v1]) (rest := []) ⟨hx, hb, hml, hown, hts⟩ (ct_J5_charAt_i4 h _) (va_cwS 2 hts (lw_S q1474 q1475 q107 q1476) rfl rfl rfl (by decide +kernel) ⟨Nat.le_trans (Nat.le_of_ble_eq_true rfl) hRf, Nat.le_trans (Nat.le_of_ble_eq_true rfl) hRl⟩) ⟨ct_blind, ct_at F hS ct_nP ct_nD⟩ rfl rfl hl.1 rfl (lv_room (Nat.le_of_ble_eq_true rfl)) dJ4_charAt_12 ⟨hC, hSl⟩) rfl rfl hP hS ?_
    rintro x2 _ H locs h hP hS
    exact rt_i F dJ4_charAt_15 h.1 () h.2 hP hD hS (Nat.le_refl _) (Nat.le_refl _)
set_option maxHeartbeats 4000000 in
theorem ct_J4_charAt_i5 {l : Launch} {V : evT} {D : va_G} {gI : Nat → ClassId} {v1 : Int32} {Q : Int32 → Prop} (h : wp_J4_charAt 5 v1  Q) : ct_i l V D vwCl (tyL gI) yJ4_charAt cJ4_charAt 2 .char { frames := 4, cells := 0, slots := 0, locals := 76 } [.ref (V.1 5), .int v1] [] (fun u : Unit => []) (fun (x : Int32) (u : Unit) => Q x) := by
  refine ct_ofi RJ4 rfl (by decide +kernel) (Nat.le_of_ble_eq_true rfl) ?_
  intro p e s m args below meth c A F hP hD ls hl
  obtain ⟨⟨hx, hb, hml, hown, hts⟩, hr, hlocks, hA, hK, hE⟩ := id F
  have hS : va_S A s.heap s.heap [] := va_S.rf
  have hl : lv_has ls 2 [(0, .ref (V.1 5)), (1, .int v1)] := hl
  have hRf : 4 ≤ ({ frames := 4, cells := 0, slots := 0, locals := 76 } : Room).frames := Nat.le_refl _
  have hRl : 76 ≤ ({ frames := 4, cells := 0, slots := 0, locals := 76 } : Room).locals := Nat.le_refl _
  have hC : 0 ≤ ({ frames := 4, cells := 0, slots := 0, locals := 76 } : Room).cells := Nat.le_refl _
  have hSl : 0 ≤ ({ frames := 4, cells := 0, slots := 0, locals := 76 } : Room).slots := Nat.le_refl _
  unfold wp_J4_charAt at h
  refine lv_aload_n hx hb dJ4_charAt_0 rfl (lv_at hl 0 rfl) ?_
  refine cl_i0 F (va_runV (As := []) (rest := []) ⟨hx, hb, hml, hown, hts⟩ (ct_J4_isLatin1_i5 h _) (cwV 0 hts (lw_V q829 q830 q831 q106 q832) rfl rfl rfl (by decide +kernel) ⟨Nat.le_trans (Nat.le_of_ble_eq_true rfl) hRf, Nat.le_trans (Nat.le_of_ble_eq_true rfl) hRl⟩) ⟨ct_blind, vk_recv (N := 1) (i := 0) (hE.2.2.1 5 _ rfl).2 (by decide) hS, ct_at F hS ct_nP ct_nD⟩ rfl rfl hl.1 rfl (lv_room (Nat.le_of_ble_eq_true rfl)) dJ4_charAt_1 ⟨hC, hSl⟩) rfl rfl hP hS ?_
  rintro x1 _ H locs h hP hS
  refine lv_if_eq (tgt := 16) hx hb dJ4_charAt_4 (by decide) (fun c3 => ?_) (fun c3 => ?_)
  · replace h := h.1 c3
    exact h.elim
  · replace h := h.2 c3
    refine lv_aload_n hx hb dJ4_charAt_7 rfl (lv_at hl 0 rfl) ?_
    refine vk_getf (v := .ref (V.2 5)) hx hb ((hE.2.2.1 5 _ rfl).2.1 0 (by decide)).2.2.1 hS hown (hts _ q1880) (fun _ h => h) dJ4_charAt_8 ?_
    refine lv_iload_n hx hb dJ4_charAt_11 rfl (lv_at hl 1 rfl) ?_
    refine cl_i0 F (va_runS (As := [.ref (V.2 5), .int v1]) (rest := []) ⟨hx, hb, hml, hown, hts⟩ (ct_J5_charAt_i5 h _) (va_cwS 2 hts (lw_S q1474 q1475 q107 q1476) rfl rfl rfl (by decide +kernel) ⟨Nat.le_trans (Nat.le_of_ble_eq_true rfl) hRf, Nat.le_trans (Nat.le_of_ble_eq_true rfl) hRl⟩) ⟨ct_blind, ct_at F hS ct_nP ct_nD⟩ rfl rfl hl.1 rfl (lv_room (Nat.le_of_ble_eq_true rfl)) dJ4_charAt_12 ⟨hC, hSl⟩) rfl rfl hP hS ?_
    rintro x2 _ H locs h hP hS
    exact rt_i F dJ4_charAt_15 h.1 () h.2 hP hD hS (Nat.le_refl _) (Nat.le_refl _)
set_option maxHeartbeats 4000000 in
theorem ct_J4_charAt_i6 {l : Launch} {V : evT} {D : va_G} {gI : Nat → ClassId} {v1 : Int32} {Q : Int32 → Prop} (h : wp_J4_charAt 6 v1  Q) : ct_i l V D vwCl (tyL gI) yJ4_charAt cJ4_charAt 2 .char { frames := 4, cells := 0, slots := 0, locals := 76 } [.ref (V.1 6), .int v1] [] (fun u : Unit => []) (fun (x : Int32) (u : Unit) => Q x) := by
  refine ct_ofi RJ4 rfl (by decide +kernel) (Nat.le_of_ble_eq_true rfl) ?_
  intro p e s m args below meth c A F hP hD ls hl
  obtain ⟨⟨hx, hb, hml, hown, hts⟩, hr, hlocks, hA, hK, hE⟩ := id F
  have hS : va_S A s.heap s.heap [] := va_S.rf
  have hl : lv_has ls 2 [(0, .ref (V.1 6)), (1, .int v1)] := hl
  have hRf : 4 ≤ ({ frames := 4, cells := 0, slots := 0, locals := 76 } : Room).frames := Nat.le_refl _
  have hRl : 76 ≤ ({ frames := 4, cells := 0, slots := 0, locals := 76 } : Room).locals := Nat.le_refl _
  have hC : 0 ≤ ({ frames := 4, cells := 0, slots := 0, locals := 76 } : Room).cells := Nat.le_refl _
  have hSl : 0 ≤ ({ frames := 4, cells := 0, slots := 0, locals := 76 } : Room).slots := Nat.le_refl _
  unfold wp_J4_charAt at h
  refine lv_aload_n hx hb dJ4_charAt_0 rfl (lv_at hl 0 rfl) ?_
  refine cl_i0 F (va_runV (As := []) (rest := []) ⟨hx, hb, hml, hown, hts⟩ (ct_J4_isLatin1_i6 h _) (cwV 0 hts (lw_V q829 q830 q831 q106 q832) rfl rfl rfl (by decide +kernel) ⟨Nat.le_trans (Nat.le_of_ble_eq_true rfl) hRf, Nat.le_trans (Nat.le_of_ble_eq_true rfl) hRl⟩) ⟨ct_blind, vk_recv (N := 1) (i := 0) (hE.2.2.1 6 _ rfl).2 (by decide) hS, ct_at F hS ct_nP ct_nD⟩ rfl rfl hl.1 rfl (lv_room (Nat.le_of_ble_eq_true rfl)) dJ4_charAt_1 ⟨hC, hSl⟩) rfl rfl hP hS ?_
  rintro x1 _ H locs h hP hS
  refine lv_if_eq (tgt := 16) hx hb dJ4_charAt_4 (by decide) (fun c3 => ?_) (fun c3 => ?_)
  · replace h := h.1 c3
    exact h.elim
  · replace h := h.2 c3
    refine lv_aload_n hx hb dJ4_charAt_7 rfl (lv_at hl 0 rfl) ?_
    refine vk_getf (v := .ref (V.2 6)) hx hb ((hE.2.2.1 6 _ rfl).2.1 0 (by decide)).2.2.1 hS hown (hts _ q1880) (fun _ h => h) dJ4_charAt_8 ?_
    refine lv_iload_n hx hb dJ4_charAt_11 rfl (lv_at hl 1 rfl) ?_
    refine cl_i0 F (va_runS (As := [.ref (V.2 6), .int v1]) (rest := []) ⟨hx, hb, hml, hown, hts⟩ (ct_J5_charAt_i6 h _) (va_cwS 2 hts (lw_S q1474 q1475 q107 q1476) rfl rfl rfl (by decide +kernel) ⟨Nat.le_trans (Nat.le_of_ble_eq_true rfl) hRf, Nat.le_trans (Nat.le_of_ble_eq_true rfl) hRl⟩) ⟨ct_blind, ct_at F hS ct_nP ct_nD⟩ rfl rfl hl.1 rfl (lv_room (Nat.le_of_ble_eq_true rfl)) dJ4_charAt_12 ⟨hC, hSl⟩) rfl rfl hP hS ?_
    rintro x2 _ H locs h hP hS
    exact rt_i F dJ4_charAt_15 h.1 () h.2 hP hD hS (Nat.le_refl _) (Nat.le_refl _)
set_option maxHeartbeats 4000000 in
theorem ct_J4_charAt_i7 {l : Launch} {V : evT} {D : va_G} {gI : Nat → ClassId} {v1 : Int32} {Q : Int32 → Prop} (h : wp_J4_charAt 7 v1  Q) : ct_i l V D vwCl (tyL gI) yJ4_charAt cJ4_charAt 2 .char { frames := 4, cells := 0, slots := 0, locals := 76 } [.ref (V.1 7), .int v1] [] (fun u : Unit => []) (fun (x : Int32) (u : Unit) => Q x) := by
  refine ct_ofi RJ4 rfl (by decide +kernel) (Nat.le_of_ble_eq_true rfl) ?_
  intro p e s m args below meth c A F hP hD ls hl
  obtain ⟨⟨hx, hb, hml, hown, hts⟩, hr, hlocks, hA, hK, hE⟩ := id F
  have hS : va_S A s.heap s.heap [] := va_S.rf
  have hl : lv_has ls 2 [(0, .ref (V.1 7)), (1, .int v1)] := hl
  have hRf : 4 ≤ ({ frames := 4, cells := 0, slots := 0, locals := 76 } : Room).frames := Nat.le_refl _
  have hRl : 76 ≤ ({ frames := 4, cells := 0, slots := 0, locals := 76 } : Room).locals := Nat.le_refl _
  have hC : 0 ≤ ({ frames := 4, cells := 0, slots := 0, locals := 76 } : Room).cells := Nat.le_refl _
  have hSl : 0 ≤ ({ frames := 4, cells := 0, slots := 0, locals := 76 } : Room).slots := Nat.le_refl _
  unfold wp_J4_charAt at h
  refine lv_aload_n hx hb dJ4_charAt_0 rfl (lv_at hl 0 rfl) ?_
  refine cl_i0 F (va_runV (As := []) (rest := []) ⟨hx, hb, hml, hown, hts⟩ (ct_J4_isLatin1_i7 h _) (cwV 0 hts (lw_V q829 q830 q831 q106 q832) rfl rfl rfl (by decide +kernel) ⟨Nat.le_trans (Nat.le_of_ble_eq_true rfl) hRf, Nat.le_trans (Nat.le_of_ble_eq_true rfl) hRl⟩) ⟨ct_blind, vk_recv (N := 1) (i := 0) (hE.2.2.1 7 _ rfl).2 (by decide) hS, ct_at F hS ct_nP ct_nD⟩ rfl rfl hl.1 rfl (lv_room (Nat.le_of_ble_eq_true rfl)) dJ4_charAt_1 ⟨hC, hSl⟩) rfl rfl hP hS ?_
  rintro x1 _ H locs h hP hS
  refine lv_if_eq (tgt := 16) hx hb dJ4_charAt_4 (by decide) (fun c3 => ?_) (fun c3 => ?_)
  · replace h := h.1 c3
    exact h.elim
  · replace h := h.2 c3
    refine lv_aload_n hx hb dJ4_charAt_7 rfl (lv_at hl 0 rfl) ?_
    refine vk_getf (v := .ref (V.2 7)) hx hb ((hE.2.2.1 7 _ rfl).2.1 0 (by decide)).2.2.1 hS hown (hts _ q1880) (fun _ h => h) dJ4_charAt_8 ?_
    refine lv_iload_n hx hb dJ4_charAt_11 rfl (lv_at hl 1 rfl) ?_
    refine cl_i0 F (va_runS (As := [.ref (V.2 7), .int v1]) (rest := []) ⟨hx, hb, hml, hown, hts⟩ (ct_J5_charAt_i7 h _) (va_cwS 2 hts (lw_S q1474 q1475 q107 q1476) rfl rfl rfl (by decide +kernel) ⟨Nat.le_trans (Nat.le_of_ble_eq_true rfl) hRf, Nat.le_trans (Nat.le_of_ble_eq_true rfl) hRl⟩) ⟨ct_blind, ct_at F hS ct_nP ct_nD⟩ rfl rfl hl.1 rfl (lv_room (Nat.le_of_ble_eq_true rfl)) dJ4_charAt_12 ⟨hC, hSl⟩) rfl rfl hP hS ?_
    rintro x2 _ H locs h hP hS
    exact rt_i F dJ4_charAt_15 h.1 () h.2 hP hD hS (Nat.le_refl _) (Nat.le_refl _)
set_option maxHeartbeats 4000000 in
theorem ct_J5_canEncode {l : Launch} {V : evT} {D : va_G} {gI : Nat → ClassId} {v0 : Int32} {Q : Int32 → Prop} (h : wp_J5_canEncode v0  Q) : ct_i l V D vwCl (tyL gI) yJ5_canEncode cJ5_canEncode 1 .boolean { frames := 1, cells := 0, slots := 0, locals := 12 } [.int v0] [] (fun u : Unit => []) (fun (x : Int32) (u : Unit) => Q x) := by
  refine ct_ofi RJ5 rfl (by decide +kernel) (Nat.le_of_ble_eq_true rfl) ?_
  intro p e s m args below meth c A F hP hD ls hl
  obtain ⟨⟨hx, hb, hml, hown, hts⟩, hr, hlocks, hA, hK, hE⟩ := id F
  have hS : va_S A s.heap s.heap [] := va_S.rf
  have hl : lv_has ls 1 [(0, .int v0)] := hl
  have hRf : 1 ≤ ({ frames := 1, cells := 0, slots := 0, locals := 12 } : Room).frames := Nat.le_refl _
  have hRl : 12 ≤ ({ frames := 1, cells := 0, slots := 0, locals := 12 } : Room).locals := Nat.le_refl _
  have hC : 0 ≤ ({ frames := 1, cells := 0, slots := 0, locals := 12 } : Room).cells := Nat.le_refl _
  have hSl : 0 ≤ ({ frames := 1, cells := 0, slots := 0, locals := 12 } : Room).slots := Nat.le_refl _
  unfold wp_J5_canEncode at h
  refine lv_iload_n hx hb dJ5_canEncode_0 rfl (lv_at hl 0 rfl) ?_
  refine lv_if_lt (tgt := 15) hx hb dJ5_canEncode_1 (by decide) (fun c2 => ?_) (fun c2 => ?_)
  · replace h := h.1 c2
    refine lv_iconst (v := (0 : Int32)) hx hb dJ5_canEncode_15 (by decide) ?_
    exact rt_i F dJ5_canEncode_16 rfl () h hP hD hS (Nat.le_refl _) (Nat.le_refl _)
  · replace h := h.2 c2
    refine lv_iload_n hx hb dJ5_canEncode_4 rfl (lv_at hl 0 rfl) ?_
    refine lv_sipush (v := (255 : Int32)) hx hb dJ5_canEncode_5 (by decide) ?_
    refine lv_icmp_gt (tgt := 15) hx hb dJ5_canEncode_8 (by decide) (fun c1 => ?_) (fun c1 => ?_)
    · replace h := h.1 c1
      refine lv_iconst (v := (0 : Int32)) hx hb dJ5_canEncode_15 (by decide) ?_
      exact rt_i F dJ5_canEncode_16 rfl () h hP hD hS (Nat.le_refl _) (Nat.le_refl _)
    · replace h := h.2 c1
      refine lv_iconst (v := (1 : Int32)) hx hb dJ5_canEncode_11 (by decide) ?_
      refine lv_goto (tgt := 16) hx hb dJ5_canEncode_12 (by decide) ?_
      exact rt_i F dJ5_canEncode_16 rfl () h hP hD hS (Nat.le_refl _) (Nat.le_refl _)
set_option maxHeartbeats 4000000 in
theorem lp_J5_indexOfChar_L1_i0 {p : Program} {l : Launch} {e : Env} {R : Room} {s : State} {m : MethodId} {args : Array Value} {below : List Frame} {meth : Method} {c : Code} {cells slots : Nat} {A : Nat → Prop} {Qf : State → Prop} {V : evT} {D : va_G} {gI : Nat → ClassId} {v3 : Int32} {v4 : Int32} {K31 : Prop} {K22 : (Int32) → Prop} (F : ct_F p m c meth cJ5_indexOfChar 6 s args RJ5 (some .int) A V D vwCl (tyL gI)) (hRf : 1 ≤ R.frames) (hRl : 12 ≤ R.locals) (hC : cells ≤ R.cells) (hSl : slots ≤ R.slots)
    (hK31 : K31 → ∀ (H : Heap) (locs : List Loc) (ls : Array Slot), va_P D vwCl [] H → va_D A [] → va_S A s.heap H locs → lv_has ls 6 [] → W p l e R s m args below meth c H locs cells slots Qf (F0 m 31 ls []))
    (hK22 : ∀ (v5 : Int32), K22 v5 → ∀ (H : Heap) (locs : List Loc) (ls : Array Slot), va_P D vwCl [] H → va_D A [] → va_S A s.heap H locs → lv_has ls 6 [(5, .int v5)] → W p l e R s m args below meth c H locs cells slots Qf (F0 m 22 ls [])) :
    ∀ (n : Nat) (v5 : Int32), wp_J5_indexOfChar_L1 0 v3 v4 K31 K22 n v5 → ∀ (H : Heap) (locs : List Loc) (ls : Array Slot), va_P D vwCl [] H → va_D A [] → va_S A s.heap H locs → lv_has ls 6 [(0, .ref (V.2 0)), (3, .int v3), (4, .int v4), (5, .int v5)] → W p l e R s m args below meth c H locs cells slots Qf (F0 m 7 ls []) := by
  obtain ⟨⟨hx, hb, hml, hown, hts⟩, hr, hlocks, hA, hK, hE⟩ := id F
  intro n
  induction n with
  | zero => intro v5 h; exact h.elim
  | succ n ih =>
    intro v5 h H locs ls hP hD hS hl
    unfold wp_J5_indexOfChar_L1 at h
    refine lv_iload hx hb dJ5_indexOfChar_7 (lv_at hl 3 rfl) ?_
    refine lv_iload_n hx hb dJ5_indexOfChar_9 rfl (lv_at hl 1 rfl) ?_
    refine lv_icmp_ge (tgt := 31) hx hb dJ5_indexOfChar_10 (by decide) (fun c2 => ?_) (fun c2 => ?_)
    · replace h := h.1 c2
      exact hK31  h _ _ _ hP hD hS (lv_sub hl [] rfl)
    · replace h := h.2 c2
      refine lv_aload_n hx hb dJ5_indexOfChar_13 rfl (lv_at hl 0 rfl) ?_
      refine lv_iload hx hb dJ5_indexOfChar_14 (lv_at hl 3 rfl) ?_
      refine va_tb (v := .int ((sB 0).getD v5.toNatClampNeg 0)) hx hb ((hE.2.2.1 0 _ rfl).2.1 0 (by decide)).2.2.2 hS h.1 rfl dJ5_indexOfChar_16 ?_
      replace h := h.2
      refine lv_iload hx hb dJ5_indexOfChar_17 (lv_at hl 2 rfl) ?_
      refine lv_icmp_ne (tgt := 25) hx hb dJ5_indexOfChar_19 (by decide) (fun c1 => ?_) (fun c1 => ?_)
      · replace h := h.1 c1
        refine lv_iinc (v := (v5 + (1 : Int32))) (lv' := [(5, .int (v5 + (1 : Int32))), (0, .ref (V.2 0)), (3, .int v3), (4, .int v4)]) hx hb dJ5_indexOfChar_25 hl (k := 3) rfl rfl (by decide) rfl (fun ls hl => ?_)
        refine lv_goto (tgt := 7) hx hb dJ5_indexOfChar_28 (by decide) ?_
        exact ih _ h _ _ _ hP hD hS (lv_sub hl [1, 2, 3, 0] rfl)
      · replace h := h.2 c1
        exact hK22 _ h _ _ _ hP hD hS (lv_sub hl [3] rfl)
set_option maxHeartbeats 4000000 in
theorem ct_J5_indexOfChar_i0 {l : Launch} {V : evT} {D : va_G} {gI : Nat → ClassId} {v1 : Int32} {v2 : Int32} {v3 : Int32} {Q : Int32 → Prop} (h : wp_J5_indexOfChar 0 v1 v2 v3  Q) : ct_i l V D vwCl (tyL gI) yJ5_indexOfChar cJ5_indexOfChar 6 .int { frames := 1, cells := 0, slots := 0, locals := 12 } [.ref (V.2 0), .int v1, .int v2, .int v3] [] (fun u : Unit => []) (fun (x : Int32) (u : Unit) => Q x) := by
  refine ct_ofi RJ5 rfl (by decide +kernel) (Nat.le_of_ble_eq_true rfl) ?_
  intro p e s m args below meth c A F hP hD ls hl
  obtain ⟨⟨hx, hb, hml, hown, hts⟩, hr, hlocks, hA, hK, hE⟩ := id F
  have hS : va_S A s.heap s.heap [] := va_S.rf
  have hl : lv_has ls 6 [(0, .ref (V.2 0)), (1, .int v1), (2, .int v2), (3, .int v3)] := hl
  have hRf : 1 ≤ ({ frames := 1, cells := 0, slots := 0, locals := 12 } : Room).frames := Nat.le_refl _
  have hRl : 12 ≤ ({ frames := 1, cells := 0, slots := 0, locals := 12 } : Room).locals := Nat.le_refl _
  have hC : 0 ≤ ({ frames := 1, cells := 0, slots := 0, locals := 12 } : Room).cells := Nat.le_refl _
  have hSl : 0 ≤ ({ frames := 1, cells := 0, slots := 0, locals := 12 } : Room).slots := Nat.le_refl _
  unfold wp_J5_indexOfChar at h
  refine lv_iload_n hx hb dJ5_indexOfChar_0 rfl (lv_at hl 1 rfl) ?_
  refine lv_i2b (v := (v1.toInt8.toInt32)) hx hb dJ5_indexOfChar_1 rfl ?_
  refine lv_istore (lv' := [(4, .int (v1.toInt8.toInt32)), (0, .ref (V.2 0)), (1, .int v1), (2, .int v2), (3, .int v3)]) hx hb dJ5_indexOfChar_2 hl (by decide) rfl (fun ls hl => ?_)
  refine lv_iload_n hx hb dJ5_indexOfChar_4 rfl (lv_at hl 3 rfl) ?_
  refine lv_istore (lv' := [(5, .int v2), (4, .int (v1.toInt8.toInt32)), (0, .ref (V.2 0)), (1, .int v1), (2, .int v2), (3, .int v3)]) hx hb dJ5_indexOfChar_5 hl (by decide) rfl (fun ls hl => ?_)
  obtain ⟨k7, h⟩ := h
  refine lp_J5_indexOfChar_L1_i0 F hRf hRl hC hSl ?hk31 ?hk22 k7 _ h _ _ _ hP hD hS (lv_sub hl [2, 5, 1, 0] rfl)
  case hk31 =>
    intro h H locs ls hP hD hS hl
    refine lv_iconst (v := (-1 : Int32)) hx hb dJ5_indexOfChar_31 (by decide) ?_
    exact rt_i F dJ5_indexOfChar_32 rfl () h hP hD hS (Nat.le_refl _) (Nat.le_refl _)
  case hk22 =>
    intro v5_3 h H locs ls hP hD hS hl
    refine lv_iload hx hb dJ5_indexOfChar_22 (lv_at hl 0 rfl) ?_
    exact rt_i F dJ5_indexOfChar_24 rfl () h hP hD hS (Nat.le_refl _) (Nat.le_refl _)
set_option maxHeartbeats 4000000 in
theorem lp_J5_indexOfChar_L1_i1 {p : Program} {l : Launch} {e : Env} {R : Room} {s : State} {m : MethodId} {args : Array Value} {below : List Frame} {meth : Method} {c : Code} {cells slots : Nat} {A : Nat → Prop} {Qf : State → Prop} {V : evT} {D : va_G} {gI : Nat → ClassId} {v3 : Int32} {v4 : Int32} {K31 : Prop} {K22 : (Int32) → Prop} (F : ct_F p m c meth cJ5_indexOfChar 6 s args RJ5 (some .int) A V D vwCl (tyL gI)) (hRf : 1 ≤ R.frames) (hRl : 12 ≤ R.locals) (hC : cells ≤ R.cells) (hSl : slots ≤ R.slots)
    (hK31 : K31 → ∀ (H : Heap) (locs : List Loc) (ls : Array Slot), va_P D vwCl [] H → va_D A [] → va_S A s.heap H locs → lv_has ls 6 [] → W p l e R s m args below meth c H locs cells slots Qf (F0 m 31 ls []))
    (hK22 : ∀ (v5 : Int32), K22 v5 → ∀ (H : Heap) (locs : List Loc) (ls : Array Slot), va_P D vwCl [] H → va_D A [] → va_S A s.heap H locs → lv_has ls 6 [(5, .int v5)] → W p l e R s m args below meth c H locs cells slots Qf (F0 m 22 ls [])) :
    ∀ (n : Nat) (v5 : Int32), wp_J5_indexOfChar_L1 1 v3 v4 K31 K22 n v5 → ∀ (H : Heap) (locs : List Loc) (ls : Array Slot), va_P D vwCl [] H → va_D A [] → va_S A s.heap H locs → lv_has ls 6 [(0, .ref (V.2 1)), (3, .int v3), (4, .int v4), (5, .int v5)] → W p l e R s m args below meth c H locs cells slots Qf (F0 m 7 ls []) := by
  obtain ⟨⟨hx, hb, hml, hown, hts⟩, hr, hlocks, hA, hK, hE⟩ := id F
  intro n
  induction n with
  | zero => intro v5 h; exact h.elim
  | succ n ih =>
    intro v5 h H locs ls hP hD hS hl
    unfold wp_J5_indexOfChar_L1 at h
    refine lv_iload hx hb dJ5_indexOfChar_7 (lv_at hl 3 rfl) ?_
    refine lv_iload_n hx hb dJ5_indexOfChar_9 rfl (lv_at hl 1 rfl) ?_
    refine lv_icmp_ge (tgt := 31) hx hb dJ5_indexOfChar_10 (by decide) (fun c2 => ?_) (fun c2 => ?_)
    · replace h := h.1 c2
      exact hK31  h _ _ _ hP hD hS (lv_sub hl [] rfl)
    · replace h := h.2 c2
      refine lv_aload_n hx hb dJ5_indexOfChar_13 rfl (lv_at hl 0 rfl) ?_
      refine lv_iload hx hb dJ5_indexOfChar_14 (lv_at hl 3 rfl) ?_
      refine va_tb (v := .int ((sB 1).getD v5.toNatClampNeg 0)) hx hb ((hE.2.2.1 1 _ rfl).2.1 0 (by decide)).2.2.2 hS h.1 rfl dJ5_indexOfChar_16 ?_
      replace h := h.2
      refine lv_iload hx hb dJ5_indexOfChar_17 (lv_at hl 2 rfl) ?_
      refine lv_icmp_ne (tgt := 25) hx hb dJ5_indexOfChar_19 (by decide) (fun c1 => ?_) (fun c1 => ?_)
      · replace h := h.1 c1
        refine lv_iinc (v := (v5 + (1 : Int32))) (lv' := [(5, .int (v5 + (1 : Int32))), (0, .ref (V.2 1)), (3, .int v3), (4, .int v4)]) hx hb dJ5_indexOfChar_25 hl (k := 3) rfl rfl (by decide) rfl (fun ls hl => ?_)
        refine lv_goto (tgt := 7) hx hb dJ5_indexOfChar_28 (by decide) ?_
        exact ih _ h _ _ _ hP hD hS (lv_sub hl [1, 2, 3, 0] rfl)
      · replace h := h.2 c1
        exact hK22 _ h _ _ _ hP hD hS (lv_sub hl [3] rfl)
set_option maxHeartbeats 4000000 in
theorem ct_J5_indexOfChar_i1 {l : Launch} {V : evT} {D : va_G} {gI : Nat → ClassId} {v1 : Int32} {v2 : Int32} {v3 : Int32} {Q : Int32 → Prop} (h : wp_J5_indexOfChar 1 v1 v2 v3  Q) : ct_i l V D vwCl (tyL gI) yJ5_indexOfChar cJ5_indexOfChar 6 .int { frames := 1, cells := 0, slots := 0, locals := 12 } [.ref (V.2 1), .int v1, .int v2, .int v3] [] (fun u : Unit => []) (fun (x : Int32) (u : Unit) => Q x) := by
  refine ct_ofi RJ5 rfl (by decide +kernel) (Nat.le_of_ble_eq_true rfl) ?_
  intro p e s m args below meth c A F hP hD ls hl
  obtain ⟨⟨hx, hb, hml, hown, hts⟩, hr, hlocks, hA, hK, hE⟩ := id F
  have hS : va_S A s.heap s.heap [] := va_S.rf
  have hl : lv_has ls 6 [(0, .ref (V.2 1)), (1, .int v1), (2, .int v2), (3, .int v3)] := hl
  have hRf : 1 ≤ ({ frames := 1, cells := 0, slots := 0, locals := 12 } : Room).frames := Nat.le_refl _
  have hRl : 12 ≤ ({ frames := 1, cells := 0, slots := 0, locals := 12 } : Room).locals := Nat.le_refl _
  have hC : 0 ≤ ({ frames := 1, cells := 0, slots := 0, locals := 12 } : Room).cells := Nat.le_refl _
  have hSl : 0 ≤ ({ frames := 1, cells := 0, slots := 0, locals := 12 } : Room).slots := Nat.le_refl _
  unfold wp_J5_indexOfChar at h
  refine lv_iload_n hx hb dJ5_indexOfChar_0 rfl (lv_at hl 1 rfl) ?_
  refine lv_i2b (v := (v1.toInt8.toInt32)) hx hb dJ5_indexOfChar_1 rfl ?_
  refine lv_istore (lv' := [(4, .int (v1.toInt8.toInt32)), (0, .ref (V.2 1)), (1, .int v1), (2, .int v2), (3, .int v3)]) hx hb dJ5_indexOfChar_2 hl (by decide) rfl (fun ls hl => ?_)
  refine lv_iload_n hx hb dJ5_indexOfChar_4 rfl (lv_at hl 3 rfl) ?_
  refine lv_istore (lv' := [(5, .int v2), (4, .int (v1.toInt8.toInt32)), (0, .ref (V.2 1)), (1, .int v1), (2, .int v2), (3, .int v3)]) hx hb dJ5_indexOfChar_5 hl (by decide) rfl (fun ls hl => ?_)
  obtain ⟨k7, h⟩ := h
  refine lp_J5_indexOfChar_L1_i1 F hRf hRl hC hSl ?hk31 ?hk22 k7 _ h _ _ _ hP hD hS (lv_sub hl [2, 5, 1, 0] rfl)
  case hk31 =>
    intro h H locs ls hP hD hS hl
    refine lv_iconst (v := (-1 : Int32)) hx hb dJ5_indexOfChar_31 (by decide) ?_
    exact rt_i F dJ5_indexOfChar_32 rfl () h hP hD hS (Nat.le_refl _) (Nat.le_refl _)
  case hk22 =>
    intro v5_3 h H locs ls hP hD hS hl
    refine lv_iload hx hb dJ5_indexOfChar_22 (lv_at hl 0 rfl) ?_
    exact rt_i F dJ5_indexOfChar_24 rfl () h hP hD hS (Nat.le_refl _) (Nat.le_refl _)
set_option maxHeartbeats 4000000 in
theorem lp_J5_indexOfChar_L1_i2 {p : Program} {l : Launch} {e : Env} {R : Room} {s : State} {m : MethodId} {args : Array Value} {below : List Frame} {meth : Method} {c : Code} {cells slots : Nat} {A : Nat → Prop} {Qf : State → Prop} {V : evT} {D : va_G} {gI : Nat → ClassId} {v3 : Int32} {v4 : Int32} {K31 : Prop} {K22 : (Int32) → Prop} (F : ct_F p m c meth cJ5_indexOfChar 6 s args RJ5 (some .int) A V D vwCl (tyL gI)) (hRf : 1 ≤ R.frames) (hRl : 12 ≤ R.locals) (hC : cells ≤ R.cells) (hSl : slots ≤ R.slots)
    (hK31 : K31 → ∀ (H : Heap) (locs : List Loc) (ls : Array Slot), va_P D vwCl [] H → va_D A [] → va_S A s.heap H locs → lv_has ls 6 [] → W p l e R s m args below meth c H locs cells slots Qf (F0 m 31 ls []))
    (hK22 : ∀ (v5 : Int32), K22 v5 → ∀ (H : Heap) (locs : List Loc) (ls : Array Slot), va_P D vwCl [] H → va_D A [] → va_S A s.heap H locs → lv_has ls 6 [(5, .int v5)] → W p l e R s m args below meth c H locs cells slots Qf (F0 m 22 ls [])) :
    ∀ (n : Nat) (v5 : Int32), wp_J5_indexOfChar_L1 2 v3 v4 K31 K22 n v5 → ∀ (H : Heap) (locs : List Loc) (ls : Array Slot), va_P D vwCl [] H → va_D A [] → va_S A s.heap H locs → lv_has ls 6 [(0, .ref (V.2 2)), (3, .int v3), (4, .int v4), (5, .int v5)] → W p l e R s m args below meth c H locs cells slots Qf (F0 m 7 ls []) := by
  obtain ⟨⟨hx, hb, hml, hown, hts⟩, hr, hlocks, hA, hK, hE⟩ := id F
  intro n
  induction n with
  | zero => intro v5 h; exact h.elim
  | succ n ih =>
    intro v5 h H locs ls hP hD hS hl
    unfold wp_J5_indexOfChar_L1 at h
    refine lv_iload hx hb dJ5_indexOfChar_7 (lv_at hl 3 rfl) ?_
    refine lv_iload_n hx hb dJ5_indexOfChar_9 rfl (lv_at hl 1 rfl) ?_
    refine lv_icmp_ge (tgt := 31) hx hb dJ5_indexOfChar_10 (by decide) (fun c2 => ?_) (fun c2 => ?_)
    · replace h := h.1 c2
      exact hK31  h _ _ _ hP hD hS (lv_sub hl [] rfl)
    · replace h := h.2 c2
      refine lv_aload_n hx hb dJ5_indexOfChar_13 rfl (lv_at hl 0 rfl) ?_
      refine lv_iload hx hb dJ5_indexOfChar_14 (lv_at hl 3 rfl) ?_
      refine va_tb (v := .int ((sB 2).getD v5.toNatClampNeg 0)) hx hb ((hE.2.2.1 2 _ rfl).2.1 0 (by decide)).2.2.2 hS h.1 rfl dJ5_indexOfChar_16 ?_
      replace h := h.2
      refine lv_iload hx hb dJ5_indexOfChar_17 (lv_at hl 2 rfl) ?_
      refine lv_icmp_ne (tgt := 25) hx hb dJ5_indexOfChar_19 (by decide) (fun c1 => ?_) (fun c1 => ?_)
      · replace h := h.1 c1
        refine lv_iinc (v := (v5 + (1 : Int32))) (lv' := [(5, .int (v5 + (1 : Int32))), (0, .ref (V.2 2)), (3, .int v3), (4, .int v4)]) hx hb dJ5_indexOfChar_25 hl (k := 3) rfl rfl (by decide) rfl (fun ls hl => ?_)
        refine lv_goto (tgt := 7) hx hb dJ5_indexOfChar_28 (by decide) ?_
        exact ih _ h _ _ _ hP hD hS (lv_sub hl [1, 2, 3, 0] rfl)
      · replace h := h.2 c1
        exact hK22 _ h _ _ _ hP hD hS (lv_sub hl [3] rfl)
set_option maxHeartbeats 4000000 in
theorem ct_J5_indexOfChar_i2 {l : Launch} {V : evT} {D : va_G} {gI : Nat → ClassId} {v1 : Int32} {v2 : Int32} {v3 : Int32} {Q : Int32 → Prop} (h : wp_J5_indexOfChar 2 v1 v2 v3  Q) : ct_i l V D vwCl (tyL gI) yJ5_indexOfChar cJ5_indexOfChar 6 .int { frames := 1, cells := 0, slots := 0, locals := 12 } [.ref (V.2 2), .int v1, .int v2, .int v3] [] (fun u : Unit => []) (fun (x : Int32) (u : Unit) => Q x) := by
  refine ct_ofi RJ5 rfl (by decide +kernel) (Nat.le_of_ble_eq_true rfl) ?_
  intro p e s m args below meth c A F hP hD ls hl
  obtain ⟨⟨hx, hb, hml, hown, hts⟩, hr, hlocks, hA, hK, hE⟩ := id F
  have hS : va_S A s.heap s.heap [] := va_S.rf
  have hl : lv_has ls 6 [(0, .ref (V.2 2)), (1, .int v1), (2, .int v2), (3, .int v3)] := hl
  have hRf : 1 ≤ ({ frames := 1, cells := 0, slots := 0, locals := 12 } : Room).frames := Nat.le_refl _
  have hRl : 12 ≤ ({ frames := 1, cells := 0, slots := 0, locals := 12 } : Room).locals := Nat.le_refl _
  have hC : 0 ≤ ({ frames := 1, cells := 0, slots := 0, locals := 12 } : Room).cells := Nat.le_refl _
  have hSl : 0 ≤ ({ frames := 1, cells := 0, slots := 0, locals := 12 } : Room).slots := Nat.le_refl _
  unfold wp_J5_indexOfChar at h
  refine lv_iload_n hx hb dJ5_indexOfChar_0 rfl (lv_at hl 1 rfl) ?_
  refine lv_i2b (v := (v1.toInt8.toInt32)) hx hb dJ5_indexOfChar_1 rfl ?_
  refine lv_istore (lv' := [(4, .int (v1.toInt8.toInt32)), (0, .ref (V.2 2)), (1, .int v1), (2, .int v2), (3, .int v3)]) hx hb dJ5_indexOfChar_2 hl (by decide) rfl (fun ls hl => ?_)
  refine lv_iload_n hx hb dJ5_indexOfChar_4 rfl (lv_at hl 3 rfl) ?_
  refine lv_istore (lv' := [(5, .int v2), (4, .int (v1.toInt8.toInt32)), (0, .ref (V.2 2)), (1, .int v1), (2, .int v2), (3, .int v3)]) hx hb dJ5_indexOfChar_5 hl (by decide) rfl (fun ls hl => ?_)
  obtain ⟨k7, h⟩ := h
  refine lp_J5_indexOfChar_L1_i2 F hRf hRl hC hSl ?hk31 ?hk22 k7 _ h _ _ _ hP hD hS (lv_sub hl [2, 5, 1, 0] rfl)
  case hk31 =>
    intro h H locs ls hP hD hS hl
    refine lv_iconst (v := (-1 : Int32)) hx hb dJ5_indexOfChar_31 (by decide) ?_
    exact rt_i F dJ5_indexOfChar_32 rfl () h hP hD hS (Nat.le_refl _) (Nat.le_refl _)
  case hk22 =>
    intro v5_3 h H locs ls hP hD hS hl
    refine lv_iload hx hb dJ5_indexOfChar_22 (lv_at hl 0 rfl) ?_
    exact rt_i F dJ5_indexOfChar_24 rfl () h hP hD hS (Nat.le_refl _) (Nat.le_refl _)
set_option maxHeartbeats 4000000 in
theorem lp_J5_indexOfChar_L1_i3 {p : Program} {l : Launch} {e : Env} {R : Room} {s : State} {m : MethodId} {args : Array Value} {below : List Frame} {meth : Method} {c : Code} {cells slots : Nat} {A : Nat → Prop} {Qf : State → Prop} {V : evT} {D : va_G} {gI : Nat → ClassId} {v3 : Int32} {v4 : Int32} {K31 : Prop} {K22 : (Int32) → Prop} (F : ct_F p m c meth cJ5_indexOfChar 6 s args RJ5 (some .int) A V D vwCl (tyL gI)) (hRf : 1 ≤ R.frames) (hRl : 12 ≤ R.locals) (hC : cells ≤ R.cells) (hSl : slots ≤ R.slots)
    (hK31 : K31 → ∀ (H : Heap) (locs : List Loc) (ls : Array Slot), va_P D vwCl [] H → va_D A [] → va_S A s.heap H locs → lv_has ls 6 [] → W p l e R s m args below meth c H locs cells slots Qf (F0 m 31 ls []))
    (hK22 : ∀ (v5 : Int32), K22 v5 → ∀ (H : Heap) (locs : List Loc) (ls : Array Slot), va_P D vwCl [] H → va_D A [] → va_S A s.heap H locs → lv_has ls 6 [(5, .int v5)] → W p l e R s m args below meth c H locs cells slots Qf (F0 m 22 ls [])) :
    ∀ (n : Nat) (v5 : Int32), wp_J5_indexOfChar_L1 3 v3 v4 K31 K22 n v5 → ∀ (H : Heap) (locs : List Loc) (ls : Array Slot), va_P D vwCl [] H → va_D A [] → va_S A s.heap H locs → lv_has ls 6 [(0, .ref (V.2 3)), (3, .int v3), (4, .int v4), (5, .int v5)] → W p l e R s m args below meth c H locs cells slots Qf (F0 m 7 ls []) := by
  obtain ⟨⟨hx, hb, hml, hown, hts⟩, hr, hlocks, hA, hK, hE⟩ := id F
  intro n
  induction n with
  | zero => intro v5 h; exact h.elim
  | succ n ih =>
    intro v5 h H locs ls hP hD hS hl
    unfold wp_J5_indexOfChar_L1 at h
    refine lv_iload hx hb dJ5_indexOfChar_7 (lv_at hl 3 rfl) ?_
    refine lv_iload_n hx hb dJ5_indexOfChar_9 rfl (lv_at hl 1 rfl) ?_
    refine lv_icmp_ge (tgt := 31) hx hb dJ5_indexOfChar_10 (by decide) (fun c2 => ?_) (fun c2 => ?_)
    · replace h := h.1 c2
      exact hK31  h _ _ _ hP hD hS (lv_sub hl [] rfl)
    · replace h := h.2 c2
      refine lv_aload_n hx hb dJ5_indexOfChar_13 rfl (lv_at hl 0 rfl) ?_
      refine lv_iload hx hb dJ5_indexOfChar_14 (lv_at hl 3 rfl) ?_
      refine va_tb (v := .int ((sB 3).getD v5.toNatClampNeg 0)) hx hb ((hE.2.2.1 3 _ rfl).2.1 0 (by decide)).2.2.2 hS h.1 rfl dJ5_indexOfChar_16 ?_
      replace h := h.2
      refine lv_iload hx hb dJ5_indexOfChar_17 (lv_at hl 2 rfl) ?_
      refine lv_icmp_ne (tgt := 25) hx hb dJ5_indexOfChar_19 (by decide) (fun c1 => ?_) (fun c1 => ?_)
      · replace h := h.1 c1
        refine lv_iinc (v := (v5 + (1 : Int32))) (lv' := [(5, .int (v5 + (1 : Int32))), (0, .ref (V.2 3)), (3, .int v3), (4, .int v4)]) hx hb dJ5_indexOfChar_25 hl (k := 3) rfl rfl (by decide) rfl (fun ls hl => ?_)
        refine lv_goto (tgt := 7) hx hb dJ5_indexOfChar_28 (by decide) ?_
        exact ih _ h _ _ _ hP hD hS (lv_sub hl [1, 2, 3, 0] rfl)
      · replace h := h.2 c1
        exact hK22 _ h _ _ _ hP hD hS (lv_sub hl [3] rfl)
set_option maxHeartbeats 4000000 in
theorem ct_J5_indexOfChar_i3 {l : Launch} {V : evT} {D : va_G} {gI : Nat → ClassId} {v1 : Int32} {v2 : Int32} {v3 : Int32} {Q : Int32 → Prop} (h : wp_J5_indexOfChar 3 v1 v2 v3  Q) : ct_i l V D vwCl (tyL gI) yJ5_indexOfChar cJ5_indexOfChar 6 .int { frames := 1, cells := 0, slots := 0, locals := 12 } [.ref (V.2 3), .int v1, .int v2, .int v3] [] (fun u : Unit => []) (fun (x : Int32) (u : Unit) => Q x) := by
  refine ct_ofi RJ5 rfl (by decide +kernel) (Nat.le_of_ble_eq_true rfl) ?_
  intro p e s m args below meth c A F hP hD ls hl
  obtain ⟨⟨hx, hb, hml, hown, hts⟩, hr, hlocks, hA, hK, hE⟩ := id F
  have hS : va_S A s.heap s.heap [] := va_S.rf
  have hl : lv_has ls 6 [(0, .ref (V.2 3)), (1, .int v1), (2, .int v2), (3, .int v3)] := hl
  have hRf : 1 ≤ ({ frames := 1, cells := 0, slots := 0, locals := 12 } : Room).frames := Nat.le_refl _
  have hRl : 12 ≤ ({ frames := 1, cells := 0, slots := 0, locals := 12 } : Room).locals := Nat.le_refl _
  have hC : 0 ≤ ({ frames := 1, cells := 0, slots := 0, locals := 12 } : Room).cells := Nat.le_refl _
  have hSl : 0 ≤ ({ frames := 1, cells := 0, slots := 0, locals := 12 } : Room).slots := Nat.le_refl _
  unfold wp_J5_indexOfChar at h
  refine lv_iload_n hx hb dJ5_indexOfChar_0 rfl (lv_at hl 1 rfl) ?_
  refine lv_i2b (v := (v1.toInt8.toInt32)) hx hb dJ5_indexOfChar_1 rfl ?_
  refine lv_istore (lv' := [(4, .int (v1.toInt8.toInt32)), (0, .ref (V.2 3)), (1, .int v1), (2, .int v2), (3, .int v3)]) hx hb dJ5_indexOfChar_2 hl (by decide) rfl (fun ls hl => ?_)
  refine lv_iload_n hx hb dJ5_indexOfChar_4 rfl (lv_at hl 3 rfl) ?_
  refine lv_istore (lv' := [(5, .int v2), (4, .int (v1.toInt8.toInt32)), (0, .ref (V.2 3)), (1, .int v1), (2, .int v2), (3, .int v3)]) hx hb dJ5_indexOfChar_5 hl (by decide) rfl (fun ls hl => ?_)
  obtain ⟨k7, h⟩ := h
  refine lp_J5_indexOfChar_L1_i3 F hRf hRl hC hSl ?hk31 ?hk22 k7 _ h _ _ _ hP hD hS (lv_sub hl [2, 5, 1, 0] rfl)
  case hk31 =>
    intro h H locs ls hP hD hS hl
    refine lv_iconst (v := (-1 : Int32)) hx hb dJ5_indexOfChar_31 (by decide) ?_
    exact rt_i F dJ5_indexOfChar_32 rfl () h hP hD hS (Nat.le_refl _) (Nat.le_refl _)
  case hk22 =>
    intro v5_3 h H locs ls hP hD hS hl
    refine lv_iload hx hb dJ5_indexOfChar_22 (lv_at hl 0 rfl) ?_
    exact rt_i F dJ5_indexOfChar_24 rfl () h hP hD hS (Nat.le_refl _) (Nat.le_refl _)
set_option maxHeartbeats 4000000 in
theorem lp_J5_indexOfChar_L1_i4 {p : Program} {l : Launch} {e : Env} {R : Room} {s : State} {m : MethodId} {args : Array Value} {below : List Frame} {meth : Method} {c : Code} {cells slots : Nat} {A : Nat → Prop} {Qf : State → Prop} {V : evT} {D : va_G} {gI : Nat → ClassId} {v3 : Int32} {v4 : Int32} {K31 : Prop} {K22 : (Int32) → Prop} (F : ct_F p m c meth cJ5_indexOfChar 6 s args RJ5 (some .int) A V D vwCl (tyL gI)) (hRf : 1 ≤ R.frames) (hRl : 12 ≤ R.locals) (hC : cells ≤ R.cells) (hSl : slots ≤ R.slots)
    (hK31 : K31 → ∀ (H : Heap) (locs : List Loc) (ls : Array Slot), va_P D vwCl [] H → va_D A [] → va_S A s.heap H locs → lv_has ls 6 [] → W p l e R s m args below meth c H locs cells slots Qf (F0 m 31 ls []))
    (hK22 : ∀ (v5 : Int32), K22 v5 → ∀ (H : Heap) (locs : List Loc) (ls : Array Slot), va_P D vwCl [] H → va_D A [] → va_S A s.heap H locs → lv_has ls 6 [(5, .int v5)] → W p l e R s m args below meth c H locs cells slots Qf (F0 m 22 ls [])) :
    ∀ (n : Nat) (v5 : Int32), wp_J5_indexOfChar_L1 4 v3 v4 K31 K22 n v5 → ∀ (H : Heap) (locs : List Loc) (ls : Array Slot), va_P D vwCl [] H → va_D A [] → va_S A s.heap H locs → lv_has ls 6 [(0, .ref (V.2 4)), (3, .int v3), (4, .int v4), (5, .int v5)] → W p l e R s m args below meth c H locs cells slots Qf (F0 m 7 ls []) := by
  obtain ⟨⟨hx, hb, hml, hown, hts⟩, hr, hlocks, hA, hK, hE⟩ := id F
  intro n
  induction n with
  | zero => intro v5 h; exact h.elim
  | succ n ih =>
    intro v5 h H locs ls hP hD hS hl
    unfold wp_J5_indexOfChar_L1 at h
    refine lv_iload hx hb dJ5_indexOfChar_7 (lv_at hl 3 rfl) ?_
    refine lv_iload_n hx hb dJ5_indexOfChar_9 rfl (lv_at hl 1 rfl) ?_
    refine lv_icmp_ge (tgt := 31) hx hb dJ5_indexOfChar_10 (by decide) (fun c2 => ?_) (fun c2 => ?_)
    · replace h := h.1 c2
      exact hK31  h _ _ _ hP hD hS (lv_sub hl [] rfl)
    · replace h := h.2 c2
      refine lv_aload_n hx hb dJ5_indexOfChar_13 rfl (lv_at hl 0 rfl) ?_
      refine lv_iload hx hb dJ5_indexOfChar_14 (lv_at hl 3 rfl) ?_
      refine va_tb (v := .int ((sB 4).getD v5.toNatClampNeg 0)) hx hb ((hE.2.2.1 4 _ rfl).2.1 0 (by decide)).2.2.2 hS h.1 rfl dJ5_indexOfChar_16 ?_
      replace h := h.2
      refine lv_iload hx hb dJ5_indexOfChar_17 (lv_at hl 2 rfl) ?_
      refine lv_icmp_ne (tgt := 25) hx hb dJ5_indexOfChar_19 (by decide) (fun c1 => ?_) (fun c1 => ?_)
      · replace h := h.1 c1
        refine lv_iinc (v := (v5 + (1 : Int32))) (lv' := [(5, .int (v5 + (1 : Int32))), (0, .ref (V.2 4)), (3, .int v3), (4, .int v4)]) hx hb dJ5_indexOfChar_25 hl (k := 3) rfl rfl (by decide) rfl (fun ls hl => ?_)
        refine lv_goto (tgt := 7) hx hb dJ5_indexOfChar_28 (by decide) ?_
        exact ih _ h _ _ _ hP hD hS (lv_sub hl [1, 2, 3, 0] rfl)
      · replace h := h.2 c1
        exact hK22 _ h _ _ _ hP hD hS (lv_sub hl [3] rfl)
set_option maxHeartbeats 4000000 in
theorem ct_J5_indexOfChar_i4 {l : Launch} {V : evT} {D : va_G} {gI : Nat → ClassId} {v1 : Int32} {v2 : Int32} {v3 : Int32} {Q : Int32 → Prop} (h : wp_J5_indexOfChar 4 v1 v2 v3  Q) : ct_i l V D vwCl (tyL gI) yJ5_indexOfChar cJ5_indexOfChar 6 .int { frames := 1, cells := 0, slots := 0, locals := 12 } [.ref (V.2 4), .int v1, .int v2, .int v3] [] (fun u : Unit => []) (fun (x : Int32) (u : Unit) => Q x) := by
  refine ct_ofi RJ5 rfl (by decide +kernel) (Nat.le_of_ble_eq_true rfl) ?_
  intro p e s m args below meth c A F hP hD ls hl
  obtain ⟨⟨hx, hb, hml, hown, hts⟩, hr, hlocks, hA, hK, hE⟩ := id F
  have hS : va_S A s.heap s.heap [] := va_S.rf
  have hl : lv_has ls 6 [(0, .ref (V.2 4)), (1, .int v1), (2, .int v2), (3, .int v3)] := hl
  have hRf : 1 ≤ ({ frames := 1, cells := 0, slots := 0, locals := 12 } : Room).frames := Nat.le_refl _
  have hRl : 12 ≤ ({ frames := 1, cells := 0, slots := 0, locals := 12 } : Room).locals := Nat.le_refl _
  have hC : 0 ≤ ({ frames := 1, cells := 0, slots := 0, locals := 12 } : Room).cells := Nat.le_refl _
  have hSl : 0 ≤ ({ frames := 1, cells := 0, slots := 0, locals := 12 } : Room).slots := Nat.le_refl _
  unfold wp_J5_indexOfChar at h
  refine lv_iload_n hx hb dJ5_indexOfChar_0 rfl (lv_at hl 1 rfl) ?_
  refine lv_i2b (v := (v1.toInt8.toInt32)) hx hb dJ5_indexOfChar_1 rfl ?_
  refine lv_istore (lv' := [(4, .int (v1.toInt8.toInt32)), (0, .ref (V.2 4)), (1, .int v1), (2, .int v2), (3, .int v3)]) hx hb dJ5_indexOfChar_2 hl (by decide) rfl (fun ls hl => ?_)
  refine lv_iload_n hx hb dJ5_indexOfChar_4 rfl (lv_at hl 3 rfl) ?_
  refine lv_istore (lv' := [(5, .int v2), (4, .int (v1.toInt8.toInt32)), (0, .ref (V.2 4)), (1, .int v1), (2, .int v2), (3, .int v3)]) hx hb dJ5_indexOfChar_5 hl (by decide) rfl (fun ls hl => ?_)
  obtain ⟨k7, h⟩ := h
  refine lp_J5_indexOfChar_L1_i4 F hRf hRl hC hSl ?hk31 ?hk22 k7 _ h _ _ _ hP hD hS (lv_sub hl [2, 5, 1, 0] rfl)
  case hk31 =>
    intro h H locs ls hP hD hS hl
    refine lv_iconst (v := (-1 : Int32)) hx hb dJ5_indexOfChar_31 (by decide) ?_
    exact rt_i F dJ5_indexOfChar_32 rfl () h hP hD hS (Nat.le_refl _) (Nat.le_refl _)
  case hk22 =>
    intro v5_3 h H locs ls hP hD hS hl
    refine lv_iload hx hb dJ5_indexOfChar_22 (lv_at hl 0 rfl) ?_
    exact rt_i F dJ5_indexOfChar_24 rfl () h hP hD hS (Nat.le_refl _) (Nat.le_refl _)
set_option maxHeartbeats 4000000 in
theorem lp_J5_indexOfChar_L1_i5 {p : Program} {l : Launch} {e : Env} {R : Room} {s : State} {m : MethodId} {args : Array Value} {below : List Frame} {meth : Method} {c : Code} {cells slots : Nat} {A : Nat → Prop} {Qf : State → Prop} {V : evT} {D : va_G} {gI : Nat → ClassId} {v3 : Int32} {v4 : Int32} {K31 : Prop} {K22 : (Int32) → Prop} (F : ct_F p m c meth cJ5_indexOfChar 6 s args RJ5 (some .int) A V D vwCl (tyL gI)) (hRf : 1 ≤ R.frames) (hRl : 12 ≤ R.locals) (hC : cells ≤ R.cells) (hSl : slots ≤ R.slots)
    (hK31 : K31 → ∀ (H : Heap) (locs : List Loc) (ls : Array Slot), va_P D vwCl [] H → va_D A [] → va_S A s.heap H locs → lv_has ls 6 [] → W p l e R s m args below meth c H locs cells slots Qf (F0 m 31 ls []))
    (hK22 : ∀ (v5 : Int32), K22 v5 → ∀ (H : Heap) (locs : List Loc) (ls : Array Slot), va_P D vwCl [] H → va_D A [] → va_S A s.heap H locs → lv_has ls 6 [(5, .int v5)] → W p l e R s m args below meth c H locs cells slots Qf (F0 m 22 ls [])) :
    ∀ (n : Nat) (v5 : Int32), wp_J5_indexOfChar_L1 5 v3 v4 K31 K22 n v5 → ∀ (H : Heap) (locs : List Loc) (ls : Array Slot), va_P D vwCl [] H → va_D A [] → va_S A s.heap H locs → lv_has ls 6 [(0, .ref (V.2 5)), (3, .int v3), (4, .int v4), (5, .int v5)] → W p l e R s m args below meth c H locs cells slots Qf (F0 m 7 ls []) := by
  obtain ⟨⟨hx, hb, hml, hown, hts⟩, hr, hlocks, hA, hK, hE⟩ := id F
  intro n
  induction n with
  | zero => intro v5 h; exact h.elim
  | succ n ih =>
    intro v5 h H locs ls hP hD hS hl
    unfold wp_J5_indexOfChar_L1 at h
    refine lv_iload hx hb dJ5_indexOfChar_7 (lv_at hl 3 rfl) ?_
    refine lv_iload_n hx hb dJ5_indexOfChar_9 rfl (lv_at hl 1 rfl) ?_
    refine lv_icmp_ge (tgt := 31) hx hb dJ5_indexOfChar_10 (by decide) (fun c2 => ?_) (fun c2 => ?_)
    · replace h := h.1 c2
      exact hK31  h _ _ _ hP hD hS (lv_sub hl [] rfl)
    · replace h := h.2 c2
      refine lv_aload_n hx hb dJ5_indexOfChar_13 rfl (lv_at hl 0 rfl) ?_
      refine lv_iload hx hb dJ5_indexOfChar_14 (lv_at hl 3 rfl) ?_
      refine va_tb (v := .int ((sB 5).getD v5.toNatClampNeg 0)) hx hb ((hE.2.2.1 5 _ rfl).2.1 0 (by decide)).2.2.2 hS h.1 rfl dJ5_indexOfChar_16 ?_
      replace h := h.2
      refine lv_iload hx hb dJ5_indexOfChar_17 (lv_at hl 2 rfl) ?_
      refine lv_icmp_ne (tgt := 25) hx hb dJ5_indexOfChar_19 (by decide) (fun c1 => ?_) (fun c1 => ?_)
      · replace h := h.1 c1
        refine lv_iinc (v := (v5 + (1 : Int32))) (lv' := [(5, .int (v5 + (1 : Int32))), (0, .ref (V.2 5)), (3, .int v3), (4, .int v4)]) hx hb dJ5_indexOfChar_25 hl (k := 3) rfl rfl (by decide) rfl (fun ls hl => ?_)
        refine lv_goto (tgt := 7) hx hb dJ5_indexOfChar_28 (by decide) ?_
        exact ih _ h _ _ _ hP hD hS (lv_sub hl [1, 2, 3, 0] rfl)
      · replace h := h.2 c1
        exact hK22 _ h _ _ _ hP hD hS (lv_sub hl [3] rfl)
set_option maxHeartbeats 4000000 in
theorem ct_J5_indexOfChar_i5 {l : Launch} {V : evT} {D : va_G} {gI : Nat → ClassId} {v1 : Int32} {v2 : Int32} {v3 : Int32} {Q : Int32 → Prop} (h : wp_J5_indexOfChar 5 v1 v2 v3  Q) : ct_i l V D vwCl (tyL gI) yJ5_indexOfChar cJ5_indexOfChar 6 .int { frames := 1, cells := 0, slots := 0, locals := 12 } [.ref (V.2 5), .int v1, .int v2, .int v3] [] (fun u : Unit => []) (fun (x : Int32) (u : Unit) => Q x) := by
  refine ct_ofi RJ5 rfl (by decide +kernel) (Nat.le_of_ble_eq_true rfl) ?_
  intro p e s m args below meth c A F hP hD ls hl
  obtain ⟨⟨hx, hb, hml, hown, hts⟩, hr, hlocks, hA, hK, hE⟩ := id F
  have hS : va_S A s.heap s.heap [] := va_S.rf
  have hl : lv_has ls 6 [(0, .ref (V.2 5)), (1, .int v1), (2, .int v2), (3, .int v3)] := hl
  have hRf : 1 ≤ ({ frames := 1, cells := 0, slots := 0, locals := 12 } : Room).frames := Nat.le_refl _
  have hRl : 12 ≤ ({ frames := 1, cells := 0, slots := 0, locals := 12 } : Room).locals := Nat.le_refl _
  have hC : 0 ≤ ({ frames := 1, cells := 0, slots := 0, locals := 12 } : Room).cells := Nat.le_refl _
  have hSl : 0 ≤ ({ frames := 1, cells := 0, slots := 0, locals := 12 } : Room).slots := Nat.le_refl _
  unfold wp_J5_indexOfChar at h
  refine lv_iload_n hx hb dJ5_indexOfChar_0 rfl (lv_at hl 1 rfl) ?_
  refine lv_i2b (v := (v1.toInt8.toInt32)) hx hb dJ5_indexOfChar_1 rfl ?_
  refine lv_istore (lv' := [(4, .int (v1.toInt8.toInt32)), (0, .ref (V.2 5)), (1, .int v1), (2, .int v2), (3, .int v3)]) hx hb dJ5_indexOfChar_2 hl (by decide) rfl (fun ls hl => ?_)
  refine lv_iload_n hx hb dJ5_indexOfChar_4 rfl (lv_at hl 3 rfl) ?_
  refine lv_istore (lv' := [(5, .int v2), (4, .int (v1.toInt8.toInt32)), (0, .ref (V.2 5)), (1, .int v1), (2, .int v2), (3, .int v3)]) hx hb dJ5_indexOfChar_5 hl (by decide) rfl (fun ls hl => ?_)
  obtain ⟨k7, h⟩ := h
  refine lp_J5_indexOfChar_L1_i5 F hRf hRl hC hSl ?hk31 ?hk22 k7 _ h _ _ _ hP hD hS (lv_sub hl [2, 5, 1, 0] rfl)
  case hk31 =>
    intro h H locs ls hP hD hS hl
    refine lv_iconst (v := (-1 : Int32)) hx hb dJ5_indexOfChar_31 (by decide) ?_
    exact rt_i F dJ5_indexOfChar_32 rfl () h hP hD hS (Nat.le_refl _) (Nat.le_refl _)
  case hk22 =>
    intro v5_3 h H locs ls hP hD hS hl
    refine lv_iload hx hb dJ5_indexOfChar_22 (lv_at hl 0 rfl) ?_
    exact rt_i F dJ5_indexOfChar_24 rfl () h hP hD hS (Nat.le_refl _) (Nat.le_refl _)
set_option maxHeartbeats 4000000 in
theorem lp_J5_indexOfChar_L1_i6 {p : Program} {l : Launch} {e : Env} {R : Room} {s : State} {m : MethodId} {args : Array Value} {below : List Frame} {meth : Method} {c : Code} {cells slots : Nat} {A : Nat → Prop} {Qf : State → Prop} {V : evT} {D : va_G} {gI : Nat → ClassId} {v3 : Int32} {v4 : Int32} {K31 : Prop} {K22 : (Int32) → Prop} (F : ct_F p m c meth cJ5_indexOfChar 6 s args RJ5 (some .int) A V D vwCl (tyL gI)) (hRf : 1 ≤ R.frames) (hRl : 12 ≤ R.locals) (hC : cells ≤ R.cells) (hSl : slots ≤ R.slots)
    (hK31 : K31 → ∀ (H : Heap) (locs : List Loc) (ls : Array Slot), va_P D vwCl [] H → va_D A [] → va_S A s.heap H locs → lv_has ls 6 [] → W p l e R s m args below meth c H locs cells slots Qf (F0 m 31 ls []))
    (hK22 : ∀ (v5 : Int32), K22 v5 → ∀ (H : Heap) (locs : List Loc) (ls : Array Slot), va_P D vwCl [] H → va_D A [] → va_S A s.heap H locs → lv_has ls 6 [(5, .int v5)] → W p l e R s m args below meth c H locs cells slots Qf (F0 m 22 ls [])) :
    ∀ (n : Nat) (v5 : Int32), wp_J5_indexOfChar_L1 6 v3 v4 K31 K22 n v5 → ∀ (H : Heap) (locs : List Loc) (ls : Array Slot), va_P D vwCl [] H → va_D A [] → va_S A s.heap H locs → lv_has ls 6 [(0, .ref (V.2 6)), (3, .int v3), (4, .int v4), (5, .int v5)] → W p l e R s m args below meth c H locs cells slots Qf (F0 m 7 ls []) := by
  obtain ⟨⟨hx, hb, hml, hown, hts⟩, hr, hlocks, hA, hK, hE⟩ := id F
  intro n
  induction n with
  | zero => intro v5 h; exact h.elim
  | succ n ih =>
    intro v5 h H locs ls hP hD hS hl
    unfold wp_J5_indexOfChar_L1 at h
    refine lv_iload hx hb dJ5_indexOfChar_7 (lv_at hl 3 rfl) ?_
    refine lv_iload_n hx hb dJ5_indexOfChar_9 rfl (lv_at hl 1 rfl) ?_
    refine lv_icmp_ge (tgt := 31) hx hb dJ5_indexOfChar_10 (by decide) (fun c2 => ?_) (fun c2 => ?_)
    · replace h := h.1 c2
      exact hK31  h _ _ _ hP hD hS (lv_sub hl [] rfl)
    · replace h := h.2 c2
      refine lv_aload_n hx hb dJ5_indexOfChar_13 rfl (lv_at hl 0 rfl) ?_
      refine lv_iload hx hb dJ5_indexOfChar_14 (lv_at hl 3 rfl) ?_
      refine va_tb (v := .int ((sB 6).getD v5.toNatClampNeg 0)) hx hb ((hE.2.2.1 6 _ rfl).2.1 0 (by decide)).2.2.2 hS h.1 rfl dJ5_indexOfChar_16 ?_
      replace h := h.2
      refine lv_iload hx hb dJ5_indexOfChar_17 (lv_at hl 2 rfl) ?_
      refine lv_icmp_ne (tgt := 25) hx hb dJ5_indexOfChar_19 (by decide) (fun c1 => ?_) (fun c1 => ?_)
      · replace h := h.1 c1
        refine lv_iinc (v := (v5 + (1 : Int32))) (lv' := [(5, .int (v5 + (1 : Int32))), (0, .ref (V.2 6)), (3, .int v3), (4, .int v4)]) hx hb dJ5_indexOfChar_25 hl (k := 3) rfl rfl (by decide) rfl (fun ls hl => ?_)
        refine lv_goto (tgt := 7) hx hb dJ5_indexOfChar_28 (by decide) ?_
        exact ih _ h _ _ _ hP hD hS (lv_sub hl [1, 2, 3, 0] rfl)
      · replace h := h.2 c1
        exact hK22 _ h _ _ _ hP hD hS (lv_sub hl [3] rfl)
set_option maxHeartbeats 4000000 in
theorem ct_J5_indexOfChar_i6 {l : Launch} {V : evT} {D : va_G} {gI : Nat → ClassId} {v1 : Int32} {v2 : Int32} {v3 : Int32} {Q : Int32 → Prop} (h : wp_J5_indexOfChar 6 v1 v2 v3  Q) : ct_i l V D vwCl (tyL gI) yJ5_indexOfChar cJ5_indexOfChar 6 .int { frames := 1, cells := 0, slots := 0, locals := 12 } [.ref (V.2 6), .int v1, .int v2, .int v3] [] (fun u : Unit => []) (fun (x : Int32) (u : Unit) => Q x) := by
  refine ct_ofi RJ5 rfl (by decide +kernel) (Nat.le_of_ble_eq_true rfl) ?_
  intro p e s m args below meth c A F hP hD ls hl
  obtain ⟨⟨hx, hb, hml, hown, hts⟩, hr, hlocks, hA, hK, hE⟩ := id F
  have hS : va_S A s.heap s.heap [] := va_S.rf
  have hl : lv_has ls 6 [(0, .ref (V.2 6)), (1, .int v1), (2, .int v2), (3, .int v3)] := hl
  have hRf : 1 ≤ ({ frames := 1, cells := 0, slots := 0, locals := 12 } : Room).frames := Nat.le_refl _
  have hRl : 12 ≤ ({ frames := 1, cells := 0, slots := 0, locals := 12 } : Room).locals := Nat.le_refl _
  have hC : 0 ≤ ({ frames := 1, cells := 0, slots := 0, locals := 12 } : Room).cells := Nat.le_refl _
  have hSl : 0 ≤ ({ frames := 1, cells := 0, slots := 0, locals := 12 } : Room).slots := Nat.le_refl _
  unfold wp_J5_indexOfChar at h
  refine lv_iload_n hx hb dJ5_indexOfChar_0 rfl (lv_at hl 1 rfl) ?_
  refine lv_i2b (v := (v1.toInt8.toInt32)) hx hb dJ5_indexOfChar_1 rfl ?_
  refine lv_istore (lv' := [(4, .int (v1.toInt8.toInt32)), (0, .ref (V.2 6)), (1, .int v1), (2, .int v2), (3, .int v3)]) hx hb dJ5_indexOfChar_2 hl (by decide) rfl (fun ls hl => ?_)
  refine lv_iload_n hx hb dJ5_indexOfChar_4 rfl (lv_at hl 3 rfl) ?_
  refine lv_istore (lv' := [(5, .int v2), (4, .int (v1.toInt8.toInt32)), (0, .ref (V.2 6)), (1, .int v1), (2, .int v2), (3, .int v3)]) hx hb dJ5_indexOfChar_5 hl (by decide) rfl (fun ls hl => ?_)
  obtain ⟨k7, h⟩ := h
  refine lp_J5_indexOfChar_L1_i6 F hRf hRl hC hSl ?hk31 ?hk22 k7 _ h _ _ _ hP hD hS (lv_sub hl [2, 5, 1, 0] rfl)
  case hk31 =>
    intro h H locs ls hP hD hS hl
    refine lv_iconst (v := (-1 : Int32)) hx hb dJ5_indexOfChar_31 (by decide) ?_
    exact rt_i F dJ5_indexOfChar_32 rfl () h hP hD hS (Nat.le_refl _) (Nat.le_refl _)
  case hk22 =>
    intro v5_3 h H locs ls hP hD hS hl
    refine lv_iload hx hb dJ5_indexOfChar_22 (lv_at hl 0 rfl) ?_
    exact rt_i F dJ5_indexOfChar_24 rfl () h hP hD hS (Nat.le_refl _) (Nat.le_refl _)
set_option maxHeartbeats 4000000 in
theorem lp_J5_indexOfChar_L1_i7 {p : Program} {l : Launch} {e : Env} {R : Room} {s : State} {m : MethodId} {args : Array Value} {below : List Frame} {meth : Method} {c : Code} {cells slots : Nat} {A : Nat → Prop} {Qf : State → Prop} {V : evT} {D : va_G} {gI : Nat → ClassId} {v3 : Int32} {v4 : Int32} {K31 : Prop} {K22 : (Int32) → Prop} (F : ct_F p m c meth cJ5_indexOfChar 6 s args RJ5 (some .int) A V D vwCl (tyL gI)) (hRf : 1 ≤ R.frames) (hRl : 12 ≤ R.locals) (hC : cells ≤ R.cells) (hSl : slots ≤ R.slots)
    (hK31 : K31 → ∀ (H : Heap) (locs : List Loc) (ls : Array Slot), va_P D vwCl [] H → va_D A [] → va_S A s.heap H locs → lv_has ls 6 [] → W p l e R s m args below meth c H locs cells slots Qf (F0 m 31 ls []))
    (hK22 : ∀ (v5 : Int32), K22 v5 → ∀ (H : Heap) (locs : List Loc) (ls : Array Slot), va_P D vwCl [] H → va_D A [] → va_S A s.heap H locs → lv_has ls 6 [(5, .int v5)] → W p l e R s m args below meth c H locs cells slots Qf (F0 m 22 ls [])) :
    ∀ (n : Nat) (v5 : Int32), wp_J5_indexOfChar_L1 7 v3 v4 K31 K22 n v5 → ∀ (H : Heap) (locs : List Loc) (ls : Array Slot), va_P D vwCl [] H → va_D A [] → va_S A s.heap H locs → lv_has ls 6 [(0, .ref (V.2 7)), (3, .int v3), (4, .int v4), (5, .int v5)] → W p l e R s m args below meth c H locs cells slots Qf (F0 m 7 ls []) := by
  obtain ⟨⟨hx, hb, hml, hown, hts⟩, hr, hlocks, hA, hK, hE⟩ := id F
  intro n
  induction n with
  | zero => intro v5 h; exact h.elim
  | succ n ih =>
    intro v5 h H locs ls hP hD hS hl
    unfold wp_J5_indexOfChar_L1 at h
    refine lv_iload hx hb dJ5_indexOfChar_7 (lv_at hl 3 rfl) ?_
    refine lv_iload_n hx hb dJ5_indexOfChar_9 rfl (lv_at hl 1 rfl) ?_
    refine lv_icmp_ge (tgt := 31) hx hb dJ5_indexOfChar_10 (by decide) (fun c2 => ?_) (fun c2 => ?_)
    · replace h := h.1 c2
      exact hK31  h _ _ _ hP hD hS (lv_sub hl [] rfl)
    · replace h := h.2 c2
      refine lv_aload_n hx hb dJ5_indexOfChar_13 rfl (lv_at hl 0 rfl) ?_
      refine lv_iload hx hb dJ5_indexOfChar_14 (lv_at hl 3 rfl) ?_
      refine va_tb (v := .int ((sB 7).getD v5.toNatClampNeg 0)) hx hb ((hE.2.2.1 7 _ rfl).2.1 0 (by decide)).2.2.2 hS h.1 rfl dJ5_indexOfChar_16 ?_
      replace h := h.2
      refine lv_iload hx hb dJ5_indexOfChar_17 (lv_at hl 2 rfl) ?_
      refine lv_icmp_ne (tgt := 25) hx hb dJ5_indexOfChar_19 (by decide) (fun c1 => ?_) (fun c1 => ?_)
      · replace h := h.1 c1
        refine lv_iinc (v := (v5 + (1 : Int32))) (lv' := [(5, .int (v5 + (1 : Int32))), (0, .ref (V.2 7)), (3, .int v3), (4, .int v4)]) hx hb dJ5_indexOfChar_25 hl (k := 3) rfl rfl (by decide) rfl (fun ls hl => ?_)
        refine lv_goto (tgt := 7) hx hb dJ5_indexOfChar_28 (by decide) ?_
        exact ih _ h _ _ _ hP hD hS (lv_sub hl [1, 2, 3, 0] rfl)
      · replace h := h.2 c1
        exact hK22 _ h _ _ _ hP hD hS (lv_sub hl [3] rfl)
set_option maxHeartbeats 4000000 in
theorem ct_J5_indexOfChar_i7 {l : Launch} {V : evT} {D : va_G} {gI : Nat → ClassId} {v1 : Int32} {v2 : Int32} {v3 : Int32} {Q : Int32 → Prop} (h : wp_J5_indexOfChar 7 v1 v2 v3  Q) : ct_i l V D vwCl (tyL gI) yJ5_indexOfChar cJ5_indexOfChar 6 .int { frames := 1, cells := 0, slots := 0, locals := 12 } [.ref (V.2 7), .int v1, .int v2, .int v3] [] (fun u : Unit => []) (fun (x : Int32) (u : Unit) => Q x) := by
  refine ct_ofi RJ5 rfl (by decide +kernel) (Nat.le_of_ble_eq_true rfl) ?_
  intro p e s m args below meth c A F hP hD ls hl
  obtain ⟨⟨hx, hb, hml, hown, hts⟩, hr, hlocks, hA, hK, hE⟩ := id F
  have hS : va_S A s.heap s.heap [] := va_S.rf
  have hl : lv_has ls 6 [(0, .ref (V.2 7)), (1, .int v1), (2, .int v2), (3, .int v3)] := hl
  have hRf : 1 ≤ ({ frames := 1, cells := 0, slots := 0, locals := 12 } : Room).frames := Nat.le_refl _
  have hRl : 12 ≤ ({ frames := 1, cells := 0, slots := 0, locals := 12 } : Room).locals := Nat.le_refl _
  have hC : 0 ≤ ({ frames := 1, cells := 0, slots := 0, locals := 12 } : Room).cells := Nat.le_refl _
  have hSl : 0 ≤ ({ frames := 1, cells := 0, slots := 0, locals := 12 } : Room).slots := Nat.le_refl _
  unfold wp_J5_indexOfChar at h
  refine lv_iload_n hx hb dJ5_indexOfChar_0 rfl (lv_at hl 1 rfl) ?_
  refine lv_i2b (v := (v1.toInt8.toInt32)) hx hb dJ5_indexOfChar_1 rfl ?_
  refine lv_istore (lv' := [(4, .int (v1.toInt8.toInt32)), (0, .ref (V.2 7)), (1, .int v1), (2, .int v2), (3, .int v3)]) hx hb dJ5_indexOfChar_2 hl (by decide) rfl (fun ls hl => ?_)
  refine lv_iload_n hx hb dJ5_indexOfChar_4 rfl (lv_at hl 3 rfl) ?_
  refine lv_istore (lv' := [(5, .int v2), (4, .int (v1.toInt8.toInt32)), (0, .ref (V.2 7)), (1, .int v1), (2, .int v2), (3, .int v3)]) hx hb dJ5_indexOfChar_5 hl (by decide) rfl (fun ls hl => ?_)
  obtain ⟨k7, h⟩ := h
  refine lp_J5_indexOfChar_L1_i7 F hRf hRl hC hSl ?hk31 ?hk22 k7 _ h _ _ _ hP hD hS (lv_sub hl [2, 5, 1, 0] rfl)
  case hk31 =>
    intro h H locs ls hP hD hS hl
    refine lv_iconst (v := (-1 : Int32)) hx hb dJ5_indexOfChar_31 (by decide) ?_
    exact rt_i F dJ5_indexOfChar_32 rfl () h hP hD hS (Nat.le_refl _) (Nat.le_refl _)
  case hk22 =>
    intro v5_3 h H locs ls hP hD hS hl
    refine lv_iload hx hb dJ5_indexOfChar_22 (lv_at hl 0 rfl) ?_
    exact rt_i F dJ5_indexOfChar_24 rfl () h hP hD hS (Nat.le_refl _) (Nat.le_refl _)
set_option maxHeartbeats 4000000 in
theorem ct_J5_indexOf_i0 {l : Launch} {V : evT} {D : va_G} {gI : Nat → ClassId} {v1 : Int32} {v2 : Int32} {v3 : Int32} {Q : Int32 → Prop} (h : wp_J5_indexOf 0 v1 v2 v3  Q) : ct_i l V D vwCl (tyL gI) yJ5_indexOf cJ5_indexOf 4 .int { frames := 2, cells := 0, slots := 0, locals := 37 } [.ref (V.2 0), .int v1, .int v2, .int v3] [] (fun u : Unit => []) (fun (x : Int32) (u : Unit) => Q x) := by
  refine ct_ofi RJ5 rfl (by decide +kernel) (Nat.le_of_ble_eq_true rfl) ?_
  intro p e s m args below meth c A F hP hD ls hl
  obtain ⟨⟨hx, hb, hml, hown, hts⟩, hr, hlocks, hA, hK, hE⟩ := id F
  have hS : va_S A s.heap s.heap [] := va_S.rf
  have hl : lv_has ls 4 [(0, .ref (V.2 0)), (1, .int v1), (2, .int v2), (3, .int v3)] := hl
  have hRf : 2 ≤ ({ frames := 2, cells := 0, slots := 0, locals := 37 } : Room).frames := Nat.le_refl _
  have hRl : 37 ≤ ({ frames := 2, cells := 0, slots := 0, locals := 37 } : Room).locals := Nat.le_refl _
  have hC : 0 ≤ ({ frames := 2, cells := 0, slots := 0, locals := 37 } : Room).cells := Nat.le_refl _
  have hSl : 0 ≤ ({ frames := 2, cells := 0, slots := 0, locals := 37 } : Room).slots := Nat.le_refl _
  unfold wp_J5_indexOf at h
  refine lv_iload_n hx hb dJ5_indexOf_0 rfl (lv_at hl 1 rfl) ?_
  refine cl_i0 F (va_runS (As := [.int v1]) (rest := []) ⟨hx, hb, hml, hown, hts⟩ (ct_J5_canEncode h _) (va_cwS 1 hts (lw_S q846 q847 q107 q848) rfl rfl rfl (by decide +kernel) ⟨Nat.le_trans (Nat.le_of_ble_eq_true rfl) hRf, Nat.le_trans (Nat.le_of_ble_eq_true rfl) hRl⟩) ⟨ct_blind, ct_at F hS ct_nP ct_nD⟩ rfl rfl hl.1 rfl (lv_room (Nat.le_of_ble_eq_true rfl)) dJ5_indexOf_1 ⟨hC, hSl⟩) rfl rfl hP hS ?_
  rintro x1 _ H locs h hP hS
  refine lv_if_ne (tgt := 9) hx hb dJ5_indexOf_4 (by decide) (fun c4 => ?_) (fun c4 => ?_)
  · replace h := h.1 c4
    refine lv_iload_n hx hb dJ5_indexOf_9 rfl (lv_at hl 2 rfl) ?_
    refine lv_iconst (v := (0 : Int32)) hx hb dJ5_indexOf_10 (by decide) ?_
    refine va_mmax hx hb (hml.trans hl.1.symm) hown (hts _ q849) (hts _ q636) (hts _ q100) (hts _ q637) (Nat.le_trans (Nat.le_of_ble_eq_true rfl) hRf) (Nat.le_trans (Nat.le_of_ble_eq_true rfl) hRl) hC hSl dJ5_indexOf_11 ?_
    refine lv_istore_n (lv' := [(2, .int (mxI v2 (0 : Int32))), (0, .ref (V.2 0)), (1, .int v1), (3, .int v3)]) hx hb dJ5_indexOf_14 rfl hl (by decide) rfl (fun ls hl => ?_)
    refine lv_iload_n hx hb dJ5_indexOf_15 rfl (lv_at hl 3 rfl) ?_
    refine lv_aload_n hx hb dJ5_indexOf_16 rfl (lv_at hl 1 rfl) ?_
    refine va_tlen (v := nI (sB 0).length) hx hb ((hE.2.2.1 0 _ rfl).2.1 0 (by decide)).2.2.2 hS rfl dJ5_indexOf_17 ?_
    refine va_mmin hx hb (hml.trans hl.1.symm) hown (hts _ q850) (hts _ q336) (hts _ q100) (hts _ q337) (Nat.le_trans (Nat.le_of_ble_eq_true rfl) hRf) (Nat.le_trans (Nat.le_of_ble_eq_true rfl) hRl) hC hSl dJ5_indexOf_18 ?_
    refine lv_istore_n (lv' := [(3, .int (mnI v3 (nI (sB 0).length))), (2, .int (mxI v2 (0 : Int32))), (0, .ref (V.2 0)), (1, .int v1)]) hx hb dJ5_indexOf_21 rfl hl (by decide) rfl (fun ls hl => ?_)
    refine lv_iload_n hx hb dJ5_indexOf_22 rfl (lv_at hl 1 rfl) ?_
    refine lv_iload_n hx hb dJ5_indexOf_23 rfl (lv_at hl 0 rfl) ?_
    refine lv_icmp_lt (tgt := 29) hx hb dJ5_indexOf_24 (by decide) (fun c3 => ?_) (fun c3 => ?_)
    · replace h := h.1 c3
      refine lv_aload_n hx hb dJ5_indexOf_29 rfl (lv_at hl 2 rfl) ?_
      refine lv_iload_n hx hb dJ5_indexOf_30 rfl (lv_at hl 3 rfl) ?_
      refine lv_iload_n hx hb dJ5_indexOf_31 rfl (lv_at hl 1 rfl) ?_
      refine lv_iload_n hx hb dJ5_indexOf_32 rfl (lv_at hl 0 rfl) ?_
      refine cl_i0 F (va_runS (As := [.ref (V.2 0), .int v1, .int (mxI v2 (0 : Int32)), .int (mnI v3 (nI (sB 0).length))]) (rest := []) ⟨hx, hb, hml, hown, hts⟩ (ct_J5_indexOfChar_i0 h _) (va_cwS 4 hts (lw_S q851 q852 q107 q853) rfl rfl rfl (by decide +kernel) ⟨Nat.le_trans (Nat.le_of_ble_eq_true rfl) hRf, Nat.le_trans (Nat.le_of_ble_eq_true rfl) hRl⟩) ⟨ct_blind, ct_at F hS ct_nP ct_nD⟩ rfl rfl hl.1 rfl (lv_room (Nat.le_of_ble_eq_true rfl)) dJ5_indexOf_33 ⟨hC, hSl⟩) rfl rfl hP hS ?_
      rintro x2 _ H locs h hP hS
      exact rt_i F dJ5_indexOf_36 rfl () h hP hD hS (Nat.le_refl _) (Nat.le_refl _)
    · replace h := h.2 c3
      refine lv_iconst (v := (-1 : Int32)) hx hb dJ5_indexOf_27 (by decide) ?_
      exact rt_i F dJ5_indexOf_28 rfl () h hP hD hS (Nat.le_refl _) (Nat.le_refl _)
  · replace h := h.2 c4
    refine lv_iconst (v := (-1 : Int32)) hx hb dJ5_indexOf_7 (by decide) ?_
    exact rt_i F dJ5_indexOf_8 rfl () h hP hD hS (Nat.le_refl _) (Nat.le_refl _)
set_option maxHeartbeats 4000000 in
theorem ct_J5_indexOf_i1 {l : Launch} {V : evT} {D : va_G} {gI : Nat → ClassId} {v1 : Int32} {v2 : Int32} {v3 : Int32} {Q : Int32 → Prop} (h : wp_J5_indexOf 1 v1 v2 v3  Q) : ct_i l V D vwCl (tyL gI) yJ5_indexOf cJ5_indexOf 4 .int { frames := 2, cells := 0, slots := 0, locals := 37 } [.ref (V.2 1), .int v1, .int v2, .int v3] [] (fun u : Unit => []) (fun (x : Int32) (u : Unit) => Q x) := by
  refine ct_ofi RJ5 rfl (by decide +kernel) (Nat.le_of_ble_eq_true rfl) ?_
  intro p e s m args below meth c A F hP hD ls hl
  obtain ⟨⟨hx, hb, hml, hown, hts⟩, hr, hlocks, hA, hK, hE⟩ := id F
  have hS : va_S A s.heap s.heap [] := va_S.rf
  have hl : lv_has ls 4 [(0, .ref (V.2 1)), (1, .int v1), (2, .int v2), (3, .int v3)] := hl
  have hRf : 2 ≤ ({ frames := 2, cells := 0, slots := 0, locals := 37 } : Room).frames := Nat.le_refl _
  have hRl : 37 ≤ ({ frames := 2, cells := 0, slots := 0, locals := 37 } : Room).locals := Nat.le_refl _
  have hC : 0 ≤ ({ frames := 2, cells := 0, slots := 0, locals := 37 } : Room).cells := Nat.le_refl _
  have hSl : 0 ≤ ({ frames := 2, cells := 0, slots := 0, locals := 37 } : Room).slots := Nat.le_refl _
  unfold wp_J5_indexOf at h
  refine lv_iload_n hx hb dJ5_indexOf_0 rfl (lv_at hl 1 rfl) ?_
  refine cl_i0 F (va_runS (As := [.int v1]) (rest := []) ⟨hx, hb, hml, hown, hts⟩ (ct_J5_canEncode h _) (va_cwS 1 hts (lw_S q846 q847 q107 q848) rfl rfl rfl (by decide +kernel) ⟨Nat.le_trans (Nat.le_of_ble_eq_true rfl) hRf, Nat.le_trans (Nat.le_of_ble_eq_true rfl) hRl⟩) ⟨ct_blind, ct_at F hS ct_nP ct_nD⟩ rfl rfl hl.1 rfl (lv_room (Nat.le_of_ble_eq_true rfl)) dJ5_indexOf_1 ⟨hC, hSl⟩) rfl rfl hP hS ?_
  rintro x1 _ H locs h hP hS
  refine lv_if_ne (tgt := 9) hx hb dJ5_indexOf_4 (by decide) (fun c4 => ?_) (fun c4 => ?_)
  · replace h := h.1 c4
    refine lv_iload_n hx hb dJ5_indexOf_9 rfl (lv_at hl 2 rfl) ?_
    refine lv_iconst (v := (0 : Int32)) hx hb dJ5_indexOf_10 (by decide) ?_
    refine va_mmax hx hb (hml.trans hl.1.symm) hown (hts _ q849) (hts _ q636) (hts _ q100) (hts _ q637) (Nat.le_trans (Nat.le_of_ble_eq_true rfl) hRf) (Nat.le_trans (Nat.le_of_ble_eq_true rfl) hRl) hC hSl dJ5_indexOf_11 ?_
    refine lv_istore_n (lv' := [(2, .int (mxI v2 (0 : Int32))), (0, .ref (V.2 1)), (1, .int v1), (3, .int v3)]) hx hb dJ5_indexOf_14 rfl hl (by decide) rfl (fun ls hl => ?_)
    refine lv_iload_n hx hb dJ5_indexOf_15 rfl (lv_at hl 3 rfl) ?_
    refine lv_aload_n hx hb dJ5_indexOf_16 rfl (lv_at hl 1 rfl) ?_
    refine va_tlen (v := nI (sB 1).length) hx hb ((hE.2.2.1 1 _ rfl).2.1 0 (by decide)).2.2.2 hS rfl dJ5_indexOf_17 ?_
    refine va_mmin hx hb (hml.trans hl.1.symm) hown (hts _ q850) (hts _ q336) (hts _ q100) (hts _ q337) (Nat.le_trans (Nat.le_of_ble_eq_true rfl) hRf) (Nat.le_trans (Nat.le_of_ble_eq_true rfl) hRl) hC hSl dJ5_indexOf_18 ?_
    refine lv_istore_n (lv' := [(3, .int (mnI v3 (nI (sB 1).length))), (2, .int (mxI v2 (0 : Int32))), (0, .ref (V.2 1)), (1, .int v1)]) hx hb dJ5_indexOf_21 rfl hl (by decide) rfl (fun ls hl => ?_)
    refine lv_iload_n hx hb dJ5_indexOf_22 rfl (lv_at hl 1 rfl) ?_
    refine lv_iload_n hx hb dJ5_indexOf_23 rfl (lv_at hl 0 rfl) ?_
    refine lv_icmp_lt (tgt := 29) hx hb dJ5_indexOf_24 (by decide) (fun c3 => ?_) (fun c3 => ?_)
    · replace h := h.1 c3
      refine lv_aload_n hx hb dJ5_indexOf_29 rfl (lv_at hl 2 rfl) ?_
      refine lv_iload_n hx hb dJ5_indexOf_30 rfl (lv_at hl 3 rfl) ?_
      refine lv_iload_n hx hb dJ5_indexOf_31 rfl (lv_at hl 1 rfl) ?_
      refine lv_iload_n hx hb dJ5_indexOf_32 rfl (lv_at hl 0 rfl) ?_
      refine cl_i0 F (va_runS (As := [.ref (V.2 1), .int v1, .int (mxI v2 (0 : Int32)), .int (mnI v3 (nI (sB 1).length))]) (rest := []) ⟨hx, hb, hml, hown, hts⟩ (ct_J5_indexOfChar_i1 h _) (va_cwS 4 hts (lw_S q851 q852 q107 q853) rfl rfl rfl (by decide +kernel) ⟨Nat.le_trans (Nat.le_of_ble_eq_true rfl) hRf, Nat.le_trans (Nat.le_of_ble_eq_true rfl) hRl⟩) ⟨ct_blind, ct_at F hS ct_nP ct_nD⟩ rfl rfl hl.1 rfl (lv_room (Nat.le_of_ble_eq_true rfl)) dJ5_indexOf_33 ⟨hC, hSl⟩) rfl rfl hP hS ?_
      rintro x2 _ H locs h hP hS
      exact rt_i F dJ5_indexOf_36 rfl () h hP hD hS (Nat.le_refl _) (Nat.le_refl _)
    · replace h := h.2 c3
      refine lv_iconst (v := (-1 : Int32)) hx hb dJ5_indexOf_27 (by decide) ?_
      exact rt_i F dJ5_indexOf_28 rfl () h hP hD hS (Nat.le_refl _) (Nat.le_refl _)
  · replace h := h.2 c4
    refine lv_iconst (v := (-1 : Int32)) hx hb dJ5_indexOf_7 (by decide) ?_
    exact rt_i F dJ5_indexOf_8 rfl () h hP hD hS (Nat.le_refl _) (Nat.le_refl _)
set_option maxHeartbeats 4000000 in
theorem ct_J5_indexOf_i2 {l : Launch} {V : evT} {D : va_G} {gI : Nat → ClassId} {v1 : Int32} {v2 : Int32} {v3 : Int32} {Q : Int32 → Prop} (h : wp_J5_indexOf 2 v1 v2 v3  Q) : ct_i l V D vwCl (tyL gI) yJ5_indexOf cJ5_indexOf 4 .int { frames := 2, cells := 0, slots := 0, locals := 37 } [.ref (V.2 2), .int v1, .int v2, .int v3] [] (fun u : Unit => []) (fun (x : Int32) (u : Unit) => Q x) := by
  refine ct_ofi RJ5 rfl (by decide +kernel) (Nat.le_of_ble_eq_true rfl) ?_
  intro p e s m args below meth c A F hP hD ls hl
  obtain ⟨⟨hx, hb, hml, hown, hts⟩, hr, hlocks, hA, hK, hE⟩ := id F
  have hS : va_S A s.heap s.heap [] := va_S.rf
  have hl : lv_has ls 4 [(0, .ref (V.2 2)), (1, .int v1), (2, .int v2), (3, .int v3)] := hl
  have hRf : 2 ≤ ({ frames := 2, cells := 0, slots := 0, locals := 37 } : Room).frames := Nat.le_refl _
  have hRl : 37 ≤ ({ frames := 2, cells := 0, slots := 0, locals := 37 } : Room).locals := Nat.le_refl _
  have hC : 0 ≤ ({ frames := 2, cells := 0, slots := 0, locals := 37 } : Room).cells := Nat.le_refl _
  have hSl : 0 ≤ ({ frames := 2, cells := 0, slots := 0, locals := 37 } : Room).slots := Nat.le_refl _
  unfold wp_J5_indexOf at h
  refine lv_iload_n hx hb dJ5_indexOf_0 rfl (lv_at hl 1 rfl) ?_
  refine cl_i0 F (va_runS (As := [.int v1]) (rest := []) ⟨hx, hb, hml, hown, hts⟩ (ct_J5_canEncode h _) (va_cwS 1 hts (lw_S q846 q847 q107 q848) rfl rfl rfl (by decide +kernel) ⟨Nat.le_trans (Nat.le_of_ble_eq_true rfl) hRf, Nat.le_trans (Nat.le_of_ble_eq_true rfl) hRl⟩) ⟨ct_blind, ct_at F hS ct_nP ct_nD⟩ rfl rfl hl.1 rfl (lv_room (Nat.le_of_ble_eq_true rfl)) dJ5_indexOf_1 ⟨hC, hSl⟩) rfl rfl hP hS ?_
  rintro x1 _ H locs h hP hS
  refine lv_if_ne (tgt := 9) hx hb dJ5_indexOf_4 (by decide) (fun c4 => ?_) (fun c4 => ?_)
  · replace h := h.1 c4
    refine lv_iload_n hx hb dJ5_indexOf_9 rfl (lv_at hl 2 rfl) ?_
    refine lv_iconst (v := (0 : Int32)) hx hb dJ5_indexOf_10 (by decide) ?_
    refine va_mmax hx hb (hml.trans hl.1.symm) hown (hts _ q849) (hts _ q636) (hts _ q100) (hts _ q637) (Nat.le_trans (Nat.le_of_ble_eq_true rfl) hRf) (Nat.le_trans (Nat.le_of_ble_eq_true rfl) hRl) hC hSl dJ5_indexOf_11 ?_
    refine lv_istore_n (lv' := [(2, .int (mxI v2 (0 : Int32))), (0, .ref (V.2 2)), (1, .int v1), (3, .int v3)]) hx hb dJ5_indexOf_14 rfl hl (by decide) rfl (fun ls hl => ?_)
    refine lv_iload_n hx hb dJ5_indexOf_15 rfl (lv_at hl 3 rfl) ?_
    refine lv_aload_n hx hb dJ5_indexOf_16 rfl (lv_at hl 1 rfl) ?_
    refine va_tlen (v := nI (sB 2).length) hx hb ((hE.2.2.1 2 _ rfl).2.1 0 (by decide)).2.2.2 hS rfl dJ5_indexOf_17 ?_
    refine va_mmin hx hb (hml.trans hl.1.symm) hown (hts _ q850) (hts _ q336) (hts _ q100) (hts _ q337) (Nat.le_trans (Nat.le_of_ble_eq_true rfl) hRf) (Nat.le_trans (Nat.le_of_ble_eq_true rfl) hRl) hC hSl dJ5_indexOf_18 ?_
    refine lv_istore_n (lv' := [(3, .int (mnI v3 (nI (sB 2).length))), (2, .int (mxI v2 (0 : Int32))), (0, .ref (V.2 2)), (1, .int v1)]) hx hb dJ5_indexOf_21 rfl hl (by decide) rfl (fun ls hl => ?_)
    refine lv_iload_n hx hb dJ5_indexOf_22 rfl (lv_at hl 1 rfl) ?_
    refine lv_iload_n hx hb dJ5_indexOf_23 rfl (lv_at hl 0 rfl) ?_
    refine lv_icmp_lt (tgt := 29) hx hb dJ5_indexOf_24 (by decide) (fun c3 => ?_) (fun c3 => ?_)
    · replace h := h.1 c3
      refine lv_aload_n hx hb dJ5_indexOf_29 rfl (lv_at hl 2 rfl) ?_
      refine lv_iload_n hx hb dJ5_indexOf_30 rfl (lv_at hl 3 rfl) ?_
      refine lv_iload_n hx hb dJ5_indexOf_31 rfl (lv_at hl 1 rfl) ?_
      refine lv_iload_n hx hb dJ5_indexOf_32 rfl (lv_at hl 0 rfl) ?_
      refine cl_i0 F (va_runS (As := [.ref (V.2 2), .int v1, .int (mxI v2 (0 : Int32)), .int (mnI v3 (nI (sB 2).length))]) (rest := []) ⟨hx, hb, hml, hown, hts⟩ (ct_J5_indexOfChar_i2 h _) (va_cwS 4 hts (lw_S q851 q852 q107 q853) rfl rfl rfl (by decide +kernel) ⟨Nat.le_trans (Nat.le_of_ble_eq_true rfl) hRf, Nat.le_trans (Nat.le_of_ble_eq_true rfl) hRl⟩) ⟨ct_blind, ct_at F hS ct_nP ct_nD⟩ rfl rfl hl.1 rfl (lv_room (Nat.le_of_ble_eq_true rfl)) dJ5_indexOf_33 ⟨hC, hSl⟩) rfl rfl hP hS ?_
      rintro x2 _ H locs h hP hS
      exact rt_i F dJ5_indexOf_36 rfl () h hP hD hS (Nat.le_refl _) (Nat.le_refl _)
    · replace h := h.2 c3
      refine lv_iconst (v := (-1 : Int32)) hx hb dJ5_indexOf_27 (by decide) ?_
      exact rt_i F dJ5_indexOf_28 rfl () h hP hD hS (Nat.le_refl _) (Nat.le_refl _)
  · replace h := h.2 c4
    refine lv_iconst (v := (-1 : Int32)) hx hb dJ5_indexOf_7 (by decide) ?_
    exact rt_i F dJ5_indexOf_8 rfl () h hP hD hS (Nat.le_refl _) (Nat.le_refl _)
set_option maxHeartbeats 4000000 in
theorem ct_J5_indexOf_i3 {l : Launch} {V : evT} {D : va_G} {gI : Nat → ClassId} {v1 : Int32} {v2 : Int32} {v3 : Int32} {Q : Int32 → Prop} (h : wp_J5_indexOf 3 v1 v2 v3  Q) : ct_i l V D vwCl (tyL gI) yJ5_indexOf cJ5_indexOf 4 .int { frames := 2, cells := 0, slots := 0, locals := 37 } [.ref (V.2 3), .int v1, .int v2, .int v3] [] (fun u : Unit => []) (fun (x : Int32) (u : Unit) => Q x) := by
  refine ct_ofi RJ5 rfl (by decide +kernel) (Nat.le_of_ble_eq_true rfl) ?_
  intro p e s m args below meth c A F hP hD ls hl
  obtain ⟨⟨hx, hb, hml, hown, hts⟩, hr, hlocks, hA, hK, hE⟩ := id F
  have hS : va_S A s.heap s.heap [] := va_S.rf
  have hl : lv_has ls 4 [(0, .ref (V.2 3)), (1, .int v1), (2, .int v2), (3, .int v3)] := hl
  have hRf : 2 ≤ ({ frames := 2, cells := 0, slots := 0, locals := 37 } : Room).frames := Nat.le_refl _
  have hRl : 37 ≤ ({ frames := 2, cells := 0, slots := 0, locals := 37 } : Room).locals := Nat.le_refl _
  have hC : 0 ≤ ({ frames := 2, cells := 0, slots := 0, locals := 37 } : Room).cells := Nat.le_refl _
  have hSl : 0 ≤ ({ frames := 2, cells := 0, slots := 0, locals := 37 } : Room).slots := Nat.le_refl _
  unfold wp_J5_indexOf at h
  refine lv_iload_n hx hb dJ5_indexOf_0 rfl (lv_at hl 1 rfl) ?_
  refine cl_i0 F (va_runS (As := [.int v1]) (rest := []) ⟨hx, hb, hml, hown, hts⟩ (ct_J5_canEncode h _) (va_cwS 1 hts (lw_S q846 q847 q107 q848) rfl rfl rfl (by decide +kernel) ⟨Nat.le_trans (Nat.le_of_ble_eq_true rfl) hRf, Nat.le_trans (Nat.le_of_ble_eq_true rfl) hRl⟩) ⟨ct_blind, ct_at F hS ct_nP ct_nD⟩ rfl rfl hl.1 rfl (lv_room (Nat.le_of_ble_eq_true rfl)) dJ5_indexOf_1 ⟨hC, hSl⟩) rfl rfl hP hS ?_
  rintro x1 _ H locs h hP hS
  refine lv_if_ne (tgt := 9) hx hb dJ5_indexOf_4 (by decide) (fun c4 => ?_) (fun c4 => ?_)
  · replace h := h.1 c4
    refine lv_iload_n hx hb dJ5_indexOf_9 rfl (lv_at hl 2 rfl) ?_
    refine lv_iconst (v := (0 : Int32)) hx hb dJ5_indexOf_10 (by decide) ?_
    refine va_mmax hx hb (hml.trans hl.1.symm) hown (hts _ q849) (hts _ q636) (hts _ q100) (hts _ q637) (Nat.le_trans (Nat.le_of_ble_eq_true rfl) hRf) (Nat.le_trans (Nat.le_of_ble_eq_true rfl) hRl) hC hSl dJ5_indexOf_11 ?_
    refine lv_istore_n (lv' := [(2, .int (mxI v2 (0 : Int32))), (0, .ref (V.2 3)), (1, .int v1), (3, .int v3)]) hx hb dJ5_indexOf_14 rfl hl (by decide) rfl (fun ls hl => ?_)
    refine lv_iload_n hx hb dJ5_indexOf_15 rfl (lv_at hl 3 rfl) ?_
    refine lv_aload_n hx hb dJ5_indexOf_16 rfl (lv_at hl 1 rfl) ?_
    refine va_tlen (v := nI (sB 3).length) hx hb ((hE.2.2.1 3 _ rfl).2.1 0 (by decide)).2.2.2 hS rfl dJ5_indexOf_17 ?_
    refine va_mmin hx hb (hml.trans hl.1.symm) hown (hts _ q850) (hts _ q336) (hts _ q100) (hts _ q337) (Nat.le_trans (Nat.le_of_ble_eq_true rfl) hRf) (Nat.le_trans (Nat.le_of_ble_eq_true rfl) hRl) hC hSl dJ5_indexOf_18 ?_
    refine lv_istore_n (lv' := [(3, .int (mnI v3 (nI (sB 3).length))), (2, .int (mxI v2 (0 : Int32))), (0, .ref (V.2 3)), (1, .int v1)]) hx hb dJ5_indexOf_21 rfl hl (by decide) rfl (fun ls hl => ?_)
    refine lv_iload_n hx hb dJ5_indexOf_22 rfl (lv_at hl 1 rfl) ?_
    refine lv_iload_n hx hb dJ5_indexOf_23 rfl (lv_at hl 0 rfl) ?_
    refine lv_icmp_lt (tgt := 29) hx hb dJ5_indexOf_24 (by decide) (fun c3 => ?_) (fun c3 => ?_)
    · replace h := h.1 c3
      refine lv_aload_n hx hb dJ5_indexOf_29 rfl (lv_at hl 2 rfl) ?_
      refine lv_iload_n hx hb dJ5_indexOf_30 rfl (lv_at hl 3 rfl) ?_
      refine lv_iload_n hx hb dJ5_indexOf_31 rfl (lv_at hl 1 rfl) ?_
      refine lv_iload_n hx hb dJ5_indexOf_32 rfl (lv_at hl 0 rfl) ?_
      refine cl_i0 F (va_runS (As := [.ref (V.2 3), .int v1, .int (mxI v2 (0 : Int32)), .int (mnI v3 (nI (sB 3).length))]) (rest := []) ⟨hx, hb, hml, hown, hts⟩ (ct_J5_indexOfChar_i3 h _) (va_cwS 4 hts (lw_S q851 q852 q107 q853) rfl rfl rfl (by decide +kernel) ⟨Nat.le_trans (Nat.le_of_ble_eq_true rfl) hRf, Nat.le_trans (Nat.le_of_ble_eq_true rfl) hRl⟩) ⟨ct_blind, ct_at F hS ct_nP ct_nD⟩ rfl rfl hl.1 rfl (lv_room (Nat.le_of_ble_eq_true rfl)) dJ5_indexOf_33 ⟨hC, hSl⟩) rfl rfl hP hS ?_
      rintro x2 _ H locs h hP hS
      exact rt_i F dJ5_indexOf_36 rfl () h hP hD hS (Nat.le_refl _) (Nat.le_refl _)
    · replace h := h.2 c3
      refine lv_iconst (v := (-1 : Int32)) hx hb dJ5_indexOf_27 (by decide) ?_
      exact rt_i F dJ5_indexOf_28 rfl () h hP hD hS (Nat.le_refl _) (Nat.le_refl _)
  · replace h := h.2 c4
    refine lv_iconst (v := (-1 : Int32)) hx hb dJ5_indexOf_7 (by decide) ?_
    exact rt_i F dJ5_indexOf_8 rfl () h hP hD hS (Nat.le_refl _) (Nat.le_refl _)
set_option maxHeartbeats 4000000 in
theorem ct_J5_indexOf_i4 {l : Launch} {V : evT} {D : va_G} {gI : Nat → ClassId} {v1 : Int32} {v2 : Int32} {v3 : Int32} {Q : Int32 → Prop} (h : wp_J5_indexOf 4 v1 v2 v3  Q) : ct_i l V D vwCl (tyL gI) yJ5_indexOf cJ5_indexOf 4 .int { frames := 2, cells := 0, slots := 0, locals := 37 } [.ref (V.2 4), .int v1, .int v2, .int v3] [] (fun u : Unit => []) (fun (x : Int32) (u : Unit) => Q x) := by
  refine ct_ofi RJ5 rfl (by decide +kernel) (Nat.le_of_ble_eq_true rfl) ?_
  intro p e s m args below meth c A F hP hD ls hl
  obtain ⟨⟨hx, hb, hml, hown, hts⟩, hr, hlocks, hA, hK, hE⟩ := id F
  have hS : va_S A s.heap s.heap [] := va_S.rf
  have hl : lv_has ls 4 [(0, .ref (V.2 4)), (1, .int v1), (2, .int v2), (3, .int v3)] := hl
  have hRf : 2 ≤ ({ frames := 2, cells := 0, slots := 0, locals := 37 } : Room).frames := Nat.le_refl _
  have hRl : 37 ≤ ({ frames := 2, cells := 0, slots := 0, locals := 37 } : Room).locals := Nat.le_refl _
  have hC : 0 ≤ ({ frames := 2, cells := 0, slots := 0, locals := 37 } : Room).cells := Nat.le_refl _
  have hSl : 0 ≤ ({ frames := 2, cells := 0, slots := 0, locals := 37 } : Room).slots := Nat.le_refl _
  unfold wp_J5_indexOf at h
  refine lv_iload_n hx hb dJ5_indexOf_0 rfl (lv_at hl 1 rfl) ?_
  refine cl_i0 F (va_runS (As := [.int v1]) (rest := []) ⟨hx, hb, hml, hown, hts⟩ (ct_J5_canEncode h _) (va_cwS 1 hts (lw_S q846 q847 q107 q848) rfl rfl rfl (by decide +kernel) ⟨Nat.le_trans (Nat.le_of_ble_eq_true rfl) hRf, Nat.le_trans (Nat.le_of_ble_eq_true rfl) hRl⟩) ⟨ct_blind, ct_at F hS ct_nP ct_nD⟩ rfl rfl hl.1 rfl (lv_room (Nat.le_of_ble_eq_true rfl)) dJ5_indexOf_1 ⟨hC, hSl⟩) rfl rfl hP hS ?_
  rintro x1 _ H locs h hP hS
  refine lv_if_ne (tgt := 9) hx hb dJ5_indexOf_4 (by decide) (fun c4 => ?_) (fun c4 => ?_)
  · replace h := h.1 c4
    refine lv_iload_n hx hb dJ5_indexOf_9 rfl (lv_at hl 2 rfl) ?_
    refine lv_iconst (v := (0 : Int32)) hx hb dJ5_indexOf_10 (by decide) ?_
    refine va_mmax hx hb (hml.trans hl.1.symm) hown (hts _ q849) (hts _ q636) (hts _ q100) (hts _ q637) (Nat.le_trans (Nat.le_of_ble_eq_true rfl) hRf) (Nat.le_trans (Nat.le_of_ble_eq_true rfl) hRl) hC hSl dJ5_indexOf_11 ?_
    refine lv_istore_n (lv' := [(2, .int (mxI v2 (0 : Int32))), (0, .ref (V.2 4)), (1, .int v1), (3, .int v3)]) hx hb dJ5_indexOf_14 rfl hl (by decide) rfl (fun ls hl => ?_)
    refine lv_iload_n hx hb dJ5_indexOf_15 rfl (lv_at hl 3 rfl) ?_
    refine lv_aload_n hx hb dJ5_indexOf_16 rfl (lv_at hl 1 rfl) ?_
    refine va_tlen (v := nI (sB 4).length) hx hb ((hE.2.2.1 4 _ rfl).2.1 0 (by decide)).2.2.2 hS rfl dJ5_indexOf_17 ?_
    refine va_mmin hx hb (hml.trans hl.1.symm) hown (hts _ q850) (hts _ q336) (hts _ q100) (hts _ q337) (Nat.le_trans (Nat.le_of_ble_eq_true rfl) hRf) (Nat.le_trans (Nat.le_of_ble_eq_true rfl) hRl) hC hSl dJ5_indexOf_18 ?_
    refine lv_istore_n (lv' := [(3, .int (mnI v3 (nI (sB 4).length))), (2, .int (mxI v2 (0 : Int32))), (0, .ref (V.2 4)), (1, .int v1)]) hx hb dJ5_indexOf_21 rfl hl (by decide) rfl (fun ls hl => ?_)
    refine lv_iload_n hx hb dJ5_indexOf_22 rfl (lv_at hl 1 rfl) ?_
    refine lv_iload_n hx hb dJ5_indexOf_23 rfl (lv_at hl 0 rfl) ?_
    refine lv_icmp_lt (tgt := 29) hx hb dJ5_indexOf_24 (by decide) (fun c3 => ?_) (fun c3 => ?_)
    · replace h := h.1 c3
      refine lv_aload_n hx hb dJ5_indexOf_29 rfl (lv_at hl 2 rfl) ?_
      refine lv_iload_n hx hb dJ5_indexOf_30 rfl (lv_at hl 3 rfl) ?_
      refine lv_iload_n hx hb dJ5_indexOf_31 rfl (lv_at hl 1 rfl) ?_
      refine lv_iload_n hx hb dJ5_indexOf_32 rfl (lv_at hl 0 rfl) ?_
      refine cl_i0 F (va_runS (As := [.ref (V.2 4), .int v1, .int (mxI v2 (0 : Int32)), .int (mnI v3 (nI (sB 4).length))]) (rest := []) ⟨hx, hb, hml, hown, hts⟩ (ct_J5_indexOfChar_i4 h _) (va_cwS 4 hts (lw_S q851 q852 q107 q853) rfl rfl rfl (by decide +kernel) ⟨Nat.le_trans (Nat.le_of_ble_eq_true rfl) hRf, Nat.le_trans (Nat.le_of_ble_eq_true rfl) hRl⟩) ⟨ct_blind, ct_at F hS ct_nP ct_nD⟩ rfl rfl hl.1 rfl (lv_room (Nat.le_of_ble_eq_true rfl)) dJ5_indexOf_33 ⟨hC, hSl⟩) rfl rfl hP hS ?_
      rintro x2 _ H locs h hP hS
      exact rt_i F dJ5_indexOf_36 rfl () h hP hD hS (Nat.le_refl _) (Nat.le_refl _)
    · replace h := h.2 c3
      refine lv_iconst (v := (-1 : Int32)) hx hb dJ5_indexOf_27 (by decide) ?_
      exact rt_i F dJ5_indexOf_28 rfl () h hP hD hS (Nat.le_refl _) (Nat.le_refl _)
  · replace h := h.2 c4
    refine lv_iconst (v := (-1 : Int32)) hx hb dJ5_indexOf_7 (by decide) ?_
    exact rt_i F dJ5_indexOf_8 rfl () h hP hD hS (Nat.le_refl _) (Nat.le_refl _)
set_option maxHeartbeats 4000000 in
theorem ct_J5_indexOf_i5 {l : Launch} {V : evT} {D : va_G} {gI : Nat → ClassId} {v1 : Int32} {v2 : Int32} {v3 : Int32} {Q : Int32 → Prop} (h : wp_J5_indexOf 5 v1 v2 v3  Q) : ct_i l V D vwCl (tyL gI) yJ5_indexOf cJ5_indexOf 4 .int { frames := 2, cells := 0, slots := 0, locals := 37 } [.ref (V.2 5), .int v1, .int v2, .int v3] [] (fun u : Unit => []) (fun (x : Int32) (u : Unit) => Q x) := by
  refine ct_ofi RJ5 rfl (by decide +kernel) (Nat.le_of_ble_eq_true rfl) ?_
  intro p e s m args below meth c A F hP hD ls hl
  obtain ⟨⟨hx, hb, hml, hown, hts⟩, hr, hlocks, hA, hK, hE⟩ := id F
  have hS : va_S A s.heap s.heap [] := va_S.rf
  have hl : lv_has ls 4 [(0, .ref (V.2 5)), (1, .int v1), (2, .int v2), (3, .int v3)] := hl
  have hRf : 2 ≤ ({ frames := 2, cells := 0, slots := 0, locals := 37 } : Room).frames := Nat.le_refl _
  have hRl : 37 ≤ ({ frames := 2, cells := 0, slots := 0, locals := 37 } : Room).locals := Nat.le_refl _
  have hC : 0 ≤ ({ frames := 2, cells := 0, slots := 0, locals := 37 } : Room).cells := Nat.le_refl _
  have hSl : 0 ≤ ({ frames := 2, cells := 0, slots := 0, locals := 37 } : Room).slots := Nat.le_refl _
  unfold wp_J5_indexOf at h
  refine lv_iload_n hx hb dJ5_indexOf_0 rfl (lv_at hl 1 rfl) ?_
  refine cl_i0 F (va_runS (As := [.int v1]) (rest := []) ⟨hx, hb, hml, hown, hts⟩ (ct_J5_canEncode h _) (va_cwS 1 hts (lw_S q846 q847 q107 q848) rfl rfl rfl (by decide +kernel) ⟨Nat.le_trans (Nat.le_of_ble_eq_true rfl) hRf, Nat.le_trans (Nat.le_of_ble_eq_true rfl) hRl⟩) ⟨ct_blind, ct_at F hS ct_nP ct_nD⟩ rfl rfl hl.1 rfl (lv_room (Nat.le_of_ble_eq_true rfl)) dJ5_indexOf_1 ⟨hC, hSl⟩) rfl rfl hP hS ?_
  rintro x1 _ H locs h hP hS
  refine lv_if_ne (tgt := 9) hx hb dJ5_indexOf_4 (by decide) (fun c4 => ?_) (fun c4 => ?_)
  · replace h := h.1 c4
    refine lv_iload_n hx hb dJ5_indexOf_9 rfl (lv_at hl 2 rfl) ?_
    refine lv_iconst (v := (0 : Int32)) hx hb dJ5_indexOf_10 (by decide) ?_
    refine va_mmax hx hb (hml.trans hl.1.symm) hown (hts _ q849) (hts _ q636) (hts _ q100) (hts _ q637) (Nat.le_trans (Nat.le_of_ble_eq_true rfl) hRf) (Nat.le_trans (Nat.le_of_ble_eq_true rfl) hRl) hC hSl dJ5_indexOf_11 ?_
    refine lv_istore_n (lv' := [(2, .int (mxI v2 (0 : Int32))), (0, .ref (V.2 5)), (1, .int v1), (3, .int v3)]) hx hb dJ5_indexOf_14 rfl hl (by decide) rfl (fun ls hl => ?_)
    refine lv_iload_n hx hb dJ5_indexOf_15 rfl (lv_at hl 3 rfl) ?_
    refine lv_aload_n hx hb dJ5_indexOf_16 rfl (lv_at hl 1 rfl) ?_
    refine va_tlen (v := nI (sB 5).length) hx hb ((hE.2.2.1 5 _ rfl).2.1 0 (by decide)).2.2.2 hS rfl dJ5_indexOf_17 ?_
    refine va_mmin hx hb (hml.trans hl.1.symm) hown (hts _ q850) (hts _ q336) (hts _ q100) (hts _ q337) (Nat.le_trans (Nat.le_of_ble_eq_true rfl) hRf) (Nat.le_trans (Nat.le_of_ble_eq_true rfl) hRl) hC hSl dJ5_indexOf_18 ?_
    refine lv_istore_n (lv' := [(3, .int (mnI v3 (nI (sB 5).length))), (2, .int (mxI v2 (0 : Int32))), (0, .ref (V.2 5)), (1, .int v1)]) hx hb dJ5_indexOf_21 rfl hl (by decide) rfl (fun ls hl => ?_)
    refine lv_iload_n hx hb dJ5_indexOf_22 rfl (lv_at hl 1 rfl) ?_
    refine lv_iload_n hx hb dJ5_indexOf_23 rfl (lv_at hl 0 rfl) ?_
    refine lv_icmp_lt (tgt := 29) hx hb dJ5_indexOf_24 (by decide) (fun c3 => ?_) (fun c3 => ?_)
    · replace h := h.1 c3
      refine lv_aload_n hx hb dJ5_indexOf_29 rfl (lv_at hl 2 rfl) ?_
      refine lv_iload_n hx hb dJ5_indexOf_30 rfl (lv_at hl 3 rfl) ?_
      refine lv_iload_n hx hb dJ5_indexOf_31 rfl (lv_at hl 1 rfl) ?_
      refine lv_iload_n hx hb dJ5_indexOf_32 rfl (lv_at hl 0 rfl) ?_
      refine cl_i0 F (va_runS (As := [.ref (V.2 5), .int v1, .int (mxI v2 (0 : Int32)), .int (mnI v3 (nI (sB 5).length))]) (rest := []) ⟨hx, hb, hml, hown, hts⟩ (ct_J5_indexOfChar_i5 h _) (va_cwS 4 hts (lw_S q851 q852 q107 q853) rfl rfl rfl (by decide +kernel) ⟨Nat.le_trans (Nat.le_of_ble_eq_true rfl) hRf, Nat.le_trans (Nat.le_of_ble_eq_true rfl) hRl⟩) ⟨ct_blind, ct_at F hS ct_nP ct_nD⟩ rfl rfl hl.1 rfl (lv_room (Nat.le_of_ble_eq_true rfl)) dJ5_indexOf_33 ⟨hC, hSl⟩) rfl rfl hP hS ?_
      rintro x2 _ H locs h hP hS
      exact rt_i F dJ5_indexOf_36 rfl () h hP hD hS (Nat.le_refl _) (Nat.le_refl _)
    · replace h := h.2 c3
      refine lv_iconst (v := (-1 : Int32)) hx hb dJ5_indexOf_27 (by decide) ?_
      exact rt_i F dJ5_indexOf_28 rfl () h hP hD hS (Nat.le_refl _) (Nat.le_refl _)
  · replace h := h.2 c4
    refine lv_iconst (v := (-1 : Int32)) hx hb dJ5_indexOf_7 (by decide) ?_
    exact rt_i F dJ5_indexOf_8 rfl () h hP hD hS (Nat.le_refl _) (Nat.le_refl _)
set_option maxHeartbeats 4000000 in
theorem ct_J5_indexOf_i6 {l : Launch} {V : evT} {D : va_G} {gI : Nat → ClassId} {v1 : Int32} {v2 : Int32} {v3 : Int32} {Q : Int32 → Prop} (h : wp_J5_indexOf 6 v1 v2 v3  Q) : ct_i l V D vwCl (tyL gI) yJ5_indexOf cJ5_indexOf 4 .int { frames := 2, cells := 0, slots := 0, locals := 37 } [.ref (V.2 6), .int v1, .int v2, .int v3] [] (fun u : Unit => []) (fun (x : Int32) (u : Unit) => Q x) := by
  refine ct_ofi RJ5 rfl (by decide +kernel) (Nat.le_of_ble_eq_true rfl) ?_
  intro p e s m args below meth c A F hP hD ls hl
  obtain ⟨⟨hx, hb, hml, hown, hts⟩, hr, hlocks, hA, hK, hE⟩ := id F
  have hS : va_S A s.heap s.heap [] := va_S.rf
  have hl : lv_has ls 4 [(0, .ref (V.2 6)), (1, .int v1), (2, .int v2), (3, .int v3)] := hl
  have hRf : 2 ≤ ({ frames := 2, cells := 0, slots := 0, locals := 37 } : Room).frames := Nat.le_refl _
  have hRl : 37 ≤ ({ frames := 2, cells := 0, slots := 0, locals := 37 } : Room).locals := Nat.le_refl _
  have hC : 0 ≤ ({ frames := 2, cells := 0, slots := 0, locals := 37 } : Room).cells := Nat.le_refl _
  have hSl : 0 ≤ ({ frames := 2, cells := 0, slots := 0, locals := 37 } : Room).slots := Nat.le_refl _
  unfold wp_J5_indexOf at h
  refine lv_iload_n hx hb dJ5_indexOf_0 rfl (lv_at hl 1 rfl) ?_
  refine cl_i0 F (va_runS (As := [.int v1]) (rest := []) ⟨hx, hb, hml, hown, hts⟩ (ct_J5_canEncode h _) (va_cwS 1 hts (lw_S q846 q847 q107 q848) rfl rfl rfl (by decide +kernel) ⟨Nat.le_trans (Nat.le_of_ble_eq_true rfl) hRf, Nat.le_trans (Nat.le_of_ble_eq_true rfl) hRl⟩) ⟨ct_blind, ct_at F hS ct_nP ct_nD⟩ rfl rfl hl.1 rfl (lv_room (Nat.le_of_ble_eq_true rfl)) dJ5_indexOf_1 ⟨hC, hSl⟩) rfl rfl hP hS ?_
  rintro x1 _ H locs h hP hS
  refine lv_if_ne (tgt := 9) hx hb dJ5_indexOf_4 (by decide) (fun c4 => ?_) (fun c4 => ?_)
  · replace h := h.1 c4
    refine lv_iload_n hx hb dJ5_indexOf_9 rfl (lv_at hl 2 rfl) ?_
    refine lv_iconst (v := (0 : Int32)) hx hb dJ5_indexOf_10 (by decide) ?_
    refine va_mmax hx hb (hml.trans hl.1.symm) hown (hts _ q849) (hts _ q636) (hts _ q100) (hts _ q637) (Nat.le_trans (Nat.le_of_ble_eq_true rfl) hRf) (Nat.le_trans (Nat.le_of_ble_eq_true rfl) hRl) hC hSl dJ5_indexOf_11 ?_
    refine lv_istore_n (lv' := [(2, .int (mxI v2 (0 : Int32))), (0, .ref (V.2 6)), (1, .int v1), (3, .int v3)]) hx hb dJ5_indexOf_14 rfl hl (by decide) rfl (fun ls hl => ?_)
    refine lv_iload_n hx hb dJ5_indexOf_15 rfl (lv_at hl 3 rfl) ?_
    refine lv_aload_n hx hb dJ5_indexOf_16 rfl (lv_at hl 1 rfl) ?_
    refine va_tlen (v := nI (sB 6).length) hx hb ((hE.2.2.1 6 _ rfl).2.1 0 (by decide)).2.2.2 hS rfl dJ5_indexOf_17 ?_
    refine va_mmin hx hb (hml.trans hl.1.symm) hown (hts _ q850) (hts _ q336) (hts _ q100) (hts _ q337) (Nat.le_trans (Nat.le_of_ble_eq_true rfl) hRf) (Nat.le_trans (Nat.le_of_ble_eq_true rfl) hRl) hC hSl dJ5_indexOf_18 ?_
    refine lv_istore_n (lv' := [(3, .int (mnI v3 (nI (sB 6).length))), (2, .int (mxI v2 (0 : Int32))), (0, .ref (V.2 6)), (1, .int v1)]) hx hb dJ5_indexOf_21 rfl hl (by decide) rfl (fun ls hl => ?_)
    refine lv_iload_n hx hb dJ5_indexOf_22 rfl (lv_at hl 1 rfl) ?_
    refine lv_iload_n hx hb dJ5_indexOf_23 rfl (lv_at hl 0 rfl) ?_
    refine lv_icmp_lt (tgt := 29) hx hb dJ5_indexOf_24 (by decide) (fun c3 => ?_) (fun c3 => ?_)
    · replace h := h.1 c3
      refine lv_aload_n hx hb dJ5_indexOf_29 rfl (lv_at hl 2 rfl) ?_
      refine lv_iload_n hx hb dJ5_indexOf_30 rfl (lv_at hl 3 rfl) ?_
      refine lv_iload_n hx hb dJ5_indexOf_31 rfl (lv_at hl 1 rfl) ?_
      refine lv_iload_n hx hb dJ5_indexOf_32 rfl (lv_at hl 0 rfl) ?_
      refine cl_i0 F (va_runS (As := [.ref (V.2 6), .int v1, .int (mxI v2 (0 : Int32)), .int (mnI v3 (nI (sB 6).length))]) (rest := []) ⟨hx, hb, hml, hown, hts⟩ (ct_J5_indexOfChar_i6 h _) (va_cwS 4 hts (lw_S q851 q852 q107 q853) rfl rfl rfl (by decide +kernel) ⟨Nat.le_trans (Nat.le_of_ble_eq_true rfl) hRf, Nat.le_trans (Nat.le_of_ble_eq_true rfl) hRl⟩) ⟨ct_blind, ct_at F hS ct_nP ct_nD⟩ rfl rfl hl.1 rfl (lv_room (Nat.le_of_ble_eq_true rfl)) dJ5_indexOf_33 ⟨hC, hSl⟩) rfl rfl hP hS ?_
      rintro x2 _ H locs h hP hS
      exact rt_i F dJ5_indexOf_36 rfl () h hP hD hS (Nat.le_refl _) (Nat.le_refl _)
    · replace h := h.2 c3
      refine lv_iconst (v := (-1 : Int32)) hx hb dJ5_indexOf_27 (by decide) ?_
      exact rt_i F dJ5_indexOf_28 rfl () h hP hD hS (Nat.le_refl _) (Nat.le_refl _)
  · replace h := h.2 c4
    refine lv_iconst (v := (-1 : Int32)) hx hb dJ5_indexOf_7 (by decide) ?_
    exact rt_i F dJ5_indexOf_8 rfl () h hP hD hS (Nat.le_refl _) (Nat.le_refl _)
set_option maxHeartbeats 4000000 in
theorem ct_J5_indexOf_i7 {l : Launch} {V : evT} {D : va_G} {gI : Nat → ClassId} {v1 : Int32} {v2 : Int32} {v3 : Int32} {Q : Int32 → Prop} (h : wp_J5_indexOf 7 v1 v2 v3  Q) : ct_i l V D vwCl (tyL gI) yJ5_indexOf cJ5_indexOf 4 .int { frames := 2, cells := 0, slots := 0, locals := 37 } [.ref (V.2 7), .int v1, .int v2, .int v3] [] (fun u : Unit => []) (fun (x : Int32) (u : Unit) => Q x) := by
  refine ct_ofi RJ5 rfl (by decide +kernel) (Nat.le_of_ble_eq_true rfl) ?_
  intro p e s m args below meth c A F hP hD ls hl
  obtain ⟨⟨hx, hb, hml, hown, hts⟩, hr, hlocks, hA, hK, hE⟩ := id F
  have hS : va_S A s.heap s.heap [] := va_S.rf
  have hl : lv_has ls 4 [(0, .ref (V.2 7)), (1, .int v1), (2, .int v2), (3, .int v3)] := hl
  have hRf : 2 ≤ ({ frames := 2, cells := 0, slots := 0, locals := 37 } : Room).frames := Nat.le_refl _
  have hRl : 37 ≤ ({ frames := 2, cells := 0, slots := 0, locals := 37 } : Room).locals := Nat.le_refl _
  have hC : 0 ≤ ({ frames := 2, cells := 0, slots := 0, locals := 37 } : Room).cells := Nat.le_refl _
  have hSl : 0 ≤ ({ frames := 2, cells := 0, slots := 0, locals := 37 } : Room).slots := Nat.le_refl _
  unfold wp_J5_indexOf at h
  refine lv_iload_n hx hb dJ5_indexOf_0 rfl (lv_at hl 1 rfl) ?_
  refine cl_i0 F (va_runS (As := [.int v1]) (rest := []) ⟨hx, hb, hml, hown, hts⟩ (ct_J5_canEncode h _) (va_cwS 1 hts (lw_S q846 q847 q107 q848) rfl rfl rfl (by decide +kernel) ⟨Nat.le_trans (Nat.le_of_ble_eq_true rfl) hRf, Nat.le_trans (Nat.le_of_ble_eq_true rfl) hRl⟩) ⟨ct_blind, ct_at F hS ct_nP ct_nD⟩ rfl rfl hl.1 rfl (lv_room (Nat.le_of_ble_eq_true rfl)) dJ5_indexOf_1 ⟨hC, hSl⟩) rfl rfl hP hS ?_
  rintro x1 _ H locs h hP hS
  refine lv_if_ne (tgt := 9) hx hb dJ5_indexOf_4 (by decide) (fun c4 => ?_) (fun c4 => ?_)
  · replace h := h.1 c4
    refine lv_iload_n hx hb dJ5_indexOf_9 rfl (lv_at hl 2 rfl) ?_
    refine lv_iconst (v := (0 : Int32)) hx hb dJ5_indexOf_10 (by decide) ?_
    refine va_mmax hx hb (hml.trans hl.1.symm) hown (hts _ q849) (hts _ q636) (hts _ q100) (hts _ q637) (Nat.le_trans (Nat.le_of_ble_eq_true rfl) hRf) (Nat.le_trans (Nat.le_of_ble_eq_true rfl) hRl) hC hSl dJ5_indexOf_11 ?_
    refine lv_istore_n (lv' := [(2, .int (mxI v2 (0 : Int32))), (0, .ref (V.2 7)), (1, .int v1), (3, .int v3)]) hx hb dJ5_indexOf_14 rfl hl (by decide) rfl (fun ls hl => ?_)
    refine lv_iload_n hx hb dJ5_indexOf_15 rfl (lv_at hl 3 rfl) ?_
    refine lv_aload_n hx hb dJ5_indexOf_16 rfl (lv_at hl 1 rfl) ?_
    refine va_tlen (v := nI (sB 7).length) hx hb ((hE.2.2.1 7 _ rfl).2.1 0 (by decide)).2.2.2 hS rfl dJ5_indexOf_17 ?_
    refine va_mmin hx hb (hml.trans hl.1.symm) hown (hts _ q850) (hts _ q336) (hts _ q100) (hts _ q337) (Nat.le_trans (Nat.le_of_ble_eq_true rfl) hRf) (Nat.le_trans (Nat.le_of_ble_eq_true rfl) hRl) hC hSl dJ5_indexOf_18 ?_
    refine lv_istore_n (lv' := [(3, .int (mnI v3 (nI (sB 7).length))), (2, .int (mxI v2 (0 : Int32))), (0, .ref (V.2 7)), (1, .int v1)]) hx hb dJ5_indexOf_21 rfl hl (by decide) rfl (fun ls hl => ?_)
    refine lv_iload_n hx hb dJ5_indexOf_22 rfl (lv_at hl 1 rfl) ?_
    refine lv_iload_n hx hb dJ5_indexOf_23 rfl (lv_at hl 0 rfl) ?_
    refine lv_icmp_lt (tgt := 29) hx hb dJ5_indexOf_24 (by decide) (fun c3 => ?_) (fun c3 => ?_)
    · replace h := h.1 c3
      refine lv_aload_n hx hb dJ5_indexOf_29 rfl (lv_at hl 2 rfl) ?_
      refine lv_iload_n hx hb dJ5_indexOf_30 rfl (lv_at hl 3 rfl) ?_
      refine lv_iload_n hx hb dJ5_indexOf_31 rfl (lv_at hl 1 rfl) ?_
      refine lv_iload_n hx hb dJ5_indexOf_32 rfl (lv_at hl 0 rfl) ?_
      refine cl_i0 F (va_runS (As := [.ref (V.2 7), .int v1, .int (mxI v2 (0 : Int32)), .int (mnI v3 (nI (sB 7).length))]) (rest := []) ⟨hx, hb, hml, hown, hts⟩ (ct_J5_indexOfChar_i7 h _) (va_cwS 4 hts (lw_S q851 q852 q107 q853) rfl rfl rfl (by decide +kernel) ⟨Nat.le_trans (Nat.le_of_ble_eq_true rfl) hRf, Nat.le_trans (Nat.le_of_ble_eq_true rfl) hRl⟩) ⟨ct_blind, ct_at F hS ct_nP ct_nD⟩ rfl rfl hl.1 rfl (lv_room (Nat.le_of_ble_eq_true rfl)) dJ5_indexOf_33 ⟨hC, hSl⟩) rfl rfl hP hS ?_
      rintro x2 _ H locs h hP hS
      exact rt_i F dJ5_indexOf_36 rfl () h hP hD hS (Nat.le_refl _) (Nat.le_refl _)
    · replace h := h.2 c3
      refine lv_iconst (v := (-1 : Int32)) hx hb dJ5_indexOf_27 (by decide) ?_
      exact rt_i F dJ5_indexOf_28 rfl () h hP hD hS (Nat.le_refl _) (Nat.le_refl _)
  · replace h := h.2 c4
    refine lv_iconst (v := (-1 : Int32)) hx hb dJ5_indexOf_7 (by decide) ?_
    exact rt_i F dJ5_indexOf_8 rfl () h hP hD hS (Nat.le_refl _) (Nat.le_refl _)
set_option maxHeartbeats 4000000 in
theorem ct_J4_indexOf_2_i0 {l : Launch} {V : evT} {D : va_G} {gI : Nat → ClassId} {v1 : Int32} {v2 : Int32} {Q : Int32 → Prop} (h : wp_J4_indexOf_2 0 v1 v2  Q) : ct_i l V D vwCl (tyL gI) yJ4_indexOf_2 cJ4_indexOf_2 3 .int { frames := 3, cells := 0, slots := 0, locals := 60 } [.ref (V.1 0), .int v1, .int v2] [] (fun u : Unit => []) (fun (x : Int32) (u : Unit) => Q x) := by
  refine ct_ofi RJ4 rfl (by decide +kernel) (Nat.le_of_ble_eq_true rfl) ?_
  intro p e s m args below meth c A F hP hD ls hl
  obtain ⟨⟨hx, hb, hml, hown, hts⟩, hr, hlocks, hA, hK, hE⟩ := id F
  have hS : va_S A s.heap s.heap [] := va_S.rf
  have hl : lv_has ls 3 [(0, .ref (V.1 0)), (1, .int v1), (2, .int v2)] := hl
  have hRf : 3 ≤ ({ frames := 3, cells := 0, slots := 0, locals := 60 } : Room).frames := Nat.le_refl _
  have hRl : 60 ≤ ({ frames := 3, cells := 0, slots := 0, locals := 60 } : Room).locals := Nat.le_refl _
  have hC : 0 ≤ ({ frames := 3, cells := 0, slots := 0, locals := 60 } : Room).cells := Nat.le_refl _
  have hSl : 0 ≤ ({ frames := 3, cells := 0, slots := 0, locals := 60 } : Room).slots := Nat.le_refl _
  unfold wp_J4_indexOf_2 at h
  refine lv_aload_n hx hb dJ4_indexOf_2_0 rfl (lv_at hl 0 rfl) ?_
  refine cl_i0 F (va_runV (As := []) (rest := []) ⟨hx, hb, hml, hown, hts⟩ (ct_J4_isLatin1_i0 h _) (cwV 0 hts (lw_V q829 q830 q831 q106 q832) rfl rfl rfl (by decide +kernel) ⟨Nat.le_trans (Nat.le_of_ble_eq_true rfl) hRf, Nat.le_trans (Nat.le_of_ble_eq_true rfl) hRl⟩) ⟨ct_blind, vk_recv (N := 1) (i := 0) (hE.2.2.1 0 _ rfl).2 (by decide) hS, ct_at F hS ct_nP ct_nD⟩ rfl rfl hl.1 rfl (lv_room (Nat.le_of_ble_eq_true rfl)) dJ4_indexOf_2_1 ⟨hC, hSl⟩) rfl rfl hP hS ?_
  rintro x1 _ H locs h hP hS
  refine lv_if_eq (tgt := 23) hx hb dJ4_indexOf_2_4 (by decide) (fun c4 => ?_) (fun c4 => ?_)
  · replace h := h.1 c4
    exact h.elim
  · replace h := h.2 c4
    refine lv_aload_n hx hb dJ4_indexOf_2_7 rfl (lv_at hl 0 rfl) ?_
    refine vk_getf (v := .ref (V.2 0)) hx hb ((hE.2.2.1 0 _ rfl).2.1 0 (by decide)).2.2.1 hS hown (hts _ q1880) (fun _ h => h) dJ4_indexOf_2_8 ?_
    refine lv_iload_n hx hb dJ4_indexOf_2_11 rfl (lv_at hl 1 rfl) ?_
    refine lv_iload_n hx hb dJ4_indexOf_2_12 rfl (lv_at hl 2 rfl) ?_
    refine lv_aload_n hx hb dJ4_indexOf_2_13 rfl (lv_at hl 0 rfl) ?_
    refine cl_i0 F (va_runV (As := []) (rest := [.int v2, .int v1, .ref (V.2 0)]) ⟨hx, hb, hml, hown, hts⟩ (ct_J4_length_i0 h _) (cwV 0 hts (lw_V q835 q836 q837 q106 q838) rfl rfl rfl (by decide +kernel) ⟨Nat.le_trans (Nat.le_of_ble_eq_true rfl) hRf, Nat.le_trans (Nat.le_of_ble_eq_true rfl) hRl⟩) ⟨ct_blind, vk_recv (N := 1) (i := 0) (hE.2.2.1 0 _ rfl).2 (by decide) hS, ct_at F hS ct_nP ct_nD⟩ rfl rfl hl.1 rfl (lv_room (Nat.le_of_ble_eq_true rfl)) dJ4_indexOf_2_14 ⟨hC, hSl⟩) rfl rfl hP hS ?_
    rintro x2 _ H locs h hP hS
    refine cl_i0 F (va_runS (As := [.ref (V.2 0), .int v1, .int v2, .int x2]) (rest := []) ⟨hx, hb, hml, hown, hts⟩ (ct_J5_indexOf_i0 h _) (va_cwS 4 hts (lw_S q843 q844 q107 q845) rfl rfl rfl (by decide +kernel) ⟨Nat.le_trans (Nat.le_of_ble_eq_true rfl) hRf, Nat.le_trans (Nat.le_of_ble_eq_true rfl) hRl⟩) ⟨ct_blind, ct_at F hS ct_nP ct_nD⟩ rfl rfl hl.1 rfl (lv_room (Nat.le_of_ble_eq_true rfl)) dJ4_indexOf_2_17 ⟨hC, hSl⟩) rfl rfl hP hS ?_
    rintro x3 _ H locs h hP hS
    refine lv_goto (tgt := 36) hx hb dJ4_indexOf_2_20 (by decide) ?_
    exact rt_i F dJ4_indexOf_2_36 rfl () h hP hD hS (Nat.le_refl _) (Nat.le_refl _)
set_option maxHeartbeats 4000000 in
theorem ct_J4_indexOf_2_i1 {l : Launch} {V : evT} {D : va_G} {gI : Nat → ClassId} {v1 : Int32} {v2 : Int32} {Q : Int32 → Prop} (h : wp_J4_indexOf_2 1 v1 v2  Q) : ct_i l V D vwCl (tyL gI) yJ4_indexOf_2 cJ4_indexOf_2 3 .int { frames := 3, cells := 0, slots := 0, locals := 60 } [.ref (V.1 1), .int v1, .int v2] [] (fun u : Unit => []) (fun (x : Int32) (u : Unit) => Q x) := by
  refine ct_ofi RJ4 rfl (by decide +kernel) (Nat.le_of_ble_eq_true rfl) ?_
  intro p e s m args below meth c A F hP hD ls hl
  obtain ⟨⟨hx, hb, hml, hown, hts⟩, hr, hlocks, hA, hK, hE⟩ := id F
  have hS : va_S A s.heap s.heap [] := va_S.rf
  have hl : lv_has ls 3 [(0, .ref (V.1 1)), (1, .int v1), (2, .int v2)] := hl
  have hRf : 3 ≤ ({ frames := 3, cells := 0, slots := 0, locals := 60 } : Room).frames := Nat.le_refl _
  have hRl : 60 ≤ ({ frames := 3, cells := 0, slots := 0, locals := 60 } : Room).locals := Nat.le_refl _
  have hC : 0 ≤ ({ frames := 3, cells := 0, slots := 0, locals := 60 } : Room).cells := Nat.le_refl _
  have hSl : 0 ≤ ({ frames := 3, cells := 0, slots := 0, locals := 60 } : Room).slots := Nat.le_refl _
  unfold wp_J4_indexOf_2 at h
  refine lv_aload_n hx hb dJ4_indexOf_2_0 rfl (lv_at hl 0 rfl) ?_
  refine cl_i0 F (va_runV (As := []) (rest := []) ⟨hx, hb, hml, hown, hts⟩ (ct_J4_isLatin1_i1 h _) (cwV 0 hts (lw_V q829 q830 q831 q106 q832) rfl rfl rfl (by decide +kernel) ⟨Nat.le_trans (Nat.le_of_ble_eq_true rfl) hRf, Nat.le_trans (Nat.le_of_ble_eq_true rfl) hRl⟩) ⟨ct_blind, vk_recv (N := 1) (i := 0) (hE.2.2.1 1 _ rfl).2 (by decide) hS, ct_at F hS ct_nP ct_nD⟩ rfl rfl hl.1 rfl (lv_room (Nat.le_of_ble_eq_true rfl)) dJ4_indexOf_2_1 ⟨hC, hSl⟩) rfl rfl hP hS ?_
  rintro x1 _ H locs h hP hS
  refine lv_if_eq (tgt := 23) hx hb dJ4_indexOf_2_4 (by decide) (fun c4 => ?_) (fun c4 => ?_)
  · replace h := h.1 c4
    exact h.elim
  · replace h := h.2 c4
    refine lv_aload_n hx hb dJ4_indexOf_2_7 rfl (lv_at hl 0 rfl) ?_
    refine vk_getf (v := .ref (V.2 1)) hx hb ((hE.2.2.1 1 _ rfl).2.1 0 (by decide)).2.2.1 hS hown (hts _ q1880) (fun _ h => h) dJ4_indexOf_2_8 ?_
    refine lv_iload_n hx hb dJ4_indexOf_2_11 rfl (lv_at hl 1 rfl) ?_
    refine lv_iload_n hx hb dJ4_indexOf_2_12 rfl (lv_at hl 2 rfl) ?_
    refine lv_aload_n hx hb dJ4_indexOf_2_13 rfl (lv_at hl 0 rfl) ?_
    refine cl_i0 F (va_runV (As := []) (rest := [.int v2, .int v1, .ref (V.2 1)]) ⟨hx, hb, hml, hown, hts⟩ (ct_J4_length_i1 h _) (cwV 0 hts (lw_V q835 q836 q837 q106 q838) rfl rfl rfl (by decide +kernel) ⟨Nat.le_trans (Nat.le_of_ble_eq_true rfl) hRf, Nat.le_trans (Nat.le_of_ble_eq_true rfl) hRl⟩) ⟨ct_blind, vk_recv (N := 1) (i := 0) (hE.2.2.1 1 _ rfl).2 (by decide) hS, ct_at F hS ct_nP ct_nD⟩ rfl rfl hl.1 rfl (lv_room (Nat.le_of_ble_eq_true rfl)) dJ4_indexOf_2_14 ⟨hC, hSl⟩) rfl rfl hP hS ?_
    rintro x2 _ H locs h hP hS
    refine cl_i0 F (va_runS (As := [.ref (V.2 1), .int v1, .int v2, .int x2]) (rest := []) ⟨hx, hb, hml, hown, hts⟩ (ct_J5_indexOf_i1 h _) (va_cwS 4 hts (lw_S q843 q844 q107 q845) rfl rfl rfl (by decide +kernel) ⟨Nat.le_trans (Nat.le_of_ble_eq_true rfl) hRf, Nat.le_trans (Nat.le_of_ble_eq_true rfl) hRl⟩) ⟨ct_blind, ct_at F hS ct_nP ct_nD⟩ rfl rfl hl.1 rfl (lv_room (Nat.le_of_ble_eq_true rfl)) dJ4_indexOf_2_17 ⟨hC, hSl⟩) rfl rfl hP hS ?_
    rintro x3 _ H locs h hP hS
    refine lv_goto (tgt := 36) hx hb dJ4_indexOf_2_20 (by decide) ?_
    exact rt_i F dJ4_indexOf_2_36 rfl () h hP hD hS (Nat.le_refl _) (Nat.le_refl _)
set_option maxHeartbeats 4000000 in
theorem ct_J4_indexOf_2_i2 {l : Launch} {V : evT} {D : va_G} {gI : Nat → ClassId} {v1 : Int32} {v2 : Int32} {Q : Int32 → Prop} (h : wp_J4_indexOf_2 2 v1 v2  Q) : ct_i l V D vwCl (tyL gI) yJ4_indexOf_2 cJ4_indexOf_2 3 .int { frames := 3, cells := 0, slots := 0, locals := 60 } [.ref (V.1 2), .int v1, .int v2] [] (fun u : Unit => []) (fun (x : Int32) (u : Unit) => Q x) := by
  refine ct_ofi RJ4 rfl (by decide +kernel) (Nat.le_of_ble_eq_true rfl) ?_
  intro p e s m args below meth c A F hP hD ls hl
  obtain ⟨⟨hx, hb, hml, hown, hts⟩, hr, hlocks, hA, hK, hE⟩ := id F
  have hS : va_S A s.heap s.heap [] := va_S.rf
  have hl : lv_has ls 3 [(0, .ref (V.1 2)), (1, .int v1), (2, .int v2)] := hl
  have hRf : 3 ≤ ({ frames := 3, cells := 0, slots := 0, locals := 60 } : Room).frames := Nat.le_refl _
  have hRl : 60 ≤ ({ frames := 3, cells := 0, slots := 0, locals := 60 } : Room).locals := Nat.le_refl _
  have hC : 0 ≤ ({ frames := 3, cells := 0, slots := 0, locals := 60 } : Room).cells := Nat.le_refl _
  have hSl : 0 ≤ ({ frames := 3, cells := 0, slots := 0, locals := 60 } : Room).slots := Nat.le_refl _
  unfold wp_J4_indexOf_2 at h
  refine lv_aload_n hx hb dJ4_indexOf_2_0 rfl (lv_at hl 0 rfl) ?_
  refine cl_i0 F (va_runV (As := []) (rest := []) ⟨hx, hb, hml, hown, hts⟩ (ct_J4_isLatin1_i2 h _) (cwV 0 hts (lw_V q829 q830 q831 q106 q832) rfl rfl rfl (by decide +kernel) ⟨Nat.le_trans (Nat.le_of_ble_eq_true rfl) hRf, Nat.le_trans (Nat.le_of_ble_eq_true rfl) hRl⟩) ⟨ct_blind, vk_recv (N := 1) (i := 0) (hE.2.2.1 2 _ rfl).2 (by decide) hS, ct_at F hS ct_nP ct_nD⟩ rfl rfl hl.1 rfl (lv_room (Nat.le_of_ble_eq_true rfl)) dJ4_indexOf_2_1 ⟨hC, hSl⟩) rfl rfl hP hS ?_
  rintro x1 _ H locs h hP hS
  refine lv_if_eq (tgt := 23) hx hb dJ4_indexOf_2_4 (by decide) (fun c4 => ?_) (fun c4 => ?_)
  · replace h := h.1 c4
    exact h.elim
  · replace h := h.2 c4
    refine lv_aload_n hx hb dJ4_indexOf_2_7 rfl (lv_at hl 0 rfl) ?_
    refine vk_getf (v := .ref (V.2 2)) hx hb ((hE.2.2.1 2 _ rfl).2.1 0 (by decide)).2.2.1 hS hown (hts _ q1880) (fun _ h => h) dJ4_indexOf_2_8 ?_
    refine lv_iload_n hx hb dJ4_indexOf_2_11 rfl (lv_at hl 1 rfl) ?_
    refine lv_iload_n hx hb dJ4_indexOf_2_12 rfl (lv_at hl 2 rfl) ?_
    refine lv_aload_n hx hb dJ4_indexOf_2_13 rfl (lv_at hl 0 rfl) ?_
    refine cl_i0 F (va_runV (As := []) (rest := [.int v2, .int v1, .ref (V.2 2)]) ⟨hx, hb, hml, hown, hts⟩ (ct_J4_length_i2 h _) (cwV 0 hts (lw_V q835 q836 q837 q106 q838) rfl rfl rfl (by decide +kernel) ⟨Nat.le_trans (Nat.le_of_ble_eq_true rfl) hRf, Nat.le_trans (Nat.le_of_ble_eq_true rfl) hRl⟩) ⟨ct_blind, vk_recv (N := 1) (i := 0) (hE.2.2.1 2 _ rfl).2 (by decide) hS, ct_at F hS ct_nP ct_nD⟩ rfl rfl hl.1 rfl (lv_room (Nat.le_of_ble_eq_true rfl)) dJ4_indexOf_2_14 ⟨hC, hSl⟩) rfl rfl hP hS ?_
    rintro x2 _ H locs h hP hS
    refine cl_i0 F (va_runS (As := [.ref (V.2 2), .int v1, .int v2, .int x2]) (rest := []) ⟨hx, hb, hml, hown, hts⟩ (ct_J5_indexOf_i2 h _) (va_cwS 4 hts (lw_S q843 q844 q107 q845) rfl rfl rfl (by decide +kernel) ⟨Nat.le_trans (Nat.le_of_ble_eq_true rfl) hRf, Nat.le_trans (Nat.le_of_ble_eq_true rfl) hRl⟩) ⟨ct_blind, ct_at F hS ct_nP ct_nD⟩ rfl rfl hl.1 rfl (lv_room (Nat.le_of_ble_eq_true rfl)) dJ4_indexOf_2_17 ⟨hC, hSl⟩) rfl rfl hP hS ?_
    rintro x3 _ H locs h hP hS
    refine lv_goto (tgt := 36) hx hb dJ4_indexOf_2_20 (by decide) ?_
    exact rt_i F dJ4_indexOf_2_36 rfl () h hP hD hS (Nat.le_refl _) (Nat.le_refl _)
set_option maxHeartbeats 4000000 in
theorem ct_J4_indexOf_2_i3 {l : Launch} {V : evT} {D : va_G} {gI : Nat → ClassId} {v1 : Int32} {v2 : Int32} {Q : Int32 → Prop} (h : wp_J4_indexOf_2 3 v1 v2  Q) : ct_i l V D vwCl (tyL gI) yJ4_indexOf_2 cJ4_indexOf_2 3 .int { frames := 3, cells := 0, slots := 0, locals := 60 } [.ref (V.1 3), .int v1, .int v2] [] (fun u : Unit => []) (fun (x : Int32) (u : Unit) => Q x) := by
  refine ct_ofi RJ4 rfl (by decide +kernel) (Nat.le_of_ble_eq_true rfl) ?_
  intro p e s m args below meth c A F hP hD ls hl
  obtain ⟨⟨hx, hb, hml, hown, hts⟩, hr, hlocks, hA, hK, hE⟩ := id F
  have hS : va_S A s.heap s.heap [] := va_S.rf
  have hl : lv_has ls 3 [(0, .ref (V.1 3)), (1, .int v1), (2, .int v2)] := hl
  have hRf : 3 ≤ ({ frames := 3, cells := 0, slots := 0, locals := 60 } : Room).frames := Nat.le_refl _
  have hRl : 60 ≤ ({ frames := 3, cells := 0, slots := 0, locals := 60 } : Room).locals := Nat.le_refl _
  have hC : 0 ≤ ({ frames := 3, cells := 0, slots := 0, locals := 60 } : Room).cells := Nat.le_refl _
  have hSl : 0 ≤ ({ frames := 3, cells := 0, slots := 0, locals := 60 } : Room).slots := Nat.le_refl _
  unfold wp_J4_indexOf_2 at h
  refine lv_aload_n hx hb dJ4_indexOf_2_0 rfl (lv_at hl 0 rfl) ?_
  refine cl_i0 F (va_runV (As := []) (rest := []) ⟨hx, hb, hml, hown, hts⟩ (ct_J4_isLatin1_i3 h _) (cwV 0 hts (lw_V q829 q830 q831 q106 q832) rfl rfl rfl (by decide +kernel) ⟨Nat.le_trans (Nat.le_of_ble_eq_true rfl) hRf, Nat.le_trans (Nat.le_of_ble_eq_true rfl) hRl⟩) ⟨ct_blind, vk_recv (N := 1) (i := 0) (hE.2.2.1 3 _ rfl).2 (by decide) hS, ct_at F hS ct_nP ct_nD⟩ rfl rfl hl.1 rfl (lv_room (Nat.le_of_ble_eq_true rfl)) dJ4_indexOf_2_1 ⟨hC, hSl⟩) rfl rfl hP hS ?_
  rintro x1 _ H locs h hP hS
  refine lv_if_eq (tgt := 23) hx hb dJ4_indexOf_2_4 (by decide) (fun c4 => ?_) (fun c4 => ?_)
  · replace h := h.1 c4
    exact h.elim
  · replace h := h.2 c4
    refine lv_aload_n hx hb dJ4_indexOf_2_7 rfl (lv_at hl 0 rfl) ?_
    refine vk_getf (v := .ref (V.2 3)) hx hb ((hE.2.2.1 3 _ rfl).2.1 0 (by decide)).2.2.1 hS hown (hts _ q1880) (fun _ h => h) dJ4_indexOf_2_8 ?_
    refine lv_iload_n hx hb dJ4_indexOf_2_11 rfl (lv_at hl 1 rfl) ?_
    refine lv_iload_n hx hb dJ4_indexOf_2_12 rfl (lv_at hl 2 rfl) ?_
    refine lv_aload_n hx hb dJ4_indexOf_2_13 rfl (lv_at hl 0 rfl) ?_
    refine cl_i0 F (va_runV (As := []) (rest := [.int v2, .int v1, .ref (V.2 3)]) ⟨hx, hb, hml, hown, hts⟩ (ct_J4_length_i3 h _) (cwV 0 hts (lw_V q835 q836 q837 q106 q838) rfl rfl rfl (by decide +kernel) ⟨Nat.le_trans (Nat.le_of_ble_eq_true rfl) hRf, Nat.le_trans (Nat.le_of_ble_eq_true rfl) hRl⟩) ⟨ct_blind, vk_recv (N := 1) (i := 0) (hE.2.2.1 3 _ rfl).2 (by decide) hS, ct_at F hS ct_nP ct_nD⟩ rfl rfl hl.1 rfl (lv_room (Nat.le_of_ble_eq_true rfl)) dJ4_indexOf_2_14 ⟨hC, hSl⟩) rfl rfl hP hS ?_
    rintro x2 _ H locs h hP hS
    refine cl_i0 F (va_runS (As := [.ref (V.2 3), .int v1, .int v2, .int x2]) (rest := []) ⟨hx, hb, hml, hown, hts⟩ (ct_J5_indexOf_i3 h _) (va_cwS 4 hts (lw_S q843 q844 q107 q845) rfl rfl rfl (by decide +kernel) ⟨Nat.le_trans (Nat.le_of_ble_eq_true rfl) hRf, Nat.le_trans (Nat.le_of_ble_eq_true rfl) hRl⟩) ⟨ct_blind, ct_at F hS ct_nP ct_nD⟩ rfl rfl hl.1 rfl (lv_room (Nat.le_of_ble_eq_true rfl)) dJ4_indexOf_2_17 ⟨hC, hSl⟩) rfl rfl hP hS ?_
    rintro x3 _ H locs h hP hS
    refine lv_goto (tgt := 36) hx hb dJ4_indexOf_2_20 (by decide) ?_
    exact rt_i F dJ4_indexOf_2_36 rfl () h hP hD hS (Nat.le_refl _) (Nat.le_refl _)
set_option maxHeartbeats 4000000 in
theorem ct_J4_indexOf_2_i4 {l : Launch} {V : evT} {D : va_G} {gI : Nat → ClassId} {v1 : Int32} {v2 : Int32} {Q : Int32 → Prop} (h : wp_J4_indexOf_2 4 v1 v2  Q) : ct_i l V D vwCl (tyL gI) yJ4_indexOf_2 cJ4_indexOf_2 3 .int { frames := 3, cells := 0, slots := 0, locals := 60 } [.ref (V.1 4), .int v1, .int v2] [] (fun u : Unit => []) (fun (x : Int32) (u : Unit) => Q x) := by
  refine ct_ofi RJ4 rfl (by decide +kernel) (Nat.le_of_ble_eq_true rfl) ?_
  intro p e s m args below meth c A F hP hD ls hl
  obtain ⟨⟨hx, hb, hml, hown, hts⟩, hr, hlocks, hA, hK, hE⟩ := id F
  have hS : va_S A s.heap s.heap [] := va_S.rf
  have hl : lv_has ls 3 [(0, .ref (V.1 4)), (1, .int v1), (2, .int v2)] := hl
  have hRf : 3 ≤ ({ frames := 3, cells := 0, slots := 0, locals := 60 } : Room).frames := Nat.le_refl _
  have hRl : 60 ≤ ({ frames := 3, cells := 0, slots := 0, locals := 60 } : Room).locals := Nat.le_refl _
  have hC : 0 ≤ ({ frames := 3, cells := 0, slots := 0, locals := 60 } : Room).cells := Nat.le_refl _
  have hSl : 0 ≤ ({ frames := 3, cells := 0, slots := 0, locals := 60 } : Room).slots := Nat.le_refl _
  unfold wp_J4_indexOf_2 at h
  refine lv_aload_n hx hb dJ4_indexOf_2_0 rfl (lv_at hl 0 rfl) ?_
  refine cl_i0 F (va_runV (As := []) (rest := []) ⟨hx, hb, hml, hown, hts⟩ (ct_J4_isLatin1_i4 h _) (cwV 0 hts (lw_V q829 q830 q831 q106 q832) rfl rfl rfl (by decide +kernel) ⟨Nat.le_trans (Nat.le_of_ble_eq_true rfl) hRf, Nat.le_trans (Nat.le_of_ble_eq_true rfl) hRl⟩) ⟨ct_blind, vk_recv (N := 1) (i := 0) (hE.2.2.1 4 _ rfl).2 (by decide) hS, ct_at F hS ct_nP ct_nD⟩ rfl rfl hl.1 rfl (lv_room (Nat.le_of_ble_eq_true rfl)) dJ4_indexOf_2_1 ⟨hC, hSl⟩) rfl rfl hP hS ?_
  rintro x1 _ H locs h hP hS
  refine lv_if_eq (tgt := 23) hx hb dJ4_indexOf_2_4 (by decide) (fun c4 => ?_) (fun c4 => ?_)
  · replace h := h.1 c4
    exact h.elim
  · replace h := h.2 c4
    refine lv_aload_n hx hb dJ4_indexOf_2_7 rfl (lv_at hl 0 rfl) ?_
    refine vk_getf (v := .ref (V.2 4)) hx hb ((hE.2.2.1 4 _ rfl).2.1 0 (by decide)).2.2.1 hS hown (hts _ q1880) (fun _ h => h) dJ4_indexOf_2_8 ?_
    refine lv_iload_n hx hb dJ4_indexOf_2_11 rfl (lv_at hl 1 rfl) ?_
    refine lv_iload_n hx hb dJ4_indexOf_2_12 rfl (lv_at hl 2 rfl) ?_
    refine lv_aload_n hx hb dJ4_indexOf_2_13 rfl (lv_at hl 0 rfl) ?_
    refine cl_i0 F (va_runV (As := []) (rest := [.int v2, .int v1, .ref (V.2 4)]) ⟨hx, hb, hml, hown, hts⟩ (ct_J4_length_i4 h _) (cwV 0 hts (lw_V q835 q836 q837 q106 q838) rfl rfl rfl (by decide +kernel) ⟨Nat.le_trans (Nat.le_of_ble_eq_true rfl) hRf, Nat.le_trans (Nat.le_of_ble_eq_true rfl) hRl⟩) ⟨ct_blind, vk_recv (N := 1) (i := 0) (hE.2.2.1 4 _ rfl).2 (by decide) hS, ct_at F hS ct_nP ct_nD⟩ rfl rfl hl.1 rfl (lv_room (Nat.le_of_ble_eq_true rfl)) dJ4_indexOf_2_14 ⟨hC, hSl⟩) rfl rfl hP hS ?_
    rintro x2 _ H locs h hP hS
    refine cl_i0 F (va_runS (As := [.ref (V.2 4), .int v1, .int v2, .int x2]) (rest := []) ⟨hx, hb, hml, hown, hts⟩ (ct_J5_indexOf_i4 h _) (va_cwS 4 hts (lw_S q843 q844 q107 q845) rfl rfl rfl (by decide +kernel) ⟨Nat.le_trans (Nat.le_of_ble_eq_true rfl) hRf, Nat.le_trans (Nat.le_of_ble_eq_true rfl) hRl⟩) ⟨ct_blind, ct_at F hS ct_nP ct_nD⟩ rfl rfl hl.1 rfl (lv_room (Nat.le_of_ble_eq_true rfl)) dJ4_indexOf_2_17 ⟨hC, hSl⟩) rfl rfl hP hS ?_
    rintro x3 _ H locs h hP hS
    refine lv_goto (tgt := 36) hx hb dJ4_indexOf_2_20 (by decide) ?_
    exact rt_i F dJ4_indexOf_2_36 rfl () h hP hD hS (Nat.le_refl _) (Nat.le_refl _)
set_option maxHeartbeats 4000000 in
theorem ct_J4_indexOf_2_i5 {l : Launch} {V : evT} {D : va_G} {gI : Nat → ClassId} {v1 : Int32} {v2 : Int32} {Q : Int32 → Prop} (h : wp_J4_indexOf_2 5 v1 v2  Q) : ct_i l V D vwCl (tyL gI) yJ4_indexOf_2 cJ4_indexOf_2 3 .int { frames := 3, cells := 0, slots := 0, locals := 60 } [.ref (V.1 5), .int v1, .int v2] [] (fun u : Unit => []) (fun (x : Int32) (u : Unit) => Q x) := by
  refine ct_ofi RJ4 rfl (by decide +kernel) (Nat.le_of_ble_eq_true rfl) ?_
  intro p e s m args below meth c A F hP hD ls hl
  obtain ⟨⟨hx, hb, hml, hown, hts⟩, hr, hlocks, hA, hK, hE⟩ := id F
  have hS : va_S A s.heap s.heap [] := va_S.rf
  have hl : lv_has ls 3 [(0, .ref (V.1 5)), (1, .int v1), (2, .int v2)] := hl
  have hRf : 3 ≤ ({ frames := 3, cells := 0, slots := 0, locals := 60 } : Room).frames := Nat.le_refl _
  have hRl : 60 ≤ ({ frames := 3, cells := 0, slots := 0, locals := 60 } : Room).locals := Nat.le_refl _
  have hC : 0 ≤ ({ frames := 3, cells := 0, slots := 0, locals := 60 } : Room).cells := Nat.le_refl _
  have hSl : 0 ≤ ({ frames := 3, cells := 0, slots := 0, locals := 60 } : Room).slots := Nat.le_refl _
  unfold wp_J4_indexOf_2 at h
  refine lv_aload_n hx hb dJ4_indexOf_2_0 rfl (lv_at hl 0 rfl) ?_
  refine cl_i0 F (va_runV (As := []) (rest := []) ⟨hx, hb, hml, hown, hts⟩ (ct_J4_isLatin1_i5 h _) (cwV 0 hts (lw_V q829 q830 q831 q106 q832) rfl rfl rfl (by decide +kernel) ⟨Nat.le_trans (Nat.le_of_ble_eq_true rfl) hRf, Nat.le_trans (Nat.le_of_ble_eq_true rfl) hRl⟩) ⟨ct_blind, vk_recv (N := 1) (i := 0) (hE.2.2.1 5 _ rfl).2 (by decide) hS, ct_at F hS ct_nP ct_nD⟩ rfl rfl hl.1 rfl (lv_room (Nat.le_of_ble_eq_true rfl)) dJ4_indexOf_2_1 ⟨hC, hSl⟩) rfl rfl hP hS ?_
  rintro x1 _ H locs h hP hS
  refine lv_if_eq (tgt := 23) hx hb dJ4_indexOf_2_4 (by decide) (fun c4 => ?_) (fun c4 => ?_)
  · replace h := h.1 c4
    exact h.elim
  · replace h := h.2 c4
    refine lv_aload_n hx hb dJ4_indexOf_2_7 rfl (lv_at hl 0 rfl) ?_
    refine vk_getf (v := .ref (V.2 5)) hx hb ((hE.2.2.1 5 _ rfl).2.1 0 (by decide)).2.2.1 hS hown (hts _ q1880) (fun _ h => h) dJ4_indexOf_2_8 ?_
    refine lv_iload_n hx hb dJ4_indexOf_2_11 rfl (lv_at hl 1 rfl) ?_
    refine lv_iload_n hx hb dJ4_indexOf_2_12 rfl (lv_at hl 2 rfl) ?_
    refine lv_aload_n hx hb dJ4_indexOf_2_13 rfl (lv_at hl 0 rfl) ?_
    refine cl_i0 F (va_runV (As := []) (rest := [.int v2, .int v1, .ref (V.2 5)]) ⟨hx, hb, hml, hown, hts⟩ (ct_J4_length_i5 h _) (cwV 0 hts (lw_V q835 q836 q837 q106 q838) rfl rfl rfl (by decide +kernel) ⟨Nat.le_trans (Nat.le_of_ble_eq_true rfl) hRf, Nat.le_trans (Nat.le_of_ble_eq_true rfl) hRl⟩) ⟨ct_blind, vk_recv (N := 1) (i := 0) (hE.2.2.1 5 _ rfl).2 (by decide) hS, ct_at F hS ct_nP ct_nD⟩ rfl rfl hl.1 rfl (lv_room (Nat.le_of_ble_eq_true rfl)) dJ4_indexOf_2_14 ⟨hC, hSl⟩) rfl rfl hP hS ?_
    rintro x2 _ H locs h hP hS
    refine cl_i0 F (va_runS (As := [.ref (V.2 5), .int v1, .int v2, .int x2]) (rest := []) ⟨hx, hb, hml, hown, hts⟩ (ct_J5_indexOf_i5 h _) (va_cwS 4 hts (lw_S q843 q844 q107 q845) rfl rfl rfl (by decide +kernel) ⟨Nat.le_trans (Nat.le_of_ble_eq_true rfl) hRf, Nat.le_trans (Nat.le_of_ble_eq_true rfl) hRl⟩) ⟨ct_blind, ct_at F hS ct_nP ct_nD⟩ rfl rfl hl.1 rfl (lv_room (Nat.le_of_ble_eq_true rfl)) dJ4_indexOf_2_17 ⟨hC, hSl⟩) rfl rfl hP hS ?_
    rintro x3 _ H locs h hP hS
    refine lv_goto (tgt := 36) hx hb dJ4_indexOf_2_20 (by decide) ?_
    exact rt_i F dJ4_indexOf_2_36 rfl () h hP hD hS (Nat.le_refl _) (Nat.le_refl _)
set_option maxHeartbeats 4000000 in
theorem ct_J4_indexOf_2_i6 {l : Launch} {V : evT} {D : va_G} {gI : Nat → ClassId} {v1 : Int32} {v2 : Int32} {Q : Int32 → Prop} (h : wp_J4_indexOf_2 6 v1 v2  Q) : ct_i l V D vwCl (tyL gI) yJ4_indexOf_2 cJ4_indexOf_2 3 .int { frames := 3, cells := 0, slots := 0, locals := 60 } [.ref (V.1 6), .int v1, .int v2] [] (fun u : Unit => []) (fun (x : Int32) (u : Unit) => Q x) := by
  refine ct_ofi RJ4 rfl (by decide +kernel) (Nat.le_of_ble_eq_true rfl) ?_
  intro p e s m args below meth c A F hP hD ls hl
  obtain ⟨⟨hx, hb, hml, hown, hts⟩, hr, hlocks, hA, hK, hE⟩ := id F
  have hS : va_S A s.heap s.heap [] := va_S.rf
  have hl : lv_has ls 3 [(0, .ref (V.1 6)), (1, .int v1), (2, .int v2)] := hl
  have hRf : 3 ≤ ({ frames := 3, cells := 0, slots := 0, locals := 60 } : Room).frames := Nat.le_refl _
  have hRl : 60 ≤ ({ frames := 3, cells := 0, slots := 0, locals := 60 } : Room).locals := Nat.le_refl _
  have hC : 0 ≤ ({ frames := 3, cells := 0, slots := 0, locals := 60 } : Room).cells := Nat.le_refl _
  have hSl : 0 ≤ ({ frames := 3, cells := 0, slots := 0, locals := 60 } : Room).slots := Nat.le_refl _
  unfold wp_J4_indexOf_2 at h
  refine lv_aload_n hx hb dJ4_indexOf_2_0 rfl (lv_at hl 0 rfl) ?_
  refine cl_i0 F (va_runV (As := []) (rest := []) ⟨hx, hb, hml, hown, hts⟩ (ct_J4_isLatin1_i6 h _) (cwV 0 hts (lw_V q829 q830 q831 q106 q832) rfl rfl rfl (by decide +kernel) ⟨Nat.le_trans (Nat.le_of_ble_eq_true rfl) hRf, Nat.le_trans (Nat.le_of_ble_eq_true rfl) hRl⟩) ⟨ct_blind, vk_recv (N := 1) (i := 0) (hE.2.2.1 6 _ rfl).2 (by decide) hS, ct_at F hS ct_nP ct_nD⟩ rfl rfl hl.1 rfl (lv_room (Nat.le_of_ble_eq_true rfl)) dJ4_indexOf_2_1 ⟨hC, hSl⟩) rfl rfl hP hS ?_
  rintro x1 _ H locs h hP hS
  refine lv_if_eq (tgt := 23) hx hb dJ4_indexOf_2_4 (by decide) (fun c4 => ?_) (fun c4 => ?_)
  · replace h := h.1 c4
    exact h.elim
  · replace h := h.2 c4
    refine lv_aload_n hx hb dJ4_indexOf_2_7 rfl (lv_at hl 0 rfl) ?_
    refine vk_getf (v := .ref (V.2 6)) hx hb ((hE.2.2.1 6 _ rfl).2.1 0 (by decide)).2.2.1 hS hown (hts _ q1880) (fun _ h => h) dJ4_indexOf_2_8 ?_
    refine lv_iload_n hx hb dJ4_indexOf_2_11 rfl (lv_at hl 1 rfl) ?_
    refine lv_iload_n hx hb dJ4_indexOf_2_12 rfl (lv_at hl 2 rfl) ?_
    refine lv_aload_n hx hb dJ4_indexOf_2_13 rfl (lv_at hl 0 rfl) ?_
    refine cl_i0 F (va_runV (As := []) (rest := [.int v2, .int v1, .ref (V.2 6)]) ⟨hx, hb, hml, hown, hts⟩ (ct_J4_length_i6 h _) (cwV 0 hts (lw_V q835 q836 q837 q106 q838) rfl rfl rfl (by decide +kernel) ⟨Nat.le_trans (Nat.le_of_ble_eq_true rfl) hRf, Nat.le_trans (Nat.le_of_ble_eq_true rfl) hRl⟩) ⟨ct_blind, vk_recv (N := 1) (i := 0) (hE.2.2.1 6 _ rfl).2 (by decide) hS, ct_at F hS ct_nP ct_nD⟩ rfl rfl hl.1 rfl (lv_room (Nat.le_of_ble_eq_true rfl)) dJ4_indexOf_2_14 ⟨hC, hSl⟩) rfl rfl hP hS ?_
    rintro x2 _ H locs h hP hS
    refine cl_i0 F (va_runS (As := [.ref (V.2 6), .int v1, .int v2, .int x2]) (rest := []) ⟨hx, hb, hml, hown, hts⟩ (ct_J5_indexOf_i6 h _) (va_cwS 4 hts (lw_S q843 q844 q107 q845) rfl rfl rfl (by decide +kernel) ⟨Nat.le_trans (Nat.le_of_ble_eq_true rfl) hRf, Nat.le_trans (Nat.le_of_ble_eq_true rfl) hRl⟩) ⟨ct_blind, ct_at F hS ct_nP ct_nD⟩ rfl rfl hl.1 rfl (lv_room (Nat.le_of_ble_eq_true rfl)) dJ4_indexOf_2_17 ⟨hC, hSl⟩) rfl rfl hP hS ?_
    rintro x3 _ H locs h hP hS
    refine lv_goto (tgt := 36) hx hb dJ4_indexOf_2_20 (by decide) ?_
    exact rt_i F dJ4_indexOf_2_36 rfl () h hP hD hS (Nat.le_refl _) (Nat.le_refl _)
set_option maxHeartbeats 4000000 in
theorem ct_J4_indexOf_2_i7 {l : Launch} {V : evT} {D : va_G} {gI : Nat → ClassId} {v1 : Int32} {v2 : Int32} {Q : Int32 → Prop} (h : wp_J4_indexOf_2 7 v1 v2  Q) : ct_i l V D vwCl (tyL gI) yJ4_indexOf_2 cJ4_indexOf_2 3 .int { frames := 3, cells := 0, slots := 0, locals := 60 } [.ref (V.1 7), .int v1, .int v2] [] (fun u : Unit => []) (fun (x : Int32) (u : Unit) => Q x) := by
  refine ct_ofi RJ4 rfl (by decide +kernel) (Nat.le_of_ble_eq_true rfl) ?_
  intro p e s m args below meth c A F hP hD ls hl
  obtain ⟨⟨hx, hb, hml, hown, hts⟩, hr, hlocks, hA, hK, hE⟩ := id F
  have hS : va_S A s.heap s.heap [] := va_S.rf
  have hl : lv_has ls 3 [(0, .ref (V.1 7)), (1, .int v1), (2, .int v2)] := hl
  have hRf : 3 ≤ ({ frames := 3, cells := 0, slots := 0, locals := 60 } : Room).frames := Nat.le_refl _
  have hRl : 60 ≤ ({ frames := 3, cells := 0, slots := 0, locals := 60 } : Room).locals := Nat.le_refl _
  have hC : 0 ≤ ({ frames := 3, cells := 0, slots := 0, locals := 60 } : Room).cells := Nat.le_refl _
  have hSl : 0 ≤ ({ frames := 3, cells := 0, slots := 0, locals := 60 } : Room).slots := Nat.le_refl _
  unfold wp_J4_indexOf_2 at h
  refine lv_aload_n hx hb dJ4_indexOf_2_0 rfl (lv_at hl 0 rfl) ?_
  refine cl_i0 F (va_runV (As := []) (rest := []) ⟨hx, hb, hml, hown, hts⟩ (ct_J4_isLatin1_i7 h _) (cwV 0 hts (lw_V q829 q830 q831 q106 q832) rfl rfl rfl (by decide +kernel) ⟨Nat.le_trans (Nat.le_of_ble_eq_true rfl) hRf, Nat.le_trans (Nat.le_of_ble_eq_true rfl) hRl⟩) ⟨ct_blind, vk_recv (N := 1) (i := 0) (hE.2.2.1 7 _ rfl).2 (by decide) hS, ct_at F hS ct_nP ct_nD⟩ rfl rfl hl.1 rfl (lv_room (Nat.le_of_ble_eq_true rfl)) dJ4_indexOf_2_1 ⟨hC, hSl⟩) rfl rfl hP hS ?_
  rintro x1 _ H locs h hP hS
  refine lv_if_eq (tgt := 23) hx hb dJ4_indexOf_2_4 (by decide) (fun c4 => ?_) (fun c4 => ?_)
  · replace h := h.1 c4
    exact h.elim
  · replace h := h.2 c4
    refine lv_aload_n hx hb dJ4_indexOf_2_7 rfl (lv_at hl 0 rfl) ?_
    refine vk_getf (v := .ref (V.2 7)) hx hb ((hE.2.2.1 7 _ rfl).2.1 0 (by decide)).2.2.1 hS hown (hts _ q1880) (fun _ h => h) dJ4_indexOf_2_8 ?_
    refine lv_iload_n hx hb dJ4_indexOf_2_11 rfl (lv_at hl 1 rfl) ?_
    refine lv_iload_n hx hb dJ4_indexOf_2_12 rfl (lv_at hl 2 rfl) ?_
    refine lv_aload_n hx hb dJ4_indexOf_2_13 rfl (lv_at hl 0 rfl) ?_
    refine cl_i0 F (va_runV (As := []) (rest := [.int v2, .int v1, .ref (V.2 7)]) ⟨hx, hb, hml, hown, hts⟩ (ct_J4_length_i7 h _) (cwV 0 hts (lw_V q835 q836 q837 q106 q838) rfl rfl rfl (by decide +kernel) ⟨Nat.le_trans (Nat.le_of_ble_eq_true rfl) hRf, Nat.le_trans (Nat.le_of_ble_eq_true rfl) hRl⟩) ⟨ct_blind, vk_recv (N := 1) (i := 0) (hE.2.2.1 7 _ rfl).2 (by decide) hS, ct_at F hS ct_nP ct_nD⟩ rfl rfl hl.1 rfl (lv_room (Nat.le_of_ble_eq_true rfl)) dJ4_indexOf_2_14 ⟨hC, hSl⟩) rfl rfl hP hS ?_
    rintro x2 _ H locs h hP hS
    refine cl_i0 F (va_runS (As := [.ref (V.2 7), .int v1, .int v2, .int x2]) (rest := []) ⟨hx, hb, hml, hown, hts⟩ (ct_J5_indexOf_i7 h _) (va_cwS 4 hts (lw_S q843 q844 q107 q845) rfl rfl rfl (by decide +kernel) ⟨Nat.le_trans (Nat.le_of_ble_eq_true rfl) hRf, Nat.le_trans (Nat.le_of_ble_eq_true rfl) hRl⟩) ⟨ct_blind, ct_at F hS ct_nP ct_nD⟩ rfl rfl hl.1 rfl (lv_room (Nat.le_of_ble_eq_true rfl)) dJ4_indexOf_2_17 ⟨hC, hSl⟩) rfl rfl hP hS ?_
    rintro x3 _ H locs h hP hS
    refine lv_goto (tgt := 36) hx hb dJ4_indexOf_2_20 (by decide) ?_
    exact rt_i F dJ4_indexOf_2_36 rfl () h hP hD hS (Nat.le_refl _) (Nat.le_refl _)
set_option maxHeartbeats 4000000 in
theorem ct_J4_indexOf_i0 {l : Launch} {V : evT} {D : va_G} {gI : Nat → ClassId} {v1 : Int32} {Q : Int32 → Prop} (h : wp_J4_indexOf 0 v1  Q) : ct_i l V D vwCl (tyL gI) yJ4_indexOf cJ4_indexOf 2 .int { frames := 4, cells := 0, slots := 0, locals := 82 } [.ref (V.1 0), .int v1] [] (fun u : Unit => []) (fun (x : Int32) (u : Unit) => Q x) := by
  refine ct_ofi RJ4 rfl (by decide +kernel) (Nat.le_of_ble_eq_true rfl) ?_
  intro p e s m args below meth c A F hP hD ls hl
  obtain ⟨⟨hx, hb, hml, hown, hts⟩, hr, hlocks, hA, hK, hE⟩ := id F
  have hS : va_S A s.heap s.heap [] := va_S.rf
  have hl : lv_has ls 2 [(0, .ref (V.1 0)), (1, .int v1)] := hl
  have hRf : 4 ≤ ({ frames := 4, cells := 0, slots := 0, locals := 82 } : Room).frames := Nat.le_refl _
  have hRl : 82 ≤ ({ frames := 4, cells := 0, slots := 0, locals := 82 } : Room).locals := Nat.le_refl _
  have hC : 0 ≤ ({ frames := 4, cells := 0, slots := 0, locals := 82 } : Room).cells := Nat.le_refl _
  have hSl : 0 ≤ ({ frames := 4, cells := 0, slots := 0, locals := 82 } : Room).slots := Nat.le_refl _
  unfold wp_J4_indexOf at h
  refine lv_aload_n hx hb dJ4_indexOf_0 rfl (lv_at hl 0 rfl) ?_
  refine lv_iload_n hx hb dJ4_indexOf_1 rfl (lv_at hl 1 rfl) ?_
  refine lv_iconst (v := (0 : Int32)) hx hb dJ4_indexOf_2 (by decide) ?_
  refine cl_i0 F (va_runV (As := [.int v1, .int (0 : Int32)]) (rest := []) ⟨hx, hb, hml, hown, hts⟩ (ct_J4_indexOf_2_i0 h _) (cwV 2 hts (lw_V q825 q826 q827 q106 q828) rfl rfl rfl (by decide +kernel) ⟨Nat.le_trans (Nat.le_of_ble_eq_true rfl) hRf, Nat.le_trans (Nat.le_of_ble_eq_true rfl) hRl⟩) ⟨ct_blind, vk_recv (N := 1) (i := 0) (hE.2.2.1 0 _ rfl).2 (by decide) hS, ct_at F hS ct_nP ct_nD⟩ rfl rfl hl.1 rfl (lv_room (Nat.le_of_ble_eq_true rfl)) dJ4_indexOf_3 ⟨hC, hSl⟩) rfl rfl hP hS ?_
  rintro x1 _ H locs h hP hS
  exact rt_i F dJ4_indexOf_6 rfl () h hP hD hS (Nat.le_refl _) (Nat.le_refl _)
set_option maxHeartbeats 4000000 in
theorem ct_J4_indexOf_i1 {l : Launch} {V : evT} {D : va_G} {gI : Nat → ClassId} {v1 : Int32} {Q : Int32 → Prop} (h : wp_J4_indexOf 1 v1  Q) : ct_i l V D vwCl (tyL gI) yJ4_indexOf cJ4_indexOf 2 .int { frames := 4, cells := 0, slots := 0, locals := 82 } [.ref (V.1 1), .int v1] [] (fun u : Unit => []) (fun (x : Int32) (u : Unit) => Q x) := by
  refine ct_ofi RJ4 rfl (by decide +kernel) (Nat.le_of_ble_eq_true rfl) ?_
  intro p e s m args below meth c A F hP hD ls hl
  obtain ⟨⟨hx, hb, hml, hown, hts⟩, hr, hlocks, hA, hK, hE⟩ := id F
  have hS : va_S A s.heap s.heap [] := va_S.rf
  have hl : lv_has ls 2 [(0, .ref (V.1 1)), (1, .int v1)] := hl
  have hRf : 4 ≤ ({ frames := 4, cells := 0, slots := 0, locals := 82 } : Room).frames := Nat.le_refl _
  have hRl : 82 ≤ ({ frames := 4, cells := 0, slots := 0, locals := 82 } : Room).locals := Nat.le_refl _
  have hC : 0 ≤ ({ frames := 4, cells := 0, slots := 0, locals := 82 } : Room).cells := Nat.le_refl _
  have hSl : 0 ≤ ({ frames := 4, cells := 0, slots := 0, locals := 82 } : Room).slots := Nat.le_refl _
  unfold wp_J4_indexOf at h
  refine lv_aload_n hx hb dJ4_indexOf_0 rfl (lv_at hl 0 rfl) ?_
  refine lv_iload_n hx hb dJ4_indexOf_1 rfl (lv_at hl 1 rfl) ?_
  refine lv_iconst (v := (0 : Int32)) hx hb dJ4_indexOf_2 (by decide) ?_
  refine cl_i0 F (va_runV (As := [.int v1, .int (0 : Int32)]) (rest := []) ⟨hx, hb, hml, hown, hts⟩ (ct_J4_indexOf_2_i1 h _) (cwV 2 hts (lw_V q825 q826 q827 q106 q828) rfl rfl rfl (by decide +kernel) ⟨Nat.le_trans (Nat.le_of_ble_eq_true rfl) hRf, Nat.le_trans (Nat.le_of_ble_eq_true rfl) hRl⟩) ⟨ct_blind, vk_recv (N := 1) (i := 0) (hE.2.2.1 1 _ rfl).2 (by decide) hS, ct_at F hS ct_nP ct_nD⟩ rfl rfl hl.1 rfl (lv_room (Nat.le_of_ble_eq_true rfl)) dJ4_indexOf_3 ⟨hC, hSl⟩) rfl rfl hP hS ?_
  rintro x1 _ H locs h hP hS
  exact rt_i F dJ4_indexOf_6 rfl () h hP hD hS (Nat.le_refl _) (Nat.le_refl _)
set_option maxHeartbeats 4000000 in
theorem ct_J4_indexOf_i2 {l : Launch} {V : evT} {D : va_G} {gI : Nat → ClassId} {v1 : Int32} {Q : Int32 → Prop} (h : wp_J4_indexOf 2 v1  Q) : ct_i l V D vwCl (tyL gI) yJ4_indexOf cJ4_indexOf 2 .int { frames := 4, cells := 0, slots := 0, locals := 82 } [.ref (V.1 2), .int v1] [] (fun u : Unit => []) (fun (x : Int32) (u : Unit) => Q x) := by
  refine ct_ofi RJ4 rfl (by decide +kernel) (Nat.le_of_ble_eq_true rfl) ?_
  intro p e s m args below meth c A F hP hD ls hl
  obtain ⟨⟨hx, hb, hml, hown, hts⟩, hr, hlocks, hA, hK, hE⟩ := id F
  have hS : va_S A s.heap s.heap [] := va_S.rf
  have hl : lv_has ls 2 [(0, .ref (V.1 2)), (1, .int v1)] := hl
  have hRf : 4 ≤ ({ frames := 4, cells := 0, slots := 0, locals := 82 } : Room).frames := Nat.le_refl _
  have hRl : 82 ≤ ({ frames := 4, cells := 0, slots := 0, locals := 82 } : Room).locals := Nat.le_refl _
  have hC : 0 ≤ ({ frames := 4, cells := 0, slots := 0, locals := 82 } : Room).cells := Nat.le_refl _
  have hSl : 0 ≤ ({ frames := 4, cells := 0, slots := 0, locals := 82 } : Room).slots := Nat.le_refl _
  unfold wp_J4_indexOf at h
  refine lv_aload_n hx hb dJ4_indexOf_0 rfl (lv_at hl 0 rfl) ?_
  refine lv_iload_n hx hb dJ4_indexOf_1 rfl (lv_at hl 1 rfl) ?_
  refine lv_iconst (v := (0 : Int32)) hx hb dJ4_indexOf_2 (by decide) ?_
  refine cl_i0 F (va_runV (As := [.int v1, .int (0 : Int32)]) (rest := []) ⟨hx, hb, hml, hown, hts⟩ (ct_J4_indexOf_2_i2 h _) (cwV 2 hts (lw_V q825 q826 q827 q106 q828) rfl rfl rfl (by decide +kernel) ⟨Nat.le_trans (Nat.le_of_ble_eq_true rfl) hRf, Nat.le_trans (Nat.le_of_ble_eq_true rfl) hRl⟩) ⟨ct_blind, vk_recv (N := 1) (i := 0) (hE.2.2.1 2 _ rfl).2 (by decide) hS, ct_at F hS ct_nP ct_nD⟩ rfl rfl hl.1 rfl (lv_room (Nat.le_of_ble_eq_true rfl)) dJ4_indexOf_3 ⟨hC, hSl⟩) rfl rfl hP hS ?_
  rintro x1 _ H locs h hP hS
  exact rt_i F dJ4_indexOf_6 rfl () h hP hD hS (Nat.le_refl _) (Nat.le_refl _)
set_option maxHeartbeats 4000000 in
theorem ct_J4_indexOf_i3 {l : Launch} {V : evT} {D : va_G} {gI : Nat → ClassId} {v1 : Int32} {Q : Int32 → Prop} (h : wp_J4_indexOf 3 v1  Q) : ct_i l V D vwCl (tyL gI) yJ4_indexOf cJ4_indexOf 2 .int { frames := 4, cells := 0, slots := 0, locals := 82 } [.ref (V.1 3), .int v1] [] (fun u : Unit => []) (fun (x : Int32) (u : Unit) => Q x) := by
  refine ct_ofi RJ4 rfl (by decide +kernel) (Nat.le_of_ble_eq_true rfl) ?_
  intro p e s m args below meth c A F hP hD ls hl
  obtain ⟨⟨hx, hb, hml, hown, hts⟩, hr, hlocks, hA, hK, hE⟩ := id F
  have hS : va_S A s.heap s.heap [] := va_S.rf
  have hl : lv_has ls 2 [(0, .ref (V.1 3)), (1, .int v1)] := hl
  have hRf : 4 ≤ ({ frames := 4, cells := 0, slots := 0, locals := 82 } : Room).frames := Nat.le_refl _
  have hRl : 82 ≤ ({ frames := 4, cells := 0, slots := 0, locals := 82 } : Room).locals := Nat.le_refl _
  have hC : 0 ≤ ({ frames := 4, cells := 0, slots := 0, locals := 82 } : Room).cells := Nat.le_refl _
  have hSl : 0 ≤ ({ frames := 4, cells := 0, slots := 0, locals := 82 } : Room).slots := Nat.le_refl _
  unfold wp_J4_indexOf at h
  refine lv_aload_n hx hb dJ4_indexOf_0 rfl (lv_at hl 0 rfl) ?_
  refine lv_iload_n hx hb dJ4_indexOf_1 rfl (lv_at hl 1 rfl) ?_
  refine lv_iconst (v := (0 : Int32)) hx hb dJ4_indexOf_2 (by decide) ?_
  refine cl_i0 F (va_runV (As := [.int v1, .int (0 : Int32)]) (rest := []) ⟨hx, hb, hml, hown, hts⟩ (ct_J4_indexOf_2_i3 h _) (cwV 2 hts (lw_V q825 q826 q827 q106 q828) rfl rfl rfl (by decide +kernel) ⟨Nat.le_trans (Nat.le_of_ble_eq_true rfl) hRf, Nat.le_trans (Nat.le_of_ble_eq_true rfl) hRl⟩) ⟨ct_blind, vk_recv (N := 1) (i := 0) (hE.2.2.1 3 _ rfl).2 (by decide) hS, ct_at F hS ct_nP ct_nD⟩ rfl rfl hl.1 rfl (lv_room (Nat.le_of_ble_eq_true rfl)) dJ4_indexOf_3 ⟨hC, hSl⟩) rfl rfl hP hS ?_
  rintro x1 _ H locs h hP hS
  exact rt_i F dJ4_indexOf_6 rfl () h hP hD hS (Nat.le_refl _) (Nat.le_refl _)
set_option maxHeartbeats 4000000 in
theorem ct_J4_indexOf_i4 {l : Launch} {V : evT} {D : va_G} {gI : Nat → ClassId} {v1 : Int32} {Q : Int32 → Prop} (h : wp_J4_indexOf 4 v1  Q) : ct_i l V D vwCl (tyL gI) yJ4_indexOf cJ4_indexOf 2 .int { frames := 4, cells := 0, slots := 0, locals := 82 } [.ref (V.1 4), .int v1] [] (fun u : Unit => []) (fun (x : Int32) (u : Unit) => Q x) := by
  refine ct_ofi RJ4 rfl (by decide +kernel) (Nat.le_of_ble_eq_true rfl) ?_
  intro p e s m args below meth c A F hP hD ls hl
  obtain ⟨⟨hx, hb, hml, hown, hts⟩, hr, hlocks, hA, hK, hE⟩ := id F
  have hS : va_S A s.heap s.heap [] := va_S.rf
  have hl : lv_has ls 2 [(0, .ref (V.1 4)), (1, .int v1)] := hl
  have hRf : 4 ≤ ({ frames := 4, cells := 0, slots := 0, locals := 82 } : Room).frames := Nat.le_refl _
  have hRl : 82 ≤ ({ frames := 4, cells := 0, slots := 0, locals := 82 } : Room).locals := Nat.le_refl _
  have hC : 0 ≤ ({ frames := 4, cells := 0, slots := 0, locals := 82 } : Room).cells := Nat.le_refl _
  have hSl : 0 ≤ ({ frames := 4, cells := 0, slots := 0, locals := 82 } : Room).slots := Nat.le_refl _
  unfold wp_J4_indexOf at h
  refine lv_aload_n hx hb dJ4_indexOf_0 rfl (lv_at hl 0 rfl) ?_
  refine lv_iload_n hx hb dJ4_indexOf_1 rfl (lv_at hl 1 rfl) ?_
  refine lv_iconst (v := (0 : Int32)) hx hb dJ4_indexOf_2 (by decide) ?_
  refine cl_i0 F (va_runV (As := [.int v1, .int (0 : Int32)]) (rest := []) ⟨hx, hb, hml, hown, hts⟩ (ct_J4_indexOf_2_i4 h _) (cwV 2 hts (lw_V q825 q826 q827 q106 q828) rfl rfl rfl (by decide +kernel) ⟨Nat.le_trans (Nat.le_of_ble_eq_true rfl) hRf, Nat.le_trans (Nat.le_of_ble_eq_true rfl) hRl⟩) ⟨ct_blind, vk_recv (N := 1) (i := 0) (hE.2.2.1 4 _ rfl).2 (by decide) hS, ct_at F hS ct_nP ct_nD⟩ rfl rfl hl.1 rfl (lv_room (Nat.le_of_ble_eq_true rfl)) dJ4_indexOf_3 ⟨hC, hSl⟩) rfl rfl hP hS ?_
  rintro x1 _ H locs h hP hS
  exact rt_i F dJ4_indexOf_6 rfl () h hP hD hS (Nat.le_refl _) (Nat.le_refl _)
set_option maxHeartbeats 4000000 in
theorem ct_J4_indexOf_i5 {l : Launch} {V : evT} {D : va_G} {gI : Nat → ClassId} {v1 : Int32} {Q : Int32 → Prop} (h : wp_J4_indexOf 5 v1  Q) : ct_i l V D vwCl (tyL gI) yJ4_indexOf cJ4_indexOf 2 .int { frames := 4, cells := 0, slots := 0, locals := 82 } [.ref (V.1 5), .int v1] [] (fun u : Unit => []) (fun (x : Int32) (u : Unit) => Q x) := by
  refine ct_ofi RJ4 rfl (by decide +kernel) (Nat.le_of_ble_eq_true rfl) ?_
  intro p e s m args below meth c A F hP hD ls hl
  obtain ⟨⟨hx, hb, hml, hown, hts⟩, hr, hlocks, hA, hK, hE⟩ := id F
  have hS : va_S A s.heap s.heap [] := va_S.rf
  have hl : lv_has ls 2 [(0, .ref (V.1 5)), (1, .int v1)] := hl
  have hRf : 4 ≤ ({ frames := 4, cells := 0, slots := 0, locals := 82 } : Room).frames := Nat.le_refl _
  have hRl : 82 ≤ ({ frames := 4, cells := 0, slots := 0, locals := 82 } : Room).locals := Nat.le_refl _
  have hC : 0 ≤ ({ frames := 4, cells := 0, slots := 0, locals := 82 } : Room).cells := Nat.le_refl _
  have hSl : 0 ≤ ({ frames := 4, cells := 0, slots := 0, locals := 82 } : Room).slots := Nat.le_refl _
  unfold wp_J4_indexOf at h
  refine lv_aload_n hx hb dJ4_indexOf_0 rfl (lv_at hl 0 rfl) ?_
  refine lv_iload_n hx hb dJ4_indexOf_1 rfl (lv_at hl 1 rfl) ?_
  refine lv_iconst (v := (0 : Int32)) hx hb dJ4_indexOf_2 (by decide) ?_
  refine cl_i0 F (va_runV (As := [.int v1, .int (0 : Int32)]) (rest := []) ⟨hx, hb, hml, hown, hts⟩ (ct_J4_indexOf_2_i5 h _) (cwV 2 hts (lw_V q825 q826 q827 q106 q828) rfl rfl rfl (by decide +kernel) ⟨Nat.le_trans (Nat.le_of_ble_eq_true rfl) hRf, Nat.le_trans (Nat.le_of_ble_eq_true rfl) hRl⟩) ⟨ct_blind, vk_recv (N := 1) (i := 0) (hE.2.2.1 5 _ rfl).2 (by decide) hS, ct_at F hS ct_nP ct_nD⟩ rfl rfl hl.1 rfl (lv_room (Nat.le_of_ble_eq_true rfl)) dJ4_indexOf_3 ⟨hC, hSl⟩) rfl rfl hP hS ?_
  rintro x1 _ H locs h hP hS
  exact rt_i F dJ4_indexOf_6 rfl () h hP hD hS (Nat.le_refl _) (Nat.le_refl _)
set_option maxHeartbeats 4000000 in
theorem ct_J4_indexOf_i6 {l : Launch} {V : evT} {D : va_G} {gI : Nat → ClassId} {v1 : Int32} {Q : Int32 → Prop} (h : wp_J4_indexOf 6 v1  Q) : ct_i l V D vwCl (tyL gI) yJ4_indexOf cJ4_indexOf 2 .int { frames := 4, cells := 0, slots := 0, locals := 82 } [.ref (V.1 6), .int v1] [] (fun u : Unit => []) (fun (x : Int32) (u : Unit) => Q x) := by
  refine ct_ofi RJ4 rfl (by decide +kernel) (Nat.le_of_ble_eq_true rfl) ?_
  intro p e s m args below meth c A F hP hD ls hl
  obtain ⟨⟨hx, hb, hml, hown, hts⟩, hr, hlocks, hA, hK, hE⟩ := id F
  have hS : va_S A s.heap s.heap [] := va_S.rf
  have hl : lv_has ls 2 [(0, .ref (V.1 6)), (1, .int v1)] := hl
  have hRf : 4 ≤ ({ frames := 4, cells := 0, slots := 0, locals := 82 } : Room).frames := Nat.le_refl _
  have hRl : 82 ≤ ({ frames := 4, cells := 0, slots := 0, locals := 82 } : Room).locals := Nat.le_refl _
  have hC : 0 ≤ ({ frames := 4, cells := 0, slots := 0, locals := 82 } : Room).cells := Nat.le_refl _
  have hSl : 0 ≤ ({ frames := 4, cells := 0, slots := 0, locals := 82 } : Room).slots := Nat.le_refl _
  unfold wp_J4_indexOf at h
  refine lv_aload_n hx hb dJ4_indexOf_0 rfl (lv_at hl 0 rfl) ?_
  refine lv_iload_n hx hb dJ4_indexOf_1 rfl (lv_at hl 1 rfl) ?_
  refine lv_iconst (v := (0 : Int32)) hx hb dJ4_indexOf_2 (by decide) ?_
  refine cl_i0 F (va_runV (As := [.int v1, .int (0 : Int32)]) (rest := []) ⟨hx, hb, hml, hown, hts⟩ (ct_J4_indexOf_2_i6 h _) (cwV 2 hts (lw_V q825 q826 q827 q106 q828) rfl rfl rfl (by decide +kernel) ⟨Nat.le_trans (Nat.le_of_ble_eq_true rfl) hRf, Nat.le_trans (Nat.le_of_ble_eq_true rfl) hRl⟩) ⟨ct_blind, vk_recv (N := 1) (i := 0) (hE.2.2.1 6 _ rfl).2 (by decide) hS, ct_at F hS ct_nP ct_nD⟩ rfl rfl hl.1 rfl (lv_room (Nat.le_of_ble_eq_true rfl)) dJ4_indexOf_3 ⟨hC, hSl⟩) rfl rfl hP hS ?_
  rintro x1 _ H locs h hP hS
  exact rt_i F dJ4_indexOf_6 rfl () h hP hD hS (Nat.le_refl _) (Nat.le_refl _)
set_option maxHeartbeats 4000000 in
theorem ct_J4_indexOf_i7 {l : Launch} {V : evT} {D : va_G} {gI : Nat → ClassId} {v1 : Int32} {Q : Int32 → Prop} (h : wp_J4_indexOf 7 v1  Q) : ct_i l V D vwCl (tyL gI) yJ4_indexOf cJ4_indexOf 2 .int { frames := 4, cells := 0, slots := 0, locals := 82 } [.ref (V.1 7), .int v1] [] (fun u : Unit => []) (fun (x : Int32) (u : Unit) => Q x) := by
  refine ct_ofi RJ4 rfl (by decide +kernel) (Nat.le_of_ble_eq_true rfl) ?_
  intro p e s m args below meth c A F hP hD ls hl
  obtain ⟨⟨hx, hb, hml, hown, hts⟩, hr, hlocks, hA, hK, hE⟩ := id F
  have hS : va_S A s.heap s.heap [] := va_S.rf
  have hl : lv_has ls 2 [(0, .ref (V.1 7)), (1, .int v1)] := hl
  have hRf : 4 ≤ ({ frames := 4, cells := 0, slots := 0, locals := 82 } : Room).frames := Nat.le_refl _
  have hRl : 82 ≤ ({ frames := 4, cells := 0, slots := 0, locals := 82 } : Room).locals := Nat.le_refl _
  have hC : 0 ≤ ({ frames := 4, cells := 0, slots := 0, locals := 82 } : Room).cells := Nat.le_refl _
  have hSl : 0 ≤ ({ frames := 4, cells := 0, slots := 0, locals := 82 } : Room).slots := Nat.le_refl _
  unfold wp_J4_indexOf at h
  refine lv_aload_n hx hb dJ4_indexOf_0 rfl (lv_at hl 0 rfl) ?_
  refine lv_iload_n hx hb dJ4_indexOf_1 rfl (lv_at hl 1 rfl) ?_
  refine lv_iconst (v := (0 : Int32)) hx hb dJ4_indexOf_2 (by decide) ?_
  refine cl_i0 F (va_runV (As := [.int v1, .int (0 : Int32)]) (rest := []) ⟨hx, hb, hml, hown, hts⟩ (ct_J4_indexOf_2_i7 h _) (cwV 2 hts (lw_V q825 q826 q827 q106 q828) rfl rfl rfl (by decide +kernel) ⟨Nat.le_trans (Nat.le_of_ble_eq_true rfl) hRf, Nat.le_trans (Nat.le_of_ble_eq_true rfl) hRl⟩) ⟨ct_blind, vk_recv (N := 1) (i := 0) (hE.2.2.1 7 _ rfl).2 (by decide) hS, ct_at F hS ct_nP ct_nD⟩ rfl rfl hl.1 rfl (lv_room (Nat.le_of_ble_eq_true rfl)) dJ4_indexOf_3 ⟨hC, hSl⟩) rfl rfl hP hS ?_
  rintro x1 _ H locs h hP hS
  exact rt_i F dJ4_indexOf_6 rfl () h hP hD hS (Nat.le_refl _) (Nat.le_refl _)
