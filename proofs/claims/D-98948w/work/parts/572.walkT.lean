/-! a sheet: walks -/
set_option maxRecDepth 100000
set_option maxHeartbeats 4000000 in
theorem lp_Sb_rowOf_L1 {p : Program} {l : Launch} {e : Env} {R : Room} {s : State} {m : MethodId} {args : Array Value} {below : List Frame} {meth : Method} {c : Code} {cells slots : Nat} {A : Nat → Prop} {Qf : State → Prop} {V : evT} {D : va_G} {gI : Nat → ClassId} {o : Nat} {ax : Nat → Nat} {tl : va_W} {v1 : Int32} {v3 : Int32} {fd : Nat → Int32} {ar : Nat → Nat → Int32} {lw : Nat → Int64} {hh : HT} {rn : Option (Nat × Nat)} {q1 : Nat} {K41 : (Nat → Int32) → Prop} (F : ct_F p m c meth cX1_rowOf 7 s args RX1 (some (.object "java/lang/Object")) A V D vwCl (tyL gI)) (hRf : 1 ≤ R.frames) (hRl : 12 ≤ R.locals) (hC : cells ≤ R.cells) (hSl : slots ≤ R.slots) (hC1 : cells + 1 ≤ R.cells) (hS7 : slots + 7 ≤ R.slots) (hM : cells + 1 ≤ 2) (hMs : slots + 7 ≤ 15) (hlt : l.stackTraces = false)
    (hK41 : ∀ (sc : Nat → Int32), K41 sc → ∀ (H : Heap) (locs : List Loc) (ls : Array Slot), va_P D vwCl (wX gI o ax rn ([(q1, .inl (gI 3, v1.toNatClampNeg, .inl sc))] ++ tl) fd ar lw hh) H → va_D A (wX gI o ax rn ([(q1, .inl (gI 3, v1.toNatClampNeg, .inl sc))] ++ tl) fd ar lw hh) → va_S A s.heap H locs → lv_has ls 7 [(5, .ref q1)] → W p l e R s m args below meth c H locs cells slots Qf (F0 m 41 ls [])) :
    ∀ (n : Nat) (v4 : Int32) (v6 : Int32) (sc : Nat → Int32), wp_Sb_rowOf_L1 v1 v3 fd ar lw hh rn K41 n v4 v6 sc → ∀ (H : Heap) (locs : List Loc) (ls : Array Slot), va_P D vwCl (wX gI o ax rn ([(q1, .inl (gI 3, v1.toNatClampNeg, .inl sc))] ++ tl) fd ar lw hh) H → va_D A (wX gI o ax rn ([(q1, .inl (gI 3, v1.toNatClampNeg, .inl sc))] ++ tl) fd ar lw hh) → va_S A s.heap H locs → lv_has ls 7 [(1, .int v1), (3, .int v3), (4, .int v4), (5, .ref q1), (6, .int v6)] → W p l e R s m args below meth c H locs cells slots Qf (F0 m 15 ls []) := by
  obtain ⟨⟨hx, hb, hml, hown, hts⟩, hr, hlocks, hA, hK, hE⟩ := id F
  intro n
  induction n with
  | zero => intro v4 v6 sc h; exact h.elim
  | succ n ih =>
    intro v4 v6 sc h H locs ls hP hD hS hl
    unfold wp_Sb_rowOf_L1 at h
    refine lv_iload hx hb dX1_rowOf_15 (lv_at hl 4 rfl) ?_
    refine lv_iload_n hx hb dX1_rowOf_17 rfl (lv_at hl 0 rfl) ?_
    refine lv_icmp_ge (tgt := 41) hx hb dX1_rowOf_18 (by decide) (fun c2 => ?_) (fun c2 => ?_)
    · replace h := h.1 c2
      exact hK41 _ h _ _ _ hP hD hS (lv_sub hl [3] rfl)
    · replace h := h.2 c2
      refine lv_aload hx hb dX1_rowOf_21 (lv_at hl 3 rfl) ?_
      refine lv_iload hx hb dX1_rowOf_23 (lv_at hl 4 rfl) ?_
      refine lv_iload hx hb dX1_rowOf_25 (lv_at hl 2 rfl) ?_
      refine lv_i2b (v := (v4.toInt8.toInt32)) hx hb dX1_rowOf_27 rfl ?_
      replace hP := fr_outP (xs := [(q1, .inl (gI 3, v1.toNatClampNeg, .inl sc))]) hP
      replace hD := fr_outD (xs := [(q1, .inl (gI 3, v1.toNatClampNeg, .inl sc))]) hD
      refine va_bast (f := sc) hx hb hK hP hD hS 0 3 rfl rfl h.1 dX1_rowOf_28 (fun H locs hP hD hS => ?_)
      replace h := h.2
      replace hP := fr_inP (xs := [(q1, .inl (gI 3, v1.toNatClampNeg, .inl (upd sc v6.toNatClampNeg (vp_nar .byte (v4.toInt8.toInt32)))))]) hP
      replace hD := fr_inD (xs := [(q1, .inl (gI 3, v1.toNatClampNeg, .inl (upd sc v6.toNatClampNeg (vp_nar .byte (v4.toInt8.toInt32)))))]) hD
      refine lv_iinc (v := (v6 + (1 : Int32))) (lv' := [(6, .int (v6 + (1 : Int32))), (1, .int v1), (3, .int v3), (4, .int v4), (5, .ref q1)]) hx hb dX1_rowOf_29 hl (k := 4) rfl rfl (by decide) rfl (fun ls hl => ?_)
      refine lv_iload hx hb dX1_rowOf_32 (lv_at hl 3 rfl) ?_
      refine lv_iload_n hx hb dX1_rowOf_34 rfl (lv_at hl 2 rfl) ?_
      refine lv_iadd hx hb dX1_rowOf_35 ?_
      refine lv_istore (lv' := [(4, .int (v4 + v3)), (6, .int (v6 + (1 : Int32))), (1, .int v1), (3, .int v3), (5, .ref q1)]) hx hb dX1_rowOf_36 hl (by decide) rfl (fun ls hl => ?_)
      refine lv_goto (tgt := 15) hx hb dX1_rowOf_38 (by decide) ?_
      exact ih _ _ _ h _ _ _ hP hD hS (lv_sub hl [2, 3, 0, 4, 1] rfl)
set_option maxHeartbeats 8000000 in
theorem ct_Sb_rowOf {l : Launch} {V : evT} {D : va_G} {gI : Nat → ClassId} {o : Nat} {ax : Nat → Nat} {tl : va_W} (hlt : l.stackTraces = false) {v0 : Int32} {v1 : Int32} {v2 : Int32} {v3 : Int32} {fd : Nat → Int32} {ar : Nat → Nat → Int32} {lw : Nat → Int64} {hh : HT} {rn : Option (Nat × Nat)} {Q : (Nat → Int32) → Prop} (h : wp_Sb_rowOf v0 v1 v2 v3 fd ar lw hh rn Q) : ct_r l V D vwCl (tyL gI) yX1_rowOf cX1_rowOf 7 (.object "java/lang/Object") { frames := 1, cells := 2, slots := 15, locals := 12 } [.int v0, .int v1, .int v2, .int v3] (wX gI o ax rn tl fd ar lw hh) (fun u : Nat × (Nat → Int32) => u.1) (fun u : Nat × (Nat → Int32) => (wX gI o ax rn ([(u.1, .inl (gI 3, v1.toNatClampNeg, .inl u.2))] ++ tl) fd ar lw hh)) (fun u : Nat × (Nat → Int32) => Q u.2) := by
  refine ct_ofr RX1 rfl (by decide +kernel) (Nat.le_of_ble_eq_true rfl) ?_
  intro p e s m args below meth c A F hP hD ls hl
  obtain ⟨⟨hx, hb, hml, hown, hts⟩, hr, hlocks, hA, hK, hE⟩ := id F
  have hS : va_S A s.heap s.heap [] := va_S.rf
  have hl : lv_has ls 7 [(0, .int v0), (1, .int v1), (2, .int v2), (3, .int v3)] := hl
  have hRf : 1 ≤ ({ frames := 1, cells := 2, slots := 15, locals := 12 } : Room).frames := Nat.le_refl _
  have hC : 0 ≤ ({ frames := 1, cells := 2, slots := 15, locals := 12 } : Room).cells := Nat.le_of_ble_eq_true rfl
  have hSl : 0 ≤ ({ frames := 1, cells := 2, slots := 15, locals := 12 } : Room).slots := Nat.le_of_ble_eq_true rfl
  have hC1 : 0 + 1 ≤ ({ frames := 1, cells := 2, slots := 15, locals := 12 } : Room).cells := Nat.le_of_ble_eq_true rfl
  have hS7 : 0 + 7 ≤ ({ frames := 1, cells := 2, slots := 15, locals := 12 } : Room).slots := Nat.le_of_ble_eq_true rfl
  have hM : 0 + 1 ≤ 2 := Nat.le_of_ble_eq_true rfl
  have hMs : 0 + 7 ≤ 15 := Nat.le_of_ble_eq_true rfl
  have hRl : 12 ≤ ({ frames := 1, cells := 2, slots := 15, locals := 12 } : Room).locals := Nat.le_refl _
  unfold wp_Sb_rowOf at h
  refine lv_iload_n hx hb dX1_rowOf_0 rfl (lv_at hl 2 rfl) ?_
  refine lv_istore (lv' := [(4, .int v2), (0, .int v0), (1, .int v1), (2, .int v2), (3, .int v3)]) hx hb dX1_rowOf_1 hl (by decide) rfl (fun ls hl => ?_)
  refine lv_iload_n hx hb dX1_rowOf_3 rfl (lv_at hl 1 rfl) ?_
  refine lv_if_ne (tgt := 44) hx hb dX1_rowOf_4 (by decide) (fun c4 => ?_) (fun c4 => ?_)
  · replace h := h.1 c4
    exact h.elim
  · replace h := h.2 c4
    refine lv_iload_n hx hb dX1_rowOf_7 rfl (lv_at hl 2 rfl) ?_
    refine pt_newa (atype := .byte) (a0 := (v1.toNatClampNeg, .inl (fun _ => 0))) hx hb (hts _ q288) rfl hK 3 rfl hP hD hS hA (fun _ => rfl) h.1.1 rfl (Nat.le_trans (Nat.mul_le_mul_right _ h.1.2) (Nat.le_of_ble_eq_true rfl)) (Nat.le_of_ble_eq_true rfl) (Nat.le_trans (Nat.add_le_add_left h.1.2 _) (Nat.le_of_ble_eq_true rfl)) dX1_rowOf_8 (fun q1 H hP hD hS => ?_)
    replace hP : va_P D vwCl (wX gI o ax rn ([(q1, .inl (gI 3, v1.toNatClampNeg, .inl (fun _ => 0)))] ++ tl) fd ar lw hh) _ := frw_inP (nw := [(q1, .inl (gI 3, v1.toNatClampNeg, .inl (fun _ => 0)))]) hP
    replace hD : va_D A (wX gI o ax rn ([(q1, .inl (gI 3, v1.toNatClampNeg, .inl (fun _ => 0)))] ++ tl) fd ar lw hh) := frw_inD (nw := [(q1, .inl (gI 3, v1.toNatClampNeg, .inl (fun _ => 0)))]) hD
    refine W.widen (Nat.le_refl _) (Nat.add_le_add_left h.1.2 _) ?_
    replace h := h.2
    replace hC : 1 ≤ ({ frames := 1, cells := 2, slots := 15, locals := 12 } : Room).cells := Nat.le_of_ble_eq_true rfl
    replace hSl : 8 ≤ ({ frames := 1, cells := 2, slots := 15, locals := 12 } : Room).slots := Nat.le_of_ble_eq_true rfl
    replace hC1 : 1 + 1 ≤ ({ frames := 1, cells := 2, slots := 15, locals := 12 } : Room).cells := Nat.le_of_ble_eq_true rfl
    replace hS7 : 8 + 7 ≤ ({ frames := 1, cells := 2, slots := 15, locals := 12 } : Room).slots := Nat.le_of_ble_eq_true rfl
    replace hM : 1 + 1 ≤ 2 := Nat.le_of_ble_eq_true rfl
    replace hMs : 8 + 7 ≤ 15 := Nat.le_of_ble_eq_true rfl
    refine lv_astore (lv' := [(5, .ref q1), (4, .int v2), (0, .int v0), (1, .int v1), (2, .int v2), (3, .int v3)]) hx hb dX1_rowOf_10 hl (by decide) rfl (fun ls hl => ?_)
    refine lv_iconst (v := (0 : Int32)) hx hb dX1_rowOf_12 (by decide) ?_
    refine lv_istore (lv' := [(6, .int (0 : Int32)), (5, .ref q1), (4, .int v2), (0, .int v0), (1, .int v1), (2, .int v2), (3, .int v3)]) hx hb dX1_rowOf_13 hl (by decide) rfl (fun ls hl => ?_)
    obtain ⟨k15, h⟩ := h
    refine lp_Sb_rowOf_L1 F hRf hRl hC hSl hC1 hS7 hM hMs hlt ?hk41 k15 _ _ _ h _ _ _ hP hD hS (lv_sub hl [4, 6, 2, 1, 0] rfl)
    case hk41 =>
      intro sc_3 h H locs ls hP hD hS hl
      refine lv_aload hx hb dX1_rowOf_41 (lv_at hl 0 rfl) ?_
      exact rt_r F dX1_rowOf_43 (q1, sc_3) rfl h hP hD hS (Nat.le_of_ble_eq_true rfl) (Nat.le_of_ble_eq_true rfl)
set_option maxHeartbeats 4000000 in
theorem ct_Sb_entry {l : Launch} {V : evT} {D : va_G} {gI : Nat → ClassId} {o : Nat} {ax : Nat → Nat} {tl : va_W} {pa : Nat} {v1 : Int32} {fd : Nat → Int32} {ar : Nat → Nat → Int32} {lw : Nat → Int64} {hh : HT} {rn : Option (Nat × Nat)} {sc : Nat → Int32} {sn : Nat} {Q : Int32 → Prop} (h : wp_Sb_entry v1 fd ar lw hh rn sc sn Q) : ct_i l V D vwCl (tyL gI) yX1_entry cX1_entry 2 .int { frames := 1, cells := 0, slots := 0, locals := 12 } [.ref pa, .int v1] (wX gI o ax rn ([(pa, .inl (gI 3, sn, .inl sc))] ++ tl) fd ar lw hh) (fun u : Unit => (wX gI o ax rn ([(pa, .inl (gI 3, sn, .inl sc))] ++ tl) fd ar lw hh)) (fun (x : Int32) (u : Unit) => Q x) := by
  refine ct_ofi RX1 rfl (by decide +kernel) (Nat.le_of_ble_eq_true rfl) ?_
  intro p e s m args below meth c A F hP hD ls hl
  obtain ⟨⟨hx, hb, hml, hown, hts⟩, hr, hlocks, hA, hK, hE⟩ := id F
  have hS : va_S A s.heap s.heap [] := va_S.rf
  have hl : lv_has ls 2 [(0, .ref pa), (1, .int v1)] := hl
  have hRf : 1 ≤ ({ frames := 1, cells := 0, slots := 0, locals := 12 } : Room).frames := Nat.le_refl _
  have hRl : 12 ≤ ({ frames := 1, cells := 0, slots := 0, locals := 12 } : Room).locals := Nat.le_refl _
  have hC : 0 ≤ ({ frames := 1, cells := 0, slots := 0, locals := 12 } : Room).cells := Nat.le_refl _
  have hSl : 0 ≤ ({ frames := 1, cells := 0, slots := 0, locals := 12 } : Room).slots := Nat.le_refl _
  unfold wp_Sb_entry at h
  refine lv_aload_n hx hb dX1_entry_0 rfl (lv_at hl 0 rfl) ?_
  refine pt_instY hx hb hown (hts _ q509) (fr_outP (xs := [(pa, .inl (gI 3, sn, .inl sc))]) hP) 0 rfl (hK.2 3 _ rfl).2 dX1_entry_1 ?_
  refine lv_if_eq (tgt := 14) hx hb dX1_entry_4 (by decide) (fun c1 => ?_) (fun c1 => ?_)
  · replace h := h.1 c1
    exact h.elim
  · replace h := h.2 c1
    refine lv_aload_n hx hb dX1_entry_7 rfl (lv_at hl 0 rfl) ?_
    refine va_castA hx hb hown (hts _ q509) (fr_outP (xs := [(pa, .inl (gI 3, sn, .inl sc))]) hP) 0 rfl (hK.2 3 _ rfl).2 dX1_entry_8 ?_
    refine lv_iload_n hx hb dX1_entry_11 rfl (lv_at hl 1 rfl) ?_
    refine va_bald (f := sc) hx hb hK (fr_outP (xs := [(pa, .inl (gI 3, sn, .inl sc))]) hP) 0 3 rfl rfl h.1 dX1_entry_12 ?_
    replace h := h.2
    exact rt_i F dX1_entry_13 rfl () h hP hD hS (Nat.le_refl _) (Nat.le_refl _)
set_option maxHeartbeats 4000000 in
theorem lp_Ss_rowOf_L1 {p : Program} {l : Launch} {e : Env} {R : Room} {s : State} {m : MethodId} {args : Array Value} {below : List Frame} {meth : Method} {c : Code} {cells slots : Nat} {A : Nat → Prop} {Qf : State → Prop} {V : evT} {D : va_G} {gI : Nat → ClassId} {o : Nat} {ax : Nat → Nat} {tl : va_W} {v1 : Int32} {v3 : Int32} {fd : Nat → Int32} {ar : Nat → Nat → Int32} {lw : Nat → Int64} {hh : HT} {rn : Option (Nat × Nat)} {q1 : Nat} {K83 : (Nat → Int32) → Prop} (F : ct_F p m c meth cX1_rowOf 7 s args RX1 (some (.object "java/lang/Object")) A V D vwCl (tyL gI)) (hRf : 1 ≤ R.frames) (hRl : 12 ≤ R.locals) (hC : cells ≤ R.cells) (hSl : slots ≤ R.slots) (hC1 : cells + 1 ≤ R.cells) (hS7 : slots + 7 ≤ R.slots) (hM : cells + 1 ≤ 2) (hMs : slots + 7 ≤ 15) (hlt : l.stackTraces = false)
    (hK83 : ∀ (sc : Nat → Int32), K83 sc → ∀ (H : Heap) (locs : List Loc) (ls : Array Slot), va_P D vwCl (wX gI o ax rn ([(q1, .inl (gI 8, v1.toNatClampNeg, .inl sc))] ++ tl) fd ar lw hh) H → va_D A (wX gI o ax rn ([(q1, .inl (gI 8, v1.toNatClampNeg, .inl sc))] ++ tl) fd ar lw hh) → va_S A s.heap H locs → lv_has ls 7 [(5, .ref q1)] → W p l e R s m args below meth c H locs cells slots Qf (F0 m 83 ls [])) :
    ∀ (n : Nat) (v4 : Int32) (v6 : Int32) (sc : Nat → Int32), wp_Ss_rowOf_L1 v1 v3 fd ar lw hh rn K83 n v4 v6 sc → ∀ (H : Heap) (locs : List Loc) (ls : Array Slot), va_P D vwCl (wX gI o ax rn ([(q1, .inl (gI 8, v1.toNatClampNeg, .inl sc))] ++ tl) fd ar lw hh) H → va_D A (wX gI o ax rn ([(q1, .inl (gI 8, v1.toNatClampNeg, .inl sc))] ++ tl) fd ar lw hh) → va_S A s.heap H locs → lv_has ls 7 [(1, .int v1), (3, .int v3), (4, .int v4), (5, .ref q1), (6, .int v6)] → W p l e R s m args below meth c H locs cells slots Qf (F0 m 57 ls []) := by
  obtain ⟨⟨hx, hb, hml, hown, hts⟩, hr, hlocks, hA, hK, hE⟩ := id F
  intro n
  induction n with
  | zero => intro v4 v6 sc h; exact h.elim
  | succ n ih =>
    intro v4 v6 sc h H locs ls hP hD hS hl
    unfold wp_Ss_rowOf_L1 at h
    refine lv_iload hx hb dX1_rowOf_57 (lv_at hl 4 rfl) ?_
    refine lv_iload_n hx hb dX1_rowOf_59 rfl (lv_at hl 0 rfl) ?_
    refine lv_icmp_ge (tgt := 83) hx hb dX1_rowOf_60 (by decide) (fun c2 => ?_) (fun c2 => ?_)
    · replace h := h.1 c2
      exact hK83 _ h _ _ _ hP hD hS (lv_sub hl [3] rfl)
    · replace h := h.2 c2
      refine lv_aload hx hb dX1_rowOf_63 (lv_at hl 3 rfl) ?_
      refine lv_iload hx hb dX1_rowOf_65 (lv_at hl 4 rfl) ?_
      refine lv_iload hx hb dX1_rowOf_67 (lv_at hl 2 rfl) ?_
      refine lv_i2s (v := (v4.toInt16.toInt32)) hx hb dX1_rowOf_69 rfl ?_
      replace hP := fr_outP (xs := [(q1, .inl (gI 8, v1.toNatClampNeg, .inl sc))]) hP
      replace hD := fr_outD (xs := [(q1, .inl (gI 8, v1.toNatClampNeg, .inl sc))]) hD
      refine va_sast (f := sc) hx hb hK hP hD hS 0 8 rfl rfl h.1 dX1_rowOf_70 (fun H locs hP hD hS => ?_)
      replace h := h.2
      replace hP := fr_inP (xs := [(q1, .inl (gI 8, v1.toNatClampNeg, .inl (upd sc v6.toNatClampNeg (vp_nar .short (v4.toInt16.toInt32)))))]) hP
      replace hD := fr_inD (xs := [(q1, .inl (gI 8, v1.toNatClampNeg, .inl (upd sc v6.toNatClampNeg (vp_nar .short (v4.toInt16.toInt32)))))]) hD
      refine lv_iinc (v := (v6 + (1 : Int32))) (lv' := [(6, .int (v6 + (1 : Int32))), (1, .int v1), (3, .int v3), (4, .int v4), (5, .ref q1)]) hx hb dX1_rowOf_71 hl (k := 4) rfl rfl (by decide) rfl (fun ls hl => ?_)
      refine lv_iload hx hb dX1_rowOf_74 (lv_at hl 3 rfl) ?_
      refine lv_iload_n hx hb dX1_rowOf_76 rfl (lv_at hl 2 rfl) ?_
      refine lv_iadd hx hb dX1_rowOf_77 ?_
      refine lv_istore (lv' := [(4, .int (v4 + v3)), (6, .int (v6 + (1 : Int32))), (1, .int v1), (3, .int v3), (5, .ref q1)]) hx hb dX1_rowOf_78 hl (by decide) rfl (fun ls hl => ?_)
      refine lv_goto (tgt := 57) hx hb dX1_rowOf_80 (by decide) ?_
      exact ih _ _ _ h _ _ _ hP hD hS (lv_sub hl [2, 3, 0, 4, 1] rfl)
set_option maxHeartbeats 8000000 in
theorem ct_Ss_rowOf {l : Launch} {V : evT} {D : va_G} {gI : Nat → ClassId} {o : Nat} {ax : Nat → Nat} {tl : va_W} (hlt : l.stackTraces = false) {v0 : Int32} {v1 : Int32} {v2 : Int32} {v3 : Int32} {fd : Nat → Int32} {ar : Nat → Nat → Int32} {lw : Nat → Int64} {hh : HT} {rn : Option (Nat × Nat)} {Q : (Nat → Int32) → Prop} (h : wp_Ss_rowOf v0 v1 v2 v3 fd ar lw hh rn Q) : ct_r l V D vwCl (tyL gI) yX1_rowOf cX1_rowOf 7 (.object "java/lang/Object") { frames := 1, cells := 2, slots := 15, locals := 12 } [.int v0, .int v1, .int v2, .int v3] (wX gI o ax rn tl fd ar lw hh) (fun u : Nat × (Nat → Int32) => u.1) (fun u : Nat × (Nat → Int32) => (wX gI o ax rn ([(u.1, .inl (gI 8, v1.toNatClampNeg, .inl u.2))] ++ tl) fd ar lw hh)) (fun u : Nat × (Nat → Int32) => Q u.2) := by
  refine ct_ofr RX1 rfl (by decide +kernel) (Nat.le_of_ble_eq_true rfl) ?_
  intro p e s m args below meth c A F hP hD ls hl
  obtain ⟨⟨hx, hb, hml, hown, hts⟩, hr, hlocks, hA, hK, hE⟩ := id F
  have hS : va_S A s.heap s.heap [] := va_S.rf
  have hl : lv_has ls 7 [(0, .int v0), (1, .int v1), (2, .int v2), (3, .int v3)] := hl
  have hRf : 1 ≤ ({ frames := 1, cells := 2, slots := 15, locals := 12 } : Room).frames := Nat.le_refl _
  have hC : 0 ≤ ({ frames := 1, cells := 2, slots := 15, locals := 12 } : Room).cells := Nat.le_of_ble_eq_true rfl
  have hSl : 0 ≤ ({ frames := 1, cells := 2, slots := 15, locals := 12 } : Room).slots := Nat.le_of_ble_eq_true rfl
  have hC1 : 0 + 1 ≤ ({ frames := 1, cells := 2, slots := 15, locals := 12 } : Room).cells := Nat.le_of_ble_eq_true rfl
  have hS7 : 0 + 7 ≤ ({ frames := 1, cells := 2, slots := 15, locals := 12 } : Room).slots := Nat.le_of_ble_eq_true rfl
  have hM : 0 + 1 ≤ 2 := Nat.le_of_ble_eq_true rfl
  have hMs : 0 + 7 ≤ 15 := Nat.le_of_ble_eq_true rfl
  have hRl : 12 ≤ ({ frames := 1, cells := 2, slots := 15, locals := 12 } : Room).locals := Nat.le_refl _
  unfold wp_Ss_rowOf at h
  refine lv_iload_n hx hb dX1_rowOf_0 rfl (lv_at hl 2 rfl) ?_
  refine lv_istore (lv' := [(4, .int v2), (0, .int v0), (1, .int v1), (2, .int v2), (3, .int v3)]) hx hb dX1_rowOf_1 hl (by decide) rfl (fun ls hl => ?_)
  refine lv_iload_n hx hb dX1_rowOf_3 rfl (lv_at hl 1 rfl) ?_
  refine lv_if_ne (tgt := 44) hx hb dX1_rowOf_4 (by decide) (fun c5 => ?_) (fun c5 => ?_)
  · replace h := h.1 c5
    refine lv_iload_n hx hb dX1_rowOf_44 rfl (lv_at hl 1 rfl) ?_
    refine lv_iconst (v := (1 : Int32)) hx hb dX1_rowOf_45 (by decide) ?_
    refine lv_icmp_ne (tgt := 86) hx hb dX1_rowOf_46 (by decide) (fun c4 => ?_) (fun c4 => ?_)
    · replace h := h.1 c4
      exact h.elim
    · replace h := h.2 c4
      refine lv_iload_n hx hb dX1_rowOf_49 rfl (lv_at hl 2 rfl) ?_
      refine pt_newa (atype := .short) (a0 := (v1.toNatClampNeg, .inl (fun _ => 0))) hx hb (hts _ q638) rfl hK 8 rfl hP hD hS hA (fun _ => rfl) h.1.1 rfl (Nat.le_trans (Nat.mul_le_mul_right _ h.1.2) (Nat.le_of_ble_eq_true rfl)) (Nat.le_of_ble_eq_true rfl) (Nat.le_trans (Nat.add_le_add_left h.1.2 _) (Nat.le_of_ble_eq_true rfl)) dX1_rowOf_50 (fun q1 H hP hD hS => ?_)
      replace hP : va_P D vwCl (wX gI o ax rn ([(q1, .inl (gI 8, v1.toNatClampNeg, .inl (fun _ => 0)))] ++ tl) fd ar lw hh) _ := frw_inP (nw := [(q1, .inl (gI 8, v1.toNatClampNeg, .inl (fun _ => 0)))]) hP
      replace hD : va_D A (wX gI o ax rn ([(q1, .inl (gI 8, v1.toNatClampNeg, .inl (fun _ => 0)))] ++ tl) fd ar lw hh) := frw_inD (nw := [(q1, .inl (gI 8, v1.toNatClampNeg, .inl (fun _ => 0)))]) hD
      refine W.widen (Nat.le_refl _) (Nat.add_le_add_left h.1.2 _) ?_
      replace h := h.2
      replace hC : 1 ≤ ({ frames := 1, cells := 2, slots := 15, locals := 12 } : Room).cells := Nat.le_of_ble_eq_true rfl
      replace hSl : 8 ≤ ({ frames := 1, cells := 2, slots := 15, locals := 12 } : Room).slots := Nat.le_of_ble_eq_true rfl
      replace hC1 : 1 + 1 ≤ ({ frames := 1, cells := 2, slots := 15, locals := 12 } : Room).cells := Nat.le_of_ble_eq_true rfl
      replace hS7 : 8 + 7 ≤ ({ frames := 1, cells := 2, slots := 15, locals := 12 } : Room).slots := Nat.le_of_ble_eq_true rfl
      replace hM : 1 + 1 ≤ 2 := Nat.le_of_ble_eq_true rfl
      replace hMs : 8 + 7 ≤ 15 := Nat.le_of_ble_eq_true rfl
      refine lv_astore (lv' := [(5, .ref q1), (4, .int v2), (0, .int v0), (1, .int v1), (2, .int v2), (3, .int v3)]) hx hb dX1_rowOf_52 hl (by decide) rfl (fun ls hl => ?_)
      refine lv_iconst (v := (0 : Int32)) hx hb dX1_rowOf_54 (by decide) ?_
      refine lv_istore (lv' := [(6, .int (0 : Int32)), (5, .ref q1), (4, .int v2), (0, .int v0), (1, .int v1), (2, .int v2), (3, .int v3)]) hx hb dX1_rowOf_55 hl (by decide) rfl (fun ls hl => ?_)
      obtain ⟨k57, h⟩ := h
      refine lp_Ss_rowOf_L1 F hRf hRl hC hSl hC1 hS7 hM hMs hlt ?hk83 k57 _ _ _ h _ _ _ hP hD hS (lv_sub hl [4, 6, 2, 1, 0] rfl)
      case hk83 =>
        intro sc_3 h H locs ls hP hD hS hl
        refine lv_aload hx hb dX1_rowOf_83 (lv_at hl 0 rfl) ?_
        exact rt_r F dX1_rowOf_85 (q1, sc_3) rfl h hP hD hS (Nat.le_of_ble_eq_true rfl) (Nat.le_of_ble_eq_true rfl)
  · replace h := h.2 c5
    exact h.elim
set_option maxHeartbeats 4000000 in
theorem ct_Ss_entry {l : Launch} {V : evT} {D : va_G} {gI : Nat → ClassId} {o : Nat} {ax : Nat → Nat} {tl : va_W} {pa : Nat} {v1 : Int32} {fd : Nat → Int32} {ar : Nat → Nat → Int32} {lw : Nat → Int64} {hh : HT} {rn : Option (Nat × Nat)} {sc : Nat → Int32} {sn : Nat} {Q : Int32 → Prop} (h : wp_Ss_entry v1 fd ar lw hh rn sc sn Q) : ct_i l V D vwCl (tyL gI) yX1_entry cX1_entry 2 .int { frames := 1, cells := 0, slots := 0, locals := 12 } [.ref pa, .int v1] (wX gI o ax rn ([(pa, .inl (gI 8, sn, .inl sc))] ++ tl) fd ar lw hh) (fun u : Unit => (wX gI o ax rn ([(pa, .inl (gI 8, sn, .inl sc))] ++ tl) fd ar lw hh)) (fun (x : Int32) (u : Unit) => Q x) := by
  refine ct_ofi RX1 rfl (by decide +kernel) (Nat.le_of_ble_eq_true rfl) ?_
  intro p e s m args below meth c A F hP hD ls hl
  obtain ⟨⟨hx, hb, hml, hown, hts⟩, hr, hlocks, hA, hK, hE⟩ := id F
  have hS : va_S A s.heap s.heap [] := va_S.rf
  have hl : lv_has ls 2 [(0, .ref pa), (1, .int v1)] := hl
  have hRf : 1 ≤ ({ frames := 1, cells := 0, slots := 0, locals := 12 } : Room).frames := Nat.le_refl _
  have hRl : 12 ≤ ({ frames := 1, cells := 0, slots := 0, locals := 12 } : Room).locals := Nat.le_refl _
  have hC : 0 ≤ ({ frames := 1, cells := 0, slots := 0, locals := 12 } : Room).cells := Nat.le_refl _
  have hSl : 0 ≤ ({ frames := 1, cells := 0, slots := 0, locals := 12 } : Room).slots := Nat.le_refl _
  unfold wp_Ss_entry at h
  refine lv_aload_n hx hb dX1_entry_0 rfl (lv_at hl 0 rfl) ?_
  refine pt_instN hx hb hown (hts _ q509) hE.2.2.2.2.2.2.2.2.1 (fr_outP (xs := [(pa, .inl (gI 8, sn, .inl sc))]) hP) 0 rfl (hK.2 8 _ rfl).2 dX1_entry_1 ?_
  refine lv_if_eq (tgt := 14) hx hb dX1_entry_4 (by decide) (fun c2 => ?_) (fun c2 => ?_)
  · replace h := h.1 c2
    refine lv_aload_n hx hb dX1_entry_14 rfl (lv_at hl 0 rfl) ?_
    refine pt_instY hx hb hown (hts _ q632) (fr_outP (xs := [(pa, .inl (gI 8, sn, .inl sc))]) hP) 0 rfl (hK.2 8 _ rfl).2 dX1_entry_15 ?_
    refine lv_if_eq (tgt := 30) hx hb dX1_entry_18 (by decide) (fun c1 => ?_) (fun c1 => ?_)
    · replace h := h.1 c1
      exact h.elim
    · replace h := h.2 c1
      refine lv_aload_n hx hb dX1_entry_21 rfl (lv_at hl 0 rfl) ?_
      refine va_castA hx hb hown (hts _ q632) (fr_outP (xs := [(pa, .inl (gI 8, sn, .inl sc))]) hP) 0 rfl (hK.2 8 _ rfl).2 dX1_entry_22 ?_
      refine lv_iload_n hx hb dX1_entry_25 rfl (lv_at hl 1 rfl) ?_
      refine va_sald (f := sc) hx hb hK (fr_outP (xs := [(pa, .inl (gI 8, sn, .inl sc))]) hP) 0 8 rfl rfl h.1 dX1_entry_26 ?_
      replace h := h.2
      refine lv_goto (tgt := 36) hx hb dX1_entry_27 (by decide) ?_
      exact rt_i F dX1_entry_36 rfl () h hP hD hS (Nat.le_refl _) (Nat.le_refl _)
  · replace h := h.2 c2
    exact h.elim
set_option maxHeartbeats 4000000 in
theorem lp_Si_rowOf_L1 {p : Program} {l : Launch} {e : Env} {R : Room} {s : State} {m : MethodId} {args : Array Value} {below : List Frame} {meth : Method} {c : Code} {cells slots : Nat} {A : Nat → Prop} {Qf : State → Prop} {V : evT} {D : va_G} {gI : Nat → ClassId} {o : Nat} {ax : Nat → Nat} {tl : va_W} {v1 : Int32} {v3 : Int32} {fd : Nat → Int32} {ar : Nat → Nat → Int32} {lw : Nat → Int64} {hh : HT} {rn : Option (Nat × Nat)} {q1 : Nat} {K119 : (Nat → Int32) → Prop} (F : ct_F p m c meth cX1_rowOf 7 s args RX1 (some (.object "java/lang/Object")) A V D vwCl (tyL gI)) (hRf : 1 ≤ R.frames) (hRl : 12 ≤ R.locals) (hC : cells ≤ R.cells) (hSl : slots ≤ R.slots) (hC1 : cells + 1 ≤ R.cells) (hS7 : slots + 7 ≤ R.slots) (hM : cells + 1 ≤ 2) (hMs : slots + 7 ≤ 15) (hlt : l.stackTraces = false)
    (hK119 : ∀ (sc : Nat → Int32), K119 sc → ∀ (H : Heap) (locs : List Loc) (ls : Array Slot), va_P D vwCl (wX gI o ax rn ([(q1, .inl (gI 0, v1.toNatClampNeg, .inl sc))] ++ tl) fd ar lw hh) H → va_D A (wX gI o ax rn ([(q1, .inl (gI 0, v1.toNatClampNeg, .inl sc))] ++ tl) fd ar lw hh) → va_S A s.heap H locs → lv_has ls 7 [(5, .ref q1)] → W p l e R s m args below meth c H locs cells slots Qf (F0 m 119 ls [])) :
    ∀ (n : Nat) (v4 : Int32) (v6 : Int32) (sc : Nat → Int32), wp_Si_rowOf_L1 v1 v3 fd ar lw hh rn K119 n v4 v6 sc → ∀ (H : Heap) (locs : List Loc) (ls : Array Slot), va_P D vwCl (wX gI o ax rn ([(q1, .inl (gI 0, v1.toNatClampNeg, .inl sc))] ++ tl) fd ar lw hh) H → va_D A (wX gI o ax rn ([(q1, .inl (gI 0, v1.toNatClampNeg, .inl sc))] ++ tl) fd ar lw hh) → va_S A s.heap H locs → lv_has ls 7 [(1, .int v1), (3, .int v3), (4, .int v4), (5, .ref q1), (6, .int v6)] → W p l e R s m args below meth c H locs cells slots Qf (F0 m 94 ls []) := by
  obtain ⟨⟨hx, hb, hml, hown, hts⟩, hr, hlocks, hA, hK, hE⟩ := id F
  intro n
  induction n with
  | zero => intro v4 v6 sc h; exact h.elim
  | succ n ih =>
    intro v4 v6 sc h H locs ls hP hD hS hl
    unfold wp_Si_rowOf_L1 at h
    refine lv_iload hx hb dX1_rowOf_94 (lv_at hl 4 rfl) ?_
    refine lv_iload_n hx hb dX1_rowOf_96 rfl (lv_at hl 0 rfl) ?_
    refine lv_icmp_ge (tgt := 119) hx hb dX1_rowOf_97 (by decide) (fun c2 => ?_) (fun c2 => ?_)
    · replace h := h.1 c2
      exact hK119 _ h _ _ _ hP hD hS (lv_sub hl [3] rfl)
    · replace h := h.2 c2
      refine lv_aload hx hb dX1_rowOf_100 (lv_at hl 3 rfl) ?_
      refine lv_iload hx hb dX1_rowOf_102 (lv_at hl 4 rfl) ?_
      refine lv_iload hx hb dX1_rowOf_104 (lv_at hl 2 rfl) ?_
      replace hP := fr_outP (xs := [(q1, .inl (gI 0, v1.toNatClampNeg, .inl sc))]) hP
      replace hD := fr_outD (xs := [(q1, .inl (gI 0, v1.toNatClampNeg, .inl sc))]) hD
      refine va_iast (f := sc) hx hb hK hP hD hS 0 0 rfl rfl h.1 dX1_rowOf_106 (fun H locs hP hD hS => ?_)
      replace h := h.2
      replace hP := fr_inP (xs := [(q1, .inl (gI 0, v1.toNatClampNeg, .inl (upd sc v6.toNatClampNeg v4)))]) hP
      replace hD := fr_inD (xs := [(q1, .inl (gI 0, v1.toNatClampNeg, .inl (upd sc v6.toNatClampNeg v4)))]) hD
      refine lv_iinc (v := (v6 + (1 : Int32))) (lv' := [(6, .int (v6 + (1 : Int32))), (1, .int v1), (3, .int v3), (4, .int v4), (5, .ref q1)]) hx hb dX1_rowOf_107 hl (k := 4) rfl rfl (by decide) rfl (fun ls hl => ?_)
      refine lv_iload hx hb dX1_rowOf_110 (lv_at hl 3 rfl) ?_
      refine lv_iload_n hx hb dX1_rowOf_112 rfl (lv_at hl 2 rfl) ?_
      refine lv_iadd hx hb dX1_rowOf_113 ?_
      refine lv_istore (lv' := [(4, .int (v4 + v3)), (6, .int (v6 + (1 : Int32))), (1, .int v1), (3, .int v3), (5, .ref q1)]) hx hb dX1_rowOf_114 hl (by decide) rfl (fun ls hl => ?_)
      refine lv_goto (tgt := 94) hx hb dX1_rowOf_116 (by decide) ?_
      exact ih _ _ _ h _ _ _ hP hD hS (lv_sub hl [2, 3, 0, 4, 1] rfl)
set_option maxHeartbeats 8000000 in
theorem ct_Si_rowOf {l : Launch} {V : evT} {D : va_G} {gI : Nat → ClassId} {o : Nat} {ax : Nat → Nat} {tl : va_W} (hlt : l.stackTraces = false) {v0 : Int32} {v1 : Int32} {v2 : Int32} {v3 : Int32} {fd : Nat → Int32} {ar : Nat → Nat → Int32} {lw : Nat → Int64} {hh : HT} {rn : Option (Nat × Nat)} {Q : (Nat → Int32) → Prop} (h : wp_Si_rowOf v0 v1 v2 v3 fd ar lw hh rn Q) : ct_r l V D vwCl (tyL gI) yX1_rowOf cX1_rowOf 7 (.object "java/lang/Object") { frames := 1, cells := 2, slots := 15, locals := 12 } [.int v0, .int v1, .int v2, .int v3] (wX gI o ax rn tl fd ar lw hh) (fun u : Nat × (Nat → Int32) => u.1) (fun u : Nat × (Nat → Int32) => (wX gI o ax rn ([(u.1, .inl (gI 0, v1.toNatClampNeg, .inl u.2))] ++ tl) fd ar lw hh)) (fun u : Nat × (Nat → Int32) => Q u.2) := by
  refine ct_ofr RX1 rfl (by decide +kernel) (Nat.le_of_ble_eq_true rfl) ?_
  intro p e s m args below meth c A F hP hD ls hl
  obtain ⟨⟨hx, hb, hml, hown, hts⟩, hr, hlocks, hA, hK, hE⟩ := id F
  have hS : va_S A s.heap s.heap [] := va_S.rf
  have hl : lv_has ls 7 [(0, .int v0), (1, .int v1), (2, .int v2), (3, .int v3)] := hl
  have hRf : 1 ≤ ({ frames := 1, cells := 2, slots := 15, locals := 12 } : Room).frames := Nat.le_refl _
  have hC : 0 ≤ ({ frames := 1, cells := 2, slots := 15, locals := 12 } : Room).cells := Nat.le_of_ble_eq_true rfl
  have hSl : 0 ≤ ({ frames := 1, cells := 2, slots := 15, locals := 12 } : Room).slots := Nat.le_of_ble_eq_true rfl
  have hC1 : 0 + 1 ≤ ({ frames := 1, cells := 2, slots := 15, locals := 12 } : Room).cells := Nat.le_of_ble_eq_true rfl
  have hS7 : 0 + 7 ≤ ({ frames := 1, cells := 2, slots := 15, locals := 12 } : Room).slots := Nat.le_of_ble_eq_true rfl
  have hM : 0 + 1 ≤ 2 := Nat.le_of_ble_eq_true rfl
  have hMs : 0 + 7 ≤ 15 := Nat.le_of_ble_eq_true rfl
  have hRl : 12 ≤ ({ frames := 1, cells := 2, slots := 15, locals := 12 } : Room).locals := Nat.le_refl _
  unfold wp_Si_rowOf at h
  refine lv_iload_n hx hb dX1_rowOf_0 rfl (lv_at hl 2 rfl) ?_
  refine lv_istore (lv' := [(4, .int v2), (0, .int v0), (1, .int v1), (2, .int v2), (3, .int v3)]) hx hb dX1_rowOf_1 hl (by decide) rfl (fun ls hl => ?_)
  refine lv_iload_n hx hb dX1_rowOf_3 rfl (lv_at hl 1 rfl) ?_
  refine lv_if_ne (tgt := 44) hx hb dX1_rowOf_4 (by decide) (fun c5 => ?_) (fun c5 => ?_)
  · replace h := h.1 c5
    refine lv_iload_n hx hb dX1_rowOf_44 rfl (lv_at hl 1 rfl) ?_
    refine lv_iconst (v := (1 : Int32)) hx hb dX1_rowOf_45 (by decide) ?_
    refine lv_icmp_ne (tgt := 86) hx hb dX1_rowOf_46 (by decide) (fun c4 => ?_) (fun c4 => ?_)
    · replace h := h.1 c4
      refine lv_iload_n hx hb dX1_rowOf_86 rfl (lv_at hl 2 rfl) ?_
      refine pt_newa (atype := .int) (a0 := (v1.toNatClampNeg, .inl (fun _ => 0))) hx hb (hts _ q167) rfl hK 0 rfl hP hD hS hA (fun _ => rfl) h.1.1 rfl (Nat.le_trans (Nat.mul_le_mul_right _ h.1.2) (Nat.le_of_ble_eq_true rfl)) (Nat.le_of_ble_eq_true rfl) (Nat.le_trans (Nat.add_le_add_left h.1.2 _) (Nat.le_of_ble_eq_true rfl)) dX1_rowOf_87 (fun q1 H hP hD hS => ?_)
      replace hP : va_P D vwCl (wX gI o ax rn ([(q1, .inl (gI 0, v1.toNatClampNeg, .inl (fun _ => 0)))] ++ tl) fd ar lw hh) _ := frw_inP (nw := [(q1, .inl (gI 0, v1.toNatClampNeg, .inl (fun _ => 0)))]) hP
      replace hD : va_D A (wX gI o ax rn ([(q1, .inl (gI 0, v1.toNatClampNeg, .inl (fun _ => 0)))] ++ tl) fd ar lw hh) := frw_inD (nw := [(q1, .inl (gI 0, v1.toNatClampNeg, .inl (fun _ => 0)))]) hD
      refine W.widen (Nat.le_refl _) (Nat.add_le_add_left h.1.2 _) ?_
      replace h := h.2
      replace hC : 1 ≤ ({ frames := 1, cells := 2, slots := 15, locals := 12 } : Room).cells := Nat.le_of_ble_eq_true rfl
      replace hSl : 8 ≤ ({ frames := 1, cells := 2, slots := 15, locals := 12 } : Room).slots := Nat.le_of_ble_eq_true rfl
      replace hC1 : 1 + 1 ≤ ({ frames := 1, cells := 2, slots := 15, locals := 12 } : Room).cells := Nat.le_of_ble_eq_true rfl
      replace hS7 : 8 + 7 ≤ ({ frames := 1, cells := 2, slots := 15, locals := 12 } : Room).slots := Nat.le_of_ble_eq_true rfl
      replace hM : 1 + 1 ≤ 2 := Nat.le_of_ble_eq_true rfl
      replace hMs : 8 + 7 ≤ 15 := Nat.le_of_ble_eq_true rfl
      refine lv_astore (lv' := [(5, .ref q1), (4, .int v2), (0, .int v0), (1, .int v1), (2, .int v2), (3, .int v3)]) hx hb dX1_rowOf_89 hl (by decide) rfl (fun ls hl => ?_)
      refine lv_iconst (v := (0 : Int32)) hx hb dX1_rowOf_91 (by decide) ?_
      refine lv_istore (lv' := [(6, .int (0 : Int32)), (5, .ref q1), (4, .int v2), (0, .int v0), (1, .int v1), (2, .int v2), (3, .int v3)]) hx hb dX1_rowOf_92 hl (by decide) rfl (fun ls hl => ?_)
      obtain ⟨k94, h⟩ := h
      refine lp_Si_rowOf_L1 F hRf hRl hC hSl hC1 hS7 hM hMs hlt ?hk119 k94 _ _ _ h _ _ _ hP hD hS (lv_sub hl [4, 6, 2, 1, 0] rfl)
      case hk119 =>
        intro sc_3 h H locs ls hP hD hS hl
        refine lv_aload hx hb dX1_rowOf_119 (lv_at hl 0 rfl) ?_
        exact rt_r F dX1_rowOf_121 (q1, sc_3) rfl h hP hD hS (Nat.le_of_ble_eq_true rfl) (Nat.le_of_ble_eq_true rfl)
    · replace h := h.2 c4
      exact h.elim
  · replace h := h.2 c5
    exact h.elim
set_option maxHeartbeats 4000000 in
theorem ct_Si_entry {l : Launch} {V : evT} {D : va_G} {gI : Nat → ClassId} {o : Nat} {ax : Nat → Nat} {tl : va_W} {pa : Nat} {v1 : Int32} {fd : Nat → Int32} {ar : Nat → Nat → Int32} {lw : Nat → Int64} {hh : HT} {rn : Option (Nat × Nat)} {sc : Nat → Int32} {sn : Nat} {Q : Int32 → Prop} (h : wp_Si_entry v1 fd ar lw hh rn sc sn Q) : ct_i l V D vwCl (tyL gI) yX1_entry cX1_entry 2 .int { frames := 1, cells := 0, slots := 0, locals := 12 } [.ref pa, .int v1] (wX gI o ax rn ([(pa, .inl (gI 0, sn, .inl sc))] ++ tl) fd ar lw hh) (fun u : Unit => (wX gI o ax rn ([(pa, .inl (gI 0, sn, .inl sc))] ++ tl) fd ar lw hh)) (fun (x : Int32) (u : Unit) => Q x) := by
  refine ct_ofi RX1 rfl (by decide +kernel) (Nat.le_of_ble_eq_true rfl) ?_
  intro p e s m args below meth c A F hP hD ls hl
  obtain ⟨⟨hx, hb, hml, hown, hts⟩, hr, hlocks, hA, hK, hE⟩ := id F
  have hS : va_S A s.heap s.heap [] := va_S.rf
  have hl : lv_has ls 2 [(0, .ref pa), (1, .int v1)] := hl
  have hRf : 1 ≤ ({ frames := 1, cells := 0, slots := 0, locals := 12 } : Room).frames := Nat.le_refl _
  have hRl : 12 ≤ ({ frames := 1, cells := 0, slots := 0, locals := 12 } : Room).locals := Nat.le_refl _
  have hC : 0 ≤ ({ frames := 1, cells := 0, slots := 0, locals := 12 } : Room).cells := Nat.le_refl _
  have hSl : 0 ≤ ({ frames := 1, cells := 0, slots := 0, locals := 12 } : Room).slots := Nat.le_refl _
  unfold wp_Si_entry at h
  refine lv_aload_n hx hb dX1_entry_0 rfl (lv_at hl 0 rfl) ?_
  refine pt_instN hx hb hown (hts _ q509) hE.2.2.2.2.2.2.2.2.2.1 (fr_outP (xs := [(pa, .inl (gI 0, sn, .inl sc))]) hP) 0 rfl (hK.2 0 _ rfl).2 dX1_entry_1 ?_
  refine lv_if_eq (tgt := 14) hx hb dX1_entry_4 (by decide) (fun c2 => ?_) (fun c2 => ?_)
  · replace h := h.1 c2
    refine lv_aload_n hx hb dX1_entry_14 rfl (lv_at hl 0 rfl) ?_
    refine pt_instN hx hb hown (hts _ q632) hE.2.2.2.2.2.2.2.2.2.2 (fr_outP (xs := [(pa, .inl (gI 0, sn, .inl sc))]) hP) 0 rfl (hK.2 0 _ rfl).2 dX1_entry_15 ?_
    refine lv_if_eq (tgt := 30) hx hb dX1_entry_18 (by decide) (fun c1 => ?_) (fun c1 => ?_)
    · replace h := h.1 c1
      refine lv_aload_n hx hb dX1_entry_30 rfl (lv_at hl 0 rfl) ?_
      refine va_castA hx hb hown (hts _ q633) (fr_outP (xs := [(pa, .inl (gI 0, sn, .inl sc))]) hP) 0 rfl (hK.2 0 _ rfl).2 dX1_entry_31 ?_
      refine lv_iload_n hx hb dX1_entry_34 rfl (lv_at hl 1 rfl) ?_
      refine va_iald (f := sc) hx hb hK (fr_outP (xs := [(pa, .inl (gI 0, sn, .inl sc))]) hP) 0 0 rfl rfl h.1 dX1_entry_35 ?_
      replace h := h.2
      exact rt_i F dX1_entry_36 rfl () h hP hD hS (Nat.le_refl _) (Nat.le_refl _)
    · replace h := h.2 c1
      exact h.elim
  · replace h := h.2 c2
    exact h.elim
set_option maxHeartbeats 4000000 in
theorem lp_Sb_sheet_L2 {p : Program} {l : Launch} {e : Env} {R : Room} {s : State} {m : MethodId} {args : Array Value} {below : List Frame} {meth : Method} {c : Code} {cells slots : Nat} {A : Nat → Prop} {Qf : State → Prop} {V : evT} {D : va_G} {gI : Nat → ClassId} {o : Nat} {ax : Nat → Nat} {tl : va_W} {v2 : Int32} {fd : Nat → Int32} {lw : Nat → Int64} {hh : HT} {rn : Option (Nat × Nat)} {sc : Nat → Int32} {q2 : Nat} {K123 : (Int32) → (Nat → Nat → Int32) → Prop} (F : ct_F p m c meth cX1_sheet 8 s args RX1 (some .int) A V D vwCl (tyL gI)) (hRf : 2 ≤ R.frames) (hRl : 38 ≤ R.locals) (hC : cells ≤ R.cells) (hSl : slots ≤ R.slots) (hC1 : cells + 1 ≤ R.cells) (hS7 : slots + 7 ≤ R.slots) (hM : cells + 1 ≤ 3) (hMs : slots + 7 ≤ 22) (htab : c.exceptionTable.toList = tableOf [(28, 38, 41, 268)]) (hlt : l.stackTraces = false)
    (hK123 : ∀ (v6 : Int32) (ar : Nat → Nat → Int32), K123 v6 ar → ∀ (H : Heap) (locs : List Loc) (ls : Array Slot), va_P D vwCl (wX gI o ax rn ([(q2, .inl (gI 3, v2.toNatClampNeg, .inl sc))] ++ tl) fd ar lw hh) H → va_D A (wX gI o ax rn ([(q2, .inl (gI 3, v2.toNatClampNeg, .inl sc))] ++ tl) fd ar lw hh) → va_S A s.heap H locs → lv_has ls 8 [(5, .ref q2), (6, .int v6)] → W p l e R s m args below meth c H locs cells slots Qf (F0 m 123 ls [])) :
    ∀ (n : Nat) (v6 : Int32) (v7 : Int32) (ar : Nat → Nat → Int32), wp_Sb_sheet_L2 v2 fd lw hh rn sc K123 n v6 v7 ar → ∀ (H : Heap) (locs : List Loc) (ls : Array Slot), va_P D vwCl (wX gI o ax rn ([(q2, .inl (gI 3, v2.toNatClampNeg, .inl sc))] ++ tl) fd ar lw hh) H → va_D A (wX gI o ax rn ([(q2, .inl (gI 3, v2.toNatClampNeg, .inl sc))] ++ tl) fd ar lw hh) → va_S A s.heap H locs → lv_has ls 8 [(0, .ref o), (2, .int v2), (5, .ref q2), (6, .int v6), (7, .int v7)] → W p l e R s m args below meth c H locs cells slots Qf (F0 m 52 ls []) := by
  obtain ⟨⟨hx, hb, hml, hown, hts⟩, hr, hlocks, hA, hK, hE⟩ := id F
  intro n
  induction n with
  | zero => intro v6 v7 ar h; exact h.elim
  | succ n ih =>
    intro v6 v7 ar h H locs ls hP hD hS hl
    unfold wp_Sb_sheet_L2 at h
    refine lv_iload hx hb dX1_sheet_52 (lv_at hl 4 rfl) ?_
    refine lv_aload_n hx hb dX1_sheet_54 rfl (lv_at hl 0 rfl) ?_
    refine va_get hx hb hts in_X1 hown hK hP 0 rfl rfl 10 (Nat.le_of_ble_eq_true rfl) (hts _ q199) (fun _ h => h) (v := .int (fd 10)) rfl dX1_sheet_55 ?_
    refine lv_icmp_ge (tgt := 123) hx hb dX1_sheet_58 (by decide) (fun c8 => ?_) (fun c8 => ?_)
    · replace h := h.1 c8
      exact hK123 _ _ h _ _ _ hP hD hS (lv_sub hl [2, 3] rfl)
    · replace h := h.2 c8
      refine lv_aload_n hx hb dX1_sheet_61 rfl (lv_at hl 0 rfl) ?_
      refine va_get hx hb hts in_X1 hown hK hP 0 rfl rfl 0 (Nat.le_of_ble_eq_true rfl) (hts _ q180) (fun _ h => h) (v := .ref (ax 0)) rfl dX1_sheet_62 ?_
      refine va_get hx hb hts in_X2 hown hK hP 14 rfl rfl 3 (Nat.le_of_ble_eq_true rfl) (hts _ q144) (fun _ h => h) (v := .ref (ax 43)) rfl dX1_sheet_65 ?_
      refine lv_iload hx hb dX1_sheet_68 (lv_at hl 4 rfl) ?_
      refine lv_aload hx hb dX1_sheet_70 (lv_at hl 2 rfl) ?_
      refine lv_ifnull hx hb dX1_sheet_72 ?_
      refine lv_iload hx hb dX1_sheet_75 (lv_at hl 4 rfl) ?_
      refine lv_iload_n hx hb dX1_sheet_77 rfl (lv_at hl 1 rfl) ?_
      refine lv_icmp_lt (tgt := 85) hx hb dX1_sheet_78 (by decide) (fun c7 => ?_) (fun c7 => ?_)
      · replace h := h.1 c7
        refine lv_iconst (v := (0 : Int32)) hx hb dX1_sheet_85 (by decide) ?_
        refine lv_bipush (v := (9 : Int32)) hx hb dX1_sheet_86 (by decide) ?_
        refine lv_aload hx hb dX1_sheet_88 (lv_at hl 2 rfl) ?_
        refine lv_iload hx hb dX1_sheet_90 (lv_at hl 4 rfl) ?_
        refine cl_i F (va_runS (As := [.ref q2, .int v7]) (rest := [.int (9 : Int32), .int (0 : Int32), .int v7, .ref (ax 43)]) ⟨hx, hb, hml, hown, hts⟩ (ct_Sb_entry (sn := v2.toNatClampNeg) h _) (va_cwS 2 hts (lw_S q629 q630 q94 q631) rfl rfl rfl (by decide +kernel) ⟨Nat.le_trans (Nat.le_of_ble_eq_true rfl) hRf, Nat.le_trans (Nat.le_of_ble_eq_true rfl) hRl⟩) ⟨ct_blind, ct_at F hS hP hD⟩ rfl rfl hl.1 rfl (lv_room (Nat.le_of_ble_eq_true rfl)) dX1_sheet_92 ⟨hC, hSl⟩) rfl rfl hD hS ?_
        rintro x4 _ H locs h hP hD hS
        refine va_mmin hx hb (hml.trans hl.1.symm) hown (hts _ q634) (hts _ q336) (hts _ q100) (hts _ q337) (Nat.le_trans (Nat.le_of_ble_eq_true rfl) hRf) (Nat.le_trans (Nat.le_of_ble_eq_true rfl) hRl) hC hSl dX1_sheet_95 ?_
        refine va_mmax hx hb (hml.trans hl.1.symm) hown (hts _ q635) (hts _ q636) (hts _ q100) (hts _ q637) (Nat.le_trans (Nat.le_of_ble_eq_true rfl) hRf) (Nat.le_trans (Nat.le_of_ble_eq_true rfl) hRl) hC hSl dX1_sheet_98 ?_
        refine pt_iast (f := (ar 43)) hx hb hK hP hD hS 18 0 rfl rfl h.1 dX1_sheet_101 wXA_43 (fun H locs hP hD hS => ?_)
        replace h := h.2
        refine lv_iload hx hb dX1_sheet_102 (lv_at hl 3 rfl) ?_
        refine lv_aload_n hx hb dX1_sheet_104 rfl (lv_at hl 0 rfl) ?_
        refine va_get hx hb hts in_X1 hown hK hP 0 rfl rfl 0 (Nat.le_of_ble_eq_true rfl) (hts _ q180) (fun _ h => h) (v := .ref (ax 0)) rfl dX1_sheet_105 ?_
        refine va_get hx hb hts in_X2 hown hK hP 14 rfl rfl 3 (Nat.le_of_ble_eq_true rfl) (hts _ q144) (fun _ h => h) (v := .ref (ax 43)) rfl dX1_sheet_108 ?_
        refine lv_iload hx hb dX1_sheet_111 (lv_at hl 4 rfl) ?_
        refine va_iald (f := (upd (ar 43) v7.toNatClampNeg (mxI (0 : Int32) (mnI (9 : Int32) x4)))) hx hb hK hP 18 0 rfl rfl h.1 dX1_sheet_113 ?_
        replace h := h.2
        refine lv_iadd hx hb dX1_sheet_114 ?_
        refine lv_topi (fun x5 ex5 => ?_)
        replace h := h x5 ex5
        refine lv_istore (lv' := [(6, .int x5), (0, .ref o), (2, .int v2), (5, .ref q2), (7, .int v7)]) hx hb dX1_sheet_115 hl (by decide) rfl (fun ls hl => ?_)
        refine lv_iinc (v := (v7 + (1 : Int32))) (lv' := [(7, .int (v7 + (1 : Int32))), (6, .int x5), (0, .ref o), (2, .int v2), (5, .ref q2)]) hx hb dX1_sheet_117 hl (k := 4) rfl rfl (by decide) rfl (fun ls hl => ?_)
        refine lv_goto (tgt := 52) hx hb dX1_sheet_120 (by decide) ?_
        exact ih _ _ _ h _ _ _ hP hD hS (lv_sub hl [2, 3, 4, 1, 0] rfl)
      · replace h := h.2 c7
        refine lv_iconst (v := (0 : Int32)) hx hb dX1_sheet_81 (by decide) ?_
        refine lv_goto (tgt := 101) hx hb dX1_sheet_82 (by decide) ?_
        refine pt_iast (f := (ar 43)) hx hb hK hP hD hS 18 0 rfl rfl h.1 dX1_sheet_101 wXA_43 (fun H locs hP hD hS => ?_)
        replace h := h.2
        refine lv_iload hx hb dX1_sheet_102 (lv_at hl 3 rfl) ?_
        refine lv_aload_n hx hb dX1_sheet_104 rfl (lv_at hl 0 rfl) ?_
        refine va_get hx hb hts in_X1 hown hK hP 0 rfl rfl 0 (Nat.le_of_ble_eq_true rfl) (hts _ q180) (fun _ h => h) (v := .ref (ax 0)) rfl dX1_sheet_105 ?_
        refine va_get hx hb hts in_X2 hown hK hP 14 rfl rfl 3 (Nat.le_of_ble_eq_true rfl) (hts _ q144) (fun _ h => h) (v := .ref (ax 43)) rfl dX1_sheet_108 ?_
        refine lv_iload hx hb dX1_sheet_111 (lv_at hl 4 rfl) ?_
        refine va_iald (f := (upd (ar 43) v7.toNatClampNeg (0 : Int32))) hx hb hK hP 18 0 rfl rfl h.1 dX1_sheet_113 ?_
        replace h := h.2
        refine lv_iadd hx hb dX1_sheet_114 ?_
        refine lv_topi (fun x6 ex6 => ?_)
        replace h := h x6 ex6
        refine lv_istore (lv' := [(6, .int x6), (0, .ref o), (2, .int v2), (5, .ref q2), (7, .int v7)]) hx hb dX1_sheet_115 hl (by decide) rfl (fun ls hl => ?_)
        refine lv_iinc (v := (v7 + (1 : Int32))) (lv' := [(7, .int (v7 + (1 : Int32))), (6, .int x6), (0, .ref o), (2, .int v2), (5, .ref q2)]) hx hb dX1_sheet_117 hl (k := 4) rfl rfl (by decide) rfl (fun ls hl => ?_)
        refine lv_goto (tgt := 52) hx hb dX1_sheet_120 (by decide) ?_
        exact ih _ _ _ h _ _ _ hP hD hS (lv_sub hl [2, 3, 4, 1, 0] rfl)
set_option maxHeartbeats 4000000 in
theorem lp_Sb_sheet_J1 {p : Program} {l : Launch} {e : Env} {R : Room} {s : State} {m : MethodId} {args : Array Value} {below : List Frame} {meth : Method} {c : Code} {cells slots : Nat} {A : Nat → Prop} {V : evT} {D : va_G} {gI : Nat → ClassId} {o : Nat} {ax : Nat → Nat} {tl : va_W} {v2 : Int32} {fd : Nat → Int32} {lw : Nat → Int64} {hh : HT} {rn : Option (Nat × Nat)} {sc : Nat → Int32} {Q : Int32 → (Nat → Nat → Int32) → Prop} {q2 : Nat} (F : ct_F p m c meth cX1_sheet 8 s args RX1 (some .int) A V D vwCl (tyL gI)) (hRf : 2 ≤ R.frames) (hRl : 38 ≤ R.locals) (hC : cells ≤ R.cells) (hSl : slots ≤ R.slots) (hC1 : cells + 1 ≤ R.cells) (hS7 : slots + 7 ≤ R.slots) (hM : cells + 1 ≤ 3) (hMs : slots + 7 ≤ 22) (htab : c.exceptionTable.toList = tableOf [(28, 38, 41, 268)]) (hlt : l.stackTraces = false) :
    ∀ (ar : Nat → Nat → Int32), wp_Sb_sheet_J1 v2 fd lw hh rn sc Q ar → ∀ (H : Heap) (locs : List Loc) (ls : Array Slot), va_P D vwCl (wX gI o ax rn ([(q2, .inl (gI 3, v2.toNatClampNeg, .inl sc))] ++ tl) fd ar lw hh) H → va_D A (wX gI o ax rn ([(q2, .inl (gI 3, v2.toNatClampNeg, .inl sc))] ++ tl) fd ar lw hh) → va_S A s.heap H locs → lv_has ls 8 [(0, .ref o), (2, .int v2), (5, .ref q2)] → W p l e R s m args below meth c H locs cells slots (MQ below (va_Qi (fun (x : Int32) (u : (Nat → Nat → Int32)) => Q x u) (fun u t => va_P D vwCl (wX gI o ax rn tl fd u lw hh) t.heap ∧ va_K D vwCl (tyL gI) t ∧ va_D A (wX gI o ax rn tl fd u lw hh)) A) args s 3 22 A) (F0 m 46 ls []) := by
  obtain ⟨⟨hx, hb, hml, hown, hts⟩, hr, hlocks, hA, hK, hE⟩ := id F
  intro ar h H locs ls hP hD hS hl
  unfold wp_Sb_sheet_J1 at h
  refine lv_iconst (v := (0 : Int32)) hx hb dX1_sheet_46 (by decide) ?_
  refine lv_istore (lv' := [(6, .int (0 : Int32)), (0, .ref o), (2, .int v2), (5, .ref q2)]) hx hb dX1_sheet_47 hl (by decide) rfl (fun ls hl => ?_)
  refine lv_iconst (v := (0 : Int32)) hx hb dX1_sheet_49 (by decide) ?_
  refine lv_istore (lv' := [(7, .int (0 : Int32)), (6, .int (0 : Int32)), (0, .ref o), (2, .int v2), (5, .ref q2)]) hx hb dX1_sheet_50 hl (by decide) rfl (fun ls hl => ?_)
  obtain ⟨k52, h⟩ := h
  refine lp_Sb_sheet_L2 F hRf hRl hC hSl hC1 hS7 hM hMs htab hlt ?hk123 k52 _ _ _ h _ _ _ hP hD hS (lv_sub hl [2, 3, 4, 1, 0] rfl)
  case hk123 =>
    intro v6_9 ar_10 h H locs ls hP hD hS hl
    refine lv_aload hx hb dX1_sheet_123 (lv_at hl 0 rfl) ?_
    refine lv_ifnonnull (tgt := 133) hx hb dX1_sheet_125 (by decide) ?_
    refine lv_iload hx hb dX1_sheet_133 (lv_at hl 1 rfl) ?_
    replace hP := fr_dropP (xs := [(q2, .inl (gI 3, v2.toNatClampNeg, .inl sc))]) (tl := tl) hP
    replace hD := fr_dropD (xs := [(q2, .inl (gI 3, v2.toNatClampNeg, .inl sc))]) (tl := tl) hD
    exact rt_i F dX1_sheet_135 rfl (ar_10) h hP hD hS (Nat.le_of_succ_le hM) (Nat.le_trans (Nat.le_add_right _ 7) hMs)
set_option maxHeartbeats 8000000 in
theorem ct_Sb_sheet {l : Launch} {V : evT} {D : va_G} {gI : Nat → ClassId} {o : Nat} {ax : Nat → Nat} {tl : va_W} (hlt : l.stackTraces = false) {v1 : Int32} {v2 : Int32} {v3 : Int32} {v4 : Int32} {fd : Nat → Int32} {ar : Nat → Nat → Int32} {lw : Nat → Int64} {hh : HT} {rn : Option (Nat × Nat)} {Q : Int32 → (Nat → Nat → Int32) → Prop} (h : wp_Sb_sheet v1 v2 v3 v4 fd ar lw hh rn Q) : ctW_i l V D (tyL gI) yX1_sheet cX1_sheet 8 .int [(28, 38, 41, 268)] { frames := 2, cells := 3, slots := 22, locals := 38 } [.ref o, .int v1, .int v2, .int v3, .int v4] (wX gI o ax rn tl fd ar lw hh) (fun u : (Nat → Nat → Int32) => (wX gI o ax rn tl fd u lw hh)) (fun (x : Int32) (u : (Nat → Nat → Int32)) => Q x u) := by
  refine ctW_ofi RX1 rfl (by decide +kernel) (Nat.le_of_ble_eq_true rfl) ?_
  intro p e s m args below meth c A F htab hP hD ls hl
  obtain ⟨⟨hx, hb, hml, hown, hts⟩, hr, hlocks, hA, hK, hE⟩ := id F
  have hS : va_S A s.heap s.heap [] := va_S.rf
  have hl : lv_has ls 8 [(0, .ref o), (1, .int v1), (2, .int v2), (3, .int v3), (4, .int v4)] := hl
  have hRf : 2 ≤ ({ frames := 2, cells := 3, slots := 22, locals := 38 } : Room).frames := Nat.le_refl _
  have hC : 0 ≤ ({ frames := 2, cells := 3, slots := 22, locals := 38 } : Room).cells := Nat.le_of_ble_eq_true rfl
  have hSl : 0 ≤ ({ frames := 2, cells := 3, slots := 22, locals := 38 } : Room).slots := Nat.le_of_ble_eq_true rfl
  have hC1 : 0 + 1 ≤ ({ frames := 2, cells := 3, slots := 22, locals := 38 } : Room).cells := Nat.le_of_ble_eq_true rfl
  have hS7 : 0 + 7 ≤ ({ frames := 2, cells := 3, slots := 22, locals := 38 } : Room).slots := Nat.le_of_ble_eq_true rfl
  have hM : 0 + 1 ≤ 3 := Nat.le_of_ble_eq_true rfl
  have hMs : 0 + 7 ≤ 22 := Nat.le_of_ble_eq_true rfl
  have hRl : 38 ≤ ({ frames := 2, cells := 3, slots := 22, locals := 38 } : Room).locals := Nat.le_refl _
  unfold wp_Sb_sheet at h
  refine lv_iload_n hx hb dX1_sheet_0 rfl (lv_at hl 1 rfl) ?_
  refine lv_i2l (v := (v1.toInt64)) hx hb dX1_sheet_1 rfl ?_
  refine lv_lconst (v := (0 : Int64)) hx hb dX1_sheet_2 (by decide) ?_
  refine lv_ldc2 (v := (3 : Int64)) hx hb hown (hts _ q625) dX1_sheet_3 ?_
  refine cl_i0 F (va_runS (As := [.long (v1.toInt64), .long (0 : Int64), .long (3 : Int64)]) (rest := []) ⟨hx, hb, hml, hown, hts⟩ (ct_X1_in h _) (va_cwS 3 hts (lw_S q298 q299 q94 q300) rfl rfl rfl (by decide +kernel) ⟨Nat.le_trans (Nat.le_of_ble_eq_true rfl) hRf, Nat.le_trans (Nat.le_of_ble_eq_true rfl) hRl⟩) ⟨ct_blind, ct_at F hS ct_nP ct_nD⟩ rfl rfl hl.1 rfl (lv_room (Nat.le_of_ble_eq_true rfl)) dX1_sheet_6 ⟨hC, hSl⟩) rfl rfl hP hS ?_
  rintro x1 _ H locs h hP hS
  refine lv_if_eq (tgt := 18) hx hb dX1_sheet_9 (by decide) (fun c13 => ?_) (fun c13 => ?_)
  · replace h := h.1 c13
    refine lv_iconst (v := (-1 : Int32)) hx hb dX1_sheet_18 (by decide) ?_
    exact rt_i F dX1_sheet_19 rfl (ar) h hP hD hS (Nat.le_of_ble_eq_true rfl) (Nat.le_of_ble_eq_true rfl)
  · replace h := h.2 c13
    refine lv_iload_n hx hb dX1_sheet_12 rfl (lv_at hl 2 rfl) ?_
    refine lv_bipush (v := (8 : Int32)) hx hb dX1_sheet_13 (by decide) ?_
    refine lv_icmp_le (tgt := 20) hx hb dX1_sheet_15 (by decide) (fun c12 => ?_) (fun c12 => ?_)
    · replace h := h.1 c12
      refine lv_null hx hb dX1_sheet_20 ?_
      refine lv_astoreN (lv' := [(5, .null), (0, .ref o), (1, .int v1), (2, .int v2), (3, .int v3), (4, .int v4)]) hx hb dX1_sheet_21 hl (by decide) rfl (fun ls hl => ?_)
      refine lv_iload_n hx hb dX1_sheet_23 rfl (lv_at hl 2 rfl) ?_
      refine lv_iconst (v := (3 : Int32)) hx hb dX1_sheet_24 (by decide) ?_
      refine lv_icmp_ge (tgt := 46) hx hb dX1_sheet_25 (by decide) (fun c11 => ?_) (fun c11 => ?_)
      · replace h := h.1 c11
        exact h.elim
      · replace h := h.2 c11
        refine lv_iload_n hx hb dX1_sheet_28 rfl (lv_at hl 2 rfl) ?_
        refine lv_iload_n hx hb dX1_sheet_29 rfl (lv_at hl 3 rfl) ?_
        refine lv_iload_n hx hb dX1_sheet_30 rfl (lv_at hl 4 rfl) ?_
        refine lv_iload hx hb dX1_sheet_31 (lv_at hl 5 rfl) ?_
        refine cl_r F (va_runS (As := [.int v1, .int v2, .int v3, .int v4]) (rest := []) ⟨hx, hb, hml, hown, hts⟩ (ct_Sb_rowOf hlt h _) (va_cwS 4 hts (lw_S q626 q627 q94 q628) rfl rfl rfl (by decide +kernel) ⟨Nat.le_trans (Nat.le_of_ble_eq_true rfl) hRf, Nat.le_trans (Nat.le_of_ble_eq_true rfl) hRl⟩) ⟨ct_blind, ct_at F hS hP hD⟩ rfl rfl hl.1 rfl (lv_room (Nat.le_of_ble_eq_true rfl)) dX1_sheet_33 ⟨Nat.le_of_ble_eq_true rfl, Nat.le_of_ble_eq_true rfl⟩) hD hS ?_
        rintro ⟨q2, sc3⟩ H locs h hP hD hS
        replace hC : 2 ≤ ({ frames := 2, cells := 3, slots := 22, locals := 38 } : Room).cells := Nat.le_of_ble_eq_true rfl
        replace hSl : 15 ≤ ({ frames := 2, cells := 3, slots := 22, locals := 38 } : Room).slots := Nat.le_of_ble_eq_true rfl
        replace hC1 : 2 + 1 ≤ ({ frames := 2, cells := 3, slots := 22, locals := 38 } : Room).cells := Nat.le_of_ble_eq_true rfl
        replace hS7 : 15 + 7 ≤ ({ frames := 2, cells := 3, slots := 22, locals := 38 } : Room).slots := Nat.le_of_ble_eq_true rfl
        replace hM : 2 + 1 ≤ 3 := Nat.le_of_ble_eq_true rfl
        replace hMs : 15 + 7 ≤ 22 := Nat.le_of_ble_eq_true rfl
        refine lv_astore (lv' := [(5, .ref q2), (0, .ref o), (1, .int v1), (2, .int v2), (3, .int v3), (4, .int v4)]) hx hb dX1_sheet_36 hl (by decide) rfl (fun ls hl => ?_)
        refine lv_goto (tgt := 46) hx hb dX1_sheet_38 (by decide) ?_
        refine lp_Sb_sheet_J1 F hRf hRl hC hSl hC1 hS7 hM hMs htab hlt  _ h _ _ _ hP hD hS (lv_sub hl [1, 3, 0] rfl)
    · replace h := h.2 c12
      refine lv_iconst (v := (-1 : Int32)) hx hb dX1_sheet_18 (by decide) ?_
      exact rt_i F dX1_sheet_19 rfl (ar) h hP hD hS (Nat.le_of_ble_eq_true rfl) (Nat.le_of_ble_eq_true rfl)
set_option maxHeartbeats 4000000 in
theorem lp_Ss_sheet_L2 {p : Program} {l : Launch} {e : Env} {R : Room} {s : State} {m : MethodId} {args : Array Value} {below : List Frame} {meth : Method} {c : Code} {cells slots : Nat} {A : Nat → Prop} {Qf : State → Prop} {V : evT} {D : va_G} {gI : Nat → ClassId} {o : Nat} {ax : Nat → Nat} {tl : va_W} {v2 : Int32} {fd : Nat → Int32} {lw : Nat → Int64} {hh : HT} {rn : Option (Nat × Nat)} {sc : Nat → Int32} {q2 : Nat} {K123 : (Int32) → (Nat → Nat → Int32) → Prop} (F : ct_F p m c meth cX1_sheet 8 s args RX1 (some .int) A V D vwCl (tyL gI)) (hRf : 2 ≤ R.frames) (hRl : 38 ≤ R.locals) (hC : cells ≤ R.cells) (hSl : slots ≤ R.slots) (hC1 : cells + 1 ≤ R.cells) (hS7 : slots + 7 ≤ R.slots) (hM : cells + 1 ≤ 3) (hMs : slots + 7 ≤ 22) (htab : c.exceptionTable.toList = tableOf [(28, 38, 41, 268)]) (hlt : l.stackTraces = false)
    (hK123 : ∀ (v6 : Int32) (ar : Nat → Nat → Int32), K123 v6 ar → ∀ (H : Heap) (locs : List Loc) (ls : Array Slot), va_P D vwCl (wX gI o ax rn ([(q2, .inl (gI 8, v2.toNatClampNeg, .inl sc))] ++ tl) fd ar lw hh) H → va_D A (wX gI o ax rn ([(q2, .inl (gI 8, v2.toNatClampNeg, .inl sc))] ++ tl) fd ar lw hh) → va_S A s.heap H locs → lv_has ls 8 [(5, .ref q2), (6, .int v6)] → W p l e R s m args below meth c H locs cells slots Qf (F0 m 123 ls [])) :
    ∀ (n : Nat) (v6 : Int32) (v7 : Int32) (ar : Nat → Nat → Int32), wp_Ss_sheet_L2 v2 fd lw hh rn sc K123 n v6 v7 ar → ∀ (H : Heap) (locs : List Loc) (ls : Array Slot), va_P D vwCl (wX gI o ax rn ([(q2, .inl (gI 8, v2.toNatClampNeg, .inl sc))] ++ tl) fd ar lw hh) H → va_D A (wX gI o ax rn ([(q2, .inl (gI 8, v2.toNatClampNeg, .inl sc))] ++ tl) fd ar lw hh) → va_S A s.heap H locs → lv_has ls 8 [(0, .ref o), (2, .int v2), (5, .ref q2), (6, .int v6), (7, .int v7)] → W p l e R s m args below meth c H locs cells slots Qf (F0 m 52 ls []) := by
  obtain ⟨⟨hx, hb, hml, hown, hts⟩, hr, hlocks, hA, hK, hE⟩ := id F
  intro n
  induction n with
  | zero => intro v6 v7 ar h; exact h.elim
  | succ n ih =>
    intro v6 v7 ar h H locs ls hP hD hS hl
    unfold wp_Ss_sheet_L2 at h
    refine lv_iload hx hb dX1_sheet_52 (lv_at hl 4 rfl) ?_
    refine lv_aload_n hx hb dX1_sheet_54 rfl (lv_at hl 0 rfl) ?_
    refine va_get hx hb hts in_X1 hown hK hP 0 rfl rfl 10 (Nat.le_of_ble_eq_true rfl) (hts _ q199) (fun _ h => h) (v := .int (fd 10)) rfl dX1_sheet_55 ?_
    refine lv_icmp_ge (tgt := 123) hx hb dX1_sheet_58 (by decide) (fun c8 => ?_) (fun c8 => ?_)
    · replace h := h.1 c8
      exact hK123 _ _ h _ _ _ hP hD hS (lv_sub hl [2, 3] rfl)
    · replace h := h.2 c8
      refine lv_aload_n hx hb dX1_sheet_61 rfl (lv_at hl 0 rfl) ?_
      refine va_get hx hb hts in_X1 hown hK hP 0 rfl rfl 0 (Nat.le_of_ble_eq_true rfl) (hts _ q180) (fun _ h => h) (v := .ref (ax 0)) rfl dX1_sheet_62 ?_
      refine va_get hx hb hts in_X2 hown hK hP 14 rfl rfl 3 (Nat.le_of_ble_eq_true rfl) (hts _ q144) (fun _ h => h) (v := .ref (ax 43)) rfl dX1_sheet_65 ?_
      refine lv_iload hx hb dX1_sheet_68 (lv_at hl 4 rfl) ?_
      refine lv_aload hx hb dX1_sheet_70 (lv_at hl 2 rfl) ?_
      refine lv_ifnull hx hb dX1_sheet_72 ?_
      refine lv_iload hx hb dX1_sheet_75 (lv_at hl 4 rfl) ?_
      refine lv_iload_n hx hb dX1_sheet_77 rfl (lv_at hl 1 rfl) ?_
      refine lv_icmp_lt (tgt := 85) hx hb dX1_sheet_78 (by decide) (fun c7 => ?_) (fun c7 => ?_)
      · replace h := h.1 c7
        refine lv_iconst (v := (0 : Int32)) hx hb dX1_sheet_85 (by decide) ?_
        refine lv_bipush (v := (9 : Int32)) hx hb dX1_sheet_86 (by decide) ?_
        refine lv_aload hx hb dX1_sheet_88 (lv_at hl 2 rfl) ?_
        refine lv_iload hx hb dX1_sheet_90 (lv_at hl 4 rfl) ?_
        refine cl_i F (va_runS (As := [.ref q2, .int v7]) (rest := [.int (9 : Int32), .int (0 : Int32), .int v7, .ref (ax 43)]) ⟨hx, hb, hml, hown, hts⟩ (ct_Ss_entry (sn := v2.toNatClampNeg) h _) (va_cwS 2 hts (lw_S q629 q630 q94 q631) rfl rfl rfl (by decide +kernel) ⟨Nat.le_trans (Nat.le_of_ble_eq_true rfl) hRf, Nat.le_trans (Nat.le_of_ble_eq_true rfl) hRl⟩) ⟨ct_blind, ct_at F hS hP hD⟩ rfl rfl hl.1 rfl (lv_room (Nat.le_of_ble_eq_true rfl)) dX1_sheet_92 ⟨hC, hSl⟩) rfl rfl hD hS ?_
        rintro x4 _ H locs h hP hD hS
        refine va_mmin hx hb (hml.trans hl.1.symm) hown (hts _ q634) (hts _ q336) (hts _ q100) (hts _ q337) (Nat.le_trans (Nat.le_of_ble_eq_true rfl) hRf) (Nat.le_trans (Nat.le_of_ble_eq_true rfl) hRl) hC hSl dX1_sheet_95 ?_
        refine va_mmax hx hb (hml.trans hl.1.symm) hown (hts _ q635) (hts _ q636) (hts _ q100) (hts _ q637) (Nat.le_trans (Nat.le_of_ble_eq_true rfl) hRf) (Nat.le_trans (Nat.le_of_ble_eq_true rfl) hRl) hC hSl dX1_sheet_98 ?_
        refine pt_iast (f := (ar 43)) hx hb hK hP hD hS 18 0 rfl rfl h.1 dX1_sheet_101 wXA_43 (fun H locs hP hD hS => ?_)
        replace h := h.2
        refine lv_iload hx hb dX1_sheet_102 (lv_at hl 3 rfl) ?_
        refine lv_aload_n hx hb dX1_sheet_104 rfl (lv_at hl 0 rfl) ?_
        refine va_get hx hb hts in_X1 hown hK hP 0 rfl rfl 0 (Nat.le_of_ble_eq_true rfl) (hts _ q180) (fun _ h => h) (v := .ref (ax 0)) rfl dX1_sheet_105 ?_
        refine va_get hx hb hts in_X2 hown hK hP 14 rfl rfl 3 (Nat.le_of_ble_eq_true rfl) (hts _ q144) (fun _ h => h) (v := .ref (ax 43)) rfl dX1_sheet_108 ?_
        refine lv_iload hx hb dX1_sheet_111 (lv_at hl 4 rfl) ?_
        refine va_iald (f := (upd (ar 43) v7.toNatClampNeg (mxI (0 : Int32) (mnI (9 : Int32) x4)))) hx hb hK hP 18 0 rfl rfl h.1 dX1_sheet_113 ?_
        replace h := h.2
        refine lv_iadd hx hb dX1_sheet_114 ?_
        refine lv_topi (fun x5 ex5 => ?_)
        replace h := h x5 ex5
        refine lv_istore (lv' := [(6, .int x5), (0, .ref o), (2, .int v2), (5, .ref q2), (7, .int v7)]) hx hb dX1_sheet_115 hl (by decide) rfl (fun ls hl => ?_)
        refine lv_iinc (v := (v7 + (1 : Int32))) (lv' := [(7, .int (v7 + (1 : Int32))), (6, .int x5), (0, .ref o), (2, .int v2), (5, .ref q2)]) hx hb dX1_sheet_117 hl (k := 4) rfl rfl (by decide) rfl (fun ls hl => ?_)
        refine lv_goto (tgt := 52) hx hb dX1_sheet_120 (by decide) ?_
        exact ih _ _ _ h _ _ _ hP hD hS (lv_sub hl [2, 3, 4, 1, 0] rfl)
      · replace h := h.2 c7
        refine lv_iconst (v := (0 : Int32)) hx hb dX1_sheet_81 (by decide) ?_
        refine lv_goto (tgt := 101) hx hb dX1_sheet_82 (by decide) ?_
        refine pt_iast (f := (ar 43)) hx hb hK hP hD hS 18 0 rfl rfl h.1 dX1_sheet_101 wXA_43 (fun H locs hP hD hS => ?_)
        replace h := h.2
        refine lv_iload hx hb dX1_sheet_102 (lv_at hl 3 rfl) ?_
        refine lv_aload_n hx hb dX1_sheet_104 rfl (lv_at hl 0 rfl) ?_
        refine va_get hx hb hts in_X1 hown hK hP 0 rfl rfl 0 (Nat.le_of_ble_eq_true rfl) (hts _ q180) (fun _ h => h) (v := .ref (ax 0)) rfl dX1_sheet_105 ?_
        refine va_get hx hb hts in_X2 hown hK hP 14 rfl rfl 3 (Nat.le_of_ble_eq_true rfl) (hts _ q144) (fun _ h => h) (v := .ref (ax 43)) rfl dX1_sheet_108 ?_
        refine lv_iload hx hb dX1_sheet_111 (lv_at hl 4 rfl) ?_
        refine va_iald (f := (upd (ar 43) v7.toNatClampNeg (0 : Int32))) hx hb hK hP 18 0 rfl rfl h.1 dX1_sheet_113 ?_
        replace h := h.2
        refine lv_iadd hx hb dX1_sheet_114 ?_
        refine lv_topi (fun x6 ex6 => ?_)
        replace h := h x6 ex6
        refine lv_istore (lv' := [(6, .int x6), (0, .ref o), (2, .int v2), (5, .ref q2), (7, .int v7)]) hx hb dX1_sheet_115 hl (by decide) rfl (fun ls hl => ?_)
        refine lv_iinc (v := (v7 + (1 : Int32))) (lv' := [(7, .int (v7 + (1 : Int32))), (6, .int x6), (0, .ref o), (2, .int v2), (5, .ref q2)]) hx hb dX1_sheet_117 hl (k := 4) rfl rfl (by decide) rfl (fun ls hl => ?_)
        refine lv_goto (tgt := 52) hx hb dX1_sheet_120 (by decide) ?_
        exact ih _ _ _ h _ _ _ hP hD hS (lv_sub hl [2, 3, 4, 1, 0] rfl)
set_option maxHeartbeats 4000000 in
theorem lp_Ss_sheet_J1 {p : Program} {l : Launch} {e : Env} {R : Room} {s : State} {m : MethodId} {args : Array Value} {below : List Frame} {meth : Method} {c : Code} {cells slots : Nat} {A : Nat → Prop} {V : evT} {D : va_G} {gI : Nat → ClassId} {o : Nat} {ax : Nat → Nat} {tl : va_W} {v2 : Int32} {fd : Nat → Int32} {lw : Nat → Int64} {hh : HT} {rn : Option (Nat × Nat)} {sc : Nat → Int32} {Q : Int32 → (Nat → Nat → Int32) → Prop} {q2 : Nat} (F : ct_F p m c meth cX1_sheet 8 s args RX1 (some .int) A V D vwCl (tyL gI)) (hRf : 2 ≤ R.frames) (hRl : 38 ≤ R.locals) (hC : cells ≤ R.cells) (hSl : slots ≤ R.slots) (hC1 : cells + 1 ≤ R.cells) (hS7 : slots + 7 ≤ R.slots) (hM : cells + 1 ≤ 3) (hMs : slots + 7 ≤ 22) (htab : c.exceptionTable.toList = tableOf [(28, 38, 41, 268)]) (hlt : l.stackTraces = false) :
    ∀ (ar : Nat → Nat → Int32), wp_Ss_sheet_J1 v2 fd lw hh rn sc Q ar → ∀ (H : Heap) (locs : List Loc) (ls : Array Slot), va_P D vwCl (wX gI o ax rn ([(q2, .inl (gI 8, v2.toNatClampNeg, .inl sc))] ++ tl) fd ar lw hh) H → va_D A (wX gI o ax rn ([(q2, .inl (gI 8, v2.toNatClampNeg, .inl sc))] ++ tl) fd ar lw hh) → va_S A s.heap H locs → lv_has ls 8 [(0, .ref o), (2, .int v2), (5, .ref q2)] → W p l e R s m args below meth c H locs cells slots (MQ below (va_Qi (fun (x : Int32) (u : (Nat → Nat → Int32)) => Q x u) (fun u t => va_P D vwCl (wX gI o ax rn tl fd u lw hh) t.heap ∧ va_K D vwCl (tyL gI) t ∧ va_D A (wX gI o ax rn tl fd u lw hh)) A) args s 3 22 A) (F0 m 46 ls []) := by
  obtain ⟨⟨hx, hb, hml, hown, hts⟩, hr, hlocks, hA, hK, hE⟩ := id F
  intro ar h H locs ls hP hD hS hl
  unfold wp_Ss_sheet_J1 at h
  refine lv_iconst (v := (0 : Int32)) hx hb dX1_sheet_46 (by decide) ?_
  refine lv_istore (lv' := [(6, .int (0 : Int32)), (0, .ref o), (2, .int v2), (5, .ref q2)]) hx hb dX1_sheet_47 hl (by decide) rfl (fun ls hl => ?_)
  refine lv_iconst (v := (0 : Int32)) hx hb dX1_sheet_49 (by decide) ?_
  refine lv_istore (lv' := [(7, .int (0 : Int32)), (6, .int (0 : Int32)), (0, .ref o), (2, .int v2), (5, .ref q2)]) hx hb dX1_sheet_50 hl (by decide) rfl (fun ls hl => ?_)
  obtain ⟨k52, h⟩ := h
  refine lp_Ss_sheet_L2 F hRf hRl hC hSl hC1 hS7 hM hMs htab hlt ?hk123 k52 _ _ _ h _ _ _ hP hD hS (lv_sub hl [2, 3, 4, 1, 0] rfl)
  case hk123 =>
    intro v6_9 ar_10 h H locs ls hP hD hS hl
    refine lv_aload hx hb dX1_sheet_123 (lv_at hl 0 rfl) ?_
    refine lv_ifnonnull (tgt := 133) hx hb dX1_sheet_125 (by decide) ?_
    refine lv_iload hx hb dX1_sheet_133 (lv_at hl 1 rfl) ?_
    replace hP := fr_dropP (xs := [(q2, .inl (gI 8, v2.toNatClampNeg, .inl sc))]) (tl := tl) hP
    replace hD := fr_dropD (xs := [(q2, .inl (gI 8, v2.toNatClampNeg, .inl sc))]) (tl := tl) hD
    exact rt_i F dX1_sheet_135 rfl (ar_10) h hP hD hS (Nat.le_of_succ_le hM) (Nat.le_trans (Nat.le_add_right _ 7) hMs)
set_option maxHeartbeats 8000000 in
theorem ct_Ss_sheet {l : Launch} {V : evT} {D : va_G} {gI : Nat → ClassId} {o : Nat} {ax : Nat → Nat} {tl : va_W} (hlt : l.stackTraces = false) {v1 : Int32} {v2 : Int32} {v3 : Int32} {v4 : Int32} {fd : Nat → Int32} {ar : Nat → Nat → Int32} {lw : Nat → Int64} {hh : HT} {rn : Option (Nat × Nat)} {Q : Int32 → (Nat → Nat → Int32) → Prop} (h : wp_Ss_sheet v1 v2 v3 v4 fd ar lw hh rn Q) : ctW_i l V D (tyL gI) yX1_sheet cX1_sheet 8 .int [(28, 38, 41, 268)] { frames := 2, cells := 3, slots := 22, locals := 38 } [.ref o, .int v1, .int v2, .int v3, .int v4] (wX gI o ax rn tl fd ar lw hh) (fun u : (Nat → Nat → Int32) => (wX gI o ax rn tl fd u lw hh)) (fun (x : Int32) (u : (Nat → Nat → Int32)) => Q x u) := by
  refine ctW_ofi RX1 rfl (by decide +kernel) (Nat.le_of_ble_eq_true rfl) ?_
  intro p e s m args below meth c A F htab hP hD ls hl
  obtain ⟨⟨hx, hb, hml, hown, hts⟩, hr, hlocks, hA, hK, hE⟩ := id F
  have hS : va_S A s.heap s.heap [] := va_S.rf
  have hl : lv_has ls 8 [(0, .ref o), (1, .int v1), (2, .int v2), (3, .int v3), (4, .int v4)] := hl
  have hRf : 2 ≤ ({ frames := 2, cells := 3, slots := 22, locals := 38 } : Room).frames := Nat.le_refl _
  have hC : 0 ≤ ({ frames := 2, cells := 3, slots := 22, locals := 38 } : Room).cells := Nat.le_of_ble_eq_true rfl
  have hSl : 0 ≤ ({ frames := 2, cells := 3, slots := 22, locals := 38 } : Room).slots := Nat.le_of_ble_eq_true rfl
  have hC1 : 0 + 1 ≤ ({ frames := 2, cells := 3, slots := 22, locals := 38 } : Room).cells := Nat.le_of_ble_eq_true rfl
  have hS7 : 0 + 7 ≤ ({ frames := 2, cells := 3, slots := 22, locals := 38 } : Room).slots := Nat.le_of_ble_eq_true rfl
  have hM : 0 + 1 ≤ 3 := Nat.le_of_ble_eq_true rfl
  have hMs : 0 + 7 ≤ 22 := Nat.le_of_ble_eq_true rfl
  have hRl : 38 ≤ ({ frames := 2, cells := 3, slots := 22, locals := 38 } : Room).locals := Nat.le_refl _
  unfold wp_Ss_sheet at h
  refine lv_iload_n hx hb dX1_sheet_0 rfl (lv_at hl 1 rfl) ?_
  refine lv_i2l (v := (v1.toInt64)) hx hb dX1_sheet_1 rfl ?_
  refine lv_lconst (v := (0 : Int64)) hx hb dX1_sheet_2 (by decide) ?_
  refine lv_ldc2 (v := (3 : Int64)) hx hb hown (hts _ q625) dX1_sheet_3 ?_
  refine cl_i0 F (va_runS (As := [.long (v1.toInt64), .long (0 : Int64), .long (3 : Int64)]) (rest := []) ⟨hx, hb, hml, hown, hts⟩ (ct_X1_in h _) (va_cwS 3 hts (lw_S q298 q299 q94 q300) rfl rfl rfl (by decide +kernel) ⟨Nat.le_trans (Nat.le_of_ble_eq_true rfl) hRf, Nat.le_trans (Nat.le_of_ble_eq_true rfl) hRl⟩) ⟨ct_blind, ct_at F hS ct_nP ct_nD⟩ rfl rfl hl.1 rfl (lv_room (Nat.le_of_ble_eq_true rfl)) dX1_sheet_6 ⟨hC, hSl⟩) rfl rfl hP hS ?_
  rintro x1 _ H locs h hP hS
  refine lv_if_eq (tgt := 18) hx hb dX1_sheet_9 (by decide) (fun c13 => ?_) (fun c13 => ?_)
  · replace h := h.1 c13
    refine lv_iconst (v := (-1 : Int32)) hx hb dX1_sheet_18 (by decide) ?_
    exact rt_i F dX1_sheet_19 rfl (ar) h hP hD hS (Nat.le_of_ble_eq_true rfl) (Nat.le_of_ble_eq_true rfl)
  · replace h := h.2 c13
    refine lv_iload_n hx hb dX1_sheet_12 rfl (lv_at hl 2 rfl) ?_
    refine lv_bipush (v := (8 : Int32)) hx hb dX1_sheet_13 (by decide) ?_
    refine lv_icmp_le (tgt := 20) hx hb dX1_sheet_15 (by decide) (fun c12 => ?_) (fun c12 => ?_)
    · replace h := h.1 c12
      refine lv_null hx hb dX1_sheet_20 ?_
      refine lv_astoreN (lv' := [(5, .null), (0, .ref o), (1, .int v1), (2, .int v2), (3, .int v3), (4, .int v4)]) hx hb dX1_sheet_21 hl (by decide) rfl (fun ls hl => ?_)
      refine lv_iload_n hx hb dX1_sheet_23 rfl (lv_at hl 2 rfl) ?_
      refine lv_iconst (v := (3 : Int32)) hx hb dX1_sheet_24 (by decide) ?_
      refine lv_icmp_ge (tgt := 46) hx hb dX1_sheet_25 (by decide) (fun c11 => ?_) (fun c11 => ?_)
      · replace h := h.1 c11
        exact h.elim
      · replace h := h.2 c11
        refine lv_iload_n hx hb dX1_sheet_28 rfl (lv_at hl 2 rfl) ?_
        refine lv_iload_n hx hb dX1_sheet_29 rfl (lv_at hl 3 rfl) ?_
        refine lv_iload_n hx hb dX1_sheet_30 rfl (lv_at hl 4 rfl) ?_
        refine lv_iload hx hb dX1_sheet_31 (lv_at hl 5 rfl) ?_
        refine cl_r F (va_runS (As := [.int v1, .int v2, .int v3, .int v4]) (rest := []) ⟨hx, hb, hml, hown, hts⟩ (ct_Ss_rowOf hlt h _) (va_cwS 4 hts (lw_S q626 q627 q94 q628) rfl rfl rfl (by decide +kernel) ⟨Nat.le_trans (Nat.le_of_ble_eq_true rfl) hRf, Nat.le_trans (Nat.le_of_ble_eq_true rfl) hRl⟩) ⟨ct_blind, ct_at F hS hP hD⟩ rfl rfl hl.1 rfl (lv_room (Nat.le_of_ble_eq_true rfl)) dX1_sheet_33 ⟨Nat.le_of_ble_eq_true rfl, Nat.le_of_ble_eq_true rfl⟩) hD hS ?_
        rintro ⟨q2, sc3⟩ H locs h hP hD hS
        replace hC : 2 ≤ ({ frames := 2, cells := 3, slots := 22, locals := 38 } : Room).cells := Nat.le_of_ble_eq_true rfl
        replace hSl : 15 ≤ ({ frames := 2, cells := 3, slots := 22, locals := 38 } : Room).slots := Nat.le_of_ble_eq_true rfl
        replace hC1 : 2 + 1 ≤ ({ frames := 2, cells := 3, slots := 22, locals := 38 } : Room).cells := Nat.le_of_ble_eq_true rfl
        replace hS7 : 15 + 7 ≤ ({ frames := 2, cells := 3, slots := 22, locals := 38 } : Room).slots := Nat.le_of_ble_eq_true rfl
        replace hM : 2 + 1 ≤ 3 := Nat.le_of_ble_eq_true rfl
        replace hMs : 15 + 7 ≤ 22 := Nat.le_of_ble_eq_true rfl
        refine lv_astore (lv' := [(5, .ref q2), (0, .ref o), (1, .int v1), (2, .int v2), (3, .int v3), (4, .int v4)]) hx hb dX1_sheet_36 hl (by decide) rfl (fun ls hl => ?_)
        refine lv_goto (tgt := 46) hx hb dX1_sheet_38 (by decide) ?_
        refine lp_Ss_sheet_J1 F hRf hRl hC hSl hC1 hS7 hM hMs htab hlt  _ h _ _ _ hP hD hS (lv_sub hl [1, 3, 0] rfl)
    · replace h := h.2 c12
      refine lv_iconst (v := (-1 : Int32)) hx hb dX1_sheet_18 (by decide) ?_
      exact rt_i F dX1_sheet_19 rfl (ar) h hP hD hS (Nat.le_of_ble_eq_true rfl) (Nat.le_of_ble_eq_true rfl)
set_option maxHeartbeats 4000000 in
theorem lp_Si_sheet_L2 {p : Program} {l : Launch} {e : Env} {R : Room} {s : State} {m : MethodId} {args : Array Value} {below : List Frame} {meth : Method} {c : Code} {cells slots : Nat} {A : Nat → Prop} {Qf : State → Prop} {V : evT} {D : va_G} {gI : Nat → ClassId} {o : Nat} {ax : Nat → Nat} {tl : va_W} {v2 : Int32} {fd : Nat → Int32} {lw : Nat → Int64} {hh : HT} {rn : Option (Nat × Nat)} {sc : Nat → Int32} {q2 : Nat} {K123 : (Int32) → (Nat → Nat → Int32) → Prop} (F : ct_F p m c meth cX1_sheet 8 s args RX1 (some .int) A V D vwCl (tyL gI)) (hRf : 2 ≤ R.frames) (hRl : 38 ≤ R.locals) (hC : cells ≤ R.cells) (hSl : slots ≤ R.slots) (hC1 : cells + 1 ≤ R.cells) (hS7 : slots + 7 ≤ R.slots) (hM : cells + 1 ≤ 3) (hMs : slots + 7 ≤ 22) (htab : c.exceptionTable.toList = tableOf [(28, 38, 41, 268)]) (hlt : l.stackTraces = false)
    (hK123 : ∀ (v6 : Int32) (ar : Nat → Nat → Int32), K123 v6 ar → ∀ (H : Heap) (locs : List Loc) (ls : Array Slot), va_P D vwCl (wX gI o ax rn ([(q2, .inl (gI 0, v2.toNatClampNeg, .inl sc))] ++ tl) fd ar lw hh) H → va_D A (wX gI o ax rn ([(q2, .inl (gI 0, v2.toNatClampNeg, .inl sc))] ++ tl) fd ar lw hh) → va_S A s.heap H locs → lv_has ls 8 [(5, .ref q2), (6, .int v6)] → W p l e R s m args below meth c H locs cells slots Qf (F0 m 123 ls [])) :
    ∀ (n : Nat) (v6 : Int32) (v7 : Int32) (ar : Nat → Nat → Int32), wp_Si_sheet_L2 v2 fd lw hh rn sc K123 n v6 v7 ar → ∀ (H : Heap) (locs : List Loc) (ls : Array Slot), va_P D vwCl (wX gI o ax rn ([(q2, .inl (gI 0, v2.toNatClampNeg, .inl sc))] ++ tl) fd ar lw hh) H → va_D A (wX gI o ax rn ([(q2, .inl (gI 0, v2.toNatClampNeg, .inl sc))] ++ tl) fd ar lw hh) → va_S A s.heap H locs → lv_has ls 8 [(0, .ref o), (2, .int v2), (5, .ref q2), (6, .int v6), (7, .int v7)] → W p l e R s m args below meth c H locs cells slots Qf (F0 m 52 ls []) := by
  obtain ⟨⟨hx, hb, hml, hown, hts⟩, hr, hlocks, hA, hK, hE⟩ := id F
  intro n
  induction n with
  | zero => intro v6 v7 ar h; exact h.elim
  | succ n ih =>
    intro v6 v7 ar h H locs ls hP hD hS hl
    unfold wp_Si_sheet_L2 at h
    refine lv_iload hx hb dX1_sheet_52 (lv_at hl 4 rfl) ?_
    refine lv_aload_n hx hb dX1_sheet_54 rfl (lv_at hl 0 rfl) ?_
    refine va_get hx hb hts in_X1 hown hK hP 0 rfl rfl 10 (Nat.le_of_ble_eq_true rfl) (hts _ q199) (fun _ h => h) (v := .int (fd 10)) rfl dX1_sheet_55 ?_
    refine lv_icmp_ge (tgt := 123) hx hb dX1_sheet_58 (by decide) (fun c8 => ?_) (fun c8 => ?_)
    · replace h := h.1 c8
      exact hK123 _ _ h _ _ _ hP hD hS (lv_sub hl [2, 3] rfl)
    · replace h := h.2 c8
      refine lv_aload_n hx hb dX1_sheet_61 rfl (lv_at hl 0 rfl) ?_
      refine va_get hx hb hts in_X1 hown hK hP 0 rfl rfl 0 (Nat.le_of_ble_eq_true rfl) (hts _ q180) (fun _ h => h) (v := .ref (ax 0)) rfl dX1_sheet_62 ?_
      refine va_get hx hb hts in_X2 hown hK hP 14 rfl rfl 3 (Nat.le_of_ble_eq_true rfl) (hts _ q144) (fun _ h => h) (v := .ref (ax 43)) rfl dX1_sheet_65 ?_
      refine lv_iload hx hb dX1_sheet_68 (lv_at hl 4 rfl) ?_
      refine lv_aload hx hb dX1_sheet_70 (lv_at hl 2 rfl) ?_
      refine lv_ifnull hx hb dX1_sheet_72 ?_
      refine lv_iload hx hb dX1_sheet_75 (lv_at hl 4 rfl) ?_
      refine lv_iload_n hx hb dX1_sheet_77 rfl (lv_at hl 1 rfl) ?_
      refine lv_icmp_lt (tgt := 85) hx hb dX1_sheet_78 (by decide) (fun c7 => ?_) (fun c7 => ?_)
      · replace h := h.1 c7
        refine lv_iconst (v := (0 : Int32)) hx hb dX1_sheet_85 (by decide) ?_
        refine lv_bipush (v := (9 : Int32)) hx hb dX1_sheet_86 (by decide) ?_
        refine lv_aload hx hb dX1_sheet_88 (lv_at hl 2 rfl) ?_
        refine lv_iload hx hb dX1_sheet_90 (lv_at hl 4 rfl) ?_
        refine cl_i F (va_runS (As := [.ref q2, .int v7]) (rest := [.int (9 : Int32), .int (0 : Int32), .int v7, .ref (ax 43)]) ⟨hx, hb, hml, hown, hts⟩ (ct_Si_entry (sn := v2.toNatClampNeg) h _) (va_cwS 2 hts (lw_S q629 q630 q94 q631) rfl rfl rfl (by decide +kernel) ⟨Nat.le_trans (Nat.le_of_ble_eq_true rfl) hRf, Nat.le_trans (Nat.le_of_ble_eq_true rfl) hRl⟩) ⟨ct_blind, ct_at F hS hP hD⟩ rfl rfl hl.1 rfl (lv_room (Nat.le_of_ble_eq_true rfl)) dX1_sheet_92 ⟨hC, hSl⟩) rfl rfl hD hS ?_
        rintro x4 _ H locs h hP hD hS
        refine va_mmin hx hb (hml.trans hl.1.symm) hown (hts _ q634) (hts _ q336) (hts _ q100) (hts _ q337) (Nat.le_trans (Nat.le_of_ble_eq_true rfl) hRf) (Nat.le_trans (Nat.le_of_ble_eq_true rfl) hRl) hC hSl dX1_sheet_95 ?_
        refine va_mmax hx hb (hml.trans hl.1.symm) hown (hts _ q635) (hts _ q636) (hts _ q100) (hts _ q637) (Nat.le_trans (Nat.le_of_ble_eq_true rfl) hRf) (Nat.le_trans (Nat.le_of_ble_eq_true rfl) hRl) hC hSl dX1_sheet_98 ?_
        refine pt_iast (f := (ar 43)) hx hb hK hP hD hS 18 0 rfl rfl h.1 dX1_sheet_101 wXA_43 (fun H locs hP hD hS => ?_)
        replace h := h.2
        refine lv_iload hx hb dX1_sheet_102 (lv_at hl 3 rfl) ?_
        refine lv_aload_n hx hb dX1_sheet_104 rfl (lv_at hl 0 rfl) ?_
        refine va_get hx hb hts in_X1 hown hK hP 0 rfl rfl 0 (Nat.le_of_ble_eq_true rfl) (hts _ q180) (fun _ h => h) (v := .ref (ax 0)) rfl dX1_sheet_105 ?_
        refine va_get hx hb hts in_X2 hown hK hP 14 rfl rfl 3 (Nat.le_of_ble_eq_true rfl) (hts _ q144) (fun _ h => h) (v := .ref (ax 43)) rfl dX1_sheet_108 ?_
        refine lv_iload hx hb dX1_sheet_111 (lv_at hl 4 rfl) ?_
        refine va_iald (f := (upd (ar 43) v7.toNatClampNeg (mxI (0 : Int32) (mnI (9 : Int32) x4)))) hx hb hK hP 18 0 rfl rfl h.1 dX1_sheet_113 ?_
        replace h := h.2
        refine lv_iadd hx hb dX1_sheet_114 ?_
        refine lv_topi (fun x5 ex5 => ?_)
        replace h := h x5 ex5
        refine lv_istore (lv' := [(6, .int x5), (0, .ref o), (2, .int v2), (5, .ref q2), (7, .int v7)]) hx hb dX1_sheet_115 hl (by decide) rfl (fun ls hl => ?_)
        refine lv_iinc (v := (v7 + (1 : Int32))) (lv' := [(7, .int (v7 + (1 : Int32))), (6, .int x5), (0, .ref o), (2, .int v2), (5, .ref q2)]) hx hb dX1_sheet_117 hl (k := 4) rfl rfl (by decide) rfl (fun ls hl => ?_)
        refine lv_goto (tgt := 52) hx hb dX1_sheet_120 (by decide) ?_
        exact ih _ _ _ h _ _ _ hP hD hS (lv_sub hl [2, 3, 4, 1, 0] rfl)
      · replace h := h.2 c7
        refine lv_iconst (v := (0 : Int32)) hx hb dX1_sheet_81 (by decide) ?_
        refine lv_goto (tgt := 101) hx hb dX1_sheet_82 (by decide) ?_
        refine pt_iast (f := (ar 43)) hx hb hK hP hD hS 18 0 rfl rfl h.1 dX1_sheet_101 wXA_43 (fun H locs hP hD hS => ?_)
        replace h := h.2
        refine lv_iload hx hb dX1_sheet_102 (lv_at hl 3 rfl) ?_
        refine lv_aload_n hx hb dX1_sheet_104 rfl (lv_at hl 0 rfl) ?_
        refine va_get hx hb hts in_X1 hown hK hP 0 rfl rfl 0 (Nat.le_of_ble_eq_true rfl) (hts _ q180) (fun _ h => h) (v := .ref (ax 0)) rfl dX1_sheet_105 ?_
        refine va_get hx hb hts in_X2 hown hK hP 14 rfl rfl 3 (Nat.le_of_ble_eq_true rfl) (hts _ q144) (fun _ h => h) (v := .ref (ax 43)) rfl dX1_sheet_108 ?_
        refine lv_iload hx hb dX1_sheet_111 (lv_at hl 4 rfl) ?_
        refine va_iald (f := (upd (ar 43) v7.toNatClampNeg (0 : Int32))) hx hb hK hP 18 0 rfl rfl h.1 dX1_sheet_113 ?_
        replace h := h.2
        refine lv_iadd hx hb dX1_sheet_114 ?_
        refine lv_topi (fun x6 ex6 => ?_)
        replace h := h x6 ex6
        refine lv_istore (lv' := [(6, .int x6), (0, .ref o), (2, .int v2), (5, .ref q2), (7, .int v7)]) hx hb dX1_sheet_115 hl (by decide) rfl (fun ls hl => ?_)
        refine lv_iinc (v := (v7 + (1 : Int32))) (lv' := [(7, .int (v7 + (1 : Int32))), (6, .int x6), (0, .ref o), (2, .int v2), (5, .ref q2)]) hx hb dX1_sheet_117 hl (k := 4) rfl rfl (by decide) rfl (fun ls hl => ?_)
        refine lv_goto (tgt := 52) hx hb dX1_sheet_120 (by decide) ?_
        exact ih _ _ _ h _ _ _ hP hD hS (lv_sub hl [2, 3, 4, 1, 0] rfl)
set_option maxHeartbeats 4000000 in
theorem lp_Si_sheet_J1 {p : Program} {l : Launch} {e : Env} {R : Room} {s : State} {m : MethodId} {args : Array Value} {below : List Frame} {meth : Method} {c : Code} {cells slots : Nat} {A : Nat → Prop} {V : evT} {D : va_G} {gI : Nat → ClassId} {o : Nat} {ax : Nat → Nat} {tl : va_W} {v2 : Int32} {fd : Nat → Int32} {lw : Nat → Int64} {hh : HT} {rn : Option (Nat × Nat)} {sc : Nat → Int32} {Q : Int32 → (Nat → Nat → Int32) → Prop} {q2 : Nat} (F : ct_F p m c meth cX1_sheet 8 s args RX1 (some .int) A V D vwCl (tyL gI)) (hRf : 2 ≤ R.frames) (hRl : 38 ≤ R.locals) (hC : cells ≤ R.cells) (hSl : slots ≤ R.slots) (hC1 : cells + 1 ≤ R.cells) (hS7 : slots + 7 ≤ R.slots) (hM : cells + 1 ≤ 3) (hMs : slots + 7 ≤ 22) (htab : c.exceptionTable.toList = tableOf [(28, 38, 41, 268)]) (hlt : l.stackTraces = false) :
    ∀ (ar : Nat → Nat → Int32), wp_Si_sheet_J1 v2 fd lw hh rn sc Q ar → ∀ (H : Heap) (locs : List Loc) (ls : Array Slot), va_P D vwCl (wX gI o ax rn ([(q2, .inl (gI 0, v2.toNatClampNeg, .inl sc))] ++ tl) fd ar lw hh) H → va_D A (wX gI o ax rn ([(q2, .inl (gI 0, v2.toNatClampNeg, .inl sc))] ++ tl) fd ar lw hh) → va_S A s.heap H locs → lv_has ls 8 [(0, .ref o), (2, .int v2), (5, .ref q2)] → W p l e R s m args below meth c H locs cells slots (MQ below (va_Qi (fun (x : Int32) (u : (Nat → Nat → Int32)) => Q x u) (fun u t => va_P D vwCl (wX gI o ax rn tl fd u lw hh) t.heap ∧ va_K D vwCl (tyL gI) t ∧ va_D A (wX gI o ax rn tl fd u lw hh)) A) args s 3 22 A) (F0 m 46 ls []) := by
  obtain ⟨⟨hx, hb, hml, hown, hts⟩, hr, hlocks, hA, hK, hE⟩ := id F
  intro ar h H locs ls hP hD hS hl
  unfold wp_Si_sheet_J1 at h
  refine lv_iconst (v := (0 : Int32)) hx hb dX1_sheet_46 (by decide) ?_
  refine lv_istore (lv' := [(6, .int (0 : Int32)), (0, .ref o), (2, .int v2), (5, .ref q2)]) hx hb dX1_sheet_47 hl (by decide) rfl (fun ls hl => ?_)
  refine lv_iconst (v := (0 : Int32)) hx hb dX1_sheet_49 (by decide) ?_
  refine lv_istore (lv' := [(7, .int (0 : Int32)), (6, .int (0 : Int32)), (0, .ref o), (2, .int v2), (5, .ref q2)]) hx hb dX1_sheet_50 hl (by decide) rfl (fun ls hl => ?_)
  obtain ⟨k52, h⟩ := h
  refine lp_Si_sheet_L2 F hRf hRl hC hSl hC1 hS7 hM hMs htab hlt ?hk123 k52 _ _ _ h _ _ _ hP hD hS (lv_sub hl [2, 3, 4, 1, 0] rfl)
  case hk123 =>
    intro v6_9 ar_10 h H locs ls hP hD hS hl
    refine lv_aload hx hb dX1_sheet_123 (lv_at hl 0 rfl) ?_
    refine lv_ifnonnull (tgt := 133) hx hb dX1_sheet_125 (by decide) ?_
    refine lv_iload hx hb dX1_sheet_133 (lv_at hl 1 rfl) ?_
    replace hP := fr_dropP (xs := [(q2, .inl (gI 0, v2.toNatClampNeg, .inl sc))]) (tl := tl) hP
    replace hD := fr_dropD (xs := [(q2, .inl (gI 0, v2.toNatClampNeg, .inl sc))]) (tl := tl) hD
    exact rt_i F dX1_sheet_135 rfl (ar_10) h hP hD hS (Nat.le_of_succ_le hM) (Nat.le_trans (Nat.le_add_right _ 7) hMs)
set_option maxHeartbeats 8000000 in
theorem ct_Si_sheet {l : Launch} {V : evT} {D : va_G} {gI : Nat → ClassId} {o : Nat} {ax : Nat → Nat} {tl : va_W} (hlt : l.stackTraces = false) {v1 : Int32} {v2 : Int32} {v3 : Int32} {v4 : Int32} {fd : Nat → Int32} {ar : Nat → Nat → Int32} {lw : Nat → Int64} {hh : HT} {rn : Option (Nat × Nat)} {Q : Int32 → (Nat → Nat → Int32) → Prop} (h : wp_Si_sheet v1 v2 v3 v4 fd ar lw hh rn Q) : ctW_i l V D (tyL gI) yX1_sheet cX1_sheet 8 .int [(28, 38, 41, 268)] { frames := 2, cells := 3, slots := 22, locals := 38 } [.ref o, .int v1, .int v2, .int v3, .int v4] (wX gI o ax rn tl fd ar lw hh) (fun u : (Nat → Nat → Int32) => (wX gI o ax rn tl fd u lw hh)) (fun (x : Int32) (u : (Nat → Nat → Int32)) => Q x u) := by
  refine ctW_ofi RX1 rfl (by decide +kernel) (Nat.le_of_ble_eq_true rfl) ?_
  intro p e s m args below meth c A F htab hP hD ls hl
  obtain ⟨⟨hx, hb, hml, hown, hts⟩, hr, hlocks, hA, hK, hE⟩ := id F
  have hS : va_S A s.heap s.heap [] := va_S.rf
  have hl : lv_has ls 8 [(0, .ref o), (1, .int v1), (2, .int v2), (3, .int v3), (4, .int v4)] := hl
  have hRf : 2 ≤ ({ frames := 2, cells := 3, slots := 22, locals := 38 } : Room).frames := Nat.le_refl _
  have hC : 0 ≤ ({ frames := 2, cells := 3, slots := 22, locals := 38 } : Room).cells := Nat.le_of_ble_eq_true rfl
  have hSl : 0 ≤ ({ frames := 2, cells := 3, slots := 22, locals := 38 } : Room).slots := Nat.le_of_ble_eq_true rfl
  have hC1 : 0 + 1 ≤ ({ frames := 2, cells := 3, slots := 22, locals := 38 } : Room).cells := Nat.le_of_ble_eq_true rfl
  have hS7 : 0 + 7 ≤ ({ frames := 2, cells := 3, slots := 22, locals := 38 } : Room).slots := Nat.le_of_ble_eq_true rfl
  have hM : 0 + 1 ≤ 3 := Nat.le_of_ble_eq_true rfl
  have hMs : 0 + 7 ≤ 22 := Nat.le_of_ble_eq_true rfl
  have hRl : 38 ≤ ({ frames := 2, cells := 3, slots := 22, locals := 38 } : Room).locals := Nat.le_refl _
  unfold wp_Si_sheet at h
  refine lv_iload_n hx hb dX1_sheet_0 rfl (lv_at hl 1 rfl) ?_
  refine lv_i2l (v := (v1.toInt64)) hx hb dX1_sheet_1 rfl ?_
  refine lv_lconst (v := (0 : Int64)) hx hb dX1_sheet_2 (by decide) ?_
  refine lv_ldc2 (v := (3 : Int64)) hx hb hown (hts _ q625) dX1_sheet_3 ?_
  refine cl_i0 F (va_runS (As := [.long (v1.toInt64), .long (0 : Int64), .long (3 : Int64)]) (rest := []) ⟨hx, hb, hml, hown, hts⟩ (ct_X1_in h _) (va_cwS 3 hts (lw_S q298 q299 q94 q300) rfl rfl rfl (by decide +kernel) ⟨Nat.le_trans (Nat.le_of_ble_eq_true rfl) hRf, Nat.le_trans (Nat.le_of_ble_eq_true rfl) hRl⟩) ⟨ct_blind, ct_at F hS ct_nP ct_nD⟩ rfl rfl hl.1 rfl (lv_room (Nat.le_of_ble_eq_true rfl)) dX1_sheet_6 ⟨hC, hSl⟩) rfl rfl hP hS ?_
  rintro x1 _ H locs h hP hS
  refine lv_if_eq (tgt := 18) hx hb dX1_sheet_9 (by decide) (fun c13 => ?_) (fun c13 => ?_)
  · replace h := h.1 c13
    refine lv_iconst (v := (-1 : Int32)) hx hb dX1_sheet_18 (by decide) ?_
    exact rt_i F dX1_sheet_19 rfl (ar) h hP hD hS (Nat.le_of_ble_eq_true rfl) (Nat.le_of_ble_eq_true rfl)
  · replace h := h.2 c13
    refine lv_iload_n hx hb dX1_sheet_12 rfl (lv_at hl 2 rfl) ?_
    refine lv_bipush (v := (8 : Int32)) hx hb dX1_sheet_13 (by decide) ?_
    refine lv_icmp_le (tgt := 20) hx hb dX1_sheet_15 (by decide) (fun c12 => ?_) (fun c12 => ?_)
    · replace h := h.1 c12
      refine lv_null hx hb dX1_sheet_20 ?_
      refine lv_astoreN (lv' := [(5, .null), (0, .ref o), (1, .int v1), (2, .int v2), (3, .int v3), (4, .int v4)]) hx hb dX1_sheet_21 hl (by decide) rfl (fun ls hl => ?_)
      refine lv_iload_n hx hb dX1_sheet_23 rfl (lv_at hl 2 rfl) ?_
      refine lv_iconst (v := (3 : Int32)) hx hb dX1_sheet_24 (by decide) ?_
      refine lv_icmp_ge (tgt := 46) hx hb dX1_sheet_25 (by decide) (fun c11 => ?_) (fun c11 => ?_)
      · replace h := h.1 c11
        exact h.elim
      · replace h := h.2 c11
        refine lv_iload_n hx hb dX1_sheet_28 rfl (lv_at hl 2 rfl) ?_
        refine lv_iload_n hx hb dX1_sheet_29 rfl (lv_at hl 3 rfl) ?_
        refine lv_iload_n hx hb dX1_sheet_30 rfl (lv_at hl 4 rfl) ?_
        refine lv_iload hx hb dX1_sheet_31 (lv_at hl 5 rfl) ?_
        refine cl_r F (va_runS (As := [.int v1, .int v2, .int v3, .int v4]) (rest := []) ⟨hx, hb, hml, hown, hts⟩ (ct_Si_rowOf hlt h _) (va_cwS 4 hts (lw_S q626 q627 q94 q628) rfl rfl rfl (by decide +kernel) ⟨Nat.le_trans (Nat.le_of_ble_eq_true rfl) hRf, Nat.le_trans (Nat.le_of_ble_eq_true rfl) hRl⟩) ⟨ct_blind, ct_at F hS hP hD⟩ rfl rfl hl.1 rfl (lv_room (Nat.le_of_ble_eq_true rfl)) dX1_sheet_33 ⟨Nat.le_of_ble_eq_true rfl, Nat.le_of_ble_eq_true rfl⟩) hD hS ?_
        rintro ⟨q2, sc3⟩ H locs h hP hD hS
        replace hC : 2 ≤ ({ frames := 2, cells := 3, slots := 22, locals := 38 } : Room).cells := Nat.le_of_ble_eq_true rfl
        replace hSl : 15 ≤ ({ frames := 2, cells := 3, slots := 22, locals := 38 } : Room).slots := Nat.le_of_ble_eq_true rfl
        replace hC1 : 2 + 1 ≤ ({ frames := 2, cells := 3, slots := 22, locals := 38 } : Room).cells := Nat.le_of_ble_eq_true rfl
        replace hS7 : 15 + 7 ≤ ({ frames := 2, cells := 3, slots := 22, locals := 38 } : Room).slots := Nat.le_of_ble_eq_true rfl
        replace hM : 2 + 1 ≤ 3 := Nat.le_of_ble_eq_true rfl
        replace hMs : 15 + 7 ≤ 22 := Nat.le_of_ble_eq_true rfl
        refine lv_astore (lv' := [(5, .ref q2), (0, .ref o), (1, .int v1), (2, .int v2), (3, .int v3), (4, .int v4)]) hx hb dX1_sheet_36 hl (by decide) rfl (fun ls hl => ?_)
        refine lv_goto (tgt := 46) hx hb dX1_sheet_38 (by decide) ?_
        refine lp_Si_sheet_J1 F hRf hRl hC hSl hC1 hS7 hM hMs htab hlt  _ h _ _ _ hP hD hS (lv_sub hl [1, 3, 0] rfl)
    · replace h := h.2 c12
      refine lv_iconst (v := (-1 : Int32)) hx hb dX1_sheet_18 (by decide) ?_
      exact rt_i F dX1_sheet_19 rfl (ar) h hP hD hS (Nat.le_of_ble_eq_true rfl) (Nat.le_of_ble_eq_true rfl)
set_option maxHeartbeats 4000000 in
theorem lp_Sg_sheet_L2 {p : Program} {l : Launch} {e : Env} {R : Room} {s : State} {m : MethodId} {args : Array Value} {below : List Frame} {meth : Method} {c : Code} {cells slots : Nat} {A : Nat → Prop} {Qf : State → Prop} {V : evT} {D : va_G} {gI : Nat → ClassId} {o : Nat} {ax : Nat → Nat} {tl : va_W} {v2 : Int32} {fd : Nat → Int32} {lw : Nat → Int64} {hh : HT} {rn : Option (Nat × Nat)} {K123 : (Int32) → (Nat → Nat → Int32) → Prop} (F : ct_F p m c meth cX1_sheet 8 s args RX1 (some .int) A V D vwCl (tyL gI)) (hRf : 2 ≤ R.frames) (hRl : 37 ≤ R.locals) (hC : cells ≤ R.cells) (hSl : slots ≤ R.slots) (hC1 : cells + 1 ≤ R.cells) (hS7 : slots + 7 ≤ R.slots) (hM : cells + 1 ≤ 1) (hMs : slots + 7 ≤ 7) (htab : c.exceptionTable.toList = tableOf [(28, 38, 41, 268)]) (hlt : l.stackTraces = false)
    (hK123 : ∀ (v6 : Int32) (ar : Nat → Nat → Int32), K123 v6 ar → ∀ (H : Heap) (locs : List Loc) (ls : Array Slot), va_P D vwCl (wX gI o ax rn tl fd ar lw hh) H → va_D A (wX gI o ax rn tl fd ar lw hh) → va_S A s.heap H locs → lv_has ls 8 [(5, .null), (6, .int v6)] → W p l e R s m args below meth c H locs cells slots Qf (F0 m 123 ls [])) :
    ∀ (n : Nat) (v6 : Int32) (v7 : Int32) (ar : Nat → Nat → Int32), wp_Sg_sheet_L2 v2 fd lw hh rn K123 n v6 v7 ar → ∀ (H : Heap) (locs : List Loc) (ls : Array Slot), va_P D vwCl (wX gI o ax rn tl fd ar lw hh) H → va_D A (wX gI o ax rn tl fd ar lw hh) → va_S A s.heap H locs → lv_has ls 8 [(0, .ref o), (2, .int v2), (5, .null), (6, .int v6), (7, .int v7)] → W p l e R s m args below meth c H locs cells slots Qf (F0 m 52 ls []) := by
  obtain ⟨⟨hx, hb, hml, hown, hts⟩, hr, hlocks, hA, hK, hE⟩ := id F
  intro n
  induction n with
  | zero => intro v6 v7 ar h; exact h.elim
  | succ n ih =>
    intro v6 v7 ar h H locs ls hP hD hS hl
    unfold wp_Sg_sheet_L2 at h
    refine lv_iload hx hb dX1_sheet_52 (lv_at hl 4 rfl) ?_
    refine lv_aload_n hx hb dX1_sheet_54 rfl (lv_at hl 0 rfl) ?_
    refine va_get hx hb hts in_X1 hown hK hP 0 rfl rfl 10 (Nat.le_of_ble_eq_true rfl) (hts _ q199) (fun _ h => h) (v := .int (fd 10)) rfl dX1_sheet_55 ?_
    refine lv_icmp_ge (tgt := 123) hx hb dX1_sheet_58 (by decide) (fun c3 => ?_) (fun c3 => ?_)
    · replace h := h.1 c3
      exact hK123 _ _ h _ _ _ hP hD hS (lv_sub hl [2, 3] rfl)
    · replace h := h.2 c3
      refine lv_aload_n hx hb dX1_sheet_61 rfl (lv_at hl 0 rfl) ?_
      refine va_get hx hb hts in_X1 hown hK hP 0 rfl rfl 0 (Nat.le_of_ble_eq_true rfl) (hts _ q180) (fun _ h => h) (v := .ref (ax 0)) rfl dX1_sheet_62 ?_
      refine va_get hx hb hts in_X2 hown hK hP 14 rfl rfl 3 (Nat.le_of_ble_eq_true rfl) (hts _ q144) (fun _ h => h) (v := .ref (ax 43)) rfl dX1_sheet_65 ?_
      refine lv_iload hx hb dX1_sheet_68 (lv_at hl 4 rfl) ?_
      refine lv_aloadN hx hb dX1_sheet_70 (lv_at hl 2 rfl) ?_
      refine lv_ifnullN (tgt := 81) hx hb dX1_sheet_72 (by decide) ?_
      refine lv_iconst (v := (0 : Int32)) hx hb dX1_sheet_81 (by decide) ?_
      refine lv_goto (tgt := 101) hx hb dX1_sheet_82 (by decide) ?_
      refine pt_iast (f := (ar 43)) hx hb hK hP hD hS 18 0 rfl rfl h.1 dX1_sheet_101 wXA_43 (fun H locs hP hD hS => ?_)
      replace h := h.2
      refine lv_iload hx hb dX1_sheet_102 (lv_at hl 3 rfl) ?_
      refine lv_aload_n hx hb dX1_sheet_104 rfl (lv_at hl 0 rfl) ?_
      refine va_get hx hb hts in_X1 hown hK hP 0 rfl rfl 0 (Nat.le_of_ble_eq_true rfl) (hts _ q180) (fun _ h => h) (v := .ref (ax 0)) rfl dX1_sheet_105 ?_
      refine va_get hx hb hts in_X2 hown hK hP 14 rfl rfl 3 (Nat.le_of_ble_eq_true rfl) (hts _ q144) (fun _ h => h) (v := .ref (ax 43)) rfl dX1_sheet_108 ?_
      refine lv_iload hx hb dX1_sheet_111 (lv_at hl 4 rfl) ?_
      refine va_iald (f := (upd (ar 43) v7.toNatClampNeg (0 : Int32))) hx hb hK hP 18 0 rfl rfl h.1 dX1_sheet_113 ?_
      replace h := h.2
      refine lv_iadd hx hb dX1_sheet_114 ?_
      refine lv_topi (fun x2 ex2 => ?_)
      replace h := h x2 ex2
      refine lv_istore (lv' := [(6, .int x2), (0, .ref o), (2, .int v2), (5, .null), (7, .int v7)]) hx hb dX1_sheet_115 hl (by decide) rfl (fun ls hl => ?_)
      refine lv_iinc (v := (v7 + (1 : Int32))) (lv' := [(7, .int (v7 + (1 : Int32))), (6, .int x2), (0, .ref o), (2, .int v2), (5, .null)]) hx hb dX1_sheet_117 hl (k := 4) rfl rfl (by decide) rfl (fun ls hl => ?_)
      refine lv_goto (tgt := 52) hx hb dX1_sheet_120 (by decide) ?_
      exact ih _ _ _ h _ _ _ hP hD hS (lv_sub hl [2, 3, 4, 1, 0] rfl)
set_option maxHeartbeats 4000000 in
theorem lp_Sg_sheet_J1 {p : Program} {l : Launch} {e : Env} {R : Room} {s : State} {m : MethodId} {args : Array Value} {below : List Frame} {meth : Method} {c : Code} {cells slots : Nat} {A : Nat → Prop} {V : evT} {D : va_G} {gI : Nat → ClassId} {o : Nat} {ax : Nat → Nat} {tl : va_W} {v2 : Int32} {fd : Nat → Int32} {lw : Nat → Int64} {hh : HT} {rn : Option (Nat × Nat)} {Q : Int32 → (Nat → Nat → Int32) → Prop} (F : ct_F p m c meth cX1_sheet 8 s args RX1 (some .int) A V D vwCl (tyL gI)) (hRf : 2 ≤ R.frames) (hRl : 37 ≤ R.locals) (hC : cells ≤ R.cells) (hSl : slots ≤ R.slots) (hC1 : cells + 1 ≤ R.cells) (hS7 : slots + 7 ≤ R.slots) (hM : cells + 1 ≤ 1) (hMs : slots + 7 ≤ 7) (htab : c.exceptionTable.toList = tableOf [(28, 38, 41, 268)]) (hlt : l.stackTraces = false) :
    ∀ (ar : Nat → Nat → Int32), wp_Sg_sheet_J1 v2 fd lw hh rn Q ar → ∀ (H : Heap) (locs : List Loc) (ls : Array Slot), va_P D vwCl (wX gI o ax rn tl fd ar lw hh) H → va_D A (wX gI o ax rn tl fd ar lw hh) → va_S A s.heap H locs → lv_has ls 8 [(0, .ref o), (2, .int v2), (5, .null)] → W p l e R s m args below meth c H locs cells slots (MQ below (va_Qi (fun (x : Int32) (u : (Nat → Nat → Int32)) => Q x u) (fun u t => va_P D vwCl (wX gI o ax rn tl fd u lw hh) t.heap ∧ va_K D vwCl (tyL gI) t ∧ va_D A (wX gI o ax rn tl fd u lw hh)) A) args s 1 7 A) (F0 m 46 ls []) := by
  obtain ⟨⟨hx, hb, hml, hown, hts⟩, hr, hlocks, hA, hK, hE⟩ := id F
  intro ar h H locs ls hP hD hS hl
  unfold wp_Sg_sheet_J1 at h
  refine lv_iconst (v := (0 : Int32)) hx hb dX1_sheet_46 (by decide) ?_
  refine lv_istore (lv' := [(6, .int (0 : Int32)), (0, .ref o), (2, .int v2), (5, .null)]) hx hb dX1_sheet_47 hl (by decide) rfl (fun ls hl => ?_)
  refine lv_iconst (v := (0 : Int32)) hx hb dX1_sheet_49 (by decide) ?_
  refine lv_istore (lv' := [(7, .int (0 : Int32)), (6, .int (0 : Int32)), (0, .ref o), (2, .int v2), (5, .null)]) hx hb dX1_sheet_50 hl (by decide) rfl (fun ls hl => ?_)
  obtain ⟨k52, h⟩ := h
  refine lp_Sg_sheet_L2 F hRf hRl hC hSl hC1 hS7 hM hMs htab hlt ?hk123 k52 _ _ _ h _ _ _ hP hD hS (lv_sub hl [2, 3, 4, 1, 0] rfl)
  case hk123 =>
    intro v6_4 ar_5 h H locs ls hP hD hS hl
    refine lv_aloadN hx hb dX1_sheet_123 (lv_at hl 0 rfl) ?_
    refine lv_ifnonnullN hx hb dX1_sheet_125 ?_
    refine lv_bipush (v := (-3 : Int32)) hx hb dX1_sheet_128 (by decide) ?_
    refine lv_goto (tgt := 135) hx hb dX1_sheet_130 (by decide) ?_
    exact rt_i F dX1_sheet_135 rfl (ar_5) h hP hD hS (Nat.le_of_succ_le hM) (Nat.le_trans (Nat.le_add_right _ 7) hMs)
set_option maxHeartbeats 8000000 in
theorem ct_Sg_sheet {l : Launch} {V : evT} {D : va_G} {gI : Nat → ClassId} {o : Nat} {ax : Nat → Nat} {tl : va_W} (hlt : l.stackTraces = false) {v1 : Int32} {v2 : Int32} {v3 : Int32} {v4 : Int32} {fd : Nat → Int32} {ar : Nat → Nat → Int32} {lw : Nat → Int64} {hh : HT} {rn : Option (Nat × Nat)} {Q : Int32 → (Nat → Nat → Int32) → Prop} (h : wp_Sg_sheet v1 v2 v3 v4 fd ar lw hh rn Q) : ctW_i l V D (tyL gI) yX1_sheet cX1_sheet 8 .int [(28, 38, 41, 268)] { frames := 2, cells := 1, slots := 7, locals := 37 } [.ref o, .int v1, .int v2, .int v3, .int v4] (wX gI o ax rn tl fd ar lw hh) (fun u : (Nat → Nat → Int32) => (wX gI o ax rn tl fd u lw hh)) (fun (x : Int32) (u : (Nat → Nat → Int32)) => Q x u) := by
  refine ctW_ofi RX1 rfl (by decide +kernel) (Nat.le_of_ble_eq_true rfl) ?_
  intro p e s m args below meth c A F htab hP hD ls hl
  obtain ⟨⟨hx, hb, hml, hown, hts⟩, hr, hlocks, hA, hK, hE⟩ := id F
  have hS : va_S A s.heap s.heap [] := va_S.rf
  have hl : lv_has ls 8 [(0, .ref o), (1, .int v1), (2, .int v2), (3, .int v3), (4, .int v4)] := hl
  have hRf : 2 ≤ ({ frames := 2, cells := 1, slots := 7, locals := 37 } : Room).frames := Nat.le_refl _
  have hC : 0 ≤ ({ frames := 2, cells := 1, slots := 7, locals := 37 } : Room).cells := Nat.le_of_ble_eq_true rfl
  have hSl : 0 ≤ ({ frames := 2, cells := 1, slots := 7, locals := 37 } : Room).slots := Nat.le_of_ble_eq_true rfl
  have hC1 : 0 + 1 ≤ ({ frames := 2, cells := 1, slots := 7, locals := 37 } : Room).cells := Nat.le_of_ble_eq_true rfl
  have hS7 : 0 + 7 ≤ ({ frames := 2, cells := 1, slots := 7, locals := 37 } : Room).slots := Nat.le_of_ble_eq_true rfl
  have hM : 0 + 1 ≤ 1 := Nat.le_of_ble_eq_true rfl
  have hMs : 0 + 7 ≤ 7 := Nat.le_of_ble_eq_true rfl
  have hRl : 37 ≤ ({ frames := 2, cells := 1, slots := 7, locals := 37 } : Room).locals := Nat.le_refl _
  unfold wp_Sg_sheet at h
  refine lv_iload_n hx hb dX1_sheet_0 rfl (lv_at hl 1 rfl) ?_
  refine lv_i2l (v := (v1.toInt64)) hx hb dX1_sheet_1 rfl ?_
  refine lv_lconst (v := (0 : Int64)) hx hb dX1_sheet_2 (by decide) ?_
  refine lv_ldc2 (v := (3 : Int64)) hx hb hown (hts _ q625) dX1_sheet_3 ?_
  refine cl_i0 F (va_runS (As := [.long (v1.toInt64), .long (0 : Int64), .long (3 : Int64)]) (rest := []) ⟨hx, hb, hml, hown, hts⟩ (ct_X1_in h _) (va_cwS 3 hts (lw_S q298 q299 q94 q300) rfl rfl rfl (by decide +kernel) ⟨Nat.le_trans (Nat.le_of_ble_eq_true rfl) hRf, Nat.le_trans (Nat.le_of_ble_eq_true rfl) hRl⟩) ⟨ct_blind, ct_at F hS ct_nP ct_nD⟩ rfl rfl hl.1 rfl (lv_room (Nat.le_of_ble_eq_true rfl)) dX1_sheet_6 ⟨hC, hSl⟩) rfl rfl hP hS ?_
  rintro x1 _ H locs h hP hS
  refine lv_if_eq (tgt := 18) hx hb dX1_sheet_9 (by decide) (fun c8 => ?_) (fun c8 => ?_)
  · replace h := h.1 c8
    refine lv_iconst (v := (-1 : Int32)) hx hb dX1_sheet_18 (by decide) ?_
    exact rt_i F dX1_sheet_19 rfl (ar) h hP hD hS (Nat.le_of_ble_eq_true rfl) (Nat.le_of_ble_eq_true rfl)
  · replace h := h.2 c8
    refine lv_iload_n hx hb dX1_sheet_12 rfl (lv_at hl 2 rfl) ?_
    refine lv_bipush (v := (8 : Int32)) hx hb dX1_sheet_13 (by decide) ?_
    refine lv_icmp_le (tgt := 20) hx hb dX1_sheet_15 (by decide) (fun c7 => ?_) (fun c7 => ?_)
    · replace h := h.1 c7
      refine lv_null hx hb dX1_sheet_20 ?_
      refine lv_astoreN (lv' := [(5, .null), (0, .ref o), (1, .int v1), (2, .int v2), (3, .int v3), (4, .int v4)]) hx hb dX1_sheet_21 hl (by decide) rfl (fun ls hl => ?_)
      refine lv_iload_n hx hb dX1_sheet_23 rfl (lv_at hl 2 rfl) ?_
      refine lv_iconst (v := (3 : Int32)) hx hb dX1_sheet_24 (by decide) ?_
      refine lv_icmp_ge (tgt := 46) hx hb dX1_sheet_25 (by decide) (fun c6 => ?_) (fun c6 => ?_)
      · replace h := h.1 c6
        refine lp_Sg_sheet_J1 F hRf hRl hC hSl hC1 hS7 hM hMs htab hlt  _ h _ _ _ hP hD hS (lv_sub hl [1, 3, 0] rfl)
      · replace h := h.2 c6
        exact h.elim
    · replace h := h.2 c7
      refine lv_iconst (v := (-1 : Int32)) hx hb dX1_sheet_18 (by decide) ?_
      exact rt_i F dX1_sheet_19 rfl (ar) h hP hD hS (Nat.le_of_ble_eq_true rfl) (Nat.le_of_ble_eq_true rfl)
set_option maxHeartbeats 8000000 in
theorem ct_Sn_sheet {l : Launch} {V : evT} {D : va_G} {gI : Nat → ClassId} {o : Nat} {ax : Nat → Nat} {tl : va_W} (hlt : l.stackTraces = false) {v1 : Int32} {v2 : Int32} {v3 : Int32} {v4 : Int32} {fd : Nat → Int32} {ar : Nat → Nat → Int32} {lw : Nat → Int64} {hh : HT} {rn : Option (Nat × Nat)} {Q : Int32 → (Nat → Nat → Int32) → Prop} (h : wp_Sn_sheet v1 v2 v3 v4 fd ar lw hh rn Q) : ctW_i l V D (tyL gI) yX1_sheet cX1_sheet 8 .int [(28, 38, 41, 268)] { frames := 8, cells := 4, slots := 61, locals := 10600 } [.ref o, .int v1, .int v2, .int v3, .int v4] (wX gI o ax rn tl fd ar lw hh) (fun u : (Nat → Nat → Int32) => (wX gI o ax rn tl fd u lw hh)) (fun (x : Int32) (u : (Nat → Nat → Int32)) => Q x u) := by
  refine ctW_ofi RX1 rfl (by decide +kernel) (Nat.le_of_ble_eq_true rfl) ?_
  intro p e s m args below meth c A F htab hP hD ls hl
  obtain ⟨⟨hx, hb, hml, hown, hts⟩, hr, hlocks, hA, hK, hE⟩ := id F
  have hS : va_S A s.heap s.heap [] := va_S.rf
  have hl : lv_has ls 8 [(0, .ref o), (1, .int v1), (2, .int v2), (3, .int v3), (4, .int v4)] := hl
  have hRf : 8 ≤ ({ frames := 8, cells := 4, slots := 61, locals := 10600 } : Room).frames := Nat.le_refl _
  have hC : 0 ≤ ({ frames := 8, cells := 4, slots := 61, locals := 10600 } : Room).cells := Nat.le_of_ble_eq_true rfl
  have hSl : 0 ≤ ({ frames := 8, cells := 4, slots := 61, locals := 10600 } : Room).slots := Nat.le_of_ble_eq_true rfl
  have hC1 : 0 + 1 ≤ ({ frames := 8, cells := 4, slots := 61, locals := 10600 } : Room).cells := Nat.le_of_ble_eq_true rfl
  have hS7 : 0 + 7 ≤ ({ frames := 8, cells := 4, slots := 61, locals := 10600 } : Room).slots := Nat.le_of_ble_eq_true rfl
  have hM : 0 + 1 ≤ 4 := Nat.le_of_ble_eq_true rfl
  have hMs : 0 + 7 ≤ 61 := Nat.le_of_ble_eq_true rfl
  have hRl : 10600 ≤ ({ frames := 8, cells := 4, slots := 61, locals := 10600 } : Room).locals := Nat.le_refl _
  unfold wp_Sn_sheet at h
  refine lv_iload_n hx hb dX1_sheet_0 rfl (lv_at hl 1 rfl) ?_
  refine lv_i2l (v := (v1.toInt64)) hx hb dX1_sheet_1 rfl ?_
  refine lv_lconst (v := (0 : Int64)) hx hb dX1_sheet_2 (by decide) ?_
  refine lv_ldc2 (v := (3 : Int64)) hx hb hown (hts _ q625) dX1_sheet_3 ?_
  refine cl_i0 F (va_runS (As := [.long (v1.toInt64), .long (0 : Int64), .long (3 : Int64)]) (rest := []) ⟨hx, hb, hml, hown, hts⟩ (ct_X1_in h _) (va_cwS 3 hts (lw_S q298 q299 q94 q300) rfl rfl rfl (by decide +kernel) ⟨Nat.le_trans (Nat.le_of_ble_eq_true rfl) hRf, Nat.le_trans (Nat.le_of_ble_eq_true rfl) hRl⟩) ⟨ct_blind, ct_at F hS ct_nP ct_nD⟩ rfl rfl hl.1 rfl (lv_room (Nat.le_of_ble_eq_true rfl)) dX1_sheet_6 ⟨hC, hSl⟩) rfl rfl hP hS ?_
  rintro x1 _ H locs h hP hS
  refine lv_if_eq (tgt := 18) hx hb dX1_sheet_9 (by decide) (fun c5 => ?_) (fun c5 => ?_)
  · replace h := h.1 c5
    refine lv_iconst (v := (-1 : Int32)) hx hb dX1_sheet_18 (by decide) ?_
    exact rt_i F dX1_sheet_19 rfl (ar) h hP hD hS (Nat.le_of_ble_eq_true rfl) (Nat.le_of_ble_eq_true rfl)
  · replace h := h.2 c5
    refine lv_iload_n hx hb dX1_sheet_12 rfl (lv_at hl 2 rfl) ?_
    refine lv_bipush (v := (8 : Int32)) hx hb dX1_sheet_13 (by decide) ?_
    refine lv_icmp_le (tgt := 20) hx hb dX1_sheet_15 (by decide) (fun c4 => ?_) (fun c4 => ?_)
    · replace h := h.1 c4
      refine lv_null hx hb dX1_sheet_20 ?_
      refine lv_astoreN (lv' := [(5, .null), (0, .ref o), (1, .int v1), (2, .int v2), (3, .int v3), (4, .int v4)]) hx hb dX1_sheet_21 hl (by decide) rfl (fun ls hl => ?_)
      refine lv_iload_n hx hb dX1_sheet_23 rfl (lv_at hl 2 rfl) ?_
      refine lv_iconst (v := (3 : Int32)) hx hb dX1_sheet_24 (by decide) ?_
      refine lv_icmp_ge (tgt := 46) hx hb dX1_sheet_25 (by decide) (fun c3 => ?_) (fun c3 => ?_)
      · replace h := h.1 c3
        exact h.elim
      · replace h := h.2 c3
        refine lv_iload_n hx hb dX1_sheet_28 rfl (lv_at hl 2 rfl) ?_
        refine lv_iload_n hx hb dX1_sheet_29 rfl (lv_at hl 3 rfl) ?_
        refine lv_iload_n hx hb dX1_sheet_30 rfl (lv_at hl 4 rfl) ?_
        refine lv_iload hx hb dX1_sheet_31 (lv_at hl 5 rfl) ?_
        refine cln_r F (vx_runS (As := [.int v1, .int v2, .int v3, .int v4]) (rest := []) ⟨hx, hb, hml, hown, hts⟩ (ctn_rowOf hlt h.1 _) (va_cwS 4 hts (lw_S q626 q627 q94 q628) rfl rfl rfl (by decide +kernel) ⟨Nat.le_trans (Nat.le_of_ble_eq_true rfl) hRf, Nat.le_trans (Nat.le_of_ble_eq_true rfl) hRl⟩) ⟨ct_blind, ct_at F hS hP hD⟩ rfl rfl hl.1 rfl (lv_room (Nat.le_of_ble_eq_true rfl)) dX1_sheet_33 ⟨Nat.le_of_ble_eq_true rfl, Nat.le_of_ble_eq_true rfl⟩) hD hS ?_
        replace h := h.2
        rintro q2 ce H locs hP hD hS hce hcv hcl
        refine vx_catch hown [] ⟨28, 38, 41, 268⟩ [] htab (fun z hz => absurd hz List.not_mem_nil) (by decide) (by decide) (hts _ q596) (va_Nw.use rfl (hE.1 _ q616 rfl)) hce hcv hcl ?_
        replace hC : 3 ≤ ({ frames := 8, cells := 4, slots := 61, locals := 10600 } : Room).cells := Nat.le_of_ble_eq_true rfl
        replace hSl : 54 ≤ ({ frames := 8, cells := 4, slots := 61, locals := 10600 } : Room).slots := Nat.le_of_ble_eq_true rfl
        replace hC1 : 3 + 1 ≤ ({ frames := 8, cells := 4, slots := 61, locals := 10600 } : Room).cells := Nat.le_of_ble_eq_true rfl
        replace hS7 : 54 + 7 ≤ ({ frames := 8, cells := 4, slots := 61, locals := 10600 } : Room).slots := Nat.le_of_ble_eq_true rfl
        replace hM : 3 + 1 ≤ 4 := Nat.le_of_ble_eq_true rfl
        replace hMs : 54 + 7 ≤ 61 := Nat.le_of_ble_eq_true rfl
        refine lv_astore (lv' := [(6, .ref q2), (5, .null), (0, .ref o), (1, .int v1), (2, .int v2), (3, .int v3), (4, .int v4)]) hx hb dX1_sheet_41 hl (by decide) rfl (fun ls hl => ?_)
        refine lv_bipush (v := (-2 : Int32)) hx hb dX1_sheet_43 (by decide) ?_
        exact rt_i F dX1_sheet_45 rfl (ar) h hP hD hS (Nat.le_of_ble_eq_true rfl) (Nat.le_of_ble_eq_true rfl)
    · replace h := h.2 c4
      refine lv_iconst (v := (-1 : Int32)) hx hb dX1_sheet_18 (by decide) ?_
      exact rt_i F dX1_sheet_19 rfl (ar) h hP hD hS (Nat.le_of_ble_eq_true rfl) (Nat.le_of_ble_eq_true rfl)
