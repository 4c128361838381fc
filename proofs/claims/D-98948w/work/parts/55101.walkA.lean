/-! X1_crew -/
set_option maxRecDepth 100000
set_option maxHeartbeats 4000000 in
theorem lp_S_crew_L1 {p : Program} {l : Launch} {e : Env} {R : Room} {s : State} {m : MethodId} {args : Array Value} {below : List Frame} {meth : Method} {c : Code} {cells slots : Nat} {A : Nat → Prop} {Qf : State → Prop} {V : evT} {D : va_G} {gI : Nat → ClassId} {o : Nat} {ax : Nat → Nat} {tl : va_W} {v4 : Int32} {ar : Nat → Nat → Int32} {hh : HT} {rn : Option (Nat × Nat)} {wh : Nat → Int32} {cn : Int32} {th : Int32} {fw : Int32} {q4 q5 : Nat} {K105 : (Nat → Int32) → (Nat → Int64) → Prop} (F : ct_F p m c meth cX1_crew 6 s args RX1 (some .int) A V D vwCl (tyL gI)) (hRf : 226 ≤ R.frames) (hRl : 5355 ≤ R.locals) (hC : cells ≤ R.cells) (hSl : slots ≤ R.slots) (hC1 : cells + 1 ≤ R.cells) (hS7 : slots + 7 ≤ R.slots) (hM : cells + 1 ≤ 3) (hMs : slots + 7 ≤ 21) (hlt : l.stackTraces = false)
    (hK105 : ∀ (fd : Nat → Int32) (lw : Nat → Int64), K105 fd lw → ∀ (H : Heap) (locs : List Loc) (ls : Array Slot), va_P D vwCl (wX gI o ax rn ([(q4, .inr (7, [.int cn, .ref o, .int th, .ref q5, .int fw, .ref o])), (q5, .inl (gI 0, 8, .inl wh))] ++ tl) fd ar lw hh) H → va_D A (wX gI o ax rn ([(q4, .inr (7, [.int cn, .ref o, .int th, .ref q5, .int fw, .ref o])), (q5, .inl (gI 0, 8, .inl wh))] ++ tl) fd ar lw hh) → va_S A s.heap H locs → lv_has ls 6 [(4, .int v4)] → W p l e R s m args below meth c H locs cells slots Qf (F0 m 105 ls [])) :
    ∀ (n : Nat) (v5 : Int32) (fd : Nat → Int32) (lw : Nat → Int64), wp_S_crew_L1 v4 ar hh rn wh cn th fw K105 n v5 fd lw → ∀ (H : Heap) (locs : List Loc) (ls : Array Slot), va_P D vwCl (wX gI o ax rn ([(q4, .inr (7, [.int cn, .ref o, .int th, .ref q5, .int fw, .ref o])), (q5, .inl (gI 0, 8, .inl wh))] ++ tl) fd ar lw hh) H → va_D A (wX gI o ax rn ([(q4, .inr (7, [.int cn, .ref o, .int th, .ref q5, .int fw, .ref o])), (q5, .inl (gI 0, 8, .inl wh))] ++ tl) fd ar lw hh) → va_S A s.heap H locs → lv_has ls 6 [(0, .ref o), (3, .ref q4), (4, .int v4), (5, .int v5)] → W p l e R s m args below meth c H locs cells slots Qf (F0 m 78 ls []) := by
  obtain ⟨⟨hx, hb, hml, hown, hts⟩, hr, hlocks, hA, hK, hE⟩ := id F
  intro n
  induction n with
  | zero => intro v5 fd lw h; exact h.elim
  | succ n ih =>
    intro v5 fd lw h H locs ls hP hD hS hl
    unfold wp_S_crew_L1 at h
    refine lv_iload hx hb dX1_crew_78 (lv_at hl 3 rfl) ?_
    refine lv_aload_n hx hb dX1_crew_80 rfl (lv_at hl 0 rfl) ?_
    refine va_get hx hb hts in_X1 hown hK hP 0 rfl rfl 10 (Nat.le_of_ble_eq_true rfl) (hts _ q199) (fun _ h => h) (v := .int (fd 10)) rfl dX1_crew_81 ?_
    refine lv_icmp_ge (tgt := 105) hx hb dX1_crew_84 (by decide) (fun c13 => ?_) (fun c13 => ?_)
    · replace h := h.1 c13
      exact hK105 _ _ h _ _ _ hP hD hS (lv_sub hl [2] rfl)
    · replace h := h.2 c13
      refine lv_aload_n hx hb dX1_crew_87 rfl (lv_at hl 0 rfl) ?_
      refine lv_aload_n hx hb dX1_crew_88 rfl (lv_at hl 1 rfl) ?_
      refine va_get hx hb hts in_X10 hown hK (fr_outP (xs := [(q4, .inr (7, [.int cn, .ref o, .int th, .ref q5, .int fw, .ref o])), (q5, .inl (gI 0, 8, .inl wh))]) hP) 0 rfl rfl 3 (Nat.le_of_ble_eq_true rfl) (hts _ q979) (fun _ h => h) (v := .ref q5) rfl dX1_crew_89 ?_
      refine lv_iload hx hb dX1_crew_92 (lv_at hl 3 rfl) ?_
      refine va_iald (f := wh) hx hb hK (fr_outP (xs := [(q4, .inr (7, [.int cn, .ref o, .int th, .ref q5, .int fw, .ref o])), (q5, .inl (gI 0, 8, .inl wh))]) hP) 1 0 rfl rfl h.1 dX1_crew_94 ?_
      replace h := h.2
      refine lv_i2l (v := ((wh v5.toNatClampNeg).toInt64)) hx hb dX1_crew_95 rfl ?_
      refine cl_v F (va_runV (As := [.long ((wh v5.toNatClampNeg).toInt64)]) (rest := []) ⟨hx, hb, hml, hown, hts⟩ (ct_S_tell h _) (cwV 1 hts (lw_V q728 q730 qs19 q94 q731) rfl rfl rfl (by decide +kernel) ⟨Nat.le_trans (Nat.le_of_ble_eq_true rfl) hRf, Nat.le_trans (Nat.le_of_ble_eq_true rfl) hRl⟩) ⟨ct_blind, va_recv hK hP (ci := 0) (q0 := 0) rfl rfl, ct_at F hS hP hD⟩ rfl rfl hl.1 rfl (lv_room (Nat.le_of_ble_eq_true rfl)) dX1_crew_96 ⟨hC, hSl⟩) rfl rfl hD hS ?_
      rintro ⟨fd11, lw12⟩ H locs h hP hD hS
      refine lv_iinc (v := (v5 + (1 : Int32))) (lv' := [(5, .int (v5 + (1 : Int32))), (0, .ref o), (3, .ref q4), (4, .int v4)]) hx hb dX1_crew_99 hl (k := 3) rfl rfl (by decide) rfl (fun ls hl => ?_)
      refine lv_goto (tgt := 78) hx hb dX1_crew_102 (by decide) ?_
      exact ih _ _ _ h _ _ _ hP hD hS (lv_sub hl [1, 2, 3, 0] rfl)
set_option maxHeartbeats 8000000 in
theorem ct_S_crew {l : Launch} {V : evT} {D : va_G} {gI : Nat → ClassId} {o : Nat} {ax : Nat → Nat} {tl : va_W} (hlt : l.stackTraces = false) {v1 : Int32} {v2 : Int32} {fd : Nat → Int32} {ar : Nat → Nat → Int32} {lw : Nat → Int64} {hh : HT} {rn : Option (Nat × Nat)} {Q : Int32 → (Nat → Int32) → (Nat → Nat → Int32) → (Nat → Int64) → Prop} (h : wp_S_crew v1 v2 fd ar lw hh rn Q) : ct_i l V D vwCl (tyL gI) yX1_crew cX1_crew 6 .int { frames := 226, cells := 3, slots := 21, locals := 5355 } [.ref o, .int v1, .int v2] (wX gI o ax rn tl fd ar lw hh) (fun u : (Nat → Int32) × (Nat → Nat → Int32) × (Nat → Int64) => (wX gI o ax rn tl u.1 u.2.1 u.2.2 hh)) (fun (x : Int32) (u : (Nat → Int32) × (Nat → Nat → Int32) × (Nat → Int64)) => Q x u.1 u.2.1 u.2.2) := by
  refine ct_ofi RX1 rfl (by decide +kernel) (Nat.le_of_ble_eq_true rfl) ?_
  intro p e s m args below meth c A F hP hD ls hl
  obtain ⟨⟨hx, hb, hml, hown, hts⟩, hr, hlocks, hA, hK, hE⟩ := id F
  have hS : va_S A s.heap s.heap [] := va_S.rf
  have hl : lv_has ls 6 [(0, .ref o), (1, .int v1), (2, .int v2)] := hl
  have hRf : 226 ≤ ({ frames := 226, cells := 3, slots := 21, locals := 5355 } : Room).frames := Nat.le_refl _
  have hC : 0 ≤ ({ frames := 226, cells := 3, slots := 21, locals := 5355 } : Room).cells := Nat.le_of_ble_eq_true rfl
  have hSl : 0 ≤ ({ frames := 226, cells := 3, slots := 21, locals := 5355 } : Room).slots := Nat.le_of_ble_eq_true rfl
  have hC1 : 0 + 1 ≤ ({ frames := 226, cells := 3, slots := 21, locals := 5355 } : Room).cells := Nat.le_of_ble_eq_true rfl
  have hS7 : 0 + 7 ≤ ({ frames := 226, cells := 3, slots := 21, locals := 5355 } : Room).slots := Nat.le_of_ble_eq_true rfl
  have hM : 0 + 1 ≤ 3 := Nat.le_of_ble_eq_true rfl
  have hMs : 0 + 7 ≤ 21 := Nat.le_of_ble_eq_true rfl
  have hRl : 5355 ≤ ({ frames := 226, cells := 3, slots := 21, locals := 5355 } : Room).locals := Nat.le_refl _
  unfold wp_S_crew at h
  refine lv_iload_n hx hb dX1_crew_0 rfl (lv_at hl 1 rfl) ?_
  refine lv_i2l (v := (v1.toInt64)) hx hb dX1_crew_1 rfl ?_
  refine lv_lconst (v := (0 : Int64)) hx hb dX1_crew_2 (by decide) ?_
  refine lv_iconst (v := (1 : Int32)) hx hb dX1_crew_3 (by decide) ?_
  refine lv_aload_n hx hb dX1_crew_4 rfl (lv_at hl 0 rfl) ?_
  refine va_get hx hb hts in_X1 hown hK hP 0 rfl rfl 10 (Nat.le_of_ble_eq_true rfl) (hts _ q199) (fun _ h => h) (v := .int (fd 10)) rfl dX1_crew_5 ?_
  refine lv_ishl hx hb dX1_crew_8 ?_
  refine lv_iconst (v := (1 : Int32)) hx hb dX1_crew_9 (by decide) ?_
  refine lv_isub hx hb dX1_crew_10 ?_
  refine lv_i2l (v := ((((1 : Int32) <<< ((fd 10) &&& 31)) - (1 : Int32)).toInt64)) hx hb dX1_crew_11 rfl ?_
  refine cl_i0 F (va_runS (As := [.long (v1.toInt64), .long (0 : Int64), .long ((((1 : Int32) <<< ((fd 10) &&& 31)) - (1 : Int32)).toInt64)]) (rest := []) ⟨hx, hb, hml, hown, hts⟩ (ct_X1_in h _) (va_cwS 3 hts (lw_S q298 q299 q94 q300) rfl rfl rfl (by decide +kernel) ⟨Nat.le_trans (Nat.le_of_ble_eq_true rfl) hRf, Nat.le_trans (Nat.le_of_ble_eq_true rfl) hRl⟩) ⟨ct_blind, ct_at F hS ct_nP ct_nD⟩ rfl rfl hl.1 rfl (lv_room (Nat.le_of_ble_eq_true rfl)) dX1_crew_12 ⟨hC, hSl⟩) rfl rfl hP hS ?_
  rintro x1 _ H locs h hP hS
  refine lv_if_eq (tgt := 30) hx hb dX1_crew_15 (by decide) (fun c19 => ?_) (fun c19 => ?_)
  · replace h := h.1 c19
    refine lv_iconst (v := (-1 : Int32)) hx hb dX1_crew_30 (by decide) ?_
    exact rt_i F dX1_crew_31 rfl (fd, ar, lw) h hP hD hS (Nat.le_of_ble_eq_true rfl) (Nat.le_of_ble_eq_true rfl)
  · replace h := h.2 c19
    refine lv_iload_n hx hb dX1_crew_18 rfl (lv_at hl 2 rfl) ?_
    refine lv_i2l (v := (v2.toInt64)) hx hb dX1_crew_19 rfl ?_
    refine lv_lconst (v := (1 : Int64)) hx hb dX1_crew_20 (by decide) ?_
    refine lv_ldc2 (v := (9 : Int64)) hx hb hown (hts _ q584) dX1_crew_21 ?_
    refine cl_i0 F (va_runS (As := [.long (v2.toInt64), .long (1 : Int64), .long (9 : Int64)]) (rest := []) ⟨hx, hb, hml, hown, hts⟩ (ct_X1_in h _) (va_cwS 3 hts (lw_S q298 q299 q94 q300) rfl rfl rfl (by decide +kernel) ⟨Nat.le_trans (Nat.le_of_ble_eq_true rfl) hRf, Nat.le_trans (Nat.le_of_ble_eq_true rfl) hRl⟩) ⟨ct_blind, ct_at F hS ct_nP ct_nD⟩ rfl rfl hl.1 rfl (lv_room (Nat.le_of_ble_eq_true rfl)) dX1_crew_24 ⟨hC, hSl⟩) rfl rfl hP hS ?_
    rintro x2 _ H locs h hP hS
    refine lv_if_ne (tgt := 32) hx hb dX1_crew_27 (by decide) (fun c18 => ?_) (fun c18 => ?_)
    · replace h := h.1 c18
      refine lv_iload_n hx hb dX1_crew_32 rfl (lv_at hl 1 rfl) ?_
      refine cl_i0 F (va_runS (As := [.int v1]) (rest := []) ⟨hx, hb, hml, hown, hts⟩ (ct_J10_bitCount h _) (va_cwS 1 hts (lw_S q585 q586 q112 q587) rfl rfl rfl (by decide +kernel) ⟨Nat.le_trans (Nat.le_of_ble_eq_true rfl) hRf, Nat.le_trans (Nat.le_of_ble_eq_true rfl) hRl⟩) ⟨ct_blind, ct_at F hS ct_nP ct_nD⟩ rfl rfl hl.1 rfl (lv_room (Nat.le_of_ble_eq_true rfl)) dX1_crew_33 ⟨hC, hSl⟩) rfl rfl hP hS ?_
      rintro x3 _ H locs h hP hS
      refine lv_iconst (v := (4 : Int32)) hx hb dX1_crew_36 (by decide) ?_
      refine lv_icmp_le (tgt := 43) hx hb dX1_crew_37 (by decide) (fun c17 => ?_) (fun c17 => ?_)
      · replace h := h.1 c17
        refine va_new (ci := 7) (fs := [.int (0 : Int32), .null, .int (0 : Int32), .null, .int (0 : Int32), .null]) (C := RX10) (T := TX10) (N := 6) hx hb hts in_X10 tyX10 tyX10_ok hown (hts _ q967) (hts _ q968) (hts _ q117) hK hP hD hS hA rfl (fun j hj => by rcases (show j = 0 ∨ j = 1 ∨ j = 2 ∨ j = 3 ∨ j = 4 ∨ j = 5 by omega) with rfl | rfl | rfl | rfl | rfl | rfl <;> rfl) (Nat.le_of_ble_eq_true rfl) (Nat.le_of_ble_eq_true rfl) dX1_crew_43 (fun q4 H hP hD hS => ?_)
        replace hP : va_P D vwCl (wX gI o ax rn ([(q4, .inr (7, [.int (0 : Int32), .null, .int (0 : Int32), .null, .int (0 : Int32), .null]))] ++ tl) fd ar lw hh) _ := frw_inP (nw := [(q4, .inr (7, [.int (0 : Int32), .null, .int (0 : Int32), .null, .int (0 : Int32), .null]))]) hP
        replace hD : va_D A (wX gI o ax rn ([(q4, .inr (7, [.int (0 : Int32), .null, .int (0 : Int32), .null, .int (0 : Int32), .null]))] ++ tl) fd ar lw hh) := frw_inD (nw := [(q4, .inr (7, [.int (0 : Int32), .null, .int (0 : Int32), .null, .int (0 : Int32), .null]))]) hD
        replace hC : 1 ≤ ({ frames := 226, cells := 3, slots := 21, locals := 5355 } : Room).cells := Nat.le_of_ble_eq_true rfl
        replace hSl : 6 ≤ ({ frames := 226, cells := 3, slots := 21, locals := 5355 } : Room).slots := Nat.le_of_ble_eq_true rfl
        replace hC1 : 1 + 1 ≤ ({ frames := 226, cells := 3, slots := 21, locals := 5355 } : Room).cells := Nat.le_of_ble_eq_true rfl
        replace hS7 : 6 + 7 ≤ ({ frames := 226, cells := 3, slots := 21, locals := 5355 } : Room).slots := Nat.le_of_ble_eq_true rfl
        replace hM : 1 + 1 ≤ 3 := Nat.le_of_ble_eq_true rfl
        replace hMs : 6 + 7 ≤ 21 := Nat.le_of_ble_eq_true rfl
        refine lv_dup hx hb dX1_crew_46 rfl ?_
        refine lv_aload_n hx hb dX1_crew_47 rfl (lv_at hl 0 rfl) ?_
        refine lv_iload_n hx hb dX1_crew_48 rfl (lv_at hl 1 rfl) ?_
        refine lv_iload_n hx hb dX1_crew_49 rfl (lv_at hl 2 rfl) ?_
        replace hP := fr_outP (xs := [(q4, .inr (7, [.int (0 : Int32), .null, .int (0 : Int32), .null, .int (0 : Int32), .null]))]) hP
        replace hD := fr_outD (xs := [(q4, .inr (7, [.int (0 : Int32), .null, .int (0 : Int32), .null, .int (0 : Int32), .null]))]) hD
        refine cl_vN F (va_runI (As := [.ref o, .int v1, .int v2]) (rest := [.ref q4]) ⟨hx, hb, hml, hown, hts⟩ (ct_K_X10_init (o := q4) (ox := o) (v2 := v1) (v3 := v2) _) (cwI 3 hts (lw_meth q971) rfl rfl rfl (hts _ q117) (hts _ q969) (hts _ q970) rfl (by decide +kernel) ⟨Nat.le_trans (Nat.le_of_ble_eq_true rfl) hRf, Nat.le_trans (Nat.le_of_ble_eq_true rfl) hRl⟩) ⟨ct_blind, ct_at F hS (putL_P hP (ps := [0]) rfl) (hD.sub ([0]) (by decide) rfl)⟩ rfl rfl hl.1 rfl (lv_room (Nat.le_of_ble_eq_true rfl)) dX1_crew_50 ⟨Nat.le_of_ble_eq_true rfl, Nat.le_of_ble_eq_true rfl⟩) hP hD hS (ps := [0]) rfl (fun _ => rfl) (fun _ => rfl) ?_
        rintro q5 H locs _ hP hD hS
        replace hP : va_P D vwCl (wX gI o ax rn ([(q5, .inl (gI 0, 8, .inl (fun _ => 0))), (q4, .inr (7, [.int v2, .ref o, .int v1, .ref q5, .int (100000 : Int32), .ref o]))] ++ tl) fd ar lw hh) _ := frn_inP (xs := [(q4, .inr (7, [.int v2, .ref o, .int v1, .ref q5, .int (100000 : Int32), .ref o]))]) (nw := [(q5, .inl (gI 0, 8, .inl (fun _ => 0)))]) hP
        replace hD : va_D A (wX gI o ax rn ([(q5, .inl (gI 0, 8, .inl (fun _ => 0))), (q4, .inr (7, [.int v2, .ref o, .int v1, .ref q5, .int (100000 : Int32), .ref o]))] ++ tl) fd ar lw hh) := frn_inD (xs := [(q4, .inr (7, [.int v2, .ref o, .int v1, .ref q5, .int (100000 : Int32), .ref o]))]) (nw := [(q5, .inl (gI 0, 8, .inl (fun _ => 0)))]) hD
        replace hC : 2 ≤ ({ frames := 226, cells := 3, slots := 21, locals := 5355 } : Room).cells := Nat.le_of_ble_eq_true rfl
        replace hSl : 14 ≤ ({ frames := 226, cells := 3, slots := 21, locals := 5355 } : Room).slots := Nat.le_of_ble_eq_true rfl
        replace hC1 : 2 + 1 ≤ ({ frames := 226, cells := 3, slots := 21, locals := 5355 } : Room).cells := Nat.le_of_ble_eq_true rfl
        replace hS7 : 14 + 7 ≤ ({ frames := 226, cells := 3, slots := 21, locals := 5355 } : Room).slots := Nat.le_of_ble_eq_true rfl
        replace hM : 2 + 1 ≤ 3 := Nat.le_of_ble_eq_true rfl
        replace hMs : 14 + 7 ≤ 21 := Nat.le_of_ble_eq_true rfl
        refine lv_astore_n (lv' := [(3, .ref q4), (0, .ref o), (1, .int v1), (2, .int v2)]) hx hb dX1_crew_53 rfl hl (by decide) rfl (fun ls hl => ?_)
        refine lv_aload_n hx hb dX1_crew_54 rfl (lv_at hl 0 rfl) ?_
        replace hP : va_P D vwCl (wX gI o ax rn ([(q4, .inr (7, [.int v2, .ref o, .int v1, .ref q5, .int (100000 : Int32), .ref o])), (q5, .inl (gI 0, 8, .inl (fun _ => 0)))] ++ tl) fd ar lw hh) _ := va_P_perm hP fr_swap
        replace hD : va_D A (wX gI o ax rn ([(q4, .inr (7, [.int v2, .ref o, .int v1, .ref q5, .int (100000 : Int32), .ref o])), (q5, .inl (gI 0, 8, .inl (fun _ => 0)))] ++ tl) fd ar lw hh) := va_D_perm hD fr_swap
        refine clz_i F (vx_runV (As := []) (rest := []) ⟨hx, hb, hml, hown, hts⟩ (cz_C_best hlt h _) (cwV 0 hts (lw_V q997 q998 q999 q117 q1000) rfl rfl rfl (by decide +kernel) ⟨Nat.le_trans (Nat.le_of_ble_eq_true rfl) hRf, Nat.le_trans (Nat.le_of_ble_eq_true rfl) hRl⟩) ⟨ct_blind, va_recv hK (fr_outP (xs := [(q4, .inr (7, [.int v2, .ref o, .int v1, .ref q5, .int (100000 : Int32), .ref o])), (q5, .inl (gI 0, 8, .inl (fun _ => 0)))]) hP) (ci := 7) (q0 := 0) rfl rfl, ct_at F hS hP hD⟩ rfl rfl hl.1 rfl (lv_room (Nat.le_of_ble_eq_true rfl)) dX1_crew_55 ⟨hC1, hS7⟩) hD hS ?_
        rintro x6 ⟨fd7, ar8, fw9, wh10⟩ H locs h hP hD hS
        refine lv_istore (lv' := [(4, .int x6), (3, .ref q4), (0, .ref o), (1, .int v1), (2, .int v2)]) hx hb dX1_crew_58 hl (by decide) rfl (fun ls hl => ?_)
        refine lv_iload hx hb dX1_crew_60 (lv_at hl 0 rfl) ?_
        refine lv_bipush (v := (-2 : Int32)) hx hb dX1_crew_62 (by decide) ?_
        refine lv_icmp_ne (tgt := 70) hx hb dX1_crew_64 (by decide) (fun c16 => ?_) (fun c16 => ?_)
        · replace h := h.1 c16
          refine lv_aload_n hx hb dX1_crew_70 rfl (lv_at hl 2 rfl) ?_
          refine lv_iconst (v := (0 : Int32)) hx hb dX1_crew_71 (by decide) ?_
          refine pt_put (v := .int (0 : Int32)) hx hb hts in_X1 tyX1 tyX1_ok nmX1 hown hK hP hD hS 0 rfl rfl 18 (Nat.le_of_ble_eq_true rfl) (hts _ q209) (fun _ h => h) rfl (ty := .int) (by decide +kernel) rfl rfl (Nat.le_of_ble_eq_true rfl) dX1_crew_72 wXF_18 (fun H locs hP hD hS => ?_)
          refine lv_iconst (v := (0 : Int32)) hx hb dX1_crew_75 (by decide) ?_
          refine lv_istore (lv' := [(5, .int (0 : Int32)), (4, .int x6), (3, .ref q4), (0, .ref o), (1, .int v1), (2, .int v2)]) hx hb dX1_crew_76 hl (by decide) rfl (fun ls hl => ?_)
          obtain ⟨k78, h⟩ := h
          refine lp_S_crew_L1 F hRf hRl hC hSl hC1 hS7 hM hMs hlt ?hk105 k78 _ _ _ h _ _ _ hP hD hS (lv_sub hl [3, 2, 1, 0] rfl)
          case hk105 =>
            intro fd_14 lw_15 h H locs ls hP hD hS hl
            refine lv_iload hx hb dX1_crew_105 (lv_at hl 0 rfl) ?_
            replace hP := fr_dropP (xs := [(q4, .inr (7, [.int v2, .ref o, .int v1, .ref q5, .int fw9, .ref o])), (q5, .inl (gI 0, 8, .inl wh10))]) (tl := tl) hP
            replace hD := fr_dropD (xs := [(q4, .inr (7, [.int v2, .ref o, .int v1, .ref q5, .int fw9, .ref o])), (q5, .inl (gI 0, 8, .inl wh10))]) (tl := tl) hD
            exact rt_i F dX1_crew_107 rfl (fd_14, ar8, lw_15) h hP hD hS (Nat.le_of_ble_eq_true rfl) (Nat.le_of_ble_eq_true rfl)
        · replace h := h.2 c16
          refine lv_bipush (v := (-2 : Int32)) hx hb dX1_crew_67 (by decide) ?_
          replace hP := fr_dropP (xs := [(q4, .inr (7, [.int v2, .ref o, .int v1, .ref q5, .int fw9, .ref o])), (q5, .inl (gI 0, 8, .inl wh10))]) (tl := tl) hP
          replace hD := fr_dropD (xs := [(q4, .inr (7, [.int v2, .ref o, .int v1, .ref q5, .int fw9, .ref o])), (q5, .inl (gI 0, 8, .inl wh10))]) (tl := tl) hD
          exact rt_i F dX1_crew_69 rfl (fd7, ar8, lw) h hP hD hS (Nat.le_of_ble_eq_true rfl) (Nat.le_of_ble_eq_true rfl)
      · replace h := h.2 c17
        refine lv_bipush (v := (-3 : Int32)) hx hb dX1_crew_40 (by decide) ?_
        exact rt_i F dX1_crew_42 rfl (fd, ar, lw) h hP hD hS (Nat.le_of_ble_eq_true rfl) (Nat.le_of_ble_eq_true rfl)
    · replace h := h.2 c18
      refine lv_iconst (v := (-1 : Int32)) hx hb dX1_crew_30 (by decide) ?_
      exact rt_i F dX1_crew_31 rfl (fd, ar, lw) h hP hD hS (Nat.le_of_ble_eq_true rfl) (Nat.le_of_ble_eq_true rfl)
