/-! X1_summer -/
set_option maxRecDepth 100000
set_option maxHeartbeats 4000000 in
theorem lp_S_summer_L1 {p : Program} {l : Launch} {e : Env} {R : Room} {s : State} {m : MethodId} {args : Array Value} {below : List Frame} {meth : Method} {c : Code} {cells slots : Nat} {A : Nat → Prop} {Qf : State → Prop} {V : evT} {D : va_G} {gI : Nat → ClassId} {o : Nat} {ax : Nat → Nat} {tl : va_W} {lw : Nat → Int64} {hh : HT} {rn : Option (Nat × Nat)} {ac : Nat → Int32} {oa : Nat → Int32} {ob : Nat → Int32} {sz : Int32} {en : Int32} {pw : Int32} {mny : Int32} {q2 q3 q4 q1 : Nat} {K88 : (Int32) → (Nat → Int32) → (Nat → Nat → Int32) → Prop} (F : ct_F p m c meth cX1_summer 3 s args RX1 (some .int) A V D vwCl (tyL gI)) (hRf : 214 ≤ R.frames) (hRl : 5085 ≤ R.locals) (hC : cells ≤ R.cells) (hSl : slots ≤ R.slots) (hC1 : cells + 1 ≤ R.cells) (hS7 : slots + 7 ≤ R.slots) (hM : cells + 1 ≤ 5) (hMs : slots + 7 ≤ 195) (htab : c.exceptionTable.toList = tableOf [(21, 25, 28, 113)]) (hlt : l.stackTraces = false)
    (hK88 : ∀ (v2 : Int32) (fd : Nat → Int32) (ar : Nat → Nat → Int32), K88 v2 fd ar → ∀ (H : Heap) (locs : List Loc) (ls : Array Slot), va_P D vwCl (wX gI o ax rn ([(q2, .inl (gI 7, 60, .inl ac)), (q3, .inl (gI 0, 60, .inl oa)), (q4, .inl (gI 0, 60, .inl ob)), (q1, .inr (6, [.ref (ax 15), .int sz, .int en, .int pw, .ref q2, .ref q3, .ref q4, .int mny]))] ++ tl) fd ar lw hh) H → va_D A (wX gI o ax rn ([(q2, .inl (gI 7, 60, .inl ac)), (q3, .inl (gI 0, 60, .inl oa)), (q4, .inl (gI 0, 60, .inl ob)), (q1, .inr (6, [.ref (ax 15), .int sz, .int en, .int pw, .ref q2, .ref q3, .ref q4, .int mny]))] ++ tl) fd ar lw hh) → va_S A s.heap H locs → lv_has ls 3 [(0, .ref o), (1, .ref q1), (2, .int v2)] → W p l e R s m args below meth c H locs cells slots Qf (F0 m 88 ls [])) :
    ∀ (n : Nat) (v2 : Int32) (fd : Nat → Int32) (ar : Nat → Nat → Int32), wp_S_summer_L1 lw hh rn ac oa ob sz en pw mny K88 n v2 fd ar → ∀ (H : Heap) (locs : List Loc) (ls : Array Slot), va_P D vwCl (wX gI o ax rn ([(q2, .inl (gI 7, 60, .inl ac)), (q3, .inl (gI 0, 60, .inl oa)), (q4, .inl (gI 0, 60, .inl ob)), (q1, .inr (6, [.ref (ax 15), .int sz, .int en, .int pw, .ref q2, .ref q3, .ref q4, .int mny]))] ++ tl) fd ar lw hh) H → va_D A (wX gI o ax rn ([(q2, .inl (gI 7, 60, .inl ac)), (q3, .inl (gI 0, 60, .inl oa)), (q4, .inl (gI 0, 60, .inl ob)), (q1, .inr (6, [.ref (ax 15), .int sz, .int en, .int pw, .ref q2, .ref q3, .ref q4, .int mny]))] ++ tl) fd ar lw hh) → va_S A s.heap H locs → lv_has ls 3 [(0, .ref o), (1, .ref q1), (2, .int v2)] → W p l e R s m args below meth c H locs cells slots Qf (F0 m 49 ls []) := by
  obtain ⟨⟨hx, hb, hml, hown, hts⟩, hr, hlocks, hA, hK, hE⟩ := id F
  intro n
  induction n with
  | zero => intro v2 fd ar h; exact h.elim
  | succ n ih =>
    intro v2 fd ar h H locs ls hP hD hS hl
    unfold wp_S_summer_L1 at h
    refine lv_iload_n hx hb dX1_summer_49 rfl (lv_at hl 2 rfl) ?_
    refine lv_aload_n hx hb dX1_summer_50 rfl (lv_at hl 1 rfl) ?_
    refine va_get hx hb hts in_X8 hown hK (fr_outP (xs := [(q2, .inl (gI 7, 60, .inl ac)), (q3, .inl (gI 0, 60, .inl oa)), (q4, .inl (gI 0, 60, .inl ob)), (q1, .inr (6, [.ref (ax 15), .int sz, .int en, .int pw, .ref q2, .ref q3, .ref q4, .int mny]))]) hP) 3 rfl rfl 7 (Nat.le_of_ble_eq_true rfl) (hts _ q794) (fun _ h => h) (v := .int mny) rfl dX1_summer_51 ?_
    refine lv_icmp_ge (tgt := 88) hx hb dX1_summer_54 (by decide) (fun c28 => ?_) (fun c28 => ?_)
    · replace h := h.1 c28
      exact hK88 _ _ _ h _ _ _ hP hD hS (lv_sub hl [0, 1, 2] rfl)
    · replace h := h.2 c28
      refine lv_aload_n hx hb dX1_summer_57 rfl (lv_at hl 0 rfl) ?_
      refine lv_aload_n hx hb dX1_summer_58 rfl (lv_at hl 1 rfl) ?_
      refine va_get hx hb hts in_X8 hown hK (fr_outP (xs := [(q2, .inl (gI 7, 60, .inl ac)), (q3, .inl (gI 0, 60, .inl oa)), (q4, .inl (gI 0, 60, .inl ob)), (q1, .inr (6, [.ref (ax 15), .int sz, .int en, .int pw, .ref q2, .ref q3, .ref q4, .int mny]))]) hP) 3 rfl rfl 4 (Nat.le_of_ble_eq_true rfl) (hts _ q788) (fun _ h => h) (v := .ref q2) rfl dX1_summer_59 ?_
      refine lv_iload_n hx hb dX1_summer_62 rfl (lv_at hl 2 rfl) ?_
      refine va_cald (f := ac) hx hb hK (fr_outP (xs := [(q2, .inl (gI 7, 60, .inl ac)), (q3, .inl (gI 0, 60, .inl oa)), (q4, .inl (gI 0, 60, .inl ob)), (q1, .inr (6, [.ref (ax 15), .int sz, .int en, .int pw, .ref q2, .ref q3, .ref q4, .int mny]))]) hP) 0 7 rfl rfl h.1 dX1_summer_63 ?_
      replace h := h.2
      refine lv_aload_n hx hb dX1_summer_64 rfl (lv_at hl 1 rfl) ?_
      refine va_get hx hb hts in_X8 hown hK (fr_outP (xs := [(q2, .inl (gI 7, 60, .inl ac)), (q3, .inl (gI 0, 60, .inl oa)), (q4, .inl (gI 0, 60, .inl ob)), (q1, .inr (6, [.ref (ax 15), .int sz, .int en, .int pw, .ref q2, .ref q3, .ref q4, .int mny]))]) hP) 3 rfl rfl 5 (Nat.le_of_ble_eq_true rfl) (hts _ q790) (fun _ h => h) (v := .ref q3) rfl dX1_summer_65 ?_
      refine lv_iload_n hx hb dX1_summer_68 rfl (lv_at hl 2 rfl) ?_
      refine va_iald (f := oa) hx hb hK (fr_outP (xs := [(q2, .inl (gI 7, 60, .inl ac)), (q3, .inl (gI 0, 60, .inl oa)), (q4, .inl (gI 0, 60, .inl ob)), (q1, .inr (6, [.ref (ax 15), .int sz, .int en, .int pw, .ref q2, .ref q3, .ref q4, .int mny]))]) hP) 1 0 rfl rfl h.1 dX1_summer_69 ?_
      replace h := h.2
      refine lv_aload_n hx hb dX1_summer_70 rfl (lv_at hl 1 rfl) ?_
      refine va_get hx hb hts in_X8 hown hK (fr_outP (xs := [(q2, .inl (gI 7, 60, .inl ac)), (q3, .inl (gI 0, 60, .inl oa)), (q4, .inl (gI 0, 60, .inl ob)), (q1, .inr (6, [.ref (ax 15), .int sz, .int en, .int pw, .ref q2, .ref q3, .ref q4, .int mny]))]) hP) 3 rfl rfl 6 (Nat.le_of_ble_eq_true rfl) (hts _ q792) (fun _ h => h) (v := .ref q4) rfl dX1_summer_71 ?_
      refine lv_iload_n hx hb dX1_summer_74 rfl (lv_at hl 2 rfl) ?_
      refine va_iald (f := ob) hx hb hK (fr_outP (xs := [(q2, .inl (gI 7, 60, .inl ac)), (q3, .inl (gI 0, 60, .inl oa)), (q4, .inl (gI 0, 60, .inl ob)), (q1, .inr (6, [.ref (ax 15), .int sz, .int en, .int pw, .ref q2, .ref q3, .ref q4, .int mny]))]) hP) 2 0 rfl rfl h.1 dX1_summer_75 ?_
      replace h := h.2
      refine clz_i F (vx_runV (As := [.int (ac v2.toNatClampNeg), .int (oa v2.toNatClampNeg), .int (ob v2.toNatClampNeg)]) (rest := []) ⟨hx, hb, hml, hown, hts⟩ (cz_S_act hlt h _) (cwV 3 hts (lw_V q913 q915 qs26 q94 q916) rfl rfl rfl (by decide +kernel) ⟨Nat.le_trans (Nat.le_of_ble_eq_true rfl) hRf, Nat.le_trans (Nat.le_of_ble_eq_true rfl) hRl⟩) ⟨ct_blind, va_recv hK hP (ci := 0) (q0 := 0) rfl rfl, ct_at F hS hP hD⟩ rfl rfl hl.1 rfl (lv_room (Nat.le_of_ble_eq_true rfl)) dX1_summer_76 ⟨hC1, hS7⟩) hD hS ?_
      rintro x24 ⟨fd25, ar26⟩ H locs h hP hD hS
      refine lv_if_eq (tgt := 88) hx hb dX1_summer_79 (by decide) (fun c27 => ?_) (fun c27 => ?_)
      · replace h := h.1 c27
        exact hK88 _ _ _ h _ _ _ hP hD hS (lv_sub hl [0, 1, 2] rfl)
      · replace h := h.2 c27
        refine lv_iinc (v := (v2 + (1 : Int32))) (lv' := [(2, .int (v2 + (1 : Int32))), (0, .ref o), (1, .ref q1)]) hx hb dX1_summer_82 hl (k := 2) rfl rfl (by decide) rfl (fun ls hl => ?_)
        refine lv_goto (tgt := 49) hx hb dX1_summer_85 (by decide) ?_
        exact ih _ _ _ h _ _ _ hP hD hS (lv_sub hl [1, 2, 0] rfl)
set_option maxHeartbeats 4000000 in
theorem lp_S_summer_J4 {p : Program} {l : Launch} {e : Env} {R : Room} {s : State} {m : MethodId} {args : Array Value} {below : List Frame} {meth : Method} {c : Code} {cells slots : Nat} {A : Nat → Prop} {V : evT} {D : va_G} {gI : Nat → ClassId} {o : Nat} {ax : Nat → Nat} {tl : va_W} {v2 : Int32} {ar : Nat → Nat → Int32} {hh : HT} {rn : Option (Nat × Nat)} {ac : Nat → Int32} {oa : Nat → Int32} {ob : Nat → Int32} {sz : Int32} {en : Int32} {pw : Int32} {mny : Int32} {Q : Int32 → (Nat → Int32) → (Nat → Nat → Int32) → (Nat → Int64) → (HT) → Prop} {q2 q3 q4 q1 : Nat} (F : ct_F p m c meth cX1_summer 3 s args RX1 (some .int) A V D vwCl (tyL gI)) (hRf : 214 ≤ R.frames) (hRl : 5085 ≤ R.locals) (hC : cells ≤ R.cells) (hSl : slots ≤ R.slots) (hC1 : cells + 1 ≤ R.cells) (hS7 : slots + 7 ≤ R.slots) (hM : cells + 1 ≤ 5) (hMs : slots + 7 ≤ 195) (htab : c.exceptionTable.toList = tableOf [(21, 25, 28, 113)]) (hlt : l.stackTraces = false) :
    ∀ (t0 : Int64) (fd : Nat → Int32) (lw : Nat → Int64), wp_S_summer_J4 v2 ar hh rn ac oa ob sz en pw mny Q t0 fd lw → ∀ (H : Heap) (locs : List Loc) (ls : Array Slot), va_P D vwCl (wX gI o ax rn ([(q2, .inl (gI 7, 60, .inl ac)), (q3, .inl (gI 0, 60, .inl oa)), (q4, .inl (gI 0, 60, .inl ob)), (q1, .inr (6, [.ref (ax 15), .int sz, .int en, .int pw, .ref q2, .ref q3, .ref q4, .int mny]))] ++ tl) fd ar lw hh) H → va_D A (wX gI o ax rn ([(q2, .inl (gI 7, 60, .inl ac)), (q3, .inl (gI 0, 60, .inl oa)), (q4, .inl (gI 0, 60, .inl ob)), (q1, .inr (6, [.ref (ax 15), .int sz, .int en, .int pw, .ref q2, .ref q3, .ref q4, .int mny]))] ++ tl) fd ar lw hh) → va_S A s.heap H locs → lv_has ls 3 [(0, .ref o), (2, .int v2)] → W p l e R s m args below meth c H locs cells slots (MQ below (va_Qi (fun (x : Int32) (u : (Nat → Int32) × (Nat → Nat → Int32) × (Nat → Int64) × (HT)) => Q x u.1 u.2.1 u.2.2.1 u.2.2.2) (fun u t => va_P D vwCl (wX gI o ax rn tl u.1 u.2.1 u.2.2.1 u.2.2.2) t.heap ∧ va_K D vwCl (tyL gI) t ∧ va_D A (wX gI o ax rn tl u.1 u.2.1 u.2.2.1 u.2.2.2)) A) args s 5 195 A) (F0 m 119 ls [.long t0, .ref o]) := by
  obtain ⟨⟨hx, hb, hml, hown, hts⟩, hr, hlocks, hA, hK, hE⟩ := id F
  intro t0 fd lw h H locs ls hP hD hS hl
  unfold wp_S_summer_J4 at h
  refine cl_v F (va_runV (As := [.long t0]) (rest := []) ⟨hx, hb, hml, hown, hts⟩ (ct_S_tell h _) (cwV 1 hts (lw_V q728 q730 qs19 q94 q731) rfl rfl rfl (by decide +kernel) ⟨Nat.le_trans (Nat.le_of_ble_eq_true rfl) hRf, Nat.le_trans (Nat.le_of_ble_eq_true rfl) hRl⟩) ⟨ct_blind, va_recv hK hP (ci := 0) (q0 := 0) rfl rfl, ct_at F hS hP hD⟩ rfl rfl hl.1 rfl (lv_room (Nat.le_of_ble_eq_true rfl)) dX1_summer_119 ⟨hC, hSl⟩) rfl rfl hD hS ?_
  rintro ⟨fd32, lw33⟩ H locs h hP hD hS
  refine lv_aload_n hx hb dX1_summer_122 rfl (lv_at hl 0 rfl) ?_
  refine lv_aload_n hx hb dX1_summer_123 rfl (lv_at hl 0 rfl) ?_
  refine va_get hx hb hts in_X1 hown hK hP 0 rfl rfl 0 (Nat.le_of_ble_eq_true rfl) (hts _ q180) (fun _ h => h) (v := .ref (ax 0)) rfl dX1_summer_124 ?_
  refine lv_aload_n hx hb dX1_summer_127 rfl (lv_at hl 0 rfl) ?_
  refine va_get hx hb hts in_X1 hown hK hP 0 rfl rfl 9 (Nat.le_of_ble_eq_true rfl) (hts _ q195) (fun _ h => h) (v := .int (fd32 9)) rfl dX1_summer_128 ?_
  refine cl_iL F (va_runV (As := [.int (fd32 9)]) (rest := [.ref o]) ⟨hx, hb, hml, hown, hts⟩ (ct_B_wet (o := (ax 0)) (ab := axb ax 0) h _) (cwV 1 hts (lw_V q773 q774 q775 q95 q776) rfl rfl rfl (by decide +kernel) ⟨Nat.le_trans (Nat.le_of_ble_eq_true rfl) hRf, Nat.le_trans (Nat.le_of_ble_eq_true rfl) hRl⟩) ⟨ct_blind, va_recv hK hP (ci := 1) (q0 := 14) rfl rfl, ct_at F hS (putL_P hP (ps := [14, 15, 16, 17, 18]) rfl) (hD.sub ([14, 15, 16, 17, 18]) (by decide) rfl)⟩ rfl rfl hl.1 rfl (lv_room (Nat.le_of_ble_eq_true rfl)) dX1_summer_131 ⟨hC, hSl⟩) rfl rfl hP hD hS (ps := [14, 15, 16, 17, 18]) rfl (fun _ => rfl) (fun _ => wXP_0_none) ?_
  rintro x34 _ H locs h hP hD hS
  refine cl_i0 F (va_runS (As := [.int x34]) (rest := [.ref o]) ⟨hx, hb, hml, hown, hts⟩ (ct_J10_bitCount h _) (va_cwS 1 hts (lw_S q585 q586 q112 q587) rfl rfl rfl (by decide +kernel) ⟨Nat.le_trans (Nat.le_of_ble_eq_true rfl) hRf, Nat.le_trans (Nat.le_of_ble_eq_true rfl) hRl⟩) ⟨ct_blind, ct_at F hS ct_nP ct_nD⟩ rfl rfl hl.1 rfl (lv_room (Nat.le_of_ble_eq_true rfl)) dX1_summer_134 ⟨hC, hSl⟩) rfl rfl hP hS ?_
  rintro x35 _ H locs h hP hS
  refine lv_i2l (v := (x35.toInt64)) hx hb dX1_summer_137 rfl ?_
  refine cl_v F (va_runV (As := [.long (x35.toInt64)]) (rest := []) ⟨hx, hb, hml, hown, hts⟩ (ct_S_tell h _) (cwV 1 hts (lw_V q728 q730 qs19 q94 q731) rfl rfl rfl (by decide +kernel) ⟨Nat.le_trans (Nat.le_of_ble_eq_true rfl) hRf, Nat.le_trans (Nat.le_of_ble_eq_true rfl) hRl⟩) ⟨ct_blind, va_recv hK hP (ci := 0) (q0 := 0) rfl rfl, ct_at F hS hP hD⟩ rfl rfl hl.1 rfl (lv_room (Nat.le_of_ble_eq_true rfl)) dX1_summer_138 ⟨hC, hSl⟩) rfl rfl hD hS ?_
  rintro ⟨fd36, lw37⟩ H locs h hP hD hS
  refine lv_iload_n hx hb dX1_summer_141 rfl (lv_at hl 1 rfl) ?_
  replace hP := fr_dropP (xs := [(q2, .inl (gI 7, 60, .inl ac)), (q3, .inl (gI 0, 60, .inl oa)), (q4, .inl (gI 0, 60, .inl ob)), (q1, .inr (6, [.ref (ax 15), .int sz, .int en, .int pw, .ref q2, .ref q3, .ref q4, .int mny]))]) (tl := tl) hP
  replace hD := fr_dropD (xs := [(q2, .inl (gI 7, 60, .inl ac)), (q3, .inl (gI 0, 60, .inl oa)), (q4, .inl (gI 0, 60, .inl ob)), (q1, .inr (6, [.ref (ax 15), .int sz, .int en, .int pw, .ref q2, .ref q3, .ref q4, .int mny]))]) (tl := tl) hD
  exact rt_i F dX1_summer_142 rfl (fd36, ar, lw37, hh) h hP hD hS (Nat.le_of_succ_le hM) (Nat.le_trans (Nat.le_add_right _ 7) hMs)
set_option maxHeartbeats 4000000 in
theorem lp_S_summer_J3 {p : Program} {l : Launch} {e : Env} {R : Room} {s : State} {m : MethodId} {args : Array Value} {below : List Frame} {meth : Method} {c : Code} {cells slots : Nat} {A : Nat → Prop} {V : evT} {D : va_G} {gI : Nat → ClassId} {o : Nat} {ax : Nat → Nat} {tl : va_W} {v2 : Int32} {ar : Nat → Nat → Int32} {hh : HT} {rn : Option (Nat × Nat)} {ac : Nat → Int32} {oa : Nat → Int32} {ob : Nat → Int32} {sz : Int32} {en : Int32} {pw : Int32} {mny : Int32} {Q : Int32 → (Nat → Int32) → (Nat → Nat → Int32) → (Nat → Int64) → (HT) → Prop} {q2 q3 q4 q1 : Nat} (F : ct_F p m c meth cX1_summer 3 s args RX1 (some .int) A V D vwCl (tyL gI)) (hRf : 214 ≤ R.frames) (hRl : 5085 ≤ R.locals) (hC : cells ≤ R.cells) (hSl : slots ≤ R.slots) (hC1 : cells + 1 ≤ R.cells) (hS7 : slots + 7 ≤ R.slots) (hM : cells + 1 ≤ 5) (hMs : slots + 7 ≤ 195) (htab : c.exceptionTable.toList = tableOf [(21, 25, 28, 113)]) (hlt : l.stackTraces = false) :
    ∀ (fd : Nat → Int32) (lw : Nat → Int64), wp_S_summer_J3 v2 ar hh rn ac oa ob sz en pw mny Q fd lw → ∀ (H : Heap) (locs : List Loc) (ls : Array Slot), va_P D vwCl (wX gI o ax rn ([(q2, .inl (gI 7, 60, .inl ac)), (q3, .inl (gI 0, 60, .inl oa)), (q4, .inl (gI 0, 60, .inl ob)), (q1, .inr (6, [.ref (ax 15), .int sz, .int en, .int pw, .ref q2, .ref q3, .ref q4, .int mny]))] ++ tl) fd ar lw hh) H → va_D A (wX gI o ax rn ([(q2, .inl (gI 7, 60, .inl ac)), (q3, .inl (gI 0, 60, .inl oa)), (q4, .inl (gI 0, 60, .inl ob)), (q1, .inr (6, [.ref (ax 15), .int sz, .int en, .int pw, .ref q2, .ref q3, .ref q4, .int mny]))] ++ tl) fd ar lw hh) → va_S A s.heap H locs → lv_has ls 3 [(0, .ref o), (1, .ref q1), (2, .int v2)] → W p l e R s m args below meth c H locs cells slots (MQ below (va_Qi (fun (x : Int32) (u : (Nat → Int32) × (Nat → Nat → Int32) × (Nat → Int64) × (HT)) => Q x u.1 u.2.1 u.2.2.1 u.2.2.2) (fun u t => va_P D vwCl (wX gI o ax rn tl u.1 u.2.1 u.2.2.1 u.2.2.2) t.heap ∧ va_K D vwCl (tyL gI) t ∧ va_D A (wX gI o ax rn tl u.1 u.2.1 u.2.2.1 u.2.2.2)) A) args s 5 195 A) (F0 m 100 ls []) := by
  obtain ⟨⟨hx, hb, hml, hown, hts⟩, hr, hlocks, hA, hK, hE⟩ := id F
  intro fd lw h H locs ls hP hD hS hl
  unfold wp_S_summer_J3 at h
  refine lv_aload_n hx hb dX1_summer_100 rfl (lv_at hl 0 rfl) ?_
  refine lv_iconst (v := (0 : Int32)) hx hb dX1_summer_101 (by decide) ?_
  refine pt_put (v := .int (0 : Int32)) hx hb hts in_X1 tyX1 tyX1_ok nmX1 hown hK hP hD hS 0 rfl rfl 18 (Nat.le_of_ble_eq_true rfl) (hts _ q209) (fun _ h => h) rfl (ty := .int) (by decide +kernel) rfl rfl (Nat.le_of_ble_eq_true rfl) dX1_summer_102 wXF_18 (fun H locs hP hD hS => ?_)
  refine lv_aload_n hx hb dX1_summer_105 rfl (lv_at hl 0 rfl) ?_
  refine lv_iload_n hx hb dX1_summer_106 rfl (lv_at hl 2 rfl) ?_
  refine lv_aload_n hx hb dX1_summer_107 rfl (lv_at hl 1 rfl) ?_
  refine va_get hx hb hts in_X8 hown hK (fr_outP (xs := [(q2, .inl (gI 7, 60, .inl ac)), (q3, .inl (gI 0, 60, .inl oa)), (q4, .inl (gI 0, 60, .inl ob)), (q1, .inr (6, [.ref (ax 15), .int sz, .int en, .int pw, .ref q2, .ref q3, .ref q4, .int mny]))]) hP) 3 rfl rfl 7 (Nat.le_of_ble_eq_true rfl) (hts _ q794) (fun _ h => h) (v := .int mny) rfl dX1_summer_108 ?_
  refine lv_icmp_ge (tgt := 118) hx hb dX1_summer_111 (by decide) (fun c38 => ?_) (fun c38 => ?_)
  · replace h := h.1 c38
    refine lv_lconst (v := (0 : Int64)) hx hb dX1_summer_118 (by decide) ?_
    refine lp_S_summer_J4 F hRf hRl hC hSl hC1 hS7 hM hMs htab hlt  _ _ _ h _ _ _ hP hD hS (lv_sub hl [0, 2] rfl)
  · replace h := h.2 c38
    refine lv_lconst (v := (1 : Int64)) hx hb dX1_summer_114 (by decide) ?_
    refine lv_goto (tgt := 119) hx hb dX1_summer_115 (by decide) ?_
    refine lp_S_summer_J4 F hRf hRl hC hSl hC1 hS7 hM hMs htab hlt  _ _ _ h _ _ _ hP hD hS (lv_sub hl [0, 2] rfl)
set_option maxHeartbeats 4000000 in
theorem lp_S_summer_J2 {p : Program} {l : Launch} {e : Env} {R : Room} {s : State} {m : MethodId} {args : Array Value} {below : List Frame} {meth : Method} {c : Code} {cells slots : Nat} {A : Nat → Prop} {V : evT} {D : va_G} {gI : Nat → ClassId} {o : Nat} {ax : Nat → Nat} {tl : va_W} {v2 : Int32} {ar : Nat → Nat → Int32} {rn : Option (Nat × Nat)} {ac : Nat → Int32} {oa : Nat → Int32} {ob : Nat → Int32} {sz : Int32} {en : Int32} {pw : Int32} {mny : Int32} {Q : Int32 → (Nat → Int32) → (Nat → Nat → Int32) → (Nat → Int64) → (HT) → Prop} {q2 q3 q4 q1 : Nat} (F : ct_F p m c meth cX1_summer 3 s args RX1 (some .int) A V D vwCl (tyL gI)) (hRf : 214 ≤ R.frames) (hRl : 5085 ≤ R.locals) (hC : cells ≤ R.cells) (hSl : slots ≤ R.slots) (hC1 : cells + 1 ≤ R.cells) (hS7 : slots + 7 ≤ R.slots) (hM : cells + 1 ≤ 5) (hMs : slots + 7 ≤ 195) (htab : c.exceptionTable.toList = tableOf [(21, 25, 28, 113)]) (hlt : l.stackTraces = false) :
    ∀ (fd : Nat → Int32) (lw : Nat → Int64) (hh : HT), wp_S_summer_J2 v2 ar rn ac oa ob sz en pw mny Q fd lw hh → ∀ (H : Heap) (locs : List Loc) (ls : Array Slot), va_P D vwCl (wX gI o ax rn ([(q2, .inl (gI 7, 60, .inl ac)), (q3, .inl (gI 0, 60, .inl oa)), (q4, .inl (gI 0, 60, .inl ob)), (q1, .inr (6, [.ref (ax 15), .int sz, .int en, .int pw, .ref q2, .ref q3, .ref q4, .int mny]))] ++ tl) fd ar lw hh) H → va_D A (wX gI o ax rn ([(q2, .inl (gI 7, 60, .inl ac)), (q3, .inl (gI 0, 60, .inl oa)), (q4, .inl (gI 0, 60, .inl ob)), (q1, .inr (6, [.ref (ax 15), .int sz, .int en, .int pw, .ref q2, .ref q3, .ref q4, .int mny]))] ++ tl) fd ar lw hh) → va_S A s.heap H locs → lv_has ls 3 [(0, .ref o), (1, .ref q1), (2, .int v2)] → W p l e R s m args below meth c H locs cells slots (MQ below (va_Qi (fun (x : Int32) (u : (Nat → Int32) × (Nat → Nat → Int32) × (Nat → Int64) × (HT)) => Q x u.1 u.2.1 u.2.2.1 u.2.2.2) (fun u t => va_P D vwCl (wX gI o ax rn tl u.1 u.2.1 u.2.2.1 u.2.2.2) t.heap ∧ va_K D vwCl (tyL gI) t ∧ va_D A (wX gI o ax rn tl u.1 u.2.1 u.2.2.1 u.2.2.2)) A) args s 5 195 A) (F0 m 88 ls []) := by
  obtain ⟨⟨hx, hb, hml, hown, hts⟩, hr, hlocks, hA, hK, hE⟩ := id F
  intro fd lw hh h H locs ls hP hD hS hl
  unfold wp_S_summer_J2 at h
  refine lv_iload_n hx hb dX1_summer_88 rfl (lv_at hl 2 rfl) ?_
  refine lv_if_le (tgt := 100) hx hb dX1_summer_89 (by decide) (fun c41 => ?_) (fun c41 => ?_)
  · replace h := h.1 c41
    refine lp_S_summer_J3 F hRf hRl hC hSl hC1 hS7 hM hMs htab hlt  _ _ h _ _ _ hP hD hS (lv_sub hl [0, 1, 2] rfl)
  · replace h := h.2 c41
    refine lv_aload_n hx hb dX1_summer_92 rfl (lv_at hl 0 rfl) ?_
    refine lv_aload_n hx hb dX1_summer_93 rfl (lv_at hl 0 rfl) ?_
    refine va_get hx hb hts in_X1 hown hK hP 0 rfl rfl 1 (Nat.le_of_ble_eq_true rfl) (hts _ q183) (fun _ h => h) (v := .ref (ax 1)) rfl dX1_summer_94 ?_
    refine cl_v F (va_runV (As := [.ref (ax 1)]) (rest := []) ⟨hx, hb, hml, hown, hts⟩ (ct_S_remember_i1 h _) (cwV 1 hts (lw_V q655 q657 qs10 q94 q658) rfl rfl rfl (by decide +kernel) ⟨Nat.le_trans (Nat.le_of_ble_eq_true rfl) hRf, Nat.le_trans (Nat.le_of_ble_eq_true rfl) hRl⟩) ⟨ct_blind, va_recv hK hP (ci := 0) (q0 := 0) rfl rfl, ct_at F hS hP hD⟩ rfl rfl hl.1 rfl (lv_room (Nat.le_of_ble_eq_true rfl)) dX1_summer_97 ⟨hC, hSl⟩) rfl rfl hD hS ?_
    rintro ⟨fd39, hh40⟩ H locs h hP hD hS
    refine lp_S_summer_J3 F hRf hRl hC hSl hC1 hS7 hM hMs htab hlt  _ _ h _ _ _ hP hD hS (lv_sub hl [0, 1, 2] rfl)
set_option maxHeartbeats 8000000 in
theorem ct_S_summer {l : Launch} {V : evT} {D : va_G} {gI : Nat → ClassId} {o : Nat} {ax : Nat → Nat} {tl : va_W} (hlt : l.stackTraces = false) {fd : Nat → Int32} {ar : Nat → Nat → Int32} {lw : Nat → Int64} {hh : HT} {rn : Option (Nat × Nat)} {Q : Int32 → (Nat → Int32) → (Nat → Nat → Int32) → (Nat → Int64) → (HT) → Prop} (h : wp_S_summer fd ar lw hh rn Q) : ctW_i l V D (tyL gI) yX1_summer cX1_summer 3 .int [(21, 25, 28, 113)] { frames := 214, cells := 5, slots := 195, locals := 5085 } [.ref o] (wX gI o ax rn tl fd ar lw hh) (fun u : (Nat → Int32) × (Nat → Nat → Int32) × (Nat → Int64) × (HT) => (wX gI o ax rn tl u.1 u.2.1 u.2.2.1 u.2.2.2)) (fun (x : Int32) (u : (Nat → Int32) × (Nat → Nat → Int32) × (Nat → Int64) × (HT)) => Q x u.1 u.2.1 u.2.2.1 u.2.2.2) := by
  refine ctW_ofi RX1 rfl (by decide +kernel) (Nat.le_of_ble_eq_true rfl) ?_
  intro p e s m args below meth c A F htab hP hD ls hl
  obtain ⟨⟨hx, hb, hml, hown, hts⟩, hr, hlocks, hA, hK, hE⟩ := id F
  have hS : va_S A s.heap s.heap [] := va_S.rf
  have hl : lv_has ls 3 [(0, .ref o)] := hl
  have hRf : 214 ≤ ({ frames := 214, cells := 5, slots := 195, locals := 5085 } : Room).frames := Nat.le_refl _
  have hC : 0 ≤ ({ frames := 214, cells := 5, slots := 195, locals := 5085 } : Room).cells := Nat.le_of_ble_eq_true rfl
  have hSl : 0 ≤ ({ frames := 214, cells := 5, slots := 195, locals := 5085 } : Room).slots := Nat.le_of_ble_eq_true rfl
  have hC1 : 0 + 1 ≤ ({ frames := 214, cells := 5, slots := 195, locals := 5085 } : Room).cells := Nat.le_of_ble_eq_true rfl
  have hS7 : 0 + 7 ≤ ({ frames := 214, cells := 5, slots := 195, locals := 5085 } : Room).slots := Nat.le_of_ble_eq_true rfl
  have hM : 0 + 1 ≤ 5 := Nat.le_of_ble_eq_true rfl
  have hMs : 0 + 7 ≤ 195 := Nat.le_of_ble_eq_true rfl
  have hRl : 5085 ≤ ({ frames := 214, cells := 5, slots := 195, locals := 5085 } : Room).locals := Nat.le_refl _
  unfold wp_S_summer at h
  refine va_new (ci := 6) (fs := [.null, .int (0 : Int32), .int (0 : Int32), .int (0 : Int32), .null, .null, .null, .int (0 : Int32)]) (C := RX8) (T := TX8) (N := 8) hx hb hts in_X8 tyX8 tyX8_ok hown (hts _ q781) (hts _ q782) (hts _ q114) hK hP hD hS hA rfl (fun j hj => by rcases (show j = 0 ∨ j = 1 ∨ j = 2 ∨ j = 3 ∨ j = 4 ∨ j = 5 ∨ j = 6 ∨ j = 7 by omega) with rfl | rfl | rfl | rfl | rfl | rfl | rfl | rfl <;> rfl) (Nat.le_of_ble_eq_true rfl) (Nat.le_of_ble_eq_true rfl) dX1_summer_0 (fun q1 H hP hD hS => ?_)
  replace hP : va_P D vwCl (wX gI o ax rn ([(q1, .inr (6, [.null, .int (0 : Int32), .int (0 : Int32), .int (0 : Int32), .null, .null, .null, .int (0 : Int32)]))] ++ tl) fd ar lw hh) _ := frw_inP (nw := [(q1, .inr (6, [.null, .int (0 : Int32), .int (0 : Int32), .int (0 : Int32), .null, .null, .null, .int (0 : Int32)]))]) hP
  replace hD : va_D A (wX gI o ax rn ([(q1, .inr (6, [.null, .int (0 : Int32), .int (0 : Int32), .int (0 : Int32), .null, .null, .null, .int (0 : Int32)]))] ++ tl) fd ar lw hh) := frw_inD (nw := [(q1, .inr (6, [.null, .int (0 : Int32), .int (0 : Int32), .int (0 : Int32), .null, .null, .null, .int (0 : Int32)]))]) hD
  replace hC : 1 ≤ ({ frames := 214, cells := 5, slots := 195, locals := 5085 } : Room).cells := Nat.le_of_ble_eq_true rfl
  replace hSl : 8 ≤ ({ frames := 214, cells := 5, slots := 195, locals := 5085 } : Room).slots := Nat.le_of_ble_eq_true rfl
  replace hC1 : 1 + 1 ≤ ({ frames := 214, cells := 5, slots := 195, locals := 5085 } : Room).cells := Nat.le_of_ble_eq_true rfl
  replace hS7 : 8 + 7 ≤ ({ frames := 214, cells := 5, slots := 195, locals := 5085 } : Room).slots := Nat.le_of_ble_eq_true rfl
  replace hM : 1 + 1 ≤ 5 := Nat.le_of_ble_eq_true rfl
  replace hMs : 8 + 7 ≤ 195 := Nat.le_of_ble_eq_true rfl
  refine lv_dup hx hb dX1_summer_3 rfl ?_
  refine lv_aload_n hx hb dX1_summer_4 rfl (lv_at hl 0 rfl) ?_
  refine va_get hx hb hts in_X1 hown hK hP 0 rfl rfl 15 (Nat.le_of_ble_eq_true rfl) (hts _ q206) (fun _ h => h) (v := .ref (ax 15)) rfl dX1_summer_5 ?_
  refine lv_aload_n hx hb dX1_summer_8 rfl (lv_at hl 0 rfl) ?_
  refine va_get hx hb hts in_X1 hown hK hP 0 rfl rfl 16 (Nat.le_of_ble_eq_true rfl) (hts _ q207) (fun _ h => h) (v := .int (fd 16)) rfl dX1_summer_9 ?_
  replace hP := fr_outP (xs := [(q1, .inr (6, [.null, .int (0 : Int32), .int (0 : Int32), .int (0 : Int32), .null, .null, .null, .int (0 : Int32)]))]) hP
  replace hD := fr_outD (xs := [(q1, .inr (6, [.null, .int (0 : Int32), .int (0 : Int32), .int (0 : Int32), .null, .null, .null, .int (0 : Int32)]))]) hD
  refine cl_vN F (va_runI (As := [.ref (ax 15), .int (fd 16)]) (rest := [.ref q1]) ⟨hx, hb, hml, hown, hts⟩ (ct_K_X8_init (o := q1) (pt := (ax 15)) (v2 := (fd 16)) _) (cwI 2 hts (lw_meth q785) rfl rfl rfl (hts _ q114) (hts _ q783) (hts _ q784) rfl (by decide +kernel) ⟨Nat.le_trans (Nat.le_of_ble_eq_true rfl) hRf, Nat.le_trans (Nat.le_of_ble_eq_true rfl) hRl⟩) ⟨ct_blind, ct_at F hS (putL_P hP (ps := [0]) rfl) (hD.sub ([0]) (by decide) rfl)⟩ rfl rfl hl.1 rfl (lv_room (Nat.le_of_ble_eq_true rfl)) dX1_summer_12 ⟨Nat.le_of_ble_eq_true rfl, Nat.le_of_ble_eq_true rfl⟩) hP hD hS (ps := [0]) rfl (fun _ => rfl) (fun _ => rfl) ?_
  rintro ⟨q2, q3, q4⟩ H locs _ hP hD hS
  replace hP : va_P D vwCl (wX gI o ax rn ([(q2, .inl (gI 7, 60, .inl (fun _ => 0))), (q3, .inl (gI 0, 60, .inl (fun _ => 0))), (q4, .inl (gI 0, 60, .inl (fun _ => 0))), (q1, .inr (6, [.ref (ax 15), .int (fd 16), .int (mnI (fd 16) (60 : Int32)), .int (0 : Int32), .ref q2, .ref q3, .ref q4, .int (0 : Int32)]))] ++ tl) fd ar lw hh) _ := frn_inP (xs := [(q1, .inr (6, [.ref (ax 15), .int (fd 16), .int (mnI (fd 16) (60 : Int32)), .int (0 : Int32), .ref q2, .ref q3, .ref q4, .int (0 : Int32)]))]) (nw := [(q2, .inl (gI 7, 60, .inl (fun _ => 0))), (q3, .inl (gI 0, 60, .inl (fun _ => 0))), (q4, .inl (gI 0, 60, .inl (fun _ => 0)))]) hP
  replace hD : va_D A (wX gI o ax rn ([(q2, .inl (gI 7, 60, .inl (fun _ => 0))), (q3, .inl (gI 0, 60, .inl (fun _ => 0))), (q4, .inl (gI 0, 60, .inl (fun _ => 0))), (q1, .inr (6, [.ref (ax 15), .int (fd 16), .int (mnI (fd 16) (60 : Int32)), .int (0 : Int32), .ref q2, .ref q3, .ref q4, .int (0 : Int32)]))] ++ tl) fd ar lw hh) := frn_inD (xs := [(q1, .inr (6, [.ref (ax 15), .int (fd 16), .int (mnI (fd 16) (60 : Int32)), .int (0 : Int32), .ref q2, .ref q3, .ref q4, .int (0 : Int32)]))]) (nw := [(q2, .inl (gI 7, 60, .inl (fun _ => 0))), (q3, .inl (gI 0, 60, .inl (fun _ => 0))), (q4, .inl (gI 0, 60, .inl (fun _ => 0)))]) hD
  replace hC : 4 ≤ ({ frames := 214, cells := 5, slots := 195, locals := 5085 } : Room).cells := Nat.le_of_ble_eq_true rfl
  replace hSl : 188 ≤ ({ frames := 214, cells := 5, slots := 195, locals := 5085 } : Room).slots := Nat.le_of_ble_eq_true rfl
  replace hC1 : 4 + 1 ≤ ({ frames := 214, cells := 5, slots := 195, locals := 5085 } : Room).cells := Nat.le_of_ble_eq_true rfl
  replace hS7 : 188 + 7 ≤ ({ frames := 214, cells := 5, slots := 195, locals := 5085 } : Room).slots := Nat.le_of_ble_eq_true rfl
  replace hM : 4 + 1 ≤ 5 := Nat.le_of_ble_eq_true rfl
  replace hMs : 188 + 7 ≤ 195 := Nat.le_of_ble_eq_true rfl
  refine lv_astore_n (lv' := [(1, .ref q1), (0, .ref o)]) hx hb dX1_summer_15 rfl hl (by decide) rfl (fun ls hl => ?_)
  refine lv_aload_n hx hb dX1_summer_16 rfl (lv_at hl 1 rfl) ?_
  refine lv_iconst (v := (0 : Int32)) hx hb dX1_summer_17 (by decide) ?_
  refine pt_put (v := .int (0 : Int32)) hx hb hts in_X1 tyX1 tyX1_ok nmX1 hown hK hP hD hS 0 rfl rfl 16 (Nat.le_of_ble_eq_true rfl) (hts _ q207) (fun _ h => h) rfl (ty := .int) (by decide +kernel) rfl rfl (Nat.le_of_ble_eq_true rfl) dX1_summer_18 wXF_16 (fun H locs hP hD hS => ?_)
  refine lv_aload_n hx hb dX1_summer_21 rfl (lv_at hl 0 rfl) ?_
  replace hP := fr_outP (xs := [(q2, .inl (gI 7, 60, .inl (fun _ => 0))), (q3, .inl (gI 0, 60, .inl (fun _ => 0))), (q4, .inl (gI 0, 60, .inl (fun _ => 0))), (q1, .inr (6, [.ref (ax 15), .int (fd 16), .int (mnI (fd 16) (60 : Int32)), .int (0 : Int32), .ref q2, .ref q3, .ref q4, .int (0 : Int32)]))]) hP
  replace hD := fr_outD (xs := [(q2, .inl (gI 7, 60, .inl (fun _ => 0))), (q3, .inl (gI 0, 60, .inl (fun _ => 0))), (q4, .inl (gI 0, 60, .inl (fun _ => 0))), (q1, .inr (6, [.ref (ax 15), .int (fd 16), .int (mnI (fd 16) (60 : Int32)), .int (0 : Int32), .ref q2, .ref q3, .ref q4, .int (0 : Int32)]))]) hD
  refine clx_vL F (vx_runV (As := []) (rest := []) ⟨hx, hb, hml, hown, hts⟩ (cx_O_read hlt (o := q1) (pt := (ax 15)) (pa := q2) (pf := q3) (pg := q4) h _) (cwV 0 hts (lw_V q809 q810 q811 q114 q812) rfl rfl rfl (by decide +kernel) ⟨Nat.le_trans (Nat.le_of_ble_eq_true rfl) hRf, Nat.le_trans (Nat.le_of_ble_eq_true rfl) hRl⟩) ⟨ct_blind, va_recv hK hP (ci := 6) (q0 := 3) rfl rfl, ct_at F hS (putL_P hP (ps := [3, 10, 0, 1, 2]) rfl) (hD.sub ([3, 10, 0, 1, 2]) (by decide) rfl)⟩ rfl rfl hl.1 rfl (lv_room (Nat.le_of_ble_eq_true rfl)) dX1_summer_22 ⟨hC1, hS7⟩) hP hD hS (ps := [3, 10, 0, 1, 2]) rfl (fun _ => rfl) (fun _ => putL_2s rfl) (fun _ => rfl) (fun _ => putL_2s rfl) ?_ ?_
  · rintro q16 z15 ⟨pw10, mny11, ac12, oa13, ob14⟩ H locs h hP hD hS
    obtain ⟨ce, hce, hcv, hcl⟩ := fC_cell hK hP
    have hPf := pl_last hP
    replace hP := fr_inP (xs := [(q2, .inl (gI 7, 60, .inl ac12)), (q3, .inl (gI 0, 60, .inl oa13)), (q4, .inl (gI 0, 60, .inl ob14)), (q1, .inr (6, [.ref (ax 15), .int (fd 16), .int (mnI (fd 16) (60 : Int32)), .int pw10, .ref q2, .ref q3, .ref q4, .int mny11]))]) (pl_init hP)
    replace hD := fr_inD (xs := [(q2, .inl (gI 7, 60, .inl ac12)), (q3, .inl (gI 0, 60, .inl oa13)), (q4, .inl (gI 0, 60, .inl ob14)), (q1, .inr (6, [.ref (ax 15), .int (fd 16), .int (mnI (fd 16) (60 : Int32)), .int pw10, .ref q2, .ref q3, .ref q4, .int mny11]))]) (dl_init hD)
    refine vx_catch hown [] ⟨21, 25, 28, 113⟩ [] htab (fun z hz => absurd hz List.not_mem_nil) (by decide) (by decide) (hts _ q305) (va_Nw.use rfl (hE.1 _ q371 rfl)) hce hcv hcl ?_
    refine lv_astore_n (lv' := [(2, .ref q16), (1, .ref q1), (0, .ref o)]) hx hb dX1_summer_28 rfl hl (by decide) rfl (fun ls hl => ?_)
    refine lv_iconst (v := (-1 : Int32)) hx hb dX1_summer_29 (by decide) ?_
    refine lv_aload_n hx hb dX1_summer_30 rfl (lv_at hl 0 rfl) ?_
    refine va_getN (v := .int z15) hx hb hts in_F6 hown hK hPf 0 rfl rfl 0 (Nat.le_refl _) (va_Nw.use rfl (hE.1 _ q416 rfl)) (fun _ h => h) rfl dX1_summer_31 ?_
    refine lv_isub hx hb dX1_summer_34 ?_
    replace hP := fr_dropP (xs := [(q2, .inl (gI 7, 60, .inl ac12)), (q3, .inl (gI 0, 60, .inl oa13)), (q4, .inl (gI 0, 60, .inl ob14)), (q1, .inr (6, [.ref (ax 15), .int (fd 16), .int (mnI (fd 16) (60 : Int32)), .int pw10, .ref q2, .ref q3, .ref q4, .int mny11]))]) (tl := tl) hP
    replace hD := fr_dropD (xs := [(q2, .inl (gI 7, 60, .inl ac12)), (q3, .inl (gI 0, 60, .inl oa13)), (q4, .inl (gI 0, 60, .inl ob14)), (q1, .inr (6, [.ref (ax 15), .int (fd 16), .int (mnI (fd 16) (60 : Int32)), .int pw10, .ref q2, .ref q3, .ref q4, .int mny11]))]) (tl := tl) hD
    exact rt_i F dX1_summer_35 rfl ((upd fd 16 (0 : Int32)), ar, lw, hh) h hP hD hS (Nat.le_of_ble_eq_true rfl) (Nat.le_of_ble_eq_true rfl)
  · rintro ⟨pw5, mny6, ac7, oa8, ob9⟩ H locs h hP hD hS
    replace hP := fr_inP (xs := [(q2, .inl (gI 7, 60, .inl ac7)), (q3, .inl (gI 0, 60, .inl oa8)), (q4, .inl (gI 0, 60, .inl ob9)), (q1, .inr (6, [.ref (ax 15), .int (fd 16), .int (mnI (fd 16) (60 : Int32)), .int pw5, .ref q2, .ref q3, .ref q4, .int mny6]))]) hP
    replace hD := fr_inD (xs := [(q2, .inl (gI 7, 60, .inl ac7)), (q3, .inl (gI 0, 60, .inl oa8)), (q4, .inl (gI 0, 60, .inl ob9)), (q1, .inr (6, [.ref (ax 15), .int (fd 16), .int (mnI (fd 16) (60 : Int32)), .int pw5, .ref q2, .ref q3, .ref q4, .int mny6]))]) hD
    refine lv_goto (tgt := 36) hx hb dX1_summer_25 (by decide) ?_
    refine lv_aload_n hx hb dX1_summer_36 rfl (lv_at hl 1 rfl) ?_
    refine va_get hx hb hts in_X1 hown hK hP 0 rfl rfl 1 (Nat.le_of_ble_eq_true rfl) (hts _ q183) (fun _ h => h) (v := .ref (ax 1)) rfl dX1_summer_37 ?_
    refine lv_aload_n hx hb dX1_summer_40 rfl (lv_at hl 1 rfl) ?_
    refine va_get hx hb hts in_X1 hown hK hP 0 rfl rfl 0 (Nat.le_of_ble_eq_true rfl) (hts _ q180) (fun _ h => h) (v := .ref (ax 0)) rfl dX1_summer_41 ?_
    refine cl_vL F (va_runV (As := [.ref (ax 0)]) (rest := []) ⟨hx, hb, hml, hown, hts⟩ (ct_B_be (o := (ax 1)) (ab := axb ax 1) (o2 := (ax 0)) (ab2 := axb ax 0) h _) (cwV 1 hts (lw_V q659 q660 q661 q95 q662) rfl rfl rfl (by decide +kernel) ⟨Nat.le_trans (Nat.le_of_ble_eq_true rfl) hRf, Nat.le_trans (Nat.le_of_ble_eq_true rfl) hRl⟩) ⟨ct_blind, va_recv hK hP (ci := 1) (q0 := 19) rfl rfl, ct_at F hS (putL_P hP (ps := [19, 20, 21, 22, 23, 14, 15, 16, 17, 18]) rfl) (hD.sub ([19, 20, 21, 22, 23, 14, 15, 16, 17, 18]) (by decide) rfl)⟩ rfl rfl hl.1 rfl (lv_room (Nat.le_of_ble_eq_true rfl)) dX1_summer_44 ⟨hC, hSl⟩) rfl rfl hP hD hS (ps := [19, 20, 21, 22, 23, 14, 15, 16, 17, 18]) rfl (fun _ => rfl) (fun _ => wXPP_1_0) ?_
    rintro ⟨wl17, dp18, aa19, md20, mo21, sp22, ti23⟩ H locs h hP hD hS
    refine lv_iconst (v := (0 : Int32)) hx hb dX1_summer_47 (by decide) ?_
    refine lv_istore_n (lv' := [(2, .int (0 : Int32)), (1, .ref q1), (0, .ref o)]) hx hb dX1_summer_48 rfl hl (by decide) rfl (fun ls hl => ?_)
    obtain ⟨k49, h⟩ := h
    refine lp_S_summer_L1 F hRf hRl hC hSl hC1 hS7 hM hMs htab hlt ?hk88 k49 _ _ _ h _ _ _ hP hD hS (lv_sub hl [2, 1, 0] rfl)
    case hk88 =>
      intro v2_29 fd_30 ar_31 h H locs ls hP hD hS hl
      refine lp_S_summer_J2 F hRf hRl hC hSl hC1 hS7 hM hMs htab hlt  _ _ _ h _ _ _ hP hD hS (lv_sub hl [0, 1, 2] rfl)
