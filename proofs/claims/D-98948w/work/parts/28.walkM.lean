/-! walks of the model (printed by gen/mk.py) -/
set_option maxRecDepth 100000
set_option maxHeartbeats 4000000 in
theorem lp_M_readsRule_J2 {p : Program} {l : Launch} {e : Env} {R : Room} {s : State} {m : MethodId} {args : Array Value} {below : List Frame} {meth : Method} {c : Code} {cells slots : Nat} {A : Nat → Prop} {V : evT} {D : va_G} {gI : Nat → ClassId} {o : Nat} {ad : Nat → Nat} {v1 : Int32} {fd : Nat → Int32} {ar : Nat → Nat → Int32} {lw : Nat → Int64} {Q : Int32 → (Nat → Int32) → (Nat → Nat → Int32) → Prop} (F : ct_F p m c meth cX3_readsRule 3 s args RX3 (some .int) A V D vwCl (tyL gI)) (hRf : 208 ≤ R.frames) (hRl : 4764 ≤ R.locals) (hC : cells ≤ R.cells) (hSl : slots ≤ R.slots) :
    ∀ (t0 : Int32), wp_M_readsRule_J2 v1 fd ar lw Q t0 → ∀ (H : Heap) (locs : List Loc) (ls : Array Slot), va_P D vwCl (wm gI o ad fd ar lw) H → va_D A (wm gI o ad fd ar lw) → va_S A s.heap H locs → lv_has ls 3 [(0, .ref o), (1, .int v1)] → W p l e R s m args below meth c H locs cells slots (MQ below (va_Qi (fun (x : Int32) (u : (Nat → Int32) × (Nat → Nat → Int32)) => Q x u.1 u.2) (fun u t => va_P D vwCl (wm gI o ad u.1 u.2 lw) t.heap ∧ va_K D vwCl (tyL gI) t ∧ va_D A (wm gI o ad u.1 u.2 lw)) A) args s cells slots A) (F0 m 29 ls [.int t0]) := by
  obtain ⟨⟨hx, hb, hml, hown, hts⟩, hr, hlocks, hA, hK, hE⟩ := id F
  intro t0 h H locs ls hP hD hS hl
  unfold wp_M_readsRule_J2 at h
  refine lv_istore_n (lv' := [(2, .int t0), (0, .ref o), (1, .int v1)]) hx hb dX3_readsRule_29 rfl hl (by decide) rfl (fun ls hl => ?_)
  refine lv_aload_n hx hb dX3_readsRule_30 rfl (lv_at hl 1 rfl) ?_
  refine lv_iload_n hx hb dX3_readsRule_31 rfl (lv_at hl 2 rfl) ?_
  refine lv_bipush (v := (40 : Int32)) hx hb dX3_readsRule_32 (by decide) ?_
  refine lv_iload_n hx hb dX3_readsRule_34 rfl (lv_at hl 0 rfl) ?_
  refine cl_i F (va_runV (As := [.int v1, .int (40 : Int32), .int t0]) (rest := []) ⟨hx, hb, hml, hown, hts⟩ (ct_M_faultOf h _) (cwV 3 hts (lw_V q1436 q1438 qs43 q97 q1439) rfl rfl rfl (by decide +kernel) ⟨Nat.le_trans (Nat.le_of_ble_eq_true rfl) hRf, Nat.le_trans (Nat.le_of_ble_eq_true rfl) hRl⟩) ⟨ct_blind, va_recv hK hP (ci := 2) (q0 := 0) rfl rfl, ct_at F hS hP hD⟩ rfl rfl hl.1 rfl (lv_room (Nat.le_of_ble_eq_true rfl)) dX3_readsRule_35 ⟨hC, hSl⟩) rfl rfl hD hS ?_
  rintro x3 _ H locs h hP hD hS
  exact rt_i F dX3_readsRule_38 rfl (fd, ar) h hP hD hS (Nat.le_refl _) (Nat.le_refl _)
set_option maxHeartbeats 4000000 in
theorem lp_M_readsRule_J1 {p : Program} {l : Launch} {e : Env} {R : Room} {s : State} {m : MethodId} {args : Array Value} {below : List Frame} {meth : Method} {c : Code} {cells slots : Nat} {A : Nat → Prop} {V : evT} {D : va_G} {gI : Nat → ClassId} {o : Nat} {ad : Nat → Nat} {v1 : Int32} {fd : Nat → Int32} {ar : Nat → Nat → Int32} {lw : Nat → Int64} {Q : Int32 → (Nat → Int32) → (Nat → Nat → Int32) → Prop} (F : ct_F p m c meth cX3_readsRule 3 s args RX3 (some .int) A V D vwCl (tyL gI)) (hRf : 208 ≤ R.frames) (hRl : 4764 ≤ R.locals) (hC : cells ≤ R.cells) (hSl : slots ≤ R.slots) :
    wp_M_readsRule_J1 v1 fd ar lw Q → ∀ (H : Heap) (locs : List Loc) (ls : Array Slot), va_P D vwCl (wm gI o ad fd ar lw) H → va_D A (wm gI o ad fd ar lw) → va_S A s.heap H locs → lv_has ls 3 [(0, .ref o), (1, .int v1)] → W p l e R s m args below meth c H locs cells slots (MQ below (va_Qi (fun (x : Int32) (u : (Nat → Int32) × (Nat → Nat → Int32)) => Q x u.1 u.2) (fun u t => va_P D vwCl (wm gI o ad u.1 u.2 lw) t.heap ∧ va_K D vwCl (tyL gI) t ∧ va_D A (wm gI o ad u.1 u.2 lw)) A) args s cells slots A) (F0 m 24 ls []) := by
  obtain ⟨⟨hx, hb, hml, hown, hts⟩, hr, hlocks, hA, hK, hE⟩ := id F
  intro  h H locs ls hP hD hS hl
  unfold wp_M_readsRule_J1 at h
  refine lv_iconst (v := (1 : Int32)) hx hb dX3_readsRule_24 (by decide) ?_
  refine lv_goto (tgt := 29) hx hb dX3_readsRule_25 (by decide) ?_
  refine lp_M_readsRule_J2 F hRf hRl hC hSl  _ h _ _ _ hP hD hS (lv_sub hl [0, 1] rfl)
set_option maxHeartbeats 4000000 in
theorem ct_M_readsRule {l : Launch} {V : evT} {D : va_G} {gI : Nat → ClassId} {o : Nat} {ad : Nat → Nat} {fd : Nat → Int32} {ar : Nat → Nat → Int32} {lw : Nat → Int64} {Q : Int32 → (Nat → Int32) → (Nat → Nat → Int32) → Prop} (h : wp_M_readsRule fd ar lw Q) : ct_i l V D vwCl (tyL gI) yX3_readsRule cX3_readsRule 3 .int { frames := 208, cells := 0, slots := 0, locals := 4764 } [.ref o] (wm gI o ad fd ar lw) (fun u : (Nat → Int32) × (Nat → Nat → Int32) => (wm gI o ad u.1 u.2 lw)) (fun (x : Int32) (u : (Nat → Int32) × (Nat → Nat → Int32)) => Q x u.1 u.2) := by
  refine ct_ofi RX3 rfl (by decide +kernel) (Nat.le_of_ble_eq_true rfl) ?_
  intro p e s m args below meth c A F hP hD ls hl
  obtain ⟨⟨hx, hb, hml, hown, hts⟩, hr, hlocks, hA, hK, hE⟩ := id F
  have hS : va_S A s.heap s.heap [] := va_S.rf
  have hl : lv_has ls 3 [(0, .ref o)] := hl
  have hRf : 208 ≤ ({ frames := 208, cells := 0, slots := 0, locals := 4764 } : Room).frames := Nat.le_refl _
  have hRl : 4764 ≤ ({ frames := 208, cells := 0, slots := 0, locals := 4764 } : Room).locals := Nat.le_refl _
  have hC : 0 ≤ ({ frames := 208, cells := 0, slots := 0, locals := 4764 } : Room).cells := Nat.le_refl _
  have hSl : 0 ≤ ({ frames := 208, cells := 0, slots := 0, locals := 4764 } : Room).slots := Nat.le_refl _
  unfold wp_M_readsRule at h
  refine lv_aload_n hx hb dX3_readsRule_0 rfl (lv_at hl 0 rfl) ?_
  refine lv_bipush (v := (40 : Int32)) hx hb dX3_readsRule_1 (by decide) ?_
  refine cl_i F (va_runV (As := [.int (40 : Int32)]) (rest := []) ⟨hx, hb, hml, hown, hts⟩ (ct_M_begins h _) (cwV 1 hts (lw_V q1398 q1400 qs36 q97 q1401) rfl rfl rfl (by decide +kernel) ⟨Nat.le_trans (Nat.le_of_ble_eq_true rfl) hRf, Nat.le_trans (Nat.le_of_ble_eq_true rfl) hRl⟩) ⟨ct_blind, va_recv hK hP (ci := 2) (q0 := 0) rfl rfl, ct_at F hS hP hD⟩ rfl rfl hl.1 rfl (lv_room (Nat.le_of_ble_eq_true rfl)) dX3_readsRule_3 ⟨hC, hSl⟩) rfl rfl hD hS ?_
  rintro x1 fd2 H locs h hP hD hS
  refine lv_istore_n (lv' := [(1, .int x1), (0, .ref o)]) hx hb dX3_readsRule_6 rfl hl (by decide) rfl (fun ls hl => ?_)
  refine lv_aload_n hx hb dX3_readsRule_7 rfl (lv_at hl 1 rfl) ?_
  refine lv_iconst (v := (0 : Int32)) hx hb dX3_readsRule_8 (by decide) ?_
  refine pt_put (v := .int (0 : Int32)) hx hb hts in_X3 tyX3 tyX3_ok nmX3 hown hK hP hD hS 0 rfl rfl 24 (Nat.le_of_ble_eq_true rfl) (hts _ q1242) (fun _ h => h) rfl (ty := .int) (by decide +kernel) rfl rfl (Nat.le_of_ble_eq_true rfl) dX3_readsRule_9 wmF_24 (fun H locs hP hD hS => ?_)
  refine lv_iload_n hx hb dX3_readsRule_12 rfl (lv_at hl 0 rfl) ?_
  refine lv_if_eq (tgt := 24) hx hb dX3_readsRule_13 (by decide) (fun c8 => ?_) (fun c8 => ?_)
  · replace h := h.1 c8
    refine lp_M_readsRule_J1 F hRf hRl hC hSl   h _ _ _ hP hD hS (lv_sub hl [1, 0] rfl)
  · replace h := h.2 c8
    refine lv_aload_n hx hb dX3_readsRule_16 rfl (lv_at hl 1 rfl) ?_
    refine lv_iconst (v := (0 : Int32)) hx hb dX3_readsRule_17 (by decide) ?_
    refine cl_i F (va_runV (As := [.int (0 : Int32)]) (rest := []) ⟨hx, hb, hml, hown, hts⟩ (ct_M_readsRank h _) (cwV 1 hts (lw_V q1448 q1450 qs45 q97 q1451) rfl rfl rfl (by decide +kernel) ⟨Nat.le_trans (Nat.le_of_ble_eq_true rfl) hRf, Nat.le_trans (Nat.le_of_ble_eq_true rfl) hRl⟩) ⟨ct_blind, va_recv hK hP (ci := 2) (q0 := 0) rfl rfl, ct_at F hS hP hD⟩ rfl rfl hl.1 rfl (lv_room (Nat.le_of_ble_eq_true rfl)) dX3_readsRule_18 ⟨hC, hSl⟩) rfl rfl hD hS ?_
    rintro x4 ⟨fd5, ar6⟩ H locs h hP hD hS
    refine lv_if_eq (tgt := 28) hx hb dX3_readsRule_21 (by decide) (fun c7 => ?_) (fun c7 => ?_)
    · replace h := h.1 c7
      refine lv_iconst (v := (0 : Int32)) hx hb dX3_readsRule_28 (by decide) ?_
      refine lp_M_readsRule_J2 F hRf hRl hC hSl  _ h _ _ _ hP hD hS (lv_sub hl [1, 0] rfl)
    · replace h := h.2 c7
      refine lp_M_readsRule_J1 F hRf hRl hC hSl   h _ _ _ hP hD hS (lv_sub hl [1, 0] rfl)
set_option maxHeartbeats 4000000 in
theorem lp_M_crew_L1 {p : Program} {l : Launch} {e : Env} {R : Room} {s : State} {m : MethodId} {args : Array Value} {below : List Frame} {meth : Method} {c : Code} {cells slots : Nat} {A : Nat → Prop} {Qf : State → Prop} {V : evT} {D : va_G} {gI : Nat → ClassId} {o : Nat} {ad : Nat → Nat} {ar : Nat → Nat → Int32} {K108 : (Nat → Int32) → (Nat → Int64) → Prop} (F : ct_F p m c meth cX3_crew 4 s args RX3 (some .int) A V D vwCl (tyL gI)) (hRf : 19 ≤ R.frames) (hRl : 446 ≤ R.locals) (hC : cells ≤ R.cells) (hSl : slots ≤ R.slots)
    (hK108 : ∀ (fd : Nat → Int32) (lw : Nat → Int64), K108 fd lw → ∀ (H : Heap) (locs : List Loc) (ls : Array Slot), va_P D vwCl (wm gI o ad fd ar lw) H → va_D A (wm gI o ad fd ar lw) → va_S A s.heap H locs → lv_has ls 4 [(0, .ref o)] → W p l e R s m args below meth c H locs cells slots Qf (F0 m 108 ls [])) :
    ∀ (n : Nat) (v3 : Int32) (fd : Nat → Int32) (lw : Nat → Int64), wp_M_crew_L1 ar K108 n v3 fd lw → ∀ (H : Heap) (locs : List Loc) (ls : Array Slot), va_P D vwCl (wm gI o ad fd ar lw) H → va_D A (wm gI o ad fd ar lw) → va_S A s.heap H locs → lv_has ls 4 [(0, .ref o), (3, .int v3)] → W p l e R s m args below meth c H locs cells slots Qf (F0 m 83 ls []) := by
  obtain ⟨⟨hx, hb, hml, hown, hts⟩, hr, hlocks, hA, hK, hE⟩ := id F
  intro n
  induction n with
  | zero => intro v3 fd lw h; exact h.elim
  | succ n ih =>
    intro v3 fd lw h H locs ls hP hD hS hl
    unfold wp_M_crew_L1 at h
    refine lv_iload_n hx hb dX3_crew_83 rfl (lv_at hl 1 rfl) ?_
    refine lv_aload_n hx hb dX3_crew_84 rfl (lv_at hl 0 rfl) ?_
    refine va_get hx hb hts in_X3 hown hK hP 0 rfl rfl 4 (Nat.le_of_ble_eq_true rfl) (hts _ q1222) (fun _ h => h) (v := .int (fd 4)) rfl dX3_crew_85 ?_
    refine lv_icmp_ge (tgt := 108) hx hb dX3_crew_88 (by decide) (fun c8 => ?_) (fun c8 => ?_)
    · replace h := h.1 c8
      exact hK108 _ _ h _ _ _ hP hD hS (lv_sub hl [0] rfl)
    · replace h := h.2 c8
      refine lv_aload_n hx hb dX3_crew_91 rfl (lv_at hl 0 rfl) ?_
      refine lv_aload_n hx hb dX3_crew_92 rfl (lv_at hl 0 rfl) ?_
      refine va_get hx hb hts in_X3 hown hK hP 0 rfl rfl 39 (Nat.le_of_ble_eq_true rfl) (hts _ q1257) (fun _ h => h) (v := .ref (ad 39)) rfl dX3_crew_93 ?_
      refine lv_iload_n hx hb dX3_crew_96 rfl (lv_at hl 1 rfl) ?_
      refine va_iald (f := (ar 39)) hx hb hK hP 23 0 rfl rfl h.1 dX3_crew_97 ?_
      replace h := h.2
      refine lv_i2l (v := ((ar 39 v3.toNatClampNeg).toInt64)) hx hb dX3_crew_98 rfl ?_
      refine cl_v F (va_runV (As := [.long ((ar 39 v3.toNatClampNeg).toInt64)]) (rest := []) ⟨hx, hb, hml, hown, hts⟩ (ct_M_enters h _) (cwV 1 hts (lw_V q1634 q1636 qs70 q97 q1637) rfl rfl rfl (by decide +kernel) ⟨Nat.le_trans (Nat.le_of_ble_eq_true rfl) hRf, Nat.le_trans (Nat.le_of_ble_eq_true rfl) hRl⟩) ⟨ct_blind, va_recv hK hP (ci := 2) (q0 := 0) rfl rfl, ct_at F hS hP hD⟩ rfl rfl hl.1 rfl (lv_room (Nat.le_of_ble_eq_true rfl)) dX3_crew_99 ⟨hC, hSl⟩) rfl rfl hD hS ?_
      rintro ⟨fd6, lw7⟩ H locs h hP hD hS
      refine lv_iinc (v := (v3 + (1 : Int32))) (lv' := [(3, .int (v3 + (1 : Int32))), (0, .ref o)]) hx hb dX3_crew_102 hl (k := 1) rfl rfl (by decide) rfl (fun ls hl => ?_)
      refine lv_goto (tgt := 83) hx hb dX3_crew_105 (by decide) ?_
      exact ih _ _ _ h _ _ _ hP hD hS (lv_sub hl [1, 0] rfl)
set_option maxHeartbeats 4000000 in
theorem ct_M_crew {l : Launch} {V : evT} {D : va_G} {gI : Nat → ClassId} {o : Nat} {ad : Nat → Nat} {v1 : Int32} {v2 : Int32} {fd : Nat → Int32} {ar : Nat → Nat → Int32} {lw : Nat → Int64} {Q : Int32 → (Nat → Int32) → (Nat → Nat → Int32) → (Nat → Int64) → Prop} (h : wp_M_crew v1 v2 fd ar lw Q) : ct_i l V D vwCl (tyL gI) yX3_crew cX3_crew 4 .int { frames := 19, cells := 0, slots := 0, locals := 446 } [.ref o, .int v1, .int v2] (wm gI o ad fd ar lw) (fun u : (Nat → Int32) × (Nat → Nat → Int32) × (Nat → Int64) => (wm gI o ad u.1 u.2.1 u.2.2)) (fun (x : Int32) (u : (Nat → Int32) × (Nat → Nat → Int32) × (Nat → Int64)) => Q x u.1 u.2.1 u.2.2) := by
  refine ct_ofi RX3 rfl (by decide +kernel) (Nat.le_of_ble_eq_true rfl) ?_
  intro p e s m args below meth c A F hP hD ls hl
  obtain ⟨⟨hx, hb, hml, hown, hts⟩, hr, hlocks, hA, hK, hE⟩ := id F
  have hS : va_S A s.heap s.heap [] := va_S.rf
  have hl : lv_has ls 4 [(0, .ref o), (1, .int v1), (2, .int v2)] := hl
  have hRf : 19 ≤ ({ frames := 19, cells := 0, slots := 0, locals := 446 } : Room).frames := Nat.le_refl _
  have hRl : 446 ≤ ({ frames := 19, cells := 0, slots := 0, locals := 446 } : Room).locals := Nat.le_refl _
  have hC : 0 ≤ ({ frames := 19, cells := 0, slots := 0, locals := 446 } : Room).cells := Nat.le_refl _
  have hSl : 0 ≤ ({ frames := 19, cells := 0, slots := 0, locals := 446 } : Room).slots := Nat.le_refl _
  unfold wp_M_crew at h
  refine lv_aload_n hx hb dX3_crew_0 rfl (lv_at hl 0 rfl) ?_
  refine lv_iconst (v := (0 : Int32)) hx hb dX3_crew_1 (by decide) ?_
  refine pt_put (v := .int (0 : Int32)) hx hb hts in_X3 tyX3 tyX3_ok nmX3 hown hK hP hD hS 0 rfl rfl 0 (Nat.le_of_ble_eq_true rfl) (hts _ q1218) (fun _ h => h) rfl (ty := .int) (by decide +kernel) rfl rfl (Nat.le_of_ble_eq_true rfl) dX3_crew_2 wmF_0 (fun H locs hP hD hS => ?_)
  refine lv_iload_n hx hb dX3_crew_5 rfl (lv_at hl 1 rfl) ?_
  refine lv_i2l (v := (v1.toInt64)) hx hb dX3_crew_6 rfl ?_
  refine lv_lconst (v := (0 : Int64)) hx hb dX3_crew_7 (by decide) ?_
  refine lv_iconst (v := (1 : Int32)) hx hb dX3_crew_8 (by decide) ?_
  refine lv_aload_n hx hb dX3_crew_9 rfl (lv_at hl 0 rfl) ?_
  refine va_get hx hb hts in_X3 hown hK hP 0 rfl rfl 4 (Nat.le_of_ble_eq_true rfl) (hts _ q1222) (fun _ h => h) (v := .int (fd 4)) rfl dX3_crew_10 ?_
  refine lv_ishl hx hb dX3_crew_13 ?_
  refine lv_iconst (v := (1 : Int32)) hx hb dX3_crew_14 (by decide) ?_
  refine lv_isub hx hb dX3_crew_15 ?_
  refine lv_i2l (v := ((((1 : Int32) <<< ((fd 4) &&& 31)) - (1 : Int32)).toInt64)) hx hb dX3_crew_16 rfl ?_
  refine cl_i0 F (va_runS (As := [.long (v1.toInt64), .long (0 : Int64), .long ((((1 : Int32) <<< ((fd 4) &&& 31)) - (1 : Int32)).toInt64)]) (rest := []) ⟨hx, hb, hml, hown, hts⟩ (ct_X3_in h _) (va_cwS 3 hts (lw_S q1391 q1392 q97 q1393) rfl rfl rfl (by decide +kernel) ⟨Nat.le_trans (Nat.le_of_ble_eq_true rfl) hRf, Nat.le_trans (Nat.le_of_ble_eq_true rfl) hRl⟩) ⟨ct_blind, ct_at F hS ct_nP ct_nD⟩ rfl rfl hl.1 rfl (lv_room (Nat.le_of_ble_eq_true rfl)) dX3_crew_17 ⟨hC, hSl⟩) rfl rfl hP hS ?_
  rintro x1 _ H locs h hP hS
  refine lv_if_eq (tgt := 35) hx hb dX3_crew_20 (by decide) (fun c14 => ?_) (fun c14 => ?_)
  · replace h := h.1 c14
    refine lv_iconst (v := (-1 : Int32)) hx hb dX3_crew_35 (by decide) ?_
    exact rt_i F dX3_crew_36 rfl ((upd fd 0 (0 : Int32)), ar, lw) h hP hD hS (Nat.le_refl _) (Nat.le_refl _)
  · replace h := h.2 c14
    refine lv_iload_n hx hb dX3_crew_23 rfl (lv_at hl 2 rfl) ?_
    refine lv_i2l (v := (v2.toInt64)) hx hb dX3_crew_24 rfl ?_
    refine lv_lconst (v := (1 : Int64)) hx hb dX3_crew_25 (by decide) ?_
    refine lv_ldc2 (v := (9 : Int64)) hx hb hown (hts _ q1554) dX3_crew_26 ?_
    refine cl_i0 F (va_runS (As := [.long (v2.toInt64), .long (1 : Int64), .long (9 : Int64)]) (rest := []) ⟨hx, hb, hml, hown, hts⟩ (ct_X3_in h _) (va_cwS 3 hts (lw_S q1391 q1392 q97 q1393) rfl rfl rfl (by decide +kernel) ⟨Nat.le_trans (Nat.le_of_ble_eq_true rfl) hRf, Nat.le_trans (Nat.le_of_ble_eq_true rfl) hRl⟩) ⟨ct_blind, ct_at F hS ct_nP ct_nD⟩ rfl rfl hl.1 rfl (lv_room (Nat.le_of_ble_eq_true rfl)) dX3_crew_29 ⟨hC, hSl⟩) rfl rfl hP hS ?_
    rintro x2 _ H locs h hP hS
    refine lv_if_ne (tgt := 37) hx hb dX3_crew_32 (by decide) (fun c13 => ?_) (fun c13 => ?_)
    · replace h := h.1 c13
      refine lv_iload_n hx hb dX3_crew_37 rfl (lv_at hl 1 rfl) ?_
      refine cl_i0 F (va_runS (As := [.int v1]) (rest := []) ⟨hx, hb, hml, hown, hts⟩ (ct_J10_bitCount h _) (va_cwS 1 hts (lw_S q1552 q586 q112 q587) rfl rfl rfl (by decide +kernel) ⟨Nat.le_trans (Nat.le_of_ble_eq_true rfl) hRf, Nat.le_trans (Nat.le_of_ble_eq_true rfl) hRl⟩) ⟨ct_blind, ct_at F hS ct_nP ct_nD⟩ rfl rfl hl.1 rfl (lv_room (Nat.le_of_ble_eq_true rfl)) dX3_crew_38 ⟨hC, hSl⟩) rfl rfl hP hS ?_
      rintro x3 _ H locs h hP hS
      refine lv_iconst (v := (4 : Int32)) hx hb dX3_crew_41 (by decide) ?_
      refine lv_icmp_le (tgt := 48) hx hb dX3_crew_42 (by decide) (fun c12 => ?_) (fun c12 => ?_)
      · replace h := h.1 c12
        refine lv_aload_n hx hb dX3_crew_48 rfl (lv_at hl 0 rfl) ?_
        refine lv_ldcw (v := (1000000 : Int32)) hx hb hown (hts _ q1747) dX3_crew_49 ?_
        refine pt_put (v := .int (1000000 : Int32)) hx hb hts in_X3 tyX3 tyX3_ok nmX3 hown hK hP hD hS 0 rfl rfl 40 (Nat.le_of_ble_eq_true rfl) (hts _ q1258) (fun _ h => h) rfl (ty := .int) (by decide +kernel) rfl rfl (Nat.le_of_ble_eq_true rfl) dX3_crew_52 wmF_40 (fun H locs hP hD hS => ?_)
        refine lv_aload_n hx hb dX3_crew_55 rfl (lv_at hl 0 rfl) ?_
        refine lv_iconst (v := (0 : Int32)) hx hb dX3_crew_56 (by decide) ?_
        refine lv_iload_n hx hb dX3_crew_57 rfl (lv_at hl 1 rfl) ?_
        refine lv_iconst (v := (0 : Int32)) hx hb dX3_crew_58 (by decide) ?_
        refine lv_iload_n hx hb dX3_crew_59 rfl (lv_at hl 2 rfl) ?_
        refine cl_v F (va_runV (As := [.int (0 : Int32), .int v1, .int (0 : Int32), .int v2]) (rest := []) ⟨hx, hb, hml, hown, hts⟩ (ct_M_crewsFrom h _) (cwV 4 hts (lw_V q1748 q1750 qs86 q97 q1751) rfl rfl rfl (by decide +kernel) ⟨Nat.le_trans (Nat.le_of_ble_eq_true rfl) hRf, Nat.le_trans (Nat.le_of_ble_eq_true rfl) hRl⟩) ⟨ct_blind, va_recv hK hP (ci := 2) (q0 := 0) rfl rfl, ct_at F hS hP hD⟩ rfl rfl hl.1 rfl (lv_room (Nat.le_of_ble_eq_true rfl)) dX3_crew_60 ⟨hC, hSl⟩) rfl rfl hD hS ?_
        rintro ⟨fd4, ar5⟩ H locs h hP hD hS
        refine lv_aload_n hx hb dX3_crew_63 rfl (lv_at hl 0 rfl) ?_
        refine va_get hx hb hts in_X3 hown hK hP 0 rfl rfl 40 (Nat.le_of_ble_eq_true rfl) (hts _ q1258) (fun _ h => h) (v := .int (fd4 40)) rfl dX3_crew_64 ?_
        refine lv_ldcw (v := (1000000 : Int32)) hx hb hown (hts _ q1747) dX3_crew_67 ?_
        refine lv_icmp_ne (tgt := 76) hx hb dX3_crew_70 (by decide) (fun c11 => ?_) (fun c11 => ?_)
        · replace h := h.1 c11
          refine lv_aload_n hx hb dX3_crew_76 rfl (lv_at hl 0 rfl) ?_
          refine lv_iconst (v := (0 : Int32)) hx hb dX3_crew_77 (by decide) ?_
          refine pt_put (v := .int (0 : Int32)) hx hb hts in_X3 tyX3 tyX3_ok nmX3 hown hK hP hD hS 0 rfl rfl 1 (Nat.le_of_ble_eq_true rfl) (hts _ q1219) (fun _ h => h) rfl (ty := .int) (by decide +kernel) rfl rfl (Nat.le_of_ble_eq_true rfl) dX3_crew_78 wmF_1 (fun H locs hP hD hS => ?_)
          refine lv_iconst (v := (0 : Int32)) hx hb dX3_crew_81 (by decide) ?_
          refine lv_istore_n (lv' := [(3, .int (0 : Int32)), (0, .ref o), (1, .int v1), (2, .int v2)]) hx hb dX3_crew_82 rfl hl (by decide) rfl (fun ls hl => ?_)
          obtain ⟨k83, h⟩ := h
          refine lp_M_crew_L1 F hRf hRl hC hSl ?hk108 k83 _ _ _ h _ _ _ hP hD hS (lv_sub hl [1, 0] rfl)
          case hk108 =>
            intro fd_9 lw_10 h H locs ls hP hD hS hl
            refine lv_aload_n hx hb dX3_crew_108 rfl (lv_at hl 0 rfl) ?_
            refine va_get hx hb hts in_X3 hown hK hP 0 rfl rfl 40 (Nat.le_of_ble_eq_true rfl) (hts _ q1258) (fun _ h => h) (v := .int (fd_9 40)) rfl dX3_crew_109 ?_
            exact rt_i F dX3_crew_112 rfl (fd_9, ar5, lw_10) h hP hD hS (Nat.le_refl _) (Nat.le_refl _)
        · replace h := h.2 c11
          refine lv_bipush (v := (-2 : Int32)) hx hb dX3_crew_73 (by decide) ?_
          exact rt_i F dX3_crew_75 rfl (fd4, ar5, lw) h hP hD hS (Nat.le_refl _) (Nat.le_refl _)
      · replace h := h.2 c12
        refine lv_bipush (v := (-3 : Int32)) hx hb dX3_crew_45 (by decide) ?_
        exact rt_i F dX3_crew_47 rfl ((upd fd 0 (0 : Int32)), ar, lw) h hP hD hS (Nat.le_refl _) (Nat.le_refl _)
    · replace h := h.2 c13
      refine lv_iconst (v := (-1 : Int32)) hx hb dX3_crew_35 (by decide) ?_
      exact rt_i F dX3_crew_36 rfl ((upd fd 0 (0 : Int32)), ar, lw) h hP hD hS (Nat.le_refl _) (Nat.le_refl _)
set_option maxHeartbeats 4000000 in
theorem lp_M_laysPlaces_L1 {p : Program} {l : Launch} {e : Env} {R : Room} {s : State} {m : MethodId} {args : Array Value} {below : List Frame} {meth : Method} {c : Code} {cells slots : Nat} {A : Nat → Prop} {Qf : State → Prop} {V : evT} {D : va_G} {gI : Nat → ClassId} {o : Nat} {ad : Nat → Nat} {fd : Nat → Int32} {lw : Nat → Int64} {K28 : (Nat → Nat → Int32) → Prop} (F : ct_F p m c meth cX3_laysPlaces 2 s args RX3 none A V D vwCl (tyL gI)) (hRf : 14 ≤ R.frames) (hRl : 297 ≤ R.locals) (hC : cells ≤ R.cells) (hSl : slots ≤ R.slots)
    (hK28 : ∀ (ar : Nat → Nat → Int32), K28 ar → ∀ (H : Heap) (locs : List Loc) (ls : Array Slot), va_P D vwCl (wm gI o ad fd ar lw) H → va_D A (wm gI o ad fd ar lw) → va_S A s.heap H locs → lv_has ls 2 [(0, .ref o)] → W p l e R s m args below meth c H locs cells slots Qf (F0 m 28 ls [])) :
    ∀ (n : Nat) (v1 : Int32) (ar : Nat → Nat → Int32), wp_M_laysPlaces_L1 fd lw K28 n v1 ar → ∀ (H : Heap) (locs : List Loc) (ls : Array Slot), va_P D vwCl (wm gI o ad fd ar lw) H → va_D A (wm gI o ad fd ar lw) → va_S A s.heap H locs → lv_has ls 2 [(0, .ref o), (1, .int v1)] → W p l e R s m args below meth c H locs cells slots Qf (F0 m 7 ls []) := by
  obtain ⟨⟨hx, hb, hml, hown, hts⟩, hr, hlocks, hA, hK, hE⟩ := id F
  intro n
  induction n with
  | zero => intro v1 ar h; exact h.elim
  | succ n ih =>
    intro v1 ar h H locs ls hP hD hS hl
    unfold wp_M_laysPlaces_L1 at h
    refine lv_iload_n hx hb dX3_laysPlaces_7 rfl (lv_at hl 1 rfl) ?_
    refine lv_aload_n hx hb dX3_laysPlaces_8 rfl (lv_at hl 0 rfl) ?_
    refine va_get hx hb hts in_X3 hown hK hP 0 rfl rfl 4 (Nat.le_of_ble_eq_true rfl) (hts _ q1222) (fun _ h => h) (v := .int (fd 4)) rfl dX3_laysPlaces_9 ?_
    refine lv_icmp_ge (tgt := 28) hx hb dX3_laysPlaces_12 (by decide) (fun c1 => ?_) (fun c1 => ?_)
    · replace h := h.1 c1
      exact hK28 _ h _ _ _ hP hD hS (lv_sub hl [0] rfl)
    · replace h := h.2 c1
      refine lv_aload_n hx hb dX3_laysPlaces_15 rfl (lv_at hl 0 rfl) ?_
      refine va_get hx hb hts in_X3 hown hK hP 0 rfl rfl 47 (Nat.le_of_ble_eq_true rfl) (hts _ q1265) (fun _ h => h) (v := .ref (ad 47)) rfl dX3_laysPlaces_16 ?_
      refine lv_iload_n hx hb dX3_laysPlaces_19 rfl (lv_at hl 1 rfl) ?_
      refine lv_iconst (v := (0 : Int32)) hx hb dX3_laysPlaces_20 (by decide) ?_
      refine pt_iast (f := (ar 47)) hx hb hK hP hD hS 29 0 rfl rfl h.1 dX3_laysPlaces_21 wmA_47 (fun H locs hP hD hS => ?_)
      replace h := h.2
      refine lv_iinc (v := (v1 + (1 : Int32))) (lv' := [(1, .int (v1 + (1 : Int32))), (0, .ref o)]) hx hb dX3_laysPlaces_22 hl (k := 1) rfl rfl (by decide) rfl (fun ls hl => ?_)
      refine lv_goto (tgt := 7) hx hb dX3_laysPlaces_25 (by decide) ?_
      exact ih _ _ h _ _ _ hP hD hS (lv_sub hl [1, 0] rfl)
set_option maxHeartbeats 4000000 in
theorem lp_M_laysPlaces_L2 {p : Program} {l : Launch} {e : Env} {R : Room} {s : State} {m : MethodId} {args : Array Value} {below : List Frame} {meth : Method} {c : Code} {cells slots : Nat} {A : Nat → Prop} {Qf : State → Prop} {V : evT} {D : va_G} {gI : Nat → ClassId} {o : Nat} {ad : Nat → Nat} {fd : Nat → Int32} {lw : Nat → Int64} {K51 : (Nat → Nat → Int32) → Prop} (F : ct_F p m c meth cX3_laysPlaces 2 s args RX3 none A V D vwCl (tyL gI)) (hRf : 14 ≤ R.frames) (hRl : 297 ≤ R.locals) (hC : cells ≤ R.cells) (hSl : slots ≤ R.slots)
    (hK51 : ∀ (ar : Nat → Nat → Int32), K51 ar → ∀ (H : Heap) (locs : List Loc) (ls : Array Slot), va_P D vwCl (wm gI o ad fd ar lw) H → va_D A (wm gI o ad fd ar lw) → va_S A s.heap H locs → lv_has ls 2 [(0, .ref o)] → W p l e R s m args below meth c H locs cells slots Qf (F0 m 51 ls [])) :
    ∀ (n : Nat) (v1 : Int32) (ar : Nat → Nat → Int32), wp_M_laysPlaces_L2 fd lw K51 n v1 ar → ∀ (H : Heap) (locs : List Loc) (ls : Array Slot), va_P D vwCl (wm gI o ad fd ar lw) H → va_D A (wm gI o ad fd ar lw) → va_S A s.heap H locs → lv_has ls 2 [(0, .ref o), (1, .int v1)] → W p l e R s m args below meth c H locs cells slots Qf (F0 m 30 ls []) := by
  obtain ⟨⟨hx, hb, hml, hown, hts⟩, hr, hlocks, hA, hK, hE⟩ := id F
  intro n
  induction n with
  | zero => intro v1 ar h; exact h.elim
  | succ n ih =>
    intro v1 ar h H locs ls hP hD hS hl
    unfold wp_M_laysPlaces_L2 at h
    refine lv_iload_n hx hb dX3_laysPlaces_30 rfl (lv_at hl 1 rfl) ?_
    refine lv_aload_n hx hb dX3_laysPlaces_31 rfl (lv_at hl 0 rfl) ?_
    refine va_get hx hb hts in_X3 hown hK hP 0 rfl rfl 3 (Nat.le_of_ble_eq_true rfl) (hts _ q1221) (fun _ h => h) (v := .int (fd 3)) rfl dX3_laysPlaces_32 ?_
    refine lv_icmp_ge (tgt := 51) hx hb dX3_laysPlaces_35 (by decide) (fun c3 => ?_) (fun c3 => ?_)
    · replace h := h.1 c3
      exact hK51 _ h _ _ _ hP hD hS (lv_sub hl [0] rfl)
    · replace h := h.2 c3
      refine lv_aload_n hx hb dX3_laysPlaces_38 rfl (lv_at hl 0 rfl) ?_
      refine va_get hx hb hts in_X3 hown hK hP 0 rfl rfl 44 (Nat.le_of_ble_eq_true rfl) (hts _ q1262) (fun _ h => h) (v := .ref (ad 44)) rfl dX3_laysPlaces_39 ?_
      refine lv_iload_n hx hb dX3_laysPlaces_42 rfl (lv_at hl 1 rfl) ?_
      refine lv_iconst (v := (0 : Int32)) hx hb dX3_laysPlaces_43 (by decide) ?_
      refine pt_iast (f := (ar 44)) hx hb hK hP hD hS 26 0 rfl rfl h.1 dX3_laysPlaces_44 wmA_44 (fun H locs hP hD hS => ?_)
      replace h := h.2
      refine lv_iinc (v := (v1 + (1 : Int32))) (lv' := [(1, .int (v1 + (1 : Int32))), (0, .ref o)]) hx hb dX3_laysPlaces_45 hl (k := 1) rfl rfl (by decide) rfl (fun ls hl => ?_)
      refine lv_goto (tgt := 30) hx hb dX3_laysPlaces_48 (by decide) ?_
      exact ih _ _ h _ _ _ hP hD hS (lv_sub hl [1, 0] rfl)
set_option maxHeartbeats 4000000 in
theorem ct_M_laysPlaces {l : Launch} {V : evT} {D : va_G} {gI : Nat → ClassId} {o : Nat} {ad : Nat → Nat} {fd : Nat → Int32} {ar : Nat → Nat → Int32} {lw : Nat → Int64} {Q : (Nat → Int32) → (Nat → Nat → Int32) → Prop} (h : wp_M_laysPlaces fd ar lw Q) : ct_v l V D vwCl (tyL gI) yX3_laysPlaces cX3_laysPlaces 2 { frames := 14, cells := 0, slots := 0, locals := 297 } [.ref o] (wm gI o ad fd ar lw) (fun u : (Nat → Int32) × (Nat → Nat → Int32) => (wm gI o ad u.1 u.2 lw)) (fun (u : (Nat → Int32) × (Nat → Nat → Int32)) => Q u.1 u.2) := by
  refine ct_ofv RX3 rfl (by decide +kernel) (Nat.le_of_ble_eq_true rfl) ?_
  intro p e s m args below meth c A F _ hP hD ls hl
  obtain ⟨⟨hx, hb, hml, hown, hts⟩, hr, hlocks, hA, hK, hE⟩ := id F
  have hS : va_S A s.heap s.heap [] := va_S.rf
  have hl : lv_has ls 2 [(0, .ref o)] := hl
  have hRf : 14 ≤ ({ frames := 14, cells := 0, slots := 0, locals := 297 } : Room).frames := Nat.le_refl _
  have hRl : 297 ≤ ({ frames := 14, cells := 0, slots := 0, locals := 297 } : Room).locals := Nat.le_refl _
  have hC : 0 ≤ ({ frames := 14, cells := 0, slots := 0, locals := 297 } : Room).cells := Nat.le_refl _
  have hSl : 0 ≤ ({ frames := 14, cells := 0, slots := 0, locals := 297 } : Room).slots := Nat.le_refl _
  unfold wp_M_laysPlaces at h
  refine lv_aload_n hx hb dX3_laysPlaces_0 rfl (lv_at hl 0 rfl) ?_
  refine lv_iconst (v := (0 : Int32)) hx hb dX3_laysPlaces_1 (by decide) ?_
  refine pt_put (v := .int (0 : Int32)) hx hb hts in_X3 tyX3 tyX3_ok nmX3 hown hK hP hD hS 0 rfl rfl 48 (Nat.le_of_ble_eq_true rfl) (hts _ q1266) (fun _ h => h) rfl (ty := .int) (by decide +kernel) rfl rfl (Nat.le_of_ble_eq_true rfl) dX3_laysPlaces_2 wmF_48 (fun H locs hP hD hS => ?_)
  refine lv_iconst (v := (0 : Int32)) hx hb dX3_laysPlaces_5 (by decide) ?_
  refine lv_istore_n (lv' := [(1, .int (0 : Int32)), (0, .ref o)]) hx hb dX3_laysPlaces_6 rfl hl (by decide) rfl (fun ls hl => ?_)
  obtain ⟨k7, h⟩ := h
  refine lp_M_laysPlaces_L1 F hRf hRl hC hSl ?hk28 k7 _ _ h _ _ _ hP hD hS (lv_sub hl [1, 0] rfl)
  case hk28 =>
    intro ar_2 h H locs ls hP hD hS hl
    refine lv_iconst (v := (0 : Int32)) hx hb dX3_laysPlaces_28 (by decide) ?_
    refine lv_istore_n (lv' := [(1, .int (0 : Int32)), (0, .ref o)]) hx hb dX3_laysPlaces_29 rfl hl (by decide) rfl (fun ls hl => ?_)
    obtain ⟨k30, h⟩ := h
    refine lp_M_laysPlaces_L2 F hRf hRl hC hSl ?hk51 k30 _ _ h _ _ _ hP hD hS (lv_sub hl [1, 0] rfl)
    case hk51 =>
      intro ar_4 h H locs ls hP hD hS hl
      refine lv_aload_n hx hb dX3_laysPlaces_51 rfl (lv_at hl 0 rfl) ?_
      refine lv_iconst (v := (0 : Int32)) hx hb dX3_laysPlaces_52 (by decide) ?_
      refine cl_v F (va_runV (As := [.int (0 : Int32)]) (rest := []) ⟨hx, hb, hml, hown, hts⟩ (ct_M_placesFrom h _) (cwV 1 hts (lw_V q1802 q1804 qs90 q97 q1805) rfl rfl rfl (by decide +kernel) ⟨Nat.le_trans (Nat.le_of_ble_eq_true rfl) hRf, Nat.le_trans (Nat.le_of_ble_eq_true rfl) hRl⟩) ⟨ct_blind, va_recv hK hP (ci := 2) (q0 := 0) rfl rfl, ct_at F hS hP hD⟩ rfl rfl hl.1 rfl (lv_room (Nat.le_of_ble_eq_true rfl)) dX3_laysPlaces_53 ⟨hC, hSl⟩) rfl rfl hD hS ?_
      rintro ⟨fd5, ar6⟩ H locs h hP hD hS
      exact rt_v F dX3_laysPlaces_56 (fd5, ar6) h hP hD hS (Nat.le_refl _) (Nat.le_refl _)
set_option maxHeartbeats 4000000 in
theorem lp_M_rain_L1 {p : Program} {l : Launch} {e : Env} {R : Room} {s : State} {m : MethodId} {args : Array Value} {below : List Frame} {meth : Method} {c : Code} {cells slots : Nat} {A : Nat → Prop} {Qf : State → Prop} {V : evT} {D : va_G} {gI : Nat → ClassId} {o : Nat} {ad : Nat → Nat} {v1 : Int32} {v2 : Int32} {v3 : Int32} {v4 : Int64} {fd : Nat → Int32} {ar : Nat → Nat → Int32} {lw : Nat → Int64} {K72 : (Int64) → Prop} (F : ct_F p m c meth cX3_rain 12 s args RX3 (some .int) A V D vwCl (tyL gI)) (hRf : 102 ≤ R.frames) (hRl : 2352 ≤ R.locals) (hC : cells ≤ R.cells) (hSl : slots ≤ R.slots)
    (hK72 : ∀ (v6 : Int64), K72 v6 → ∀ (H : Heap) (locs : List Loc) (ls : Array Slot), va_P D vwCl (wm gI o ad fd ar lw) H → va_D A (wm gI o ad fd ar lw) → va_S A s.heap H locs → lv_has ls 12 [(0, .ref o), (1, .int v1), (2, .int v2), (3, .int v3), (4, .long v4), (6, .long v6)] → W p l e R s m args below meth c H locs cells slots Qf (F0 m 72 ls [])) :
    ∀ (n : Nat) (v6 : Int64) (v8 : Int32), wp_M_rain_L1 v1 v2 v3 v4 fd ar lw K72 n v6 v8 → ∀ (H : Heap) (locs : List Loc) (ls : Array Slot), va_P D vwCl (wm gI o ad fd ar lw) H → va_D A (wm gI o ad fd ar lw) → va_S A s.heap H locs → lv_has ls 12 [(0, .ref o), (1, .int v1), (2, .int v2), (3, .int v3), (4, .long v4), (6, .long v6), (8, .int v8)] → W p l e R s m args below meth c H locs cells slots Qf (F0 m 52 ls []) := by
  obtain ⟨⟨hx, hb, hml, hown, hts⟩, hr, hlocks, hA, hK, hE⟩ := id F
  intro n
  induction n with
  | zero => intro v6 v8 h; exact h.elim
  | succ n ih =>
    intro v6 v8 h H locs ls hP hD hS hl
    unfold wp_M_rain_L1 at h
    refine lv_iload hx hb dX3_rain_52 (lv_at hl 6 rfl) ?_
    refine lv_iload_n hx hb dX3_rain_54 rfl (lv_at hl 1 rfl) ?_
    refine lv_icmp_ge (tgt := 72) hx hb dX3_rain_55 (by decide) (fun c4 => ?_) (fun c4 => ?_)
    · replace h := h.1 c4
      exact hK72 _ h _ _ _ hP hD hS (lv_sub hl [0, 1, 2, 3, 4, 5] rfl)
    · replace h := h.2 c4
      refine lv_lload hx hb dX3_rain_58 (lv_at hl 5 rfl) ?_
      refine lv_ldc2 (v := (10 : Int64)) hx hb hown (hts _ q1819) dX3_rain_60 ?_
      refine lv_lmul hx hb dX3_rain_63 ?_
      refine lv_lstore (lv' := [(6, .long (v6 * (10 : Int64))), (0, .ref o), (1, .int v1), (2, .int v2), (3, .int v3), (4, .long v4), (8, .int v8)]) hx hb dX3_rain_64 hl (by decide) rfl (fun ls hl => ?_)
      refine lv_iinc (v := (v8 + (1 : Int32))) (lv' := [(8, .int (v8 + (1 : Int32))), (6, .long (v6 * (10 : Int64))), (0, .ref o), (1, .int v1), (2, .int v2), (3, .int v3), (4, .long v4)]) hx hb dX3_rain_66 hl (k := 6) rfl rfl (by decide) rfl (fun ls hl => ?_)
      refine lv_goto (tgt := 52) hx hb dX3_rain_69 (by decide) ?_
      exact ih _ _ h _ _ _ hP hD hS (lv_sub hl [2, 3, 4, 5, 6, 1, 0] rfl)
set_option maxHeartbeats 4000000 in
theorem lp_M_rain_L3 {p : Program} {l : Launch} {e : Env} {R : Room} {s : State} {m : MethodId} {args : Array Value} {below : List Frame} {meth : Method} {c : Code} {cells slots : Nat} {A : Nat → Prop} {Qf : State → Prop} {V : evT} {D : va_G} {gI : Nat → ClassId} {o : Nat} {ad : Nat → Nat} {v1 : Int32} {v2 : Int32} {v3 : Int32} {v4 : Int64} {v6 : Int64} {v8 : Int32} {fd : Nat → Int32} {ar : Nat → Nat → Int32} {lw : Nat → Int64} {K136 : (Int64) → Prop} (F : ct_F p m c meth cX3_rain 12 s args RX3 (some .int) A V D vwCl (tyL gI)) (hRf : 102 ≤ R.frames) (hRl : 2352 ≤ R.locals) (hC : cells ≤ R.cells) (hSl : slots ≤ R.slots)
    (hK136 : ∀ (v9 : Int64), K136 v9 → ∀ (H : Heap) (locs : List Loc) (ls : Array Slot), va_P D vwCl (wm gI o ad fd ar lw) H → va_D A (wm gI o ad fd ar lw) → va_S A s.heap H locs → lv_has ls 12 [(0, .ref o), (1, .int v1), (2, .int v2), (3, .int v3), (4, .long v4), (6, .long v6), (8, .int v8), (9, .long v9)] → W p l e R s m args below meth c H locs cells slots Qf (F0 m 136 ls [])) :
    ∀ (n : Nat) (v9 : Int64) (v11 : Int32), wp_M_rain_L3 v1 v2 v3 v4 v6 v8 fd ar lw K136 n v9 v11 → ∀ (H : Heap) (locs : List Loc) (ls : Array Slot), va_P D vwCl (wm gI o ad fd ar lw) H → va_D A (wm gI o ad fd ar lw) → va_S A s.heap H locs → lv_has ls 12 [(0, .ref o), (1, .int v1), (2, .int v2), (3, .int v3), (4, .long v4), (6, .long v6), (8, .int v8), (9, .long v9), (11, .int v11)] → W p l e R s m args below meth c H locs cells slots Qf (F0 m 99 ls []) := by
  obtain ⟨⟨hx, hb, hml, hown, hts⟩, hr, hlocks, hA, hK, hE⟩ := id F
  intro n
  induction n with
  | zero => intro v9 v11 h; exact h.elim
  | succ n ih =>
    intro v9 v11 h H locs ls hP hD hS hl
    unfold wp_M_rain_L3 at h
    refine lv_iload hx hb dX3_rain_99 (lv_at hl 8 rfl) ?_
    refine lv_iload_n hx hb dX3_rain_101 rfl (lv_at hl 1 rfl) ?_
    refine lv_icmp_ge (tgt := 136) hx hb dX3_rain_102 (by decide) (fun c10 => ?_) (fun c10 => ?_)
    · replace h := h.1 c10
      exact hK136 _ h _ _ _ hP hD hS (lv_sub hl [0, 1, 2, 3, 4, 5, 6, 7] rfl)
    · replace h := h.2 c10
      refine lv_lload hx hb dX3_rain_105 (lv_at hl 7 rfl) ?_
      refine lv_iload hx hb dX3_rain_107 (lv_at hl 6 rfl) ?_
      refine lv_iload hx hb dX3_rain_109 (lv_at hl 8 rfl) ?_
      refine cl_i0 F (va_runS (As := [.int v8, .int v11]) (rest := [.long v9]) ⟨hx, hb, hml, hown, hts⟩ (ct_X3_has h _) (va_cwS 2 hts (lw_S q1510 q1511 q97 q1512) rfl rfl rfl (by decide +kernel) ⟨Nat.le_trans (Nat.le_of_ble_eq_true rfl) hRf, Nat.le_trans (Nat.le_of_ble_eq_true rfl) hRl⟩) ⟨ct_blind, ct_at F hS ct_nP ct_nD⟩ rfl rfl hl.1 rfl (lv_room (Nat.le_of_ble_eq_true rfl)) dX3_rain_111 ⟨hC, hSl⟩) rfl rfl hP hS ?_
      rintro x8 _ H locs h hP hS
      refine lv_if_eq (tgt := 122) hx hb dX3_rain_114 (by decide) (fun c9 => ?_) (fun c9 => ?_)
      · replace h := h.1 c9
        refine lv_bipush (v := (10 : Int32)) hx hb dX3_rain_122 (by decide) ?_
        refine lv_iload_n hx hb dX3_rain_124 rfl (lv_at hl 3 rfl) ?_
        refine lv_isub hx hb dX3_rain_125 ?_
        refine lv_i2l (v := (((10 : Int32) - v3).toInt64)) hx hb dX3_rain_126 rfl ?_
        refine lv_lmul hx hb dX3_rain_127 ?_
        refine lv_lstore (lv' := [(9, .long (v9 * (((10 : Int32) - v3).toInt64))), (0, .ref o), (1, .int v1), (2, .int v2), (3, .int v3), (4, .long v4), (6, .long v6), (8, .int v8), (11, .int v11)]) hx hb dX3_rain_128 hl (by decide) rfl (fun ls hl => ?_)
        refine lv_iinc (v := (v11 + (1 : Int32))) (lv' := [(11, .int (v11 + (1 : Int32))), (9, .long (v9 * (((10 : Int32) - v3).toInt64))), (0, .ref o), (1, .int v1), (2, .int v2), (3, .int v3), (4, .long v4), (6, .long v6), (8, .int v8)]) hx hb dX3_rain_130 hl (k := 8) rfl rfl (by decide) rfl (fun ls hl => ?_)
        refine lv_goto (tgt := 99) hx hb dX3_rain_133 (by decide) ?_
        exact ih _ _ h _ _ _ hP hD hS (lv_sub hl [2, 3, 4, 5, 6, 7, 8, 1, 0] rfl)
      · replace h := h.2 c9
        refine lv_iload_n hx hb dX3_rain_117 rfl (lv_at hl 3 rfl) ?_
        refine lv_i2l (v := (v3.toInt64)) hx hb dX3_rain_118 rfl ?_
        refine lv_goto (tgt := 127) hx hb dX3_rain_119 (by decide) ?_
        refine lv_lmul hx hb dX3_rain_127 ?_
        refine lv_lstore (lv' := [(9, .long (v9 * (v3.toInt64))), (0, .ref o), (1, .int v1), (2, .int v2), (3, .int v3), (4, .long v4), (6, .long v6), (8, .int v8), (11, .int v11)]) hx hb dX3_rain_128 hl (by decide) rfl (fun ls hl => ?_)
        refine lv_iinc (v := (v11 + (1 : Int32))) (lv' := [(11, .int (v11 + (1 : Int32))), (9, .long (v9 * (v3.toInt64))), (0, .ref o), (1, .int v1), (2, .int v2), (3, .int v3), (4, .long v4), (6, .long v6), (8, .int v8)]) hx hb dX3_rain_130 hl (k := 8) rfl rfl (by decide) rfl (fun ls hl => ?_)
        refine lv_goto (tgt := 99) hx hb dX3_rain_133 (by decide) ?_
        exact ih _ _ h _ _ _ hP hD hS (lv_sub hl [2, 3, 4, 5, 6, 7, 8, 1, 0] rfl)
set_option maxHeartbeats 4000000 in
theorem lp_M_rain_L2 {p : Program} {l : Launch} {e : Env} {R : Room} {s : State} {m : MethodId} {args : Array Value} {below : List Frame} {meth : Method} {c : Code} {cells slots : Nat} {A : Nat → Prop} {Qf : State → Prop} {V : evT} {D : va_G} {gI : Nat → ClassId} {o : Nat} {ad : Nat → Nat} {v1 : Int32} {v2 : Int32} {v3 : Int32} {v6 : Int64} {fd : Nat → Int32} {ar : Nat → Nat → Int32} {lw : Nat → Int64} {K149 : (Int64) → Prop} (F : ct_F p m c meth cX3_rain 12 s args RX3 (some .int) A V D vwCl (tyL gI)) (hRf : 102 ≤ R.frames) (hRl : 2352 ≤ R.locals) (hC : cells ≤ R.cells) (hSl : slots ≤ R.slots)
    (hK149 : ∀ (v4 : Int64), K149 v4 → ∀ (H : Heap) (locs : List Loc) (ls : Array Slot), va_P D vwCl (wm gI o ad fd ar lw) H → va_D A (wm gI o ad fd ar lw) → va_S A s.heap H locs → lv_has ls 12 [(0, .ref o), (4, .long v4), (6, .long v6)] → W p l e R s m args below meth c H locs cells slots Qf (F0 m 149 ls [])) :
    ∀ (n : Nat) (v4 : Int64) (v8 : Int32), wp_M_rain_L2 v1 v2 v3 v6 fd ar lw K149 n v4 v8 → ∀ (H : Heap) (locs : List Loc) (ls : Array Slot), va_P D vwCl (wm gI o ad fd ar lw) H → va_D A (wm gI o ad fd ar lw) → va_S A s.heap H locs → lv_has ls 12 [(0, .ref o), (1, .int v1), (2, .int v2), (3, .int v3), (4, .long v4), (6, .long v6), (8, .int v8)] → W p l e R s m args below meth c H locs cells slots Qf (F0 m 75 ls []) := by
  obtain ⟨⟨hx, hb, hml, hown, hts⟩, hr, hlocks, hA, hK, hE⟩ := id F
  intro n
  induction n with
  | zero => intro v4 v8 h; exact h.elim
  | succ n ih =>
    intro v4 v8 h H locs ls hP hD hS hl
    unfold wp_M_rain_L2 at h
    refine lv_iload hx hb dX3_rain_75 (lv_at hl 6 rfl) ?_
    refine lv_iconst (v := (1 : Int32)) hx hb dX3_rain_77 (by decide) ?_
    refine lv_iload_n hx hb dX3_rain_78 rfl (lv_at hl 1 rfl) ?_
    refine lv_ishl hx hb dX3_rain_79 ?_
    refine lv_icmp_ge (tgt := 149) hx hb dX3_rain_80 (by decide) (fun c12 => ?_) (fun c12 => ?_)
    · replace h := h.1 c12
      exact hK149 _ h _ _ _ hP hD hS (lv_sub hl [0, 4, 5] rfl)
    · replace h := h.2 c12
      refine lv_iload hx hb dX3_rain_83 (lv_at hl 6 rfl) ?_
      refine lv_iload_n hx hb dX3_rain_85 rfl (lv_at hl 1 rfl) ?_
      refine lv_iload_n hx hb dX3_rain_86 rfl (lv_at hl 2 rfl) ?_
      refine cl_i0 F (va_runS (As := [.int v8, .int v1, .int v2]) (rest := []) ⟨hx, hb, hml, hown, hts⟩ (ct_X3_hasRun h _) (va_cwS 3 hts (lw_S q1820 q1821 q97 q1822) rfl rfl rfl (by decide +kernel) ⟨Nat.le_trans (Nat.le_of_ble_eq_true rfl) hRf, Nat.le_trans (Nat.le_of_ble_eq_true rfl) hRl⟩) ⟨ct_blind, ct_at F hS ct_nP ct_nD⟩ rfl rfl hl.1 rfl (lv_room (Nat.le_of_ble_eq_true rfl)) dX3_rain_87 ⟨hC, hSl⟩) rfl rfl hP hS ?_
      rintro x6 _ H locs h hP hS
      refine cl_i0 F (va_runS (As := [.int x6]) (rest := []) ⟨hx, hb, hml, hown, hts⟩ (ct_X3_flag h _) (va_cwS 1 hts (lw_S q1407 q1408 q97 q1409) rfl rfl rfl (by decide +kernel) ⟨Nat.le_trans (Nat.le_of_ble_eq_true rfl) hRf, Nat.le_trans (Nat.le_of_ble_eq_true rfl) hRl⟩) ⟨ct_blind, ct_at F hS ct_nP ct_nD⟩ rfl rfl hl.1 rfl (lv_room (Nat.le_of_ble_eq_true rfl)) dX3_rain_90 ⟨hC, hSl⟩) rfl rfl hP hS ?_
      rintro x7 _ H locs h hP hS
      refine lv_i2l (v := (x7.toInt64)) hx hb dX3_rain_93 rfl ?_
      refine lv_lstore (lv' := [(9, .long (x7.toInt64)), (0, .ref o), (1, .int v1), (2, .int v2), (3, .int v3), (4, .long v4), (6, .long v6), (8, .int v8)]) hx hb dX3_rain_94 hl (by decide) rfl (fun ls hl => ?_)
      refine lv_iconst (v := (0 : Int32)) hx hb dX3_rain_96 (by decide) ?_
      refine lv_istore (lv' := [(11, .int (0 : Int32)), (9, .long (x7.toInt64)), (0, .ref o), (1, .int v1), (2, .int v2), (3, .int v3), (4, .long v4), (6, .long v6), (8, .int v8)]) hx hb dX3_rain_97 hl (by decide) rfl (fun ls hl => ?_)
      obtain ⟨k99, h⟩ := h
      refine lp_M_rain_L3 F hRf hRl hC hSl ?hk136 k99 _ _ h _ _ _ hP hD hS (lv_sub hl [2, 3, 4, 5, 6, 7, 8, 1, 0] rfl)
      case hk136 =>
        intro v9_11 h H locs ls hP hD hS hl
        refine lv_lload hx hb dX3_rain_136 (lv_at hl 4 rfl) ?_
        refine lv_lload hx hb dX3_rain_138 (lv_at hl 7 rfl) ?_
        refine lv_ladd hx hb dX3_rain_140 ?_
        refine lv_lstore (lv' := [(4, .long (v4 + v9_11)), (0, .ref o), (1, .int v1), (2, .int v2), (3, .int v3), (6, .long v6), (8, .int v8), (9, .long v9_11)]) hx hb dX3_rain_141 hl (by decide) rfl (fun ls hl => ?_)
        refine lv_iinc (v := (v8 + (1 : Int32))) (lv' := [(8, .int (v8 + (1 : Int32))), (4, .long (v4 + v9_11)), (0, .ref o), (1, .int v1), (2, .int v2), (3, .int v3), (6, .long v6), (9, .long v9_11)]) hx hb dX3_rain_143 hl (k := 6) rfl rfl (by decide) rfl (fun ls hl => ?_)
        refine lv_goto (tgt := 75) hx hb dX3_rain_146 (by decide) ?_
        exact ih _ _ h _ _ _ hP hD hS (lv_sub hl [2, 3, 4, 5, 1, 6, 0] rfl)
set_option maxHeartbeats 4000000 in
theorem ct_M_rain {l : Launch} {V : evT} {D : va_G} {gI : Nat → ClassId} {o : Nat} {ad : Nat → Nat} {v1 : Int32} {v2 : Int32} {v3 : Int32} {fd : Nat → Int32} {ar : Nat → Nat → Int32} {lw : Nat → Int64} {Q : Int32 → (Nat → Int32) → (Nat → Int64) → Prop} (h : wp_M_rain v1 v2 v3 fd ar lw Q) : ct_i l V D vwCl (tyL gI) yX3_rain cX3_rain 12 .int { frames := 102, cells := 0, slots := 0, locals := 2352 } [.ref o, .int v1, .int v2, .int v3] (wm gI o ad fd ar lw) (fun u : (Nat → Int32) × (Nat → Int64) => (wm gI o ad u.1 ar u.2)) (fun (x : Int32) (u : (Nat → Int32) × (Nat → Int64)) => Q x u.1 u.2) := by
  refine ct_ofi RX3 rfl (by decide +kernel) (Nat.le_of_ble_eq_true rfl) ?_
  intro p e s m args below meth c A F hP hD ls hl
  obtain ⟨⟨hx, hb, hml, hown, hts⟩, hr, hlocks, hA, hK, hE⟩ := id F
  have hS : va_S A s.heap s.heap [] := va_S.rf
  have hl : lv_has ls 12 [(0, .ref o), (1, .int v1), (2, .int v2), (3, .int v3)] := hl
  have hRf : 102 ≤ ({ frames := 102, cells := 0, slots := 0, locals := 2352 } : Room).frames := Nat.le_refl _
  have hRl : 2352 ≤ ({ frames := 102, cells := 0, slots := 0, locals := 2352 } : Room).locals := Nat.le_refl _
  have hC : 0 ≤ ({ frames := 102, cells := 0, slots := 0, locals := 2352 } : Room).cells := Nat.le_refl _
  have hSl : 0 ≤ ({ frames := 102, cells := 0, slots := 0, locals := 2352 } : Room).slots := Nat.le_refl _
  unfold wp_M_rain at h
  refine lv_aload_n hx hb dX3_rain_0 rfl (lv_at hl 0 rfl) ?_
  refine lv_iconst (v := (0 : Int32)) hx hb dX3_rain_1 (by decide) ?_
  refine pt_put (v := .int (0 : Int32)) hx hb hts in_X3 tyX3 tyX3_ok nmX3 hown hK hP hD hS 0 rfl rfl 0 (Nat.le_of_ble_eq_true rfl) (hts _ q1218) (fun _ h => h) rfl (ty := .int) (by decide +kernel) rfl rfl (Nat.le_of_ble_eq_true rfl) dX3_rain_2 wmF_0 (fun H locs hP hD hS => ?_)
  refine lv_iload_n hx hb dX3_rain_5 rfl (lv_at hl 1 rfl) ?_
  refine lv_i2l (v := (v1.toInt64)) hx hb dX3_rain_6 rfl ?_
  refine lv_lconst (v := (1 : Int64)) hx hb dX3_rain_7 (by decide) ?_
  refine lv_ldc2 (v := (12 : Int64)) hx hb hown (hts _ q1818) dX3_rain_8 ?_
  refine cl_i0 F (va_runS (As := [.long (v1.toInt64), .long (1 : Int64), .long (12 : Int64)]) (rest := []) ⟨hx, hb, hml, hown, hts⟩ (ct_X3_in h _) (va_cwS 3 hts (lw_S q1391 q1392 q97 q1393) rfl rfl rfl (by decide +kernel) ⟨Nat.le_trans (Nat.le_of_ble_eq_true rfl) hRf, Nat.le_trans (Nat.le_of_ble_eq_true rfl) hRl⟩) ⟨ct_blind, ct_at F hS ct_nP ct_nD⟩ rfl rfl hl.1 rfl (lv_room (Nat.le_of_ble_eq_true rfl)) dX3_rain_11 ⟨hC, hSl⟩) rfl rfl hP hS ?_
  rintro x1 _ H locs h hP hS
  refine lv_if_eq (tgt := 41) hx hb dX3_rain_14 (by decide) (fun c21 => ?_) (fun c21 => ?_)
  · replace h := h.1 c21
    refine lv_iconst (v := (-1 : Int32)) hx hb dX3_rain_41 (by decide) ?_
    exact rt_i F dX3_rain_42 rfl ((upd fd 0 (0 : Int32)), lw) h hP hD hS (Nat.le_refl _) (Nat.le_refl _)
  · replace h := h.2 c21
    refine lv_iload_n hx hb dX3_rain_17 rfl (lv_at hl 2 rfl) ?_
    refine lv_i2l (v := (v2.toInt64)) hx hb dX3_rain_18 rfl ?_
    refine lv_lconst (v := (1 : Int64)) hx hb dX3_rain_19 (by decide) ?_
    refine lv_ldc2 (v := (12 : Int64)) hx hb hown (hts _ q1818) dX3_rain_20 ?_
    refine cl_i0 F (va_runS (As := [.long (v2.toInt64), .long (1 : Int64), .long (12 : Int64)]) (rest := []) ⟨hx, hb, hml, hown, hts⟩ (ct_X3_in h _) (va_cwS 3 hts (lw_S q1391 q1392 q97 q1393) rfl rfl rfl (by decide +kernel) ⟨Nat.le_trans (Nat.le_of_ble_eq_true rfl) hRf, Nat.le_trans (Nat.le_of_ble_eq_true rfl) hRl⟩) ⟨ct_blind, ct_at F hS ct_nP ct_nD⟩ rfl rfl hl.1 rfl (lv_room (Nat.le_of_ble_eq_true rfl)) dX3_rain_23 ⟨hC, hSl⟩) rfl rfl hP hS ?_
    rintro x2 _ H locs h hP hS
    refine lv_if_eq (tgt := 41) hx hb dX3_rain_26 (by decide) (fun c20 => ?_) (fun c20 => ?_)
    · replace h := h.1 c20
      refine lv_iconst (v := (-1 : Int32)) hx hb dX3_rain_41 (by decide) ?_
      exact rt_i F dX3_rain_42 rfl ((upd fd 0 (0 : Int32)), lw) h hP hD hS (Nat.le_refl _) (Nat.le_refl _)
    · replace h := h.2 c20
      refine lv_iload_n hx hb dX3_rain_29 rfl (lv_at hl 3 rfl) ?_
      refine lv_i2l (v := (v3.toInt64)) hx hb dX3_rain_30 rfl ?_
      refine lv_lconst (v := (0 : Int64)) hx hb dX3_rain_31 (by decide) ?_
      refine lv_ldc2 (v := (10 : Int64)) hx hb hown (hts _ q1819) dX3_rain_32 ?_
      refine cl_i0 F (va_runS (As := [.long (v3.toInt64), .long (0 : Int64), .long (10 : Int64)]) (rest := []) ⟨hx, hb, hml, hown, hts⟩ (ct_X3_in h _) (va_cwS 3 hts (lw_S q1391 q1392 q97 q1393) rfl rfl rfl (by decide +kernel) ⟨Nat.le_trans (Nat.le_of_ble_eq_true rfl) hRf, Nat.le_trans (Nat.le_of_ble_eq_true rfl) hRl⟩) ⟨ct_blind, ct_at F hS ct_nP ct_nD⟩ rfl rfl hl.1 rfl (lv_room (Nat.le_of_ble_eq_true rfl)) dX3_rain_35 ⟨hC, hSl⟩) rfl rfl hP hS ?_
      rintro x3 _ H locs h hP hS
      refine lv_if_ne (tgt := 43) hx hb dX3_rain_38 (by decide) (fun c19 => ?_) (fun c19 => ?_)
      · replace h := h.1 c19
        refine lv_lconst (v := (0 : Int64)) hx hb dX3_rain_43 (by decide) ?_
        refine lv_lstore (lv' := [(4, .long (0 : Int64)), (0, .ref o), (1, .int v1), (2, .int v2), (3, .int v3)]) hx hb dX3_rain_44 hl (by decide) rfl (fun ls hl => ?_)
        refine lv_lconst (v := (1 : Int64)) hx hb dX3_rain_46 (by decide) ?_
        refine lv_lstore (lv' := [(6, .long (1 : Int64)), (4, .long (0 : Int64)), (0, .ref o), (1, .int v1), (2, .int v2), (3, .int v3)]) hx hb dX3_rain_47 hl (by decide) rfl (fun ls hl => ?_)
        refine lv_iconst (v := (0 : Int32)) hx hb dX3_rain_49 (by decide) ?_
        refine lv_istore (lv' := [(8, .int (0 : Int32)), (6, .long (1 : Int64)), (4, .long (0 : Int64)), (0, .ref o), (1, .int v1), (2, .int v2), (3, .int v3)]) hx hb dX3_rain_50 hl (by decide) rfl (fun ls hl => ?_)
        obtain ⟨k52, h⟩ := h
        refine lp_M_rain_L1 F hRf hRl hC hSl ?hk72 k52 _ _ h _ _ _ hP hD hS (lv_sub hl [3, 4, 5, 6, 2, 1, 0] rfl)
        case hk72 =>
          intro v6_5 h H locs ls hP hD hS hl
          refine lv_iconst (v := (0 : Int32)) hx hb dX3_rain_72 (by decide) ?_
          refine lv_istore (lv' := [(8, .int (0 : Int32)), (0, .ref o), (1, .int v1), (2, .int v2), (3, .int v3), (4, .long (0 : Int64)), (6, .long v6_5)]) hx hb dX3_rain_73 hl (by decide) rfl (fun ls hl => ?_)
          obtain ⟨k75, h⟩ := h
          refine lp_M_rain_L2 F hRf hRl hC hSl ?hk149 k75 _ _ h _ _ _ hP hD hS (lv_sub hl [1, 2, 3, 4, 5, 6, 0] rfl)
          case hk149 =>
            intro v4_13 h H locs ls hP hD hS hl
            refine lv_lload hx hb dX3_rain_149 (lv_at hl 1 rfl) ?_
            refine lv_lload hx hb dX3_rain_151 (lv_at hl 2 rfl) ?_
            refine cl_l0 F (va_runS (As := [.long v4_13, .long v6_5]) (rest := []) ⟨hx, hb, hml, hown, hts⟩ (ct_X3_common h _) (va_cwS 2 hts (lw_S q1823 q1824 q97 q1825) rfl rfl rfl (by decide +kernel) ⟨Nat.le_trans (Nat.le_of_ble_eq_true rfl) hRf, Nat.le_trans (Nat.le_of_ble_eq_true rfl) hRl⟩) ⟨ct_blind, ct_at F hS ct_nP ct_nD⟩ rfl rfl hl.1 rfl (lv_room (Nat.le_of_ble_eq_true rfl)) dX3_rain_153 ⟨hC, hSl⟩) rfl rfl hP hS ?_
            rintro x14 _ H locs h hP hS
            refine lv_lstore (lv' := [(8, .long x14), (0, .ref o), (4, .long v4_13), (6, .long v6_5)]) hx hb dX3_rain_156 hl (by decide) rfl (fun ls hl => ?_)
            refine lv_aload_n hx hb dX3_rain_158 rfl (lv_at hl 1 rfl) ?_
            refine lv_iconst (v := (0 : Int32)) hx hb dX3_rain_159 (by decide) ?_
            refine pt_put (v := .int (0 : Int32)) hx hb hts in_X3 tyX3 tyX3_ok nmX3 hown hK hP hD hS 0 rfl rfl 1 (Nat.le_of_ble_eq_true rfl) (hts _ q1219) (fun _ h => h) rfl (ty := .int) (by decide +kernel) rfl rfl (Nat.le_of_ble_eq_true rfl) dX3_rain_160 wmF_1 (fun H locs hP hD hS => ?_)
            refine lv_aload_n hx hb dX3_rain_163 rfl (lv_at hl 1 rfl) ?_
            refine lv_lload hx hb dX3_rain_164 (lv_at hl 2 rfl) ?_
            refine lv_lload hx hb dX3_rain_166 (lv_at hl 0 rfl) ?_
            refine lv_ldiv hx hb dX3_rain_168 h.1 ?_
            replace h := h.2
            refine cl_v F (va_runV (As := [.long (v4_13 / x14)]) (rest := []) ⟨hx, hb, hml, hown, hts⟩ (ct_M_enters h _) (cwV 1 hts (lw_V q1634 q1636 qs70 q97 q1637) rfl rfl rfl (by decide +kernel) ⟨Nat.le_trans (Nat.le_of_ble_eq_true rfl) hRf, Nat.le_trans (Nat.le_of_ble_eq_true rfl) hRl⟩) ⟨ct_blind, va_recv hK hP (ci := 2) (q0 := 0) rfl rfl, ct_at F hS hP hD⟩ rfl rfl hl.1 rfl (lv_room (Nat.le_of_ble_eq_true rfl)) dX3_rain_169 ⟨hC, hSl⟩) rfl rfl hD hS ?_
            rintro ⟨fd15, lw16⟩ H locs h hP hD hS
            refine lv_aload_n hx hb dX3_rain_172 rfl (lv_at hl 1 rfl) ?_
            refine lv_lload hx hb dX3_rain_173 (lv_at hl 3 rfl) ?_
            refine lv_lload hx hb dX3_rain_175 (lv_at hl 0 rfl) ?_
            refine lv_ldiv hx hb dX3_rain_177 h.1 ?_
            replace h := h.2
            refine cl_v F (va_runV (As := [.long (v6_5 / x14)]) (rest := []) ⟨hx, hb, hml, hown, hts⟩ (ct_M_enters h _) (cwV 1 hts (lw_V q1634 q1636 qs70 q97 q1637) rfl rfl rfl (by decide +kernel) ⟨Nat.le_trans (Nat.le_of_ble_eq_true rfl) hRf, Nat.le_trans (Nat.le_of_ble_eq_true rfl) hRl⟩) ⟨ct_blind, va_recv hK hP (ci := 2) (q0 := 0) rfl rfl, ct_at F hS hP hD⟩ rfl rfl hl.1 rfl (lv_room (Nat.le_of_ble_eq_true rfl)) dX3_rain_178 ⟨hC, hSl⟩) rfl rfl hD hS ?_
            rintro ⟨fd17, lw18⟩ H locs h hP hD hS
            refine lv_iconst (v := (0 : Int32)) hx hb dX3_rain_181 (by decide) ?_
            exact rt_i F dX3_rain_182 rfl (fd17, lw18) h hP hD hS (Nat.le_refl _) (Nat.le_refl _)
      · replace h := h.2 c19
        refine lv_iconst (v := (-1 : Int32)) hx hb dX3_rain_41 (by decide) ?_
        exact rt_i F dX3_rain_42 rfl ((upd fd 0 (0 : Int32)), lw) h hP hD hS (Nat.le_refl _) (Nat.le_refl _)
set_option maxHeartbeats 4000000 in
theorem ct_M_rule {l : Launch} {V : evT} {D : va_G} {gI : Nat → ClassId} {o : Nat} {ad : Nat → Nat} {fd : Nat → Int32} {ar : Nat → Nat → Int32} {lw : Nat → Int64} {Q : Int32 → (Nat → Int32) → (Nat → Nat → Int32) → Prop} (h : wp_M_rule fd ar lw Q) : ct_i l V D vwCl (tyL gI) yX3_rule cX3_rule 2 .int { frames := 209, cells := 0, slots := 0, locals := 4786 } [.ref o] (wm gI o ad fd ar lw) (fun u : (Nat → Int32) × (Nat → Nat → Int32) => (wm gI o ad u.1 u.2 lw)) (fun (x : Int32) (u : (Nat → Int32) × (Nat → Nat → Int32)) => Q x u.1 u.2) := by
  refine ct_ofi RX3 rfl (by decide +kernel) (Nat.le_of_ble_eq_true rfl) ?_
  intro p e s m args below meth c A F hP hD ls hl
  obtain ⟨⟨hx, hb, hml, hown, hts⟩, hr, hlocks, hA, hK, hE⟩ := id F
  have hS : va_S A s.heap s.heap [] := va_S.rf
  have hl : lv_has ls 2 [(0, .ref o)] := hl
  have hRf : 209 ≤ ({ frames := 209, cells := 0, slots := 0, locals := 4786 } : Room).frames := Nat.le_refl _
  have hRl : 4786 ≤ ({ frames := 209, cells := 0, slots := 0, locals := 4786 } : Room).locals := Nat.le_refl _
  have hC : 0 ≤ ({ frames := 209, cells := 0, slots := 0, locals := 4786 } : Room).cells := Nat.le_refl _
  have hSl : 0 ≤ ({ frames := 209, cells := 0, slots := 0, locals := 4786 } : Room).slots := Nat.le_refl _
  unfold wp_M_rule at h
  refine lv_aload_n hx hb dX3_rule_0 rfl (lv_at hl 0 rfl) ?_
  refine lv_iconst (v := (0 : Int32)) hx hb dX3_rule_1 (by decide) ?_
  refine pt_put (v := .int (0 : Int32)) hx hb hts in_X3 tyX3 tyX3_ok nmX3 hown hK hP hD hS 0 rfl rfl 0 (Nat.le_of_ble_eq_true rfl) (hts _ q1218) (fun _ h => h) rfl (ty := .int) (by decide +kernel) rfl rfl (Nat.le_of_ble_eq_true rfl) dX3_rule_2 wmF_0 (fun H locs hP hD hS => ?_)
  refine lv_aload_n hx hb dX3_rule_5 rfl (lv_at hl 0 rfl) ?_
  refine cl_i F (va_runV (As := []) (rest := []) ⟨hx, hb, hml, hown, hts⟩ (ct_M_readsRule h _) (cwV 0 hts (lw_V q1444 q1446 qs44 q97 q1447) rfl rfl rfl (by decide +kernel) ⟨Nat.le_trans (Nat.le_of_ble_eq_true rfl) hRf, Nat.le_trans (Nat.le_of_ble_eq_true rfl) hRl⟩) ⟨ct_blind, va_recv hK hP (ci := 2) (q0 := 0) rfl rfl, ct_at F hS hP hD⟩ rfl rfl hl.1 rfl (lv_room (Nat.le_of_ble_eq_true rfl)) dX3_rule_6 ⟨hC, hSl⟩) rfl rfl hD hS ?_
  rintro x1 ⟨fd2, ar3⟩ H locs h hP hD hS
  refine lv_istore_n (lv' := [(1, .int x1), (0, .ref o)]) hx hb dX3_rule_9 rfl hl (by decide) rfl (fun ls hl => ?_)
  refine lv_iload_n hx hb dX3_rule_10 rfl (lv_at hl 0 rfl) ?_
  refine lv_if_ne (tgt := 26) hx hb dX3_rule_11 (by decide) (fun c6 => ?_) (fun c6 => ?_)
  · replace h := h.1 c6
    refine lv_iload_n hx hb dX3_rule_26 rfl (lv_at hl 0 rfl) ?_
    exact rt_i F dX3_rule_27 rfl (fd2, ar3) h hP hD hS (Nat.le_refl _) (Nat.le_refl _)
  · replace h := h.2 c6
    refine lv_aload_n hx hb dX3_rule_14 rfl (lv_at hl 1 rfl) ?_
    refine lv_aload_n hx hb dX3_rule_15 rfl (lv_at hl 1 rfl) ?_
    refine va_get hx hb hts in_X3 hown hK hP 0 rfl rfl 22 (Nat.le_of_ble_eq_true rfl) (hts _ q1240) (fun _ h => h) (v := .ref (ad 22)) rfl dX3_rule_16 ?_
    refine lv_aload_n hx hb dX3_rule_19 rfl (lv_at hl 1 rfl) ?_
    refine va_get hx hb hts in_X3 hown hK hP 0 rfl rfl 24 (Nat.le_of_ble_eq_true rfl) (hts _ q1242) (fun _ h => h) (v := .int (fd2 24)) rfl dX3_rule_20 ?_
    refine cl_v F (va_runV (As := [.ref (ad 22), .int (fd2 24)]) (rest := []) ⟨hx, hb, hml, hown, hts⟩ (ct_M_laysCode_i22 h _) (cwV 2 hts (lw_V q1493 q1495 qs50 q97 q1496) rfl rfl rfl (by decide +kernel) ⟨Nat.le_trans (Nat.le_of_ble_eq_true rfl) hRf, Nat.le_trans (Nat.le_of_ble_eq_true rfl) hRl⟩) ⟨ct_blind, va_recv hK hP (ci := 2) (q0 := 0) rfl rfl, ct_at F hS hP hD⟩ rfl rfl hl.1 rfl (lv_room (Nat.le_of_ble_eq_true rfl)) dX3_rule_23 ⟨hC, hSl⟩) rfl rfl hD hS ?_
    rintro ⟨fd4, ar5⟩ H locs h hP hD hS
    refine lv_iload_n hx hb dX3_rule_26 rfl (lv_at hl 0 rfl) ?_
    exact rt_i F dX3_rule_27 rfl (fd4, ar5) h hP hD hS (Nat.le_refl _) (Nat.le_refl _)
set_option maxHeartbeats 4000000 in
theorem lp_M_law_L1 {p : Program} {l : Launch} {e : Env} {R : Room} {s : State} {m : MethodId} {args : Array Value} {below : List Frame} {meth : Method} {c : Code} {cells slots : Nat} {A : Nat → Prop} {Qf : State → Prop} {V : evT} {D : va_G} {gI : Nat → ClassId} {o : Nat} {ad : Nat → Nat} {v2 : Int32} {v3 : Int32} {fd : Nat → Int32} {lw : Nat → Int64} {K66 : (Nat → Nat → Int32) → Prop} (F : ct_F p m c meth cX3_law 5 s args RX3 (some .int) A V D vwCl (tyL gI)) (hRf : 209 ≤ R.frames) (hRl : 4786 ≤ R.locals) (hC : cells ≤ R.cells) (hSl : slots ≤ R.slots)
    (hK66 : ∀ (ar : Nat → Nat → Int32), K66 ar → ∀ (H : Heap) (locs : List Loc) (ls : Array Slot), va_P D vwCl (wm gI o ad fd ar lw) H → va_D A (wm gI o ad fd ar lw) → va_S A s.heap H locs → lv_has ls 5 [(0, .ref o), (2, .int v2), (3, .int v3)] → W p l e R s m args below meth c H locs cells slots Qf (F0 m 66 ls [])) :
    ∀ (n : Nat) (v4 : Int32) (ar : Nat → Nat → Int32), wp_M_law_L1 v2 v3 fd lw K66 n v4 ar → ∀ (H : Heap) (locs : List Loc) (ls : Array Slot), va_P D vwCl (wm gI o ad fd ar lw) H → va_D A (wm gI o ad fd ar lw) → va_S A s.heap H locs → lv_has ls 5 [(0, .ref o), (2, .int v2), (3, .int v3), (4, .int v4)] → W p l e R s m args below meth c H locs cells slots Qf (F0 m 37 ls []) := by
  obtain ⟨⟨hx, hb, hml, hown, hts⟩, hr, hlocks, hA, hK, hE⟩ := id F
  intro n
  induction n with
  | zero => intro v4 ar h; exact h.elim
  | succ n ih =>
    intro v4 ar h H locs ls hP hD hS hl
    unfold wp_M_law_L1 at h
    refine lv_iload hx hb dX3_law_37 (lv_at hl 3 rfl) ?_
    refine lv_aload_n hx hb dX3_law_39 rfl (lv_at hl 0 rfl) ?_
    refine va_get hx hb hts in_X3 hown hK hP 0 rfl rfl 23 (Nat.le_of_ble_eq_true rfl) (hts _ q1241) (fun _ h => h) (v := .int (fd 23)) rfl dX3_law_40 ?_
    refine lv_icmp_ge (tgt := 66) hx hb dX3_law_43 (by decide) (fun c7 => ?_) (fun c7 => ?_)
    · replace h := h.1 c7
      exact hK66 _ h _ _ _ hP hD hS (lv_sub hl [0, 1, 2] rfl)
    · replace h := h.2 c7
      refine lv_aload_n hx hb dX3_law_46 rfl (lv_at hl 0 rfl) ?_
      refine va_get hx hb hts in_X3 hown hK hP 0 rfl rfl 41 (Nat.le_of_ble_eq_true rfl) (hts _ q1259) (fun _ h => h) (v := .ref (ad 41)) rfl dX3_law_47 ?_
      refine lv_iload hx hb dX3_law_50 (lv_at hl 3 rfl) ?_
      refine lv_aload_n hx hb dX3_law_52 rfl (lv_at hl 0 rfl) ?_
      refine va_get hx hb hts in_X3 hown hK hP 0 rfl rfl 21 (Nat.le_of_ble_eq_true rfl) (hts _ q1239) (fun _ h => h) (v := .ref (ad 21)) rfl dX3_law_53 ?_
      refine lv_iload hx hb dX3_law_56 (lv_at hl 3 rfl) ?_
      refine va_iald (f := (ar 21)) hx hb hK hP 12 0 rfl rfl h.1 dX3_law_58 ?_
      replace h := h.2
      refine pt_iast (f := (ar 41)) hx hb hK hP hD hS 24 0 rfl rfl h.1 dX3_law_59 wmA_41 (fun H locs hP hD hS => ?_)
      replace h := h.2
      refine lv_iinc (v := (v4 + (1 : Int32))) (lv' := [(4, .int (v4 + (1 : Int32))), (0, .ref o), (2, .int v2), (3, .int v3)]) hx hb dX3_law_60 hl (k := 3) rfl rfl (by decide) rfl (fun ls hl => ?_)
      refine lv_goto (tgt := 37) hx hb dX3_law_63 (by decide) ?_
      exact ih _ _ h _ _ _ hP hD hS (lv_sub hl [1, 2, 3, 0] rfl)
set_option maxHeartbeats 4000000 in
theorem ct_M_law {l : Launch} {V : evT} {D : va_G} {gI : Nat → ClassId} {o : Nat} {ad : Nat → Nat} {fd : Nat → Int32} {ar : Nat → Nat → Int32} {lw : Nat → Int64} {Q : Int32 → (Nat → Int32) → (Nat → Nat → Int32) → (Nat → Int64) → Prop} (h : wp_M_law fd ar lw Q) : ct_i l V D vwCl (tyL gI) yX3_law cX3_law 5 .int { frames := 209, cells := 0, slots := 0, locals := 4786 } [.ref o] (wm gI o ad fd ar lw) (fun u : (Nat → Int32) × (Nat → Nat → Int32) × (Nat → Int64) => (wm gI o ad u.1 u.2.1 u.2.2)) (fun (x : Int32) (u : (Nat → Int32) × (Nat → Nat → Int32) × (Nat → Int64)) => Q x u.1 u.2.1 u.2.2) := by
  refine ct_ofi RX3 rfl (by decide +kernel) (Nat.le_of_ble_eq_true rfl) ?_
  intro p e s m args below meth c A F hP hD ls hl
  obtain ⟨⟨hx, hb, hml, hown, hts⟩, hr, hlocks, hA, hK, hE⟩ := id F
  have hS : va_S A s.heap s.heap [] := va_S.rf
  have hl : lv_has ls 5 [(0, .ref o)] := hl
  have hRf : 209 ≤ ({ frames := 209, cells := 0, slots := 0, locals := 4786 } : Room).frames := Nat.le_refl _
  have hRl : 4786 ≤ ({ frames := 209, cells := 0, slots := 0, locals := 4786 } : Room).locals := Nat.le_refl _
  have hC : 0 ≤ ({ frames := 209, cells := 0, slots := 0, locals := 4786 } : Room).cells := Nat.le_refl _
  have hSl : 0 ≤ ({ frames := 209, cells := 0, slots := 0, locals := 4786 } : Room).slots := Nat.le_refl _
  unfold wp_M_law at h
  refine lv_aload_n hx hb dX3_law_0 rfl (lv_at hl 0 rfl) ?_
  refine lv_iconst (v := (0 : Int32)) hx hb dX3_law_1 (by decide) ?_
  refine pt_put (v := .int (0 : Int32)) hx hb hts in_X3 tyX3 tyX3_ok nmX3 hown hK hP hD hS 0 rfl rfl 0 (Nat.le_of_ble_eq_true rfl) (hts _ q1218) (fun _ h => h) rfl (ty := .int) (by decide +kernel) rfl rfl (Nat.le_of_ble_eq_true rfl) dX3_law_2 wmF_0 (fun H locs hP hD hS => ?_)
  refine lv_aload_n hx hb dX3_law_5 rfl (lv_at hl 0 rfl) ?_
  refine cl_i F (va_runV (As := []) (rest := []) ⟨hx, hb, hml, hown, hts⟩ (ct_M_readsRule h _) (cwV 0 hts (lw_V q1444 q1446 qs44 q97 q1447) rfl rfl rfl (by decide +kernel) ⟨Nat.le_trans (Nat.le_of_ble_eq_true rfl) hRf, Nat.le_trans (Nat.le_of_ble_eq_true rfl) hRl⟩) ⟨ct_blind, va_recv hK hP (ci := 2) (q0 := 0) rfl rfl, ct_at F hS hP hD⟩ rfl rfl hl.1 rfl (lv_room (Nat.le_of_ble_eq_true rfl)) dX3_law_6 ⟨hC, hSl⟩) rfl rfl hD hS ?_
  rintro x1 ⟨fd2, ar3⟩ H locs h hP hD hS
  refine lv_istore_n (lv' := [(1, .int x1), (0, .ref o)]) hx hb dX3_law_9 rfl hl (by decide) rfl (fun ls hl => ?_)
  refine lv_iload_n hx hb dX3_law_10 rfl (lv_at hl 0 rfl) ?_
  refine lv_if_ge (tgt := 22) hx hb dX3_law_11 (by decide) (fun c20 => ?_) (fun c20 => ?_)
  · replace h := h.1 c20
    refine lv_aload_n hx hb dX3_law_22 rfl (lv_at hl 1 rfl) ?_
    refine lv_bipush (v := (20 : Int32)) hx hb dX3_law_23 (by decide) ?_
    refine cl_i F (va_runV (As := [.int (20 : Int32)]) (rest := []) ⟨hx, hb, hml, hown, hts⟩ (ct_M_breakMany h _) (cwV 1 hts (lw_V q1714 q1716 qs82 q97 q1717) rfl rfl rfl (by decide +kernel) ⟨Nat.le_trans (Nat.le_of_ble_eq_true rfl) hRf, Nat.le_trans (Nat.le_of_ble_eq_true rfl) hRl⟩) ⟨ct_blind, va_recv hK hP (ci := 2) (q0 := 0) rfl rfl, ct_at F hS hP hD⟩ rfl rfl hl.1 rfl (lv_room (Nat.le_of_ble_eq_true rfl)) dX3_law_25 ⟨hC, hSl⟩) rfl rfl hD hS ?_
    rintro x4 ⟨fd5, ar6⟩ H locs h hP hD hS
    refine lv_istore_n (lv' := [(2, .int x4), (1, .int x1), (0, .ref o)]) hx hb dX3_law_28 rfl hl (by decide) rfl (fun ls hl => ?_)
    refine lv_aload_n hx hb dX3_law_29 rfl (lv_at hl 2 rfl) ?_
    refine va_get hx hb hts in_X3 hown hK hP 0 rfl rfl 23 (Nat.le_of_ble_eq_true rfl) (hts _ q1241) (fun _ h => h) (v := .int (fd5 23)) rfl dX3_law_30 ?_
    refine lv_istore_n (lv' := [(3, .int (fd5 23)), (2, .int x4), (1, .int x1), (0, .ref o)]) hx hb dX3_law_33 rfl hl (by decide) rfl (fun ls hl => ?_)
    refine lv_iconst (v := (0 : Int32)) hx hb dX3_law_34 (by decide) ?_
    refine lv_istore (lv' := [(4, .int (0 : Int32)), (3, .int (fd5 23)), (2, .int x4), (1, .int x1), (0, .ref o)]) hx hb dX3_law_35 hl (by decide) rfl (fun ls hl => ?_)
    obtain ⟨k37, h⟩ := h
    refine lp_M_law_L1 F hRf hRl hC hSl ?hk66 k37 _ _ h _ _ _ hP hD hS (lv_sub hl [4, 2, 1, 0] rfl)
    case hk66 =>
      intro ar_8 h H locs ls hP hD hS hl
      refine lv_aload_n hx hb dX3_law_66 rfl (lv_at hl 0 rfl) ?_
      refine lv_aload_n hx hb dX3_law_67 rfl (lv_at hl 0 rfl) ?_
      refine va_get hx hb hts in_X3 hown hK hP 0 rfl rfl 22 (Nat.le_of_ble_eq_true rfl) (hts _ q1240) (fun _ h => h) (v := .ref (ad 22)) rfl dX3_law_68 ?_
      refine lv_aload_n hx hb dX3_law_71 rfl (lv_at hl 0 rfl) ?_
      refine va_get hx hb hts in_X3 hown hK hP 0 rfl rfl 24 (Nat.le_of_ble_eq_true rfl) (hts _ q1242) (fun _ h => h) (v := .int (fd5 24)) rfl dX3_law_72 ?_
      refine cl_v F (va_runV (As := [.ref (ad 22), .int (fd5 24)]) (rest := []) ⟨hx, hb, hml, hown, hts⟩ (ct_M_laysCode_i22 h _) (cwV 2 hts (lw_V q1493 q1495 qs50 q97 q1496) rfl rfl rfl (by decide +kernel) ⟨Nat.le_trans (Nat.le_of_ble_eq_true rfl) hRf, Nat.le_trans (Nat.le_of_ble_eq_true rfl) hRl⟩) ⟨ct_blind, va_recv hK hP (ci := 2) (q0 := 0) rfl rfl, ct_at F hS hP hD⟩ rfl rfl hl.1 rfl (lv_room (Nat.le_of_ble_eq_true rfl)) dX3_law_75 ⟨hC, hSl⟩) rfl rfl hD hS ?_
      rintro ⟨fd9, ar10⟩ H locs h hP hD hS
      refine lv_aload_n hx hb dX3_law_78 rfl (lv_at hl 0 rfl) ?_
      refine lv_bipush (v := (20 : Int32)) hx hb dX3_law_79 (by decide) ?_
      refine cl_i F (va_runV (As := [.int (20 : Int32)]) (rest := []) ⟨hx, hb, hml, hown, hts⟩ (ct_M_breakMany h _) (cwV 1 hts (lw_V q1714 q1716 qs82 q97 q1717) rfl rfl rfl (by decide +kernel) ⟨Nat.le_trans (Nat.le_of_ble_eq_true rfl) hRf, Nat.le_trans (Nat.le_of_ble_eq_true rfl) hRl⟩) ⟨ct_blind, va_recv hK hP (ci := 2) (q0 := 0) rfl rfl, ct_at F hS hP hD⟩ rfl rfl hl.1 rfl (lv_room (Nat.le_of_ble_eq_true rfl)) dX3_law_81 ⟨hC, hSl⟩) rfl rfl hD hS ?_
      rintro x11 ⟨fd12, ar13⟩ H locs h hP hD hS
      refine lv_istore (lv' := [(4, .int x11), (0, .ref o), (2, .int x4), (3, .int (fd5 23))]) hx hb dX3_law_84 hl (by decide) rfl (fun ls hl => ?_)
      refine lv_aload_n hx hb dX3_law_86 rfl (lv_at hl 1 rfl) ?_
      refine lv_aload_n hx hb dX3_law_87 rfl (lv_at hl 1 rfl) ?_
      refine va_get hx hb hts in_X3 hown hK hP 0 rfl rfl 41 (Nat.le_of_ble_eq_true rfl) (hts _ q1259) (fun _ h => h) (v := .ref (ad 41)) rfl dX3_law_88 ?_
      refine lv_iload_n hx hb dX3_law_91 rfl (lv_at hl 3 rfl) ?_
      refine cl_v F (va_runV (As := [.ref (ad 41), .int (fd5 23)]) (rest := []) ⟨hx, hb, hml, hown, hts⟩ (ct_M_laysCode_i41 h _) (cwV 2 hts (lw_V q1493 q1495 qs50 q97 q1496) rfl rfl rfl (by decide +kernel) ⟨Nat.le_trans (Nat.le_of_ble_eq_true rfl) hRf, Nat.le_trans (Nat.le_of_ble_eq_true rfl) hRl⟩) ⟨ct_blind, va_recv hK hP (ci := 2) (q0 := 0) rfl rfl, ct_at F hS hP hD⟩ rfl rfl hl.1 rfl (lv_room (Nat.le_of_ble_eq_true rfl)) dX3_law_92 ⟨hC, hSl⟩) rfl rfl hD hS ?_
      rintro ⟨fd14, ar15⟩ H locs h hP hD hS
      refine lv_aload_n hx hb dX3_law_95 rfl (lv_at hl 1 rfl) ?_
      refine lv_iconst (v := (0 : Int32)) hx hb dX3_law_96 (by decide) ?_
      refine pt_put (v := .int (0 : Int32)) hx hb hts in_X3 tyX3 tyX3_ok nmX3 hown hK hP hD hS 0 rfl rfl 1 (Nat.le_of_ble_eq_true rfl) (hts _ q1219) (fun _ h => h) rfl (ty := .int) (by decide +kernel) rfl rfl (Nat.le_of_ble_eq_true rfl) dX3_law_97 wmF_1 (fun H locs hP hD hS => ?_)
      refine lv_aload_n hx hb dX3_law_100 rfl (lv_at hl 1 rfl) ?_
      refine lv_iload hx hb dX3_law_101 (lv_at hl 0 rfl) ?_
      refine lv_i2l (v := (x11.toInt64)) hx hb dX3_law_103 rfl ?_
      refine cl_v F (va_runV (As := [.long (x11.toInt64)]) (rest := []) ⟨hx, hb, hml, hown, hts⟩ (ct_M_enters h _) (cwV 1 hts (lw_V q1634 q1636 qs70 q97 q1637) rfl rfl rfl (by decide +kernel) ⟨Nat.le_trans (Nat.le_of_ble_eq_true rfl) hRf, Nat.le_trans (Nat.le_of_ble_eq_true rfl) hRl⟩) ⟨ct_blind, va_recv hK hP (ci := 2) (q0 := 0) rfl rfl, ct_at F hS hP hD⟩ rfl rfl hl.1 rfl (lv_room (Nat.le_of_ble_eq_true rfl)) dX3_law_104 ⟨hC, hSl⟩) rfl rfl hD hS ?_
      rintro ⟨fd16, lw17⟩ H locs h hP hD hS
      refine lv_aload_n hx hb dX3_law_107 rfl (lv_at hl 1 rfl) ?_
      refine lv_iload_n hx hb dX3_law_108 rfl (lv_at hl 2 rfl) ?_
      refine lv_i2l (v := (x4.toInt64)) hx hb dX3_law_109 rfl ?_
      refine cl_v F (va_runV (As := [.long (x4.toInt64)]) (rest := []) ⟨hx, hb, hml, hown, hts⟩ (ct_M_enters h _) (cwV 1 hts (lw_V q1634 q1636 qs70 q97 q1637) rfl rfl rfl (by decide +kernel) ⟨Nat.le_trans (Nat.le_of_ble_eq_true rfl) hRf, Nat.le_trans (Nat.le_of_ble_eq_true rfl) hRl⟩) ⟨ct_blind, va_recv hK hP (ci := 2) (q0 := 0) rfl rfl, ct_at F hS hP hD⟩ rfl rfl hl.1 rfl (lv_room (Nat.le_of_ble_eq_true rfl)) dX3_law_110 ⟨hC, hSl⟩) rfl rfl hD hS ?_
      rintro ⟨fd18, lw19⟩ H locs h hP hD hS
      refine lv_iload hx hb dX3_law_113 (lv_at hl 0 rfl) ?_
      refine lv_iload_n hx hb dX3_law_115 rfl (lv_at hl 2 rfl) ?_
      refine lv_isub hx hb dX3_law_116 ?_
      exact rt_i F dX3_law_117 rfl (fd18, ar15, lw19) h hP hD hS (Nat.le_refl _) (Nat.le_refl _)
  · replace h := h.2 c20
    refine lv_iload_n hx hb dX3_law_14 rfl (lv_at hl 0 rfl) ?_
    refine lv_iconst (v := (1 : Int32)) hx hb dX3_law_15 (by decide) ?_
    refine lv_iadd hx hb dX3_law_16 ?_
    refine lv_sipush (v := (10000 : Int32)) hx hb dX3_law_17 (by decide) ?_
    refine lv_isub hx hb dX3_law_20 ?_
    exact rt_i F dX3_law_21 rfl (fd2, ar3, lw) h hP hD hS (Nat.le_refl _) (Nat.le_refl _)
set_option maxHeartbeats 4000000 in
theorem lp_M_ways_L1 {p : Program} {l : Launch} {e : Env} {R : Room} {s : State} {m : MethodId} {args : Array Value} {below : List Frame} {meth : Method} {c : Code} {cells slots : Nat} {A : Nat → Prop} {Qf : State → Prop} {V : evT} {D : va_G} {gI : Nat → ClassId} {o : Nat} {ad : Nat → Nat} {ar : Nat → Nat → Int32} {K48 : (Nat → Int32) → (Nat → Int64) → Prop} (F : ct_F p m c meth cX3_ways 2 s args RX3 (some .int) A V D vwCl (tyL gI)) (hRf : 15 ≤ R.frames) (hRl : 318 ≤ R.locals) (hC : cells ≤ R.cells) (hSl : slots ≤ R.slots)
    (hK48 : ∀ (fd : Nat → Int32) (lw : Nat → Int64), K48 fd lw → ∀ (H : Heap) (locs : List Loc) (ls : Array Slot), va_P D vwCl (wm gI o ad fd ar lw) H → va_D A (wm gI o ad fd ar lw) → va_S A s.heap H locs → lv_has ls 2 [(0, .ref o)] → W p l e R s m args below meth c H locs cells slots Qf (F0 m 48 ls [])) :
    ∀ (n : Nat) (v1 : Int32) (fd : Nat → Int32) (lw : Nat → Int64), wp_M_ways_L1 ar K48 n v1 fd lw → ∀ (H : Heap) (locs : List Loc) (ls : Array Slot), va_P D vwCl (wm gI o ad fd ar lw) H → va_D A (wm gI o ad fd ar lw) → va_S A s.heap H locs → lv_has ls 2 [(0, .ref o), (1, .int v1)] → W p l e R s m args below meth c H locs cells slots Qf (F0 m 16 ls []) := by
  obtain ⟨⟨hx, hb, hml, hown, hts⟩, hr, hlocks, hA, hK, hE⟩ := id F
  intro n
  induction n with
  | zero => intro v1 fd lw h; exact h.elim
  | succ n ih =>
    intro v1 fd lw h H locs ls hP hD hS hl
    unfold wp_M_ways_L1 at h
    refine lv_iload_n hx hb dX3_ways_16 rfl (lv_at hl 1 rfl) ?_
    refine lv_aload_n hx hb dX3_ways_17 rfl (lv_at hl 0 rfl) ?_
    refine va_get hx hb hts in_X3 hown hK hP 0 rfl rfl 4 (Nat.le_of_ble_eq_true rfl) (hts _ q1222) (fun _ h => h) (v := .int (fd 4)) rfl dX3_ways_18 ?_
    refine lv_icmp_ge (tgt := 48) hx hb dX3_ways_21 (by decide) (fun c6 => ?_) (fun c6 => ?_)
    · replace h := h.1 c6
      exact hK48 _ _ h _ _ _ hP hD hS (lv_sub hl [0] rfl)
    · replace h := h.2 c6
      refine lv_aload_n hx hb dX3_ways_24 rfl (lv_at hl 0 rfl) ?_
      refine va_get hx hb hts in_X3 hown hK hP 0 rfl rfl 48 (Nat.le_of_ble_eq_true rfl) (hts _ q1266) (fun _ h => h) (v := .int (fd 48)) rfl dX3_ways_25 ?_
      refine lv_if_le (tgt := 48) hx hb dX3_ways_28 (by decide) (fun c5 => ?_) (fun c5 => ?_)
      · replace h := h.1 c5
        exact hK48 _ _ h _ _ _ hP hD hS (lv_sub hl [0] rfl)
      · replace h := h.2 c5
        refine lv_aload_n hx hb dX3_ways_31 rfl (lv_at hl 0 rfl) ?_
        refine lv_aload_n hx hb dX3_ways_32 rfl (lv_at hl 0 rfl) ?_
        refine va_get hx hb hts in_X3 hown hK hP 0 rfl rfl 46 (Nat.le_of_ble_eq_true rfl) (hts _ q1264) (fun _ h => h) (v := .ref (ad 46)) rfl dX3_ways_33 ?_
        refine lv_iload_n hx hb dX3_ways_36 rfl (lv_at hl 1 rfl) ?_
        refine va_iald (f := (ar 46)) hx hb hK hP 28 0 rfl rfl h.1 dX3_ways_37 ?_
        replace h := h.2
        refine lv_i2l (v := ((ar 46 v1.toNatClampNeg).toInt64)) hx hb dX3_ways_38 rfl ?_
        refine cl_v F (va_runV (As := [.long ((ar 46 v1.toNatClampNeg).toInt64)]) (rest := []) ⟨hx, hb, hml, hown, hts⟩ (ct_M_enters h _) (cwV 1 hts (lw_V q1634 q1636 qs70 q97 q1637) rfl rfl rfl (by decide +kernel) ⟨Nat.le_trans (Nat.le_of_ble_eq_true rfl) hRf, Nat.le_trans (Nat.le_of_ble_eq_true rfl) hRl⟩) ⟨ct_blind, va_recv hK hP (ci := 2) (q0 := 0) rfl rfl, ct_at F hS hP hD⟩ rfl rfl hl.1 rfl (lv_room (Nat.le_of_ble_eq_true rfl)) dX3_ways_39 ⟨hC, hSl⟩) rfl rfl hD hS ?_
        rintro ⟨fd3, lw4⟩ H locs h hP hD hS
        refine lv_iinc (v := (v1 + (1 : Int32))) (lv' := [(1, .int (v1 + (1 : Int32))), (0, .ref o)]) hx hb dX3_ways_42 hl (k := 1) rfl rfl (by decide) rfl (fun ls hl => ?_)
        refine lv_goto (tgt := 16) hx hb dX3_ways_45 (by decide) ?_
        exact ih _ _ _ h _ _ _ hP hD hS (lv_sub hl [1, 0] rfl)
set_option maxHeartbeats 4000000 in
theorem ct_M_ways {l : Launch} {V : evT} {D : va_G} {gI : Nat → ClassId} {o : Nat} {ad : Nat → Nat} {fd : Nat → Int32} {ar : Nat → Nat → Int32} {lw : Nat → Int64} {Q : Int32 → (Nat → Int32) → (Nat → Nat → Int32) → (Nat → Int64) → Prop} (h : wp_M_ways fd ar lw Q) : ct_i l V D vwCl (tyL gI) yX3_ways cX3_ways 2 .int { frames := 15, cells := 0, slots := 0, locals := 318 } [.ref o] (wm gI o ad fd ar lw) (fun u : (Nat → Int32) × (Nat → Nat → Int32) × (Nat → Int64) => (wm gI o ad u.1 u.2.1 u.2.2)) (fun (x : Int32) (u : (Nat → Int32) × (Nat → Nat → Int32) × (Nat → Int64)) => Q x u.1 u.2.1 u.2.2) := by
  refine ct_ofi RX3 rfl (by decide +kernel) (Nat.le_of_ble_eq_true rfl) ?_
  intro p e s m args below meth c A F hP hD ls hl
  obtain ⟨⟨hx, hb, hml, hown, hts⟩, hr, hlocks, hA, hK, hE⟩ := id F
  have hS : va_S A s.heap s.heap [] := va_S.rf
  have hl : lv_has ls 2 [(0, .ref o)] := hl
  have hRf : 15 ≤ ({ frames := 15, cells := 0, slots := 0, locals := 318 } : Room).frames := Nat.le_refl _
  have hRl : 318 ≤ ({ frames := 15, cells := 0, slots := 0, locals := 318 } : Room).locals := Nat.le_refl _
  have hC : 0 ≤ ({ frames := 15, cells := 0, slots := 0, locals := 318 } : Room).cells := Nat.le_refl _
  have hSl : 0 ≤ ({ frames := 15, cells := 0, slots := 0, locals := 318 } : Room).slots := Nat.le_refl _
  unfold wp_M_ways at h
  refine lv_aload_n hx hb dX3_ways_0 rfl (lv_at hl 0 rfl) ?_
  refine lv_iconst (v := (0 : Int32)) hx hb dX3_ways_1 (by decide) ?_
  refine pt_put (v := .int (0 : Int32)) hx hb hts in_X3 tyX3 tyX3_ok nmX3 hown hK hP hD hS 0 rfl rfl 0 (Nat.le_of_ble_eq_true rfl) (hts _ q1218) (fun _ h => h) rfl (ty := .int) (by decide +kernel) rfl rfl (Nat.le_of_ble_eq_true rfl) dX3_ways_2 wmF_0 (fun H locs hP hD hS => ?_)
  refine lv_aload_n hx hb dX3_ways_5 rfl (lv_at hl 0 rfl) ?_
  refine cl_v F (va_runV (As := []) (rest := []) ⟨hx, hb, hml, hown, hts⟩ (ct_M_laysPlaces h _) (cwV 0 hts (lw_V q1798 q1800 qs89 q97 q1801) rfl rfl rfl (by decide +kernel) ⟨Nat.le_trans (Nat.le_of_ble_eq_true rfl) hRf, Nat.le_trans (Nat.le_of_ble_eq_true rfl) hRl⟩) ⟨ct_blind, va_recv hK hP (ci := 2) (q0 := 0) rfl rfl, ct_at F hS hP hD⟩ rfl rfl hl.1 rfl (lv_room (Nat.le_of_ble_eq_true rfl)) dX3_ways_6 ⟨hC, hSl⟩) rfl rfl hD hS ?_
  rintro ⟨fd1, ar2⟩ H locs h hP hD hS
  refine lv_aload_n hx hb dX3_ways_9 rfl (lv_at hl 0 rfl) ?_
  refine lv_iconst (v := (0 : Int32)) hx hb dX3_ways_10 (by decide) ?_
  refine pt_put (v := .int (0 : Int32)) hx hb hts in_X3 tyX3 tyX3_ok nmX3 hown hK hP hD hS 0 rfl rfl 1 (Nat.le_of_ble_eq_true rfl) (hts _ q1219) (fun _ h => h) rfl (ty := .int) (by decide +kernel) rfl rfl (Nat.le_of_ble_eq_true rfl) dX3_ways_11 wmF_1 (fun H locs hP hD hS => ?_)
  refine lv_iconst (v := (0 : Int32)) hx hb dX3_ways_14 (by decide) ?_
  refine lv_istore_n (lv' := [(1, .int (0 : Int32)), (0, .ref o)]) hx hb dX3_ways_15 rfl hl (by decide) rfl (fun ls hl => ?_)
  obtain ⟨k16, h⟩ := h
  refine lp_M_ways_L1 F hRf hRl hC hSl ?hk48 k16 _ _ _ h _ _ _ hP hD hS (lv_sub hl [1, 0] rfl)
  case hk48 =>
    intro fd_7 lw_8 h H locs ls hP hD hS hl
    refine lv_aload_n hx hb dX3_ways_48 rfl (lv_at hl 0 rfl) ?_
    refine va_get hx hb hts in_X3 hown hK hP 0 rfl rfl 48 (Nat.le_of_ble_eq_true rfl) (hts _ q1266) (fun _ h => h) (v := .int (fd_7 48)) rfl dX3_ways_49 ?_
    exact rt_i F dX3_ways_52 rfl (fd_7, ar2, lw_8) h hP hD hS (Nat.le_refl _) (Nat.le_refl _)
set_option maxHeartbeats 4000000 in
theorem ct_M_was {l : Launch} {V : evT} {D : va_G} {gI : Nat → ClassId} {o : Nat} {ad : Nat → Nat} {v1 : Int32} {fd : Nat → Int32} {ar : Nat → Nat → Int32} {lw : Nat → Int64} {Q : Int32 → (Nat → Int32) → (Nat → Nat → Int32) → (Nat → Int64) → Prop} (h : wp_M_was v1 fd ar lw Q) : ct_i l V D vwCl (tyL gI) yX3_was cX3_was 2 .int { frames := 15, cells := 0, slots := 0, locals := 318 } [.ref o, .int v1] (wm gI o ad fd ar lw) (fun u : (Nat → Int32) × (Nat → Nat → Int32) × (Nat → Int64) => (wm gI o ad u.1 u.2.1 u.2.2)) (fun (x : Int32) (u : (Nat → Int32) × (Nat → Nat → Int32) × (Nat → Int64)) => Q x u.1 u.2.1 u.2.2) := by
  refine ct_ofi RX3 rfl (by decide +kernel) (Nat.le_of_ble_eq_true rfl) ?_
  intro p e s m args below meth c A F hP hD ls hl
  obtain ⟨⟨hx, hb, hml, hown, hts⟩, hr, hlocks, hA, hK, hE⟩ := id F
  have hS : va_S A s.heap s.heap [] := va_S.rf
  have hl : lv_has ls 2 [(0, .ref o), (1, .int v1)] := hl
  have hRf : 15 ≤ ({ frames := 15, cells := 0, slots := 0, locals := 318 } : Room).frames := Nat.le_refl _
  have hRl : 318 ≤ ({ frames := 15, cells := 0, slots := 0, locals := 318 } : Room).locals := Nat.le_refl _
  have hC : 0 ≤ ({ frames := 15, cells := 0, slots := 0, locals := 318 } : Room).cells := Nat.le_refl _
  have hSl : 0 ≤ ({ frames := 15, cells := 0, slots := 0, locals := 318 } : Room).slots := Nat.le_refl _
  unfold wp_M_was at h
  refine lv_aload_n hx hb dX3_was_0 rfl (lv_at hl 0 rfl) ?_
  refine lv_iconst (v := (0 : Int32)) hx hb dX3_was_1 (by decide) ?_
  refine pt_put (v := .int (0 : Int32)) hx hb hts in_X3 tyX3 tyX3_ok nmX3 hown hK hP hD hS 0 rfl rfl 0 (Nat.le_of_ble_eq_true rfl) (hts _ q1218) (fun _ h => h) rfl (ty := .int) (by decide +kernel) rfl rfl (Nat.le_of_ble_eq_true rfl) dX3_was_2 wmF_0 (fun H locs hP hD hS => ?_)
  refine lv_aload_n hx hb dX3_was_5 rfl (lv_at hl 0 rfl) ?_
  refine lv_iload_n hx hb dX3_was_6 rfl (lv_at hl 1 rfl) ?_
  refine cl_i F (va_runV (As := [.int v1]) (rest := []) ⟨hx, hb, hml, hown, hts⟩ (ct_M_isChild h _) (cwV 1 hts (lw_V q1528 q1530 qs55 q97 q1531) rfl rfl rfl (by decide +kernel) ⟨Nat.le_trans (Nat.le_of_ble_eq_true rfl) hRf, Nat.le_trans (Nat.le_of_ble_eq_true rfl) hRl⟩) ⟨ct_blind, va_recv hK hP (ci := 2) (q0 := 0) rfl rfl, ct_at F hS hP hD⟩ rfl rfl hl.1 rfl (lv_room (Nat.le_of_ble_eq_true rfl)) dX3_was_7 ⟨hC, hSl⟩) rfl rfl hD hS ?_
  rintro x1 _ H locs h hP hD hS
  refine lv_if_ne (tgt := 15) hx hb dX3_was_10 (by decide) (fun c6 => ?_) (fun c6 => ?_)
  · replace h := h.1 c6
    refine lv_aload_n hx hb dX3_was_15 rfl (lv_at hl 0 rfl) ?_
    refine cl_v F (va_runV (As := []) (rest := []) ⟨hx, hb, hml, hown, hts⟩ (ct_M_laysPlaces h _) (cwV 0 hts (lw_V q1798 q1800 qs89 q97 q1801) rfl rfl rfl (by decide +kernel) ⟨Nat.le_trans (Nat.le_of_ble_eq_true rfl) hRf, Nat.le_trans (Nat.le_of_ble_eq_true rfl) hRl⟩) ⟨ct_blind, va_recv hK hP (ci := 2) (q0 := 0) rfl rfl, ct_at F hS hP hD⟩ rfl rfl hl.1 rfl (lv_room (Nat.le_of_ble_eq_true rfl)) dX3_was_16 ⟨hC, hSl⟩) rfl rfl hD hS ?_
    rintro ⟨fd2, ar3⟩ H locs h hP hD hS
    refine lv_aload_n hx hb dX3_was_19 rfl (lv_at hl 0 rfl) ?_
    refine lv_iconst (v := (0 : Int32)) hx hb dX3_was_20 (by decide) ?_
    refine pt_put (v := .int (0 : Int32)) hx hb hts in_X3 tyX3 tyX3_ok nmX3 hown hK hP hD hS 0 rfl rfl 1 (Nat.le_of_ble_eq_true rfl) (hts _ q1219) (fun _ h => h) rfl (ty := .int) (by decide +kernel) rfl rfl (Nat.le_of_ble_eq_true rfl) dX3_was_21 wmF_1 (fun H locs hP hD hS => ?_)
    refine lv_aload_n hx hb dX3_was_24 rfl (lv_at hl 0 rfl) ?_
    refine lv_aload_n hx hb dX3_was_25 rfl (lv_at hl 0 rfl) ?_
    refine va_get hx hb hts in_X3 hown hK hP 0 rfl rfl 47 (Nat.le_of_ble_eq_true rfl) (hts _ q1265) (fun _ h => h) (v := .ref (ad 47)) rfl dX3_was_26 ?_
    refine lv_iload_n hx hb dX3_was_29 rfl (lv_at hl 1 rfl) ?_
    refine va_iald (f := (ar3 47)) hx hb hK hP 29 0 rfl rfl h.1 dX3_was_30 ?_
    replace h := h.2
    refine lv_iconst (v := (1 : Int32)) hx hb dX3_was_31 (by decide) ?_
    refine lv_iand hx hb dX3_was_32 ?_
    refine lv_i2l (v := (((ar3 47 v1.toNatClampNeg) &&& (1 : Int32)).toInt64)) hx hb dX3_was_33 rfl ?_
    refine cl_v F (va_runV (As := [.long (((ar3 47 v1.toNatClampNeg) &&& (1 : Int32)).toInt64)]) (rest := []) ⟨hx, hb, hml, hown, hts⟩ (ct_M_enters h _) (cwV 1 hts (lw_V q1634 q1636 qs70 q97 q1637) rfl rfl rfl (by decide +kernel) ⟨Nat.le_trans (Nat.le_of_ble_eq_true rfl) hRf, Nat.le_trans (Nat.le_of_ble_eq_true rfl) hRl⟩) ⟨ct_blind, va_recv hK hP (ci := 2) (q0 := 0) rfl rfl, ct_at F hS hP hD⟩ rfl rfl hl.1 rfl (lv_room (Nat.le_of_ble_eq_true rfl)) dX3_was_34 ⟨hC, hSl⟩) rfl rfl hD hS ?_
    rintro ⟨fd4, lw5⟩ H locs h hP hD hS
    refine lv_aload_n hx hb dX3_was_37 rfl (lv_at hl 0 rfl) ?_
    refine va_get hx hb hts in_X3 hown hK hP 0 rfl rfl 47 (Nat.le_of_ble_eq_true rfl) (hts _ q1265) (fun _ h => h) (v := .ref (ad 47)) rfl dX3_was_38 ?_
    refine lv_iload_n hx hb dX3_was_41 rfl (lv_at hl 1 rfl) ?_
    refine va_iald (f := (ar3 47)) hx hb hK hP 29 0 rfl rfl h.1 dX3_was_42 ?_
    replace h := h.2
    refine lv_iconst (v := (1 : Int32)) hx hb dX3_was_43 (by decide) ?_
    refine lv_ishr hx hb dX3_was_44 ?_
    exact rt_i F dX3_was_45 rfl (fd4, ar3, lw5) h hP hD hS (Nat.le_refl _) (Nat.le_refl _)
  · replace h := h.2 c6
    refine lv_iconst (v := (-1 : Int32)) hx hb dX3_was_13 (by decide) ?_
    exact rt_i F dX3_was_14 rfl ((upd fd 0 (0 : Int32)), ar, lw) h hP hD hS (Nat.le_refl _) (Nat.le_refl _)
