/-! the law, case 31: walk -/
set_option maxRecDepth 100000
set_option maxHeartbeats 8000000 in
theorem lc_31 {p : Program} {l : Launch} {e : Env} {s : State} {m : MethodId} {args : Array Value} {below : List Frame} {meth : Method} {c : Code} {A : Nat → Prop} {V : evT} {D : va_G} {gI : Nat → ClassId} {ret0 : Option FieldType} {Qf : State → Prop} {b L : Nat} {xs : Nat → Int32} {o po om : Nat} {ax ad : Nat → Nat} (F : ct_F p m c meth cL_law 8 s args RX0 ret0 A V D vwCl (tyL gI)) (hlt : l.stackTraces = false) (hX : va_X b L xs s s.heap) (hbl : b < s.heap.size) (hbA : ¬ A b) {v4 : Int32} {cells slots : Nat} (hCA : cells + 1000 ≤ room_1.cells) (hSA : slots + 10000 ≤ room_1.slots) {K : (Nat → Int32) → (Nat → Nat → Int32) → (Nat → Int64) → (HT) → (Option (Nat × Nat)) → (Nat → Int64) → (Nat → Option Nat) → (List PGc) → (Nat → Int32) → (Nat → Nat → Int32) → (Nat → Int64) → Prop}
    (hK : ∀ (fd : Nat → Int32) (ar : Nat → Nat → Int32) (lw : Nat → Int64) (hh : HT) (rn : Option (Nat × Nat)) (ot : Nat → Int64) (pq : Nat → Option Nat) (pl : List PGc) (fm : Nat → Int32) (am : Nat → Nat → Int32) (lm : Nat → Int64), K fd ar lw hh rn ot pq pl fm am lm → ∀ (H : Heap) (locs : List Loc) (ls : Array Slot), va_P D vwCl (wX gI o ax rn (wOut gI po ot ++ (wm gI om ad fm am lm ++ (wPA gI ax pq ++ wPL gI o pl))) fd ar lw hh) H → va_D A (wX gI o ax rn (wOut gI po ot ++ (wm gI om ad fm am lm ++ (wPA gI ax pq ++ wPL gI o pl))) fd ar lw hh) → va_S A s.heap H locs → lv_has ls 8 [(0, .ref b), (1, .ref o), (2, .ref om), (3, .ref po), (4, .int v4)] → W p l e room_1 s m args below meth c H locs (cells + 1000) (slots + 10000) Qf (F0 m 1439 ls [])) :
    ∀ (fd : Nat → Int32) (ar : Nat → Nat → Int32) (lw : Nat → Int64) (hh : HT) (rn : Option (Nat × Nat)) (ot : Nat → Int64) (pq : Nat → Option Nat) (pl : List PGc) (fm : Nat → Int32) (am : Nat → Nat → Int32) (lm : Nat → Int64), wp_LL_c31 xs L v4 fd ar lw hh rn ot pq pl fm am lm K → ∀ (H : Heap) (locs : List Loc) (ls : Array Slot), va_P D vwCl (wX gI o ax rn (wOut gI po ot ++ (wm gI om ad fm am lm ++ (wPA gI ax pq ++ wPL gI o pl))) fd ar lw hh) H → va_D A (wX gI o ax rn (wOut gI po ot ++ (wm gI om ad fm am lm ++ (wPA gI ax pq ++ wPL gI o pl))) fd ar lw hh) → va_S A s.heap H locs → lv_has ls 8 [(0, .ref b), (1, .ref o), (2, .ref om), (3, .ref po), (4, .int v4)] → W p l e room_1 s m args below meth c H locs cells slots Qf (F0 m 1085 ls []) := by
  have hKK := hK
  obtain ⟨⟨hx, hb, hml, hown, hts⟩, hr, hlocks, hA, hK, hE⟩ := id F
  intro fd ar lw hh rn ot pq pl fm am lm h H locs ls hP hD hS hl
  unfold wp_LL_c31 at h
  have hC : cells ≤ room_1.cells := Nat.le_trans (Nat.le_add_right _ _) hCA
  have hSl : slots ≤ room_1.slots := Nat.le_trans (Nat.le_add_right _ _) hSA
  refine lv_aload_n hx hb dL_law_1085 rfl (lv_at hl 1 rfl) ?_
  refine cl_iA (kc := 1000) (ks := 10000) (Nat.le_of_ble_eq_true rfl) (Nat.le_of_ble_eq_true rfl) F (vx_runVW (As := []) (rest := []) ⟨hx, hb, hml, hown, hts⟩ (ct_S_law hlt h _) (vx_cwVW 0 hts (lw_VW q1076 q1077 q1078 q94 q1079) rfl rfl rfl (by decide +kernel) ⟨Nat.le_of_ble_eq_true rfl, Nat.le_of_ble_eq_true rfl⟩) ⟨ct_blind, va_recv hK hP (ci := 0) (q0 := 0) rfl rfl, ct_at F hS hP hD⟩ rfl rfl hl.1 rfl (lv_room (Nat.le_of_ble_eq_true rfl)) dL_law_1086 ⟨Nat.le_trans (Nat.add_le_add_left (Nat.le_of_ble_eq_true rfl) _) hCA, Nat.le_trans (Nat.add_le_add_left (Nat.le_of_ble_eq_true rfl) _) hSA⟩) hD hS ?_
  rintro x1 ⟨fd2, ar3, lw4⟩ H locs h hP hD hS
  replace hC := hCA
  replace hSl := hSA
  refine lv_aload_n hx hb dL_law_1089 rfl (lv_at hl 2 rfl) ?_
  replace hP := lwm_outP hP
  replace hD := lwm_outD hD
  refine cl_iL F (va_runV (As := []) (rest := [.int x1]) ⟨hx, hb, hml, hown, hts⟩ (ct_M_law h _) (cwV 0 hts (lw_V q1782 q1783 q1784 q97 q1785) rfl rfl rfl (by decide +kernel) ⟨Nat.le_of_ble_eq_true rfl, Nat.le_of_ble_eq_true rfl⟩) ⟨ct_blind, va_recv hK hP (ci := 2) (q0 := 0) rfl rfl, ct_at F hS (putL_P hP (ps := [0, 1, 2, 3, 4, 5, 6, 7, 8, 9, 10, 11, 12, 13, 14, 15, 16, 17, 18, 19, 20, 21, 22, 23, 24, 25, 26, 27, 28, 29, 30, 31, 32]) rfl) (hD.sub ([0, 1, 2, 3, 4, 5, 6, 7, 8, 9, 10, 11, 12, 13, 14, 15, 16, 17, 18, 19, 20, 21, 22, 23, 24, 25, 26, 27, 28, 29, 30, 31, 32]) (by decide) rfl)⟩ rfl rfl hl.1 rfl (lv_room (Nat.le_of_ble_eq_true rfl)) dL_law_1090 ⟨hC, hSl⟩) rfl rfl hP hD hS (ps := [0, 1, 2, 3, 4, 5, 6, 7, 8, 9, 10, 11, 12, 13, 14, 15, 16, 17, 18, 19, 20, 21, 22, 23, 24, 25, 26, 27, 28, 29, 30, 31, 32]) rfl (fun _ => rfl) (fun _ => rfl) ?_
  rintro y5 ⟨fm6, am7, lm8⟩ H locs h hP hD hS
  replace hP : va_P D vwCl (wm gI om ad fm6 am7 lm8 ++ wX gI o ax rn (wOut gI po ot ++ (wPA gI ax pq ++ wPL gI o pl)) fd2 ar3 lw4 hh) _ := hP
  replace hD : va_D A (wm gI om ad fm6 am7 lm8 ++ wX gI o ax rn (wOut gI po ot ++ (wPA gI ax pq ++ wPL gI o pl)) fd2 ar3 lw4 hh) := hD
  replace hP := lwm_inP hP
  replace hD := lwm_inD hD
  refine lv_icmp_eq (tgt := 1439) hx hb dL_law_1093 (by decide) (fun c9 => ?_) (fun c9 => ?_)
  · replace h := h.1 c9
    exact hKK _ _ _ _ _ _ _ _ _ _ _ h _ _ _ hP hD hS (lv_sub hl [0, 1, 2, 3, 4] rfl)
  · replace h := h.2 c9
    refine lv_iconst (v := (0 : Int32)) hx hb dL_law_1096 (by decide) ?_
    exact rt_i F dL_law_1097 rfl () h hP hD hS (Nat.le_of_ble_eq_true rfl) (Nat.le_of_ble_eq_true rfl)
