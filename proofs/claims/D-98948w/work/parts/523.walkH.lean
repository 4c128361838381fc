/-! a Shore: walks -/
set_option maxRecDepth 100000
set_option maxHeartbeats 4000000 in
theorem lp_H_read_J2 {p : Program} {l : Launch} {e : Env} {R : Room} {s : State} {m : MethodId} {args : Array Value} {below : List Frame} {meth : Method} {c : Code} {A : Nat → Prop} {V : evT} {D : va_G} {gI : Nat → ClassId} {o : Nat} {pb pd ow pt : Nat} {tx : Nat → Int32} {sz : Int32} {en : Int32} {Q : (Int32) → (Int32) → (Nat → Int32) → (Nat → Int32) → Prop} {E : Int32 → (Int32) → (Int32) → (Nat → Int32) → (Nat → Int32) → Prop} {K0 : (Int32) → (Int32) → (Nat → Int32) → (Nat → Int32) → Prop} {K108 : (Int32) → (Int32) → (Nat → Int32) → (Nat → Int32) → Prop} (F : ct_F p m c meth cX4_read 2 s args RX4 (some (.object "SandKeepsSea$Shore")) A V D vwCl (tyL gI)) (hRf : 8 ≤ R.frames) (hRl : 144 ≤ R.locals) (hC : 0 ≤ R.cells) (hSl : 0 ≤ R.slots) (hC1 : 1 ≤ R.cells) (hS7 : 7 ≤ R.slots) (htab : ∀ x ∈ c.exceptionTable.toList, False) (hlt : l.stackTraces = false)
    (hK0 : ∀ (pw : Int32) (smn : Int32) (sba : Nat → Int32) (sdy : Nat → Int32), K0 pw smn sba sdy → ∀ (H : Heap) (locs : List Loc) (ls : Array Slot), va_P D vwCl (wSH gI o pb pd ow pt smn sba sdy tx sz en pw) H → va_D A (wSH gI o pb pd ow pt smn sba sdy tx sz en pw) → va_S A s.heap H locs → lv_has ls 2 [(0, .ref o), (1, .ref ow)] → W p l e R s m args below meth c H locs 0 0 (vx_MQ below (va_Qr (fun (u : (Int32) × (Int32) × (Nat → Int32) × (Nat → Int32)) => Q u.1 u.2.1 u.2.2.1 u.2.2.2) (fun u a t => a = (fun _ : (Int32) × (Int32) × (Nat → Int32) × (Nat → Int32) => o) u ∧ va_P D vwCl (wSH gI o pb pd ow pt u.2.1 u.2.2.1 u.2.2.2 tx sz en u.1) t.heap ∧ va_K D vwCl (tyL gI) t ∧ va_D A (wSH gI o pb pd ow pt u.2.1 u.2.2.1 u.2.2.2 tx sz en u.1)) A) (vx_X (S := Int32 × ((Int32) × (Int32) × (Nat → Int32) × (Nat → Int32))) (fun u => (fun (v : Int32) (u : (Int32) × (Int32) × (Nat → Int32) × (Nat → Int32)) => E v u.1 u.2.1 u.2.2.1 u.2.2.2) u.1 u.2) (fun E_ q u t => E_ = RX6 ∧ va_P D vwCl ((fun u : (Int32) × (Int32) × (Nat → Int32) × (Nat → Int32) => (wSH gI o pb pd ow pt u.2.1 u.2.2.1 u.2.2.2 tx sz en u.1)) u.2 ++ [fC q u.1]) t.heap ∧ va_K D vwCl (tyL gI) t ∧ va_D A ((fun u : (Int32) × (Int32) × (Nat → Int32) × (Nat → Int32) => (wSH gI o pb pd ow pt u.2.1 u.2.2.1 u.2.2.2 tx sz en u.1)) u.2 ++ [fC q u.1])) A) args s 1 7 A) (F0 m 0 ls []))
    (hK108 : ∀ (pw : Int32) (smn : Int32) (sba : Nat → Int32) (sdy : Nat → Int32), K108 pw smn sba sdy → ∀ (H : Heap) (locs : List Loc) (ls : Array Slot), va_P D vwCl (wSH gI o pb pd ow pt smn sba sdy tx sz en pw) H → va_D A (wSH gI o pb pd ow pt smn sba sdy tx sz en pw) → va_S A s.heap H locs → lv_has ls 2 [(0, .ref o), (1, .ref ow)] → W p l e R s m args below meth c H locs 0 0 (vx_MQ below (va_Qr (fun (u : (Int32) × (Int32) × (Nat → Int32) × (Nat → Int32)) => Q u.1 u.2.1 u.2.2.1 u.2.2.2) (fun u a t => a = (fun _ : (Int32) × (Int32) × (Nat → Int32) × (Nat → Int32) => o) u ∧ va_P D vwCl (wSH gI o pb pd ow pt u.2.1 u.2.2.1 u.2.2.2 tx sz en u.1) t.heap ∧ va_K D vwCl (tyL gI) t ∧ va_D A (wSH gI o pb pd ow pt u.2.1 u.2.2.1 u.2.2.2 tx sz en u.1)) A) (vx_X (S := Int32 × ((Int32) × (Int32) × (Nat → Int32) × (Nat → Int32))) (fun u => (fun (v : Int32) (u : (Int32) × (Int32) × (Nat → Int32) × (Nat → Int32)) => E v u.1 u.2.1 u.2.2.1 u.2.2.2) u.1 u.2) (fun E_ q u t => E_ = RX6 ∧ va_P D vwCl ((fun u : (Int32) × (Int32) × (Nat → Int32) × (Nat → Int32) => (wSH gI o pb pd ow pt u.2.1 u.2.2.1 u.2.2.2 tx sz en u.1)) u.2 ++ [fC q u.1]) t.heap ∧ va_K D vwCl (tyL gI) t ∧ va_D A ((fun u : (Int32) × (Int32) × (Nat → Int32) × (Nat → Int32) => (wSH gI o pb pd ow pt u.2.1 u.2.2.1 u.2.2.2 tx sz en u.1)) u.2 ++ [fC q u.1])) A) args s 1 7 A) (F0 m 108 ls [])) :
    ∀ (t0 : Int32) (pw : Int32) (smn : Int32) (sba : Nat → Int32) (sdy : Nat → Int32), wp_H_read_J2 tx sz en Q E K0 K108 t0 pw smn sba sdy → ∀ (H : Heap) (locs : List Loc) (ls : Array Slot), va_P D vwCl (wSH gI o pb pd ow pt smn sba sdy tx sz en pw) H → va_D A (wSH gI o pb pd ow pt smn sba sdy tx sz en pw) → va_S A s.heap H locs → lv_has ls 2 [(0, .ref o), (1, .ref ow)] → W p l e R s m args below meth c H locs 0 0 (vx_MQ below (va_Qr (fun (u : (Int32) × (Int32) × (Nat → Int32) × (Nat → Int32)) => Q u.1 u.2.1 u.2.2.1 u.2.2.2) (fun u a t => a = (fun _ : (Int32) × (Int32) × (Nat → Int32) × (Nat → Int32) => o) u ∧ va_P D vwCl (wSH gI o pb pd ow pt u.2.1 u.2.2.1 u.2.2.2 tx sz en u.1) t.heap ∧ va_K D vwCl (tyL gI) t ∧ va_D A (wSH gI o pb pd ow pt u.2.1 u.2.2.1 u.2.2.2 tx sz en u.1)) A) (vx_X (S := Int32 × ((Int32) × (Int32) × (Nat → Int32) × (Nat → Int32))) (fun u => (fun (v : Int32) (u : (Int32) × (Int32) × (Nat → Int32) × (Nat → Int32)) => E v u.1 u.2.1 u.2.2.1 u.2.2.2) u.1 u.2) (fun E_ q u t => E_ = RX6 ∧ va_P D vwCl ((fun u : (Int32) × (Int32) × (Nat → Int32) × (Nat → Int32) => (wSH gI o pb pd ow pt u.2.1 u.2.2.1 u.2.2.2 tx sz en u.1)) u.2 ++ [fC q u.1]) t.heap ∧ va_K D vwCl (tyL gI) t ∧ va_D A ((fun u : (Int32) × (Int32) × (Nat → Int32) × (Nat → Int32) => (wSH gI o pb pd ow pt u.2.1 u.2.2.1 u.2.2.2 tx sz en u.1)) u.2 ++ [fC q u.1])) A) args s 1 7 A) (F0 m 15 ls [.int t0, .ref ow]) := by
  obtain ⟨⟨hx, hb, hml, hown, hts⟩, hr, hlocks, hA, hK, hE⟩ := id F
  intro t0 pw smn sba sdy h H locs ls hP hD hS hl
  unfold wp_H_read_J2 at h
  refine clx_vL F (vx_runV (As := [.int t0]) (rest := []) ⟨hx, hb, hml, hown, hts⟩ (cx_W_need hlt (o := ow) (pt := pt) h _) (cwV 1 hts (lw_V q362 q363 q364 q99 q368) rfl rfl rfl (by decide +kernel) ⟨Nat.le_trans (Nat.le_of_ble_eq_true rfl) hRf, Nat.le_trans (Nat.le_of_ble_eq_true rfl) hRl⟩) ⟨ct_blind, va_recv hK hP (ci := 4) (q0 := 0) rfl rfl, ct_at F hS (putL_P hP (ps := [0, 1]) rfl) (hD.sub ([0, 1]) (by decide) rfl)⟩ rfl rfl hl.1 rfl (lv_room (Nat.le_of_ble_eq_true rfl)) dX4_read_15 ⟨hC1, hS7⟩) hP hD hS (ps := [0, 1]) rfl (fun _ => rfl) (fun _ => rfl) (fun _ => rfl) (fun _ => rfl) ?_ ?_
  · rintro q v_ _ H locs h hP hD hS
    exact rx_out (wx := fun u : (Int32) × (Int32) × (Nat → Int32) × (Nat → Int32) => (wSH gI o pb pd ow pt u.2.1 u.2.2.1 u.2.2.2 tx sz en u.1)) (QX := (fun (v : Int32) (u : (Int32) × (Int32) × (Nat → Int32) × (Nat → Int32)) => E v u.1 u.2.1 u.2.2.1 u.2.2.2)) F (fun x hx => (htab x hx).elim) (pw, smn, sba, sdy) h hP hD hS (Nat.le_refl _) (Nat.le_refl _)
  · rintro _ H locs h hP hD hS
    replace hP : va_P D vwCl (wSH gI o pb pd ow pt smn sba sdy tx sz en pw) _ := hP
    replace hD : va_D A (wSH gI o pb pd ow pt smn sba sdy tx sz en pw) := hD
    refine lv_aload_n hx hb dX4_read_18 rfl (lv_at hl 0 rfl) ?_
    refine va_get hx hb hts in_X4 hown hK hP 2 rfl rfl 0 (Nat.le_of_ble_eq_true rfl) (hts _ q312) (fun _ h => h) (v := .ref pb) rfl dX4_read_19 ?_
    refine lv_aload_n hx hb dX4_read_22 rfl (lv_at hl 0 rfl) ?_
    refine va_get hx hb hts in_X4 hown hK hP 2 rfl rfl 2 (Nat.le_of_ble_eq_true rfl) (hts _ q316) (fun _ h => h) (v := .int smn) rfl dX4_read_23 ?_
    refine lv_aload_n hx hb dX4_read_26 rfl (lv_at hl 1 rfl) ?_
    refine lv_bipush (v := (48 : Int32)) hx hb dX4_read_27 (by decide) ?_
    refine lv_bipush (v := (10 : Int32)) hx hb dX4_read_29 (by decide) ?_
    refine clx_iL F (vx_runV (As := [.int (48 : Int32), .int (10 : Int32)]) (rest := [.int smn, .ref pb]) ⟨hx, hb, hml, hown, hts⟩ (cx_W_one hlt (o := ow) (pt := pt) h _) (cwV 2 hts (lw_V q432 q433 q434 q99 q438) rfl rfl rfl (by decide +kernel) ⟨Nat.le_trans (Nat.le_of_ble_eq_true rfl) hRf, Nat.le_trans (Nat.le_of_ble_eq_true rfl) hRl⟩) ⟨ct_blind, va_recv hK hP (ci := 4) (q0 := 0) rfl rfl, ct_at F hS (putL_P hP (ps := [0, 1]) rfl) (hD.sub ([0, 1]) (by decide) rfl)⟩ rfl rfl hl.1 rfl (lv_room (Nat.le_of_ble_eq_true rfl)) dX4_read_31 ⟨hC1, hS7⟩) hP hD hS (ps := [0, 1]) rfl (fun _ => rfl) (fun _ => rfl) (fun _ => rfl) (fun _ => rfl) ?_ ?_
    · rintro q v_ pw3 H locs h hP hD hS
      exact rx_out (wx := fun u : (Int32) × (Int32) × (Nat → Int32) × (Nat → Int32) => (wSH gI o pb pd ow pt u.2.1 u.2.2.1 u.2.2.2 tx sz en u.1)) (QX := (fun (v : Int32) (u : (Int32) × (Int32) × (Nat → Int32) × (Nat → Int32)) => E v u.1 u.2.1 u.2.2.1 u.2.2.2)) F (fun x hx => (htab x hx).elim) (pw3, smn, sba, sdy) h hP hD hS (Nat.le_refl _) (Nat.le_refl _)
    · rintro x1 pw2 H locs h hP hD hS
      replace hP : va_P D vwCl (wSH gI o pb pd ow pt smn sba sdy tx sz en pw2) _ := hP
      replace hD : va_D A (wSH gI o pb pd ow pt smn sba sdy tx sz en pw2) := hD
      refine pt_iast (f := sba) hx hb hK hP hD hS 3 0 rfl rfl h.1 dX4_read_34 rfl (fun H locs hP hD hS => ?_)
      replace h := h.2
      refine lv_aload_n hx hb dX4_read_35 rfl (lv_at hl 0 rfl) ?_
      refine lv_dup hx hb dX4_read_36 rfl ?_
      refine va_get hx hb hts in_X4 hown hK hP 2 rfl rfl 2 (Nat.le_of_ble_eq_true rfl) (hts _ q316) (fun _ h => h) (v := .int smn) rfl dX4_read_37 ?_
      refine lv_iconst (v := (1 : Int32)) hx hb dX4_read_40 (by decide) ?_
      refine lv_iadd hx hb dX4_read_41 ?_
      refine pt_put (v := .int (smn + (1 : Int32))) hx hb hts in_X4 tyX4 tyX4_ok nmX4 hown hK hP hD hS 2 rfl rfl 2 (Nat.le_of_ble_eq_true rfl) (hts _ q316) (fun _ h => h) rfl (ty := .int) (by decide +kernel) rfl rfl (Nat.le_of_ble_eq_true rfl) dX4_read_42 rfl (fun H locs hP hD hS => ?_)
      refine lv_aload_n hx hb dX4_read_45 rfl (lv_at hl 0 rfl) ?_
      refine va_get hx hb hts in_X4 hown hK hP 2 rfl rfl 2 (Nat.le_of_ble_eq_true rfl) (hts _ q316) (fun _ h => h) (v := .int (smn + (1 : Int32))) rfl dX4_read_46 ?_
      refine lv_bipush (v := (12 : Int32)) hx hb dX4_read_49 (by decide) ?_
      refine lv_icmp_ge (tgt := 100) hx hb dX4_read_51 (by decide) (fun c18 => ?_) (fun c18 => ?_)
      · replace h := h.1 c18
        refine lv_aload_n hx hb dX4_read_100 rfl (lv_at hl 1 rfl) ?_
        refine cl_iL F (va_runV (As := []) (rest := []) ⟨hx, hb, hml, hown, hts⟩ (ct_W_here (o := ow) (pt := pt) h _) (cwV 0 hts (lw_V q455 q440 q441 q99 q445) rfl rfl rfl (by decide +kernel) ⟨Nat.le_trans (Nat.le_of_ble_eq_true rfl) hRf, Nat.le_trans (Nat.le_of_ble_eq_true rfl) hRl⟩) ⟨ct_blind, va_recv hK hP (ci := 4) (q0 := 0) rfl rfl, ct_at F hS (putL_P hP (ps := [0, 1]) rfl) (hD.sub ([0, 1]) (by decide) rfl)⟩ rfl rfl hl.1 rfl (lv_room (Nat.le_of_ble_eq_true rfl)) dX4_read_101 ⟨hC, hSl⟩) rfl rfl hP hD hS (ps := [0, 1]) rfl (fun _ => rfl) (fun _ => rfl) ?_
        rintro x4 _ H locs h hP hD hS
        replace hP : va_P D vwCl (wSH gI o pb pd ow pt (smn + (1 : Int32)) (upd sba smn.toNatClampNeg x1) sdy tx sz en pw2) _ := hP
        replace hD : va_D A (wSH gI o pb pd ow pt (smn + (1 : Int32)) (upd sba smn.toNatClampNeg x1) sdy tx sz en pw2) := hD
        refine lv_iconst (v := (-1 : Int32)) hx hb dX4_read_104 (by decide) ?_
        refine lv_icmp_ne (tgt := 0) hx hb dX4_read_105 (by decide) (fun c5 => ?_) (fun c5 => ?_)
        · replace h := h.1 c5
          exact hK0 _ _ _ _ h _ _ _ hP hD hS (lv_sub hl [0, 1] rfl)
        · replace h := h.2 c5
          exact hK108 _ _ _ _ h _ _ _ hP hD hS (lv_sub hl [0, 1] rfl)
      · replace h := h.2 c18
        refine lv_aload_n hx hb dX4_read_54 rfl (lv_at hl 1 rfl) ?_
        refine lv_bipush (v := (124 : Int32)) hx hb dX4_read_55 (by decide) ?_
        refine cl_iL F (va_runV (As := [.int (124 : Int32)]) (rest := []) ⟨hx, hb, hml, hown, hts⟩ (ct_W_passes (o := ow) (pt := pt) h _) (cwV 1 hts (lw_V q448 q449 q450 q99 q454) rfl rfl rfl (by decide +kernel) ⟨Nat.le_trans (Nat.le_of_ble_eq_true rfl) hRf, Nat.le_trans (Nat.le_of_ble_eq_true rfl) hRl⟩) ⟨ct_blind, va_recv hK hP (ci := 4) (q0 := 0) rfl rfl, ct_at F hS (putL_P hP (ps := [0, 1]) rfl) (hD.sub ([0, 1]) (by decide) rfl)⟩ rfl rfl hl.1 rfl (lv_room (Nat.le_of_ble_eq_true rfl)) dX4_read_57 ⟨hC, hSl⟩) rfl rfl hP hD hS (ps := [0, 1]) rfl (fun _ => rfl) (fun _ => rfl) ?_
        rintro x6 pw7 H locs h hP hD hS
        replace hP : va_P D vwCl (wSH gI o pb pd ow pt (smn + (1 : Int32)) (upd sba smn.toNatClampNeg x1) sdy tx sz en pw7) _ := hP
        replace hD : va_D A (wSH gI o pb pd ow pt (smn + (1 : Int32)) (upd sba smn.toNatClampNeg x1) sdy tx sz en pw7) := hD
        refine lv_if_eq (tgt := 100) hx hb dX4_read_60 (by decide) (fun c17 => ?_) (fun c17 => ?_)
        · replace h := h.1 c17
          refine lv_aload_n hx hb dX4_read_100 rfl (lv_at hl 1 rfl) ?_
          refine cl_iL F (va_runV (As := []) (rest := []) ⟨hx, hb, hml, hown, hts⟩ (ct_W_here (o := ow) (pt := pt) h _) (cwV 0 hts (lw_V q455 q440 q441 q99 q445) rfl rfl rfl (by decide +kernel) ⟨Nat.le_trans (Nat.le_of_ble_eq_true rfl) hRf, Nat.le_trans (Nat.le_of_ble_eq_true rfl) hRl⟩) ⟨ct_blind, va_recv hK hP (ci := 4) (q0 := 0) rfl rfl, ct_at F hS (putL_P hP (ps := [0, 1]) rfl) (hD.sub ([0, 1]) (by decide) rfl)⟩ rfl rfl hl.1 rfl (lv_room (Nat.le_of_ble_eq_true rfl)) dX4_read_101 ⟨hC, hSl⟩) rfl rfl hP hD hS (ps := [0, 1]) rfl (fun _ => rfl) (fun _ => rfl) ?_
          rintro x8 _ H locs h hP hD hS
          replace hP : va_P D vwCl (wSH gI o pb pd ow pt (smn + (1 : Int32)) (upd sba smn.toNatClampNeg x1) sdy tx sz en pw7) _ := hP
          replace hD : va_D A (wSH gI o pb pd ow pt (smn + (1 : Int32)) (upd sba smn.toNatClampNeg x1) sdy tx sz en pw7) := hD
          refine lv_iconst (v := (-1 : Int32)) hx hb dX4_read_104 (by decide) ?_
          refine lv_icmp_ne (tgt := 0) hx hb dX4_read_105 (by decide) (fun c9 => ?_) (fun c9 => ?_)
          · replace h := h.1 c9
            exact hK0 _ _ _ _ h _ _ _ hP hD hS (lv_sub hl [0, 1] rfl)
          · replace h := h.2 c9
            exact hK108 _ _ _ _ h _ _ _ hP hD hS (lv_sub hl [0, 1] rfl)
        · replace h := h.2 c17
          refine lv_aload_n hx hb dX4_read_63 rfl (lv_at hl 0 rfl) ?_
          refine va_get hx hb hts in_X4 hown hK hP 2 rfl rfl 1 (Nat.le_of_ble_eq_true rfl) (hts _ q314) (fun _ h => h) (v := .ref pd) rfl dX4_read_64 ?_
          refine lv_aload_n hx hb dX4_read_67 rfl (lv_at hl 0 rfl) ?_
          refine va_get hx hb hts in_X4 hown hK hP 2 rfl rfl 2 (Nat.le_of_ble_eq_true rfl) (hts _ q316) (fun _ h => h) (v := .int (smn + (1 : Int32))) rfl dX4_read_68 ?_
          refine lv_iconst (v := (1 : Int32)) hx hb dX4_read_71 (by decide) ?_
          refine lv_isub hx hb dX4_read_72 ?_
          refine lv_aload_n hx hb dX4_read_73 rfl (lv_at hl 1 rfl) ?_
          refine lv_bipush (v := (48 : Int32)) hx hb dX4_read_74 (by decide) ?_
          refine lv_bipush (v := (10 : Int32)) hx hb dX4_read_76 (by decide) ?_
          refine clx_iL F (vx_runV (As := [.int (48 : Int32), .int (10 : Int32)]) (rest := [.int ((smn + (1 : Int32)) - (1 : Int32)), .ref pd]) ⟨hx, hb, hml, hown, hts⟩ (cx_W_one hlt (o := ow) (pt := pt) h _) (cwV 2 hts (lw_V q432 q433 q434 q99 q438) rfl rfl rfl (by decide +kernel) ⟨Nat.le_trans (Nat.le_of_ble_eq_true rfl) hRf, Nat.le_trans (Nat.le_of_ble_eq_true rfl) hRl⟩) ⟨ct_blind, va_recv hK hP (ci := 4) (q0 := 0) rfl rfl, ct_at F hS (putL_P hP (ps := [0, 1]) rfl) (hD.sub ([0, 1]) (by decide) rfl)⟩ rfl rfl hl.1 rfl (lv_room (Nat.le_of_ble_eq_true rfl)) dX4_read_78 ⟨hC1, hS7⟩) hP hD hS (ps := [0, 1]) rfl (fun _ => rfl) (fun _ => rfl) (fun _ => rfl) (fun _ => rfl) ?_ ?_
          · rintro q v_ pw12 H locs h hP hD hS
            exact rx_out (wx := fun u : (Int32) × (Int32) × (Nat → Int32) × (Nat → Int32) => (wSH gI o pb pd ow pt u.2.1 u.2.2.1 u.2.2.2 tx sz en u.1)) (QX := (fun (v : Int32) (u : (Int32) × (Int32) × (Nat → Int32) × (Nat → Int32)) => E v u.1 u.2.1 u.2.2.1 u.2.2.2)) F (fun x hx => (htab x hx).elim) (pw12, (smn + (1 : Int32)), (upd sba smn.toNatClampNeg x1), sdy) h hP hD hS (Nat.le_refl _) (Nat.le_refl _)
          · rintro x10 pw11 H locs h hP hD hS
            replace hP : va_P D vwCl (wSH gI o pb pd ow pt (smn + (1 : Int32)) (upd sba smn.toNatClampNeg x1) sdy tx sz en pw11) _ := hP
            replace hD : va_D A (wSH gI o pb pd ow pt (smn + (1 : Int32)) (upd sba smn.toNatClampNeg x1) sdy tx sz en pw11) := hD
            refine pt_iast (f := sdy) hx hb hK hP hD hS 4 0 rfl rfl h.1 dX4_read_81 rfl (fun H locs hP hD hS => ?_)
            replace h := h.2
            refine lv_aload_n hx hb dX4_read_82 rfl (lv_at hl 1 rfl) ?_
            refine lv_aload_n hx hb dX4_read_83 rfl (lv_at hl 1 rfl) ?_
            refine cl_iL F (va_runV (As := []) (rest := [.ref ow]) ⟨hx, hb, hml, hown, hts⟩ (ct_W_here (o := ow) (pt := pt) h _) (cwV 0 hts (lw_V q455 q440 q441 q99 q445) rfl rfl rfl (by decide +kernel) ⟨Nat.le_trans (Nat.le_of_ble_eq_true rfl) hRf, Nat.le_trans (Nat.le_of_ble_eq_true rfl) hRl⟩) ⟨ct_blind, va_recv hK hP (ci := 4) (q0 := 0) rfl rfl, ct_at F hS (putL_P hP (ps := [0, 1]) rfl) (hD.sub ([0, 1]) (by decide) rfl)⟩ rfl rfl hl.1 rfl (lv_room (Nat.le_of_ble_eq_true rfl)) dX4_read_84 ⟨hC, hSl⟩) rfl rfl hP hD hS (ps := [0, 1]) rfl (fun _ => rfl) (fun _ => rfl) ?_
            rintro x13 _ H locs h hP hD hS
            replace hP : va_P D vwCl (wSH gI o pb pd ow pt (smn + (1 : Int32)) (upd sba smn.toNatClampNeg x1) (upd sdy ((smn + (1 : Int32)) - (1 : Int32)).toNatClampNeg x10) tx sz en pw11) _ := hP
            replace hD : va_D A (wSH gI o pb pd ow pt (smn + (1 : Int32)) (upd sba smn.toNatClampNeg x1) (upd sdy ((smn + (1 : Int32)) - (1 : Int32)).toNatClampNeg x10) tx sz en pw11) := hD
            refine lv_i2l (v := (x13.toInt64)) hx hb dX4_read_87 rfl ?_
            refine lv_ldc2 (v := (48 : Int64)) hx hb hown (hts _ q456) dX4_read_88 ?_
            refine lv_ldc2 (v := (57 : Int64)) hx hb hown (hts _ q457) dX4_read_91 ?_
            refine cl_i0 F (va_runSN (As := [.long (x13.toInt64), .long (48 : Int64), .long (57 : Int64)]) (rest := [.ref ow]) ⟨hx, hb, hml, hown, hts⟩ (ct_X1_in h _) ⟨va_cnB 3 hts (lw_meth q300) rfl rfl rfl (hE.1 _ q458 rfl) (hts _ q94) (by decide +kernel) ⟨Nat.le_trans (Nat.le_of_ble_eq_true rfl) hRf, Nat.le_trans (Nat.le_of_ble_eq_true rfl) hRl⟩, hts _ q299, trivial⟩ ⟨ct_blind, ct_at F hS ct_nP ct_nD⟩ rfl rfl hl.1 rfl (lv_room (Nat.le_of_ble_eq_true rfl)) dX4_read_94 ⟨hC, hSl⟩) rfl rfl hP hS ?_
            rintro x14 _ H locs h hP hS
            refine clx_vL F (vx_runV (As := [.int x14]) (rest := []) ⟨hx, hb, hml, hown, hts⟩ (cx_W_need hlt (o := ow) (pt := pt) h _) (cwV 1 hts (lw_V q362 q363 q364 q99 q368) rfl rfl rfl (by decide +kernel) ⟨Nat.le_trans (Nat.le_of_ble_eq_true rfl) hRf, Nat.le_trans (Nat.le_of_ble_eq_true rfl) hRl⟩) ⟨ct_blind, va_recv hK hP (ci := 4) (q0 := 0) rfl rfl, ct_at F hS (putL_P hP (ps := [0, 1]) rfl) (hD.sub ([0, 1]) (by decide) rfl)⟩ rfl rfl hl.1 rfl (lv_room (Nat.le_of_ble_eq_true rfl)) dX4_read_97 ⟨hC1, hS7⟩) hP hD hS (ps := [0, 1]) rfl (fun _ => rfl) (fun _ => rfl) (fun _ => rfl) (fun _ => rfl) ?_ ?_
            · rintro q v_ _ H locs h hP hD hS
              exact rx_out (wx := fun u : (Int32) × (Int32) × (Nat → Int32) × (Nat → Int32) => (wSH gI o pb pd ow pt u.2.1 u.2.2.1 u.2.2.2 tx sz en u.1)) (QX := (fun (v : Int32) (u : (Int32) × (Int32) × (Nat → Int32) × (Nat → Int32)) => E v u.1 u.2.1 u.2.2.1 u.2.2.2)) F (fun x hx => (htab x hx).elim) (pw11, (smn + (1 : Int32)), (upd sba smn.toNatClampNeg x1), (upd sdy ((smn + (1 : Int32)) - (1 : Int32)).toNatClampNeg x10)) h hP hD hS (Nat.le_refl _) (Nat.le_refl _)
            · rintro _ H locs h hP hD hS
              replace hP : va_P D vwCl (wSH gI o pb pd ow pt (smn + (1 : Int32)) (upd sba smn.toNatClampNeg x1) (upd sdy ((smn + (1 : Int32)) - (1 : Int32)).toNatClampNeg x10) tx sz en pw11) _ := hP
              replace hD : va_D A (wSH gI o pb pd ow pt (smn + (1 : Int32)) (upd sba smn.toNatClampNeg x1) (upd sdy ((smn + (1 : Int32)) - (1 : Int32)).toNatClampNeg x10) tx sz en pw11) := hD
              refine lv_aload_n hx hb dX4_read_100 rfl (lv_at hl 1 rfl) ?_
              refine cl_iL F (va_runV (As := []) (rest := []) ⟨hx, hb, hml, hown, hts⟩ (ct_W_here (o := ow) (pt := pt) h _) (cwV 0 hts (lw_V q455 q440 q441 q99 q445) rfl rfl rfl (by decide +kernel) ⟨Nat.le_trans (Nat.le_of_ble_eq_true rfl) hRf, Nat.le_trans (Nat.le_of_ble_eq_true rfl) hRl⟩) ⟨ct_blind, va_recv hK hP (ci := 4) (q0 := 0) rfl rfl, ct_at F hS (putL_P hP (ps := [0, 1]) rfl) (hD.sub ([0, 1]) (by decide) rfl)⟩ rfl rfl hl.1 rfl (lv_room (Nat.le_of_ble_eq_true rfl)) dX4_read_101 ⟨hC, hSl⟩) rfl rfl hP hD hS (ps := [0, 1]) rfl (fun _ => rfl) (fun _ => rfl) ?_
              rintro x15 _ H locs h hP hD hS
              replace hP : va_P D vwCl (wSH gI o pb pd ow pt (smn + (1 : Int32)) (upd sba smn.toNatClampNeg x1) (upd sdy ((smn + (1 : Int32)) - (1 : Int32)).toNatClampNeg x10) tx sz en pw11) _ := hP
              replace hD : va_D A (wSH gI o pb pd ow pt (smn + (1 : Int32)) (upd sba smn.toNatClampNeg x1) (upd sdy ((smn + (1 : Int32)) - (1 : Int32)).toNatClampNeg x10) tx sz en pw11) := hD
              refine lv_iconst (v := (-1 : Int32)) hx hb dX4_read_104 (by decide) ?_
              refine lv_icmp_ne (tgt := 0) hx hb dX4_read_105 (by decide) (fun c16 => ?_) (fun c16 => ?_)
              · replace h := h.1 c16
                exact hK0 _ _ _ _ h _ _ _ hP hD hS (lv_sub hl [0, 1] rfl)
              · replace h := h.2 c16
                exact hK108 _ _ _ _ h _ _ _ hP hD hS (lv_sub hl [0, 1] rfl)
set_option maxHeartbeats 4000000 in
theorem lp_H_read_L1 {p : Program} {l : Launch} {e : Env} {R : Room} {s : State} {m : MethodId} {args : Array Value} {below : List Frame} {meth : Method} {c : Code} {A : Nat → Prop} {V : evT} {D : va_G} {gI : Nat → ClassId} {o : Nat} {pb pd ow pt : Nat} {tx : Nat → Int32} {sz : Int32} {en : Int32} {Q : (Int32) → (Int32) → (Nat → Int32) → (Nat → Int32) → Prop} {E : Int32 → (Int32) → (Int32) → (Nat → Int32) → (Nat → Int32) → Prop} {K108 : (Int32) → (Int32) → (Nat → Int32) → (Nat → Int32) → Prop} (F : ct_F p m c meth cX4_read 2 s args RX4 (some (.object "SandKeepsSea$Shore")) A V D vwCl (tyL gI)) (hRf : 8 ≤ R.frames) (hRl : 144 ≤ R.locals) (hC : 0 ≤ R.cells) (hSl : 0 ≤ R.slots) (hC1 : 1 ≤ R.cells) (hS7 : 7 ≤ R.slots) (htab : ∀ x ∈ c.exceptionTable.toList, False) (hlt : l.stackTraces = false)
    (hK108 : ∀ (pw : Int32) (smn : Int32) (sba : Nat → Int32) (sdy : Nat → Int32), K108 pw smn sba sdy → ∀ (H : Heap) (locs : List Loc) (ls : Array Slot), va_P D vwCl (wSH gI o pb pd ow pt smn sba sdy tx sz en pw) H → va_D A (wSH gI o pb pd ow pt smn sba sdy tx sz en pw) → va_S A s.heap H locs → lv_has ls 2 [(0, .ref o), (1, .ref ow)] → W p l e R s m args below meth c H locs 0 0 (vx_MQ below (va_Qr (fun (u : (Int32) × (Int32) × (Nat → Int32) × (Nat → Int32)) => Q u.1 u.2.1 u.2.2.1 u.2.2.2) (fun u a t => a = (fun _ : (Int32) × (Int32) × (Nat → Int32) × (Nat → Int32) => o) u ∧ va_P D vwCl (wSH gI o pb pd ow pt u.2.1 u.2.2.1 u.2.2.2 tx sz en u.1) t.heap ∧ va_K D vwCl (tyL gI) t ∧ va_D A (wSH gI o pb pd ow pt u.2.1 u.2.2.1 u.2.2.2 tx sz en u.1)) A) (vx_X (S := Int32 × ((Int32) × (Int32) × (Nat → Int32) × (Nat → Int32))) (fun u => (fun (v : Int32) (u : (Int32) × (Int32) × (Nat → Int32) × (Nat → Int32)) => E v u.1 u.2.1 u.2.2.1 u.2.2.2) u.1 u.2) (fun E_ q u t => E_ = RX6 ∧ va_P D vwCl ((fun u : (Int32) × (Int32) × (Nat → Int32) × (Nat → Int32) => (wSH gI o pb pd ow pt u.2.1 u.2.2.1 u.2.2.2 tx sz en u.1)) u.2 ++ [fC q u.1]) t.heap ∧ va_K D vwCl (tyL gI) t ∧ va_D A ((fun u : (Int32) × (Int32) × (Nat → Int32) × (Nat → Int32) => (wSH gI o pb pd ow pt u.2.1 u.2.2.1 u.2.2.2 tx sz en u.1)) u.2 ++ [fC q u.1])) A) args s 1 7 A) (F0 m 108 ls [])) :
    ∀ (n : Nat) (pw : Int32) (smn : Int32) (sba : Nat → Int32) (sdy : Nat → Int32), wp_H_read_L1 tx sz en Q E K108 n pw smn sba sdy → ∀ (H : Heap) (locs : List Loc) (ls : Array Slot), va_P D vwCl (wSH gI o pb pd ow pt smn sba sdy tx sz en pw) H → va_D A (wSH gI o pb pd ow pt smn sba sdy tx sz en pw) → va_S A s.heap H locs → lv_has ls 2 [(0, .ref o), (1, .ref ow)] → W p l e R s m args below meth c H locs 0 0 (vx_MQ below (va_Qr (fun (u : (Int32) × (Int32) × (Nat → Int32) × (Nat → Int32)) => Q u.1 u.2.1 u.2.2.1 u.2.2.2) (fun u a t => a = (fun _ : (Int32) × (Int32) × (Nat → Int32) × (Nat → Int32) => o) u ∧ va_P D vwCl (wSH gI o pb pd ow pt u.2.1 u.2.2.1 u.2.2.2 tx sz en u.1) t.heap ∧ va_K D vwCl (tyL gI) t ∧ va_D A (wSH gI o pb pd ow pt u.2.1 u.2.2.1 u.2.2.2 tx sz en u.1)) A) (vx_X (S := Int32 × ((Int32) × (Int32) × (Nat → Int32) × (Nat → Int32))) (fun u => (fun (v : Int32) (u : (Int32) × (Int32) × (Nat → Int32) × (Nat → Int32)) => E v u.1 u.2.1 u.2.2.1 u.2.2.2) u.1 u.2) (fun E_ q u t => E_ = RX6 ∧ va_P D vwCl ((fun u : (Int32) × (Int32) × (Nat → Int32) × (Nat → Int32) => (wSH gI o pb pd ow pt u.2.1 u.2.2.1 u.2.2.2 tx sz en u.1)) u.2 ++ [fC q u.1]) t.heap ∧ va_K D vwCl (tyL gI) t ∧ va_D A ((fun u : (Int32) × (Int32) × (Nat → Int32) × (Nat → Int32) => (wSH gI o pb pd ow pt u.2.1 u.2.2.1 u.2.2.2 tx sz en u.1)) u.2 ++ [fC q u.1])) A) args s 1 7 A) (F0 m 0 ls []) := by
  obtain ⟨⟨hx, hb, hml, hown, hts⟩, hr, hlocks, hA, hK, hE⟩ := id F
  intro n
  induction n with
  | zero => intro pw smn sba sdy h; exact h.elim
  | succ n ih =>
    intro pw smn sba sdy h H locs ls hP hD hS hl
    unfold wp_H_read_L1 at h
    refine lv_aload_n hx hb dX4_read_0 rfl (lv_at hl 1 rfl) ?_
    refine lv_aload_n hx hb dX4_read_1 rfl (lv_at hl 0 rfl) ?_
    refine va_get hx hb hts in_X4 hown hK hP 2 rfl rfl 2 (Nat.le_of_ble_eq_true rfl) (hts _ q316) (fun _ h => h) (v := .int smn) rfl dX4_read_2 ?_
    refine lv_bipush (v := (12 : Int32)) hx hb dX4_read_5 (by decide) ?_
    refine lv_icmp_ge (tgt := 14) hx hb dX4_read_7 (by decide) (fun c35 => ?_) (fun c35 => ?_)
    · replace h := h.1 c35
      refine lv_iconst (v := (0 : Int32)) hx hb dX4_read_14 (by decide) ?_
      refine lp_H_read_J2 F hRf hRl hC hSl hC1 hS7 htab hlt ?hk0 ?hk108 _ _ _ _ _ h _ _ _ hP hD hS (lv_sub hl [0, 1] rfl)
      case hk0 =>
        intro pw_19 smn_20 sba_21 sdy_22 h H locs ls hP hD hS hl
        exact ih _ _ _ _ h _ _ _ hP hD hS (lv_sub hl [0, 1] rfl)
      case hk108 =>
        intro pw_23 smn_24 sba_25 sdy_26 h H locs ls hP hD hS hl
        exact hK108 _ _ _ _ h _ _ _ hP hD hS (lv_sub hl [0, 1] rfl)
    · replace h := h.2 c35
      refine lv_iconst (v := (1 : Int32)) hx hb dX4_read_10 (by decide) ?_
      refine lv_goto (tgt := 15) hx hb dX4_read_11 (by decide) ?_
      refine lp_H_read_J2 F hRf hRl hC hSl hC1 hS7 htab hlt ?hk0 ?hk108 _ _ _ _ _ h _ _ _ hP hD hS (lv_sub hl [0, 1] rfl)
      case hk0 =>
        intro pw_27 smn_28 sba_29 sdy_30 h H locs ls hP hD hS hl
        exact ih _ _ _ _ h _ _ _ hP hD hS (lv_sub hl [0, 1] rfl)
      case hk108 =>
        intro pw_31 smn_32 sba_33 sdy_34 h H locs ls hP hD hS hl
        exact hK108 _ _ _ _ h _ _ _ hP hD hS (lv_sub hl [0, 1] rfl)
set_option maxHeartbeats 4000000 in
theorem cx_H_read {l : Launch} {V : evT} {D : va_G} {gI : Nat → ClassId} {o : Nat} {pb pd ow pt : Nat} (hlt : l.stackTraces = false) {tx : Nat → Int32} {sz : Int32} {en : Int32} {pw : Int32} {smn : Int32} {sba : Nat → Int32} {sdy : Nat → Int32} {Q : (Int32) → (Int32) → (Nat → Int32) → (Nat → Int32) → Prop} {E : Int32 → (Int32) → (Int32) → (Nat → Int32) → (Nat → Int32) → Prop} (h : wp_H_read tx sz en pw smn sba sdy Q E) : cx_r l V D (tyL gI) yX4_read cX4_read 2 (.object "SandKeepsSea$Shore") { frames := 8, cells := 1, slots := 7, locals := 144 } [.ref o, .ref ow] (wSH gI o pb pd ow pt smn sba sdy tx sz en pw) (fun _ : (Int32) × (Int32) × (Nat → Int32) × (Nat → Int32) => o) (fun u : (Int32) × (Int32) × (Nat → Int32) × (Nat → Int32) => (wSH gI o pb pd ow pt u.2.1 u.2.2.1 u.2.2.2 tx sz en u.1)) (fun (u : (Int32) × (Int32) × (Nat → Int32) × (Nat → Int32)) => Q u.1 u.2.1 u.2.2.1 u.2.2.2) (fun u : (Int32) × (Int32) × (Nat → Int32) × (Nat → Int32) => (wSH gI o pb pd ow pt u.2.1 u.2.2.1 u.2.2.2 tx sz en u.1)) (fun (v : Int32) (u : (Int32) × (Int32) × (Nat → Int32) × (Nat → Int32)) => E v u.1 u.2.1 u.2.2.1 u.2.2.2) := by
  refine cx_ofr RX4 rfl (by decide +kernel) (Nat.le_of_ble_eq_true rfl) ?_
  intro p e s m args below meth c A F htab hP hD ls hl
  obtain ⟨⟨hx, hb, hml, hown, hts⟩, hr, hlocks, hA, hK, hE⟩ := id F
  have hS : va_S A s.heap s.heap [] := va_S.rf
  have hl : lv_has ls 2 [(0, .ref o), (1, .ref ow)] := hl
  have hRf : 8 ≤ ({ frames := 8, cells := 1, slots := 7, locals := 144 } : Room).frames := Nat.le_refl _
  have hC1 : 1 ≤ ({ frames := 8, cells := 1, slots := 7, locals := 144 } : Room).cells := Nat.le_refl _
  have hS7 : 7 ≤ ({ frames := 8, cells := 1, slots := 7, locals := 144 } : Room).slots := Nat.le_refl _
  have hRl : 144 ≤ ({ frames := 8, cells := 1, slots := 7, locals := 144 } : Room).locals := Nat.le_refl _
  have hC : 0 ≤ ({ frames := 8, cells := 1, slots := 7, locals := 144 } : Room).cells := Nat.zero_le _
  have hSl : 0 ≤ ({ frames := 8, cells := 1, slots := 7, locals := 144 } : Room).slots := Nat.zero_le _
  unfold wp_H_read at h
  obtain ⟨k0, h⟩ := h
  refine lp_H_read_L1 F hRf hRl hC hSl hC1 hS7 htab hlt ?hk108 k0 _ _ _ _ h _ _ _ hP hD hS (lv_sub hl [0, 1] rfl)
  case hk108 =>
    intro pw_36 smn_37 sba_38 sdy_39 h H locs ls hP hD hS hl
    refine lv_aload_n hx hb dX4_read_108 rfl (lv_at hl 1 rfl) ?_
    refine clx_vL F (vx_runV (As := []) (rest := []) ⟨hx, hb, hml, hown, hts⟩ (cx_W_needEnd hlt (o := ow) (pt := pt) h _) (cwV 0 hts (lw_V q459 q460 q461 q99 q465) rfl rfl rfl (by decide +kernel) ⟨Nat.le_trans (Nat.le_of_ble_eq_true rfl) hRf, Nat.le_trans (Nat.le_of_ble_eq_true rfl) hRl⟩) ⟨ct_blind, va_recv hK hP (ci := 4) (q0 := 0) rfl rfl, ct_at F hS (putL_P hP (ps := [0, 1]) rfl) (hD.sub ([0, 1]) (by decide) rfl)⟩ rfl rfl hl.1 rfl (lv_room (Nat.le_of_ble_eq_true rfl)) dX4_read_109 ⟨hC1, hS7⟩) hP hD hS (ps := [0, 1]) rfl (fun _ => rfl) (fun _ => rfl) (fun _ => rfl) (fun _ => rfl) ?_ ?_
    · rintro q v_ _ H locs h hP hD hS
      exact rx_out (wx := fun u : (Int32) × (Int32) × (Nat → Int32) × (Nat → Int32) => (wSH gI o pb pd ow pt u.2.1 u.2.2.1 u.2.2.2 tx sz en u.1)) (QX := (fun (v : Int32) (u : (Int32) × (Int32) × (Nat → Int32) × (Nat → Int32)) => E v u.1 u.2.1 u.2.2.1 u.2.2.2)) F (fun x hx => (htab x hx).elim) (pw_36, smn_37, sba_38, sdy_39) h hP hD hS (Nat.le_refl _) (Nat.le_refl _)
    · rintro _ H locs h hP hD hS
      replace hP : va_P D vwCl (wSH gI o pb pd ow pt smn_37 sba_38 sdy_39 tx sz en pw_36) _ := hP
      replace hD : va_D A (wSH gI o pb pd ow pt smn_37 sba_38 sdy_39 tx sz en pw_36) := hD
      refine lv_aload_n hx hb dX4_read_112 rfl (lv_at hl 0 rfl) ?_
      exact vx_ret (rt_r F dX4_read_113 (pw_36, smn_37, sba_38, sdy_39) rfl h hP hD hS (Nat.le_refl _) (Nat.le_refl _))
