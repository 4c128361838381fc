/-! those who are sent: walks -/
set_option maxRecDepth 100000
theorem lw_SU {own : String} {idx : Nat} {y : MethodName} {b : ByteArray} {L : Nat} {r : Option FieldType} (h1 : Cond.methodLink own idx y ∈ lw_all) (h2 : Cond.sameMethod y.cls y.cls y.name y.desc ∈ lw_all) (h3 : Cond.superclass own y.cls ∈ lw_all) (h4 : Cond.instanceMethod y ∈ lw_all) (h5 : Cond.initialized y.cls ∈ lw_all) (h6 : Cond.code y b L r ∈ lw_all) : GoodIn lw_all (va_wsSU own idx y (ws_ y b L r)) := by
  refine lw_app ?_ (lw_meth h6)
  intro w hw
  simp only [List.mem_cons, List.not_mem_nil, or_false] at hw
  rcases hw with e | e | e | e | e
  · rw [e]; exact h1
  · rw [e]; exact h2
  · rw [e]; exact h3
  · rw [e]; exact h4
  · rw [e]; exact h5
set_option maxHeartbeats 4000000 in
theorem lp_CS_margin_L1_i1 {p : Program} {l : Launch} {e : Env} {R : Room} {s : State} {m : MethodId} {args : Array Value} {below : List Frame} {meth : Method} {c : Code} {A : Nat → Prop} {Qf : State → Prop} {V : evT} {D : va_G} {gI : Nat → ClassId} {o : Nat} {ax : Nat → Nat} {tl : va_W} {oc ow : Nat} {v2 : Int32} {fd : Nat → Int32} {ar : Nat → Nat → Int32} {lw : Nat → Int64} {hh : HT} {rn : Option (Nat × Nat)} {cn : Int32} {th : Int32} {fw : Int32} {wh : Nat → Int32} {K102 : (Int32) → Prop} (F : ct_F p m c meth cX9_margin 5 s args RX9 (some .int) A V D vwCl (tyL gI)) (hRf : 212 ≤ R.frames) (hRl : 5037 ≤ R.locals) (hC : 0 ≤ R.cells) (hSl : 0 ≤ R.slots) (hC1 : 1 ≤ R.cells) (hS7 : 7 ≤ R.slots) (hlt : l.stackTraces = false)
    (hK102 : ∀ (v3 : Int32), K102 v3 → ∀ (H : Heap) (locs : List Loc) (ls : Array Slot), va_P D vwCl (wX gI o ax rn ([(oc, .inr (7, [.int cn, .ref o, .int th, .ref ow, .int fw, .ref o])), (ow, .inl (gI 0, 8, .inl wh))] ++ tl) fd ar lw hh) H → va_D A (wX gI o ax rn ([(oc, .inr (7, [.int cn, .ref o, .int th, .ref ow, .int fw, .ref o])), (ow, .inl (gI 0, 8, .inl wh))] ++ tl) fd ar lw hh) → va_S A s.heap H locs → lv_has ls 5 [(3, .int v3)] → W p l e R s m args below meth c H locs 0 0 Qf (F0 m 102 ls [])) :
    ∀ (n : Nat) (v3 : Int32) (v4 : Int32), wp_CS_margin_L1 1 v2 fd ar lw hh rn cn th fw wh K102 n v3 v4 → ∀ (H : Heap) (locs : List Loc) (ls : Array Slot), va_P D vwCl (wX gI o ax rn ([(oc, .inr (7, [.int cn, .ref o, .int th, .ref ow, .int fw, .ref o])), (ow, .inl (gI 0, 8, .inl wh))] ++ tl) fd ar lw hh) H → va_D A (wX gI o ax rn ([(oc, .inr (7, [.int cn, .ref o, .int th, .ref ow, .int fw, .ref o])), (ow, .inl (gI 0, 8, .inl wh))] ++ tl) fd ar lw hh) → va_S A s.heap H locs → lv_has ls 5 [(0, .ref oc), (2, .int v2), (3, .int v3), (4, .int v4)] → W p l e R s m args below meth c H locs 0 0 Qf (F0 m 61 ls []) := by
  obtain ⟨⟨hx, hb, hml, hown, hts⟩, hr, hlocks, hA, hK, hE⟩ := id F
  intro n
  induction n with
  | zero => intro v3 v4 h; exact h.elim
  | succ n ih =>
    intro v3 v4 h H locs ls hP hD hS hl
    unfold wp_CS_margin_L1 at h
    refine lv_iload hx hb dX9_margin_61 (lv_at hl 3 rfl) ?_
    refine lv_aload_n hx hb dX9_margin_63 rfl (lv_at hl 0 rfl) ?_
    refine va_get hx hb hts in_X10 hown hK (fr_outP (xs := [(oc, .inr (7, [.int cn, .ref o, .int th, .ref ow, .int fw, .ref o])), (ow, .inl (gI 0, 8, .inl wh))]) hP) 0 rfl rfl 1 (Nat.le_of_ble_eq_true rfl) (hts _ q983) (fun _ h => h) (v := .ref o) rfl dX9_margin_64 ?_
    refine va_getN hx hb hts in_X1 hown hK hP 0 rfl rfl 9 (Nat.le_of_ble_eq_true rfl) (va_Nw.use rfl (hE.1 _ q194 rfl)) (fun _ h => h) (v := .int (fd 9)) rfl dX9_margin_67 ?_
    refine lv_icmp_ge (tgt := 102) hx hb dX9_margin_70 (by decide) (fun c13 => ?_) (fun c13 => ?_)
    · replace h := h.1 c13
      exact hK102 _ h _ _ _ hP hD hS (lv_sub hl [2] rfl)
    · replace h := h.2 c13
      refine lv_iload_n hx hb dX9_margin_73 rfl (lv_at hl 2 rfl) ?_
      refine lv_aload_n hx hb dX9_margin_74 rfl (lv_at hl 0 rfl) ?_
      refine va_get hx hb hts in_X10 hown hK (fr_outP (xs := [(oc, .inr (7, [.int cn, .ref o, .int th, .ref ow, .int fw, .ref o])), (ow, .inl (gI 0, 8, .inl wh))]) hP) 0 rfl rfl 1 (Nat.le_of_ble_eq_true rfl) (hts _ q983) (fun _ h => h) (v := .ref o) rfl dX9_margin_75 ?_
      refine lv_aload_n hx hb dX9_margin_78 rfl (lv_at hl 0 rfl) ?_
      refine va_get hx hb hts in_X10 hown hK (fr_outP (xs := [(oc, .inr (7, [.int cn, .ref o, .int th, .ref ow, .int fw, .ref o])), (ow, .inl (gI 0, 8, .inl wh))]) hP) 0 rfl rfl 1 (Nat.le_of_ble_eq_true rfl) (hts _ q983) (fun _ h => h) (v := .ref o) rfl dX9_margin_79 ?_
      refine va_getN hx hb hts in_X1 hown hK hP 0 rfl rfl 2 (Nat.le_of_ble_eq_true rfl) (va_Nw.use rfl (hE.1 _ q185 rfl)) (fun _ h => h) (v := .ref (ax 2)) rfl dX9_margin_82 ?_
      refine lv_iload hx hb dX9_margin_85 (lv_at hl 3 rfl) ?_
      refine cl_i F (va_runVN (As := [.ref (ax 2), .int v4]) (rest := [.int v3]) ⟨hx, hb, hml, hown, hts⟩ (ct_S_topOf_i2 h _) ⟨va_cnB 2 hts (lw_meth q759) rfl rfl rfl (hE.1 _ q1017 rfl) (hts _ q94) (by decide +kernel) ⟨Nat.le_trans (Nat.le_of_ble_eq_true rfl) hRf, Nat.le_trans (Nat.le_of_ble_eq_true rfl) hRl⟩, hts _ q758, hts _ qs23⟩ ⟨ct_blind, va_recv hK hP (ci := 0) (q0 := 0) rfl rfl, ct_at F hS hP hD⟩ rfl rfl hl.1 rfl (lv_room (Nat.le_of_ble_eq_true rfl)) dX9_margin_87 ⟨hC, hSl⟩) rfl rfl hD hS ?_
      rintro x12 _ H locs h hP hD hS
      refine lv_iload_n hx hb dX9_margin_90 rfl (lv_at hl 1 rfl) ?_
      refine lv_isub hx hb dX9_margin_91 ?_
      refine va_mmin hx hb (hml.trans hl.1.symm) hown (hts _ q1018) (hts _ q336) (hts _ q100) (hts _ q337) (Nat.le_trans (Nat.le_of_ble_eq_true rfl) hRf) (Nat.le_trans (Nat.le_of_ble_eq_true rfl) hRl) hC hSl dX9_margin_92 ?_
      refine lv_istore_n (lv' := [(3, .int (mnI v3 (x12 - v2))), (0, .ref oc), (2, .int v2), (4, .int v4)]) hx hb dX9_margin_95 rfl hl (by decide) rfl (fun ls hl => ?_)
      refine lv_iinc (v := (v4 + (1 : Int32))) (lv' := [(4, .int (v4 + (1 : Int32))), (3, .int (mnI v3 (x12 - v2))), (0, .ref oc), (2, .int v2)]) hx hb dX9_margin_96 hl (k := 3) rfl rfl (by decide) rfl (fun ls hl => ?_)
      refine lv_goto (tgt := 61) hx hb dX9_margin_99 (by decide) ?_
      exact ih _ _ h _ _ _ hP hD hS (lv_sub hl [2, 3, 1, 0] rfl)
set_option maxHeartbeats 4000000 in
theorem cz_CS_margin_i1 {l : Launch} {V : evT} {D : va_G} {gI : Nat → ClassId} {o : Nat} {ax : Nat → Nat} {tl : va_W} {oc ow : Nat} (hlt : l.stackTraces = false) {fd : Nat → Int32} {ar : Nat → Nat → Int32} {lw : Nat → Int64} {hh : HT} {rn : Option (Nat × Nat)} {cn : Int32} {th : Int32} {fw : Int32} {wh : Nat → Int32} {Q : Int32 → (Nat → Int32) → (Nat → Nat → Int32) → Prop} (h : wp_CS_margin 1 fd ar lw hh rn cn th fw wh Q) : cz_i l V D (tyL gI) yX9_margin cX9_margin 5 .int { frames := 212, cells := 1, slots := 7, locals := 5037 } [.ref oc, .ref (ax 1)] (wX gI o ax rn ([(oc, .inr (7, [.int cn, .ref o, .int th, .ref ow, .int fw, .ref o])), (ow, .inl (gI 0, 8, .inl wh))] ++ tl) fd ar lw hh) (fun u : (Nat → Int32) × (Nat → Nat → Int32) => (wX gI o ax rn ([(oc, .inr (7, [.int cn, .ref o, .int th, .ref ow, .int fw, .ref o])), (ow, .inl (gI 0, 8, .inl wh))] ++ tl) u.1 u.2 lw hh)) (fun (x : Int32) (u : (Nat → Int32) × (Nat → Nat → Int32)) => Q x u.1 u.2) := by
  refine cz_ofi RX9 rfl (by decide +kernel) (Nat.le_of_ble_eq_true rfl) ?_
  intro p e s m args below meth c A F hP hD ls hl
  obtain ⟨⟨hx, hb, hml, hown, hts⟩, hr, hlocks, hA, hK, hE⟩ := id F
  have hS : va_S A s.heap s.heap [] := va_S.rf
  have hl : lv_has ls 5 [(0, .ref oc), (1, .ref (ax 1))] := hl
  have hRf : 212 ≤ ({ frames := 212, cells := 1, slots := 7, locals := 5037 } : Room).frames := Nat.le_refl _
  have hC1 : 1 ≤ ({ frames := 212, cells := 1, slots := 7, locals := 5037 } : Room).cells := Nat.le_refl _
  have hS7 : 7 ≤ ({ frames := 212, cells := 1, slots := 7, locals := 5037 } : Room).slots := Nat.le_refl _
  have hRl : 5037 ≤ ({ frames := 212, cells := 1, slots := 7, locals := 5037 } : Room).locals := Nat.le_refl _
  have hC : 0 ≤ ({ frames := 212, cells := 1, slots := 7, locals := 5037 } : Room).cells := Nat.zero_le _
  have hSl : 0 ≤ ({ frames := 212, cells := 1, slots := 7, locals := 5037 } : Room).slots := Nat.zero_le _
  unfold wp_CS_margin at h
  refine lv_aload_n hx hb dX9_margin_0 rfl (lv_at hl 0 rfl) ?_
  refine va_get hx hb hts in_X10 hown hK (fr_outP (xs := [(oc, .inr (7, [.int cn, .ref o, .int th, .ref ow, .int fw, .ref o])), (ow, .inl (gI 0, 8, .inl wh))]) hP) 0 rfl rfl 1 (Nat.le_of_ble_eq_true rfl) (hts _ q983) (fun _ h => h) (v := .ref o) rfl dX9_margin_1 ?_
  refine va_getN hx hb hts in_X1 hown hK hP 0 rfl rfl 2 (Nat.le_of_ble_eq_true rfl) (va_Nw.use rfl (hE.1 _ q185 rfl)) (fun _ h => h) (v := .ref (ax 2)) rfl dX9_margin_4 ?_
  refine lv_aload_n hx hb dX9_margin_7 rfl (lv_at hl 1 rfl) ?_
  refine cl_vL F (va_runV (As := [.ref (ax 1)]) (rest := []) ⟨hx, hb, hml, hown, hts⟩ (ct_B_be (o := (ax 2)) (ab := axb ax 2) (o2 := (ax 1)) (ab2 := axb ax 1) h _) (cwV 1 hts (lw_V q1013 q660 q661 q95 q662) rfl rfl rfl (by decide +kernel) ⟨Nat.le_trans (Nat.le_of_ble_eq_true rfl) hRf, Nat.le_trans (Nat.le_of_ble_eq_true rfl) hRl⟩) ⟨ct_blind, va_recv hK hP (ci := 1) (q0 := 24) rfl rfl, ct_at F hS (putL_P hP (ps := [24, 25, 26, 27, 28, 19, 20, 21, 22, 23]) rfl) (hD.sub ([24, 25, 26, 27, 28, 19, 20, 21, 22, 23]) (by decide) rfl)⟩ rfl rfl hl.1 rfl (lv_room (Nat.le_of_ble_eq_true rfl)) dX9_margin_8 ⟨hC, hSl⟩) rfl rfl hP hD hS (ps := [24, 25, 26, 27, 28, 19, 20, 21, 22, 23]) rfl (fun _ => rfl) (fun _ => wXPP_2_1) ?_
  rintro ⟨wl1, dp2, aa3, md4, mo5, sp6, ti7⟩ H locs h hP hD hS
  refine lv_aload_n hx hb dX9_margin_11 rfl (lv_at hl 0 rfl) ?_
  refine va_get hx hb hts in_X10 hown hK (fr_outP (xs := [(oc, .inr (7, [.int cn, .ref o, .int th, .ref ow, .int fw, .ref o])), (ow, .inl (gI 0, 8, .inl wh))]) hP) 0 rfl rfl 1 (Nat.le_of_ble_eq_true rfl) (hts _ q983) (fun _ h => h) (v := .ref o) rfl dX9_margin_12 ?_
  refine lv_aload_n hx hb dX9_margin_15 rfl (lv_at hl 0 rfl) ?_
  refine va_get hx hb hts in_X10 hown hK (fr_outP (xs := [(oc, .inr (7, [.int cn, .ref o, .int th, .ref ow, .int fw, .ref o])), (ow, .inl (gI 0, 8, .inl wh))]) hP) 0 rfl rfl 1 (Nat.le_of_ble_eq_true rfl) (hts _ q983) (fun _ h => h) (v := .ref o) rfl dX9_margin_16 ?_
  refine va_getN hx hb hts in_X1 hown hK hP 0 rfl rfl 2 (Nat.le_of_ble_eq_true rfl) (va_Nw.use rfl (hE.1 _ q185 rfl)) (fun _ h => h) (v := .ref (ax 2)) rfl dX9_margin_19 ?_
  refine lv_aload_n hx hb dX9_margin_22 rfl (lv_at hl 0 rfl) ?_
  refine va_get hx hb hts in_X10 hown hK (fr_outP (xs := [(oc, .inr (7, [.int cn, .ref o, .int th, .ref ow, .int fw, .ref o])), (ow, .inl (gI 0, 8, .inl wh))]) hP) 0 rfl rfl 0 (Nat.le_of_ble_eq_true rfl) (hts _ q982) (fun _ h => h) (v := .int cn) rfl dX9_margin_23 ?_
  refine cl_i F (va_runVN (As := [.ref (ax 2), .int cn]) (rest := []) ⟨hx, hb, hml, hown, hts⟩ (ct_S_goSpells_i2 h _) ⟨va_cnB 2 hts (lw_meth q707) rfl rfl rfl (hE.1 _ q1014 rfl) (hts _ q94) (by decide +kernel) ⟨Nat.le_trans (Nat.le_of_ble_eq_true rfl) hRf, Nat.le_trans (Nat.le_of_ble_eq_true rfl) hRl⟩, hts _ q706, hts _ qs14⟩ ⟨ct_blind, va_recv hK hP (ci := 0) (q0 := 0) rfl rfl, ct_at F hS hP hD⟩ rfl rfl hl.1 rfl (lv_room (Nat.le_of_ble_eq_true rfl)) dX9_margin_26 ⟨hC, hSl⟩) rfl rfl hD hS ?_
  rintro x8 ar9 H locs h hP hD hS
  refine lv_pop hx hb dX9_margin_29 rfl ?_
  refine lv_aload_n hx hb dX9_margin_30 rfl (lv_at hl 0 rfl) ?_
  refine va_get hx hb hts in_X10 hown hK (fr_outP (xs := [(oc, .inr (7, [.int cn, .ref o, .int th, .ref ow, .int fw, .ref o])), (ow, .inl (gI 0, 8, .inl wh))]) hP) 0 rfl rfl 1 (Nat.le_of_ble_eq_true rfl) (hts _ q983) (fun _ h => h) (v := .ref o) rfl dX9_margin_31 ?_
  refine lv_aload_n hx hb dX9_margin_34 rfl (lv_at hl 0 rfl) ?_
  refine va_get hx hb hts in_X10 hown hK (fr_outP (xs := [(oc, .inr (7, [.int cn, .ref o, .int th, .ref ow, .int fw, .ref o])), (ow, .inl (gI 0, 8, .inl wh))]) hP) 0 rfl rfl 1 (Nat.le_of_ble_eq_true rfl) (hts _ q983) (fun _ h => h) (v := .ref o) rfl dX9_margin_35 ?_
  refine va_getN hx hb hts in_X1 hown hK hP 0 rfl rfl 2 (Nat.le_of_ble_eq_true rfl) (va_Nw.use rfl (hE.1 _ q185 rfl)) (fun _ h => h) (v := .ref (ax 2)) rfl dX9_margin_38 ?_
  refine lv_aload_n hx hb dX9_margin_41 rfl (lv_at hl 0 rfl) ?_
  refine va_get hx hb hts in_X10 hown hK (fr_outP (xs := [(oc, .inr (7, [.int cn, .ref o, .int th, .ref ow, .int fw, .ref o])), (ow, .inl (gI 0, 8, .inl wh))]) hP) 0 rfl rfl 1 (Nat.le_of_ble_eq_true rfl) (hts _ q983) (fun _ h => h) (v := .ref o) rfl dX9_margin_42 ?_
  refine va_getN hx hb hts in_X1 hown hK hP 0 rfl rfl 2 (Nat.le_of_ble_eq_true rfl) (va_Nw.use rfl (hE.1 _ q185 rfl)) (fun _ h => h) (v := .ref (ax 2)) rfl dX9_margin_45 ?_
  refine va_get hx hb hts in_X2 hown hK hP 24 rfl rfl 6 (Nat.le_of_ble_eq_true rfl) (hts _ q150) (fun _ h => h) (v := .int ti7) rfl dX9_margin_48 ?_
  refine clz_i F (vx_runVN (As := [.ref (ax 2), .int ti7]) (rest := []) ⟨hx, hb, hml, hown, hts⟩ (cz_S_levelOf_i2 hlt h _) ⟨va_cnB 2 hts (lw_meth q739) rfl rfl rfl (hE.1 _ q1015 rfl) (hts _ q94) (by decide +kernel) ⟨Nat.le_trans (Nat.le_of_ble_eq_true rfl) hRf, Nat.le_trans (Nat.le_of_ble_eq_true rfl) hRl⟩, hts _ q738, hts _ qs20⟩ ⟨ct_blind, va_recv hK hP (ci := 0) (q0 := 0) rfl rfl, ct_at F hS hP hD⟩ rfl rfl hl.1 rfl (lv_room (Nat.le_of_ble_eq_true rfl)) dX9_margin_51 ⟨hC1, hS7⟩) hD hS ?_
  rintro x10 fd11 H locs h hP hD hS
  refine lv_istore_n (lv' := [(2, .int x10), (0, .ref oc), (1, .ref (ax 1))]) hx hb dX9_margin_54 rfl hl (by decide) rfl (fun ls hl => ?_)
  refine lv_ldc (v := (100000 : Int32)) hx hb hown (hts _ q1016) dX9_margin_55 ?_
  refine lv_istore_n (lv' := [(3, .int (100000 : Int32)), (2, .int x10), (0, .ref oc), (1, .ref (ax 1))]) hx hb dX9_margin_57 rfl hl (by decide) rfl (fun ls hl => ?_)
  refine lv_iconst (v := (0 : Int32)) hx hb dX9_margin_58 (by decide) ?_
  refine lv_istore (lv' := [(4, .int (0 : Int32)), (3, .int (100000 : Int32)), (2, .int x10), (0, .ref oc), (1, .ref (ax 1))]) hx hb dX9_margin_59 hl (by decide) rfl (fun ls hl => ?_)
  obtain ⟨k61, h⟩ := h
  refine lp_CS_margin_L1_i1 F hRf hRl hC hSl hC1 hS7 hlt ?hk102 k61 _ _ h _ _ _ hP hD hS (lv_sub hl [3, 2, 1, 0] rfl)
  case hk102 =>
    intro v3_14 h H locs ls hP hD hS hl
    refine lv_iload_n hx hb dX9_margin_102 rfl (lv_at hl 0 rfl) ?_
    exact vx_ret (rt_i F dX9_margin_103 rfl (fd11, ar9) h hP hD hS (Nat.le_refl _) (Nat.le_refl _))
set_option maxHeartbeats 4000000 in
theorem lp_PS_margin_L1_i1 {p : Program} {l : Launch} {e : Env} {R : Room} {s : State} {m : MethodId} {args : Array Value} {below : List Frame} {meth : Method} {c : Code} {A : Nat → Prop} {Qf : State → Prop} {V : evT} {D : va_G} {gI : Nat → ClassId} {o : Nat} {ax : Nat → Nat} {tl : va_W} {oc : Nat} {v2 : Int32} {fd : Nat → Int32} {ar : Nat → Nat → Int32} {lw : Nat → Int64} {hh : HT} {rn : Option (Nat × Nat)} {cn : Int32} {kd : Int32} {mst : Int32} {K102 : (Int32) → Prop} (F : ct_F p m c meth cX9_margin 5 s args RX9 (some .int) A V D vwCl (tyL gI)) (hRf : 212 ≤ R.frames) (hRl : 5037 ≤ R.locals) (hC : 0 ≤ R.cells) (hSl : 0 ≤ R.slots) (hC1 : 1 ≤ R.cells) (hS7 : 7 ≤ R.slots) (hlt : l.stackTraces = false)
    (hK102 : ∀ (v3 : Int32), K102 v3 → ∀ (H : Heap) (locs : List Loc) (ls : Array Slot), va_P D vwCl (wX gI o ax rn ([(oc, .inr (8, [.int cn, .ref o, .int kd, .int mst, .ref o]))] ++ tl) fd ar lw hh) H → va_D A (wX gI o ax rn ([(oc, .inr (8, [.int cn, .ref o, .int kd, .int mst, .ref o]))] ++ tl) fd ar lw hh) → va_S A s.heap H locs → lv_has ls 5 [(3, .int v3)] → W p l e R s m args below meth c H locs 0 0 Qf (F0 m 102 ls [])) :
    ∀ (n : Nat) (v3 : Int32) (v4 : Int32), wp_PS_margin_L1 1 v2 fd ar lw hh rn cn kd mst K102 n v3 v4 → ∀ (H : Heap) (locs : List Loc) (ls : Array Slot), va_P D vwCl (wX gI o ax rn ([(oc, .inr (8, [.int cn, .ref o, .int kd, .int mst, .ref o]))] ++ tl) fd ar lw hh) H → va_D A (wX gI o ax rn ([(oc, .inr (8, [.int cn, .ref o, .int kd, .int mst, .ref o]))] ++ tl) fd ar lw hh) → va_S A s.heap H locs → lv_has ls 5 [(0, .ref oc), (2, .int v2), (3, .int v3), (4, .int v4)] → W p l e R s m args below meth c H locs 0 0 Qf (F0 m 61 ls []) := by
  obtain ⟨⟨hx, hb, hml, hown, hts⟩, hr, hlocks, hA, hK, hE⟩ := id F
  intro n
  induction n with
  | zero => intro v3 v4 h; exact h.elim
  | succ n ih =>
    intro v3 v4 h H locs ls hP hD hS hl
    unfold wp_PS_margin_L1 at h
    refine lv_iload hx hb dX9_margin_61 (lv_at hl 3 rfl) ?_
    refine lv_aload_n hx hb dX9_margin_63 rfl (lv_at hl 0 rfl) ?_
    refine va_get hx hb hts in_X11 hown hK (fr_outP (xs := [(oc, .inr (8, [.int cn, .ref o, .int kd, .int mst, .ref o]))]) hP) 0 rfl rfl 1 (Nat.le_of_ble_eq_true rfl) (hts _ q983) (fun _ h => h) (v := .ref o) rfl dX9_margin_64 ?_
    refine va_getN hx hb hts in_X1 hown hK hP 0 rfl rfl 9 (Nat.le_of_ble_eq_true rfl) (va_Nw.use rfl (hE.1 _ q194 rfl)) (fun _ h => h) (v := .int (fd 9)) rfl dX9_margin_67 ?_
    refine lv_icmp_ge (tgt := 102) hx hb dX9_margin_70 (by decide) (fun c13 => ?_) (fun c13 => ?_)
    · replace h := h.1 c13
      exact hK102 _ h _ _ _ hP hD hS (lv_sub hl [2] rfl)
    · replace h := h.2 c13
      refine lv_iload_n hx hb dX9_margin_73 rfl (lv_at hl 2 rfl) ?_
      refine lv_aload_n hx hb dX9_margin_74 rfl (lv_at hl 0 rfl) ?_
      refine va_get hx hb hts in_X11 hown hK (fr_outP (xs := [(oc, .inr (8, [.int cn, .ref o, .int kd, .int mst, .ref o]))]) hP) 0 rfl rfl 1 (Nat.le_of_ble_eq_true rfl) (hts _ q983) (fun _ h => h) (v := .ref o) rfl dX9_margin_75 ?_
      refine lv_aload_n hx hb dX9_margin_78 rfl (lv_at hl 0 rfl) ?_
      refine va_get hx hb hts in_X11 hown hK (fr_outP (xs := [(oc, .inr (8, [.int cn, .ref o, .int kd, .int mst, .ref o]))]) hP) 0 rfl rfl 1 (Nat.le_of_ble_eq_true rfl) (hts _ q983) (fun _ h => h) (v := .ref o) rfl dX9_margin_79 ?_
      refine va_getN hx hb hts in_X1 hown hK hP 0 rfl rfl 2 (Nat.le_of_ble_eq_true rfl) (va_Nw.use rfl (hE.1 _ q185 rfl)) (fun _ h => h) (v := .ref (ax 2)) rfl dX9_margin_82 ?_
      refine lv_iload hx hb dX9_margin_85 (lv_at hl 3 rfl) ?_
      refine cl_i F (va_runVN (As := [.ref (ax 2), .int v4]) (rest := [.int v3]) ⟨hx, hb, hml, hown, hts⟩ (ct_S_topOf_i2 h _) ⟨va_cnB 2 hts (lw_meth q759) rfl rfl rfl (hE.1 _ q1017 rfl) (hts _ q94) (by decide +kernel) ⟨Nat.le_trans (Nat.le_of_ble_eq_true rfl) hRf, Nat.le_trans (Nat.le_of_ble_eq_true rfl) hRl⟩, hts _ q758, hts _ qs23⟩ ⟨ct_blind, va_recv hK hP (ci := 0) (q0 := 0) rfl rfl, ct_at F hS hP hD⟩ rfl rfl hl.1 rfl (lv_room (Nat.le_of_ble_eq_true rfl)) dX9_margin_87 ⟨hC, hSl⟩) rfl rfl hD hS ?_
      rintro x12 _ H locs h hP hD hS
      refine lv_iload_n hx hb dX9_margin_90 rfl (lv_at hl 1 rfl) ?_
      refine lv_isub hx hb dX9_margin_91 ?_
      refine va_mmin hx hb (hml.trans hl.1.symm) hown (hts _ q1018) (hts _ q336) (hts _ q100) (hts _ q337) (Nat.le_trans (Nat.le_of_ble_eq_true rfl) hRf) (Nat.le_trans (Nat.le_of_ble_eq_true rfl) hRl) hC hSl dX9_margin_92 ?_
      refine lv_istore_n (lv' := [(3, .int (mnI v3 (x12 - v2))), (0, .ref oc), (2, .int v2), (4, .int v4)]) hx hb dX9_margin_95 rfl hl (by decide) rfl (fun ls hl => ?_)
      refine lv_iinc (v := (v4 + (1 : Int32))) (lv' := [(4, .int (v4 + (1 : Int32))), (3, .int (mnI v3 (x12 - v2))), (0, .ref oc), (2, .int v2)]) hx hb dX9_margin_96 hl (k := 3) rfl rfl (by decide) rfl (fun ls hl => ?_)
      refine lv_goto (tgt := 61) hx hb dX9_margin_99 (by decide) ?_
      exact ih _ _ h _ _ _ hP hD hS (lv_sub hl [2, 3, 1, 0] rfl)
set_option maxHeartbeats 4000000 in
theorem cz_PS_margin_i1 {l : Launch} {V : evT} {D : va_G} {gI : Nat → ClassId} {o : Nat} {ax : Nat → Nat} {tl : va_W} {oc : Nat} (hlt : l.stackTraces = false) {fd : Nat → Int32} {ar : Nat → Nat → Int32} {lw : Nat → Int64} {hh : HT} {rn : Option (Nat × Nat)} {cn : Int32} {kd : Int32} {mst : Int32} {Q : Int32 → (Nat → Int32) → (Nat → Nat → Int32) → Prop} (h : wp_PS_margin 1 fd ar lw hh rn cn kd mst Q) : cz_i l V D (tyL gI) yX9_margin cX9_margin 5 .int { frames := 212, cells := 1, slots := 7, locals := 5037 } [.ref oc, .ref (ax 1)] (wX gI o ax rn ([(oc, .inr (8, [.int cn, .ref o, .int kd, .int mst, .ref o]))] ++ tl) fd ar lw hh) (fun u : (Nat → Int32) × (Nat → Nat → Int32) => (wX gI o ax rn ([(oc, .inr (8, [.int cn, .ref o, .int kd, .int mst, .ref o]))] ++ tl) u.1 u.2 lw hh)) (fun (x : Int32) (u : (Nat → Int32) × (Nat → Nat → Int32)) => Q x u.1 u.2) := by
  refine cz_ofi RX9 rfl (by decide +kernel) (Nat.le_of_ble_eq_true rfl) ?_
  intro p e s m args below meth c A F hP hD ls hl
  obtain ⟨⟨hx, hb, hml, hown, hts⟩, hr, hlocks, hA, hK, hE⟩ := id F
  have hS : va_S A s.heap s.heap [] := va_S.rf
  have hl : lv_has ls 5 [(0, .ref oc), (1, .ref (ax 1))] := hl
  have hRf : 212 ≤ ({ frames := 212, cells := 1, slots := 7, locals := 5037 } : Room).frames := Nat.le_refl _
  have hC1 : 1 ≤ ({ frames := 212, cells := 1, slots := 7, locals := 5037 } : Room).cells := Nat.le_refl _
  have hS7 : 7 ≤ ({ frames := 212, cells := 1, slots := 7, locals := 5037 } : Room).slots := Nat.le_refl _
  have hRl : 5037 ≤ ({ frames := 212, cells := 1, slots := 7, locals := 5037 } : Room).locals := Nat.le_refl _
  have hC : 0 ≤ ({ frames := 212, cells := 1, slots := 7, locals := 5037 } : Room).cells := Nat.zero_le _
  have hSl : 0 ≤ ({ frames := 212, cells := 1, slots := 7, locals := 5037 } : Room).slots := Nat.zero_le _
  unfold wp_PS_margin at h
  refine lv_aload_n hx hb dX9_margin_0 rfl (lv_at hl 0 rfl) ?_
  refine va_get hx hb hts in_X11 hown hK (fr_outP (xs := [(oc, .inr (8, [.int cn, .ref o, .int kd, .int mst, .ref o]))]) hP) 0 rfl rfl 1 (Nat.le_of_ble_eq_true rfl) (hts _ q983) (fun _ h => h) (v := .ref o) rfl dX9_margin_1 ?_
  refine va_getN hx hb hts in_X1 hown hK hP 0 rfl rfl 2 (Nat.le_of_ble_eq_true rfl) (va_Nw.use rfl (hE.1 _ q185 rfl)) (fun _ h => h) (v := .ref (ax 2)) rfl dX9_margin_4 ?_
  refine lv_aload_n hx hb dX9_margin_7 rfl (lv_at hl 1 rfl) ?_
  refine cl_vL F (va_runV (As := [.ref (ax 1)]) (rest := []) ⟨hx, hb, hml, hown, hts⟩ (ct_B_be (o := (ax 2)) (ab := axb ax 2) (o2 := (ax 1)) (ab2 := axb ax 1) h _) (cwV 1 hts (lw_V q1013 q660 q661 q95 q662) rfl rfl rfl (by decide +kernel) ⟨Nat.le_trans (Nat.le_of_ble_eq_true rfl) hRf, Nat.le_trans (Nat.le_of_ble_eq_true rfl) hRl⟩) ⟨ct_blind, va_recv hK hP (ci := 1) (q0 := 24) rfl rfl, ct_at F hS (putL_P hP (ps := [24, 25, 26, 27, 28, 19, 20, 21, 22, 23]) rfl) (hD.sub ([24, 25, 26, 27, 28, 19, 20, 21, 22, 23]) (by decide) rfl)⟩ rfl rfl hl.1 rfl (lv_room (Nat.le_of_ble_eq_true rfl)) dX9_margin_8 ⟨hC, hSl⟩) rfl rfl hP hD hS (ps := [24, 25, 26, 27, 28, 19, 20, 21, 22, 23]) rfl (fun _ => rfl) (fun _ => wXPP_2_1) ?_
  rintro ⟨wl1, dp2, aa3, md4, mo5, sp6, ti7⟩ H locs h hP hD hS
  refine lv_aload_n hx hb dX9_margin_11 rfl (lv_at hl 0 rfl) ?_
  refine va_get hx hb hts in_X11 hown hK (fr_outP (xs := [(oc, .inr (8, [.int cn, .ref o, .int kd, .int mst, .ref o]))]) hP) 0 rfl rfl 1 (Nat.le_of_ble_eq_true rfl) (hts _ q983) (fun _ h => h) (v := .ref o) rfl dX9_margin_12 ?_
  refine lv_aload_n hx hb dX9_margin_15 rfl (lv_at hl 0 rfl) ?_
  refine va_get hx hb hts in_X11 hown hK (fr_outP (xs := [(oc, .inr (8, [.int cn, .ref o, .int kd, .int mst, .ref o]))]) hP) 0 rfl rfl 1 (Nat.le_of_ble_eq_true rfl) (hts _ q983) (fun _ h => h) (v := .ref o) rfl dX9_margin_16 ?_
  refine va_getN hx hb hts in_X1 hown hK hP 0 rfl rfl 2 (Nat.le_of_ble_eq_true rfl) (va_Nw.use rfl (hE.1 _ q185 rfl)) (fun _ h => h) (v := .ref (ax 2)) rfl dX9_margin_19 ?_
  refine lv_aload_n hx hb dX9_margin_22 rfl (lv_at hl 0 rfl) ?_
  refine va_get hx hb hts in_X11 hown hK (fr_outP (xs := [(oc, .inr (8, [.int cn, .ref o, .int kd, .int mst, .ref o]))]) hP) 0 rfl rfl 0 (Nat.le_of_ble_eq_true rfl) (hts _ q982) (fun _ h => h) (v := .int cn) rfl dX9_margin_23 ?_
  refine cl_i F (va_runVN (As := [.ref (ax 2), .int cn]) (rest := []) ⟨hx, hb, hml, hown, hts⟩ (ct_S_goSpells_i2 h _) ⟨va_cnB 2 hts (lw_meth q707) rfl rfl rfl (hE.1 _ q1014 rfl) (hts _ q94) (by decide +kernel) ⟨Nat.le_trans (Nat.le_of_ble_eq_true rfl) hRf, Nat.le_trans (Nat.le_of_ble_eq_true rfl) hRl⟩, hts _ q706, hts _ qs14⟩ ⟨ct_blind, va_recv hK hP (ci := 0) (q0 := 0) rfl rfl, ct_at F hS hP hD⟩ rfl rfl hl.1 rfl (lv_room (Nat.le_of_ble_eq_true rfl)) dX9_margin_26 ⟨hC, hSl⟩) rfl rfl hD hS ?_
  rintro x8 ar9 H locs h hP hD hS
  refine lv_pop hx hb dX9_margin_29 rfl ?_
  refine lv_aload_n hx hb dX9_margin_30 rfl (lv_at hl 0 rfl) ?_
  refine va_get hx hb hts in_X11 hown hK (fr_outP (xs := [(oc, .inr (8, [.int cn, .ref o, .int kd, .int mst, .ref o]))]) hP) 0 rfl rfl 1 (Nat.le_of_ble_eq_true rfl) (hts _ q983) (fun _ h => h) (v := .ref o) rfl dX9_margin_31 ?_
  refine lv_aload_n hx hb dX9_margin_34 rfl (lv_at hl 0 rfl) ?_
  refine va_get hx hb hts in_X11 hown hK (fr_outP (xs := [(oc, .inr (8, [.int cn, .ref o, .int kd, .int mst, .ref o]))]) hP) 0 rfl rfl 1 (Nat.le_of_ble_eq_true rfl) (hts _ q983) (fun _ h => h) (v := .ref o) rfl dX9_margin_35 ?_
  refine va_getN hx hb hts in_X1 hown hK hP 0 rfl rfl 2 (Nat.le_of_ble_eq_true rfl) (va_Nw.use rfl (hE.1 _ q185 rfl)) (fun _ h => h) (v := .ref (ax 2)) rfl dX9_margin_38 ?_
  refine lv_aload_n hx hb dX9_margin_41 rfl (lv_at hl 0 rfl) ?_
  refine va_get hx hb hts in_X11 hown hK (fr_outP (xs := [(oc, .inr (8, [.int cn, .ref o, .int kd, .int mst, .ref o]))]) hP) 0 rfl rfl 1 (Nat.le_of_ble_eq_true rfl) (hts _ q983) (fun _ h => h) (v := .ref o) rfl dX9_margin_42 ?_
  refine va_getN hx hb hts in_X1 hown hK hP 0 rfl rfl 2 (Nat.le_of_ble_eq_true rfl) (va_Nw.use rfl (hE.1 _ q185 rfl)) (fun _ h => h) (v := .ref (ax 2)) rfl dX9_margin_45 ?_
  refine va_get hx hb hts in_X2 hown hK hP 24 rfl rfl 6 (Nat.le_of_ble_eq_true rfl) (hts _ q150) (fun _ h => h) (v := .int ti7) rfl dX9_margin_48 ?_
  refine clz_i F (vx_runVN (As := [.ref (ax 2), .int ti7]) (rest := []) ⟨hx, hb, hml, hown, hts⟩ (cz_S_levelOf_i2 hlt h _) ⟨va_cnB 2 hts (lw_meth q739) rfl rfl rfl (hE.1 _ q1015 rfl) (hts _ q94) (by decide +kernel) ⟨Nat.le_trans (Nat.le_of_ble_eq_true rfl) hRf, Nat.le_trans (Nat.le_of_ble_eq_true rfl) hRl⟩, hts _ q738, hts _ qs20⟩ ⟨ct_blind, va_recv hK hP (ci := 0) (q0 := 0) rfl rfl, ct_at F hS hP hD⟩ rfl rfl hl.1 rfl (lv_room (Nat.le_of_ble_eq_true rfl)) dX9_margin_51 ⟨hC1, hS7⟩) hD hS ?_
  rintro x10 fd11 H locs h hP hD hS
  refine lv_istore_n (lv' := [(2, .int x10), (0, .ref oc), (1, .ref (ax 1))]) hx hb dX9_margin_54 rfl hl (by decide) rfl (fun ls hl => ?_)
  refine lv_ldc (v := (100000 : Int32)) hx hb hown (hts _ q1016) dX9_margin_55 ?_
  refine lv_istore_n (lv' := [(3, .int (100000 : Int32)), (2, .int x10), (0, .ref oc), (1, .ref (ax 1))]) hx hb dX9_margin_57 rfl hl (by decide) rfl (fun ls hl => ?_)
  refine lv_iconst (v := (0 : Int32)) hx hb dX9_margin_58 (by decide) ?_
  refine lv_istore (lv' := [(4, .int (0 : Int32)), (3, .int (100000 : Int32)), (2, .int x10), (0, .ref oc), (1, .ref (ax 1))]) hx hb dX9_margin_59 hl (by decide) rfl (fun ls hl => ?_)
  obtain ⟨k61, h⟩ := h
  refine lp_PS_margin_L1_i1 F hRf hRl hC hSl hC1 hS7 hlt ?hk102 k61 _ _ h _ _ _ hP hD hS (lv_sub hl [3, 2, 1, 0] rfl)
  case hk102 =>
    intro v3_14 h H locs ls hP hD hS hl
    refine lv_iload_n hx hb dX9_margin_102 rfl (lv_at hl 0 rfl) ?_
    exact vx_ret (rt_i F dX9_margin_103 rfl (fd11, ar9) h hP hD hS (Nat.le_refl _) (Nat.le_refl _))
set_option maxHeartbeats 4000000 in
theorem cz_C_margin_i1 {l : Launch} {V : evT} {D : va_G} {gI : Nat → ClassId} {o : Nat} {ax : Nat → Nat} {tl : va_W} {oc ow : Nat} (hlt : l.stackTraces = false) {fd : Nat → Int32} {ar : Nat → Nat → Int32} {lw : Nat → Int64} {hh : HT} {rn : Option (Nat × Nat)} {cn : Int32} {th : Int32} {fw : Int32} {wh : Nat → Int32} {Q : Int32 → (Nat → Int32) → (Nat → Nat → Int32) → Prop} (h : wp_C_margin 1 fd ar lw hh rn cn th fw wh Q) : cz_i l V D (tyL gI) yX10_margin cX10_margin 2 .int { frames := 213, cells := 1, slots := 7, locals := 5061 } [.ref oc, .ref (ax 1)] (wX gI o ax rn ([(oc, .inr (7, [.int cn, .ref o, .int th, .ref ow, .int fw, .ref o])), (ow, .inl (gI 0, 8, .inl wh))] ++ tl) fd ar lw hh) (fun u : (Nat → Int32) × (Nat → Nat → Int32) => (wX gI o ax rn ([(oc, .inr (7, [.int cn, .ref o, .int th, .ref ow, .int fw, .ref o])), (ow, .inl (gI 0, 8, .inl wh))] ++ tl) u.1 u.2 lw hh)) (fun (x : Int32) (u : (Nat → Int32) × (Nat → Nat → Int32)) => Q x u.1 u.2) := by
  refine cz_ofi RX10 rfl (by decide +kernel) (Nat.le_of_ble_eq_true rfl) ?_
  intro p e s m args below meth c A F hP hD ls hl
  obtain ⟨⟨hx, hb, hml, hown, hts⟩, hr, hlocks, hA, hK, hE⟩ := id F
  have hS : va_S A s.heap s.heap [] := va_S.rf
  have hl : lv_has ls 2 [(0, .ref oc), (1, .ref (ax 1))] := hl
  have hRf : 213 ≤ ({ frames := 213, cells := 1, slots := 7, locals := 5061 } : Room).frames := Nat.le_refl _
  have hC1 : 1 ≤ ({ frames := 213, cells := 1, slots := 7, locals := 5061 } : Room).cells := Nat.le_refl _
  have hS7 : 7 ≤ ({ frames := 213, cells := 1, slots := 7, locals := 5061 } : Room).slots := Nat.le_refl _
  have hRl : 5061 ≤ ({ frames := 213, cells := 1, slots := 7, locals := 5061 } : Room).locals := Nat.le_refl _
  have hC : 0 ≤ ({ frames := 213, cells := 1, slots := 7, locals := 5061 } : Room).cells := Nat.zero_le _
  have hSl : 0 ≤ ({ frames := 213, cells := 1, slots := 7, locals := 5061 } : Room).slots := Nat.zero_le _
  unfold wp_C_margin at h
  refine lv_iconst (v := (0 : Int32)) hx hb dX10_margin_0 (by decide) ?_
  refine lv_aload_n hx hb dX10_margin_1 rfl (lv_at hl 0 rfl) ?_
  refine lv_aload_n hx hb dX10_margin_2 rfl (lv_at hl 1 rfl) ?_
  refine clz_i F (vx_runSU (As := [.ref (ax 1)]) (rest := [.int (0 : Int32)]) (hK.1 7 _ rfl).2 ⟨hx, hb, hml, hown, hts⟩ (cz_CS_margin_i1 hlt h _) (va_cwSU 1 hts (lw_SU q1010 q1863 q996 q1011 q116 q1012) rfl rfl rfl (by decide +kernel) ⟨Nat.le_trans (Nat.le_of_ble_eq_true rfl) hRf, Nat.le_trans (Nat.le_of_ble_eq_true rfl) hRl⟩) ⟨ct_blind, va_recv hK (fr_outP (xs := [(oc, .inr (7, [.int cn, .ref o, .int th, .ref ow, .int fw, .ref o])), (ow, .inl (gI 0, 8, .inl wh))]) hP) (ci := 7) (q0 := 0) rfl rfl, ct_at F hS hP hD⟩ rfl rfl hl.1 rfl (lv_room (Nat.le_of_ble_eq_true rfl)) dX10_margin_3 ⟨hC1, hS7⟩) hD hS ?_
  rintro x1 ⟨fd2, ar3⟩ H locs h hP hD hS
  refine va_mmin hx hb (hml.trans hl.1.symm) hown (hts _ q1019) (hts _ q336) (hts _ q100) (hts _ q337) (Nat.le_trans (Nat.le_of_ble_eq_true rfl) hRf) (Nat.le_trans (Nat.le_of_ble_eq_true rfl) hRl) hC hSl dX10_margin_6 ?_
  exact vx_ret (rt_i F dX10_margin_9 rfl (fd2, ar3) h hP hD hS (Nat.le_refl _) (Nat.le_refl _))
set_option maxHeartbeats 4000000 in
theorem lp_C_send_L1 {p : Program} {l : Launch} {e : Env} {R : Room} {s : State} {m : MethodId} {args : Array Value} {below : List Frame} {meth : Method} {c : Code} {A : Nat → Prop} {Qf : State → Prop} {V : evT} {D : va_G} {gI : Nat → ClassId} {o : Nat} {ax : Nat → Nat} {tl : va_W} {oc ow : Nat} {v1 : Int32} {v2 : Int32} {lw : Nat → Int64} {hh : HT} {rn : Option (Nat × Nat)} {cn : Int32} {th : Int32} {d : Nat} {rec : Int32 → Int32 → (Nat → Int32) → (Nat → Nat → Int32) → (Nat → Int64) → (HT) → (Option (Nat × Nat)) → (Int32) → (Int32) → (Int32) → (Nat → Int32) → ((Nat → Int32) → (Nat → Nat → Int32) → (Int32) → (Nat → Int32) → Prop) → Prop} {K156 : (Nat → Int32) → (Nat → Nat → Int32) → (Int32) → (Nat → Int32) → Prop} (F : ct_F p m c meth cX10_send 4 s args RX10 none A V D vwCl (tyL gI)) (hRf : 214 + (d + 1) ≤ R.frames) (hRl : 5082 + (d + 1) * 23 ≤ R.locals) (hC : 0 ≤ R.cells) (hSl : 0 ≤ R.slots) (hC1 : 1 ≤ R.cells) (hS7 : 7 ≤ R.slots) (hlt : l.stackTraces = false)
    (hrec0 : ∀ {v1 : Int32} {v2 : Int32} {fd : Nat → Int32} {ar : Nat → Nat → Int32} {lw : Nat → Int64} {hh : HT} {rn : Option (Nat × Nat)} {cn : Int32} {th : Int32} {fw : Int32} {wh : Nat → Int32} {Q : (Nat → Int32) → (Nat → Nat → Int32) → (Int32) → (Nat → Int32) → Prop}, rec v1 v2 fd ar lw hh rn cn th fw wh Q → cz_v l V D (tyL gI) yX10_send cX10_send 4 { frames := 214 + d, cells := 1, slots := 7, locals := 5082 + d * 23 } [.ref oc, .int v1, .int v2] (wX gI o ax rn ([(oc, .inr (7, [.int cn, .ref o, .int th, .ref ow, .int fw, .ref o])), (ow, .inl (gI 0, 8, .inl wh))] ++ tl) fd ar lw hh) (fun u : (Nat → Int32) × (Nat → Nat → Int32) × (Int32) × (Nat → Int32) => (wX gI o ax rn ([(oc, .inr (7, [.int cn, .ref o, .int th, .ref ow, .int u.2.2.1, .ref o])), (ow, .inl (gI 0, 8, .inl u.2.2.2))] ++ tl) u.1 u.2.1 lw hh)) (fun (u : (Nat → Int32) × (Nat → Nat → Int32) × (Int32) × (Nat → Int32)) => Q u.1 u.2.1 u.2.2.1 u.2.2.2))
    (hK156 : ∀ (fd : Nat → Int32) (ar : Nat → Nat → Int32) (fw : Int32) (wh : Nat → Int32), K156 fd ar fw wh → ∀ (H : Heap) (locs : List Loc) (ls : Array Slot), va_P D vwCl (wX gI o ax rn ([(oc, .inr (7, [.int cn, .ref o, .int th, .ref ow, .int fw, .ref o])), (ow, .inl (gI 0, 8, .inl wh))] ++ tl) fd ar lw hh) H → va_D A (wX gI o ax rn ([(oc, .inr (7, [.int cn, .ref o, .int th, .ref ow, .int fw, .ref o])), (ow, .inl (gI 0, 8, .inl wh))] ++ tl) fd ar lw hh) → va_S A s.heap H locs → lv_has ls 4 [(0, .ref oc), (1, .int v1)] → W p l e R s m args below meth c H locs 0 0 Qf (F0 m 156 ls [])) :
    ∀ (n : Nat) (v3 : Int32) (fd : Nat → Int32) (ar : Nat → Nat → Int32) (fw : Int32) (wh : Nat → Int32), wp_C_send_L1 rec v1 v2 lw hh rn cn th K156 n v3 fd ar fw wh → ∀ (H : Heap) (locs : List Loc) (ls : Array Slot), va_P D vwCl (wX gI o ax rn ([(oc, .inr (7, [.int cn, .ref o, .int th, .ref ow, .int fw, .ref o])), (ow, .inl (gI 0, 8, .inl wh))] ++ tl) fd ar lw hh) H → va_D A (wX gI o ax rn ([(oc, .inr (7, [.int cn, .ref o, .int th, .ref ow, .int fw, .ref o])), (ow, .inl (gI 0, 8, .inl wh))] ++ tl) fd ar lw hh) → va_S A s.heap H locs → lv_has ls 4 [(0, .ref oc), (1, .int v1), (2, .int v2), (3, .int v3)] → W p l e R s m args below meth c H locs 0 0 Qf (F0 m 90 ls []) := by
  obtain ⟨⟨hx, hb, hml, hown, hts⟩, hr, hlocks, hA, hK, hE⟩ := id F
  intro n
  induction n with
  | zero => intro v3 fd ar fw wh h; exact h.elim
  | succ n ih =>
    intro v3 fd ar fw wh h H locs ls hP hD hS hl
    unfold wp_C_send_L1 at h
    refine lv_iload_n hx hb dX10_send_90 rfl (lv_at hl 3 rfl) ?_
    refine lv_aload_n hx hb dX10_send_91 rfl (lv_at hl 0 rfl) ?_
    refine va_get hx hb hts in_X10 hown hK (fr_outP (xs := [(oc, .inr (7, [.int cn, .ref o, .int th, .ref ow, .int fw, .ref o])), (ow, .inl (gI 0, 8, .inl wh))]) hP) 0 rfl rfl 5 (Nat.le_of_ble_eq_true rfl) (hts _ q981) (fun _ h => h) (v := .ref o) rfl dX10_send_92 ?_
    refine va_getN hx hb hts in_X1 hown hK hP 0 rfl rfl 9 (Nat.le_of_ble_eq_true rfl) (va_Nw.use rfl (hE.1 _ q196 rfl)) (fun _ h => h) (v := .int (fd 9)) rfl dX10_send_95 ?_
    refine lv_icmp_ge (tgt := 156) hx hb dX10_send_98 (by decide) (fun c12 => ?_) (fun c12 => ?_)
    · replace h := h.1 c12
      exact hK156 _ _ _ _ h _ _ _ hP hD hS (lv_sub hl [0, 1] rfl)
    · replace h := h.2 c12
      refine lv_aload_n hx hb dX10_send_101 rfl (lv_at hl 0 rfl) ?_
      refine va_get hx hb hts in_X10 hown hK (fr_outP (xs := [(oc, .inr (7, [.int cn, .ref o, .int th, .ref ow, .int fw, .ref o])), (ow, .inl (gI 0, 8, .inl wh))]) hP) 0 rfl rfl 2 (Nat.le_of_ble_eq_true rfl) (hts _ q977) (fun _ h => h) (v := .int th) rfl dX10_send_102 ?_
      refine lv_iload_n hx hb dX10_send_105 rfl (lv_at hl 1 rfl) ?_
      refine cl_i0 F (va_runSN (As := [.int th, .int v1]) (rest := []) ⟨hx, hb, hml, hown, hts⟩ (ct_X1_has h _) ⟨va_cnB 2 hts (lw_meth q682) rfl rfl rfl (hE.1 _ q1021 rfl) (hts _ q94) (by decide +kernel) ⟨Nat.le_trans (Nat.le_of_ble_eq_true rfl) (Nat.le_trans (Nat.le_add_right 214 _) hRf), Nat.le_trans (Nat.le_of_ble_eq_true rfl) (Nat.le_trans (Nat.le_add_right 5082 _) hRl)⟩, hts _ q681, trivial⟩ ⟨ct_blind, ct_at F hS ct_nP ct_nD⟩ rfl rfl hl.1 rfl (lv_room (Nat.le_of_ble_eq_true rfl)) dX10_send_106 ⟨hC, hSl⟩) rfl rfl hP hS ?_
      rintro x5 _ H locs h hP hS
      refine lv_if_eq (tgt := 156) hx hb dX10_send_109 (by decide) (fun c11 => ?_) (fun c11 => ?_)
      · replace h := h.1 c11
        exact hK156 _ _ _ _ h _ _ _ hP hD hS (lv_sub hl [0, 1] rfl)
      · replace h := h.2 c11
        refine lv_aload_n hx hb dX10_send_112 rfl (lv_at hl 0 rfl) ?_
        refine va_get hx hb hts in_X10 hown hK (fr_outP (xs := [(oc, .inr (7, [.int cn, .ref o, .int th, .ref ow, .int fw, .ref o])), (ow, .inl (gI 0, 8, .inl wh))]) hP) 0 rfl rfl 5 (Nat.le_of_ble_eq_true rfl) (hts _ q981) (fun _ h => h) (v := .ref o) rfl dX10_send_113 ?_
        refine va_getN hx hb hts in_X1 hown hK hP 0 rfl rfl 1 (Nat.le_of_ble_eq_true rfl) (va_Nw.use rfl (hE.1 _ q184 rfl)) (fun _ h => h) (v := .ref (ax 1)) rfl dX10_send_116 ?_
        refine va_get hx hb hts in_X2 hown hK hP 19 rfl rfl 3 (Nat.le_of_ble_eq_true rfl) (hts _ q143) (fun _ h => h) (v := .ref (ax 47)) rfl dX10_send_119 ?_
        refine lv_iload_n hx hb dX10_send_122 rfl (lv_at hl 1 rfl) ?_
        refine va_iald (f := (ar 47)) hx hb hK hP 23 0 rfl rfl h.1 dX10_send_123 ?_
        replace h := h.2
        refine lv_if_le (tgt := 156) hx hb dX10_send_124 (by decide) (fun c10 => ?_) (fun c10 => ?_)
        · replace h := h.1 c10
          exact hK156 _ _ _ _ h _ _ _ hP hD hS (lv_sub hl [0, 1] rfl)
        · replace h := h.2 c10
          refine lv_aload_n hx hb dX10_send_127 rfl (lv_at hl 0 rfl) ?_
          refine va_get hx hb hts in_X10 hown hK (fr_outP (xs := [(oc, .inr (7, [.int cn, .ref o, .int th, .ref ow, .int fw, .ref o])), (ow, .inl (gI 0, 8, .inl wh))]) hP) 0 rfl rfl 5 (Nat.le_of_ble_eq_true rfl) (hts _ q981) (fun _ h => h) (v := .ref o) rfl dX10_send_128 ?_
          refine va_getN hx hb hts in_X1 hown hK hP 0 rfl rfl 1 (Nat.le_of_ble_eq_true rfl) (va_Nw.use rfl (hE.1 _ q184 rfl)) (fun _ h => h) (v := .ref (ax 1)) rfl dX10_send_131 ?_
          refine va_get hx hb hts in_X2 hown hK hP 19 rfl rfl 2 (Nat.le_of_ble_eq_true rfl) (hts _ q140) (fun _ h => h) (v := .ref (ax 46)) rfl dX10_send_134 ?_
          refine lv_iload_n hx hb dX10_send_137 rfl (lv_at hl 1 rfl) ?_
          refine lv_iload_n hx hb dX10_send_138 rfl (lv_at hl 3 rfl) ?_
          refine pt_iast (f := (ar 46)) hx hb hK hP hD hS 22 0 rfl rfl h.1 dX10_send_139 wXA_46 (fun H locs hP hD hS => ?_)
          replace h := h.2
          refine lv_aload_n hx hb dX10_send_140 rfl (lv_at hl 0 rfl) ?_
          refine lv_iload_n hx hb dX10_send_141 rfl (lv_at hl 1 rfl) ?_
          refine lv_iconst (v := (1 : Int32)) hx hb dX10_send_142 (by decide) ?_
          refine lv_iadd hx hb dX10_send_143 ?_
          refine lv_iload_n hx hb dX10_send_144 rfl (lv_at hl 2 rfl) ?_
          refine lv_iconst (v := (1 : Int32)) hx hb dX10_send_145 (by decide) ?_
          refine lv_iadd hx hb dX10_send_146 ?_
          refine clz_v F (vx_runV (As := [.int (v1 + (1 : Int32)), .int (v2 + (1 : Int32))]) (rest := []) ⟨hx, hb, hml, hown, hts⟩ (hrec0 h _) (cwV 2 hts (lw_V q1002 q1004 qs31 q117 q1005) rfl rfl rfl (by decide +kernel) ⟨hRf, by have hh := hRl; show 8 + (_ + 11) + (5082 + d * 23) ≤ _; omega⟩) ⟨ct_blind, va_recv hK (fr_outP (xs := [(oc, .inr (7, [.int cn, .ref o, .int th, .ref ow, .int fw, .ref o])), (ow, .inl (gI 0, 8, .inl wh))]) hP) (ci := 7) (q0 := 0) rfl rfl, ct_at F hS hP hD⟩ rfl rfl hl.1 rfl (lv_room (Nat.le_of_ble_eq_true rfl)) dX10_send_147 ⟨hC1, hS7⟩) hD hS ?_
          rintro ⟨fd6, ar7, fw8, wh9⟩ H locs h hP hD hS
          refine lv_iinc (v := (v3 + (1 : Int32))) (lv' := [(3, .int (v3 + (1 : Int32))), (0, .ref oc), (1, .int v1), (2, .int v2)]) hx hb dX10_send_150 hl (k := 3) rfl rfl (by decide) rfl (fun ls hl => ?_)
          refine lv_goto (tgt := 90) hx hb dX10_send_153 (by decide) ?_
          exact ih _ _ _ _ _ h _ _ _ hP hD hS (lv_sub hl [1, 2, 3, 0] rfl)
set_option maxHeartbeats 4000000 in
theorem ctg_C_send {l : Launch} {V : evT} {D : va_G} {gI : Nat → ClassId} {o : Nat} {ax : Nat → Nat} {tl : va_W} {oc ow : Nat} (hlt : l.stackTraces = false) : ∀ d : Nat, (∀ {v1 : Int32} {v2 : Int32} {fd : Nat → Int32} {ar : Nat → Nat → Int32} {lw : Nat → Int64} {hh : HT} {rn : Option (Nat × Nat)} {cn : Int32} {th : Int32} {fw : Int32} {wh : Nat → Int32} {Q : (Nat → Int32) → (Nat → Nat → Int32) → (Int32) → (Nat → Int32) → Prop}, wp_C_send d v1 v2 fd ar lw hh rn cn th fw wh Q → cz_v l V D (tyL gI) yX10_send cX10_send 4 { frames := 214 + d, cells := 1, slots := 7, locals := 5082 + d * 23 } [.ref oc, .int v1, .int v2] (wX gI o ax rn ([(oc, .inr (7, [.int cn, .ref o, .int th, .ref ow, .int fw, .ref o])), (ow, .inl (gI 0, 8, .inl wh))] ++ tl) fd ar lw hh) (fun u : (Nat → Int32) × (Nat → Nat → Int32) × (Int32) × (Nat → Int32) => (wX gI o ax rn ([(oc, .inr (7, [.int cn, .ref o, .int th, .ref ow, .int u.2.2.1, .ref o])), (ow, .inl (gI 0, 8, .inl u.2.2.2))] ++ tl) u.1 u.2.1 lw hh)) (fun (u : (Nat → Int32) × (Nat → Nat → Int32) × (Int32) × (Nat → Int32)) => Q u.1 u.2.1 u.2.2.1 u.2.2.2)) := by
  intro d
  induction d with
  | zero => exact fun h => False.elim h
  | succ d ih =>
    have hrec0 := @ih
    intro v1 v2 fd ar lw hh rn cn th fw wh Q h
    refine cz_ofv RX10 rfl (by decide +kernel) (Nat.le_of_ble_eq_true rfl) ?_
    intro p e s m args below meth c A F _ hP hD ls hl
    obtain ⟨⟨hx, hb, hml, hown, hts⟩, hr, hlocks, hA, hK, hE⟩ := id F
    have hS : va_S A s.heap s.heap [] := va_S.rf
    have hl : lv_has ls 4 [(0, .ref oc), (1, .int v1), (2, .int v2)] := hl
    have hRf : 214 + (d + 1) ≤ ({ frames := 214 + (d + 1), cells := 1, slots := 7, locals := 5082 + (d + 1) * 23 } : Room).frames := Nat.le_refl _
    have hRl : 5082 + (d + 1) * 23 ≤ ({ frames := 214 + (d + 1), cells := 1, slots := 7, locals := 5082 + (d + 1) * 23 } : Room).locals := Nat.le_refl _
    have hC : 0 ≤ ({ frames := 214 + (d + 1), cells := 1, slots := 7, locals := 5082 + (d + 1) * 23 } : Room).cells := Nat.zero_le _
    have hSl : 0 ≤ ({ frames := 214 + (d + 1), cells := 1, slots := 7, locals := 5082 + (d + 1) * 23 } : Room).slots := Nat.zero_le _
    have hC1 : 1 ≤ ({ frames := 214 + (d + 1), cells := 1, slots := 7, locals := 5082 + (d + 1) * 23 } : Room).cells := Nat.le_refl _
    have hS7 : 7 ≤ ({ frames := 214 + (d + 1), cells := 1, slots := 7, locals := 5082 + (d + 1) * 23 } : Room).slots := Nat.le_refl _
    unfold wp_C_send at h
    refine lv_iload_n hx hb dX10_send_0 rfl (lv_at hl 2 rfl) ?_
    refine lv_aload_n hx hb dX10_send_1 rfl (lv_at hl 0 rfl) ?_
    refine va_get hx hb hts in_X10 hown hK (fr_outP (xs := [(oc, .inr (7, [.int cn, .ref o, .int th, .ref ow, .int fw, .ref o])), (ow, .inl (gI 0, 8, .inl wh))]) hP) 0 rfl rfl 4 (Nat.le_of_ble_eq_true rfl) (hts _ q980) (fun _ h => h) (v := .int fw) rfl dX10_send_2 ?_
    refine lv_icmp_lt (tgt := 9) hx hb dX10_send_5 (by decide) (fun c22 => ?_) (fun c22 => ?_)
    · replace h := h.1 c22
      refine lv_iload_n hx hb dX10_send_9 rfl (lv_at hl 1 rfl) ?_
      refine lv_aload_n hx hb dX10_send_10 rfl (lv_at hl 0 rfl) ?_
      refine va_get hx hb hts in_X10 hown hK (fr_outP (xs := [(oc, .inr (7, [.int cn, .ref o, .int th, .ref ow, .int fw, .ref o])), (ow, .inl (gI 0, 8, .inl wh))]) hP) 0 rfl rfl 5 (Nat.le_of_ble_eq_true rfl) (hts _ q981) (fun _ h => h) (v := .ref o) rfl dX10_send_11 ?_
      refine va_getN hx hb hts in_X1 hown hK hP 0 rfl rfl 10 (Nat.le_of_ble_eq_true rfl) (va_Nw.use rfl (hE.1 _ q198 rfl)) (fun _ h => h) (v := .int (fd 10)) rfl dX10_send_14 ?_
      refine lv_icmp_ne (tgt := 67) hx hb dX10_send_17 (by decide) (fun c21 => ?_) (fun c21 => ?_)
      · replace h := h.1 c21
        refine lv_aload_n hx hb dX10_send_67 rfl (lv_at hl 0 rfl) ?_
        refine va_get hx hb hts in_X10 hown hK (fr_outP (xs := [(oc, .inr (7, [.int cn, .ref o, .int th, .ref ow, .int fw, .ref o])), (ow, .inl (gI 0, 8, .inl wh))]) hP) 0 rfl rfl 5 (Nat.le_of_ble_eq_true rfl) (hts _ q981) (fun _ h => h) (v := .ref o) rfl dX10_send_68 ?_
        refine va_getN hx hb hts in_X1 hown hK hP 0 rfl rfl 1 (Nat.le_of_ble_eq_true rfl) (va_Nw.use rfl (hE.1 _ q184 rfl)) (fun _ h => h) (v := .ref (ax 1)) rfl dX10_send_71 ?_
        refine va_get hx hb hts in_X2 hown hK hP 19 rfl rfl 2 (Nat.le_of_ble_eq_true rfl) (hts _ q140) (fun _ h => h) (v := .ref (ax 46)) rfl dX10_send_74 ?_
        refine lv_iload_n hx hb dX10_send_77 rfl (lv_at hl 1 rfl) ?_
        refine lv_iconst (v := (-1 : Int32)) hx hb dX10_send_78 (by decide) ?_
        refine pt_iast (f := (ar 46)) hx hb hK hP hD hS 22 0 rfl rfl h.1 dX10_send_79 wXA_46 (fun H locs hP hD hS => ?_)
        replace h := h.2
        refine lv_aload_n hx hb dX10_send_80 rfl (lv_at hl 0 rfl) ?_
        refine lv_iload_n hx hb dX10_send_81 rfl (lv_at hl 1 rfl) ?_
        refine lv_iconst (v := (1 : Int32)) hx hb dX10_send_82 (by decide) ?_
        refine lv_iadd hx hb dX10_send_83 ?_
        refine lv_iload_n hx hb dX10_send_84 rfl (lv_at hl 2 rfl) ?_
        refine clz_v F (vx_runV (As := [.int (v1 + (1 : Int32)), .int v2]) (rest := []) ⟨hx, hb, hml, hown, hts⟩ (hrec0 h _) (cwV 2 hts (lw_V q1002 q1004 qs31 q117 q1005) rfl rfl rfl (by decide +kernel) ⟨hRf, by have hh := hRl; show 8 + (_ + 11) + (5082 + d * 23) ≤ _; omega⟩) ⟨ct_blind, va_recv hK (fr_outP (xs := [(oc, .inr (7, [.int cn, .ref o, .int th, .ref ow, .int fw, .ref o])), (ow, .inl (gI 0, 8, .inl wh))]) hP) (ci := 7) (q0 := 0) rfl rfl, ct_at F hS hP hD⟩ rfl rfl hl.1 rfl (lv_room (Nat.le_of_ble_eq_true rfl)) dX10_send_85 ⟨hC1, hS7⟩) hD hS ?_
        rintro ⟨fd1, ar2, fw3, wh4⟩ H locs h hP hD hS
        refine lv_iconst (v := (0 : Int32)) hx hb dX10_send_88 (by decide) ?_
        refine lv_istore_n (lv' := [(3, .int (0 : Int32)), (0, .ref oc), (1, .int v1), (2, .int v2)]) hx hb dX10_send_89 rfl hl (by decide) rfl (fun ls hl => ?_)
        obtain ⟨k90, h⟩ := h
        refine lp_C_send_L1 F hRf hRl hC hSl hC1 hS7 hlt hrec0 ?hk156 k90 _ _ _ _ _ h _ _ _ hP hD hS (lv_sub hl [1, 2, 3, 0] rfl)
        case hk156 =>
          intro fd_13 ar_14 fw_15 wh_16 h H locs ls hP hD hS hl
          refine lv_aload_n hx hb dX10_send_156 rfl (lv_at hl 0 rfl) ?_
          refine va_get hx hb hts in_X10 hown hK (fr_outP (xs := [(oc, .inr (7, [.int cn, .ref o, .int th, .ref ow, .int fw_15, .ref o])), (ow, .inl (gI 0, 8, .inl wh_16))]) hP) 0 rfl rfl 5 (Nat.le_of_ble_eq_true rfl) (hts _ q981) (fun _ h => h) (v := .ref o) rfl dX10_send_157 ?_
          refine va_getN hx hb hts in_X1 hown hK hP 0 rfl rfl 1 (Nat.le_of_ble_eq_true rfl) (va_Nw.use rfl (hE.1 _ q184 rfl)) (fun _ h => h) (v := .ref (ax 1)) rfl dX10_send_160 ?_
          refine va_get hx hb hts in_X2 hown hK hP 19 rfl rfl 2 (Nat.le_of_ble_eq_true rfl) (hts _ q140) (fun _ h => h) (v := .ref (ax 46)) rfl dX10_send_163 ?_
          refine lv_iload_n hx hb dX10_send_166 rfl (lv_at hl 1 rfl) ?_
          refine lv_iconst (v := (-1 : Int32)) hx hb dX10_send_167 (by decide) ?_
          refine pt_iast (f := (ar_14 46)) hx hb hK hP hD hS 22 0 rfl rfl h.1 dX10_send_168 wXA_46 (fun H locs hP hD hS => ?_)
          replace h := h.2
          exact vx_ret (rt_v F dX10_send_169 (fd_13, (va_up ar_14 46 (upd (ar_14 46) v1.toNatClampNeg (-1 : Int32))), fw_15, wh_16) h hP hD hS (Nat.le_refl _) (Nat.le_refl _))
      · replace h := h.2 c21
        refine lv_aload_n hx hb dX10_send_20 rfl (lv_at hl 0 rfl) ?_
        refine lv_aload_n hx hb dX10_send_21 rfl (lv_at hl 0 rfl) ?_
        refine va_get hx hb hts in_X10 hown hK (fr_outP (xs := [(oc, .inr (7, [.int cn, .ref o, .int th, .ref ow, .int fw, .ref o])), (ow, .inl (gI 0, 8, .inl wh))]) hP) 0 rfl rfl 5 (Nat.le_of_ble_eq_true rfl) (hts _ q981) (fun _ h => h) (v := .ref o) rfl dX10_send_22 ?_
        refine va_getN hx hb hts in_X1 hown hK hP 0 rfl rfl 1 (Nat.le_of_ble_eq_true rfl) (va_Nw.use rfl (hE.1 _ q184 rfl)) (fun _ h => h) (v := .ref (ax 1)) rfl dX10_send_25 ?_
        refine clz_i F (vx_runV (As := [.ref (ax 1)]) (rest := []) ⟨hx, hb, hml, hown, hts⟩ (cz_C_margin_i1 hlt h _) (cwV 1 hts (lw_V q1006 q1007 q1008 q117 q1009) rfl rfl rfl (by decide +kernel) ⟨Nat.le_trans (Nat.le_of_ble_eq_true rfl) (Nat.le_trans (Nat.le_add_right 214 _) hRf), Nat.le_trans (Nat.le_of_ble_eq_true rfl) (Nat.le_trans (Nat.le_add_right 5082 _) hRl)⟩) ⟨ct_blind, va_recv hK (fr_outP (xs := [(oc, .inr (7, [.int cn, .ref o, .int th, .ref ow, .int fw, .ref o])), (ow, .inl (gI 0, 8, .inl wh))]) hP) (ci := 7) (q0 := 0) rfl rfl, ct_at F hS hP hD⟩ rfl rfl hl.1 rfl (lv_room (Nat.le_of_ble_eq_true rfl)) dX10_send_28 ⟨hC1, hS7⟩) hD hS ?_
        rintro x17 ⟨fd18, ar19⟩ H locs h hP hD hS
        refine lv_if_ge (tgt := 35) hx hb dX10_send_31 (by decide) (fun c20 => ?_) (fun c20 => ?_)
        · replace h := h.1 c20
          refine lv_aload_n hx hb dX10_send_35 rfl (lv_at hl 0 rfl) ?_
          refine lv_iload_n hx hb dX10_send_36 rfl (lv_at hl 2 rfl) ?_
          replace hP := fr_outP (xs := [(oc, .inr (7, [.int cn, .ref o, .int th, .ref ow, .int fw, .ref o])), (ow, .inl (gI 0, 8, .inl wh))]) hP
          replace hD := fr_outD (xs := [(oc, .inr (7, [.int cn, .ref o, .int th, .ref ow, .int fw, .ref o])), (ow, .inl (gI 0, 8, .inl wh))]) hD
          refine va_put2 (v := .int v2) hx hb hts in_X10 tyX10 tyX10_ok (by decide +kernel) hown hK hP hD hS 0 rfl rfl (k := 4) (Nat.le_of_ble_eq_true rfl) (hts _ q980) (fun _ h => h) rfl (ty := .int) (by decide +kernel) rfl rfl (Nat.le_of_ble_eq_true rfl) dX10_send_37 (fun H locs hP hD hS => ?_)
          replace hP := fr_inP (xs := [(oc, .inr (7, [.int cn, .ref o, .int th, .ref ow, .int v2, .ref o])), (ow, .inl (gI 0, 8, .inl wh))]) hP
          replace hD := fr_inD (xs := [(oc, .inr (7, [.int cn, .ref o, .int th, .ref ow, .int v2, .ref o])), (ow, .inl (gI 0, 8, .inl wh))]) hD
          refine lv_aload_n hx hb dX10_send_40 rfl (lv_at hl 0 rfl) ?_
          refine va_get hx hb hts in_X10 hown hK (fr_outP (xs := [(oc, .inr (7, [.int cn, .ref o, .int th, .ref ow, .int v2, .ref o])), (ow, .inl (gI 0, 8, .inl wh))]) hP) 0 rfl rfl 5 (Nat.le_of_ble_eq_true rfl) (hts _ q981) (fun _ h => h) (v := .ref o) rfl dX10_send_41 ?_
          refine va_getN hx hb hts in_X1 hown hK hP 0 rfl rfl 1 (Nat.le_of_ble_eq_true rfl) (va_Nw.use rfl (hE.1 _ q184 rfl)) (fun _ h => h) (v := .ref (ax 1)) rfl dX10_send_44 ?_
          refine va_get hx hb hts in_X2 hown hK hP 19 rfl rfl 2 (Nat.le_of_ble_eq_true rfl) (hts _ q140) (fun _ h => h) (v := .ref (ax 46)) rfl dX10_send_47 ?_
          refine lv_iconst (v := (0 : Int32)) hx hb dX10_send_50 (by decide) ?_
          refine lv_aload_n hx hb dX10_send_51 rfl (lv_at hl 0 rfl) ?_
          refine va_get hx hb hts in_X10 hown hK (fr_outP (xs := [(oc, .inr (7, [.int cn, .ref o, .int th, .ref ow, .int v2, .ref o])), (ow, .inl (gI 0, 8, .inl wh))]) hP) 0 rfl rfl 3 (Nat.le_of_ble_eq_true rfl) (hts _ q978) (fun _ h => h) (v := .ref ow) rfl dX10_send_52 ?_
          refine lv_iconst (v := (0 : Int32)) hx hb dX10_send_55 (by decide) ?_
          refine lv_aload_n hx hb dX10_send_56 rfl (lv_at hl 0 rfl) ?_
          refine va_get hx hb hts in_X10 hown hK (fr_outP (xs := [(oc, .inr (7, [.int cn, .ref o, .int th, .ref ow, .int v2, .ref o])), (ow, .inl (gI 0, 8, .inl wh))]) hP) 0 rfl rfl 5 (Nat.le_of_ble_eq_true rfl) (hts _ q981) (fun _ h => h) (v := .ref o) rfl dX10_send_57 ?_
          refine va_getN hx hb hts in_X1 hown hK hP 0 rfl rfl 10 (Nat.le_of_ble_eq_true rfl) (va_Nw.use rfl (hE.1 _ q198 rfl)) (fun _ h => h) (v := .int (fd18 10)) rfl dX10_send_60 ?_
          replace hP := fr_outP (xs := [(oc, .inr (7, [.int cn, .ref o, .int th, .ref ow, .int v2, .ref o])), (ow, .inl (gI 0, 8, .inl wh))]) hP
          replace hD := fr_outD (xs := [(oc, .inr (7, [.int cn, .ref o, .int th, .ref ow, .int v2, .ref o])), (ow, .inl (gI 0, 8, .inl wh))]) hD
          refine pt_copyi hx hb (hml.trans hl.1.symm) hown (hts _ q1020) (hts _ q468) (hts _ q467) (hts _ q104) hK hP hD hS 24 1 0 0 (f := (ar19 46)) (g := wh) (ty := .int) rfl rfl rfl rfl rfl h.1 h.2.1 h.2.2.1 h.2.2.2.1 h.2.2.2.2.1 (fun _ _ => rfl) (Nat.le_trans (Nat.le_of_ble_eq_true rfl) (Nat.le_trans (Nat.le_add_right 214 _) hRf)) (Nat.le_trans (by decide +kernel) (Nat.le_trans (Nat.le_add_right 5082 _) hRl)) dX10_send_63 rfl (fun H locs hP hD hS => ?_)
          replace h := h.2.2.2.2.2
          replace hP := fr_inP (xs := [(oc, .inr (7, [.int cn, .ref o, .int th, .ref ow, .int v2, .ref o])), (ow, .inl (gI 0, 8, .inl (va_cpy (ar19 46) wh (0 : Int32).toNatClampNeg (0 : Int32).toNatClampNeg (fd18 10).toNatClampNeg)))]) hP
          replace hD := fr_inD (xs := [(oc, .inr (7, [.int cn, .ref o, .int th, .ref ow, .int v2, .ref o])), (ow, .inl (gI 0, 8, .inl (va_cpy (ar19 46) wh (0 : Int32).toNatClampNeg (0 : Int32).toNatClampNeg (fd18 10).toNatClampNeg)))]) hD
          exact vx_ret (rt_v F dX10_send_66 (fd18, ar19, v2, (va_cpy (ar19 46) wh (0 : Int32).toNatClampNeg (0 : Int32).toNatClampNeg (fd18 10).toNatClampNeg)) h hP hD hS (Nat.le_refl _) (Nat.le_refl _))
        · replace h := h.2 c20
          exact vx_ret (rt_v F dX10_send_34 (fd18, ar19, fw, wh) h hP hD hS (Nat.le_refl _) (Nat.le_refl _))
    · replace h := h.2 c22
      exact vx_ret (rt_v F dX10_send_8 (fd, ar, fw, wh) h hP hD hS (Nat.le_refl _) (Nat.le_refl _))
theorem cz_C_send {l : Launch} {V : evT} {D : va_G} {gI : Nat → ClassId} {o : Nat} {ax : Nat → Nat} {tl : va_W} {oc ow : Nat} (hlt : l.stackTraces = false) : ∀ {v1 : Int32} {v2 : Int32} {fd : Nat → Int32} {ar : Nat → Nat → Int32} {lw : Nat → Int64} {hh : HT} {rn : Option (Nat × Nat)} {cn : Int32} {th : Int32} {fw : Int32} {wh : Nat → Int32} {Q : (Nat → Int32) → (Nat → Nat → Int32) → (Int32) → (Nat → Int32) → Prop}, wp_C_send 10 v1 v2 fd ar lw hh rn cn th fw wh Q → cz_v l V D (tyL gI) yX10_send cX10_send 4 { frames := 224, cells := 1, slots := 7, locals := 5312 } [.ref oc, .int v1, .int v2] (wX gI o ax rn ([(oc, .inr (7, [.int cn, .ref o, .int th, .ref ow, .int fw, .ref o])), (ow, .inl (gI 0, 8, .inl wh))] ++ tl) fd ar lw hh) (fun u : (Nat → Int32) × (Nat → Nat → Int32) × (Int32) × (Nat → Int32) => (wX gI o ax rn ([(oc, .inr (7, [.int cn, .ref o, .int th, .ref ow, .int u.2.2.1, .ref o])), (ow, .inl (gI 0, 8, .inl u.2.2.2))] ++ tl) u.1 u.2.1 lw hh)) (fun (u : (Nat → Int32) × (Nat → Nat → Int32) × (Int32) × (Nat → Int32)) => Q u.1 u.2.1 u.2.2.1 u.2.2.2) := fun h => (ctg_C_send hlt 10) h
set_option maxHeartbeats 4000000 in
theorem cz_C_best {l : Launch} {V : evT} {D : va_G} {gI : Nat → ClassId} {o : Nat} {ax : Nat → Nat} {tl : va_W} {oc ow : Nat} (hlt : l.stackTraces = false) {fd : Nat → Int32} {ar : Nat → Nat → Int32} {lw : Nat → Int64} {hh : HT} {rn : Option (Nat × Nat)} {cn : Int32} {th : Int32} {fw : Int32} {wh : Nat → Int32} {Q : Int32 → (Nat → Int32) → (Nat → Nat → Int32) → (Int32) → (Nat → Int32) → Prop} (h : wp_C_best fd ar lw hh rn cn th fw wh Q) : cz_i l V D (tyL gI) yX10_best cX10_best 1 .int { frames := 225, cells := 1, slots := 7, locals := 5335 } [.ref oc] (wX gI o ax rn ([(oc, .inr (7, [.int cn, .ref o, .int th, .ref ow, .int fw, .ref o])), (ow, .inl (gI 0, 8, .inl wh))] ++ tl) fd ar lw hh) (fun u : (Nat → Int32) × (Nat → Nat → Int32) × (Int32) × (Nat → Int32) => (wX gI o ax rn ([(oc, .inr (7, [.int cn, .ref o, .int th, .ref ow, .int u.2.2.1, .ref o])), (ow, .inl (gI 0, 8, .inl u.2.2.2))] ++ tl) u.1 u.2.1 lw hh)) (fun (x : Int32) (u : (Nat → Int32) × (Nat → Nat → Int32) × (Int32) × (Nat → Int32)) => Q x u.1 u.2.1 u.2.2.1 u.2.2.2) := by
  refine cz_ofi RX10 rfl (by decide +kernel) (Nat.le_of_ble_eq_true rfl) ?_
  intro p e s m args below meth c A F hP hD ls hl
  obtain ⟨⟨hx, hb, hml, hown, hts⟩, hr, hlocks, hA, hK, hE⟩ := id F
  have hS : va_S A s.heap s.heap [] := va_S.rf
  have hl : lv_has ls 1 [(0, .ref oc)] := hl
  have hRf : 225 ≤ ({ frames := 225, cells := 1, slots := 7, locals := 5335 } : Room).frames := Nat.le_refl _
  have hC1 : 1 ≤ ({ frames := 225, cells := 1, slots := 7, locals := 5335 } : Room).cells := Nat.le_refl _
  have hS7 : 7 ≤ ({ frames := 225, cells := 1, slots := 7, locals := 5335 } : Room).slots := Nat.le_refl _
  have hRl : 5335 ≤ ({ frames := 225, cells := 1, slots := 7, locals := 5335 } : Room).locals := Nat.le_refl _
  have hC : 0 ≤ ({ frames := 225, cells := 1, slots := 7, locals := 5335 } : Room).cells := Nat.zero_le _
  have hSl : 0 ≤ ({ frames := 225, cells := 1, slots := 7, locals := 5335 } : Room).slots := Nat.zero_le _
  unfold wp_C_best at h
  refine lv_aload_n hx hb dX10_best_0 rfl (lv_at hl 0 rfl) ?_
  refine va_get hx hb hts in_X10 hown hK (fr_outP (xs := [(oc, .inr (7, [.int cn, .ref o, .int th, .ref ow, .int fw, .ref o])), (ow, .inl (gI 0, 8, .inl wh))]) hP) 0 rfl rfl 5 (Nat.le_of_ble_eq_true rfl) (hts _ q981) (fun _ h => h) (v := .ref o) rfl dX10_best_1 ?_
  refine va_getN hx hb hts in_X1 hown hK hP 0 rfl rfl 1 (Nat.le_of_ble_eq_true rfl) (va_Nw.use rfl (hE.1 _ q184 rfl)) (fun _ h => h) (v := .ref (ax 1)) rfl dX10_best_4 ?_
  refine lv_aload_n hx hb dX10_best_7 rfl (lv_at hl 0 rfl) ?_
  refine va_get hx hb hts in_X10 hown hK (fr_outP (xs := [(oc, .inr (7, [.int cn, .ref o, .int th, .ref ow, .int fw, .ref o])), (ow, .inl (gI 0, 8, .inl wh))]) hP) 0 rfl rfl 5 (Nat.le_of_ble_eq_true rfl) (hts _ q981) (fun _ h => h) (v := .ref o) rfl dX10_best_8 ?_
  refine va_getN hx hb hts in_X1 hown hK hP 0 rfl rfl 0 (Nat.le_of_ble_eq_true rfl) (va_Nw.use rfl (hE.1 _ q181 rfl)) (fun _ h => h) (v := .ref (ax 0)) rfl dX10_best_11 ?_
  refine cl_vL F (va_runV (As := [.ref (ax 0)]) (rest := []) ⟨hx, hb, hml, hown, hts⟩ (ct_B_be (o := (ax 1)) (ab := axb ax 1) (o2 := (ax 0)) (ab2 := axb ax 0) h _) (cwV 1 hts (lw_V q1001 q660 q661 q95 q662) rfl rfl rfl (by decide +kernel) ⟨Nat.le_trans (Nat.le_of_ble_eq_true rfl) hRf, Nat.le_trans (Nat.le_of_ble_eq_true rfl) hRl⟩) ⟨ct_blind, va_recv hK hP (ci := 1) (q0 := 19) rfl rfl, ct_at F hS (putL_P hP (ps := [19, 20, 21, 22, 23, 14, 15, 16, 17, 18]) rfl) (hD.sub ([19, 20, 21, 22, 23, 14, 15, 16, 17, 18]) (by decide) rfl)⟩ rfl rfl hl.1 rfl (lv_room (Nat.le_of_ble_eq_true rfl)) dX10_best_14 ⟨hC, hSl⟩) rfl rfl hP hD hS (ps := [19, 20, 21, 22, 23, 14, 15, 16, 17, 18]) rfl (fun _ => rfl) (fun _ => wXPP_1_0) ?_
  rintro ⟨wl1, dp2, aa3, md4, mo5, sp6, ti7⟩ H locs h hP hD hS
  refine lv_aload_n hx hb dX10_best_17 rfl (lv_at hl 0 rfl) ?_
  refine lv_iconst (v := (0 : Int32)) hx hb dX10_best_18 (by decide) ?_
  refine lv_iconst (v := (0 : Int32)) hx hb dX10_best_19 (by decide) ?_
  refine clz_v F (vx_runV (As := [.int (0 : Int32), .int (0 : Int32)]) (rest := []) ⟨hx, hb, hml, hown, hts⟩ (cz_C_send hlt h _) (cwV 2 hts (lw_V q1002 q1004 qs31 q117 q1005) rfl rfl rfl (by decide +kernel) ⟨Nat.le_trans (Nat.le_of_ble_eq_true rfl) hRf, Nat.le_trans (Nat.le_of_ble_eq_true rfl) hRl⟩) ⟨ct_blind, va_recv hK (fr_outP (xs := [(oc, .inr (7, [.int cn, .ref o, .int th, .ref ow, .int fw, .ref o])), (ow, .inl (gI 0, 8, .inl wh))]) hP) (ci := 7) (q0 := 0) rfl rfl, ct_at F hS hP hD⟩ rfl rfl hl.1 rfl (lv_room (Nat.le_of_ble_eq_true rfl)) dX10_best_20 ⟨hC1, hS7⟩) hD hS ?_
  rintro ⟨fd8, ar9, fw10, wh11⟩ H locs h hP hD hS
  refine lv_aload_n hx hb dX10_best_23 rfl (lv_at hl 0 rfl) ?_
  refine va_get hx hb hts in_X10 hown hK (fr_outP (xs := [(oc, .inr (7, [.int cn, .ref o, .int th, .ref ow, .int fw10, .ref o])), (ow, .inl (gI 0, 8, .inl wh11))]) hP) 0 rfl rfl 4 (Nat.le_of_ble_eq_true rfl) (hts _ q980) (fun _ h => h) (v := .int fw10) rfl dX10_best_24 ?_
  refine lv_ldc (v := (100000 : Int32)) hx hb hown (hts _ q976) dX10_best_27 ?_
  refine lv_icmp_ne (tgt := 37) hx hb dX10_best_29 (by decide) (fun c12 => ?_) (fun c12 => ?_)
  · replace h := h.1 c12
    refine lv_aload_n hx hb dX10_best_37 rfl (lv_at hl 0 rfl) ?_
    refine va_get hx hb hts in_X10 hown hK (fr_outP (xs := [(oc, .inr (7, [.int cn, .ref o, .int th, .ref ow, .int fw10, .ref o])), (ow, .inl (gI 0, 8, .inl wh11))]) hP) 0 rfl rfl 4 (Nat.le_of_ble_eq_true rfl) (hts _ q980) (fun _ h => h) (v := .int fw10) rfl dX10_best_38 ?_
    exact vx_ret (rt_i F dX10_best_41 rfl (fd8, ar9, fw10, wh11) h hP hD hS (Nat.le_refl _) (Nat.le_refl _))
  · replace h := h.2 c12
    refine lv_bipush (v := (-2 : Int32)) hx hb dX10_best_32 (by decide) ?_
    refine lv_goto (tgt := 41) hx hb dX10_best_34 (by decide) ?_
    exact vx_ret (rt_i F dX10_best_41 rfl (fd8, ar9, fw10, wh11) h hP hD hS (Nat.le_refl _) (Nat.le_refl _))
set_option maxHeartbeats 4000000 in
theorem lp_P_best_L1 {p : Program} {l : Launch} {e : Env} {R : Room} {s : State} {m : MethodId} {args : Array Value} {below : List Frame} {meth : Method} {c : Code} {A : Nat → Prop} {Qf : State → Prop} {V : evT} {D : va_G} {gI : Nat → ClassId} {o : Nat} {ax : Nat → Nat} {tl : va_W} {oc : Nat} {lw : Nat → Int64} {hh : HT} {rn : Option (Nat × Nat)} {cn : Int32} {kd : Int32} {K84 : (Int32) → (Nat → Int32) → (Nat → Nat → Int32) → (Int32) → Prop} (F : ct_F p m c meth cX11_best 4 s args RX11 (some .int) A V D vwCl (tyL gI)) (hRf : 213 ≤ R.frames) (hRl : 5061 ≤ R.locals) (hC : 0 ≤ R.cells) (hSl : 0 ≤ R.slots) (hC1 : 1 ≤ R.cells) (hS7 : 7 ≤ R.slots) (hlt : l.stackTraces = false)
    (hK84 : ∀ (v1 : Int32) (fd : Nat → Int32) (ar : Nat → Nat → Int32) (mst : Int32), K84 v1 fd ar mst → ∀ (H : Heap) (locs : List Loc) (ls : Array Slot), va_P D vwCl (wX gI o ax rn ([(oc, .inr (8, [.int cn, .ref o, .int kd, .int mst, .ref o]))] ++ tl) fd ar lw hh) H → va_D A (wX gI o ax rn ([(oc, .inr (8, [.int cn, .ref o, .int kd, .int mst, .ref o]))] ++ tl) fd ar lw hh) → va_S A s.heap H locs → lv_has ls 4 [(1, .int v1)] → W p l e R s m args below meth c H locs 0 0 Qf (F0 m 84 ls [])) :
    ∀ (n : Nat) (v1 : Int32) (v2 : Int32) (fd : Nat → Int32) (ar : Nat → Nat → Int32) (mst : Int32), wp_P_best_L1 lw hh rn cn kd K84 n v1 v2 fd ar mst → ∀ (H : Heap) (locs : List Loc) (ls : Array Slot), va_P D vwCl (wX gI o ax rn ([(oc, .inr (8, [.int cn, .ref o, .int kd, .int mst, .ref o]))] ++ tl) fd ar lw hh) H → va_D A (wX gI o ax rn ([(oc, .inr (8, [.int cn, .ref o, .int kd, .int mst, .ref o]))] ++ tl) fd ar lw hh) → va_S A s.heap H locs → lv_has ls 4 [(0, .ref oc), (1, .int v1), (2, .int v2)] → W p l e R s m args below meth c H locs 0 0 Qf (F0 m 21 ls []) := by
  obtain ⟨⟨hx, hb, hml, hown, hts⟩, hr, hlocks, hA, hK, hE⟩ := id F
  intro n
  induction n with
  | zero => intro v1 v2 fd ar mst h; exact h.elim
  | succ n ih =>
    intro v1 v2 fd ar mst h H locs ls hP hD hS hl
    unfold wp_P_best_L1 at h
    refine lv_iload_n hx hb dX11_best_21 rfl (lv_at hl 2 rfl) ?_
    refine lv_aload_n hx hb dX11_best_22 rfl (lv_at hl 0 rfl) ?_
    refine va_get hx hb hts in_X11 hown hK (fr_outP (xs := [(oc, .inr (8, [.int cn, .ref o, .int kd, .int mst, .ref o]))]) hP) 0 rfl rfl 4 (Nat.le_of_ble_eq_true rfl) (hts _ q1036) (fun _ h => h) (v := .ref o) rfl dX11_best_23 ?_
    refine va_getN hx hb hts in_X1 hown hK hP 0 rfl rfl 9 (Nat.le_of_ble_eq_true rfl) (va_Nw.use rfl (hE.1 _ q193 rfl)) (fun _ h => h) (v := .int (fd 9)) rfl dX11_best_26 ?_
    refine lv_icmp_ge (tgt := 84) hx hb dX11_best_29 (by decide) (fun c12 => ?_) (fun c12 => ?_)
    · replace h := h.1 c12
      exact hK84 _ _ _ _ h _ _ _ hP hD hS (lv_sub hl [1] rfl)
    · replace h := h.2 c12
      refine lv_aload_n hx hb dX11_best_32 rfl (lv_at hl 0 rfl) ?_
      refine va_get hx hb hts in_X11 hown hK (fr_outP (xs := [(oc, .inr (8, [.int cn, .ref o, .int kd, .int mst, .ref o]))]) hP) 0 rfl rfl 4 (Nat.le_of_ble_eq_true rfl) (hts _ q1036) (fun _ h => h) (v := .ref o) rfl dX11_best_33 ?_
      refine va_getN hx hb hts in_X1 hown hK hP 0 rfl rfl 1 (Nat.le_of_ble_eq_true rfl) (va_Nw.use rfl (hE.1 _ q182 rfl)) (fun _ h => h) (v := .ref (ax 1)) rfl dX11_best_36 ?_
      refine va_get hx hb hts in_X2 hown hK hP 19 rfl rfl 2 (Nat.le_of_ble_eq_true rfl) (hts _ q139) (fun _ h => h) (v := .ref (ax 46)) rfl dX11_best_39 ?_
      refine lv_aload_n hx hb dX11_best_42 rfl (lv_at hl 0 rfl) ?_
      refine va_get hx hb hts in_X11 hown hK (fr_outP (xs := [(oc, .inr (8, [.int cn, .ref o, .int kd, .int mst, .ref o]))]) hP) 0 rfl rfl 2 (Nat.le_of_ble_eq_true rfl) (hts _ q1033) (fun _ h => h) (v := .int kd) rfl dX11_best_43 ?_
      refine lv_iload_n hx hb dX11_best_46 rfl (lv_at hl 2 rfl) ?_
      refine pt_iast (f := (ar 46)) hx hb hK hP hD hS 22 0 rfl rfl h.1 dX11_best_47 wXA_46 (fun H locs hP hD hS => ?_)
      replace h := h.2
      refine lv_aload_n hx hb dX11_best_48 rfl (lv_at hl 0 rfl) ?_
      refine lv_aload_n hx hb dX11_best_49 rfl (lv_at hl 0 rfl) ?_
      refine va_get hx hb hts in_X11 hown hK (fr_outP (xs := [(oc, .inr (8, [.int cn, .ref o, .int kd, .int mst, .ref o]))]) hP) 0 rfl rfl 4 (Nat.le_of_ble_eq_true rfl) (hts _ q1036) (fun _ h => h) (v := .ref o) rfl dX11_best_50 ?_
      refine va_getN hx hb hts in_X1 hown hK hP 0 rfl rfl 1 (Nat.le_of_ble_eq_true rfl) (va_Nw.use rfl (hE.1 _ q182 rfl)) (fun _ h => h) (v := .ref (ax 1)) rfl dX11_best_53 ?_
      refine clz_i F (vx_runU (As := [.ref (ax 1)]) (rest := []) ⟨hx, hb, hml, hown, hts⟩ (cz_PS_margin_i1 hlt h _) (va_cwU (owner := RX9) 1 hts (lw_U q1051 q1052 q1054 q1011 q116 q1012) rfl rfl rfl rfl (by decide +kernel) ⟨Nat.le_trans (Nat.le_of_ble_eq_true rfl) hRf, Nat.le_trans (Nat.le_of_ble_eq_true rfl) hRl⟩) ⟨ct_blind, va_recv hK (fr_outP (xs := [(oc, .inr (8, [.int cn, .ref o, .int kd, .int mst, .ref o]))]) hP) (ci := 8) (q0 := 0) rfl rfl, ct_at F hS hP hD⟩ rfl rfl hl.1 rfl (lv_room (Nat.le_of_ble_eq_true rfl)) dX11_best_56 ⟨hC1, hS7⟩) hD hS ?_
      rintro x8 ⟨fd9, ar10⟩ H locs h hP hD hS
      refine lv_istore_n (lv' := [(3, .int x8), (0, .ref oc), (1, .int v1), (2, .int v2)]) hx hb dX11_best_59 rfl hl (by decide) rfl (fun ls hl => ?_)
      refine lv_iload_n hx hb dX11_best_60 rfl (lv_at hl 0 rfl) ?_
      refine lv_aload_n hx hb dX11_best_61 rfl (lv_at hl 1 rfl) ?_
      refine va_get hx hb hts in_X11 hown hK (fr_outP (xs := [(oc, .inr (8, [.int cn, .ref o, .int kd, .int mst, .ref o]))]) hP) 0 rfl rfl 3 (Nat.le_of_ble_eq_true rfl) (hts _ q1034) (fun _ h => h) (v := .int mst) rfl dX11_best_62 ?_
      refine lv_icmp_gt (tgt := 71) hx hb dX11_best_65 (by decide) (fun c11 => ?_) (fun c11 => ?_)
      · replace h := h.1 c11
        refine lv_iload_n hx hb dX11_best_71 rfl (lv_at hl 3 rfl) ?_
        refine lv_istore_n (lv' := [(1, .int v2), (3, .int x8), (0, .ref oc), (2, .int v2)]) hx hb dX11_best_72 rfl hl (by decide) rfl (fun ls hl => ?_)
        refine lv_aload_n hx hb dX11_best_73 rfl (lv_at hl 2 rfl) ?_
        refine lv_iload_n hx hb dX11_best_74 rfl (lv_at hl 1 rfl) ?_
        replace hP := fr_outP (xs := [(oc, .inr (8, [.int cn, .ref o, .int kd, .int mst, .ref o]))]) hP
        replace hD := fr_outD (xs := [(oc, .inr (8, [.int cn, .ref o, .int kd, .int mst, .ref o]))]) hD
        refine va_put2 (v := .int x8) hx hb hts in_X11 tyX11 tyX11_ok (by decide +kernel) hown hK hP hD hS 0 rfl rfl (k := 3) (Nat.le_of_ble_eq_true rfl) (hts _ q1034) (fun _ h => h) rfl (ty := .int) (by decide +kernel) rfl rfl (Nat.le_of_ble_eq_true rfl) dX11_best_75 (fun H locs hP hD hS => ?_)
        replace hP := fr_inP (xs := [(oc, .inr (8, [.int cn, .ref o, .int kd, .int x8, .ref o]))]) hP
        replace hD := fr_inD (xs := [(oc, .inr (8, [.int cn, .ref o, .int kd, .int x8, .ref o]))]) hD
        refine lv_iinc (v := (v2 + (1 : Int32))) (lv' := [(2, .int (v2 + (1 : Int32))), (1, .int v2), (3, .int x8), (0, .ref oc)]) hx hb dX11_best_78 hl (k := 3) rfl rfl (by decide) rfl (fun ls hl => ?_)
        refine lv_goto (tgt := 21) hx hb dX11_best_81 (by decide) ?_
        exact ih _ _ _ _ _ h _ _ _ hP hD hS (lv_sub hl [3, 1, 0] rfl)
      · replace h := h.2 c11
        refine lv_goto (tgt := 78) hx hb dX11_best_68 (by decide) ?_
        refine lv_iinc (v := (v2 + (1 : Int32))) (lv' := [(2, .int (v2 + (1 : Int32))), (3, .int x8), (0, .ref oc), (1, .int v1)]) hx hb dX11_best_78 hl (k := 3) rfl rfl (by decide) rfl (fun ls hl => ?_)
        refine lv_goto (tgt := 21) hx hb dX11_best_81 (by decide) ?_
        exact ih _ _ _ _ _ h _ _ _ hP hD hS (lv_sub hl [2, 3, 0] rfl)
set_option maxHeartbeats 4000000 in
theorem cz_P_best {l : Launch} {V : evT} {D : va_G} {gI : Nat → ClassId} {o : Nat} {ax : Nat → Nat} {tl : va_W} {oc : Nat} (hlt : l.stackTraces = false) {fd : Nat → Int32} {ar : Nat → Nat → Int32} {lw : Nat → Int64} {hh : HT} {rn : Option (Nat × Nat)} {cn : Int32} {kd : Int32} {mst : Int32} {Q : Int32 → (Nat → Int32) → (Nat → Nat → Int32) → (Int32) → Prop} (h : wp_P_best fd ar lw hh rn cn kd mst Q) : cz_i l V D (tyL gI) yX11_best cX11_best 4 .int { frames := 213, cells := 1, slots := 7, locals := 5061 } [.ref oc] (wX gI o ax rn ([(oc, .inr (8, [.int cn, .ref o, .int kd, .int mst, .ref o]))] ++ tl) fd ar lw hh) (fun u : (Nat → Int32) × (Nat → Nat → Int32) × (Int32) => (wX gI o ax rn ([(oc, .inr (8, [.int cn, .ref o, .int kd, .int u.2.2, .ref o]))] ++ tl) u.1 u.2.1 lw hh)) (fun (x : Int32) (u : (Nat → Int32) × (Nat → Nat → Int32) × (Int32)) => Q x u.1 u.2.1 u.2.2) := by
  refine cz_ofi RX11 rfl (by decide +kernel) (Nat.le_of_ble_eq_true rfl) ?_
  intro p e s m args below meth c A F hP hD ls hl
  obtain ⟨⟨hx, hb, hml, hown, hts⟩, hr, hlocks, hA, hK, hE⟩ := id F
  have hS : va_S A s.heap s.heap [] := va_S.rf
  have hl : lv_has ls 4 [(0, .ref oc)] := hl
  have hRf : 213 ≤ ({ frames := 213, cells := 1, slots := 7, locals := 5061 } : Room).frames := Nat.le_refl _
  have hC1 : 1 ≤ ({ frames := 213, cells := 1, slots := 7, locals := 5061 } : Room).cells := Nat.le_refl _
  have hS7 : 7 ≤ ({ frames := 213, cells := 1, slots := 7, locals := 5061 } : Room).slots := Nat.le_refl _
  have hRl : 5061 ≤ ({ frames := 213, cells := 1, slots := 7, locals := 5061 } : Room).locals := Nat.le_refl _
  have hC : 0 ≤ ({ frames := 213, cells := 1, slots := 7, locals := 5061 } : Room).cells := Nat.zero_le _
  have hSl : 0 ≤ ({ frames := 213, cells := 1, slots := 7, locals := 5061 } : Room).slots := Nat.zero_le _
  unfold wp_P_best at h
  refine lv_iconst (v := (-1 : Int32)) hx hb dX11_best_0 (by decide) ?_
  refine lv_istore_n (lv' := [(1, .int (-1 : Int32)), (0, .ref oc)]) hx hb dX11_best_1 rfl hl (by decide) rfl (fun ls hl => ?_)
  refine lv_aload_n hx hb dX11_best_2 rfl (lv_at hl 1 rfl) ?_
  refine va_get hx hb hts in_X11 hown hK (fr_outP (xs := [(oc, .inr (8, [.int cn, .ref o, .int kd, .int mst, .ref o]))]) hP) 0 rfl rfl 4 (Nat.le_of_ble_eq_true rfl) (hts _ q1036) (fun _ h => h) (v := .ref o) rfl dX11_best_3 ?_
  refine va_getN hx hb hts in_X1 hown hK hP 0 rfl rfl 1 (Nat.le_of_ble_eq_true rfl) (va_Nw.use rfl (hE.1 _ q182 rfl)) (fun _ h => h) (v := .ref (ax 1)) rfl dX11_best_6 ?_
  refine lv_aload_n hx hb dX11_best_9 rfl (lv_at hl 1 rfl) ?_
  refine va_get hx hb hts in_X11 hown hK (fr_outP (xs := [(oc, .inr (8, [.int cn, .ref o, .int kd, .int mst, .ref o]))]) hP) 0 rfl rfl 4 (Nat.le_of_ble_eq_true rfl) (hts _ q1036) (fun _ h => h) (v := .ref o) rfl dX11_best_10 ?_
  refine va_getN hx hb hts in_X1 hown hK hP 0 rfl rfl 0 (Nat.le_of_ble_eq_true rfl) (va_Nw.use rfl (hE.1 _ q179 rfl)) (fun _ h => h) (v := .ref (ax 0)) rfl dX11_best_13 ?_
  refine cl_vL F (va_runV (As := [.ref (ax 0)]) (rest := []) ⟨hx, hb, hml, hown, hts⟩ (ct_B_be (o := (ax 1)) (ab := axb ax 1) (o2 := (ax 0)) (ab2 := axb ax 0) h _) (cwV 1 hts (lw_V q1050 q660 q661 q95 q662) rfl rfl rfl (by decide +kernel) ⟨Nat.le_trans (Nat.le_of_ble_eq_true rfl) hRf, Nat.le_trans (Nat.le_of_ble_eq_true rfl) hRl⟩) ⟨ct_blind, va_recv hK hP (ci := 1) (q0 := 19) rfl rfl, ct_at F hS (putL_P hP (ps := [19, 20, 21, 22, 23, 14, 15, 16, 17, 18]) rfl) (hD.sub ([19, 20, 21, 22, 23, 14, 15, 16, 17, 18]) (by decide) rfl)⟩ rfl rfl hl.1 rfl (lv_room (Nat.le_of_ble_eq_true rfl)) dX11_best_16 ⟨hC, hSl⟩) rfl rfl hP hD hS (ps := [19, 20, 21, 22, 23, 14, 15, 16, 17, 18]) rfl (fun _ => rfl) (fun _ => wXPP_1_0) ?_
  rintro ⟨wl1, dp2, aa3, md4, mo5, sp6, ti7⟩ H locs h hP hD hS
  refine lv_iconst (v := (0 : Int32)) hx hb dX11_best_19 (by decide) ?_
  refine lv_istore_n (lv' := [(2, .int (0 : Int32)), (1, .int (-1 : Int32)), (0, .ref oc)]) hx hb dX11_best_20 rfl hl (by decide) rfl (fun ls hl => ?_)
  obtain ⟨k21, h⟩ := h
  refine lp_P_best_L1 F hRf hRl hC hSl hC1 hS7 hlt ?hk84 k21 _ _ _ _ _ h _ _ _ hP hD hS (lv_sub hl [2, 1, 0] rfl)
  case hk84 =>
    intro v1_13 fd_14 ar_15 mst_16 h H locs ls hP hD hS hl
    refine lv_iload_n hx hb dX11_best_84 rfl (lv_at hl 0 rfl) ?_
    exact vx_ret (rt_i F dX11_best_85 rfl (fd_14, ar_15, mst_16) h hP hD hS (Nat.le_refl _) (Nat.le_refl _))
