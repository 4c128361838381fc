/-! X1_rain -/
set_option maxRecDepth 100000
set_option maxHeartbeats 4000000 in
theorem lp_S_rain_L2 {p : Program} {l : Launch} {e : Env} {R : Room} {s : State} {m : MethodId} {args : Array Value} {below : List Frame} {meth : Method} {c : Code} {cells slots : Nat} {A : Nat → Prop} {Qf : State → Prop} {V : evT} {D : va_G} {gI : Nat → ClassId} {o : Nat} {ax : Nat → Nat} {tl : va_W} {v1 : Int32} {v2 : Int32} {v3 : Int32} {v5 : Int32} {fd : Nat → Int32} {ar : Nat → Nat → Int32} {lw : Nat → Int64} {hh : HT} {rn : Option (Nat × Nat)} {bw : Nat → Int64} {q4 : Nat} {K93 : (Int64) → Prop} (F : ct_F p m c meth cX1_rain 9 s args RX1 (some .int) A V D vwCl (tyL gI)) (hRf : 102 ≤ R.frames) (hRl : 2352 ≤ R.locals) (hC : cells ≤ R.cells) (hSl : slots ≤ R.slots) (hC1 : cells + 1 ≤ R.cells) (hS7 : slots + 7 ≤ R.slots) (hM : cells + 1 ≤ 2) (hMs : slots + 7 ≤ 20) (hlt : l.stackTraces = false)
    (hK93 : ∀ (v6 : Int64), K93 v6 → ∀ (H : Heap) (locs : List Loc) (ls : Array Slot), va_P D vwCl (wX gI o ax rn ([(q4, .inl (gI 1, (v2 + (1 : Int32)).toNatClampNeg, .inr (.inl bw)))] ++ tl) fd ar lw hh) H → va_D A (wX gI o ax rn ([(q4, .inl (gI 1, (v2 + (1 : Int32)).toNatClampNeg, .inr (.inl bw)))] ++ tl) fd ar lw hh) → va_S A s.heap H locs → lv_has ls 9 [(0, .ref o), (1, .int v1), (2, .int v2), (3, .int v3), (4, .ref q4), (5, .int v5), (6, .long v6)] → W p l e R s m args below meth c H locs cells slots Qf (F0 m 93 ls [])) :
    ∀ (n : Nat) (v6 : Int64) (v8 : Int32), wp_S_rain_L2 v1 v2 v3 v5 fd ar lw hh rn bw K93 n v6 v8 → ∀ (H : Heap) (locs : List Loc) (ls : Array Slot), va_P D vwCl (wX gI o ax rn ([(q4, .inl (gI 1, (v2 + (1 : Int32)).toNatClampNeg, .inr (.inl bw)))] ++ tl) fd ar lw hh) H → va_D A (wX gI o ax rn ([(q4, .inl (gI 1, (v2 + (1 : Int32)).toNatClampNeg, .inr (.inl bw)))] ++ tl) fd ar lw hh) → va_S A s.heap H locs → lv_has ls 9 [(0, .ref o), (1, .int v1), (2, .int v2), (3, .int v3), (4, .ref q4), (5, .int v5), (6, .long v6), (8, .int v8)] → W p l e R s m args below meth c H locs cells slots Qf (F0 m 65 ls []) := by
  obtain ⟨⟨hx, hb, hml, hown, hts⟩, hr, hlocks, hA, hK, hE⟩ := id F
  intro n
  induction n with
  | zero => intro v6 v8 h; exact h.elim
  | succ n ih =>
    intro v6 v8 h H locs ls hP hD hS hl
    unfold wp_S_rain_L2 at h
    refine lv_iload hx hb dX1_rain_65 (lv_at hl 7 rfl) ?_
    refine lv_iload_n hx hb dX1_rain_67 rfl (lv_at hl 2 rfl) ?_
    refine lv_icmp_ge (tgt := 93) hx hb dX1_rain_68 (by decide) (fun c6 => ?_) (fun c6 => ?_)
    · replace h := h.1 c6
      exact hK93 _ h _ _ _ hP hD hS (lv_sub hl [0, 1, 2, 3, 4, 5, 6] rfl)
    · replace h := h.2 c6
      refine lv_lload hx hb dX1_rain_71 (lv_at hl 6 rfl) ?_
      refine lv_aload hx hb dX1_rain_73 (lv_at hl 4 rfl) ?_
      refine lv_iload hx hb dX1_rain_75 (lv_at hl 7 rfl) ?_
      refine va_lald (f := bw) hx hb hK (fr_outP (xs := [(q4, .inl (gI 1, (v2 + (1 : Int32)).toNatClampNeg, .inr (.inl bw)))]) hP) 0 1 rfl rfl h.1 dX1_rain_77 ?_
      replace h := h.2
      refine lv_bipush (v := (10 : Int32)) hx hb dX1_rain_78 (by decide) ?_
      refine lv_iload_n hx hb dX1_rain_80 rfl (lv_at hl 3 rfl) ?_
      refine lv_isub hx hb dX1_rain_81 ?_
      refine lv_i2l (v := (((10 : Int32) - v3).toInt64)) hx hb dX1_rain_82 rfl ?_
      refine lv_lmul hx hb dX1_rain_83 ?_
      refine lv_ladd hx hb dX1_rain_84 ?_
      refine lv_topl (fun x5 ex5 => ?_)
      replace h := h x5 ex5
      refine lv_lstore (lv' := [(6, .long x5), (0, .ref o), (1, .int v1), (2, .int v2), (3, .int v3), (4, .ref q4), (5, .int v5), (8, .int v8)]) hx hb dX1_rain_85 hl (by decide) rfl (fun ls hl => ?_)
      refine lv_iinc (v := (v8 + (1 : Int32))) (lv' := [(8, .int (v8 + (1 : Int32))), (6, .long x5), (0, .ref o), (1, .int v1), (2, .int v2), (3, .int v3), (4, .ref q4), (5, .int v5)]) hx hb dX1_rain_87 hl (k := 7) rfl rfl (by decide) rfl (fun ls hl => ?_)
      refine lv_goto (tgt := 65) hx hb dX1_rain_90 (by decide) ?_
      exact ih _ _ h _ _ _ hP hD hS (lv_sub hl [2, 3, 4, 5, 6, 7, 1, 0] rfl)
set_option maxHeartbeats 4000000 in
theorem lp_S_rain_L3 {p : Program} {l : Launch} {e : Env} {R : Room} {s : State} {m : MethodId} {args : Array Value} {below : List Frame} {meth : Method} {c : Code} {cells slots : Nat} {A : Nat → Prop} {Qf : State → Prop} {V : evT} {D : va_G} {gI : Nat → ClassId} {o : Nat} {ax : Nat → Nat} {tl : va_W} {v1 : Int32} {v2 : Int32} {v3 : Int32} {v5 : Int32} {v6 : Int64} {fd : Nat → Int32} {ar : Nat → Nat → Int32} {lw : Nat → Int64} {hh : HT} {rn : Option (Nat × Nat)} {q4 : Nat} {K146 : (Nat → Int64) → Prop} (F : ct_F p m c meth cX1_rain 9 s args RX1 (some .int) A V D vwCl (tyL gI)) (hRf : 102 ≤ R.frames) (hRl : 2352 ≤ R.locals) (hC : cells ≤ R.cells) (hSl : slots ≤ R.slots) (hC1 : cells + 1 ≤ R.cells) (hS7 : slots + 7 ≤ R.slots) (hM : cells + 1 ≤ 2) (hMs : slots + 7 ≤ 20) (hlt : l.stackTraces = false)
    (hK146 : ∀ (bw : Nat → Int64), K146 bw → ∀ (H : Heap) (locs : List Loc) (ls : Array Slot), va_P D vwCl (wX gI o ax rn ([(q4, .inl (gI 1, (v2 + (1 : Int32)).toNatClampNeg, .inr (.inl bw)))] ++ tl) fd ar lw hh) H → va_D A (wX gI o ax rn ([(q4, .inl (gI 1, (v2 + (1 : Int32)).toNatClampNeg, .inr (.inl bw)))] ++ tl) fd ar lw hh) → va_S A s.heap H locs → lv_has ls 9 [(0, .ref o), (1, .int v1), (2, .int v2), (3, .int v3), (4, .ref q4), (5, .int v5), (6, .long v6)] → W p l e R s m args below meth c H locs cells slots Qf (F0 m 146 ls [])) :
    ∀ (n : Nat) (v8 : Int32) (bw : Nat → Int64), wp_S_rain_L3 v1 v2 v3 v5 v6 fd ar lw hh rn K146 n v8 bw → ∀ (H : Heap) (locs : List Loc) (ls : Array Slot), va_P D vwCl (wX gI o ax rn ([(q4, .inl (gI 1, (v2 + (1 : Int32)).toNatClampNeg, .inr (.inl bw)))] ++ tl) fd ar lw hh) H → va_D A (wX gI o ax rn ([(q4, .inl (gI 1, (v2 + (1 : Int32)).toNatClampNeg, .inr (.inl bw)))] ++ tl) fd ar lw hh) → va_S A s.heap H locs → lv_has ls 9 [(0, .ref o), (1, .int v1), (2, .int v2), (3, .int v3), (4, .ref q4), (5, .int v5), (6, .long v6), (8, .int v8)] → W p l e R s m args below meth c H locs cells slots Qf (F0 m 120 ls []) := by
  obtain ⟨⟨hx, hb, hml, hown, hts⟩, hr, hlocks, hA, hK, hE⟩ := id F
  intro n
  induction n with
  | zero => intro v8 bw h; exact h.elim
  | succ n ih =>
    intro v8 bw h H locs ls hP hD hS hl
    unfold wp_S_rain_L3 at h
    refine lv_iload hx hb dX1_rain_120 (lv_at hl 7 rfl) ?_
    refine lv_if_le (tgt := 146) hx hb dX1_rain_122 (by decide) (fun c8 => ?_) (fun c8 => ?_)
    · replace h := h.1 c8
      exact hK146 _ h _ _ _ hP hD hS (lv_sub hl [0, 1, 2, 3, 4, 5, 6] rfl)
    · replace h := h.2 c8
      refine lv_aload hx hb dX1_rain_125 (lv_at hl 4 rfl) ?_
      refine lv_iload hx hb dX1_rain_127 (lv_at hl 7 rfl) ?_
      refine lv_aload hx hb dX1_rain_129 (lv_at hl 4 rfl) ?_
      refine lv_iload hx hb dX1_rain_131 (lv_at hl 7 rfl) ?_
      refine lv_iconst (v := (1 : Int32)) hx hb dX1_rain_133 (by decide) ?_
      refine lv_isub hx hb dX1_rain_134 ?_
      refine va_lald (f := bw) hx hb hK (fr_outP (xs := [(q4, .inl (gI 1, (v2 + (1 : Int32)).toNatClampNeg, .inr (.inl bw)))]) hP) 0 1 rfl rfl h.1 dX1_rain_135 ?_
      replace h := h.2
      refine lv_iload_n hx hb dX1_rain_136 rfl (lv_at hl 3 rfl) ?_
      refine lv_i2l (v := (v3.toInt64)) hx hb dX1_rain_137 rfl ?_
      refine lv_lmul hx hb dX1_rain_138 ?_
      replace hP := fr_outP (xs := [(q4, .inl (gI 1, (v2 + (1 : Int32)).toNatClampNeg, .inr (.inl bw)))]) hP
      replace hD := fr_outD (xs := [(q4, .inl (gI 1, (v2 + (1 : Int32)).toNatClampNeg, .inr (.inl bw)))]) hD
      refine va_last (f := bw) hx hb hK hP hD hS 0 1 rfl rfl h.1 dX1_rain_139 (fun H locs hP hD hS => ?_)
      replace h := h.2
      replace hP := fr_inP (xs := [(q4, .inl (gI 1, (v2 + (1 : Int32)).toNatClampNeg, .inr (.inl (vp_updL bw v8.toNatClampNeg ((bw (v8 - (1 : Int32)).toNatClampNeg) * (v3.toInt64))))))]) hP
      replace hD := fr_inD (xs := [(q4, .inl (gI 1, (v2 + (1 : Int32)).toNatClampNeg, .inr (.inl (vp_updL bw v8.toNatClampNeg ((bw (v8 - (1 : Int32)).toNatClampNeg) * (v3.toInt64))))))]) hD
      refine lv_iinc (v := (v8 + (-1 : Int32))) (lv' := [(8, .int (v8 + (-1 : Int32))), (0, .ref o), (1, .int v1), (2, .int v2), (3, .int v3), (4, .ref q4), (5, .int v5), (6, .long v6)]) hx hb dX1_rain_140 hl (k := 7) rfl rfl (by decide) rfl (fun ls hl => ?_)
      refine lv_goto (tgt := 120) hx hb dX1_rain_143 (by decide) ?_
      exact ih _ _ h _ _ _ hP hD hS (lv_sub hl [1, 2, 3, 4, 5, 6, 7, 0] rfl)
set_option maxHeartbeats 4000000 in
theorem lp_S_rain_L1 {p : Program} {l : Launch} {e : Env} {R : Room} {s : State} {m : MethodId} {args : Array Value} {below : List Frame} {meth : Method} {c : Code} {cells slots : Nat} {A : Nat → Prop} {Qf : State → Prop} {V : evT} {D : va_G} {gI : Nat → ClassId} {o : Nat} {ax : Nat → Nat} {tl : va_W} {v1 : Int32} {v2 : Int32} {v3 : Int32} {fd : Nat → Int32} {ar : Nat → Nat → Int32} {lw : Nat → Int64} {hh : HT} {rn : Option (Nat × Nat)} {q4 : Nat} {K158 : (Nat → Int64) → Prop} (F : ct_F p m c meth cX1_rain 9 s args RX1 (some .int) A V D vwCl (tyL gI)) (hRf : 102 ≤ R.frames) (hRl : 2352 ≤ R.locals) (hC : cells ≤ R.cells) (hSl : slots ≤ R.slots) (hC1 : cells + 1 ≤ R.cells) (hS7 : slots + 7 ≤ R.slots) (hM : cells + 1 ≤ 2) (hMs : slots + 7 ≤ 20) (hlt : l.stackTraces = false)
    (hK158 : ∀ (bw : Nat → Int64), K158 bw → ∀ (H : Heap) (locs : List Loc) (ls : Array Slot), va_P D vwCl (wX gI o ax rn ([(q4, .inl (gI 1, (v2 + (1 : Int32)).toNatClampNeg, .inr (.inl bw)))] ++ tl) fd ar lw hh) H → va_D A (wX gI o ax rn ([(q4, .inl (gI 1, (v2 + (1 : Int32)).toNatClampNeg, .inr (.inl bw)))] ++ tl) fd ar lw hh) → va_S A s.heap H locs → lv_has ls 9 [(0, .ref o), (1, .int v1), (2, .int v2), (4, .ref q4)] → W p l e R s m args below meth c H locs cells slots Qf (F0 m 158 ls [])) :
    ∀ (n : Nat) (v5 : Int32) (bw : Nat → Int64), wp_S_rain_L1 v1 v2 v3 fd ar lw hh rn K158 n v5 bw → ∀ (H : Heap) (locs : List Loc) (ls : Array Slot), va_P D vwCl (wX gI o ax rn ([(q4, .inl (gI 1, (v2 + (1 : Int32)).toNatClampNeg, .inr (.inl bw)))] ++ tl) fd ar lw hh) H → va_D A (wX gI o ax rn ([(q4, .inl (gI 1, (v2 + (1 : Int32)).toNatClampNeg, .inr (.inl bw)))] ++ tl) fd ar lw hh) → va_S A s.heap H locs → lv_has ls 9 [(0, .ref o), (1, .int v1), (2, .int v2), (3, .int v3), (4, .ref q4), (5, .int v5)] → W p l e R s m args below meth c H locs cells slots Qf (F0 m 53 ls []) := by
  obtain ⟨⟨hx, hb, hml, hown, hts⟩, hr, hlocks, hA, hK, hE⟩ := id F
  intro n
  induction n with
  | zero => intro v5 bw h; exact h.elim
  | succ n ih =>
    intro v5 bw h H locs ls hP hD hS hl
    unfold wp_S_rain_L1 at h
    refine lv_iload hx hb dX1_rain_53 (lv_at hl 5 rfl) ?_
    refine lv_iload_n hx hb dX1_rain_55 rfl (lv_at hl 1 rfl) ?_
    refine lv_icmp_ge (tgt := 158) hx hb dX1_rain_56 (by decide) (fun c10 => ?_) (fun c10 => ?_)
    · replace h := h.1 c10
      exact hK158 _ h _ _ _ hP hD hS (lv_sub hl [0, 1, 2, 4] rfl)
    · replace h := h.2 c10
      refine lv_lconst (v := (0 : Int64)) hx hb dX1_rain_59 (by decide) ?_
      refine lv_lstore (lv' := [(6, .long (0 : Int64)), (0, .ref o), (1, .int v1), (2, .int v2), (3, .int v3), (4, .ref q4), (5, .int v5)]) hx hb dX1_rain_60 hl (by decide) rfl (fun ls hl => ?_)
      refine lv_iconst (v := (0 : Int32)) hx hb dX1_rain_62 (by decide) ?_
      refine lv_istore (lv' := [(8, .int (0 : Int32)), (6, .long (0 : Int64)), (0, .ref o), (1, .int v1), (2, .int v2), (3, .int v3), (4, .ref q4), (5, .int v5)]) hx hb dX1_rain_63 hl (by decide) rfl (fun ls hl => ?_)
      obtain ⟨k65, h⟩ := h
      refine lp_S_rain_L2 F hRf hRl hC hSl hC1 hS7 hM hMs hlt ?hk93 k65 _ _ h _ _ _ hP hD hS (lv_sub hl [2, 3, 4, 5, 6, 7, 1, 0] rfl)
      case hk93 =>
        intro v6_7 h H locs ls hP hD hS hl
        refine lv_aload hx hb dX1_rain_93 (lv_at hl 4 rfl) ?_
        refine lv_iload_n hx hb dX1_rain_95 rfl (lv_at hl 2 rfl) ?_
        refine lv_aload hx hb dX1_rain_96 (lv_at hl 4 rfl) ?_
        refine lv_iload_n hx hb dX1_rain_98 rfl (lv_at hl 2 rfl) ?_
        refine va_lald (f := bw) hx hb hK (fr_outP (xs := [(q4, .inl (gI 1, (v2 + (1 : Int32)).toNatClampNeg, .inr (.inl bw)))]) hP) 0 1 rfl rfl h.1 dX1_rain_99 ?_
        replace h := h.2
        refine lv_ldc2 (v := (10 : Int64)) hx hb hown (hts _ q1109) dX1_rain_100 ?_
        refine lv_lmul hx hb dX1_rain_103 ?_
        refine lv_aload hx hb dX1_rain_104 (lv_at hl 4 rfl) ?_
        refine lv_iload_n hx hb dX1_rain_106 rfl (lv_at hl 2 rfl) ?_
        refine lv_iconst (v := (1 : Int32)) hx hb dX1_rain_107 (by decide) ?_
        refine lv_isub hx hb dX1_rain_108 ?_
        refine va_lald (f := bw) hx hb hK (fr_outP (xs := [(q4, .inl (gI 1, (v2 + (1 : Int32)).toNatClampNeg, .inr (.inl bw)))]) hP) 0 1 rfl rfl h.1 dX1_rain_109 ?_
        replace h := h.2
        refine lv_iload_n hx hb dX1_rain_110 rfl (lv_at hl 3 rfl) ?_
        refine lv_i2l (v := (v3.toInt64)) hx hb dX1_rain_111 rfl ?_
        refine lv_lmul hx hb dX1_rain_112 ?_
        refine lv_ladd hx hb dX1_rain_113 ?_
        replace hP := fr_outP (xs := [(q4, .inl (gI 1, (v2 + (1 : Int32)).toNatClampNeg, .inr (.inl bw)))]) hP
        replace hD := fr_outD (xs := [(q4, .inl (gI 1, (v2 + (1 : Int32)).toNatClampNeg, .inr (.inl bw)))]) hD
        refine va_last (f := bw) hx hb hK hP hD hS 0 1 rfl rfl h.1 dX1_rain_114 (fun H locs hP hD hS => ?_)
        replace h := h.2
        replace hP := fr_inP (xs := [(q4, .inl (gI 1, (v2 + (1 : Int32)).toNatClampNeg, .inr (.inl (vp_updL bw v2.toNatClampNeg (((bw v2.toNatClampNeg) * (10 : Int64)) + ((bw (v2 - (1 : Int32)).toNatClampNeg) * (v3.toInt64)))))))]) hP
        replace hD := fr_inD (xs := [(q4, .inl (gI 1, (v2 + (1 : Int32)).toNatClampNeg, .inr (.inl (vp_updL bw v2.toNatClampNeg (((bw v2.toNatClampNeg) * (10 : Int64)) + ((bw (v2 - (1 : Int32)).toNatClampNeg) * (v3.toInt64)))))))]) hD
        refine lv_iload_n hx hb dX1_rain_115 rfl (lv_at hl 2 rfl) ?_
        refine lv_iconst (v := (1 : Int32)) hx hb dX1_rain_116 (by decide) ?_
        refine lv_isub hx hb dX1_rain_117 ?_
        refine lv_istore (lv' := [(8, .int (v2 - (1 : Int32))), (0, .ref o), (1, .int v1), (2, .int v2), (3, .int v3), (4, .ref q4), (5, .int v5), (6, .long v6_7)]) hx hb dX1_rain_118 hl (by decide) rfl (fun ls hl => ?_)
        obtain ⟨k120, h⟩ := h
        refine lp_S_rain_L3 F hRf hRl hC hSl hC1 hS7 hM hMs hlt ?hk146 k120 _ _ h _ _ _ hP hD hS (lv_sub hl [1, 2, 3, 4, 5, 6, 7, 0] rfl)
        case hk146 =>
          intro bw_9 h H locs ls hP hD hS hl
          refine lv_aload hx hb dX1_rain_146 (lv_at hl 4 rfl) ?_
          refine lv_iconst (v := (0 : Int32)) hx hb dX1_rain_148 (by decide) ?_
          refine lv_lload hx hb dX1_rain_149 (lv_at hl 6 rfl) ?_
          replace hP := fr_outP (xs := [(q4, .inl (gI 1, (v2 + (1 : Int32)).toNatClampNeg, .inr (.inl bw_9)))]) hP
          replace hD := fr_outD (xs := [(q4, .inl (gI 1, (v2 + (1 : Int32)).toNatClampNeg, .inr (.inl bw_9)))]) hD
          refine va_last (f := bw_9) hx hb hK hP hD hS 0 1 rfl rfl h.1 dX1_rain_151 (fun H locs hP hD hS => ?_)
          replace h := h.2
          replace hP := fr_inP (xs := [(q4, .inl (gI 1, (v2 + (1 : Int32)).toNatClampNeg, .inr (.inl (vp_updL bw_9 (0 : Int32).toNatClampNeg v6_7))))]) hP
          replace hD := fr_inD (xs := [(q4, .inl (gI 1, (v2 + (1 : Int32)).toNatClampNeg, .inr (.inl (vp_updL bw_9 (0 : Int32).toNatClampNeg v6_7))))]) hD
          refine lv_iinc (v := (v5 + (1 : Int32))) (lv' := [(5, .int (v5 + (1 : Int32))), (0, .ref o), (1, .int v1), (2, .int v2), (3, .int v3), (4, .ref q4), (6, .long v6_7)]) hx hb dX1_rain_152 hl (k := 5) rfl rfl (by decide) rfl (fun ls hl => ?_)
          refine lv_goto (tgt := 53) hx hb dX1_rain_155 (by decide) ?_
          exact ih _ _ h _ _ _ hP hD hS (lv_sub hl [1, 2, 3, 4, 5, 0] rfl)
set_option maxHeartbeats 8000000 in
theorem ct_S_rain {l : Launch} {V : evT} {D : va_G} {gI : Nat → ClassId} {o : Nat} {ax : Nat → Nat} {tl : va_W} (hlt : l.stackTraces = false) {v1 : Int32} {v2 : Int32} {v3 : Int32} {fd : Nat → Int32} {ar : Nat → Nat → Int32} {lw : Nat → Int64} {hh : HT} {rn : Option (Nat × Nat)} {Q : Int32 → (Nat → Int32) → (Nat → Int64) → Prop} (h : wp_S_rain v1 v2 v3 fd ar lw hh rn Q) : ct_i l V D vwCl (tyL gI) yX1_rain cX1_rain 9 .int { frames := 102, cells := 2, slots := 20, locals := 2352 } [.ref o, .int v1, .int v2, .int v3] (wX gI o ax rn tl fd ar lw hh) (fun u : (Nat → Int32) × (Nat → Int64) => (wX gI o ax rn tl u.1 ar u.2 hh)) (fun (x : Int32) (u : (Nat → Int32) × (Nat → Int64)) => Q x u.1 u.2) := by
  refine ct_ofi RX1 rfl (by decide +kernel) (Nat.le_of_ble_eq_true rfl) ?_
  intro p e s m args below meth c A F hP hD ls hl
  obtain ⟨⟨hx, hb, hml, hown, hts⟩, hr, hlocks, hA, hK, hE⟩ := id F
  have hS : va_S A s.heap s.heap [] := va_S.rf
  have hl : lv_has ls 9 [(0, .ref o), (1, .int v1), (2, .int v2), (3, .int v3)] := hl
  have hRf : 102 ≤ ({ frames := 102, cells := 2, slots := 20, locals := 2352 } : Room).frames := Nat.le_refl _
  have hC : 0 ≤ ({ frames := 102, cells := 2, slots := 20, locals := 2352 } : Room).cells := Nat.le_of_ble_eq_true rfl
  have hSl : 0 ≤ ({ frames := 102, cells := 2, slots := 20, locals := 2352 } : Room).slots := Nat.le_of_ble_eq_true rfl
  have hC1 : 0 + 1 ≤ ({ frames := 102, cells := 2, slots := 20, locals := 2352 } : Room).cells := Nat.le_of_ble_eq_true rfl
  have hS7 : 0 + 7 ≤ ({ frames := 102, cells := 2, slots := 20, locals := 2352 } : Room).slots := Nat.le_of_ble_eq_true rfl
  have hM : 0 + 1 ≤ 2 := Nat.le_of_ble_eq_true rfl
  have hMs : 0 + 7 ≤ 20 := Nat.le_of_ble_eq_true rfl
  have hRl : 2352 ≤ ({ frames := 102, cells := 2, slots := 20, locals := 2352 } : Room).locals := Nat.le_refl _
  unfold wp_S_rain at h
  refine lv_iload_n hx hb dX1_rain_0 rfl (lv_at hl 1 rfl) ?_
  refine lv_i2l (v := (v1.toInt64)) hx hb dX1_rain_1 rfl ?_
  refine lv_lconst (v := (1 : Int64)) hx hb dX1_rain_2 (by decide) ?_
  refine lv_ldc2 (v := (12 : Int64)) hx hb hown (hts _ q1108) dX1_rain_3 ?_
  refine cl_i0 F (va_runS (As := [.long (v1.toInt64), .long (1 : Int64), .long (12 : Int64)]) (rest := []) ⟨hx, hb, hml, hown, hts⟩ (ct_X1_in h _) (va_cwS 3 hts (lw_S q298 q299 q94 q300) rfl rfl rfl (by decide +kernel) ⟨Nat.le_trans (Nat.le_of_ble_eq_true rfl) hRf, Nat.le_trans (Nat.le_of_ble_eq_true rfl) hRl⟩) ⟨ct_blind, ct_at F hS ct_nP ct_nD⟩ rfl rfl hl.1 rfl (lv_room (Nat.le_of_ble_eq_true rfl)) dX1_rain_6 ⟨hC, hSl⟩) rfl rfl hP hS ?_
  rintro x1 _ H locs h hP hS
  refine lv_if_eq (tgt := 36) hx hb dX1_rain_9 (by decide) (fun c20 => ?_) (fun c20 => ?_)
  · replace h := h.1 c20
    refine lv_iconst (v := (-1 : Int32)) hx hb dX1_rain_36 (by decide) ?_
    exact rt_i F dX1_rain_37 rfl (fd, lw) h hP hD hS (Nat.le_of_ble_eq_true rfl) (Nat.le_of_ble_eq_true rfl)
  · replace h := h.2 c20
    refine lv_iload_n hx hb dX1_rain_12 rfl (lv_at hl 2 rfl) ?_
    refine lv_i2l (v := (v2.toInt64)) hx hb dX1_rain_13 rfl ?_
    refine lv_lconst (v := (1 : Int64)) hx hb dX1_rain_14 (by decide) ?_
    refine lv_ldc2 (v := (12 : Int64)) hx hb hown (hts _ q1108) dX1_rain_15 ?_
    refine cl_i0 F (va_runS (As := [.long (v2.toInt64), .long (1 : Int64), .long (12 : Int64)]) (rest := []) ⟨hx, hb, hml, hown, hts⟩ (ct_X1_in h _) (va_cwS 3 hts (lw_S q298 q299 q94 q300) rfl rfl rfl (by decide +kernel) ⟨Nat.le_trans (Nat.le_of_ble_eq_true rfl) hRf, Nat.le_trans (Nat.le_of_ble_eq_true rfl) hRl⟩) ⟨ct_blind, ct_at F hS ct_nP ct_nD⟩ rfl rfl hl.1 rfl (lv_room (Nat.le_of_ble_eq_true rfl)) dX1_rain_18 ⟨hC, hSl⟩) rfl rfl hP hS ?_
    rintro x2 _ H locs h hP hS
    refine lv_if_eq (tgt := 36) hx hb dX1_rain_21 (by decide) (fun c19 => ?_) (fun c19 => ?_)
    · replace h := h.1 c19
      refine lv_iconst (v := (-1 : Int32)) hx hb dX1_rain_36 (by decide) ?_
      exact rt_i F dX1_rain_37 rfl (fd, lw) h hP hD hS (Nat.le_of_ble_eq_true rfl) (Nat.le_of_ble_eq_true rfl)
    · replace h := h.2 c19
      refine lv_iload_n hx hb dX1_rain_24 rfl (lv_at hl 3 rfl) ?_
      refine lv_i2l (v := (v3.toInt64)) hx hb dX1_rain_25 rfl ?_
      refine lv_lconst (v := (0 : Int64)) hx hb dX1_rain_26 (by decide) ?_
      refine lv_ldc2 (v := (10 : Int64)) hx hb hown (hts _ q1109) dX1_rain_27 ?_
      refine cl_i0 F (va_runS (As := [.long (v3.toInt64), .long (0 : Int64), .long (10 : Int64)]) (rest := []) ⟨hx, hb, hml, hown, hts⟩ (ct_X1_in h _) (va_cwS 3 hts (lw_S q298 q299 q94 q300) rfl rfl rfl (by decide +kernel) ⟨Nat.le_trans (Nat.le_of_ble_eq_true rfl) hRf, Nat.le_trans (Nat.le_of_ble_eq_true rfl) hRl⟩) ⟨ct_blind, ct_at F hS ct_nP ct_nD⟩ rfl rfl hl.1 rfl (lv_room (Nat.le_of_ble_eq_true rfl)) dX1_rain_30 ⟨hC, hSl⟩) rfl rfl hP hS ?_
      rintro x3 _ H locs h hP hS
      refine lv_if_ne (tgt := 38) hx hb dX1_rain_33 (by decide) (fun c18 => ?_) (fun c18 => ?_)
      · replace h := h.1 c18
        refine lv_iload_n hx hb dX1_rain_38 rfl (lv_at hl 2 rfl) ?_
        refine lv_iconst (v := (1 : Int32)) hx hb dX1_rain_39 (by decide) ?_
        refine lv_iadd hx hb dX1_rain_40 ?_
        refine pt_newa (atype := .long) (a0 := ((v2 + (1 : Int32)).toNatClampNeg, .inr (.inl (fun _ => 0)))) hx hb (hts _ q289) rfl hK 1 rfl hP hD hS hA (fun _ => rfl) h.1.1 rfl (Nat.le_trans (Nat.mul_le_mul_right _ h.1.2) (Nat.le_of_ble_eq_true rfl)) (Nat.le_of_ble_eq_true rfl) (Nat.le_trans (Nat.add_le_add_left h.1.2 _) (Nat.le_of_ble_eq_true rfl)) dX1_rain_41 (fun q4 H hP hD hS => ?_)
        replace hP : va_P D vwCl (wX gI o ax rn ([(q4, .inl (gI 1, (v2 + (1 : Int32)).toNatClampNeg, .inr (.inl (fun _ => 0))))] ++ tl) fd ar lw hh) _ := frw_inP (nw := [(q4, .inl (gI 1, (v2 + (1 : Int32)).toNatClampNeg, .inr (.inl (fun _ => 0))))]) hP
        replace hD : va_D A (wX gI o ax rn ([(q4, .inl (gI 1, (v2 + (1 : Int32)).toNatClampNeg, .inr (.inl (fun _ => 0))))] ++ tl) fd ar lw hh) := frw_inD (nw := [(q4, .inl (gI 1, (v2 + (1 : Int32)).toNatClampNeg, .inr (.inl (fun _ => 0))))]) hD
        refine W.widen (Nat.le_refl _) (Nat.add_le_add_left h.1.2 _) ?_
        replace h := h.2
        replace hC : 1 ≤ ({ frames := 102, cells := 2, slots := 20, locals := 2352 } : Room).cells := Nat.le_of_ble_eq_true rfl
        replace hSl : 13 ≤ ({ frames := 102, cells := 2, slots := 20, locals := 2352 } : Room).slots := Nat.le_of_ble_eq_true rfl
        replace hC1 : 1 + 1 ≤ ({ frames := 102, cells := 2, slots := 20, locals := 2352 } : Room).cells := Nat.le_of_ble_eq_true rfl
        replace hS7 : 13 + 7 ≤ ({ frames := 102, cells := 2, slots := 20, locals := 2352 } : Room).slots := Nat.le_of_ble_eq_true rfl
        replace hM : 1 + 1 ≤ 2 := Nat.le_of_ble_eq_true rfl
        replace hMs : 13 + 7 ≤ 20 := Nat.le_of_ble_eq_true rfl
        refine lv_astore (lv' := [(4, .ref q4), (0, .ref o), (1, .int v1), (2, .int v2), (3, .int v3)]) hx hb dX1_rain_43 hl (by decide) rfl (fun ls hl => ?_)
        refine lv_aload hx hb dX1_rain_45 (lv_at hl 0 rfl) ?_
        refine lv_iconst (v := (0 : Int32)) hx hb dX1_rain_47 (by decide) ?_
        refine lv_lconst (v := (1 : Int64)) hx hb dX1_rain_48 (by decide) ?_
        replace hP := fr_outP (xs := [(q4, .inl (gI 1, (v2 + (1 : Int32)).toNatClampNeg, .inr (.inl (fun _ => 0))))]) hP
        replace hD := fr_outD (xs := [(q4, .inl (gI 1, (v2 + (1 : Int32)).toNatClampNeg, .inr (.inl (fun _ => 0))))]) hD
        refine va_last (f := (fun _ => 0)) hx hb hK hP hD hS 0 1 rfl rfl h.1 dX1_rain_49 (fun H locs hP hD hS => ?_)
        replace h := h.2
        replace hP := fr_inP (xs := [(q4, .inl (gI 1, (v2 + (1 : Int32)).toNatClampNeg, .inr (.inl (vp_updL (fun _ => 0) (0 : Int32).toNatClampNeg (1 : Int64)))))]) hP
        replace hD := fr_inD (xs := [(q4, .inl (gI 1, (v2 + (1 : Int32)).toNatClampNeg, .inr (.inl (vp_updL (fun _ => 0) (0 : Int32).toNatClampNeg (1 : Int64)))))]) hD
        refine lv_iconst (v := (0 : Int32)) hx hb dX1_rain_50 (by decide) ?_
        refine lv_istore (lv' := [(5, .int (0 : Int32)), (4, .ref q4), (0, .ref o), (1, .int v1), (2, .int v2), (3, .int v3)]) hx hb dX1_rain_51 hl (by decide) rfl (fun ls hl => ?_)
        obtain ⟨k53, h⟩ := h
        refine lp_S_rain_L1 F hRf hRl hC hSl hC1 hS7 hM hMs hlt ?hk158 k53 _ _ h _ _ _ hP hD hS (lv_sub hl [2, 3, 4, 5, 1, 0] rfl)
        case hk158 =>
          intro bw_11 h H locs ls hP hD hS hl
          refine lv_ldc2 (v := (10 : Int64)) hx hb hown (hts _ q1109) dX1_rain_158 ?_
          refine lv_iload_n hx hb dX1_rain_161 rfl (lv_at hl 1 rfl) ?_
          refine cl_l0 F (va_runS (As := [.long (10 : Int64), .int v1]) (rest := []) ⟨hx, hb, hml, hown, hts⟩ (ct_X1_power h _) (va_cwS 2 hts (lw_S q1110 q1111 q94 q1112) rfl rfl rfl (by decide +kernel) ⟨Nat.le_trans (Nat.le_of_ble_eq_true rfl) hRf, Nat.le_trans (Nat.le_of_ble_eq_true rfl) hRl⟩) ⟨ct_blind, ct_at F hS ct_nP ct_nD⟩ rfl rfl hl.1 rfl (lv_room (Nat.le_of_ble_eq_true rfl)) dX1_rain_162 ⟨hC, hSl⟩) rfl rfl hP hS ?_
          rintro x12 _ H locs h hP hS
          refine lv_lstore (lv' := [(5, .long x12), (0, .ref o), (1, .int v1), (2, .int v2), (4, .ref q4)]) hx hb dX1_rain_165 hl (by decide) rfl (fun ls hl => ?_)
          refine lv_aload hx hb dX1_rain_167 (lv_at hl 4 rfl) ?_
          refine lv_iload_n hx hb dX1_rain_169 rfl (lv_at hl 3 rfl) ?_
          refine va_lald (f := bw_11) hx hb hK (fr_outP (xs := [(q4, .inl (gI 1, (v2 + (1 : Int32)).toNatClampNeg, .inr (.inl bw_11)))]) hP) 0 1 rfl rfl h.1 dX1_rain_170 ?_
          replace h := h.2
          refine lv_lload hx hb dX1_rain_171 (lv_at hl 0 rfl) ?_
          refine cl_l0 F (va_runS (As := [.long (bw_11 v2.toNatClampNeg), .long x12]) (rest := []) ⟨hx, hb, hml, hown, hts⟩ (ct_X1_common h _) (va_cwS 2 hts (lw_S q1113 q1114 q94 q1115) rfl rfl rfl (by decide +kernel) ⟨Nat.le_trans (Nat.le_of_ble_eq_true rfl) hRf, Nat.le_trans (Nat.le_of_ble_eq_true rfl) hRl⟩) ⟨ct_blind, ct_at F hS ct_nP ct_nD⟩ rfl rfl hl.1 rfl (lv_room (Nat.le_of_ble_eq_true rfl)) dX1_rain_173 ⟨hC, hSl⟩) rfl rfl hP hS ?_
          rintro x13 _ H locs h hP hS
          refine lv_lstore (lv' := [(7, .long x13), (5, .long x12), (0, .ref o), (1, .int v1), (2, .int v2), (4, .ref q4)]) hx hb dX1_rain_176 hl (by decide) rfl (fun ls hl => ?_)
          refine lv_aload_n hx hb dX1_rain_178 rfl (lv_at hl 2 rfl) ?_
          refine lv_iconst (v := (0 : Int32)) hx hb dX1_rain_179 (by decide) ?_
          refine pt_put (v := .int (0 : Int32)) hx hb hts in_X1 tyX1 tyX1_ok nmX1 hown hK hP hD hS 0 rfl rfl 18 (Nat.le_of_ble_eq_true rfl) (hts _ q209) (fun _ h => h) rfl (ty := .int) (by decide +kernel) rfl rfl (Nat.le_of_ble_eq_true rfl) dX1_rain_180 wXF_18 (fun H locs hP hD hS => ?_)
          refine lv_aload_n hx hb dX1_rain_183 rfl (lv_at hl 2 rfl) ?_
          refine lv_aload hx hb dX1_rain_184 (lv_at hl 5 rfl) ?_
          refine lv_iload_n hx hb dX1_rain_186 rfl (lv_at hl 4 rfl) ?_
          refine va_lald (f := bw_11) hx hb hK (fr_outP (xs := [(q4, .inl (gI 1, (v2 + (1 : Int32)).toNatClampNeg, .inr (.inl bw_11)))]) hP) 0 1 rfl rfl h.1 dX1_rain_187 ?_
          replace h := h.2
          refine lv_lload hx hb dX1_rain_188 (lv_at hl 0 rfl) ?_
          refine lv_ldiv hx hb dX1_rain_190 h.1 ?_
          replace h := h.2
          refine cl_v F (va_runV (As := [.long ((bw_11 v2.toNatClampNeg) / x13)]) (rest := []) ⟨hx, hb, hml, hown, hts⟩ (ct_S_tell h _) (cwV 1 hts (lw_V q728 q730 qs19 q94 q731) rfl rfl rfl (by decide +kernel) ⟨Nat.le_trans (Nat.le_of_ble_eq_true rfl) hRf, Nat.le_trans (Nat.le_of_ble_eq_true rfl) hRl⟩) ⟨ct_blind, va_recv hK hP (ci := 0) (q0 := 0) rfl rfl, ct_at F hS hP hD⟩ rfl rfl hl.1 rfl (lv_room (Nat.le_of_ble_eq_true rfl)) dX1_rain_191 ⟨hC, hSl⟩) rfl rfl hD hS ?_
          rintro ⟨fd14, lw15⟩ H locs h hP hD hS
          refine lv_aload_n hx hb dX1_rain_194 rfl (lv_at hl 2 rfl) ?_
          refine lv_lload hx hb dX1_rain_195 (lv_at hl 1 rfl) ?_
          refine lv_lload hx hb dX1_rain_197 (lv_at hl 0 rfl) ?_
          refine lv_ldiv hx hb dX1_rain_199 h.1 ?_
          replace h := h.2
          refine cl_v F (va_runV (As := [.long (x12 / x13)]) (rest := []) ⟨hx, hb, hml, hown, hts⟩ (ct_S_tell h _) (cwV 1 hts (lw_V q728 q730 qs19 q94 q731) rfl rfl rfl (by decide +kernel) ⟨Nat.le_trans (Nat.le_of_ble_eq_true rfl) hRf, Nat.le_trans (Nat.le_of_ble_eq_true rfl) hRl⟩) ⟨ct_blind, va_recv hK hP (ci := 0) (q0 := 0) rfl rfl, ct_at F hS hP hD⟩ rfl rfl hl.1 rfl (lv_room (Nat.le_of_ble_eq_true rfl)) dX1_rain_200 ⟨hC, hSl⟩) rfl rfl hD hS ?_
          rintro ⟨fd16, lw17⟩ H locs h hP hD hS
          refine lv_iconst (v := (0 : Int32)) hx hb dX1_rain_203 (by decide) ?_
          replace hP := fr_dropP (xs := [(q4, .inl (gI 1, (v2 + (1 : Int32)).toNatClampNeg, .inr (.inl bw_11)))]) (tl := tl) hP
          replace hD := fr_dropD (xs := [(q4, .inl (gI 1, (v2 + (1 : Int32)).toNatClampNeg, .inr (.inl bw_11)))]) (tl := tl) hD
          exact rt_i F dX1_rain_204 rfl (fd16, lw17) h hP hD hS (Nat.le_of_ble_eq_true rfl) (Nat.le_of_ble_eq_true rfl)
      · replace h := h.2 c18
        refine lv_iconst (v := (-1 : Int32)) hx hb dX1_rain_36 (by decide) ?_
        exact rt_i F dX1_rain_37 rfl (fd, lw) h hP hD hS (Nat.le_of_ble_eq_true rfl) (Nat.le_of_ble_eq_true rfl)
