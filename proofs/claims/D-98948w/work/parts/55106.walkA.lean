/-! J0_fill_2 -/
set_option maxRecDepth 100000
set_option maxHeartbeats 4000000 in
theorem lp_Q_fill_2_L1 {p : Program} {l : Launch} {e : Env} {R : Room} {s : State} {m : MethodId} {args : Array Value} {below : List Frame} {meth : Method} {c : Code} {cells slots : Nat} {A : Nat → Prop} {Qf : State → Prop} {V : evT} {D : va_G} {gI : Nat → ClassId} {pa : Nat} {v3 : Int32} {K20 : (Nat → Option Nat) → Prop} (F : ct_F p m c meth cJ0_fill_2 4 s args RJ0 none A V D vwCl (tyL gI)) (hRf : 1 ≤ R.frames) (hRl : 12 ≤ R.locals) (hC : cells ≤ R.cells) (hSl : slots ≤ R.slots)
    (hK20 : ∀ (qf : Nat → Option Nat), K20 qf → ∀ (H : Heap) (locs : List Loc) (ls : Array Slot), va_P D vwCl [(pa, .inl (gI 5, 3, .inr (.inr (.inr (.inr qf)))))] H → va_D A [(pa, .inl (gI 5, 3, .inr (.inr (.inr (.inr qf)))))] → va_S A s.heap H locs → lv_has ls 4 [] → W p l e R s m args below meth c H locs cells slots Qf (F0 m 20 ls [])) :
    ∀ (n : Nat) (v2 : Int32) (qf : Nat → Option Nat), wp_Q_fill_2_L1 v3 K20 n v2 qf → ∀ (H : Heap) (locs : List Loc) (ls : Array Slot), va_P D vwCl [(pa, .inl (gI 5, 3, .inr (.inr (.inr (.inr qf)))))] H → va_D A [(pa, .inl (gI 5, 3, .inr (.inr (.inr (.inr qf)))))] → va_S A s.heap H locs → lv_has ls 4 [(0, .ref pa), (1, .null), (2, .int v2), (3, .int v3)] → W p l e R s m args below meth c H locs cells slots Qf (F0 m 5 ls []) := by
  obtain ⟨⟨hx, hb, hml, hown, hts⟩, hr, hlocks, hA, hK, hE⟩ := id F
  intro n
  induction n with
  | zero => intro v2 qf h; exact h.elim
  | succ n ih =>
    intro v2 qf h H locs ls hP hD hS hl
    unfold wp_Q_fill_2_L1 at h
    refine lv_iload_n hx hb dJ0_fill_2_5 rfl (lv_at hl 2 rfl) ?_
    refine lv_iload_n hx hb dJ0_fill_2_6 rfl (lv_at hl 3 rfl) ?_
    refine lv_icmp_ge (tgt := 20) hx hb dJ0_fill_2_7 (by decide) (fun c1 => ?_) (fun c1 => ?_)
    · replace h := h.1 c1
      exact hK20 _ h _ _ _ hP hD hS (lv_sub hl [] rfl)
    · replace h := h.2 c1
      refine lv_aload_n hx hb dJ0_fill_2_10 rfl (lv_at hl 0 rfl) ?_
      refine lv_iload_n hx hb dJ0_fill_2_11 rfl (lv_at hl 2 rfl) ?_
      refine lv_aload_nN hx hb dJ0_fill_2_12 rfl (lv_at hl 1 rfl) ?_
      refine va_astqN (f := qf) hx hb hK hP hD hS 0 5 rfl rfl h.1 dJ0_fill_2_13 (fun H locs hP hD hS => ?_)
      replace h := h.2
      refine lv_iinc (v := (v2 + (1 : Int32))) (lv' := [(2, .int (v2 + (1 : Int32))), (0, .ref pa), (1, .null), (3, .int v3)]) hx hb dJ0_fill_2_14 hl (k := 2) rfl rfl (by decide) rfl (fun ls hl => ?_)
      refine lv_goto (tgt := 5) hx hb dJ0_fill_2_17 (by decide) ?_
      exact ih _ _ h _ _ _ hP hD hS (lv_sub hl [1, 2, 0, 3] rfl)
set_option maxHeartbeats 4000000 in
theorem ct_Q_fill_2 {l : Launch} {V : evT} {D : va_G} {gI : Nat → ClassId} {pa : Nat} {qf : Nat → Option Nat} {Q : (Nat → Option Nat) → Prop} (h : wp_Q_fill_2 qf Q) : ct_v l V D vwCl (tyL gI) yJ0_fill_2 cJ0_fill_2 4 { frames := 1, cells := 0, slots := 0, locals := 12 } [.ref pa, .null] [(pa, .inl (gI 5, 3, .inr (.inr (.inr (.inr qf)))))] (fun u : (Nat → Option Nat) => [(pa, .inl (gI 5, 3, .inr (.inr (.inr (.inr u)))))]) (fun (u : (Nat → Option Nat)) => Q u) := by
  refine ct_ofv RJ0 rfl (by decide +kernel) (Nat.le_of_ble_eq_true rfl) ?_
  intro p e s m args below meth c A F _ hP hD ls hl
  obtain ⟨⟨hx, hb, hml, hown, hts⟩, hr, hlocks, hA, hK, hE⟩ := id F
  have hS : va_S A s.heap s.heap [] := va_S.rf
  have hl : lv_has ls 4 [(0, .ref pa), (1, .null)] := hl
  have hRf : 1 ≤ ({ frames := 1, cells := 0, slots := 0, locals := 12 } : Room).frames := Nat.le_refl _
  have hRl : 12 ≤ ({ frames := 1, cells := 0, slots := 0, locals := 12 } : Room).locals := Nat.le_refl _
  have hC : 0 ≤ ({ frames := 1, cells := 0, slots := 0, locals := 12 } : Room).cells := Nat.le_refl _
  have hSl : 0 ≤ ({ frames := 1, cells := 0, slots := 0, locals := 12 } : Room).slots := Nat.le_refl _
  unfold wp_Q_fill_2 at h
  refine lv_iconst (v := (0 : Int32)) hx hb dJ0_fill_2_0 (by decide) ?_
  refine lv_istore_n (lv' := [(2, .int (0 : Int32)), (0, .ref pa), (1, .null)]) hx hb dJ0_fill_2_1 rfl hl (by decide) rfl (fun ls hl => ?_)
  refine lv_aload_n hx hb dJ0_fill_2_2 rfl (lv_at hl 1 rfl) ?_
  refine va_alen (v := (3 : Int32)) hx hb hK hP 0 5 rfl rfl rfl dJ0_fill_2_3 ?_
  refine lv_istore_n (lv' := [(3, .int (3 : Int32)), (2, .int (0 : Int32)), (0, .ref pa), (1, .null)]) hx hb dJ0_fill_2_4 rfl hl (by decide) rfl (fun ls hl => ?_)
  obtain ⟨k5, h⟩ := h
  refine lp_Q_fill_2_L1 F hRf hRl hC hSl ?hk20 k5 _ _ h _ _ _ hP hD hS (lv_sub hl [2, 3, 1, 0] rfl)
  case hk20 =>
    intro qf_2 h H locs ls hP hD hS hl
    exact rt_v F dJ0_fill_2_20 (qf_2) h hP hD hS (Nat.le_refl _) (Nat.le_refl _)
