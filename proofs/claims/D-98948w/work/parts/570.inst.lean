/-! is it a row of bytes; a row of less than no places -/
set_option maxRecDepth 100000
def nzNames : List String := ["java/lang/RuntimeException", "java/lang/Exception"]
theorem nz_in0 : ∀ w ∈ (vx_atM RJ11 nzNames).filter goodWord, w ∈ lw_tbl := by decide +kernel
theorem nz_in1 : ∀ w ∈ (vx_atM RJ11 nzNames).filter (fun w => !goodWord w), w ∈ lw_tbl ∧ evK w = true := by decide +kernel
theorem nz_words {V : evT} {A : Nat → Prop} {s : State} {args : Array Value} (hts : ∀ w ∈ lw_all, w.before args s = true) (hE : ev V A s s.heap) : ∀ w ∈ vx_atM RJ11 nzNames, w.before args s = true := by
  intro w hw
  cases hg : goodWord w with
  | true => exact hts w (lw_g (nz_in0 w (List.mem_filter.mpr ⟨hw, hg⟩)) hg)
  | false =>
    obtain ⟨h3, h4⟩ := nz_in1 w (List.mem_filter.mpr ⟨hw, by rw [hg]; rfl⟩)
    have h5 := hE.1 w h3 h4
    cases w <;> simp [evK] at h4
    all_goals exact va_Nw.use rfl h5
theorem nz_good : ∀ w ∈ vx_atM RJ11 nzNames, vx_ot w = true := by decide +kernel
section IN
variable {V : evT} {D : va_G} {tys : List (ClassId × FieldType)}
variable {p : Program} {l : Launch} {e : Env} {R : Room} {s : State} {m : MethodId} {args : Array Value} {below : List Frame} {meth : Method} {c : Code} {H : Heap} {locs : List Loc} {cells slots : Nat} {Qf : State → Prop}
variable {cc : ByteArray} {nL pc : Nat} {ls : Array Slot} {rest st0 : List Value} {own : String} {A : Nat → Prop} {ret : Option FieldType} {ws : va_W} {cl : List vw_C} {a : Nat}
theorem vp_cell_of (cA : ClassId) (x : vp_A) : (vp_cell cA x).vm = .none ∧ (vp_cell cA x).cls = cA := by
  obtain ⟨n, f | f | f | f | f⟩ := x <;> exact ⟨rfl, rfl⟩
theorem pt_instY (hexec : p.tables.exec = Jvm.exec) (hb : c.code = cc) {nm : String} {index : Nat} (hown : s.vm.findClass own = some m.cls) (hlink : (Cond.classLink own index nm).before args s = true) (hP : va_P D cl ws H) (q0 : Nat) {cA : ClassId} {x : vp_A} (ha : ws[q0]? = some (a, .inl (cA, x))) (hnm : s.vm.findClass nm = some cA) (hdg : decode cc pc = .ok (.instanceof index, 3))
    (k : W p l e R s m args below meth c H locs cells slots Qf (F0 m (pc + 3) ls (.int 1 :: rest))) : W p l e R s m args below meth c H locs cells slots Qf (F0 m pc ls (.ref a :: rest)) :=
  va_instE hexec hb hown hlink ⟨vp_cell cA x, hP q0 _ ha, by rw [(vp_cell_of cA x).1]; rfl, by rw [(vp_cell_of cA x).2]; exact hnm⟩ hdg k
theorem pt_instN (hexec : p.tables.exec = Jvm.exec) (hb : c.code = cc) {C nm : String} {index : Nat} (hown : s.vm.findClass own = some m.cls) (hlink : (Cond.classLink own index nm).before args s = true) (hc : va_Nc C nm s) (hP : va_P D cl ws H) (q0 : Nat) {cA : ClassId} {x : vp_A} (ha : ws[q0]? = some (a, .inl (cA, x))) (hnm : s.vm.findClass C = some cA) (hdg : decode cc pc = .ok (.instanceof index, 3))
    (k : W p l e R s m args below meth c H locs cells slots Qf (F0 m (pc + 3) ls (.int 0 :: rest))) : W p l e R s m args below meth c H locs cells slots Qf (F0 m pc ls (.ref a :: rest)) :=
  va_instNo hexec hb hown hlink hc ⟨vp_cell cA x, hP q0 _ ha, by rw [(vp_cell_of cA x).1]; rfl, by rw [(vp_cell_of cA x).2]; exact hnm⟩ hdg k
/-- a call that gives back a new one, the callee holding the whole world -/
theorem cl_r {S : Type} {Q1 : S → Prop} {ra : S → Nat} {w1 : S → va_W} {mc ms : Nat} {b : Array Value} (F : ct_F p m c meth cc nL s args own ret A V D cl tys)
    (hr : va_Run p l e R s m args below meth c H locs cells slots mc ms (F0 m pc ls st0) rest (va_Qr Q1 (fun u a t => a = ra u ∧ ct_B D cl tys ws H.size w1 u t) (va_A ws H.size) b) (va_A ws H.size)) (hD : va_D A ws) (hS : va_S A s.heap H locs)
    (kk : ∀ (u : S) (H1 : Heap) (locs1 : List Loc), Q1 u → va_P D cl (w1 u) H1 → va_D A (w1 u) → va_S A s.heap H1 locs1 → W p l e R s m args below meth c H1 locs1 (cells + mc) (slots + ms) Qf (F0 m (pc + 3) ls (.ref (ra u) :: rest))) : W p l e R s m args below meth c H locs cells slots Qf (F0 m pc ls st0) := by
  obtain ⟨-, -, -, hA, hK, hE⟩ := F
  have hf := ct_fr hD hS hA
  refine va_callr hr hS (fun q _ h => hf q h) hf (fun u a t H1 locs1 ht hvm hq hB hz hk hS1 => ?_)
  obtain ⟨rfl, hP1, hK1, hD1⟩ := hB
  rw [ht] at hP1
  exact kk u H1 locs1 hq hP1 (hD1.weaken (fun _ q _ h => hf q.1 h)) hS1
/-- a method that throws always -/
def cn_r (E0 : String) (l : Launch) (V : evT) (D : va_G) (tys : List (ClassId × FieldType)) (y : MethodName) (cc : ByteArray) (nL : Nat) (rt : FieldType) (rm : Room) (av : List Value) (w0 : va_W) : Prop :=
  ∀ sz, vx_Met l y (ws_ y cc nL (some rt)) rm (ct_P V D vwCl tys av w0 sz) (va_Qr (fun _ : Unit => False) (fun _ _ _ => True) (va_A w0 sz)) (cn_B E0 D tys w0 True (va_A w0 sz)) rm.cells rm.slots (va_A w0 sz)
theorem cn_ofr {y : MethodName} {rm : Room} {av : List Value} {w0 : va_W} {rt : FieldType} {E0 : String} (own : String) (hown : y.cls = own) (hy : plainName y.cls = true) (hlen : (lg_sl av).length ≤ nL)
    (body : ∀ (p : Program) (e : Env) (s : State) (m : MethodId) (args : Array Value) (below : List Frame) (meth : Method) (c : Code) (A : Nat → Prop), ct_F p m c meth cc nL s args own (some rt) A V D vwCl tys → (∀ x ∈ c.exceptionTable.toList, False) → va_P D vwCl w0 s.heap → va_D A w0 → (∀ ls : Array Slot, lv_has ls nL (lv_args 0 av) →
      W p l e rm s m args below meth c s.heap [] 0 0 (vx_MQ below (va_Qr (fun _ : Unit => False) (fun _ _ _ => True) A) (cn_B E0 D tys w0 True A) args s rm.cells rm.slots A) (F0 m 0 ls []))) : cn_r E0 l V D tys y cc nL rt rm av w0 := by
  intro sz
  refine vx_ofW (cc := cc) (maxL := nL) (ret := some rt) hy rfl ?_
  intro p e s m args below meth c s₁ B hml htab hv
  obtain ⟨rfl, hsz, hP, hK, hD0, hE⟩ := hv
  have hts := atoms_spec (ws := ws_ y cc nL (some rt)) B.pre
  have hts : ∀ w ∈ lw_all, w.before _ s = true := fun w h => hts w (List.mem_cons_of_mem _ h)
  subst hsz
  rw [lg_entry_eq]
  exact body p e s m _ below meth c (va_A w0 s.heap.size) ⟨⟨B.exec, B.bytes, hml, by rw [← hown]; exact findClass_of_methodNamed B.named, hts⟩, B.returns, B.notSynchronized, fun q h => Or.inr h, hK, hE⟩ htab hP hD0.self _ (lv_entry av hlen)
theorem cln_r {E0 : String} {mc ms : Nat} {b : Array Value} (F : ct_F p m c meth cc nL s args own ret A V D vwCl tys)
    (hr : vx_Run p l e R s m args below meth c H locs cells slots mc ms (F0 m pc ls st0) rest (va_Qr (fun _ : Unit => False) (fun _ _ _ => True) (va_A ws H.size) b) (cn_B E0 D tys ws True (va_A ws H.size)) (va_A ws H.size)) (hD : va_D A ws) (hS : va_S A s.heap H locs)
    (kx : ∀ (q : Nat) (ce : Cell) (H1 : Heap) (locs1 : List Loc), va_P D vwCl ws H1 → va_D A ws → va_S A s.heap H1 locs1 → H1[q]? = some ce → ce.vm = .none → s.vm.findClass E0 = some ce.cls → vx_W p l e R s m args below meth c H1 locs1 (cells + mc) (slots + ms) Qf (F0 m pc ls rest) q) : W p l e R s m args below meth c H locs cells slots Qf (F0 m pc ls st0) := by
  obtain ⟨-, -, -, hA, hK, hE⟩ := F
  have hf := ct_fr hD hS hA
  refine my_callr hr hS (fun q _ h => hf q h) hf (fun q _ h => hf q h) (fun E ce q9 u t H1 locs1 ht hvm hq hB hz hk hS1 hce hcv hcl => ?_) (fun u b t H1 locs1 ht hvm hq => hq.elim)
  obtain ⟨rfl, hP1, hK1, hD1⟩ := hB
  rw [ht] at hP1
  exact kx q9 ce H1 locs1 hP1 (hD1.weaken (fun _ q _ h => hf q.1 h)) hS1 hce hcv hcl
/-- a row of less than no places is asked for: NegativeArraySizeException, thrown out of the method -/
theorem rz_out {Qc : Array Value → State → Outcome → State → Prop} {QX : Prop} {mc ms : Nat} {lv : List (Nat × Value)} {atype : ArrayType} {n : Int32} (F : ct_F p m c meth cc nL s args own ret A V D vwCl tys) (hlt : l.stackTraces = false) (htab : ∀ x ∈ c.exceptionTable.toList, False) (hls : lv_has ls nL lv) (h0 : n < 0) (h : QX)
    (hP : va_P D vwCl ws H) (hD : va_D A ws) (hS : va_S A s.heap H locs) (d : decode cc pc = .ok (.newarray atype, 2))
    (hRf : 6 < R.frames) (hRl : (rest.map fun v => v.category).sum + 10240 ≤ R.locals) (hRc : cells + 3 ≤ R.cells) (hRs : slots + 54 ≤ R.slots) (hc : cells + 3 ≤ mc) (hs : slots + 54 ≤ ms) :
    W p l e R s m args below meth c H locs cells slots (vx_MQ below Qc (cn_B RJ11 D tys ws QX A) args s mc ms A) (F0 m pc ls (.int n :: rest)) := by
  obtain ⟨⟨hx, hb, hml, ho, hts⟩, hr, hlocks, hA, hK, hE⟩ := F
  refine vx_newarrayZ hx hb h0 d (fun tx htx => ?_)
  subst htx
  refine vx_vm (names := nzNames) (nb := 44) hx hlt (by decide +kernel) (by decide +kernel) (by decide +kernel) (by decide +kernel) (nz_words hts hE) nz_good hE.2.2.2.1 hE.2.2.2.2.1 hS (hml.trans hls.1.symm).symm (negative_text_modelled h0) (negative_text_bytes n) (by decide) hRf hRl (by decide) hRc hRs hlocks (fun H1 q9 ce hsz hq hS1 hce hcv hcl => ?_)
  exact vx_out (fun x hx => (htab x hx).elim) hlocks hce hcv hcl (fun t ht hW => ⟨(), h, ⟨rfl, by rw [ht]; exact hP.kept fun k q hk => hq _ (hP k q hk).lt, hK.moved hW, hD⟩, hS1.F ht⟩) hS1.2.2 hc hs
theorem ctn_rowOf {l : Launch} {gI : Nat → ClassId} {o : Nat} {ax : Nat → Nat} {tl : va_W} (hlt : l.stackTraces = false) {v0 v1 v2 v3 : Int32} {fd : Nat → Int32} {ar : Nat → Nat → Int32} {lw : Nat → Int64} {hh : HT} {rn : Option (Nat × Nat)} (h0 : v1 < 0) :
    cn_r RJ11 l V D (tyL gI) yX1_rowOf cX1_rowOf 7 (.object "java/lang/Object") { frames := 7, cells := 3, slots := 54, locals := 10300 } [.int v0, .int v1, .int v2, .int v3] (wX gI o ax rn tl fd ar lw hh) := by
  refine cn_ofr RX1 rfl (by decide +kernel) (Nat.le_of_ble_eq_true rfl) ?_
  intro p e s m args below meth c A F htab hP hD ls hl
  obtain ⟨⟨hx, hb, hml, hown, hts⟩, hr, hlocks, hA, hK, hE⟩ := id F
  have hS : va_S A s.heap s.heap [] := va_S.rf
  have hl : lv_has ls 7 [(0, .int v0), (1, .int v1), (2, .int v2), (3, .int v3)] := hl
  refine lv_iload_n hx hb dX1_rowOf_0 rfl (lv_at hl 2 rfl) ?_
  refine lv_istore (lv' := [(4, .int v2), (0, .int v0), (1, .int v1), (2, .int v2), (3, .int v3)]) hx hb dX1_rowOf_1 hl (by decide) rfl (fun ls hl => ?_)
  refine lv_iload_n hx hb dX1_rowOf_3 rfl (lv_at hl 1 rfl) ?_
  refine lv_if_ne (tgt := 44) hx hb dX1_rowOf_4 (by decide) (fun c5 => ?_) (fun c5 => ?_)
  · refine lv_iload_n hx hb dX1_rowOf_44 rfl (lv_at hl 1 rfl) ?_
    refine lv_iconst (v := (1 : Int32)) hx hb dX1_rowOf_45 (by decide) ?_
    refine lv_icmp_ne (tgt := 86) hx hb dX1_rowOf_46 (by decide) (fun c4 => ?_) (fun c4 => ?_)
    · refine lv_iload_n hx hb dX1_rowOf_86 rfl (lv_at hl 2 rfl) ?_
      exact rz_out F hlt htab hl h0 trivial hP hD hS dX1_rowOf_87 (Nat.le_of_ble_eq_true rfl) (Nat.le_of_ble_eq_true rfl) (Nat.le_of_ble_eq_true rfl) (Nat.le_of_ble_eq_true rfl) (Nat.le_refl _) (Nat.le_refl _)
    · refine lv_iload_n hx hb dX1_rowOf_49 rfl (lv_at hl 2 rfl) ?_
      exact rz_out F hlt htab hl h0 trivial hP hD hS dX1_rowOf_50 (Nat.le_of_ble_eq_true rfl) (Nat.le_of_ble_eq_true rfl) (Nat.le_of_ble_eq_true rfl) (Nat.le_of_ble_eq_true rfl) (Nat.le_refl _) (Nat.le_refl _)
  · refine lv_iload_n hx hb dX1_rowOf_7 rfl (lv_at hl 2 rfl) ?_
    exact rz_out F hlt htab hl h0 trivial hP hD hS dX1_rowOf_8 (Nat.le_of_ble_eq_true rfl) (Nat.le_of_ble_eq_true rfl) (Nat.le_of_ble_eq_true rfl) (Nat.le_of_ble_eq_true rfl) (Nat.le_refl _) (Nat.le_refl _)
end IN
