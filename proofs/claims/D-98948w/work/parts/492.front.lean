/-! new cells: at the head of the rest; a world in another order -/
set_option maxRecDepth 100000
section FR
variable {D : va_G} {cl : List vw_C} {H : Heap} {A : Nat → Prop} {ws ws' : va_W}
theorem va_P_sub (h : va_P D cl ws H) (hs : ∀ q, q ∈ ws' → q ∈ ws) : va_P D cl ws' H := fun _ q hk => by
  obtain ⟨j, hj⟩ := List.getElem?_of_mem (hs q (List.mem_of_getElem? hk))
  exact h j q hj
theorem va_D_nodup (h : va_D A ws) : (ws.map Prod.fst).Nodup := by
  rw [List.nodup_iff_pairwise_ne, List.pairwise_iff_getElem]
  intro i j hi hj hij he
  rw [List.length_map] at hi hj
  rw [List.getElem_map, List.getElem_map] at he
  have := h.1 i j ws[i] ws[j] (List.getElem?_eq_getElem hi) (List.getElem?_eq_getElem hj) he
  omega
theorem va_D_ofnodup (h : (ws.map Prod.fst).Nodup) (hA : ∀ q ∈ ws, A q.1) : va_D A ws := by
  refine ⟨fun i j x y hi hj he => ?_, fun k q hk => hA q (List.mem_of_getElem? hk)⟩
  have hil := (List.getElem?_eq_some_iff.mp hi).1
  have e : (ws.map Prod.fst)[i]? = (ws.map Prod.fst)[j]? := by
    rw [List.getElem?_map, List.getElem?_map, hi, hj]
    exact congrArg some he
  exact (List.getElem?_inj (by rw [List.length_map]; exact hil) h).mp e
theorem va_D_sub (h : va_D A ws) (hs : ∃ l, l.Perm ws ∧ ws'.Sublist l) : va_D A ws' := by
  obtain ⟨l, hp, hs⟩ := hs
  refine va_D_ofnodup (((hs.map Prod.fst).nodup ((hp.map Prod.fst).nodup_iff.mpr (va_D_nodup h)))) fun q hq => ?_
  obtain ⟨k, hk⟩ := List.getElem?_of_mem (hp.mem_iff.mp (hs.subset hq))
  exact h.2 k q hk
theorem va_P_perm (h : va_P D cl ws H) (hp : ws'.Perm ws) : va_P D cl ws' H := va_P_sub h fun _ hq => hp.mem_iff.mp hq
theorem va_D_perm (h : va_D A ws) (hp : ws'.Perm ws) : va_D A ws' := va_D_sub h ⟨ws', hp, List.Sublist.refl _⟩
section WXF
variable {gI : Nat → ClassId} {o : Nat} {ax : Nat → Nat} {rn : Option (Nat × Nat)} {xs nw tl : va_W} {fd : Nat → Int32} {ar : Nat → Nat → Int32} {lw : Nat → Int64} {hh : HT}
theorem wX_app : wX gI o ax rn (xs ++ tl) fd ar lw hh = wX gI o ax rn xs fd ar lw hh ++ tl := by
  simp only [wX, List.append_assoc]
theorem wX_nil : wX gI o ax rn tl fd ar lw hh = wX gI o ax rn [] fd ar lw hh ++ tl := wX_app (xs := [])
theorem wX_perm : (xs ++ wX gI o ax rn tl fd ar lw hh).Perm (wX gI o ax rn (xs ++ tl) fd ar lw hh) := by
  rw [wX_nil (tl := tl), wX_nil (tl := xs ++ tl)]
  exact List.perm_append_comm_assoc _ _ _
theorem fr_outP (h : va_P D cl (wX gI o ax rn (xs ++ tl) fd ar lw hh) H) : va_P D cl (xs ++ wX gI o ax rn tl fd ar lw hh) H := va_P_perm h wX_perm
theorem fr_outD (h : va_D A (wX gI o ax rn (xs ++ tl) fd ar lw hh)) : va_D A (xs ++ wX gI o ax rn tl fd ar lw hh) := va_D_perm h wX_perm
theorem fr_inP (h : va_P D cl (xs ++ wX gI o ax rn tl fd ar lw hh) H) : va_P D cl (wX gI o ax rn (xs ++ tl) fd ar lw hh) H := va_P_perm h wX_perm.symm
theorem fr_inD (h : va_D A (xs ++ wX gI o ax rn tl fd ar lw hh)) : va_D A (wX gI o ax rn (xs ++ tl) fd ar lw hh) := va_D_perm h wX_perm.symm
theorem frn_perm : (wX gI o ax rn (nw ++ (xs ++ tl)) fd ar lw hh).Perm ((xs ++ wX gI o ax rn tl fd ar lw hh) ++ nw) := by
  refine List.Perm.trans ?_ List.perm_append_comm
  refine (wX_perm (xs := nw) (tl := xs ++ tl)).symm.trans ?_
  exact List.Perm.append_left nw wX_perm.symm
theorem frn_inP (h : va_P D cl ((xs ++ wX gI o ax rn tl fd ar lw hh) ++ nw) H) : va_P D cl (wX gI o ax rn (nw ++ (xs ++ tl)) fd ar lw hh) H := va_P_perm h frn_perm
theorem frn_inD (h : va_D A ((xs ++ wX gI o ax rn tl fd ar lw hh) ++ nw)) : va_D A (wX gI o ax rn (nw ++ (xs ++ tl)) fd ar lw hh) := va_D_perm h frn_perm
theorem frw_perm : (wX gI o ax rn (nw ++ tl) fd ar lw hh).Perm (wX gI o ax rn tl fd ar lw hh ++ nw) := frn_perm (xs := [])
theorem frw_inP (h : va_P D cl (wX gI o ax rn tl fd ar lw hh ++ nw) H) : va_P D cl (wX gI o ax rn (nw ++ tl) fd ar lw hh) H := va_P_perm h frw_perm
theorem frw_inD (h : va_D A (wX gI o ax rn tl fd ar lw hh ++ nw)) : va_D A (wX gI o ax rn (nw ++ tl) fd ar lw hh) := va_D_perm h frw_perm
/-- cells of the rest forgotten -/
theorem fr_dropP (h : va_P D cl (wX gI o ax rn (xs ++ tl) fd ar lw hh) H) : va_P D cl (wX gI o ax rn tl fd ar lw hh) H := va_P_sub (fr_outP h) fun _ hq => List.mem_append_right _ hq
theorem fr_dropD (h : va_D A (wX gI o ax rn (xs ++ tl) fd ar lw hh)) : va_D A (wX gI o ax rn tl fd ar lw hh) := va_D_sub (fr_outD h) ⟨_, List.Perm.refl _, List.sublist_append_right _ _⟩
theorem fr_dropEP {xs' ys : va_W} (e : xs' = xs ++ ys) (h : va_P D cl (wX gI o ax rn (xs' ++ tl) fd ar lw hh) H) : va_P D cl (wX gI o ax rn (ys ++ tl) fd ar lw hh) H := by
  subst e
  rw [List.append_assoc] at h
  exact fr_dropP h
theorem fr_dropED {xs' ys : va_W} (e : xs' = xs ++ ys) (h : va_D A (wX gI o ax rn (xs' ++ tl) fd ar lw hh)) : va_D A (wX gI o ax rn (ys ++ tl) fd ar lw hh) := by
  subst e
  rw [List.append_assoc] at h
  exact fr_dropD h
theorem fr_swap {x y : Nat × va_E} : (wX gI o ax rn ([y, x] ++ tl) fd ar lw hh).Perm (wX gI o ax rn ([x, y] ++ tl) fd ar lw hh) := by
  refine (wX_perm (xs := [y, x])).symm.trans (List.Perm.trans ?_ (wX_perm (xs := [x, y])))
  exact List.Perm.swap _ _ _
end WXF
/-- the last cell, and all but the last one -/
theorem pl_last {x : Nat × va_E} (h : va_P D cl (ws ++ [x]) H) : va_P D cl [x] H := va_P_sub h fun _ hq => List.mem_append_right _ hq
theorem pl_init {nw : va_W} (h : va_P D cl (ws ++ nw) H) : va_P D cl ws H := va_P_sub h fun _ hq => List.mem_append_left _ hq
theorem dl_init {nw : va_W} (h : va_D A (ws ++ nw)) : va_D A ws := va_D_sub h ⟨_, List.Perm.refl _, List.sublist_append_left _ _⟩
theorem set_same : ∀ {ws : va_W} {i : Nat} {e : Nat × va_E}, ws[i]? = some e → ws.set i e = ws
  | [], _, _, h => by simp at h
  | x :: ws, 0, e, h => by
    have : x = e := Option.some.inj h
    rw [this]; rfl
  | x :: ws, i + 1, e, h => congrArg (x :: ·) (set_same (ws := ws) h)
theorem putL_2s {i0 j : Nat} {ps : List Nat} {a0 b : Nat × va_E} {es : va_W} (h : (ws.set i0 a0)[j]? = some b) : putL ws (i0 :: j :: ps) (a0 :: b :: es) = putL (ws.set i0 a0) ps es := by
  show putL ((ws.set i0 a0).set j b) ps es = _
  rw [set_same h]
end FR
section KTY
/-- the array class of a type is one -/
theorem va_K_cls {D : va_G} {cl : List vw_C} {tys : List (ClassId × FieldType)} {s : State} {t0 : Nat} {c0 cA : ClassId} {ty : FieldType} (h : va_K D cl tys s) (ht : tys[t0]? = some (c0, ty)) (h2 : va_K D cl (tys ++ [(cA, ty)]) s) : cA = c0 := by
  have a1 := (h.2 t0 _ ht).2
  have a2 := (h2.2 tys.length (cA, ty) (by rw [List.getElem?_append_right (Nat.le_refl _), Nat.sub_self]; rfl)).2
  cases ty with
  | object C =>
    obtain ⟨k1, c1, -, -, -, h5⟩ := a1
    obtain ⟨k2, c2, -, -, -, h6⟩ := a2
    exact Option.some.inj (h6.symm.trans h5)
  | _ => exact Option.some.inj ((show _ = _ from a2).symm.trans a1)
end KTY
section NEW
variable {p : Program} {l : Launch} {e : Env} {R : Room} {s : State} {m : MethodId} {args : Array Value} {below : List Frame} {meth : Method} {c : Code} {H : Heap} {locs : List Loc} {cells slots : Nat} {Q : State → Prop}
variable {V : evT} {D : va_G} {tys : List (ClassId × FieldType)}
variable {cc : ByteArray} {nL pc : Nat} {ls : Array Slot} {rest st0 : List Value} {own : String} {A : Nat → Prop} {ret : Option FieldType} {ws : va_W} {H0 : Heap} {cl : List vw_C}
theorem pt_newa (hexec : p.tables.exec = Jvm.exec) (hb : c.code = cc) {atype : ArrayType} (harr : (Cond.arrayClass (newarray.typeOf atype)).before args s = true) {ty : FieldType} (hty : newarray.typeOf atype = ty) (hK : va_K D cl tys s) (t0 : Nat) {cA : ClassId} (ht : tys[t0]? = some (cA, ty)) (hP : va_P D cl ws H) (hD : va_D A ws) (hS : va_S A H0 H locs) (hA : ∀ q, H0.size ≤ q → A q)
    {n : Int32} {N' : Nat} {a0 : vp_A} (ha : ∀ cA : ClassId, vp_cell cA a0 = arrV cA N' (fun _ => defaultValue ty)) (hn : ¬ n < 0) (hN : n.toNatClampNeg = N') (hbytes : N' * componentBytes ty ≤ 536870912) (hcells : cells + 1 ≤ R.cells) (hslots : slots + N' ≤ R.slots) (hdg : decode cc pc = .ok (.newarray atype, 2))
    (kk : ∀ (q : Nat) (H1 : Heap), va_P D cl (ws ++ [(q, .inl (cA, a0))]) H1 → va_D A (ws ++ [(q, .inl (cA, a0))]) → va_S A H0 H1 locs →
      W p l e R s m args below meth c H1 locs (cells + 1) (slots + N') Q (F0 m (pc + 2) ls (.ref q :: rest))) : W p l e R s m args below meth c H locs cells slots Q (F0 m pc ls (.int n :: rest)) := by
  refine va_newa hexec hb harr hty hK hP hD hS hA ha hn hN hbytes hcells hslots hdg fun q c2 H1 hK2 hP2 hD2 hS2 => ?_
  obtain rfl := va_K_cls hK ht hK2
  exact kk q H1 hP2 hD2 hS2
theorem pt_newq (hexec : p.tables.exec = Jvm.exec) (hb : c.code = cc) {C : String} {index : Nat} (hown : s.vm.findClass own = some m.cls) (hclink : (Cond.classLink own index C).before args s = true) (hover : va_AO C s) (hK : va_K D cl tys s) (t0 : Nat) {cA : ClassId} (ht : tys[t0]? = some (cA, .object C)) (hP : va_P D cl ws H) (hD : va_D A ws) (hS : va_S A H0 H locs) (hA : ∀ q, H0.size ≤ q → A q)
    {n : Int32} {N' : Nat} (hn : ¬ n < 0) (hN : n.toNatClampNeg = N') (hbytes : N' * 4 ≤ 536870912) (hcells : cells + 1 ≤ R.cells) (hslots : slots + N' ≤ R.slots) (hdg : decode cc pc = .ok (.anewarray index, 3))
    (kk : ∀ (q : Nat) (H1 : Heap), va_P D cl (ws ++ [(q, .inl (cA, N', .inr (.inr (.inr (.inr (fun _ => none))))))]) H1 → va_D A (ws ++ [(q, .inl (cA, N', .inr (.inr (.inr (.inr (fun _ => none))))))]) → va_S A H0 H1 locs →
      W p l e R s m args below meth c H1 locs (cells + 1) (slots + N') Q (F0 m (pc + 3) ls (.ref q :: rest))) : W p l e R s m args below meth c H locs cells slots Q (F0 m pc ls (.int n :: rest)) := by
  refine va_newq hexec hb hown hclink hover hK hP hD hS hA hn hN hbytes hcells hslots hdg fun q c2 H1 hK2 hP2 hD2 hS2 => ?_
  obtain rfl := va_K_cls hK ht hK2
  exact kk q H1 hP2 hD2 hS2
/-- calls of methods that make cells: the old ones at their places, the new ones behind all -/
theorem cl_vN {S : Type} {Q1 : S → Prop} {w1 nw ws1 : S → va_W} {wc : va_W} {ps : List Nat} {mc ms : Nat} {a : Array Value} (F : ct_F p m c meth cc nL s args own ret A V D cl tys)
    (hr : va_Run p l e R s m args below meth c H locs cells slots mc ms (F0 m pc ls st0) rest (va_Qv Q1 (ct_B D cl tys wc H.size (fun u => w1 u ++ nw u)) (va_A wc H.size) a) (va_A wc H.size)) (hP : va_P D cl ws H) (hD : va_D A ws) (hS : va_S A s.heap H locs) (hC : ps.map (fun i => ws[i]?) = wc.map some) (hadr : ∀ u, (w1 u).map Prod.fst = wc.map Prod.fst) (hset : ∀ u, putL ws ps (w1 u) = ws1 u)
    (kk : ∀ (u : S) (H1 : Heap) (locs1 : List Loc), Q1 u → va_P D cl (ws1 u ++ nw u) H1 → va_D A (ws1 u ++ nw u) → va_S A s.heap H1 locs1 → W p l e R s m args below meth c H1 locs1 (cells + mc) (slots + ms) Q (F0 m (pc + 3) ls rest)) : W p l e R s m args below meth c H locs cells slots Q (F0 m pc ls st0) := by
  obtain ⟨-, -, -, hA, hK, hE⟩ := F
  have hf := va_free hD hS hA ps hC
  refine va_callv hr hS (fun q _ h => hf q h) hf (fun u t H1 locs1 ht hvm hq hB hz hk hS1 => ?_)
  obtain ⟨hP1, hK1, hD1⟩ := hB
  rw [ht] at hP1
  have hp := putL_n hP hD (fun q hq => hA q (Nat.le_trans hS.1 hq)) hC (hadr u) hk hP1 hD1
  exact kk u H1 locs1 hq (by rw [← hset]; exact hp.1) (by rw [← hset]; exact hp.2) hS1
theorem cl_iN {S : Type} {Q1 : Int32 → S → Prop} {w1 nw ws1 : S → va_W} {wc : va_W} {ps : List Nat} {mc ms : Nat} {a : Array Value} (F : ct_F p m c meth cc nL s args own ret A V D cl tys)
    (hr : va_Run p l e R s m args below meth c H locs cells slots mc ms (F0 m pc ls st0) rest (va_Qi Q1 (ct_B D cl tys wc H.size (fun u => w1 u ++ nw u)) (va_A wc H.size) a) (va_A wc H.size)) (hP : va_P D cl ws H) (hD : va_D A ws) (hS : va_S A s.heap H locs) (hC : ps.map (fun i => ws[i]?) = wc.map some) (hadr : ∀ u, (w1 u).map Prod.fst = wc.map Prod.fst) (hset : ∀ u, putL ws ps (w1 u) = ws1 u)
    (kk : ∀ (x : Int32) (u : S) (H1 : Heap) (locs1 : List Loc), Q1 x u → va_P D cl (ws1 u ++ nw u) H1 → va_D A (ws1 u ++ nw u) → va_S A s.heap H1 locs1 → W p l e R s m args below meth c H1 locs1 (cells + mc) (slots + ms) Q (F0 m (pc + 3) ls (.int x :: rest))) : W p l e R s m args below meth c H locs cells slots Q (F0 m pc ls st0) := by
  obtain ⟨-, -, -, hA, hK, hE⟩ := F
  have hf := va_free hD hS hA ps hC
  refine va_calli hr hS (fun q _ h => hf q h) hf (fun x u t H1 locs1 ht hvm hq hB hz hk hS1 => ?_)
  obtain ⟨hP1, hK1, hD1⟩ := hB
  rw [ht] at hP1
  have hp := putL_n hP hD (fun q hq => hA q (Nat.le_trans hS.1 hq)) hC (hadr u) hk hP1 hD1
  exact kk x u H1 locs1 hq (by rw [← hset]; exact hp.1) (by rw [← hset]; exact hp.2) hS1
/-- a method that returns a reference: its address ra u -/
def ct_r {S : Type} (l : Launch) (V : evT) (D : va_G) (cl : List vw_C) (tys : List (ClassId × FieldType)) (y : MethodName) (cc : ByteArray) (nL : Nat) (rt : FieldType) (rm : Room) (av : List Value) (w0 : va_W) (ra : S → Nat) (w1 : S → va_W) (Q : S → Prop) : Prop :=
  ∀ sz, Met l y (ws_ y cc nL (some rt)) rm (ct_P V D cl tys av w0 sz) (va_Qr Q (fun u a t => a = ra u ∧ ct_B D cl tys w0 sz w1 u t) (va_A w0 sz)) rm.cells rm.slots (va_A w0 sz)
def cx_r {S SX : Type} (l : Launch) (V : evT) (D : va_G) (tys : List (ClassId × FieldType)) (y : MethodName) (cc : ByteArray) (nL : Nat) (rt : FieldType) (rm : Room) (av : List Value) (w0 : va_W) (ra : S → Nat) (w1 : S → va_W) (Q : S → Prop) (wx : SX → va_W) (QX : Int32 → SX → Prop) : Prop :=
  ∀ sz, vx_Met l y (ws_ y cc nL (some rt)) rm (ct_P V D vwCl tys av w0 sz) (va_Qr Q (fun u a t => a = ra u ∧ ct_B D vwCl tys w0 sz w1 u t) (va_A w0 sz)) (cx_X D tys w0 sz wx QX) rm.cells rm.slots (va_A w0 sz)
theorem ct_ofr {y : MethodName} {rm : Room} {av : List Value} {w0 : va_W} {S : Type} {rt : FieldType} {ra : S → Nat} {w1 : S → va_W} {Q : S → Prop} (own : String) (hown : y.cls = own) (hy : plainName y.cls = true) (hlen : (lg_sl av).length ≤ nL)
    (body : ∀ (p : Program) (e : Env) (s : State) (m : MethodId) (args : Array Value) (below : List Frame) (meth : Method) (c : Code) (A : Nat → Prop), ct_F p m c meth cc nL s args own (some rt) A V D cl tys → va_P D cl w0 s.heap → va_D A w0 → (∀ ls : Array Slot, lv_has ls nL (lv_args 0 av) →
      W p l e rm s m args below meth c s.heap [] 0 0 (MQ below (va_Qr Q (fun u a t => a = ra u ∧ va_P D cl (w1 u) t.heap ∧ va_K D cl tys t ∧ va_D A (w1 u)) A) args s rm.cells rm.slots A) (F0 m 0 ls []))) : ct_r l V D cl tys y cc nL rt rm av w0 ra w1 Q := by
  intro sz
  refine Met.ofW (cc := cc) (maxL := nL) (ret := some rt) hy rfl ?_
  intro p e s m args below meth c s₁ B hml hv
  obtain ⟨rfl, hsz, hP, hK, hD0, hE⟩ := hv
  have hts := atoms_spec (ws := ws_ y cc nL (some rt)) B.pre
  have hts : ∀ w ∈ lw_all, w.before _ s = true := fun w h => hts w (List.mem_cons_of_mem _ h)
  subst hsz
  rw [lg_entry_eq]
  exact body p e s m _ below meth c (va_A w0 s.heap.size) ⟨⟨B.exec, B.bytes, hml, by rw [← hown]; exact findClass_of_methodNamed B.named, hts⟩, B.returns, B.notSynchronized, fun q h => Or.inr h, hK, hE⟩ hP hD0.self _ (lv_entry av hlen)
theorem cx_ofr {y : MethodName} {rm : Room} {av : List Value} {w0 : va_W} {S SX : Type} {rt : FieldType} {ra : S → Nat} {w1 : S → va_W} {Q : S → Prop} {wx : SX → va_W} {QX : Int32 → SX → Prop} (own : String) (hown : y.cls = own) (hy : plainName y.cls = true) (hlen : (lg_sl av).length ≤ nL)
    (body : ∀ (p : Program) (e : Env) (s : State) (m : MethodId) (args : Array Value) (below : List Frame) (meth : Method) (c : Code) (A : Nat → Prop), ct_F p m c meth cc nL s args own (some rt) A V D vwCl tys → (∀ x ∈ c.exceptionTable.toList, False) → va_P D vwCl w0 s.heap → va_D A w0 → (∀ ls : Array Slot, lv_has ls nL (lv_args 0 av) →
      W p l e rm s m args below meth c s.heap [] 0 0 (vx_MQ below (va_Qr Q (fun u a t => a = ra u ∧ va_P D vwCl (w1 u) t.heap ∧ va_K D vwCl tys t ∧ va_D A (w1 u)) A) (vx_X (S := Int32 × SX) (fun u => QX u.1 u.2) (fun E q u t => E = RX6 ∧ va_P D vwCl (wx u.2 ++ [fC q u.1]) t.heap ∧ va_K D vwCl tys t ∧ va_D A (wx u.2 ++ [fC q u.1])) A) args s rm.cells rm.slots A) (F0 m 0 ls []))) : cx_r l V D tys y cc nL rt rm av w0 ra w1 Q wx QX := by
  intro sz
  refine vx_ofW (cc := cc) (maxL := nL) (ret := some rt) hy rfl ?_
  intro p e s m args below meth c s₁ B hml htab hv
  obtain ⟨rfl, hsz, hP, hK, hD0, hE⟩ := hv
  have hts := atoms_spec (ws := ws_ y cc nL (some rt)) B.pre
  have hts : ∀ w ∈ lw_all, w.before _ s = true := fun w h => hts w (List.mem_cons_of_mem _ h)
  subst hsz
  rw [lg_entry_eq]
  exact body p e s m _ below meth c (va_A w0 s.heap.size) ⟨⟨B.exec, B.bytes, hml, by rw [← hown]; exact findClass_of_methodNamed B.named, hts⟩, B.returns, B.notSynchronized, fun q h => Or.inr h, hK, hE⟩ htab hP hD0.self _ (lv_entry av hlen)
theorem cl_rN {S : Type} {Q1 : S → Prop} {ra : S → Nat} {w1 nw ws1 : S → va_W} {wc : va_W} {ps : List Nat} {mc ms : Nat} {a : Array Value} (F : ct_F p m c meth cc nL s args own ret A V D cl tys)
    (hr : va_Run p l e R s m args below meth c H locs cells slots mc ms (F0 m pc ls st0) rest (va_Qr Q1 (fun u a t => a = ra u ∧ ct_B D cl tys wc H.size (fun u => w1 u ++ nw u) u t) (va_A wc H.size) a) (va_A wc H.size)) (hP : va_P D cl ws H) (hD : va_D A ws) (hS : va_S A s.heap H locs) (hC : ps.map (fun i => ws[i]?) = wc.map some) (hadr : ∀ u, (w1 u).map Prod.fst = wc.map Prod.fst) (hset : ∀ u, putL ws ps (w1 u) = ws1 u)
    (kk : ∀ (u : S) (H1 : Heap) (locs1 : List Loc), Q1 u → va_P D cl (ws1 u ++ nw u) H1 → va_D A (ws1 u ++ nw u) → va_S A s.heap H1 locs1 → W p l e R s m args below meth c H1 locs1 (cells + mc) (slots + ms) Q (F0 m (pc + 3) ls (.ref (ra u) :: rest))) : W p l e R s m args below meth c H locs cells slots Q (F0 m pc ls st0) := by
  obtain ⟨-, -, -, hA, hK, hE⟩ := F
  have hf := va_free hD hS hA ps hC
  refine va_callr hr hS (fun q _ h => hf q h) hf (fun u a t H1 locs1 ht hvm hq hB hz hk hS1 => ?_)
  obtain ⟨rfl, hP1, hK1, hD1⟩ := hB
  rw [ht] at hP1
  have hp := putL_n hP hD (fun q hq => hA q (Nat.le_trans hS.1 hq)) hC (hadr u) hk hP1 hD1
  exact kk u H1 locs1 hq (by rw [← hset]; exact hp.1) (by rw [← hset]; exact hp.2) hS1
theorem my_callr {A0 A1 : Nat → Prop} {S SX : Type} {post : S → Prop} {px : SX → Prop} {B : S → Nat → State → Prop} {BX : String → Addr → SX → State → Prop} {AX : Nat → Prop} {free : Addr → Prop} {mc ms : Nat} {a : Array Value} (hr : vx_Run p l e R s m args below meth c H locs cells slots mc ms (F0 m pc ls st0) rest (va_Qr post B A1 a) (vx_X px BX AX) free) (hS : va_S A0 H0 H locs) (hA : ∀ q, q < H.size → A1 q → A0 q) (hf : ∀ q, free q → A0 q) (hAX : ∀ q, q < H.size → AX q → A0 q)
    (kx : ∀ (E : String) (ce : Cell) (q9 : Addr) (u : SX) (t : State) (H1 : Heap) (locs1 : List Loc), t.heap = H1 → s.vm.Alike t.vm → px u → BX E q9 u t → H.size ≤ H1.size → (∀ q : Nat, q < H.size → ¬ AX q → H1[q]? = H[q]?) → va_S A0 H0 H1 locs1 → H1[q9]? = some ce → ce.vm = .none → s.vm.findClass E = some ce.cls → vx_W p l e R s m args below meth c H1 locs1 (cells + mc) (slots + ms) Q (F0 m pc ls rest) q9)
    (kk : ∀ (u : S) (b : Nat) (t : State) (H1 : Heap) (locs1 : List Loc), t.heap = H1 → s.vm.Alike t.vm → post u → B u b t → H.size ≤ H1.size → (∀ q : Nat, q < H.size → ¬ A1 q → H1[q]? = H[q]?) → va_S A0 H0 H1 locs1 → W p l e R s m args below meth c H1 locs1 cells slots Q (F0 m (pc + 3) ls (.ref b :: rest))) : W p l e R s m args below meth c H locs cells slots Q (F0 m pc ls st0) := by
  intro T hT X
  rcases hr T hT X with ⟨v, st₀, t, T', L, h0, X', hL, e1, e2, ⟨⟨u, b, hv, hp, hb⟩, hF⟩, st⟩ | ⟨q, st₀, t, T', L, E, ce, h0, X', hL, e1, e2, ⟨u, hp, hb, hF⟩, hce, hcv, hcl, st⟩
  · cases hv
    obtain ⟨k1, k2, k3⟩ := vx_keep h0 e1 hS hA hf hL hF
    obtain ⟨t2, a1, b1⟩ := kk u b t T'.heap (locs ++ L) e1.symm (by rw [← e2]; exact X'.warmed.alike) hp hb k1 k2 k3 T' rfl X'
    exact ⟨t2, st t2 a1, b1⟩
  · obtain ⟨k1, k2, k3⟩ := vx_keep h0 e1 hS hAX hf hL hF
    obtain ⟨t2, a1, b1⟩ := kx E ce q u t T'.heap (locs ++ L) e1.symm (by rw [← e2]; exact X'.warmed.alike) hp hb k1 k2 k3 (by rw [e1]; exact hce) hcv hcl T' rfl X'
    exact ⟨t2, st.trans a1, b1⟩
theorem clx_rL {S SX : Type} {Q1 : S → Prop} {ra : S → Nat} {w1 ws1 : S → va_W} {wx wsx : SX → va_W} {QX : Int32 → SX → Prop} {wc : va_W} {ps : List Nat} {mc ms : Nat} {a : Array Value} (F : ct_F p m c meth cc nL s args own ret A V D vwCl tys)
    (hr : vx_Run p l e R s m args below meth c H locs cells slots mc ms (F0 m pc ls st0) rest (va_Qr Q1 (fun u a t => a = ra u ∧ ct_B D vwCl tys wc H.size w1 u t) (va_A wc H.size) a) (cx_X D tys wc H.size wx QX) (va_A wc H.size)) (hP : va_P D vwCl ws H) (hD : va_D A ws) (hS : va_S A s.heap H locs) (hC : ps.map (fun i => ws[i]?) = wc.map some) (hadr : ∀ u, (w1 u).map Prod.fst = wc.map Prod.fst) (hset : ∀ u, putL ws ps (w1 u) = ws1 u) (hadx : ∀ u, (wx u).map Prod.fst = wc.map Prod.fst) (hsetx : ∀ u, putL ws ps (wx u) = wsx u)
    (kx : ∀ (q : Nat) (v : Int32) (u : SX) (H1 : Heap) (locs1 : List Loc), QX v u → va_P D vwCl (wsx u ++ [fC q v]) H1 → va_D A (wsx u ++ [fC q v]) → va_S A s.heap H1 locs1 → vx_W p l e R s m args below meth c H1 locs1 (cells + mc) (slots + ms) Q (F0 m pc ls rest) q)
    (kk : ∀ (u : S) (H1 : Heap) (locs1 : List Loc), Q1 u → va_P D vwCl (ws1 u) H1 → va_D A (ws1 u) → va_S A s.heap H1 locs1 → W p l e R s m args below meth c H1 locs1 cells slots Q (F0 m (pc + 3) ls (.ref (ra u) :: rest))) : W p l e R s m args below meth c H locs cells slots Q (F0 m pc ls st0) := by
  obtain ⟨-, -, -, hA, hK, hE⟩ := F
  have hf := va_free hD hS hA ps hC
  refine my_callr hr hS (fun q _ h => hf q h) hf (fun q _ h => hf q h) (fun E ce q9 u t H1 locs1 ht hvm hq hB hz hk hS1 hce hcv hcl => ?_) (fun u a t H1 locs1 ht hvm hq hB hz hk hS1 => ?_)
  · obtain ⟨-, hP1, hK1, hD1⟩ := hB
    rw [ht] at hP1
    have hp := putL_x hP hD (fun q hq => hA q (Nat.le_trans hS.1 hq)) hC (hadx u.2) hk hP1 hD1
    exact kx q9 u.1 u.2 H1 locs1 hq (by rw [← hsetx]; exact hp.1) (by rw [← hsetx]; exact hp.2) hS1
  · obtain ⟨rfl, hP1, hK1, hD1⟩ := hB
    rw [ht] at hP1
    have hp := putL_ok hP hD hC (hadr u) hk hP1
    exact kk u H1 locs1 hq (by rw [← hset]; exact hp.1) (by rw [← hset]; exact hp.2) hS1
theorem fr_set {xs W W' : va_W} {k : Nat} {e : Nat × va_E} (h : W.set k e = W') : (xs ++ W).set (xs.length + k) e = xs ++ W' := by
  rw [List.set_append_right _ _ (Nat.le_add_right _ _), Nat.add_sub_cancel_left, h]
theorem rt_r {S : Type} {Q : S → Prop} {ra : S → Nat} {w1 : S → va_W} {mc ms : Nat} {C : String} {q : Nat} (F : ct_F p m c meth cc nL s args own (some (.object C)) A V D cl tys) (hdg : decode cc pc = .ok (.areturn, 1)) (u : S) (ha : q = ra u) (h : Q u) (hP : va_P D cl (w1 u) H) (hD : va_D A (w1 u)) (hS : va_S A s.heap H locs) (hc : cells ≤ mc) (hs : slots ≤ ms) :
    W p l e R s m args below meth c H locs cells slots (MQ below (va_Qr Q (fun u a t => a = ra u ∧ va_P D cl (w1 u) t.heap ∧ va_K D cl tys t ∧ va_D A (w1 u)) A) args s mc ms A) (F0 m pc ls [.ref q]) := by
  obtain ⟨⟨hx, hb, hml, ho, hts⟩, hr, hlocks, hA, hK, hE⟩ := F
  refine W.widen hc hs ?_
  exact W.aret hx hb hr (Or.inl ⟨C, rfl⟩) (Or.inr ⟨q, rfl⟩) (fun t ht hW => ⟨⟨u, q, rfl, h, ha, by rw [ht]; exact hP, va_K.moved hW.alike hK, hD⟩, hS.F ht⟩) hS.2.2 hdg
end NEW
