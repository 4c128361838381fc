/-! methods that could throw, but never do (cz); methods with handlers (czW, ctW); calls with a small world of the callee's (.. L), that return or throw -/
set_option maxRecDepth 100000
section CZ
variable {V : evT} {D : va_G} {tys : List (ClassId × FieldType)}
/-- no throw -/
def cz_X : String → Addr → State → State → Prop := vx_X (S := Unit) (fun _ => False) (fun _ _ _ _ => True) (fun _ => False)
def cz_i {S : Type} (l : Launch) (V : evT) (D : va_G) (tys : List (ClassId × FieldType)) (y : MethodName) (cc : ByteArray) (nL : Nat) (rt : FieldType) (rm : Room) (av : List Value) (w0 : va_W) (w1 : S → va_W) (Q : Int32 → S → Prop) : Prop :=
  ∀ sz, vx_Met l y (ws_ y cc nL (some rt)) rm (ct_P V D vwCl tys av w0 sz) (va_Qi Q (ct_B D vwCl tys w0 sz w1) (va_A w0 sz)) cz_X rm.cells rm.slots (va_A w0 sz)
def cz_v {S : Type} (l : Launch) (V : evT) (D : va_G) (tys : List (ClassId × FieldType)) (y : MethodName) (cc : ByteArray) (nL : Nat) (rm : Room) (av : List Value) (w0 : va_W) (w1 : S → va_W) (Q : S → Prop) : Prop :=
  ∀ sz, vx_Met l y (ws_ y cc nL none) rm (ct_P V D vwCl tys av w0 sz) (va_Qv Q (ct_B D vwCl tys w0 sz w1) (va_A w0 sz)) cz_X rm.cells rm.slots (va_A w0 sz)
def czW_i {S : Type} (l : Launch) (V : evT) (D : va_G) (tys : List (ClassId × FieldType)) (y : MethodName) (cc : ByteArray) (nL : Nat) (rt : FieldType) (hh : List (Nat × Nat × Nat × Nat)) (rm : Room) (av : List Value) (w0 : va_W) (w1 : S → va_W) (Q : Int32 → S → Prop) : Prop :=
  ∀ sz, vx_Met l y (wsW_ y cc nL (some rt) hh) rm (ct_P V D vwCl tys av w0 sz) (va_Qi Q (ct_B D vwCl tys w0 sz w1) (va_A w0 sz)) cz_X rm.cells rm.slots (va_A w0 sz)
def ctW_i {S : Type} (l : Launch) (V : evT) (D : va_G) (tys : List (ClassId × FieldType)) (y : MethodName) (cc : ByteArray) (nL : Nat) (rt : FieldType) (hh : List (Nat × Nat × Nat × Nat)) (rm : Room) (av : List Value) (w0 : va_W) (w1 : S → va_W) (Q : Int32 → S → Prop) : Prop :=
  ∀ sz, Met l y (wsW_ y cc nL (some rt) hh) rm (ct_P V D vwCl tys av w0 sz) (va_Qi Q (ct_B D vwCl tys w0 sz w1) (va_A w0 sz)) rm.cells rm.slots (va_A w0 sz)
section OF
variable {l : Launch} {y : MethodName} {cc : ByteArray} {nL : Nat} {rm : Room} {av : List Value} {w0 : va_W} {hh : List (Nat × Nat × Nat × Nat)}
theorem cz_ofi {S : Type} {rt : FieldType} {w1 : S → va_W} {Q : Int32 → S → Prop} (own : String) (hown : y.cls = own) (hy : plainName y.cls = true) (hlen : (lg_sl av).length ≤ nL)
    (body : ∀ (p : Program) (e : Env) (s : State) (m : MethodId) (args : Array Value) (below : List Frame) (meth : Method) (c : Code) (A : Nat → Prop), ct_F p m c meth cc nL s args own (some rt) A V D vwCl tys → va_P D vwCl w0 s.heap → va_D A w0 → (∀ ls : Array Slot, lv_has ls nL (lv_args 0 av) →
      W p l e rm s m args below meth c s.heap [] 0 0 (vx_MQ below (va_Qi Q (fun u t => va_P D vwCl (w1 u) t.heap ∧ va_K D vwCl tys t ∧ va_D A (w1 u)) A) cz_X args s rm.cells rm.slots A) (F0 m 0 ls []))) : cz_i l V D tys y cc nL rt rm av w0 w1 Q := by
  intro sz
  refine vx_ofW (cc := cc) (maxL := nL) (ret := some rt) hy rfl ?_
  intro p e s m args below meth c s₁ B hml htab hv
  obtain ⟨rfl, hsz, hP, hK, hD0, hE⟩ := hv
  have hts := atoms_spec (ws := ws_ y cc nL (some rt)) B.pre
  have hts : ∀ w ∈ lw_all, w.before _ s = true := fun w h => hts w (List.mem_cons_of_mem _ h)
  subst hsz
  rw [lg_entry_eq]
  exact body p e s m _ below meth c (va_A w0 s.heap.size) ⟨⟨B.exec, B.bytes, hml, by rw [← hown]; exact findClass_of_methodNamed B.named, hts⟩, B.returns, B.notSynchronized, fun q h => Or.inr h, hK, hE⟩ hP hD0.self _ (lv_entry av hlen)
theorem cz_ofv {S : Type} {w1 : S → va_W} {Q : S → Prop} (own : String) (hown : y.cls = own) (hy : plainName y.cls = true) (hlen : (lg_sl av).length ≤ nL)
    (body : ∀ (p : Program) (e : Env) (s : State) (m : MethodId) (args : Array Value) (below : List Frame) (meth : Method) (c : Code) (A : Nat → Prop), ct_F p m c meth cc nL s args own none A V D vwCl tys → (y.name = meth.name) → va_P D vwCl w0 s.heap → va_D A w0 → (∀ ls : Array Slot, lv_has ls nL (lv_args 0 av) →
      W p l e rm s m args below meth c s.heap [] 0 0 (vx_MQ below (va_Qv Q (fun u t => va_P D vwCl (w1 u) t.heap ∧ va_K D vwCl tys t ∧ va_D A (w1 u)) A) cz_X args s rm.cells rm.slots A) (F0 m 0 ls []))) : cz_v l V D tys y cc nL rm av w0 w1 Q := by
  intro sz
  refine vx_ofW (cc := cc) (maxL := nL) (ret := none) hy rfl ?_
  intro p e s m args below meth c s₁ B hml htab hv
  obtain ⟨rfl, hsz, hP, hK, hD0, hE⟩ := hv
  have hts := atoms_spec (ws := ws_ y cc nL none) B.pre
  have hts : ∀ w ∈ lw_all, w.before _ s = true := fun w h => hts w (List.mem_cons_of_mem _ h)
  subst hsz
  rw [lg_entry_eq]
  exact body p e s m _ below meth c (va_A w0 s.heap.size) ⟨⟨B.exec, B.bytes, hml, by rw [← hown]; exact findClass_of_methodNamed B.named, hts⟩, B.returns, B.notSynchronized, fun q h => Or.inr h, hK, hE⟩ (name_of_methodNamed B.named B.method).1.symm hP hD0.self _ (lv_entry av hlen)
theorem czW_ofi {S : Type} {rt : FieldType} {w1 : S → va_W} {Q : Int32 → S → Prop} (own : String) (hown : y.cls = own) (hy : plainName y.cls = true) (hlen : (lg_sl av).length ≤ nL)
    (body : ∀ (p : Program) (e : Env) (s : State) (m : MethodId) (args : Array Value) (below : List Frame) (meth : Method) (c : Code) (A : Nat → Prop), ct_F p m c meth cc nL s args own (some rt) A V D vwCl tys → va_P D vwCl w0 s.heap → va_D A w0 → (∀ ls : Array Slot, lv_has ls nL (lv_args 0 av) →
      W p l e rm s m args below meth c s.heap [] 0 0 (vx_MQ below (va_Qi Q (fun u t => va_P D vwCl (w1 u) t.heap ∧ va_K D vwCl tys t ∧ va_D A (w1 u)) A) cz_X args s rm.cells rm.slots A) (F0 m 0 ls []))) : czW_i l V D tys y cc nL rt hh rm av w0 w1 Q := by
  intro sz
  refine vx_ofWH (cc := cc) (maxL := nL) (ret := some rt) (hh := hh) hy rfl ?_
  intro p e s m args below meth c s₁ B hml hv
  obtain ⟨rfl, hsz, hP, hK, hD0, hE⟩ := hv
  have hts := atoms_spec (ws := wsW_ y cc nL (some rt) hh) B.pre
  have hts : ∀ w ∈ lw_all, w.before _ s = true := fun w h => hts w (List.mem_cons_of_mem _ h)
  subst hsz
  rw [lg_entry_eq]
  exact body p e s m _ below meth c (va_A w0 s.heap.size) ⟨⟨B.exec, B.bytes, hml, by rw [← hown]; exact findClass_of_methodNamed B.named, hts⟩, B.returns, B.notSynchronized, fun q h => Or.inr h, hK, hE⟩ hP hD0.self _ (lv_entry av hlen)
/-- a method with handlers that catches what it is thrown -/
theorem ctW_ofi {S : Type} {rt : FieldType} {w1 : S → va_W} {Q : Int32 → S → Prop} (own : String) (hown : y.cls = own) (hy : plainName y.cls = true) (hlen : (lg_sl av).length ≤ nL)
    (body : ∀ (p : Program) (e : Env) (s : State) (m : MethodId) (args : Array Value) (below : List Frame) (meth : Method) (c : Code) (A : Nat → Prop), ct_F p m c meth cc nL s args own (some rt) A V D vwCl tys → c.exceptionTable.toList = tableOf hh → va_P D vwCl w0 s.heap → va_D A w0 → (∀ ls : Array Slot, lv_has ls nL (lv_args 0 av) →
      W p l e rm s m args below meth c s.heap [] 0 0 (MQ below (va_Qi Q (fun u t => va_P D vwCl (w1 u) t.heap ∧ va_K D vwCl tys t ∧ va_D A (w1 u)) A) args s rm.cells rm.slots A) (F0 m 0 ls []))) : ctW_i l V D tys y cc nL rt hh rm av w0 w1 Q := by
  intro sz
  refine va_MetW (cc := cc) (maxL := nL) (ret := some rt) (hh := hh) hy rfl ?_
  intro p e s m args below meth c s₁ B hml hv
  obtain ⟨rfl, hsz, hP, hK, hD0, hE⟩ := hv
  have hts0 := atoms_spec (ws := wsW_ y cc nL (some rt) hh) B.pre
  have hts : ∀ w ∈ lw_all, w.before _ s = true := fun w h => hts0 w (List.mem_cons_of_mem _ h)
  have htab := vx_table (x := y) B (hts0 _ List.mem_cons_self)
  subst hsz
  rw [lg_entry_eq]
  exact body p e s m _ below meth c (va_A w0 s.heap.size) ⟨⟨B.exec, B.bytes, hml, by rw [← hown]; exact findClass_of_methodNamed B.named, hts⟩, B.returns, B.notSynchronized, fun q h => Or.inr h, hK, hE⟩ htab hP hD0.self _ (lv_entry av hlen)
end OF
section WK
variable {p : Program} {l : Launch} {e : Env} {R : Room} {s : State} {m : MethodId} {args : Array Value} {below : List Frame} {meth : Method} {c : Code} {H : Heap} {locs : List Loc} {cells slots : Nat} {Qf : State → Prop}
variable {cc : ByteArray} {nL pc : Nat} {ls : Array Slot} {rest st0 : List Value} {own : String} {A : Nat → Prop} {ret : Option FieldType} {ws : va_W}
theorem clz_i {S : Type} {Q : Int32 → S → Prop} {w1 : S → va_W} {mc ms : Nat} {a : Array Value} (F : ct_F p m c meth cc nL s args own ret A V D vwCl tys)
    (hr : vx_Run p l e R s m args below meth c H locs cells slots mc ms (F0 m pc ls st0) rest (va_Qi Q (ct_B D vwCl tys ws H.size w1) (va_A ws H.size) a) cz_X (va_A ws H.size)) (hD : va_D A ws) (hS : va_S A s.heap H locs)
    (kk : ∀ (x : Int32) (u : S) (H1 : Heap) (locs1 : List Loc), Q x u → va_P D vwCl (w1 u) H1 → va_D A (w1 u) → va_S A s.heap H1 locs1 → W p l e R s m args below meth c H1 locs1 cells slots Qf (F0 m (pc + 3) ls (.int x :: rest))) : W p l e R s m args below meth c H locs cells slots Qf (F0 m pc ls st0) := by
  obtain ⟨-, -, -, hA, hK, hE⟩ := F
  have hf := ct_fr hD hS hA
  refine vx_calli hr hS (fun q _ h => hf q h) hf (fun q _ h => h.elim) (fun E ce q9 u t H1 locs1 ht hvm hq hB hz hk hS1 hce hcv hcl => hq.elim) (fun x u t H1 locs1 ht hvm hq hB hz hk hS1 => ?_)
  obtain ⟨hP1, hK1, hD1⟩ := hB
  rw [ht] at hP1
  exact kk x u H1 locs1 hq hP1 (hD1.weaken (fun _ q _ h => hf q.1 h)) hS1
theorem clz_v {S : Type} {Q : S → Prop} {w1 : S → va_W} {mc ms : Nat} {a : Array Value} (F : ct_F p m c meth cc nL s args own ret A V D vwCl tys)
    (hr : vx_Run p l e R s m args below meth c H locs cells slots mc ms (F0 m pc ls st0) rest (va_Qv Q (ct_B D vwCl tys ws H.size w1) (va_A ws H.size) a) cz_X (va_A ws H.size)) (hD : va_D A ws) (hS : va_S A s.heap H locs)
    (kk : ∀ (u : S) (H1 : Heap) (locs1 : List Loc), Q u → va_P D vwCl (w1 u) H1 → va_D A (w1 u) → va_S A s.heap H1 locs1 → W p l e R s m args below meth c H1 locs1 cells slots Qf (F0 m (pc + 3) ls rest)) : W p l e R s m args below meth c H locs cells slots Qf (F0 m pc ls st0) := by
  obtain ⟨-, -, -, hA, hK, hE⟩ := F
  have hf := ct_fr hD hS hA
  refine vx_callv hr hS (fun q _ h => hf q h) hf (fun q _ h => h.elim) (fun E ce q9 u t H1 locs1 ht hvm hq hB hz hk hS1 hce hcv hcl => hq.elim) (fun u t H1 locs1 ht hvm hq hB hz hk hS1 => ?_)
  obtain ⟨hP1, hK1, hD1⟩ := hB
  rw [ht] at hP1
  exact kk u H1 locs1 hq hP1 (hD1.weaken (fun _ q _ h => hf q.1 h)) hS1
theorem clz_iL {S : Type} {Q : Int32 → S → Prop} {w1 ws1 : S → va_W} {wc : va_W} {ps : List Nat} {mc ms : Nat} {a : Array Value} (F : ct_F p m c meth cc nL s args own ret A V D vwCl tys)
    (hr : vx_Run p l e R s m args below meth c H locs cells slots mc ms (F0 m pc ls st0) rest (va_Qi Q (ct_B D vwCl tys wc H.size w1) (va_A wc H.size) a) cz_X (va_A wc H.size)) (hP : va_P D vwCl ws H) (hD : va_D A ws) (hS : va_S A s.heap H locs) (hC : ps.map (fun i => ws[i]?) = wc.map some) (hadr : ∀ u, (w1 u).map Prod.fst = wc.map Prod.fst) (hset : ∀ u, putL ws ps (w1 u) = ws1 u)
    (kk : ∀ (x : Int32) (u : S) (H1 : Heap) (locs1 : List Loc), Q x u → va_P D vwCl (ws1 u) H1 → va_D A (ws1 u) → va_S A s.heap H1 locs1 → W p l e R s m args below meth c H1 locs1 cells slots Qf (F0 m (pc + 3) ls (.int x :: rest))) : W p l e R s m args below meth c H locs cells slots Qf (F0 m pc ls st0) := by
  obtain ⟨-, -, -, hA, hK, hE⟩ := F
  have hf := va_free hD hS hA ps hC
  refine vx_calli hr hS (fun q _ h => hf q h) hf (fun q _ h => h.elim) (fun E ce q9 u t H1 locs1 ht hvm hq hB hz hk hS1 hce hcv hcl => hq.elim) (fun x u t H1 locs1 ht hvm hq hB hz hk hS1 => ?_)
  obtain ⟨hP1, hK1, hD1⟩ := hB
  rw [ht] at hP1
  have hp := putL_ok hP hD hC (hadr u) hk hP1
  exact kk x u H1 locs1 hq (by rw [← hset]; exact hp.1) (by rw [← hset]; exact hp.2) hS1
theorem clz_vL {S : Type} {Q : S → Prop} {w1 ws1 : S → va_W} {wc : va_W} {ps : List Nat} {mc ms : Nat} {a : Array Value} (F : ct_F p m c meth cc nL s args own ret A V D vwCl tys)
    (hr : vx_Run p l e R s m args below meth c H locs cells slots mc ms (F0 m pc ls st0) rest (va_Qv Q (ct_B D vwCl tys wc H.size w1) (va_A wc H.size) a) cz_X (va_A wc H.size)) (hP : va_P D vwCl ws H) (hD : va_D A ws) (hS : va_S A s.heap H locs) (hC : ps.map (fun i => ws[i]?) = wc.map some) (hadr : ∀ u, (w1 u).map Prod.fst = wc.map Prod.fst) (hset : ∀ u, putL ws ps (w1 u) = ws1 u)
    (kk : ∀ (u : S) (H1 : Heap) (locs1 : List Loc), Q u → va_P D vwCl (ws1 u) H1 → va_D A (ws1 u) → va_S A s.heap H1 locs1 → W p l e R s m args below meth c H1 locs1 cells slots Qf (F0 m (pc + 3) ls rest)) : W p l e R s m args below meth c H locs cells slots Qf (F0 m pc ls st0) := by
  obtain ⟨-, -, -, hA, hK, hE⟩ := F
  have hf := va_free hD hS hA ps hC
  refine vx_callv hr hS (fun q _ h => hf q h) hf (fun q _ h => h.elim) (fun E ce q9 u t H1 locs1 ht hvm hq hB hz hk hS1 hce hcv hcl => hq.elim) (fun u t H1 locs1 ht hvm hq hB hz hk hS1 => ?_)
  obtain ⟨hP1, hK1, hD1⟩ := hB
  rw [ht] at hP1
  have hp := putL_ok hP hD hC (hadr u) hk hP1
  exact kk u H1 locs1 hq (by rw [← hset]; exact hp.1) (by rw [← hset]; exact hp.2) hS1
/-- what a callee that makes cells leaves: its old cells at their places, the new ones behind all -/
theorem putL_n {cl : List vw_C} {wc wx1 nw : va_W} {ps : List Nat} {H1 : Heap} (hP : va_P D cl ws H) (hD : va_D A ws) (hA : ∀ q : Nat, H.size ≤ q → A q) (hC : ps.map (fun i => ws[i]?) = wc.map some) (hadr : wx1.map Prod.fst = wc.map Prod.fst)
    (hk : ∀ q : Nat, q < H.size → ¬ va_A wc H.size q → H1[q]? = H[q]?) (hP1 : va_P D cl (wx1 ++ nw) H1) (hD1 : va_D (va_A wc H.size) (wx1 ++ nw)) : va_P D cl (putL ws ps wx1 ++ nw) H1 ∧ va_D A (putL ws ps wx1 ++ nw) := by
  have hPa : va_P D cl wx1 H1 := fun k z hz => hP1 k z (by rw [List.getElem?_append_left (List.getElem?_eq_some_iff.mp hz).1]; exact hz)
  have hat : ∀ (k : Nat) (z : Nat × va_E), nw[k]? = some z → (wx1 ++ nw)[wx1.length + k]? = some z := fun k z hz => by
    rw [List.getElem?_append_right (Nat.le_add_right _ _), Nat.add_sub_cancel_left]; exact hz
  have hPb : va_P D cl nw H1 := fun k z hz => hP1 (wx1.length + k) z (hat k z hz)
  obtain ⟨g1, g2⟩ := putL_ok hP hD hC hadr hk hPa
  have hge : ∀ (j : Nat) (z : Nat × va_E), nw[j]? = some z → H.size ≤ z.1 := fun j z hz0 => by
    have hq := hat j z hz0
    rcases hD1.2 _ _ hq with ⟨k, e, hz⟩ | h
    · exfalso
      have h5 := congrArg (fun l => l[k]?) hadr
      simp only [List.getElem?_map, hz, Option.map_some] at h5
      cases hw : wx1[k]? with
      | none => rw [hw] at h5; cases h5
      | some y =>
        rw [hw] at h5
        have h6 : y.1 = z.1 := Option.some.inj h5
        have hlt := (List.getElem?_eq_some_iff.mp hw).1
        have h7 := hD1.1 k (wx1.length + j) y z (by rw [List.getElem?_append_left hlt]; exact hw) hq h6
        omega
    · exact h
  refine ⟨g1.app hPb, g2.app ⟨fun i j x y hi hj he => ?_, fun k z hz => hA _ (hge k z hz)⟩ fun i j x y hi hj he => ?_⟩
  · have := hD1.1 _ _ x y (hat i x hi) (hat j y hj) he
    omega
  · have hgy := hge j y hj
    have hl : ps.length = wx1.length := by
      have h1 := congrArg List.length hC
      have h2 := congrArg List.length hadr
      simp at h1 h2
      omega
    rcases putL_get ps wx1 ws hl i x hi with ⟨j', h1, h2⟩ | ⟨-, h2⟩
    · obtain ⟨z, h3, h4⟩ := putL_to hC h1
      have h5 := congrArg (fun l => l[j']?) hadr
      simp only [List.getElem?_map, h2, h3, Option.map_some] at h5
      have h6 : x.1 = z.1 := Option.some.inj h5
      have := (hP i z h4).lt
      omega
    · have := (hP i x h2).lt
      omega
theorem putL_x {wc wx1 : va_W} {ps : List Nat} {H1 : Heap} {q : Nat} {e1 : va_E} (hP : va_P D vwCl ws H) (hD : va_D A ws) (hA : ∀ q : Nat, H.size ≤ q → A q) (hC : ps.map (fun i => ws[i]?) = wc.map some) (hadr : wx1.map Prod.fst = wc.map Prod.fst)
    (hk : ∀ q : Nat, q < H.size → ¬ va_A wc H.size q → H1[q]? = H[q]?) (hP1 : va_P D vwCl (wx1 ++ [(q, e1)]) H1) (hD1 : va_D (va_A wc H.size) (wx1 ++ [(q, e1)])) : va_P D vwCl (putL ws ps wx1 ++ [(q, e1)]) H1 ∧ va_D A (putL ws ps wx1 ++ [(q, e1)]) := putL_n hP hD hA hC hadr hk hP1 hD1
theorem clx_iL {S SX : Type} {Q : Int32 → S → Prop} {w1 ws1 : S → va_W} {wx wsx : SX → va_W} {QX : Int32 → SX → Prop} {wc : va_W} {ps : List Nat} {mc ms : Nat} {a : Array Value} (F : ct_F p m c meth cc nL s args own ret A V D vwCl tys)
    (hr : vx_Run p l e R s m args below meth c H locs cells slots mc ms (F0 m pc ls st0) rest (va_Qi Q (ct_B D vwCl tys wc H.size w1) (va_A wc H.size) a) (cx_X D tys wc H.size wx QX) (va_A wc H.size)) (hP : va_P D vwCl ws H) (hD : va_D A ws) (hS : va_S A s.heap H locs) (hC : ps.map (fun i => ws[i]?) = wc.map some) (hadr : ∀ u, (w1 u).map Prod.fst = wc.map Prod.fst) (hset : ∀ u, putL ws ps (w1 u) = ws1 u) (hadx : ∀ u, (wx u).map Prod.fst = wc.map Prod.fst) (hsetx : ∀ u, putL ws ps (wx u) = wsx u)
    (kx : ∀ (q : Nat) (v : Int32) (u : SX) (H1 : Heap) (locs1 : List Loc), QX v u → va_P D vwCl (wsx u ++ [fC q v]) H1 → va_D A (wsx u ++ [fC q v]) → va_S A s.heap H1 locs1 → vx_W p l e R s m args below meth c H1 locs1 (cells + mc) (slots + ms) Qf (F0 m pc ls rest) q)
    (kk : ∀ (x : Int32) (u : S) (H1 : Heap) (locs1 : List Loc), Q x u → va_P D vwCl (ws1 u) H1 → va_D A (ws1 u) → va_S A s.heap H1 locs1 → W p l e R s m args below meth c H1 locs1 cells slots Qf (F0 m (pc + 3) ls (.int x :: rest))) : W p l e R s m args below meth c H locs cells slots Qf (F0 m pc ls st0) := by
  obtain ⟨-, -, -, hA, hK, hE⟩ := F
  have hf := va_free hD hS hA ps hC
  refine vx_calli hr hS (fun q _ h => hf q h) hf (fun q _ h => hf q h) (fun E ce q9 u t H1 locs1 ht hvm hq hB hz hk hS1 hce hcv hcl => ?_) (fun x u t H1 locs1 ht hvm hq hB hz hk hS1 => ?_)
  · obtain ⟨-, hP1, hK1, hD1⟩ := hB
    rw [ht] at hP1
    have hp := putL_x hP hD (fun q hq => hA q (Nat.le_trans hS.1 hq)) hC (hadx u.2) hk hP1 hD1
    exact kx q9 u.1 u.2 H1 locs1 hq (by rw [← hsetx]; exact hp.1) (by rw [← hsetx]; exact hp.2) hS1
  · obtain ⟨hP1, hK1, hD1⟩ := hB
    rw [ht] at hP1
    have hp := putL_ok hP hD hC (hadr u) hk hP1
    exact kk x u H1 locs1 hq (by rw [← hset]; exact hp.1) (by rw [← hset]; exact hp.2) hS1
theorem clx_vL {S SX : Type} {Q : S → Prop} {w1 ws1 : S → va_W} {wx wsx : SX → va_W} {QX : Int32 → SX → Prop} {wc : va_W} {ps : List Nat} {mc ms : Nat} {a : Array Value} (F : ct_F p m c meth cc nL s args own ret A V D vwCl tys)
    (hr : vx_Run p l e R s m args below meth c H locs cells slots mc ms (F0 m pc ls st0) rest (va_Qv Q (ct_B D vwCl tys wc H.size w1) (va_A wc H.size) a) (cx_X D tys wc H.size wx QX) (va_A wc H.size)) (hP : va_P D vwCl ws H) (hD : va_D A ws) (hS : va_S A s.heap H locs) (hC : ps.map (fun i => ws[i]?) = wc.map some) (hadr : ∀ u, (w1 u).map Prod.fst = wc.map Prod.fst) (hset : ∀ u, putL ws ps (w1 u) = ws1 u) (hadx : ∀ u, (wx u).map Prod.fst = wc.map Prod.fst) (hsetx : ∀ u, putL ws ps (wx u) = wsx u)
    (kx : ∀ (q : Nat) (v : Int32) (u : SX) (H1 : Heap) (locs1 : List Loc), QX v u → va_P D vwCl (wsx u ++ [fC q v]) H1 → va_D A (wsx u ++ [fC q v]) → va_S A s.heap H1 locs1 → vx_W p l e R s m args below meth c H1 locs1 (cells + mc) (slots + ms) Qf (F0 m pc ls rest) q)
    (kk : ∀ (u : S) (H1 : Heap) (locs1 : List Loc), Q u → va_P D vwCl (ws1 u) H1 → va_D A (ws1 u) → va_S A s.heap H1 locs1 → W p l e R s m args below meth c H1 locs1 cells slots Qf (F0 m (pc + 3) ls rest)) : W p l e R s m args below meth c H locs cells slots Qf (F0 m pc ls st0) := by
  obtain ⟨-, -, -, hA, hK, hE⟩ := F
  have hf := va_free hD hS hA ps hC
  refine vx_callv hr hS (fun q _ h => hf q h) hf (fun q _ h => hf q h) (fun E ce q9 u t H1 locs1 ht hvm hq hB hz hk hS1 hce hcv hcl => ?_) (fun u t H1 locs1 ht hvm hq hB hz hk hS1 => ?_)
  · obtain ⟨-, hP1, hK1, hD1⟩ := hB
    rw [ht] at hP1
    have hp := putL_x hP hD (fun q hq => hA q (Nat.le_trans hS.1 hq)) hC (hadx u.2) hk hP1 hD1
    exact kx q9 u.1 u.2 H1 locs1 hq (by rw [← hsetx]; exact hp.1) (by rw [← hsetx]; exact hp.2) hS1
  · obtain ⟨hP1, hK1, hD1⟩ := hB
    rw [ht] at hP1
    have hp := putL_ok hP hD hC (hadr u) hk hP1
    exact kk u H1 locs1 hq (by rw [← hset]; exact hp.1) (by rw [← hset]; exact hp.2) hS1
/-- a tableswitch to its default, from holes and from outside -/
theorem pt_tableD (hexec : p.tables.exec = Jvm.exec) (hb : c.code = cc) {dflt lo hi : Int} {offs : Array Int} {len : Nat} {x : Int32} {tgt : Nat} (hdg : decode cc pc = .ok (.tableswitch dflt lo hi offs, len)) (n : Nat) (hn : hi = lo + n) (ks : List Nat) (hd : ∀ j, j < n + 1 → offs[j]? = some dflt ∨ j ∈ ks) (hx : ∀ j ∈ ks, x.toInt ≠ lo + (j : Int)) (ht : (pc : Int) + dflt = (tgt : Int))
    (k : W p l e R s m args below meth c H locs cells slots Qf (F0 m tgt ls rest)) : W p l e R s m args below meth c H locs cells slots Qf (F0 m pc ls (.int x :: rest)) := by
  by_cases h1 : x.toInt < lo
  · exact lv_tableOut hexec hb hdg (Or.inl h1) ht k
  · by_cases h2 : hi < x.toInt
    · exact lv_tableOut hexec hb hdg (Or.inr h2) ht k
    · have hj : (x.toInt - lo).toNat < n + 1 := by omega
      rcases hd _ hj with h | h
      · exact lv_tableIn hexec hb hdg h1 h2 h ht k
      · exact absurd (by omega) (hx _ h)
end WK
end CZ
