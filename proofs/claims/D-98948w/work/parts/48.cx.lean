/-! contracts of methods that return or throw a Fault -/
set_option maxRecDepth 100000
/-- a Fault, its place v, at the address q -/
abbrev fC (q : Nat) (v : Int32) : Nat × va_E := (q, .inr (5, [.int v]))
section CX
variable {V : evT} {D : va_G} {tys : List (ClassId × FieldType)}
def cx_X {SX : Type} (D : va_G) (tys : List (ClassId × FieldType)) (w0 : va_W) (sz : Nat) (wx : SX → va_W) (QX : Int32 → SX → Prop) : String → Addr → State → State → Prop :=
  vx_X (S := Int32 × SX) (fun u => QX u.1 u.2) (fun E q u t => E = RX6 ∧ va_P D vwCl (wx u.2 ++ [fC q u.1]) t.heap ∧ va_K D vwCl tys t ∧ va_D (va_A w0 sz) (wx u.2 ++ [fC q u.1])) (va_A w0 sz)
def cx_i {S SX : Type} (l : Launch) (V : evT) (D : va_G) (tys : List (ClassId × FieldType)) (y : MethodName) (cc : ByteArray) (nL : Nat) (rt : FieldType) (rm : Room) (av : List Value) (w0 : va_W) (w1 : S → va_W) (Q : Int32 → S → Prop) (wx : SX → va_W) (QX : Int32 → SX → Prop) : Prop :=
  ∀ sz, vx_Met l y (ws_ y cc nL (some rt)) rm (ct_P V D vwCl tys av w0 sz) (va_Qi Q (ct_B D vwCl tys w0 sz w1) (va_A w0 sz)) (cx_X D tys w0 sz wx QX) rm.cells rm.slots (va_A w0 sz)
def cx_v {S SX : Type} (l : Launch) (V : evT) (D : va_G) (tys : List (ClassId × FieldType)) (y : MethodName) (cc : ByteArray) (nL : Nat) (rm : Room) (av : List Value) (w0 : va_W) (w1 : S → va_W) (Q : S → Prop) (wx : SX → va_W) (QX : Int32 → SX → Prop) : Prop :=
  ∀ sz, vx_Met l y (ws_ y cc nL none) rm (ct_P V D vwCl tys av w0 sz) (va_Qv Q (ct_B D vwCl tys w0 sz w1) (va_A w0 sz)) (cx_X D tys w0 sz wx QX) rm.cells rm.slots (va_A w0 sz)
section OF
variable {l : Launch} {y : MethodName} {cc : ByteArray} {nL : Nat} {rm : Room} {av : List Value} {w0 : va_W}
theorem cx_ofi {S SX : Type} {rt : FieldType} {w1 : S → va_W} {Q : Int32 → S → Prop} {wx : SX → va_W} {QX : Int32 → SX → Prop} (own : String) (hown : y.cls = own) (hy : plainName y.cls = true) (hlen : (lg_sl av).length ≤ nL)
    (body : ∀ (p : Program) (e : Env) (s : State) (m : MethodId) (args : Array Value) (below : List Frame) (meth : Method) (c : Code) (A : Nat → Prop), ct_F p m c meth cc nL s args own (some rt) A V D vwCl tys → (∀ x ∈ c.exceptionTable.toList, False) → va_P D vwCl w0 s.heap → va_D A w0 → (∀ ls : Array Slot, lv_has ls nL (lv_args 0 av) →
      W p l e rm s m args below meth c s.heap [] 0 0 (vx_MQ below (va_Qi Q (fun u t => va_P D vwCl (w1 u) t.heap ∧ va_K D vwCl tys t ∧ va_D A (w1 u)) A) (vx_X (S := Int32 × SX) (fun u => QX u.1 u.2) (fun E q u t => E = RX6 ∧ va_P D vwCl (wx u.2 ++ [fC q u.1]) t.heap ∧ va_K D vwCl tys t ∧ va_D A (wx u.2 ++ [fC q u.1])) A) args s rm.cells rm.slots A) (F0 m 0 ls []))) : cx_i l V D tys y cc nL rt rm av w0 w1 Q wx QX := by
  intro sz
  refine vx_ofW (cc := cc) (maxL := nL) (ret := some rt) hy rfl ?_
  intro p e s m args below meth c s₁ B hml htab hv
  obtain ⟨rfl, hsz, hP, hK, hD0, hE⟩ := hv
  have hts := atoms_spec (ws := ws_ y cc nL (some rt)) B.pre
  have hts : ∀ w ∈ lw_all, w.before _ s = true := fun w h => hts w (List.mem_cons_of_mem _ h)
  subst hsz
  rw [lg_entry_eq]
  exact body p e s m _ below meth c (va_A w0 s.heap.size) ⟨⟨B.exec, B.bytes, hml, by rw [← hown]; exact findClass_of_methodNamed B.named, hts⟩, B.returns, B.notSynchronized, fun q h => Or.inr h, hK, hE⟩ htab hP hD0.self _ (lv_entry av hlen)
theorem cx_ofv {S SX : Type} {w1 : S → va_W} {Q : S → Prop} {wx : SX → va_W} {QX : Int32 → SX → Prop} (own : String) (hown : y.cls = own) (hy : plainName y.cls = true) (hlen : (lg_sl av).length ≤ nL)
    (body : ∀ (p : Program) (e : Env) (s : State) (m : MethodId) (args : Array Value) (below : List Frame) (meth : Method) (c : Code) (A : Nat → Prop), ct_F p m c meth cc nL s args own none A V D vwCl tys → (∀ x ∈ c.exceptionTable.toList, False) → va_P D vwCl w0 s.heap → va_D A w0 → (∀ ls : Array Slot, lv_has ls nL (lv_args 0 av) →
      W p l e rm s m args below meth c s.heap [] 0 0 (vx_MQ below (va_Qv Q (fun u t => va_P D vwCl (w1 u) t.heap ∧ va_K D vwCl tys t ∧ va_D A (w1 u)) A) (vx_X (S := Int32 × SX) (fun u => QX u.1 u.2) (fun E q u t => E = RX6 ∧ va_P D vwCl (wx u.2 ++ [fC q u.1]) t.heap ∧ va_K D vwCl tys t ∧ va_D A (wx u.2 ++ [fC q u.1])) A) args s rm.cells rm.slots A) (F0 m 0 ls []))) : cx_v l V D tys y cc nL rm av w0 w1 Q wx QX := by
  intro sz
  refine vx_ofW (cc := cc) (maxL := nL) (ret := none) hy rfl ?_
  intro p e s m args below meth c s₁ B hml htab hv
  obtain ⟨rfl, hsz, hP, hK, hD0, hE⟩ := hv
  have hts := atoms_spec (ws := ws_ y cc nL none) B.pre
  have hts : ∀ w ∈ lw_all, w.before _ s = true := fun w h => hts w (List.mem_cons_of_mem _ h)
  subst hsz
  rw [lg_entry_eq]
  exact body p e s m _ below meth c (va_A w0 s.heap.size) ⟨⟨B.exec, B.bytes, hml, by rw [← hown]; exact findClass_of_methodNamed B.named, hts⟩, B.returns, B.notSynchronized, fun q h => Or.inr h, hK, hE⟩ htab hP hD0.self _ (lv_entry av hlen)
end OF
section WK
variable {p : Program} {l : Launch} {e : Env} {R : Room} {s : State} {m : MethodId} {args : Array Value} {below : List Frame} {meth : Method} {c : Code} {H : Heap} {locs : List Loc} {cells slots : Nat} {Qf : State → Prop}
variable {cc : ByteArray} {nL pc : Nat} {ls : Array Slot} {rest st0 : List Value} {own : String} {A : Nat → Prop} {ret : Option FieldType} {ws : va_W}
/-- the cell of a Fault in the world -/
theorem fC_cell {q : Nat} {v : Int32} (hK : va_K D vwCl tys s) (hP : va_P D vwCl (ws ++ [fC q v]) H) : ∃ ce : Cell, H[q]? = some ce ∧ ce.vm = .none ∧ s.vm.findClass RX6 = some ce.cls := by
  obtain ⟨r, h1, cell, q1, q2, q3, -⟩ := hP ws.length (fC q v) (by simp)
  obtain ⟨-, hfc, -⟩ := hK.1 5 _ rfl
  exact ⟨cell, q1, q3, by rw [q2]; exact hfc⟩
/-- a Fault leaves the method -/
theorem rx_out {SX : Type} {Qc : Array Value → State → Outcome → State → Prop} {wx : SX → va_W} {QX : Int32 → SX → Prop} {mc ms : Nat} (F : ct_F p m c meth cc nL s args own ret A V D vwCl tys) (htab : ∀ x ∈ c.exceptionTable.toList, covers x pc = false) {q : Nat} {v : Int32} (u : SX) (h : QX v u)
    (hP : va_P D vwCl (wx u ++ [fC q v]) H) (hD : va_D A (wx u ++ [fC q v])) (hS : va_S A s.heap H locs) (hc : cells ≤ mc) (hs : slots ≤ ms) :
    vx_W p l e R s m args below meth c H locs cells slots (vx_MQ below Qc (vx_X (S := Int32 × SX) (fun u => QX u.1 u.2) (fun E q u t => E = RX6 ∧ va_P D vwCl (wx u.2 ++ [fC q u.1]) t.heap ∧ va_K D vwCl tys t ∧ va_D A (wx u.2 ++ [fC q u.1])) A) args s mc ms A) (F0 m pc ls rest) q := by
  obtain ⟨⟨hx, hb, hml, ho, hts⟩, hr, hlocks, hA, hK, hE⟩ := F
  obtain ⟨ce, h1, h2, h3⟩ := fC_cell hK hP
  exact vx_out htab hlocks h1 h2 h3 (fun t ht hW => ⟨(v, u), h, ⟨rfl, by rw [ht]; exact hP, va_K.moved hW hK, hD⟩, hS.F ht⟩) hS.2.2 hc hs
/-- a call, the callee holding the whole world: it returns, or throws -/
theorem clx_i {S SX : Type} {Q : Int32 → S → Prop} {w1 : S → va_W} {wx : SX → va_W} {QX : Int32 → SX → Prop} {mc ms : Nat} {a : Array Value} (F : ct_F p m c meth cc nL s args own ret A V D vwCl tys)
    (hr : vx_Run p l e R s m args below meth c H locs cells slots mc ms (F0 m pc ls st0) rest (va_Qi Q (ct_B D vwCl tys ws H.size w1) (va_A ws H.size) a) (cx_X D tys ws H.size wx QX) (va_A ws H.size)) (hD : va_D A ws) (hS : va_S A s.heap H locs)
    (kx : ∀ (q : Nat) (v : Int32) (u : SX) (H1 : Heap) (locs1 : List Loc), QX v u → va_P D vwCl (wx u ++ [fC q v]) H1 → va_D A (wx u ++ [fC q v]) → va_S A s.heap H1 locs1 → vx_W p l e R s m args below meth c H1 locs1 (cells + mc) (slots + ms) Qf (F0 m pc ls rest) q)
    (kk : ∀ (x : Int32) (u : S) (H1 : Heap) (locs1 : List Loc), Q x u → va_P D vwCl (w1 u) H1 → va_D A (w1 u) → va_S A s.heap H1 locs1 → W p l e R s m args below meth c H1 locs1 cells slots Qf (F0 m (pc + 3) ls (.int x :: rest))) : W p l e R s m args below meth c H locs cells slots Qf (F0 m pc ls st0) := by
  obtain ⟨-, -, -, hA, hK, hE⟩ := F
  have hf := ct_fr hD hS hA
  refine vx_calli hr hS (fun q _ h => hf q h) hf (fun q _ h => hf q h) (fun E ce q9 u t H1 locs1 ht hvm hq hB hz hk hS1 hce hcv hcl => ?_) (fun x u t H1 locs1 ht hvm hq hB hz hk hS1 => ?_)
  · obtain ⟨-, hP1, hK1, hD1⟩ := hB
    rw [ht] at hP1
    exact kx q9 u.1 u.2 H1 locs1 hq hP1 (hD1.weaken (fun _ q _ h => hf q.1 h)) hS1
  · obtain ⟨hP1, hK1, hD1⟩ := hB
    rw [ht] at hP1
    exact kk x u H1 locs1 hq hP1 (hD1.weaken (fun _ q _ h => hf q.1 h)) hS1
theorem clx_v {S SX : Type} {Q : S → Prop} {w1 : S → va_W} {wx : SX → va_W} {QX : Int32 → SX → Prop} {mc ms : Nat} {a : Array Value} (F : ct_F p m c meth cc nL s args own ret A V D vwCl tys)
    (hr : vx_Run p l e R s m args below meth c H locs cells slots mc ms (F0 m pc ls st0) rest (va_Qv Q (ct_B D vwCl tys ws H.size w1) (va_A ws H.size) a) (cx_X D tys ws H.size wx QX) (va_A ws H.size)) (hD : va_D A ws) (hS : va_S A s.heap H locs)
    (kx : ∀ (q : Nat) (v : Int32) (u : SX) (H1 : Heap) (locs1 : List Loc), QX v u → va_P D vwCl (wx u ++ [fC q v]) H1 → va_D A (wx u ++ [fC q v]) → va_S A s.heap H1 locs1 → vx_W p l e R s m args below meth c H1 locs1 (cells + mc) (slots + ms) Qf (F0 m pc ls rest) q)
    (kk : ∀ (u : S) (H1 : Heap) (locs1 : List Loc), Q u → va_P D vwCl (w1 u) H1 → va_D A (w1 u) → va_S A s.heap H1 locs1 → W p l e R s m args below meth c H1 locs1 cells slots Qf (F0 m (pc + 3) ls rest)) : W p l e R s m args below meth c H locs cells slots Qf (F0 m pc ls st0) := by
  obtain ⟨-, -, -, hA, hK, hE⟩ := F
  have hf := ct_fr hD hS hA
  refine vx_callv hr hS (fun q _ h => hf q h) hf (fun q _ h => hf q h) (fun E ce q9 u t H1 locs1 ht hvm hq hB hz hk hS1 hce hcv hcl => ?_) (fun u t H1 locs1 ht hvm hq hB hz hk hS1 => ?_)
  · obtain ⟨-, hP1, hK1, hD1⟩ := hB
    rw [ht] at hP1
    exact kx q9 u.1 u.2 H1 locs1 hq hP1 (hD1.weaken (fun _ q _ h => hf q.1 h)) hS1
  · obtain ⟨hP1, hK1, hD1⟩ := hB
    rw [ht] at hP1
    exact kk u H1 locs1 hq hP1 (hD1.weaken (fun _ q _ h => hf q.1 h)) hS1
end WK
end CX
