/-! methods that return or throw an exception of the library: of it nothing is kept but its class -/
set_option maxRecDepth 100000
def nseNames : List String := ["java/lang/RuntimeException", "java/lang/Exception"]
theorem nse_in0 : ∀ w ∈ (vx_at0 RX1 238 RJ9 nseNames).filter goodWord, w ∈ lw_tbl := by decide +kernel
theorem nse_in1 : ∀ w ∈ (vx_at0 RX1 238 RJ9 nseNames).filter (fun w => !goodWord w), w ∈ lw_tbl ∧ evK w = true := by decide +kernel
theorem nse_words {V : evT} {A : Nat → Prop} {s : State} {args : Array Value} (hts : ∀ w ∈ lw_all, w.before args s = true) (hE : ev V A s s.heap) : ∀ w ∈ vx_at0 RX1 238 RJ9 nseNames, w.before args s = true := by
  intro w hw
  cases hg : goodWord w with
  | true => exact hts w (lw_g (nse_in0 w (List.mem_filter.mpr ⟨hw, hg⟩)) hg)
  | false =>
    obtain ⟨h3, h4⟩ := nse_in1 w (List.mem_filter.mpr ⟨hw, by rw [hg]; rfl⟩)
    have h5 := hE.1 w h3 h4
    cases w <;> simp [evK] at h4
    all_goals exact va_Nw.use rfl h5
theorem nse_good : ∀ w ∈ Cond.classLink RX1 236 RJ9 :: Cond.initialized RJ9 :: vx_at0 RX1 238 RJ9 nseNames, vx_ot w = true := by decide +kernel
section CN
variable {V : evT} {D : va_G} {tys : List (ClassId × FieldType)}
/-- what is said of the throw: the class, the world, a premise -/
def cn_B (E0 : String) (D : va_G) (tys : List (ClassId × FieldType)) (w1 : va_W) (QX : Prop) (A : Nat → Prop) : String → Addr → State → State → Prop :=
  vx_X (S := Unit) (fun _ => QX) (fun E _ _ t => E = E0 ∧ va_P D vwCl w1 t.heap ∧ va_K D vwCl tys t ∧ va_D A w1) A
def cn_i {S : Type} (E0 : String) (l : Launch) (V : evT) (D : va_G) (tys : List (ClassId × FieldType)) (y : MethodName) (cc : ByteArray) (nL : Nat) (rt : FieldType) (rm : Room) (av : List Value) (w0 : va_W) (w1 : S → va_W) (Q : Int32 → S → Prop) (wx : va_W) (QX : Prop) : Prop :=
  ∀ sz, vx_Met l y (ws_ y cc nL (some rt)) rm (ct_P V D vwCl tys av w0 sz) (va_Qi Q (ct_B D vwCl tys w0 sz w1) (va_A w0 sz)) (cn_B E0 D tys wx QX (va_A w0 sz)) rm.cells rm.slots (va_A w0 sz)
def cn_l {S : Type} (E0 : String) (l : Launch) (V : evT) (D : va_G) (tys : List (ClassId × FieldType)) (y : MethodName) (cc : ByteArray) (nL : Nat) (rm : Room) (av : List Value) (w0 : va_W) (w1 : S → va_W) (Q : Int64 → S → Prop) (wx : va_W) (QX : Prop) : Prop :=
  ∀ sz, vx_Met l y (ws_ y cc nL (some .long)) rm (ct_P V D vwCl tys av w0 sz) (va_Ql Q (ct_B D vwCl tys w0 sz w1) (va_A w0 sz)) (cn_B E0 D tys wx QX (va_A w0 sz)) rm.cells rm.slots (va_A w0 sz)
section OF
variable {l : Launch} {y : MethodName} {cc : ByteArray} {nL : Nat} {rm : Room} {av : List Value} {w0 : va_W} {E0 : String}
theorem cn_ofi {S : Type} {rt : FieldType} {w1 : S → va_W} {Q : Int32 → S → Prop} {wx : va_W} {QX : Prop} (own : String) (hown : y.cls = own) (hy : plainName y.cls = true) (hlen : (lg_sl av).length ≤ nL)
    (body : ∀ (p : Program) (e : Env) (s : State) (m : MethodId) (args : Array Value) (below : List Frame) (meth : Method) (c : Code) (A : Nat → Prop), ct_F p m c meth cc nL s args own (some rt) A V D vwCl tys → (∀ x ∈ c.exceptionTable.toList, False) → va_P D vwCl w0 s.heap → va_D A w0 → (∀ ls : Array Slot, lv_has ls nL (lv_args 0 av) →
      W p l e rm s m args below meth c s.heap [] 0 0 (vx_MQ below (va_Qi Q (fun u t => va_P D vwCl (w1 u) t.heap ∧ va_K D vwCl tys t ∧ va_D A (w1 u)) A) (cn_B E0 D tys wx QX A) args s rm.cells rm.slots A) (F0 m 0 ls []))) : cn_i E0 l V D tys y cc nL rt rm av w0 w1 Q wx QX := by
  intro sz
  refine vx_ofW (cc := cc) (maxL := nL) (ret := some rt) hy rfl ?_
  intro p e s m args below meth c s₁ B hml htab hv
  obtain ⟨rfl, hsz, hP, hK, hD0, hE⟩ := hv
  have hts := atoms_spec (ws := ws_ y cc nL (some rt)) B.pre
  have hts : ∀ w ∈ lw_all, w.before _ s = true := fun w h => hts w (List.mem_cons_of_mem _ h)
  subst hsz
  rw [lg_entry_eq]
  exact body p e s m _ below meth c (va_A w0 s.heap.size) ⟨⟨B.exec, B.bytes, hml, by rw [← hown]; exact findClass_of_methodNamed B.named, hts⟩, B.returns, B.notSynchronized, fun q h => Or.inr h, hK, hE⟩ htab hP hD0.self _ (lv_entry av hlen)
theorem cn_ofl {S : Type} {w1 : S → va_W} {Q : Int64 → S → Prop} {wx : va_W} {QX : Prop} (own : String) (hown : y.cls = own) (hy : plainName y.cls = true) (hlen : (lg_sl av).length ≤ nL)
    (body : ∀ (p : Program) (e : Env) (s : State) (m : MethodId) (args : Array Value) (below : List Frame) (meth : Method) (c : Code) (A : Nat → Prop), ct_F p m c meth cc nL s args own (some .long) A V D vwCl tys → (∀ x ∈ c.exceptionTable.toList, False) → va_P D vwCl w0 s.heap → va_D A w0 → (∀ ls : Array Slot, lv_has ls nL (lv_args 0 av) →
      W p l e rm s m args below meth c s.heap [] 0 0 (vx_MQ below (va_Ql Q (fun u t => va_P D vwCl (w1 u) t.heap ∧ va_K D vwCl tys t ∧ va_D A (w1 u)) A) (cn_B E0 D tys wx QX A) args s rm.cells rm.slots A) (F0 m 0 ls []))) : cn_l E0 l V D tys y cc nL rm av w0 w1 Q wx QX := by
  intro sz
  refine vx_ofW (cc := cc) (maxL := nL) (ret := some .long) hy rfl ?_
  intro p e s m args below meth c s₁ B hml htab hv
  obtain ⟨rfl, hsz, hP, hK, hD0, hE⟩ := hv
  have hts := atoms_spec (ws := ws_ y cc nL (some .long)) B.pre
  have hts : ∀ w ∈ lw_all, w.before _ s = true := fun w h => hts w (List.mem_cons_of_mem _ h)
  subst hsz
  rw [lg_entry_eq]
  exact body p e s m _ below meth c (va_A w0 s.heap.size) ⟨⟨B.exec, B.bytes, hml, by rw [← hown]; exact findClass_of_methodNamed B.named, hts⟩, B.returns, B.notSynchronized, fun q h => Or.inr h, hK, hE⟩ htab hP hD0.self _ (lv_entry av hlen)
end OF
section WK
variable {p : Program} {l : Launch} {e : Env} {R : Room} {s : State} {m : MethodId} {args : Array Value} {below : List Frame} {meth : Method} {c : Code} {H : Heap} {locs : List Loc} {cells slots : Nat} {Qf : State → Prop}
variable {cc : ByteArray} {nL pc : Nat} {ls : Array Slot} {rest st0 : List Value} {own : String} {A : Nat → Prop} {ret : Option FieldType} {ws : va_W}
/-- new NoSuchElementException(), thrown out of the method -/
theorem rn_out {Qc : Array Value → State → Outcome → State → Prop} {QX : Prop} {mc ms : Nat} {lv : List (Nat × Value)} (F : ct_F p m c meth cc nL s args RX1 ret A V D vwCl tys) (hlt : l.stackTraces = false) (htab : ∀ x ∈ c.exceptionTable.toList, False) (hls : lv_has ls nL lv) (h : QX)
    (hP : va_P D vwCl ws H) (hD : va_D A ws) (hS : va_S A s.heap H locs)
    (d0 : decode cc pc = .ok (.new 236, 3)) (d3 : decode cc (pc + 3) = .ok (.dup, 1)) (d4 : decode cc (pc + 4) = .ok (.invokespecial 238, 3)) (d7 : decode cc (pc + 7) = .ok (.athrow, 1))
    (hRf : 5 < R.frames) (hRl : (rest.map fun v => v.category).sum + 81 ≤ R.locals) (hRc : cells + 1 ≤ R.cells) (hRs : slots + 6 ≤ R.slots) (hc : cells + 1 ≤ mc) (hs : slots + 6 ≤ ms) :
    W p l e R s m args below meth c H locs cells slots (vx_MQ below Qc (cn_B RJ9 D tys ws QX A) args s mc ms A) (F0 m pc ls rest) := by
  obtain ⟨⟨hx, hb, hml, ho, hts⟩, hr, hlocks, hA, hK, hE⟩ := F
  refine vx_throw0 (names := nseNames) hx hb hlt ho (by decide +kernel) (by decide +kernel) (hts _ q1176) (hts _ q111) (nse_words hts hE) nse_good hE.2.2.2.1 hE.2.2.2.2.1 hS (hml.trans hls.1.symm).symm d0 d3 d4 d7 (fun x hx => (htab x hx).elim) hRf hRl hRc hRs hlocks (fun t ha hsz hq => ⟨(), h, ⟨rfl, ?_, hK.moved ha, hD⟩, ?_⟩) hS.2.2 hc hs
  · exact hP.kept fun k q hk => hq _ (hP k q hk).lt
  · exact ⟨Nat.le_trans hS.1 hsz, fun q h1 h2 => by rw [hq q (Nat.lt_of_lt_of_le h1 hS.1)]; exact hS.2.1 q h1 h2⟩
/-- a call, the callee holding the whole world: it returns, or throws -/
theorem cln_i {S : Type} {E0 : String} {Q : Int32 → S → Prop} {w1 : S → va_W} {wx : va_W} {QX : Prop} {mc ms : Nat} {a : Array Value} (F : ct_F p m c meth cc nL s args own ret A V D vwCl tys)
    (hr : vx_Run p l e R s m args below meth c H locs cells slots mc ms (F0 m pc ls st0) rest (va_Qi Q (ct_B D vwCl tys ws H.size w1) (va_A ws H.size) a) (cn_B E0 D tys wx QX (va_A ws H.size)) (va_A ws H.size)) (hD : va_D A ws) (hS : va_S A s.heap H locs)
    (kx : ∀ (q : Nat) (ce : Cell) (H1 : Heap) (locs1 : List Loc), QX → va_P D vwCl wx H1 → va_D A wx → va_S A s.heap H1 locs1 → H1[q]? = some ce → ce.vm = .none → s.vm.findClass E0 = some ce.cls → vx_W p l e R s m args below meth c H1 locs1 (cells + mc) (slots + ms) Qf (F0 m pc ls rest) q)
    (kk : ∀ (x : Int32) (u : S) (H1 : Heap) (locs1 : List Loc), Q x u → va_P D vwCl (w1 u) H1 → va_D A (w1 u) → va_S A s.heap H1 locs1 → W p l e R s m args below meth c H1 locs1 cells slots Qf (F0 m (pc + 3) ls (.int x :: rest))) : W p l e R s m args below meth c H locs cells slots Qf (F0 m pc ls st0) := by
  obtain ⟨-, -, -, hA, hK, hE⟩ := F
  have hf := ct_fr hD hS hA
  refine vx_calli hr hS (fun q _ h => hf q h) hf (fun q _ h => hf q h) (fun E ce q9 u t H1 locs1 ht hvm hq hB hz hk hS1 hce hcv hcl => ?_) (fun x u t H1 locs1 ht hvm hq hB hz hk hS1 => ?_)
  · obtain ⟨rfl, hP1, hK1, hD1⟩ := hB
    rw [ht] at hP1
    exact kx q9 ce H1 locs1 hq hP1 (hD1.weaken (fun _ q _ h => hf q.1 h)) hS1 hce hcv hcl
  · obtain ⟨hP1, hK1, hD1⟩ := hB
    rw [ht] at hP1
    exact kk x u H1 locs1 hq hP1 (hD1.weaken (fun _ q _ h => hf q.1 h)) hS1
theorem cln_l {S : Type} {E0 : String} {Q : Int64 → S → Prop} {w1 : S → va_W} {wx : va_W} {QX : Prop} {mc ms : Nat} {a : Array Value} (F : ct_F p m c meth cc nL s args own ret A V D vwCl tys)
    (hr : vx_Run p l e R s m args below meth c H locs cells slots mc ms (F0 m pc ls st0) rest (va_Ql Q (ct_B D vwCl tys ws H.size w1) (va_A ws H.size) a) (cn_B E0 D tys wx QX (va_A ws H.size)) (va_A ws H.size)) (hD : va_D A ws) (hS : va_S A s.heap H locs)
    (kx : ∀ (q : Nat) (ce : Cell) (H1 : Heap) (locs1 : List Loc), QX → va_P D vwCl wx H1 → va_D A wx → va_S A s.heap H1 locs1 → H1[q]? = some ce → ce.vm = .none → s.vm.findClass E0 = some ce.cls → vx_W p l e R s m args below meth c H1 locs1 (cells + mc) (slots + ms) Qf (F0 m pc ls rest) q)
    (kk : ∀ (x : Int64) (u : S) (H1 : Heap) (locs1 : List Loc), Q x u → va_P D vwCl (w1 u) H1 → va_D A (w1 u) → va_S A s.heap H1 locs1 → W p l e R s m args below meth c H1 locs1 cells slots Qf (F0 m (pc + 3) ls (.long x :: rest))) : W p l e R s m args below meth c H locs cells slots Qf (F0 m pc ls st0) := by
  obtain ⟨-, -, -, hA, hK, hE⟩ := F
  have hf := ct_fr hD hS hA
  refine vx_calll hr hS (fun q _ h => hf q h) hf (fun q _ h => hf q h) (fun E ce q9 u t H1 locs1 ht hvm hq hB hz hk hS1 hce hcv hcl => ?_) (fun x u t H1 locs1 ht hvm hq hB hz hk hS1 => ?_)
  · obtain ⟨rfl, hP1, hK1, hD1⟩ := hB
    rw [ht] at hP1
    exact kx q9 ce H1 locs1 hq hP1 (hD1.weaken (fun _ q _ h => hf q.1 h)) hS1 hce hcv hcl
  · obtain ⟨hP1, hK1, hD1⟩ := hB
    rw [ht] at hP1
    exact kk x u H1 locs1 hq hP1 (hD1.weaken (fun _ q _ h => hf q.1 h)) hS1
end WK
end CN
