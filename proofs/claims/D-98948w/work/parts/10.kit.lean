/-! contracts in one form, calls, ends (my own) -/
set_option maxRecDepth 100000
/-! what holds all through a run, beside the words: nest mates' links, castables, the texts, statics -/
def evK : Cond → Bool
  | .fieldLinkNest _ _ _ _ _ _ => true
  | .methodLinkNest _ _ _ _ => true
  | .castable _ _ => true
  | .declares _ => true
  | _ => false
/-- the texts: class, place, text, bytes -/
def evStr : List (String × Nat × String × List Int32) := [("SandKeepsSeaModel", 224, "nwcm", [110, 119, 99, 109]), ("SandKeepsSeaModel", 232, "<>=", [60, 62, 61]), ("SandKeepsSeaModel", 234, "+-", [43, 45]), ("SandKeepsSeaModel", 236, "*/", [42, 47]), ("SandKeepsSeaModel", 377, "ghstmbw", [103, 104, 115, 116, 109, 98, 119]), ("SandKeepsSeaModel", 379, "abcdefgh", [97, 98, 99, 100, 101, 102, 103, 104]), ("SandKeepsSeaModel", 381, "abcdefghijkl", [97, 98, 99, 100, 101, 102, 103, 104, 105, 106, 107, 108]), ("SandKeepsSea$Order", 43, "ghstmbw", [103, 104, 115, 116, 109, 98, 119])]
/-- a text's bytes -/
def sB (i : Nat) : List Int32 := match evStr[i]? with
  | some q => q.2.2.2
  | none => []
/-- rows of ints in a row -/
def va_AI (U : State) : Prop := (Cond.arrayOver (.array .int)).before #[] U = true
theorem va_AI.moved {u U : State} (hvm : u.vm.Alike U.vm) (h : va_AI u) : va_AI U := by
  unfold va_AI Cond.before Cond.holds at h ⊢
  simp only [Cond.value, beq_iff_eq, Option.bind_eq_some_iff, Option.map_eq_some_iff] at h ⊢
  obtain ⟨comp, h1, c, h2, k, h3, h4⟩ := h
  obtain ⟨k', hk', he⟩ := hvm.2.2 _ _ h3
  have e1 := va_idx_bare U.vm comp
  have e2 := va_idx_bare u.vm comp
  have e3 : U.vm.bare = u.vm.bare := by first | exact hvm.bare_eq | exact hvm.bare_eq.symm
  rw [e3] at e1
  have hi := (e1.symm.trans e2).trans h2
  refine ⟨comp, by rw [hvm.findClass]; exact h1, c, hi, k', hk', ?_⟩
  rw [he]
  simp only [hvm.findClass]
  exact h4
/-- rows of rows; which rows are no others -/
def va_AN (U : State) : Prop := va_AI U ∧ va_Nc "[S" "[B" U ∧ va_Nc "[I" "[B" U ∧ va_Nc "[I" "[S" U
theorem va_AN.moved {u U : State} (hvm : u.vm.Alike U.vm) (h : va_AN u) : va_AN U := ⟨h.1.moved hvm, h.2.1.moved hvm, h.2.2.1.moved hvm, h.2.2.2.moved hvm⟩
abbrev evT : Type := (Nat → Nat) × (Nat → Nat)
def ev (V : evT) (A : Nat → Prop) (U : State) (H : Heap) : Prop :=
  (∀ w ∈ lw_tbl, evK w = true → va_Nw w U) ∧ (∀ C : String, Cond.arrayOver (.object C) ∈ lw_tbl → va_AO C U) ∧
  (∀ (i : Nat) (q : String × Nat × String × List Int32), evStr[i]? = some q → vk_R q.1 q.2.1 q.2.2.1 (V.1 i) U ∧ vk_S 1 [(sB i).length] [sB i] (fun _ => V.1 i) (fun _ => V.2 i) A U H) ∧
  vx_Zq Bundle.tN "UNASSIGNED_STACK" Bundle.steD A U H ∧ vx_Zq Bundle.tN "SUPPRESSED_SENTINEL" Bundle.listD A U H ∧ va_Z "java/lang/String" "COMPACT_STRINGS" "Z" (.int 1) A U H ∧ va_Zq "jdk/internal/util/Preconditions" "SIOOBE_FORMATTER" "Ljava/util/function/BiFunction;" A U H ∧ va_AN U
theorem evK_warm {w : Cond} (hw : evK w = true) {s U : State} (hW : s.WarmedH U.vm) (h : va_Nw w s) : va_Nw w U := by
  cases w <;> simp [evK] at hw
  all_goals first
    | exact va_Nw.warmF hW h
    | exact va_Nw.warmM hW h
    | exact va_Nw.warmC hW h
    | exact va_Nw.warmD hW h
theorem evK_same {w : Cond} (hw : evK w = true) {u U : State} (hv : u.vm = U.vm) (h : va_Nw w u) : va_Nw w U := by
  cases w <;> simp [evK] at hw
  all_goals exact va_Nw.same rfl hv h
theorem ev.warm {V : evT} {A : Nat → Prop} {s U : State} {H : Heap} (hW : s.WarmedH U.vm) (h : ev V A s H) : ev V A U H := by
  obtain ⟨h1, h2, h3, h4, h5, h6, h7, h8⟩ := h
  exact ⟨fun w a b => evK_warm b hW (h1 w a b), fun C a => va_AO.moved hW.alike (h2 C a), fun i q a => ⟨vk_R.warm hW (h3 i q a).1, vk_S.moved hW.alike (h3 i q a).2⟩, vx_Zq.moved hW.alike h4, vx_Zq.moved hW.alike h5, va_Z.moved hW.alike h6, va_Zq.moved hW.alike h7, va_AN.moved hW.alike h8⟩
theorem ev.same {V : evT} {A : Nat → Prop} {u U : State} {H : Heap} (hv : U.vm = u.vm) (h : ev V A u H) : ev V A U H := by
  have ha : u.vm.Alike U.vm := by rw [hv]; exact Vm.Alike.refl _
  obtain ⟨h1, h2, h3, h4, h5, h6, h7, h8⟩ := h
  exact ⟨fun w a b => evK_same b hv.symm (h1 w a b), fun C a => va_AO.moved ha (h2 C a), fun i q a => ⟨vk_R.same hv (h3 i q a).1, vk_S.moved ha (h3 i q a).2⟩, vx_Zq.moved ha h4, vx_Zq.moved ha h5, va_Z.moved ha h6, va_Zq.moved ha h7, va_AN.moved ha h8⟩
theorem ev.kept {V : evT} {A : Nat → Prop} {U : State} {H H1 : Heap} (h : ev V A U H) (hq : ∀ a : Nat, a < H.size → ¬ A a → H1[a]? = H[a]?) : ev V A U H1 := by
  obtain ⟨h1, h2, h3, h4, h5, h6, h7, h8⟩ := h
  exact ⟨h1, h2, fun i q a => ⟨(h3 i q a).1, vk_S.kept (h3 i q a).2 hq⟩, vx_Zq.kept h4 hq, vx_Zq.kept h5 hq, va_Z.kept h6 hq, va_Zq.kept h7 hq, h8⟩
theorem ev.narrow {V : evT} {A B : Nat → Prop} {U : State} {H : Heap} (h : ev V A U H) (hAB : ∀ q, B q → A q) : ev V B U H := by
  obtain ⟨h1, h2, h3, h4, h5, h6, h7, h8⟩ := h
  exact ⟨h1, h2, fun i q a => ⟨(h3 i q a).1, vk_S.narrow (h3 i q a).2 hAB⟩, vx_Zq.narrow h4 hAB, vx_Zq.narrow h5 hAB, va_Z.narrow h6 hAB, va_Zq.narrow h7 hAB, h8⟩
section KT
variable {V : evT} {D : va_G} {vwCl : List vw_C} {tys : List (ClassId × FieldType)}
/-- a contract: any heap that holds w0; at the end Q holds of the answer and of the new state u, and the heap holds w1 u -/
def ct_B {S : Type} (D : va_G) (cl : List vw_C) (tys : List (ClassId × FieldType)) (w0 : va_W) (sz : Nat) (w1 : S → va_W) : S → State → Prop := fun u t => va_P D cl (w1 u) t.heap ∧ va_K D cl tys t ∧ va_D (va_A w0 sz) (w1 u)
def ct_P (V : evT) (D : va_G) (cl : List vw_C) (tys : List (ClassId × FieldType)) (av : List Value) (w0 : va_W) (sz : Nat) : Array Value → State → Prop := va_Pc av (fun U => U.heap.size = sz ∧ va_P D cl w0 U.heap ∧ va_K D cl tys U ∧ va_D (fun _ => True) w0 ∧ ev V (va_A w0 sz) U U.heap)
def ct_i {S : Type} (l : Launch) (V : evT) (D : va_G) (cl : List vw_C) (tys : List (ClassId × FieldType)) (y : MethodName) (cc : ByteArray) (nL : Nat) (rt : FieldType) (rm : Room) (av : List Value) (w0 : va_W) (w1 : S → va_W) (Q : Int32 → S → Prop) : Prop :=
  ∀ sz, Met l y (ws_ y cc nL (some rt)) rm (ct_P V D cl tys av w0 sz) (va_Qi Q (ct_B D cl tys w0 sz w1) (va_A w0 sz)) rm.cells rm.slots (va_A w0 sz)
def ct_l {S : Type} (l : Launch) (V : evT) (D : va_G) (cl : List vw_C) (tys : List (ClassId × FieldType)) (y : MethodName) (cc : ByteArray) (nL : Nat) (rm : Room) (av : List Value) (w0 : va_W) (w1 : S → va_W) (Q : Int64 → S → Prop) : Prop :=
  ∀ sz, Met l y (ws_ y cc nL (some .long)) rm (ct_P V D cl tys av w0 sz) (va_Ql Q (ct_B D cl tys w0 sz w1) (va_A w0 sz)) rm.cells rm.slots (va_A w0 sz)
def ct_v {S : Type} (l : Launch) (V : evT) (D : va_G) (cl : List vw_C) (tys : List (ClassId × FieldType)) (y : MethodName) (cc : ByteArray) (nL : Nat) (rm : Room) (av : List Value) (w0 : va_W) (w1 : S → va_W) (Q : S → Prop) : Prop :=
  ∀ sz, Met l y (ws_ y cc nL none) rm (ct_P V D cl tys av w0 sz) (va_Qv Q (ct_B D cl tys w0 sz w1) (va_A w0 sz)) rm.cells rm.slots (va_A w0 sz)
theorem ct_blind {av : List Value} {w0 : va_W} {sz : Nat} {cl : List vw_C} : FrameBlind (ct_P V D cl tys av w0 sz) := fun a U g mk q => by
  obtain ⟨q0, q1, qP, qK, qD, qE⟩ := q
  exact ⟨q0, q1, qP, va_K.moved (u := U) (U := U.calling g mk a) (Vm.Alike.refl U.vm) qK, qD, ev.same (u := U) (U := U.calling g mk a) rfl qE⟩
/-- what holds all through a method's walk -/
def ct_F (p : Program) (m : MethodId) (c : Code) (meth : Method) (cc : ByteArray) (nL : Nat) (s : State) (args : Array Value) (own : String) (ret : Option FieldType) (A : Nat → Prop) (V : evT) (D : va_G) (cl : List vw_C) (tys : List (ClassId × FieldType)) : Prop :=
  CallFix p m c cc nL s args lw_all own ∧ meth.sig.returnType = ret ∧ meth.locks = false ∧ (∀ q : Nat, s.heap.size ≤ q → A q) ∧ va_K D cl tys s ∧ ev V A s s.heap
section OF
variable {l : Launch} {cl : List vw_C} {y : MethodName} {cc : ByteArray} {nL : Nat} {rm : Room} {av : List Value} {w0 : va_W}
theorem ct_ofi {S : Type} {rt : FieldType} {w1 : S → va_W} {Q : Int32 → S → Prop} (own : String) (hown : y.cls = own) (hy : plainName y.cls = true) (hlen : (lg_sl av).length ≤ nL)
    (body : ∀ (p : Program) (e : Env) (s : State) (m : MethodId) (args : Array Value) (below : List Frame) (meth : Method) (c : Code) (A : Nat → Prop), ct_F p m c meth cc nL s args own (some rt) A V D cl tys → va_P D cl w0 s.heap → va_D A w0 → (∀ ls : Array Slot, lv_has ls nL (lv_args 0 av) →
      W p l e rm s m args below meth c s.heap [] 0 0 (MQ below (va_Qi Q (fun u t => va_P D cl (w1 u) t.heap ∧ va_K D cl tys t ∧ va_D A (w1 u)) A) args s rm.cells rm.slots A) (F0 m 0 ls []))) : ct_i l V D cl tys y cc nL rt rm av w0 w1 Q := by
  intro sz
  refine Met.ofW (cc := cc) (maxL := nL) (ret := some rt) hy rfl ?_
  intro p e s m args below meth c s₁ B hml hv
  obtain ⟨rfl, hsz, hP, hK, hD0, hE⟩ := hv
  have hts := atoms_spec (ws := ws_ y cc nL (some rt)) B.pre
  have hts : ∀ w ∈ lw_all, w.before _ s = true := fun w h => hts w (List.mem_cons_of_mem _ h)
  subst hsz
  rw [lg_entry_eq]
  exact body p e s m _ below meth c (va_A w0 s.heap.size) ⟨⟨B.exec, B.bytes, hml, by rw [← hown]; exact findClass_of_methodNamed B.named, hts⟩, B.returns, B.notSynchronized, fun q h => Or.inr h, hK, hE⟩ hP hD0.self _ (lv_entry av hlen)
theorem ct_ofl {S : Type} {w1 : S → va_W} {Q : Int64 → S → Prop} (own : String) (hown : y.cls = own) (hy : plainName y.cls = true) (hlen : (lg_sl av).length ≤ nL)
    (body : ∀ (p : Program) (e : Env) (s : State) (m : MethodId) (args : Array Value) (below : List Frame) (meth : Method) (c : Code) (A : Nat → Prop), ct_F p m c meth cc nL s args own (some .long) A V D cl tys → va_P D cl w0 s.heap → va_D A w0 → (∀ ls : Array Slot, lv_has ls nL (lv_args 0 av) →
      W p l e rm s m args below meth c s.heap [] 0 0 (MQ below (va_Ql Q (fun u t => va_P D cl (w1 u) t.heap ∧ va_K D cl tys t ∧ va_D A (w1 u)) A) args s rm.cells rm.slots A) (F0 m 0 ls []))) : ct_l l V D cl tys y cc nL rm av w0 w1 Q := by
  intro sz
  refine Met.ofW (cc := cc) (maxL := nL) (ret := some .long) hy rfl ?_
  intro p e s m args below meth c s₁ B hml hv
  obtain ⟨rfl, hsz, hP, hK, hD0, hE⟩ := hv
  have hts := atoms_spec (ws := ws_ y cc nL (some .long)) B.pre
  have hts : ∀ w ∈ lw_all, w.before _ s = true := fun w h => hts w (List.mem_cons_of_mem _ h)
  subst hsz
  rw [lg_entry_eq]
  exact body p e s m _ below meth c (va_A w0 s.heap.size) ⟨⟨B.exec, B.bytes, hml, by rw [← hown]; exact findClass_of_methodNamed B.named, hts⟩, B.returns, B.notSynchronized, fun q h => Or.inr h, hK, hE⟩ hP hD0.self _ (lv_entry av hlen)
theorem ct_ofv {S : Type} {w1 : S → va_W} {Q : S → Prop} (own : String) (hown : y.cls = own) (hy : plainName y.cls = true) (hlen : (lg_sl av).length ≤ nL)
    (body : ∀ (p : Program) (e : Env) (s : State) (m : MethodId) (args : Array Value) (below : List Frame) (meth : Method) (c : Code) (A : Nat → Prop), ct_F p m c meth cc nL s args own none A V D cl tys → (y.name = meth.name) → va_P D cl w0 s.heap → va_D A w0 → (∀ ls : Array Slot, lv_has ls nL (lv_args 0 av) →
      W p l e rm s m args below meth c s.heap [] 0 0 (MQ below (va_Qv Q (fun u t => va_P D cl (w1 u) t.heap ∧ va_K D cl tys t ∧ va_D A (w1 u)) A) args s rm.cells rm.slots A) (F0 m 0 ls []))) : ct_v l V D cl tys y cc nL rm av w0 w1 Q := by
  intro sz
  refine Met.ofW (cc := cc) (maxL := nL) (ret := none) hy rfl ?_
  intro p e s m args below meth c s₁ B hml hv
  obtain ⟨rfl, hsz, hP, hK, hD0, hE⟩ := hv
  have hts := atoms_spec (ws := ws_ y cc nL none) B.pre
  have hts : ∀ w ∈ lw_all, w.before _ s = true := fun w h => hts w (List.mem_cons_of_mem _ h)
  subst hsz
  rw [lg_entry_eq]
  exact body p e s m _ below meth c (va_A w0 s.heap.size) ⟨⟨B.exec, B.bytes, hml, by rw [← hown]; exact findClass_of_methodNamed B.named, hts⟩, B.returns, B.notSynchronized, fun q h => Or.inr h, hK, hE⟩ (name_of_methodNamed B.named B.method).1.symm hP hD0.self _ (lv_entry av hlen)
end OF
section PL
/-- cells put back at their places -/
def putL : va_W → List Nat → va_W → va_W
  | ws, p :: ps, e :: es => putL (ws.set p e) ps es
  | ws, _, _ => ws
theorem putL_get : ∀ (ps : List Nat) (es ws : va_W), ps.length = es.length → ∀ (k : Nat) (q : Nat × va_E), (putL ws ps es)[k]? = some q → (∃ j : Nat, ps[j]? = some k ∧ es[j]? = some q) ∨ (k ∉ ps ∧ ws[k]? = some q)
  | [], es, ws, hl, k, q, h => by
    cases es with
    | nil => exact Or.inr ⟨List.not_mem_nil, h⟩
    | cons e es => simp at hl
  | p :: ps, es, ws, hl, k, q, h => by
    cases es with
    | nil => simp at hl
    | cons e es =>
      rcases putL_get ps es (ws.set p e) (by simpa using hl) k q h with ⟨j, h1, h2⟩ | ⟨h1, h2⟩
      · exact Or.inl ⟨j + 1, by simpa using h1, by simpa using h2⟩
      · by_cases hk : k = p
        · subst hk
          have hlt : k < ws.length := by
            have := (List.getElem?_eq_some_iff.mp h2).1
            simpa using this
          rw [List.getElem?_set_self hlt] at h2
          exact Or.inl ⟨0, rfl, h2⟩
        · rw [List.getElem?_set_ne (Ne.symm hk)] at h2
          exact Or.inr ⟨by simp [hk, h1], h2⟩
theorem putL_of {ws wc : va_W} {ps : List Nat} (hC : ps.map (fun i => ws[i]?) = wc.map some) {j : Nat} {q : Nat × va_E} (h : wc[j]? = some q) : ∃ i, ps[j]? = some i ∧ ws[i]? = some q := by
  have h1 : (ps.map (fun i => ws[i]?))[j]? = some (some q) := by rw [hC, List.getElem?_map, h]; rfl
  rw [List.getElem?_map] at h1
  cases hi : ps[j]? with
  | none => rw [hi] at h1; cases h1
  | some i => rw [hi] at h1; exact ⟨i, rfl, Option.some.inj h1⟩
theorem putL_to {ws wc : va_W} {ps : List Nat} (hC : ps.map (fun i => ws[i]?) = wc.map some) {j i : Nat} (h : ps[j]? = some i) : ∃ q, wc[j]? = some q ∧ ws[i]? = some q := by
  have h1 : (wc.map some)[j]? = some (ws[i]?) := by rw [← hC, List.getElem?_map, h]; rfl
  rw [List.getElem?_map] at h1
  cases hi : wc[j]? with
  | none => rw [hi] at h1; cases h1
  | some q => rw [hi] at h1; exact ⟨q, rfl, (Option.some.inj h1).symm⟩
theorem putL_ok {A : Nat → Prop} {cl : List vw_C} {ws wc w1 : va_W} {ps : List Nat} {H H1 : Heap} (hP : va_P D cl ws H) (hD : va_D A ws) (hC : ps.map (fun i => ws[i]?) = wc.map some) (hadr : w1.map Prod.fst = wc.map Prod.fst)
    (hk : ∀ q : Nat, q < H.size → ¬ va_A wc H.size q → H1[q]? = H[q]?) (hP1 : va_P D cl w1 H1) : va_P D cl (putL ws ps w1) H1 ∧ va_D A (putL ws ps w1) := by
  have hl : ps.length = w1.length := by
    have h1 := congrArg List.length hC
    have h2 := congrArg List.length hadr
    simp at h1 h2
    omega
  have fst : ∀ (k : Nat) (q : Nat × va_E), (putL ws ps w1)[k]? = some q → ∃ q0, ws[k]? = some q0 ∧ q0.1 = q.1 := by
    intro k q h
    rcases putL_get ps w1 ws hl k q h with ⟨j, h1, h2⟩ | ⟨-, h2⟩
    · obtain ⟨q0, h3, h4⟩ := putL_to hC h1
      refine ⟨q0, h4, ?_⟩
      have h5 := congrArg (fun l => l[j]?) hadr
      simp only [List.getElem?_map, h2, h3, Option.map_some] at h5
      exact (Option.some.inj h5).symm
    · exact ⟨q, h2, rfl⟩
  refine ⟨fun k q h => ?_, fun i j x y hx hy hxy => ?_, fun k q h => ?_⟩
  · rcases putL_get ps w1 ws hl k q h with ⟨j, h1, h2⟩ | ⟨h1, h2⟩
    · exact hP1 j q h2
    · refine (hP k q h2).kept (hk q.1 (hP k q h2).lt ?_)
      rintro (⟨j, e, h3⟩ | h3)
      · obtain ⟨i, h4, h5⟩ := putL_of hC h3
        have := hD.1 k i q (q.1, e) h2 h5 rfl
        subst this
        exact h1 (List.mem_of_getElem? h4)
      · exact absurd (hP k q h2).lt (Nat.not_lt.mpr h3)
  · obtain ⟨x0, h1, h2⟩ := fst i x hx
    obtain ⟨y0, h3, h4⟩ := fst j y hy
    exact hD.1 i j x0 y0 h1 h3 (h2.trans (hxy.trans h4.symm))
  · obtain ⟨q0, h1, h2⟩ := fst k q h
    rw [← h2]
    exact hD.2 k q0 h1
theorem putL_P {cl : List vw_C} {ws wc : va_W} {ps : List Nat} {H : Heap} (hP : va_P D cl ws H) (hC : ps.map (fun i => ws[i]?) = wc.map some) : va_P D cl wc H := fun j q h => by
  obtain ⟨i, -, h2⟩ := putL_of hC h
  exact hP i q h2
end PL
section WK
variable {p : Program} {l : Launch} {e : Env} {R : Room} {s : State} {m : MethodId} {args : Array Value} {below : List Frame} {meth : Method} {c : Code} {H : Heap} {locs : List Loc} {cells slots : Nat} {Qf : State → Prop}
variable {cl : List vw_C} {cc : ByteArray} {nL pc : Nat} {ls : Array Slot} {rest st0 : List Value} {own : String} {A : Nat → Prop} {ret : Option FieldType} {ws : va_W}
theorem rt_i {S : Type} {Q : Int32 → S → Prop} {w1 : S → va_W} {mc ms : Nat} {rt : FieldType} {v : Int32} (F : ct_F p m c meth cc nL s args own (some rt) A V D cl tys) (hdg : decode cc pc = .ok (.ireturn, 1)) (hn : narrow rt (.int v) = .int v) (u : S) (h : Q v u) (hP : va_P D cl (w1 u) H) (hD : va_D A (w1 u)) (hS : va_S A s.heap H locs) (hc : cells ≤ mc) (hs : slots ≤ ms) :
    W p l e R s m args below meth c H locs cells slots (MQ below (va_Qi Q (fun u t => va_P D cl (w1 u) t.heap ∧ va_K D cl tys t ∧ va_D A (w1 u)) A) args s mc ms A) (F0 m pc ls [.int v]) := by
  obtain ⟨⟨hx, hb, hml, ho, hts⟩, hr, hlocks, hA, hK, hE⟩ := F
  refine W.widen hc hs ?_
  exact W.zret hx hb hr hn (fun t ht hW => ⟨⟨v, u, rfl, h, by rw [ht]; exact hP, va_K.moved hW.alike hK, hD⟩, hS.F ht⟩) hS.2.2 hdg
theorem rt_l {S : Type} {Q : Int64 → S → Prop} {w1 : S → va_W} {mc ms : Nat} {v : Int64} (F : ct_F p m c meth cc nL s args own (some .long) A V D cl tys) (hdg : decode cc pc = .ok (.lreturn, 1)) (u : S) (h : Q v u) (hP : va_P D cl (w1 u) H) (hD : va_D A (w1 u)) (hS : va_S A s.heap H locs) (hc : cells ≤ mc) (hs : slots ≤ ms) :
    W p l e R s m args below meth c H locs cells slots (MQ below (va_Ql Q (fun u t => va_P D cl (w1 u) t.heap ∧ va_K D cl tys t ∧ va_D A (w1 u)) A) args s mc ms A) (F0 m pc ls [.long v]) := by
  obtain ⟨⟨hx, hb, hml, ho, hts⟩, hr, hlocks, hA, hK, hE⟩ := F
  refine W.widen hc hs ?_
  exact W.lret hx hb hr (fun t ht hW => ⟨⟨v, u, rfl, h, by rw [ht]; exact hP, va_K.moved hW.alike hK, hD⟩, hS.F ht⟩) hS.2.2 hdg
theorem rt_v {S : Type} {Q : S → Prop} {w1 : S → va_W} {mc ms : Nat} (F : ct_F p m c meth cc nL s args own none A V D cl tys) (hdg : decode cc pc = .ok (.return_, 1)) (u : S) (h : Q u) (hP : va_P D cl (w1 u) H) (hD : va_D A (w1 u)) (hS : va_S A s.heap H locs) (hc : cells ≤ mc) (hs : slots ≤ ms) :
    W p l e R s m args below meth c H locs cells slots (MQ below (va_Qv Q (fun u t => va_P D cl (w1 u) t.heap ∧ va_K D cl tys t ∧ va_D A (w1 u)) A) args s mc ms A) (F0 m pc ls []) := by
  obtain ⟨⟨hx, hb, hml, ho, hts⟩, hr, hlocks, hA, hK, hE⟩ := F
  refine W.widen hc hs ?_
  exact W.vret hx hb hr (fun t ht hW => ⟨⟨u, rfl, h, by rw [ht]; exact hP, va_K.moved hW.alike hK, hD⟩, hS.F ht⟩) hS.2.2 hdg
/-- a world's cells, and new ones, lie in A -/
theorem ct_fr (hD : va_D A ws) (hS : va_S A s.heap H locs) (hA : ∀ q : Nat, s.heap.size ≤ q → A q) : ∀ q, va_A ws H.size q → A q := by
  intro q h
  rcases h with ⟨k, e, h⟩ | h
  · exact hD.2 k (q, e) h
  · exact hA q (Nat.le_trans hS.1 h)
theorem ct_fr0 {A : Nat → Prop} (hS : va_S A s.heap H locs) (hA : ∀ q : Nat, s.heap.size ≤ q → A q) : ∀ q, va_A [] H.size q → A q := by
  intro q h
  rcases h with ⟨k, e, h⟩ | h
  · simp at h
  · exact hA q (Nat.le_trans hS.1 h)
theorem ct_at {w0 : va_W} {av : List Value} (F : ct_F p m c meth cc nL s args own ret A V D cl tys) (hS : va_S A s.heap H locs) (hP : va_P D cl w0 H) (hD : va_D A w0) : ∀ U : State, U.heap = H → s.WarmedH U.vm → ct_P V D cl tys av w0 H.size av.toArray U := by
  obtain ⟨-, -, -, hA, hK, hE⟩ := F
  intro U hU hW
  refine ⟨rfl, by rw [hU], by rw [hU]; exact hP, va_K.moved hW.alike hK, hD.weaken (fun _ _ _ _ => trivial), ?_⟩
  rw [hU]
  exact ((hE.kept fun q h1 h2 => hS.2.1 q h1 h2).narrow (ct_fr hD hS hA)).warm hW
/-- a call whose callee holds the whole world -/
theorem cl_i {S : Type} {Q : Int32 → S → Prop} {w1 : S → va_W} {mc ms : Nat} {a : Array Value} (F : ct_F p m c meth cc nL s args own ret A V D cl tys)
    (hr : va_Run p l e R s m args below meth c H locs cells slots mc ms (F0 m pc ls st0) rest (va_Qi Q (ct_B D cl tys ws H.size w1) (va_A ws H.size) a) (va_A ws H.size)) (hm0 : mc = 0) (hs0 : ms = 0) (hD : va_D A ws) (hS : va_S A s.heap H locs)
    (kk : ∀ (x : Int32) (u : S) (H1 : Heap) (locs1 : List Loc), Q x u → va_P D cl (w1 u) H1 → va_D A (w1 u) → va_S A s.heap H1 locs1 → W p l e R s m args below meth c H1 locs1 cells slots Qf (F0 m (pc + 3) ls (.int x :: rest))) : W p l e R s m args below meth c H locs cells slots Qf (F0 m pc ls st0) := by
  subst hm0; subst hs0
  obtain ⟨-, -, -, hA, hK, hE⟩ := F
  have hf := ct_fr hD hS hA
  refine va_calli hr hS (fun q _ h => hf q h) hf (fun x u t H1 locs1 ht hvm hq hB hz hk hS1 => ?_)
  obtain ⟨hP1, hK1, hD1⟩ := hB
  rw [ht] at hP1
  exact kk x u H1 locs1 hq hP1 (hD1.weaken (fun _ q _ h => hf q.1 h)) hS1
theorem cl_l {S : Type} {Q : Int64 → S → Prop} {w1 : S → va_W} {mc ms : Nat} {a : Array Value} (F : ct_F p m c meth cc nL s args own ret A V D cl tys)
    (hr : va_Run p l e R s m args below meth c H locs cells slots mc ms (F0 m pc ls st0) rest (va_Ql Q (ct_B D cl tys ws H.size w1) (va_A ws H.size) a) (va_A ws H.size)) (hm0 : mc = 0) (hs0 : ms = 0) (hD : va_D A ws) (hS : va_S A s.heap H locs)
    (kk : ∀ (x : Int64) (u : S) (H1 : Heap) (locs1 : List Loc), Q x u → va_P D cl (w1 u) H1 → va_D A (w1 u) → va_S A s.heap H1 locs1 → W p l e R s m args below meth c H1 locs1 cells slots Qf (F0 m (pc + 3) ls (.long x :: rest))) : W p l e R s m args below meth c H locs cells slots Qf (F0 m pc ls st0) := by
  subst hm0; subst hs0
  obtain ⟨-, -, -, hA, hK, hE⟩ := F
  have hf := ct_fr hD hS hA
  refine va_calll hr hS (fun q _ h => hf q h) hf (fun x u t H1 locs1 ht hvm hq hB hz hk hS1 => ?_)
  obtain ⟨hP1, hK1, hD1⟩ := hB
  rw [ht] at hP1
  exact kk x u H1 locs1 hq hP1 (hD1.weaken (fun _ q _ h => hf q.1 h)) hS1
theorem cl_v {S : Type} {Q : S → Prop} {w1 : S → va_W} {mc ms : Nat} {a : Array Value} (F : ct_F p m c meth cc nL s args own ret A V D cl tys)
    (hr : va_Run p l e R s m args below meth c H locs cells slots mc ms (F0 m pc ls st0) rest (va_Qv Q (ct_B D cl tys ws H.size w1) (va_A ws H.size) a) (va_A ws H.size)) (hm0 : mc = 0) (hs0 : ms = 0) (hD : va_D A ws) (hS : va_S A s.heap H locs)
    (kk : ∀ (u : S) (H1 : Heap) (locs1 : List Loc), Q u → va_P D cl (w1 u) H1 → va_D A (w1 u) → va_S A s.heap H1 locs1 → W p l e R s m args below meth c H1 locs1 cells slots Qf (F0 m (pc + 3) ls rest)) : W p l e R s m args below meth c H locs cells slots Qf (F0 m pc ls st0) := by
  subst hm0; subst hs0
  obtain ⟨-, -, -, hA, hK, hE⟩ := F
  have hf := ct_fr hD hS hA
  refine va_callv hr hS (fun q _ h => hf q h) hf (fun u t H1 locs1 ht hvm hq hB hz hk hS1 => ?_)
  obtain ⟨hP1, hK1, hD1⟩ := hB
  rw [ht] at hP1
  exact kk u H1 locs1 hq hP1 (hD1.weaken (fun _ q _ h => hf q.1 h)) hS1
theorem cl_iL {S : Type} {Q : Int32 → S → Prop} {w1 ws1 : S → va_W} {wc : va_W} {ps : List Nat} {mc ms : Nat} {a : Array Value} (F : ct_F p m c meth cc nL s args own ret A V D cl tys)
    (hr : va_Run p l e R s m args below meth c H locs cells slots mc ms (F0 m pc ls st0) rest (va_Qi Q (ct_B D cl tys wc H.size w1) (va_A wc H.size) a) (va_A wc H.size)) (hm0 : mc = 0) (hs0 : ms = 0) (hP : va_P D cl ws H) (hD : va_D A ws) (hS : va_S A s.heap H locs) (hC : ps.map (fun i => ws[i]?) = wc.map some) (hadr : ∀ u, (w1 u).map Prod.fst = wc.map Prod.fst) (hset : ∀ u, putL ws ps (w1 u) = ws1 u)
    (kk : ∀ (x : Int32) (u : S) (H1 : Heap) (locs1 : List Loc), Q x u → va_P D cl (ws1 u) H1 → va_D A (ws1 u) → va_S A s.heap H1 locs1 → W p l e R s m args below meth c H1 locs1 cells slots Qf (F0 m (pc + 3) ls (.int x :: rest))) : W p l e R s m args below meth c H locs cells slots Qf (F0 m pc ls st0) := by
  subst hm0; subst hs0
  obtain ⟨-, -, -, hA, hK, hE⟩ := F
  have hf := va_free hD hS hA ps hC
  refine va_calli hr hS (fun q _ h => hf q h) hf (fun x u t H1 locs1 ht hvm hq hB hz hk hS1 => ?_)
  obtain ⟨hP1, hK1, hD1⟩ := hB
  rw [ht] at hP1
  have hp := putL_ok hP hD hC (hadr u) hk hP1
  exact kk x u H1 locs1 hq (by rw [← hset]; exact hp.1) (by rw [← hset]; exact hp.2) hS1
theorem cl_lL {S : Type} {Q : Int64 → S → Prop} {w1 ws1 : S → va_W} {wc : va_W} {ps : List Nat} {mc ms : Nat} {a : Array Value} (F : ct_F p m c meth cc nL s args own ret A V D cl tys)
    (hr : va_Run p l e R s m args below meth c H locs cells slots mc ms (F0 m pc ls st0) rest (va_Ql Q (ct_B D cl tys wc H.size w1) (va_A wc H.size) a) (va_A wc H.size)) (hm0 : mc = 0) (hs0 : ms = 0) (hP : va_P D cl ws H) (hD : va_D A ws) (hS : va_S A s.heap H locs) (hC : ps.map (fun i => ws[i]?) = wc.map some) (hadr : ∀ u, (w1 u).map Prod.fst = wc.map Prod.fst) (hset : ∀ u, putL ws ps (w1 u) = ws1 u)
    (kk : ∀ (x : Int64) (u : S) (H1 : Heap) (locs1 : List Loc), Q x u → va_P D cl (ws1 u) H1 → va_D A (ws1 u) → va_S A s.heap H1 locs1 → W p l e R s m args below meth c H1 locs1 cells slots Qf (F0 m (pc + 3) ls (.long x :: rest))) : W p l e R s m args below meth c H locs cells slots Qf (F0 m pc ls st0) := by
  subst hm0; subst hs0
  obtain ⟨-, -, -, hA, hK, hE⟩ := F
  have hf := va_free hD hS hA ps hC
  refine va_calll hr hS (fun q _ h => hf q h) hf (fun x u t H1 locs1 ht hvm hq hB hz hk hS1 => ?_)
  obtain ⟨hP1, hK1, hD1⟩ := hB
  rw [ht] at hP1
  have hp := putL_ok hP hD hC (hadr u) hk hP1
  exact kk x u H1 locs1 hq (by rw [← hset]; exact hp.1) (by rw [← hset]; exact hp.2) hS1
theorem cl_vL {S : Type} {Q : S → Prop} {w1 ws1 : S → va_W} {wc : va_W} {ps : List Nat} {mc ms : Nat} {a : Array Value} (F : ct_F p m c meth cc nL s args own ret A V D cl tys)
    (hr : va_Run p l e R s m args below meth c H locs cells slots mc ms (F0 m pc ls st0) rest (va_Qv Q (ct_B D cl tys wc H.size w1) (va_A wc H.size) a) (va_A wc H.size)) (hm0 : mc = 0) (hs0 : ms = 0) (hP : va_P D cl ws H) (hD : va_D A ws) (hS : va_S A s.heap H locs) (hC : ps.map (fun i => ws[i]?) = wc.map some) (hadr : ∀ u, (w1 u).map Prod.fst = wc.map Prod.fst) (hset : ∀ u, putL ws ps (w1 u) = ws1 u)
    (kk : ∀ (u : S) (H1 : Heap) (locs1 : List Loc), Q u → va_P D cl (ws1 u) H1 → va_D A (ws1 u) → va_S A s.heap H1 locs1 → W p l e R s m args below meth c H1 locs1 cells slots Qf (F0 m (pc + 3) ls rest)) : W p l e R s m args below meth c H locs cells slots Qf (F0 m pc ls st0) := by
  subst hm0; subst hs0
  obtain ⟨-, -, -, hA, hK, hE⟩ := F
  have hf := va_free hD hS hA ps hC
  refine va_callv hr hS (fun q _ h => hf q h) hf (fun u t H1 locs1 ht hvm hq hB hz hk hS1 => ?_)
  obtain ⟨hP1, hK1, hD1⟩ := hB
  rw [ht] at hP1
  have hp := putL_ok hP hD hC (hadr u) hk hP1
  exact kk u H1 locs1 hq (by rw [← hset]; exact hp.1) (by rw [← hset]; exact hp.2) hS1
/-- a call that asks no cells: the world stays -/
theorem cl_i0 {S : Type} {Q : Int32 → S → Prop} {w1 : S → va_W} {mc ms : Nat} {a : Array Value} (F : ct_F p m c meth cc nL s args own ret A V D cl tys)
    (hr : va_Run p l e R s m args below meth c H locs cells slots mc ms (F0 m pc ls st0) rest (va_Qi Q (ct_B D cl tys [] H.size w1) (va_A [] H.size) a) (va_A [] H.size)) (hm0 : mc = 0) (hs0 : ms = 0) (hP : va_P D cl ws H) (hS : va_S A s.heap H locs)
    (kk : ∀ (x : Int32) (u : S) (H1 : Heap) (locs1 : List Loc), Q x u → va_P D cl ws H1 → va_S A s.heap H1 locs1 → W p l e R s m args below meth c H1 locs1 cells slots Qf (F0 m (pc + 3) ls (.int x :: rest))) : W p l e R s m args below meth c H locs cells slots Qf (F0 m pc ls st0) := by
  subst hm0; subst hs0
  obtain ⟨-, -, -, hA, hK, hE⟩ := F
  have hf := ct_fr0 hS hA
  refine va_calli hr hS (fun q _ h => hf q h) hf (fun x u t H1 locs1 ht hvm hq hB hz hk hS1 => ?_)
  refine kk x u H1 locs1 hq (hP.kept fun k q hq => hk q.1 (hP k q hq).lt ?_) hS1
  rintro (⟨k, e, h⟩ | h)
  · simp at h
  · exact absurd (hP _ q hq).lt (Nat.not_lt.mpr h)
theorem cl_v0 {S : Type} {Q : S → Prop} {w1 : S → va_W} {mc ms : Nat} {a : Array Value} (F : ct_F p m c meth cc nL s args own ret A V D cl tys)
    (hr : va_Run p l e R s m args below meth c H locs cells slots mc ms (F0 m pc ls st0) rest (va_Qv Q (ct_B D cl tys [] H.size w1) (va_A [] H.size) a) (va_A [] H.size)) (hm0 : mc = 0) (hs0 : ms = 0) (hP : va_P D cl ws H) (hS : va_S A s.heap H locs)
    (kk : ∀ (u : S) (H1 : Heap) (locs1 : List Loc), Q u → va_P D cl ws H1 → va_S A s.heap H1 locs1 → W p l e R s m args below meth c H1 locs1 cells slots Qf (F0 m (pc + 3) ls rest)) : W p l e R s m args below meth c H locs cells slots Qf (F0 m pc ls st0) := by
  subst hm0; subst hs0
  obtain ⟨-, -, -, hA, hK, hE⟩ := F
  have hf := ct_fr0 hS hA
  refine va_callv hr hS (fun q _ h => hf q h) hf (fun u t H1 locs1 ht hvm hq hB hz hk hS1 => ?_)
  refine kk u H1 locs1 hq (hP.kept fun k q hq => hk q.1 (hP k q hq).lt ?_) hS1
  rintro (⟨k, e, h⟩ | h)
  · simp at h
  · exact absurd (hP _ q hq).lt (Nat.not_lt.mpr h)
theorem cl_l0 {S : Type} {Q : Int64 → S → Prop} {w1 : S → va_W} {mc ms : Nat} {a : Array Value} (F : ct_F p m c meth cc nL s args own ret A V D cl tys)
    (hr : va_Run p l e R s m args below meth c H locs cells slots mc ms (F0 m pc ls st0) rest (va_Ql Q (ct_B D cl tys [] H.size w1) (va_A [] H.size) a) (va_A [] H.size)) (hm0 : mc = 0) (hs0 : ms = 0) (hP : va_P D cl ws H) (hS : va_S A s.heap H locs)
    (kk : ∀ (x : Int64) (u : S) (H1 : Heap) (locs1 : List Loc), Q x u → va_P D cl ws H1 → va_S A s.heap H1 locs1 → W p l e R s m args below meth c H1 locs1 cells slots Qf (F0 m (pc + 3) ls (.long x :: rest))) : W p l e R s m args below meth c H locs cells slots Qf (F0 m pc ls st0) := by
  subst hm0; subst hs0
  obtain ⟨-, -, -, hA, hK, hE⟩ := F
  have hf := ct_fr0 hS hA
  refine va_calll hr hS (fun q _ h => hf q h) hf (fun x u t H1 locs1 ht hvm hq hB hz hk hS1 => ?_)
  refine kk x u H1 locs1 hq (hP.kept fun k q hq => hk q.1 (hP k q hq).lt ?_) hS1
  rintro (⟨k, e, h⟩ | h)
  · simp at h
  · exact absurd (hP _ q hq).lt (Nat.not_lt.mpr h)
end WK
section PT
variable {p : Program} {l : Launch} {e : Env} {R : Room} {s : State} {m : MethodId} {args : Array Value} {below : List Frame} {meth : Method} {c : Code} {H : Heap} {locs : List Loc} {cells slots : Nat} {Q : State → Prop}
variable {cc : ByteArray} {pc : Nat} {ls : Array Slot} {rest : List Value} {cl : List vw_C} {A : Nat → Prop} {a : Nat} {ws : va_W} {H0 : Heap}
theorem pt_put (hexec : p.tables.exec = Jvm.exec) (hb : c.code = cc) {own ref C : String} {T : u_T} {N ci index : Nat} {Ts : List Cond} (hts : ∀ w ∈ Ts, w.before args s = true) (hin : ∀ w ∈ u_ws C T N, w ∈ Ts) (ty0 : Nat → FieldType) (hty : ∀ k, k < N → parseFieldDescriptor (T k).2.2.1 = some (ty0 k)) (hnm : ∀ a, a < N → ∀ b, b < N → a ≠ b → (T a).2.1 ≠ (T b).2.1) (hown : s.vm.findClass own = some m.cls) (hK : va_K D cl tys s) (hP : va_P D cl ws H) (hD : va_D A ws) (hS0 : va_S A H0 H locs) (q0 : Nat) {fs : List Value} (he : ws[q0]? = some (a, .inr (ci, fs))) (hc : cl[ci]? = some (C, T, N)) (k : Nat) (hk : k < N) (hlink : (Cond.fieldLink own index ref (T k).2.1 (T k).2.2.1).before args s = true) (hsame : ∀ x, s.fieldFound? (T k).1 (T k).2.1 (T k).2.2.1 = some x → s.fieldFound? ref (T k).2.1 (T k).2.2.1 = some x) (hfin : (T k).2.2.2 = false) {ty : FieldType} {v : Value} (hd : parseFieldDescriptor (T k).2.2.1 = some ty) (hn : narrow ty v = v) (hfit : fits ty v = true) (hl : k < fs.length)
    (hdg : decode cc pc = .ok (.putfield index, 3)) {ws' : va_W} (hset : ws.set q0 (a, .inr (ci, fs.set k v)) = ws') (kk : ∀ (H1 : Heap) (locs1 : List Loc), va_P D cl ws' H1 → va_D A ws' → va_S A H0 H1 locs1 → W p l e R s m args below meth c H1 locs1 cells slots Q (F0 m (pc + 3) ls rest)) : W p l e R s m args below meth c H locs cells slots Q (F0 m pc ls (v :: .ref a :: rest)) := by
  subst hset
  exact va_put hexec hb hts hin ty0 hty hnm hown hK hP hD hS0 q0 he hc k hk hlink hsame hfin hd hn hfit hl hdg kk
theorem pt_iast (hexec : p.tables.exec = Jvm.exec) (hb : c.code = cc) (hK : va_K D cl tys s) (hP : va_P D cl ws H) (hD : va_D A ws) (hS : va_S A H0 H locs) (q0 t0 : Nat) {cA : ClassId} {n : Nat} {f : Nat → Int32} (ha : ws[q0]? = some (a, .inl (cA, n, .inl f))) (ht : tys[t0]? = some (cA, .int)) {i : Int32} {x : Int32} (hin : vp_in i n) (hdg : decode cc pc = .ok (.iastore, 1)) {ws' : va_W} (hset : ws.set q0 (a, .inl (cA, n, .inl (upd f i.toNatClampNeg x))) = ws')
    (kk : ∀ (H1 : Heap) (locs1 : List Loc), va_P D cl ws' H1 → va_D A ws' → va_S A H0 H1 locs1 → W p l e R s m args below meth c H1 locs1 cells slots Q (F0 m (pc + 1) ls rest)) : W p l e R s m args below meth c H locs cells slots Q (F0 m pc ls (.int x :: .int i :: .ref a :: rest)) := by
  subst hset
  exact va_iast hexec hb hK hP hD hS q0 t0 ha ht hin hdg kk
theorem pt_zast (hexec : p.tables.exec = Jvm.exec) (hb : c.code = cc) (hK : va_K D cl tys s) (hP : va_P D cl ws H) (hD : va_D A ws) (hS : va_S A H0 H locs) (q0 t0 : Nat) {cA : ClassId} {n : Nat} {f : Nat → Int32} (ha : ws[q0]? = some (a, .inl (cA, n, .inl f))) (ht : tys[t0]? = some (cA, .boolean)) {i : Int32} {x : Int32} (hin : vp_in i n) (hdg : decode cc pc = .ok (.bastore, 1)) {ws' : va_W} (hset : ws.set q0 (a, .inl (cA, n, .inl (upd f i.toNatClampNeg (vp_nar .boolean x)))) = ws')
    (kk : ∀ (H1 : Heap) (locs1 : List Loc), va_P D cl ws' H1 → va_D A ws' → va_S A H0 H1 locs1 → W p l e R s m args below meth c H1 locs1 cells slots Q (F0 m (pc + 1) ls rest)) : W p l e R s m args below meth c H locs cells slots Q (F0 m pc ls (.int x :: .int i :: .ref a :: rest)) := by
  subst hset
  exact va_zast hexec hb hK hP hD hS q0 t0 ha ht hin hdg kk
theorem pt_bast (hexec : p.tables.exec = Jvm.exec) (hb : c.code = cc) (hK : va_K D cl tys s) (hP : va_P D cl ws H) (hD : va_D A ws) (hS : va_S A H0 H locs) (q0 t0 : Nat) {cA : ClassId} {n : Nat} {f : Nat → Int32} (ha : ws[q0]? = some (a, .inl (cA, n, .inl f))) (ht : tys[t0]? = some (cA, .byte)) {i : Int32} {x : Int32} (hin : vp_in i n) (hdg : decode cc pc = .ok (.bastore, 1)) {ws' : va_W} (hset : ws.set q0 (a, .inl (cA, n, .inl (upd f i.toNatClampNeg (vp_nar .byte x)))) = ws')
    (kk : ∀ (H1 : Heap) (locs1 : List Loc), va_P D cl ws' H1 → va_D A ws' → va_S A H0 H1 locs1 → W p l e R s m args below meth c H1 locs1 cells slots Q (F0 m (pc + 1) ls rest)) : W p l e R s m args below meth c H locs cells slots Q (F0 m pc ls (.int x :: .int i :: .ref a :: rest)) := by
  subst hset
  exact va_bast hexec hb hK hP hD hS q0 t0 ha ht hin hdg kk
theorem pt_cast (hexec : p.tables.exec = Jvm.exec) (hb : c.code = cc) (hK : va_K D cl tys s) (hP : va_P D cl ws H) (hD : va_D A ws) (hS : va_S A H0 H locs) (q0 t0 : Nat) {cA : ClassId} {n : Nat} {f : Nat → Int32} (ha : ws[q0]? = some (a, .inl (cA, n, .inl f))) (ht : tys[t0]? = some (cA, .char)) {i : Int32} {x : Int32} (hin : vp_in i n) (hdg : decode cc pc = .ok (.castore, 1)) {ws' : va_W} (hset : ws.set q0 (a, .inl (cA, n, .inl (upd f i.toNatClampNeg (vp_nar .char x)))) = ws')
    (kk : ∀ (H1 : Heap) (locs1 : List Loc), va_P D cl ws' H1 → va_D A ws' → va_S A H0 H1 locs1 → W p l e R s m args below meth c H1 locs1 cells slots Q (F0 m (pc + 1) ls rest)) : W p l e R s m args below meth c H locs cells slots Q (F0 m pc ls (.int x :: .int i :: .ref a :: rest)) := by
  subst hset
  exact va_cast hexec hb hK hP hD hS q0 t0 ha ht hin hdg kk
theorem pt_sast (hexec : p.tables.exec = Jvm.exec) (hb : c.code = cc) (hK : va_K D cl tys s) (hP : va_P D cl ws H) (hD : va_D A ws) (hS : va_S A H0 H locs) (q0 t0 : Nat) {cA : ClassId} {n : Nat} {f : Nat → Int32} (ha : ws[q0]? = some (a, .inl (cA, n, .inl f))) (ht : tys[t0]? = some (cA, .short)) {i : Int32} {x : Int32} (hin : vp_in i n) (hdg : decode cc pc = .ok (.sastore, 1)) {ws' : va_W} (hset : ws.set q0 (a, .inl (cA, n, .inl (upd f i.toNatClampNeg (vp_nar .short x)))) = ws')
    (kk : ∀ (H1 : Heap) (locs1 : List Loc), va_P D cl ws' H1 → va_D A ws' → va_S A H0 H1 locs1 → W p l e R s m args below meth c H1 locs1 cells slots Q (F0 m (pc + 1) ls rest)) : W p l e R s m args below meth c H locs cells slots Q (F0 m pc ls (.int x :: .int i :: .ref a :: rest)) := by
  subst hset
  exact va_sast hexec hb hK hP hD hS q0 t0 ha ht hin hdg kk
theorem pt_last (hexec : p.tables.exec = Jvm.exec) (hb : c.code = cc) (hK : va_K D cl tys s) (hP : va_P D cl ws H) (hD : va_D A ws) (hS : va_S A H0 H locs) (q0 t0 : Nat) {cA : ClassId} {n : Nat} {f : Nat → Int64} (ha : ws[q0]? = some (a, .inl (cA, n, .inr (.inl f)))) (ht : tys[t0]? = some (cA, .long)) {i : Int32} {x : Int64} (hin : vp_in i n) (hdg : decode cc pc = .ok (.lastore, 1)) {ws' : va_W} (hset : ws.set q0 (a, .inl (cA, n, .inr (.inl (vp_updL f i.toNatClampNeg x)))) = ws')
    (kk : ∀ (H1 : Heap) (locs1 : List Loc), va_P D cl ws' H1 → va_D A ws' → va_S A H0 H1 locs1 → W p l e R s m args below meth c H1 locs1 cells slots Q (F0 m (pc + 1) ls rest)) : W p l e R s m args below meth c H locs cells slots Q (F0 m pc ls (.long x :: .int i :: .ref a :: rest)) := by
  subst hset
  exact va_last hexec hb hK hP hD hS q0 t0 ha ht hin hdg kk
theorem pt_copyi (hexec : p.tables.exec = Jvm.exec) (hb : c.code = cc) (hml : c.maxLocals = ls.size) {own : String} {index : Nat} (hown : s.vm.findClass own = some m.cls) (hlink : (Cond.methodLink own index arraycopyName).before args s = true) (hnat : (Cond.native arraycopyName).before args s = true) (hstat : (Cond.static arraycopyName).before args s = true) (hini : (Cond.initialized "java/lang/System").before args s = true)
    (hK : va_K D cl tys s) (hP : va_P D cl ws H) (hD : va_D A ws) (hS : va_S A H0 H locs) (q0 q1 t0 t1 : Nat) {a0 : Nat} {c0 c1 : ClassId} {n0 n1 : Nat} {f g : Nat → Int32} {ty : FieldType} (ha0 : ws[q0]? = some (a0, .inl (c0, n0, .inl f))) (ha1 : ws[q1]? = some (a, .inl (c1, n1, .inl g))) (ht0 : tys[t0]? = some (c0, ty)) (ht1 : tys[t1]? = some (c1, ty)) (hprim : refKind ty = false)
    {sp dp n : Int32} (h1 : ¬ sp < 0) (h2 : ¬ dp < 0) (h3 : ¬ n < 0) (h4 : sp.toNatClampNeg + n.toNatClampNeg ≤ n0) (h5 : dp.toNatClampNeg + n.toNatClampNeg ≤ n1) (hfit : ∀ i, i < n.toNatClampNeg → fits ty (.int (f (sp.toNatClampNeg + i))) = true)
    (hframes : 1 ≤ R.frames) (hlocals : (rest.map fun v => v.category).sum + (nativeFrameWords "java/lang/System" "arraycopy" 5 + 11) ≤ R.locals) (hdg : decode cc pc = .ok (.invokestatic index, 3)) {ws' : va_W} (hset : ws.set q1 (a, .inl (c1, n1, .inl (va_cpy f g sp.toNatClampNeg dp.toNatClampNeg n.toNatClampNeg))) = ws')
    (kk : ∀ (H1 : Heap) (locs1 : List Loc), va_P D cl ws' H1 → va_D A ws' → va_S A H0 H1 locs1 → W p l e R s m args below meth c H1 locs1 cells slots Q (F0 m (pc + 3) ls rest)) : W p l e R s m args below meth c H locs cells slots Q (F0 m pc ls (.int n :: .int dp :: .ref a :: .int sp :: .ref a0 :: rest)) := by
  subst hset
  exact va_copyi hexec hb hml hown hlink hnat hstat hini hK hP hD hS q0 q1 t0 t1 ha0 ha1 ht0 ht1 hprim h1 h2 h3 h4 h5 hfit hframes hlocals hdg kk
theorem pt_astq (hexec : p.tables.exec = Jvm.exec) (hb : c.code = cc) (hK : va_K D cl tys s) (hP : va_P D cl ws H) (hD : va_D A ws) (hS : va_S A H0 H locs) (q0 t0 qk ci : Nat) {cA : ClassId} {r : vw_C} {n v : Nat} {vs : List Value} {f : Nat → Option Nat} (ha : ws[q0]? = some (a, .inl (cA, n, .inr (.inr (.inr (.inr f)))))) (ht : tys[t0]? = some (cA, .object r.1)) (hv : ws[qk]? = some (v, .inr (ci, vs))) (hc : cl[ci]? = some r) {i : Int32} (hin : vp_in i n) (hdg : decode cc pc = .ok (.aastore, 1)) {ws' : va_W} (hset : ws.set q0 (a, .inl (cA, n, .inr (.inr (.inr (.inr (va_up f i.toNatClampNeg (some v))))))) = ws')
    (kk : ∀ (H1 : Heap) (locs1 : List Loc), va_P D cl ws' H1 → va_D A ws' → va_S A H0 H1 locs1 → W p l e R s m args below meth c H1 locs1 cells slots Q (F0 m (pc + 1) ls rest)) : W p l e R s m args below meth c H locs cells slots Q (F0 m pc ls (.ref v :: .int i :: .ref a :: rest)) := by
  subst hset
  exact va_astq hexec hb hK hP hD hS q0 t0 qk ci ha ht hv hc hin hdg kk
theorem pt_copyq (hexec : p.tables.exec = Jvm.exec) (hb : c.code = cc) (hml : c.maxLocals = ls.size) {own : String} {index : Nat} (hown : s.vm.findClass own = some m.cls) (hlink : (Cond.methodLink own index arraycopyName).before args s = true) (hnat : (Cond.native arraycopyName).before args s = true) (hstat : (Cond.static arraycopyName).before args s = true) (hini : (Cond.initialized "java/lang/System").before args s = true)
    (hK : va_K D cl tys s) (hP : va_P D cl ws H) (hD : va_D A ws) (hS : va_S A H0 H locs) (q0 q1 t0 t1 : Nat) {a0 : Nat} {c0 c1 : ClassId} {n0 n1 : Nat} {f g : Nat → Option Nat} {E0 E1 C : String} (ha0 : ws[q0]? = some (a0, .inl (c0, n0, .inr (.inr (.inr (.inr f)))))) (ha1 : ws[q1]? = some (a, .inl (c1, n1, .inr (.inr (.inr (.inr g)))))) (ht0 : tys[t0]? = some (c0, .object E0)) (ht1 : tys[t1]? = some (c1, .object E1))
    {sp dp n : Int32} (h1 : ¬ sp < 0) (h2 : ¬ dp < 0) (h3 : ¬ n < 0) (h4 : sp.toNatClampNeg + n.toNatClampNeg ≤ n0) (h5 : dp.toNatClampNeg + n.toNatClampNeg ≤ n1) (hel : ∀ i : Nat, i < n.toNatClampNeg → ∀ y : Nat, f (sp.toNatClampNeg + i) = some y → ∃ cellV : Cell, H[y]? = some cellV ∧ cellV.vm.isStatics = false ∧ s.vm.findClass C = some cellV.cls) (hasg : ∀ comp c0 : ClassId, s.vm.findClass E1 = some comp → s.vm.findClass C = some c0 → s.vm.assignable c0 comp = true)
    (hframes : 1 ≤ R.frames) (hlocals : (rest.map fun v => v.category).sum + (nativeFrameWords "java/lang/System" "arraycopy" 5 + 11) ≤ R.locals) (hdg : decode cc pc = .ok (.invokestatic index, 3)) {ws' : va_W} (hset : ws.set q1 (a, .inl (c1, n1, .inr (.inr (.inr (.inr (va_cpy f g sp.toNatClampNeg dp.toNatClampNeg n.toNatClampNeg)))))) = ws')
    (kk : ∀ (H1 : Heap) (locs1 : List Loc), va_P D cl ws' H1 → va_D A ws' → va_S A H0 H1 locs1 → W p l e R s m args below meth c H1 locs1 cells slots Q (F0 m (pc + 3) ls rest)) : W p l e R s m args below meth c H locs cells slots Q (F0 m pc ls (.int n :: .int dp :: .ref a :: .int sp :: .ref a0 :: rest)) := by
  subst hset
  exact va_copyq hexec hb hml hown hlink hnat hstat hini hK hP hD hS q0 q1 t0 t1 ha0 ha1 ht0 ht1 h1 h2 h3 h4 h5 hel hasg hframes hlocals hdg kk
theorem pt_ldcwS (hexec : p.tables.exec = Jvm.exec) (hb : c.code = cc) {own tx : String} {index q : Nat} (hown : s.vm.findClass own = some m.cls) (hZ : vk_R own index tx q s) (hdg : decode cc pc = .ok (.ldc_w index, 3))
    (k : W p l e R s m args below meth c H locs cells slots Q (F0 m (pc + 3) ls (.ref q :: rest))) : W p l e R s m args below meth c H locs cells slots Q (F0 m pc ls rest) := by
  intro T hT X
  obtain ⟨t, a1, b1⟩ := k T hT X
  exact ⟨t, X.ldcStringW hexec hown (text := tx) (a := q) hZ.1 hZ.2 (g := F0 m pc ls rest) rfl (by rw [hb]; exact hdg) t a1, b1⟩
end PT
end KT
