/-! the Fault: its constructor (super(), then its place) -/
set_option maxRecDepth 100000
def fltAtoms : List Cond := Bundle.throwableAtoms ++ Bundle.chain0Atoms "java/lang/Exception" [] ++
  [.methodLink RX6 1 (Bundle.init0 "java/lang/Exception"), .instantiable RX6 7, .selects RX6 Bundle.tFill0 Bundle.tFill0, .selects RX6 Bundle.tFill Bundle.tFill,
   .lays RX6 Bundle.tN "cause" "Ljava/lang/Throwable;", .lays RX6 Bundle.tN "stackTrace" Bundle.steD, .lays RX6 Bundle.tN "suppressedExceptions" Bundle.listD, .lays RX6 Bundle.tN "detailMessage" "Ljava/lang/String;",
   .isRef (.static Bundle.tN "UNASSIGNED_STACK" Bundle.steD), .isRef (.static Bundle.tN "SUPPRESSED_SENTINEL" Bundle.listD),
   .fieldLink Bundle.tN 198 Bundle.tN "backtrace" "Ljava/lang/Object;", .lays Bundle.tN Bundle.tN "backtrace" "Ljava/lang/Object;", .lays RX6 Bundle.tN "backtrace" "Ljava/lang/Object;", .laysFinal RX6 RX6 "at" "I"]
section FLT
variable {p : Program} {l : Launch} {e : Env} {R : Room} {s : State} {m : MethodId} {args : Array Value} {below : List Frame} {meth : Method} {c : Code} {cells slots : Nat} {Q : State → Prop}
set_option maxHeartbeats 4000000 in
theorem flt_super {cc : ByteArray} {pc : Nat} {ls : Array Slot} {rest : List Value} (hexec : p.tables.exec = Jvm.exec) (hb : c.code = cc) (hl : l.stackTraces = false) (hown : s.vm.findClass RX6 = some m.cls)
    (h : ∀ w ∈ fltAtoms, w.before args s = true) (hsize : ls.size = c.maxLocals) {a : Nat} {cX : ClassId} {kX : Class} (hfX : s.vm.findClass RX6 = some cX) (hkX : s.vm.classes[cX]? = some kX) (hcell : s.heap[a]? = some (freshCell cX kX))
    (hdg : decode cc pc = .ok (.invokespecial 1, 3)) (hRframes : 4 ≤ R.frames) (hRlocals : (rest.map fun v => v.category).sum + 60 ≤ R.locals)
    (kk : ∀ (H1 : Heap) (ce : Cell) (L : List Loc), H1[a]? = some ce → ce.cls = cX → ce.vm = .none → H1.size = s.heap.size → (∀ q : Nat, q ≠ a → H1[q]? = s.heap[q]?) → (∀ y ∈ L, y.base = a) →
      (∀ (cf : ClassId) (kf : Class) (fi : Nat) (fd : Field), s.fieldFound? RX6 "at" "I" = some (cf, kf, fi, fd) → ce.slots[fd.slot]? = some (.int 0)) →
      W p l e R s m args below meth c H1 L cells slots Q (F0 m (pc + 3) ls rest)) : W p l e R s m args below meth c s.heap [] cells slots Q (F0 m pc ls (.ref a :: rest)) := by
  intro W0 hT X
  have htr : e.platform.stackTraces = false := (show e.platform.stackTraces = l.stackTraces by rw [X.admits.platform]).trans hl
  have howns : e.platform.frameOwnsMonitors = true := by rw [X.admits.platform]
  have hfin : e.platform.finalization = false := by rw [X.admits.platform]
  have hpl : e.platform.magicAccessors = ({} : Platform).magicAccessors := by rw [X.admits.platform]
  have a' : ∀ x, x ∈ fltAtoms → x.holds args s none s [] = true := fun x hx => h x hx
  obtain ⟨T, Z, L, LZ, Y⟩ := ThrowableC.of_atoms (args := args) howns hfin hpl (fun x hx => h x (by simp [fltAtoms, hx]))
  obtain ⟨P1, Ps, hlen, L1, hL, hP1m, hlink1, hlink⟩ := Bundle.chain0 (args := args) hpl Y.init0 [] "java/lang/Exception" (by decide +kernel) (fun n hn => by cases hn) (fun x hx => h x (by simp [fltAtoms, hx]))
  obtain ⟨c1, kX', hc1, hk, hord, -, -, hn6⟩ := Cond.instantiable_spec (a' (.instantiable RX6 7) (by simp [fltAtoms]))
  cases Option.some.inj (hc1.symm.trans hfX)
  cases Option.some.inj (hkX.symm.trans hk)
  have hsel0 : selectMethod e.platform s.vm cX T.fill0 = .method T.fill0 := by
    obtain ⟨c2, r2, m2, q1, q2, q3, q4, -⟩ := Cond.selects_spec (a' (.selects RX6 Bundle.tFill0 Bundle.tFill0) (by simp [fltAtoms]))
    cases Option.some.inj (q1.symm.trans hfX)
    cases Option.some.inj (q2.symm.trans (State.methodFound?_of_named Y.fill0 (by decide)))
    cases Option.some.inj (q3.symm.trans Y.fill0)
    rw [Launch.admits_selectMethod X.admits]; exact q4
  have hselF : selectMethod e.platform s.vm cX T.fill = .method T.fill := by
    obtain ⟨c2, r2, m2, q1, q2, q3, q4, -⟩ := Cond.selects_spec (a' (.selects RX6 Bundle.tFill Bundle.tFill) (by simp [fltAtoms]))
    cases Option.some.inj (q1.symm.trans hfX)
    cases Option.some.inj (q2.symm.trans (State.methodFound?_of_named Y.fill (by decide)))
    cases Option.some.inj (q3.symm.trans Y.fill)
    rw [Launch.admits_selectMethod X.admits]; exact q4
  obtain ⟨cellS0, hcS0, hiss⟩ := Y.statics
  obtain ⟨u0, hu0⟩ := Cond.staticRefV Y.unassigned L.unassignedStatic L.statics hcS0 hiss (a' (.isRef (.static Bundle.tN "UNASSIGNED_STACK" Bundle.steD)) (by simp [fltAtoms]))
  obtain ⟨sen, hsen⟩ := Cond.staticRefV Y.sentinel L.sentinelStatic L.statics hcS0 hiss (a' (.isRef (.static Bundle.tN "SUPPRESSED_SENTINEL" Bundle.listD)) (by simp [fltAtoms]))
  obtain ⟨ci198, i198, fB, hk198, hg198, ha198, hsB, -, hnB, htB, hffB⟩ := Cond.ownField (t := .object "java/lang/Object") Y.found L.cls (by decide +kernel) (a' (.fieldLink Bundle.tN 198 Bundle.tN "backtrace" "Ljava/lang/Object;") (by simp [fltAtoms])) (a' (.lays Bundle.tN Bundle.tN "backtrace" "Ljava/lang/Object;") (by simp [fltAtoms])) e.platform hpl
  obtain ⟨cellS, hcS', heS, -, hkeep⟩ := X.same.2.2.2.2.2 T.aS cellS0 hcS0
  have hcellS : W0.heap[T.aS]? = some cellS := hcS'
  have hout' : ∀ i, (⟨T.aS, i⟩ : Loc) ∉ ([] : List Loc) := fun i => List.not_mem_nil
  have hknownS : cellS.vm ≠ .unknown := by
    rw [heS]; intro hu
    rw [show cellS0.vm = .unknown from hu] at hiss
    cases hiss
  have hcellW : W0.heap[a]? = some (freshCell cX kX) := by rw [hT]; exact hcell
  have hneS : T.aS ≠ a := fun z => by
    rw [z] at hcS0
    rw [hcell] at hcS0
    cases hcS0
    cases hiss
  obtain ⟨iM, hffM⟩ := Y.msg
  obtain ⟨tyC, dC, hdC, hdnC⟩ := Cond.laysAt hfX hk Y.cause (a' (.lays RX6 Bundle.tN "cause" "Ljava/lang/Throwable;") (by simp [fltAtoms]))
  obtain ⟨tyS, dS, hdS, hdnS⟩ := Cond.laysAt hfX hk Y.stack (a' (.lays RX6 Bundle.tN "stackTrace" Bundle.steD) (by simp [fltAtoms]))
  obtain ⟨tyP, dP, hdP, hdnP⟩ := Cond.laysAt hfX hk Y.supp (a' (.lays RX6 Bundle.tN "suppressedExceptions" Bundle.listD) (by simp [fltAtoms]))
  obtain ⟨tyM, dM, hdM, hdnM⟩ := Cond.laysAt hfX hk hffM (a' (.lays RX6 Bundle.tN "detailMessage" "Ljava/lang/String;") (by simp [fltAtoms]))
  obtain ⟨tyB, dB, hdB, hdnB⟩ := Cond.laysAt hfX hk hffB (a' (.lays RX6 Bundle.tN "backtrace" "Ljava/lang/Object;") (by simp [fltAtoms]))
  have bC := Cond.laysApart hdB hdC hdnB hdnC (by rw [hnB, Y.causeName]; decide)
  have bS := Cond.laysApart hdB hdS hdnB hdnS (by rw [hnB, Y.stackName]; decide)
  have bP := Cond.laysApart hdB hdP hdnB hdnP (by rw [hnB, Y.suppName]; decide)
  have hskip : SkipFacts T e.platform s (fun u => u) u0 ((preparedCellV T.toThrowableT (freshCell cX kX) a u0 sen).withEntry W0.cur) :=
    ⟨{ ci198 := ci198, i198 := i198, fBack := fB }, ⟨hk198, hg198, ha198, hsB⟩, by
      have := fresh_default (c := cX) tyB
      rw [htB] at this
      simpa [preparedCellV, Cell.setSlot, Cell.withEntry, Array.getElem?_setIfInBounds, bC, bS, bP, bC.symm, bS.symm, bP.symm, defaultValue] using this, fun _ _ => rfl⟩
  have hd6 : decode c.code pc = .ok (.invokespecial 1, 3) := by rw [hb]; exact hdg
  obtain ⟨tm, methC, cdC, kC, vm₁, hnC, -, -, -, -, -, -, -, hW₁, st1⟩ := Steps.initCold (tb := p.tables) (e := e) (below := below) (s := s) (U := W0) X.here hexec X.warmed hpl hown (t := Bundle.init0 "java/lang/Exception") rfl rfl (Bundle.fit_spec (n := "java/lang/Exception") (by decide +kernel)).2
    (a' (.methodLink RX6 1 (Bundle.init0 "java/lang/Exception")) (by simp [fltAtoms])) (h (.instanceMethod (Bundle.init0 "java/lang/Exception")) (by simp [fltAtoms, Bundle.chain0Atoms, Bundle.passAtoms])) (bytes := Bundle.five) (maxL := 1) (h (.code (Bundle.init0 "java/lang/Exception") Bundle.five 1 none) (by simp [fltAtoms, Bundle.chain0Atoms, Bundle.passAtoms]))
    (f := F0 m pc ls (.ref a :: rest)) rfl (a := a) (rest := rest) rfl hd6
  cases Option.some.inj (hnC.symm.trans hP1m)
  have X₁ := X.noted hW₁
  obtain ⟨vm₂, X₂, st2⟩ := X₁.ctorPlainOffV hexec (g := F0 m pc ls rest) rfl hsize T L Z LZ (P1 :: Ps)
    (fun P hP => by rcases List.mem_cons.mp hP with rfl | hP; exact L1; exact hL P hP) ⟨hlink1, hlink⟩ (u0 := u0) (sen := sen) (self := a) (cell := freshCell cX kX) (cellS := cellS)
    hcellW (fun _ => by simp) (by simp) rfl rfl hsel0 hselF hcellS hneS hknownS (by rw [hkeep _ (hout' _)]; exact hu0) (by rw [hkeep _ (hout' _)]; exact hsen)
    (Takes.of_laid hk hord tyC (by rw [Y.causeType]; rfl)) (Takes.of_laid hk hord tyS (by rw [Y.stackType]; exact fits_refV_array _ u0)) (Takes.of_laid hk hord tyP (by rw [Y.suppType]; exact fits_refV_object _ sen)) Y.objLocals hskip htr [] hd6
    (by simp only [List.length_cons, hlen, List.length_nil]; omega) (by simp only [List.length_cons, hlen, List.length_nil]; show 2 * 0 + _ + _ ≤ _; omega)
  have hlt : a < W0.heap.size := (Array.getElem?_eq_some_iff.mp hcellW).1
  obtain ⟨t, b1, b2⟩ := kk (W0.heap.setIfInBounds a ((preparedCellV T.toThrowableT (freshCell cX kX) a u0 sen).setSlot T.fStack.slot u0.v)) ((preparedCellV T.toThrowableT (freshCell cX kX) a u0 sen).setSlot T.fStack.slot u0.v) _ (by show (W0.heap.setIfInBounds a _)[a]? = _; simp [hlt]) rfl rfl (by show (W0.heap.setIfInBounds a _).size = _; rw [Array.size_setIfInBounds, hT]) (fun q hq => by show (W0.heap.setIfInBounds a _)[q]? = _; rw [Array.getElem?_setIfInBounds_ne (Ne.symm hq), hT]) (fun y hy => by
      simp only [List.nil_append, List.mem_cons, List.not_mem_nil, or_false] at hy
      rcases hy with rfl | rfl | rfl | rfl <;> rfl) (fun cf kf fi fd hff => by
      have hAt : (Cond.laysFinal RX6 RX6 "at" "I").before args s = true := h _ (by simp [fltAtoms])
      obtain ⟨eN, eT⟩ := State.fieldFound?_type hff (show parseFieldDescriptor "I" = some .int by decide +kernel)
      have tyA := (u_facts hfX hk (Or.inr hAt) hff).2.2
      have sC := u_apart (Or.inr hAt) (Or.inl (h (.lays RX6 Bundle.tN "cause" "Ljava/lang/Throwable;") (by simp [fltAtoms]))) hff Y.cause (by rw [eN, Y.causeName]; decide)
      have sS := u_apart (Or.inr hAt) (Or.inl (h (.lays RX6 Bundle.tN "stackTrace" Bundle.steD) (by simp [fltAtoms]))) hff Y.stack (by rw [eN, Y.stackName]; decide)
      have sP := u_apart (Or.inr hAt) (Or.inl (h (.lays RX6 Bundle.tN "suppressedExceptions" Bundle.listD) (by simp [fltAtoms]))) hff Y.supp (by rw [eN, Y.suppName]; decide)
      have h9 := fresh_default (c := cX) tyA
      rw [eT] at h9
      simpa [preparedCellV, Cell.setSlot, Array.getElem?_setIfInBounds, sC, sS, sP, sC.symm, sS.symm, sP.symm, defaultValue] using h9) _ rfl X₂
  refine ⟨t, st1 _ (fun acts => ?_), b2⟩
  rw [doInvoke_state]
  exact st2 _ b1
end FLT

theorem flt_in0 : ∀ w ∈ fltAtoms.filter (fun w => vx_no w && goodWord w), w ∈ lw_tbl := by decide +kernel
theorem flt_in1 : ∀ w ∈ fltAtoms.filter (fun w => vx_no w && !goodWord w), w ∈ lw_tbl ∧ evK w = true := by decide +kernel
/-- the Fault as it is made: nothing in it -/
def flt_Pre (a : Nat) (U : State) : Prop := ∃ (cX : ClassId) (kX : Class), U.vm.findClass RX6 = some cX ∧ U.vm.classes[cX]? = some kX ∧ U.heap[a]? = some (freshCell cX kX)
theorem flt_Pre.moved {a : Nat} {s U : State} (hh : U.heap = s.heap) (hv : s.vm.Alike U.vm) (h : flt_Pre a s) : flt_Pre a U := by
  obtain ⟨cX, kX, h1, h2, h3⟩ := h
  obtain ⟨k', hk', he⟩ := hv.2.2 _ _ h2
  refine ⟨cX, k', by rw [hv.findClass]; exact h1, hk', ?_⟩
  rw [hh, h3, he]
theorem flt_words {V : evT} {A : Nat → Prop} {s : State} {args : Array Value} (hts : ∀ w ∈ lw_all, w.before args s = true) (hE : ev V A s s.heap) : ∀ w ∈ fltAtoms, w.before args s = true := by
  refine vx_own (fun w hw => ?_) (vx_isRefq hE.2.2.2.1.1) (vx_isRefq hE.2.2.2.2.1.1) hE.2.2.2.1.2.word hE.2.2.2.2.1.2.word
  obtain ⟨h1, h2⟩ := List.mem_filter.mp hw
  cases hg : goodWord w with
  | true => exact hts w (lw_g (flt_in0 w (List.mem_filter.mpr ⟨h1, by rw [h2, hg]; rfl⟩)) hg)
  | false =>
    obtain ⟨h3, h4⟩ := flt_in1 w (List.mem_filter.mpr ⟨h1, by rw [h2, hg]; rfl⟩)
    have h5 := hE.1 w h3 h4
    cases w <;> simp [evK] at h4
    all_goals exact va_Nw.use rfl h5
theorem in_F6 : ∀ w ∈ u_ws RX6 TF6 1, w ∈ lw_all := lw_in _ [422] (by decide +kernel) (by decide +kernel)
theorem tyF6_ok : ∀ k, k < 1 → parseFieldDescriptor (TF6 k).2.2.1 = some ((fun _ => FieldType.int) k) := by decide +kernel
theorem nmF6 : ∀ a, a < 1 → ∀ b, b < 1 → a ≠ b → (TF6 a).2.1 ≠ (TF6 b).2.1 := by intro a ha b hb h; omega
set_option maxHeartbeats 4000000 in
theorem ct_flt {l : Launch} {V : evT} {D : va_G} {gI : Nat → ClassId} (hl : l.stackTraces = false) (a : Nat) (x : Int32) (sz : Nat) : Met l yX6_init (ws_ yX6_init cX6_init 2 none) { frames := 5, cells := 0, slots := 0, locals := 80 }
    (va_Pc [.ref a, .int x] (fun U => U.heap.size = sz ∧ flt_Pre a U ∧ va_K D vwCl (tyL gI) U ∧ ev V (fun q => q = a) U U.heap)) (va_Qv (fun _ : Unit => True) (fun _ t => va_P D vwCl [(a, .inr (5, [.int x]))] t.heap) (fun q => q = a)) 0 0 (fun q => q = a) := by
  refine Met.ofW (cc := cX6_init) (maxL := 2) (ret := none) (by decide +kernel) rfl ?_
  intro p e s m args below meth c s₁ B hml hv
  obtain ⟨rfl, hsz, hF, hK, hE⟩ := hv
  have hx := B.exec
  have hb := B.bytes
  have hr := B.returns
  have hts := atoms_spec (ws := ws_ yX6_init cX6_init 2 none) B.pre
  have hts : ∀ w ∈ lw_all, w.before _ s = true := fun w h => hts w (List.mem_cons_of_mem _ h)
  have hown : s.vm.findClass RX6 = some m.cls := findClass_of_methodNamed B.named
  have hlocks := B.notSynchronized
  have hin : meth.name = "<init>" := (name_of_methodNamed B.named B.method).1
  obtain ⟨cX, kX, f1, f2, f3⟩ := hF
  have hlv := lv_entry ([.ref a, .int x]) (n := 2) (Nat.le_of_ble_eq_true rfl)
  rw [lg_entry_eq]
  generalize (lg_sl ([.ref a, .int x]) ++ List.replicate (2 - (lg_sl ([.ref a, .int x])).length) Slot.unset).toArray = ls at hlv ⊢
  have hlv : lv_has ls 2 [(0, .ref a), (1, .int x)] := hlv
  refine lv_aload_n hx hb dX6_init_0 rfl (lv_at hlv 0 rfl) ?_
  refine flt_super hx hb hl hown (flt_words hts hE) (hlv.1.trans hml.symm) f1 f2 f3 dX6_init_1 (Nat.le_of_ble_eq_true rfl) (Nat.le_of_ble_eq_true rfl) (fun H1 ce L g1 g2 g3 g4 g5 g6 g7 => ?_)
  obtain ⟨hSl, hfc, -⟩ := hK.1 5 _ rfl
  have e5 : cX = D.1 5 := Option.some.inj (f1.symm.trans hfc)
  have hP : va_P D vwCl [(a, .inr (5, [.int 0]))] H1 := by
    intro k q hq
    match k, hq with
    | 0, hq =>
      cases hq
      refine ⟨(RX6, TF6, 1), rfl, ce, g1, g2.trans e5, g3, fun k hk => ?_⟩
      have hk : k < 1 := hk
      obtain rfl : k = 0 := by omega
      obtain ⟨cf, kf, fi, fd, h1, h2⟩ := hSl 0 (Nat.le_refl _)
      rw [← h2]
      exact g7 cf kf fi fd h1
    | k + 1, hq => simp at hq
  have hD : va_D (fun q => q = a) [(a, .inr (5, [.int 0]))] := by
    refine ⟨fun i j u v hi hj _ => ?_, fun k q hq => ?_⟩
    · have := (List.getElem?_eq_some_iff.mp hi).1
      have := (List.getElem?_eq_some_iff.mp hj).1
      simp at *
      omega
    · match k, hq with
      | 0, hq => cases hq; rfl
      | k + 1, hq => simp at hq
  have hS : va_S (fun q => q = a) s.heap H1 L := ⟨by rw [g4]; exact Nat.le_refl _, fun q _ h => g5 q h, g6⟩
  refine lv_aload_n hx hb dX6_init_4 rfl (lv_at hlv 0 rfl) ?_
  refine lv_iload_n hx hb dX6_init_5 rfl (lv_at hlv 1 rfl) ?_
  refine va_putF (v := .int x) hx hb hts in_F6 (fun _ => .int) tyF6_ok nmF6 hown hK hP hD hS 0 rfl rfl 0 (Nat.le_refl _) (hts _ q415) (fun _ h => h) rfl hin rfl (ty := .int) (by decide +kernel) rfl rfl (Nat.le_refl _) dX6_init_6 (fun H2 locs hP2 hD2 hS2 => ?_)
  exact W.vret hx hb hr (fun t ht hW => ⟨⟨(), rfl, trivial, by show va_P D vwCl _ t.heap; rw [ht]; exact hP2⟩, hS2.F ht⟩) hS2.2.2 dX6_init_9
section FLN
variable {p : Program} {l : Launch} {e : Env} {R : Room} {s : State} {m : MethodId} {args : Array Value} {below : List Frame} {meth : Method} {c : Code} {H : Heap} {locs : List Loc} {cells slots : Nat} {Q : State → Prop}
variable {V : evT} {D : va_G} {gI : Nat → ClassId} {cc : ByteArray} {nL pc : Nat} {ls : Array Slot} {rest : List Value} {own : String} {A : Nat → Prop} {ret : Option FieldType} {ws : va_W}
/-- a Fault that is made: nothing in it yet -/
def flt_At (s : State) (q : Nat) (H : Heap) : Prop := ∃ (cX : ClassId) (kX : Class), s.vm.findClass RX6 = some cX ∧ s.vm.classes[cX]? = some kX ∧ H[q]? = some (freshCell cX kX)
theorem flt_At.pre {a : Nat} {s U : State} {H : Heap} (hh : U.heap = H) (hv : s.vm.Alike U.vm) (h : flt_At s a H) : flt_Pre a U := by
  obtain ⟨cX, kX, h1, h2, h3⟩ := h
  obtain ⟨k', hk', he⟩ := hv.2.2 _ _ h2
  refine ⟨cX, k', by rw [hv.findClass]; exact h1, hk', ?_⟩
  rw [hh, h3, he]
theorem flt_new (F : ct_F p m c meth cc nL s args own ret A V D vwCl (tyL gI)) {index : Nat} (hlink : Cond.classLink own index RX6 ∈ lw_all) (hdg : decode cc pc = .ok (.new index, 3)) (hP : va_P D vwCl ws H) (hS : va_S A s.heap H locs) (hcells : cells + 1 ≤ R.cells) (hslots : slots + 7 ≤ R.slots)
    (kk : ∀ (q : Nat) (H1 : Heap), flt_At s q H1 → va_P D vwCl ws H1 → va_S A s.heap H1 locs → (∀ (k : Nat) (x : Nat × va_E), ws[k]? = some x → x.1 ≠ q) → A q →
      W p l e R s m args below meth c H1 locs (cells + 1) (slots + 7) Q (F0 m (pc + 3) ls (.ref q :: rest))) : W p l e R s m args below meth c H locs cells slots Q (F0 m pc ls rest) := by
  obtain ⟨⟨hx, hb, hml, hown, hts⟩, hr, hlocks, hA, hK, hE⟩ := F
  obtain ⟨-, hfc, -⟩ := hK.1 5 _ rfl
  refine W.newcK hx hb hown (hts _ hlink) (hts _ q370) (hts _ q103) (g := F0 m pc ls rest) rfl hdg hcells hslots hfc rfl (fun H1 kC h1 h2 h3 h4 => ?_)
  have hk : ∀ (k : Nat) (x : Nat × va_E), ws[k]? = some x → H1[x.1]? = H[x.1]? := fun k x hx => h4 x.1 ((hP k x hx).lt)
  exact kk H.size H1 ⟨_, kC, hfc, h1, h2⟩ (hP.kept hk) ⟨Nat.le_trans hS.1 (by omega), fun x g1 g2 => (h4 x (Nat.lt_of_lt_of_le g1 hS.1)).trans (hS.2.1 x g1 g2), hS.2.2⟩ (fun k x hx => Nat.ne_of_lt (hP k x hx).lt) (hA _ hS.1)
theorem flt_init (hl : l.stackTraces = false) (F : ct_F p m c meth cc nL s args own ret A V D vwCl (tyL gI)) {index : Nat} (hlink : Cond.methodLink own index yX6_init ∈ lw_all) (hdg : decode cc pc = .ok (.invokespecial index, 3)) {q : Nat} {x : Int32} (hF : flt_At s q H) (hP : va_P D vwCl ws H) (hD : va_D A ws) (hS : va_S A s.heap H locs) (hq : ∀ (k : Nat) (y : Nat × va_E), ws[k]? = some y → y.1 ≠ q) (hAq : A q)
    (hsize : ls.size = nL) (hrest : ((Value.ref q :: rest).map fun v => v.category).sum ≤ 8) (hRf : 6 ≤ R.frames) (hRl : 101 ≤ R.locals) (hcells : cells ≤ R.cells) (hslots : slots ≤ R.slots)
    (kk : ∀ (H1 : Heap) (locs1 : List Loc), va_P D vwCl (ws ++ [(q, .inr (5, [.int x]))]) H1 → va_D A (ws ++ [(q, .inr (5, [.int x]))]) → va_S A s.heap H1 locs1 →
      W p l e R s m args below meth c H1 locs1 cells slots Q (F0 m (pc + 3) ls (.ref q :: rest))) : W p l e R s m args below meth c H locs cells slots Q (F0 m pc ls (.int x :: .ref q :: .ref q :: rest)) := by
  obtain ⟨⟨hx, hb, hml, hown, hts⟩, hr, hlocks, hA, hK, hE⟩ := F
  have hEq : ev V (fun z => z = q) s H := (hE.kept fun z h1 h2 => hS.2.1 z h1 h2).narrow (fun z h => by rw [h]; exact hAq)
  refine va_callv (va_runI (As := [.int x]) (rest := .ref q :: rest) ⟨hx, hb, hml, hown, hts⟩ (ct_flt (V := V) (D := D) (gI := gI) hl q x H.size) (cwI 1 hts (lw_meth q410) rfl rfl rfl (hts _ q103) (hts _ hlink) (hts _ q409) rfl (by decide +kernel) ⟨Nat.le_trans (Nat.le_of_ble_eq_true rfl) hRf, Nat.le_trans (Nat.le_of_ble_eq_true rfl) hRl⟩)
    ⟨fun a U g mk z => by
      obtain ⟨z0, z1, ⟨cX, kX, z2, z3, z4⟩, zK, zE⟩ := z
      exact ⟨z0, z1, ⟨cX, kX, z2, z3, z4⟩, va_K.moved (u := U) (U := U.calling g mk a) (Vm.Alike.refl U.vm) zK, ev.same (u := U) (U := U.calling g mk a) rfl zE⟩,
    fun U hU hW => ⟨rfl, by rw [hU], flt_At.pre hU hW.alike hF, va_K.moved hW.alike hK, by rw [hU]; exact hEq.warm hW⟩⟩ rfl rfl hsize rfl (lv_room hrest) hdg ⟨hcells, hslots⟩) hS (fun z _ h => by rw [h]; exact hAq) (fun z h => by rw [h]; exact hAq) (fun u t H1 locs1 ht hvm hq1 hB hz hk hS1 => ?_)
  have hB : va_P D vwCl [(q, .inr (5, [.int x]))] t.heap := hB
  rw [ht] at hB
  refine kk H1 locs1 (va_P.app (hP.kept fun k y hy => hk y.1 (hP k y hy).lt (hq k y hy)) hB) ?_ hS1
  refine va_D.app hD ⟨fun i j u v hi hj _ => ?_, fun k y hy => ?_⟩ (fun i j u v hi hj => ?_)
  · have := (List.getElem?_eq_some_iff.mp hi).1
    have := (List.getElem?_eq_some_iff.mp hj).1
    simp at *
    omega
  · match k, hy with
    | 0, hy => cases hy; exact hAq
    | k + 1, hy => simp at hy
  · match j, hj with
    | 0, hj => cases hj; exact hq i u hi
    | j + 1, hj => simp at hj
end FLN
