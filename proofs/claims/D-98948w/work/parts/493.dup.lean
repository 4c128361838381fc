/-! putfield where two fields of a class have one name (an outer this, kept by a class and by the one above) -/
set_option maxRecDepth 100000
section DUP
variable {p : Program} {l : Launch} {e : Env} {R : Room} {s : State} {m : MethodId} {args : Array Value} {below : List Frame} {meth : Method} {c : Code} {H : Heap} {locs : List Loc} {cells slots : Nat} {Q : State → Prop}
variable {D : va_G} {cl : List vw_C} {tys : List (ClassId × FieldType)} {cc : ByteArray} {pc : Nat} {ls : Array Slot} {rest : List Value} {A : Nat → Prop} {ws : va_W} {H0 : Heap} {a : Nat}
theorem va_apart2 {C : String} {T : u_T} {N ci : Nat} {Ts : List Cond} (hts : ∀ w ∈ Ts, w.before args s = true) (hin : ∀ w ∈ u_ws C T N, w ∈ Ts) (ty : Nat → FieldType) (hty : ∀ k, k < N → parseFieldDescriptor (T k).2.2.1 = some (ty k)) (hK : va_K D cl tys s) (hc : cl[ci]? = some (C, T, N)) {x y : Nat} (hx : x < N) (hy : y < N) (hne : (T x).2.1 ≠ (T y).2.1) : (D.2 ci) x ≠ (D.2 ci) y := by
  obtain ⟨hS, -⟩ := hK.1 ci _ hc
  obtain ⟨_, _, _, fa, hia, ea⟩ := hS x hx
  obtain ⟨_, _, _, fb, hib, eb⟩ := hS y hy
  rw [← ea, ← eb]
  refine u_apart (u_lays hts hin hx) (u_lays hts hin hy) hia hib ?_
  rw [(State.fieldFound?_type hia (hty x hx)).1, (State.fieldFound?_type hib (hty y hy)).1]
  exact hne
theorem dup_set {cell : Cell} {N : Nat} {iS : Nat → Nat} {V V' : Nat → Value} (h : ∀ k, k < N → cell.slots[iS k]? = some (V k)) {k : Nat} (hk : k < N) {v : Value} (hG : ∀ j, j < N → (iS j = iS k ∧ V' j = v) ∨ (iS j ≠ iS k ∧ V' j = V j)) :
    ∀ j, j < N → (cell.setSlot (iS k) v).slots[iS j]? = some (V' j) := by
  intro j hj
  rcases hG j hj with ⟨h1, h2⟩ | ⟨h1, h2⟩
  · rw [h1, h2]
    exact Cell.slots_setSlot_self _ (k2_hasslot (h k hk))
  · rw [slot_ne _ _ (Ne.symm h1), h j hj, h2]
theorem va_putG (hexec : p.tables.exec = Jvm.exec) (hb : c.code = cc) {own ref C : String} {T : u_T} {N ci index : Nat} {Ts : List Cond} (hts : ∀ w ∈ Ts, w.before args s = true) (hin : ∀ w ∈ u_ws C T N, w ∈ Ts) (ty0 : Nat → FieldType) (hty : ∀ k, k < N → parseFieldDescriptor (T k).2.2.1 = some (ty0 k)) (hown : s.vm.findClass own = some m.cls) (hK : va_K D cl tys s) (hP : va_P D cl ws H) (hD : va_D A ws) (hS0 : va_S A H0 H locs) (q0 : Nat) {fs : List Value} (he : ws[q0]? = some (a, .inr (ci, fs))) (hc : cl[ci]? = some (C, T, N)) (k : Nat) (hk : k < N) (hlink : (Cond.fieldLink own index ref (T k).2.1 (T k).2.2.1).before args s = true) (hsame : ∀ x, s.fieldFound? (T k).1 (T k).2.1 (T k).2.2.1 = some x → s.fieldFound? ref (T k).2.1 (T k).2.2.1 = some x) (hfin : (T k).2.2.2 = false) {ty : FieldType} {v : Value} (hd : parseFieldDescriptor (T k).2.2.1 = some ty) (hn : narrow ty v = v) (hfit : fits ty v = true) {fs2 : List Value} (hG : ∀ j, j < N → (D.2 ci j = D.2 ci k ∧ vp_V fs2 j = v) ∨ (D.2 ci j ≠ D.2 ci k ∧ vp_V fs2 j = vp_V fs j))
    (hdg : decode cc pc = .ok (.putfield index, 3)) (kk : ∀ (H1 : Heap) (locs1 : List Loc), va_P D cl (ws.set q0 (a, .inr (ci, fs2))) H1 → va_D A (ws.set q0 (a, .inr (ci, fs2))) → va_S A H0 H1 locs1 → W p l e R s m args below meth c H1 locs1 cells slots Q (F0 m (pc + 3) ls rest)) : W p l e R s m args below meth c H locs cells slots Q (F0 m pc ls (v :: .ref a :: rest)) := by
  obtain ⟨r, h1, cell, q1, q2, q3, q4⟩ := hP q0 _ he
  have hr : r = (C, T, N) := Option.some.inj (h1.symm.trans hc)
  subst hr
  obtain ⟨hS, hfc, kC, hkC, hkind⟩ := hK.1 ci _ hc
  obtain ⟨cf, kf, fi, f, hi, hsl⟩ := hS k hk
  have hlay := hts _ (hin _ (u_in_lay hk))
  unfold u_lay at hlay
  rw [if_neg (by rw [hfin]; decide)] at hlay
  have hst := (u_facts hfc hkC (u_lays hts hin hk) hi).1
  have h6 := u_store hfc hkC hkind hlay hi hd hn hfit
  refine W.putK hexec hb (f := f) ⟨hown, hlink, ⟨_, _, _, hsame _ hi⟩, hst⟩ (by rw [q2]; exact h6) q1 q3 (by rw [hsl]; exact k2_hasslot (q4 k hk)) rfl rfl hdg fun H' e1 e2 e3 => ?_
  rw [hsl] at e1 ⊢
  exact kk H' _ (hP.set hD he ⟨_, hc, ⟨_, e1, q2, q3, dup_set q4 hk hG⟩⟩ e3) (hD.set he) (hS0.put e2 e3 (hD.2 q0 _ he))
theorem va_put2 {k : Nat} (hexec : p.tables.exec = Jvm.exec) (hb : c.code = cc) {own ref C : String} {T : u_T} {N ci index : Nat} {Ts : List Cond} (hts : ∀ w ∈ Ts, w.before args s = true) (hin : ∀ w ∈ u_ws C T N, w ∈ Ts) (ty0 : Nat → FieldType) (hty : ∀ k, k < N → parseFieldDescriptor (T k).2.2.1 = some (ty0 k)) (hnk : ∀ j, j < N → j ≠ k → (T j).2.1 ≠ (T k).2.1) (hown : s.vm.findClass own = some m.cls) (hK : va_K D cl tys s) (hP : va_P D cl ws H) (hD : va_D A ws) (hS0 : va_S A H0 H locs) (q0 : Nat) {fs : List Value} (he : ws[q0]? = some (a, .inr (ci, fs))) (hc : cl[ci]? = some (C, T, N)) (hk : k < N) (hlink : (Cond.fieldLink own index ref (T k).2.1 (T k).2.2.1).before args s = true) (hsame : ∀ x, s.fieldFound? (T k).1 (T k).2.1 (T k).2.2.1 = some x → s.fieldFound? ref (T k).2.1 (T k).2.2.1 = some x) (hfin : (T k).2.2.2 = false) {ty : FieldType} {v : Value} (hd : parseFieldDescriptor (T k).2.2.1 = some ty) (hn : narrow ty v = v) (hfit : fits ty v = true) (hl : k < fs.length)
    (hdg : decode cc pc = .ok (.putfield index, 3)) (kk : ∀ (H1 : Heap) (locs1 : List Loc), va_P D cl (ws.set q0 (a, .inr (ci, fs.set k v))) H1 → va_D A (ws.set q0 (a, .inr (ci, fs.set k v))) → va_S A H0 H1 locs1 → W p l e R s m args below meth c H1 locs1 cells slots Q (F0 m (pc + 3) ls rest)) : W p l e R s m args below meth c H locs cells slots Q (F0 m pc ls (v :: .ref a :: rest)) := by
  refine va_putG hexec hb hts hin ty0 hty hown hK hP hD hS0 q0 he hc k hk hlink hsame hfin hd hn hfit (fun j hj => ?_) hdg kk
  by_cases hjk : j = k
  · subst hjk
    exact Or.inl ⟨rfl, by rw [← vp_updV_set hl v j]; simp [updV]⟩
  · exact Or.inr ⟨va_apart2 hts hin ty0 hty hK hc hj hk (hnk j hj hjk), by rw [← vp_updV_set hl v j]; simp [updV, hjk]⟩
theorem va_putB {k : Nat} (hexec : p.tables.exec = Jvm.exec) (hb : c.code = cc) {own ref C : String} {T : u_T} {N ci index : Nat} {Ts : List Cond} (hts : ∀ w ∈ Ts, w.before args s = true) (hin : ∀ w ∈ u_ws C T N, w ∈ Ts) (ty0 : Nat → FieldType) (hty : ∀ k, k < N → parseFieldDescriptor (T k).2.2.1 = some (ty0 k)) (d : Nat) (hnk : ∀ j, j < N → j ≠ k → j ≠ d → (T j).2.1 ≠ (T k).2.1) (hown : s.vm.findClass own = some m.cls) (hK : va_K D cl tys s) (hP : va_P D cl ws H) (hD : va_D A ws) (hS0 : va_S A H0 H locs) (q0 : Nat) {fs : List Value} (he : ws[q0]? = some (a, .inr (ci, fs))) (hc : cl[ci]? = some (C, T, N)) (hk : k < N) (hlink : (Cond.fieldLink own index ref (T k).2.1 (T k).2.2.1).before args s = true) (hsame : ∀ x, s.fieldFound? (T k).1 (T k).2.1 (T k).2.2.1 = some x → s.fieldFound? ref (T k).2.1 (T k).2.2.1 = some x) (hfin : (T k).2.2.2 = false) {ty : FieldType} {v : Value} (hd : parseFieldDescriptor (T k).2.2.1 = some ty) (hn : narrow ty v = v) (hfit : fits ty v = true) (hl : k < fs.length) (hdv : vp_V fs d = v)
    (hdg : decode cc pc = .ok (.putfield index, 3)) (kk : ∀ (H1 : Heap) (locs1 : List Loc), va_P D cl (ws.set q0 (a, .inr (ci, fs.set k v))) H1 → va_D A (ws.set q0 (a, .inr (ci, fs.set k v))) → va_S A H0 H1 locs1 → W p l e R s m args below meth c H1 locs1 cells slots Q (F0 m (pc + 3) ls rest)) : W p l e R s m args below meth c H locs cells slots Q (F0 m pc ls (v :: .ref a :: rest)) := by
  refine va_putG hexec hb hts hin ty0 hty hown hK hP hD hS0 q0 he hc k hk hlink hsame hfin hd hn hfit (fun j hj => ?_) hdg kk
  by_cases hjk : j = k
  · subst hjk
    exact Or.inl ⟨rfl, by rw [← vp_updV_set hl v j]; simp [updV]⟩
  · by_cases hjd : D.2 ci j = D.2 ci k
    · by_cases hd2 : j = d
      · subst hd2
        exact Or.inl ⟨hjd, by rw [← vp_updV_set hl v j]; simp [updV, hjk, hdv]⟩
      · exact absurd hjd (va_apart2 hts hin ty0 hty hK hc hj hk (hnk j hj hjk hd2))
    · exact Or.inr ⟨hjd, by rw [← vp_updV_set hl v j]; simp [updV, hjk]⟩
theorem va_putD {k : Nat} (hexec : p.tables.exec = Jvm.exec) (hb : c.code = cc) {own ref C : String} {T : u_T} {N ci index : Nat} {Ts : List Cond} (hts : ∀ w ∈ Ts, w.before args s = true) (hin : ∀ w ∈ u_ws C T N, w ∈ Ts) (ty0 : Nat → FieldType) (hty : ∀ k, k < N → parseFieldDescriptor (T k).2.2.1 = some (ty0 k)) (d : Nat) (hdk : d ≠ k) (hnk : ∀ j, j < N → j ≠ k → j ≠ d → (T j).2.1 ≠ (T k).2.1) (hown : s.vm.findClass own = some m.cls) (hK : va_K D cl tys s) (hP : va_P D cl ws H) (hD : va_D A ws) (hS0 : va_S A H0 H locs) (q0 : Nat) {fs : List Value} (he : ws[q0]? = some (a, .inr (ci, fs))) (hc : cl[ci]? = some (C, T, N)) (hk : k < N) (hlink : (Cond.fieldLink own index ref (T k).2.1 (T k).2.2.1).before args s = true) (hsame : ∀ x, s.fieldFound? (T k).1 (T k).2.1 (T k).2.2.1 = some x → s.fieldFound? ref (T k).2.1 (T k).2.2.1 = some x) (hfin : (T k).2.2.2 = false) {ty : FieldType} {v : Value} (hd : parseFieldDescriptor (T k).2.2.1 = some ty) (hn : narrow ty v = v) (hfit : fits ty v = true) (hl : k < fs.length) (hld : d < fs.length)
    (hdg : decode cc pc = .ok (.putfield index, 3)) (kk : ∀ (x1 : Value) (H1 : Heap) (locs1 : List Loc), va_P D cl (ws.set q0 (a, .inr (ci, (fs.set d x1).set k v))) H1 → va_D A (ws.set q0 (a, .inr (ci, (fs.set d x1).set k v))) → va_S A H0 H1 locs1 → W p l e R s m args below meth c H1 locs1 cells slots Q (F0 m (pc + 3) ls rest)) : W p l e R s m args below meth c H locs cells slots Q (F0 m pc ls (v :: .ref a :: rest)) := by
  refine va_putG hexec hb hts hin ty0 hty hown hK hP hD hS0 q0 he hc k hk hlink hsame hfin hd hn hfit (fs2 := (fs.set d (if D.2 ci d = D.2 ci k then v else vp_V fs d)).set k v) (fun j hj => ?_) hdg (kk _)
  have e0 : ∀ j, vp_V ((fs.set d (if D.2 ci d = D.2 ci k then v else vp_V fs d)).set k v) j = if j = k then v else if j = d then (if D.2 ci d = D.2 ci k then v else vp_V fs d) else vp_V fs j := fun j => by
    rw [← vp_updV_set (by rw [List.length_set]; exact hl) v j]
    by_cases h1 : j = k
    · simp [updV, h1]
    · simp only [updV, h1, if_false]
      rw [← vp_updV_set hld _ j]
      simp only [updV]
  rw [e0]
  by_cases hjk : j = k
  · exact Or.inl ⟨by rw [hjk], by rw [if_pos hjk]⟩
  · rw [if_neg hjk]
    by_cases hd2 : j = d
    · subst hd2
      rw [if_pos rfl]
      by_cases hs : D.2 ci j = D.2 ci k
      · exact Or.inl ⟨hs, by rw [if_pos hs]⟩
      · exact Or.inr ⟨hs, by rw [if_neg hs]⟩
    · rw [if_neg hd2]
      exact Or.inr ⟨va_apart2 hts hin ty0 hty hK hc hj hk (hnk j hj hjk hd2), rfl⟩
theorem va_putGF (hexec : p.tables.exec = Jvm.exec) (hb : c.code = cc) {own ref C : String} {T : u_T} {N ci index : Nat} {Ts : List Cond} (hts : ∀ w ∈ Ts, w.before args s = true) (hin : ∀ w ∈ u_ws C T N, w ∈ Ts) (ty0 : Nat → FieldType) (hty : ∀ k, k < N → parseFieldDescriptor (T k).2.2.1 = some (ty0 k)) (hown : s.vm.findClass own = some m.cls) (hK : va_K D cl tys s) (hP : va_P D cl ws H) (hD : va_D A ws) (hS0 : va_S A H0 H locs) (q0 : Nat) {fs : List Value} (he : ws[q0]? = some (a, .inr (ci, fs))) (hc : cl[ci]? = some (C, T, N)) (k : Nat) (hk : k < N) (hlink : (Cond.fieldLink own index ref (T k).2.1 (T k).2.2.1).before args s = true) (hsame : ∀ x, s.fieldFound? (T k).1 (T k).2.1 (T k).2.2.1 = some x → s.fieldFound? ref (T k).2.1 (T k).2.2.1 = some x) (hfin : (T k).2.2.2 = true) (hin2 : meth.name = "<init>") (hdecl : (T k).1 = own) {ty : FieldType} {v : Value} (hd : parseFieldDescriptor (T k).2.2.1 = some ty) (hn : narrow ty v = v) (hfit : fits ty v = true) {fs2 : List Value} (hG : ∀ j, j < N → (D.2 ci j = D.2 ci k ∧ vp_V fs2 j = v) ∨ (D.2 ci j ≠ D.2 ci k ∧ vp_V fs2 j = vp_V fs j))
    (hdg : decode cc pc = .ok (.putfield index, 3)) (kk : ∀ (H1 : Heap) (locs1 : List Loc), va_P D cl (ws.set q0 (a, .inr (ci, fs2))) H1 → va_D A (ws.set q0 (a, .inr (ci, fs2))) → va_S A H0 H1 locs1 → W p l e R s m args below meth c H1 locs1 cells slots Q (F0 m (pc + 3) ls rest)) : W p l e R s m args below meth c H locs cells slots Q (F0 m pc ls (v :: .ref a :: rest)) := by
  obtain ⟨r, h1, cell, q1, q2, q3, q4⟩ := hP q0 _ he
  have hr : r = (C, T, N) := Option.some.inj (h1.symm.trans hc)
  subst hr
  obtain ⟨hS, hfc, kC, hkC, hkind⟩ := hK.1 ci _ hc
  obtain ⟨cf, kf, fi, f, hi, hsl⟩ := hS k hk
  have hlay := hts _ (hin _ (u_in_lay hk))
  unfold u_lay at hlay
  rw [if_pos hfin] at hlay
  have hst := (u_facts hfc hkC (u_lays hts hin hk) hi).1
  have hcf : m.cls = cf := by
    obtain ⟨_, _, c', _, _, _, -, -, hf', -, -, -, hown2, -⟩ := Cond.laysFinal_spec hlay
    have e1 : c' = cf := by have := hi.symm.trans hf'; simp at this; exact this.1.symm
    rw [hdecl] at hown2
    rw [← e1]; exact Option.some.inj (hown.symm.trans hown2)
  have h6 := u_fits hfc hkC hkind (Or.inr hlay) hi hd hn hfit
  refine W.putFinK hexec hb hown hlink (hsame _ hi) hst hcf hin2 (by rw [q2]; exact h6) q1 q3 (by rw [hsl]; exact k2_hasslot (q4 k hk)) rfl rfl hdg fun H' e1 e2 e3 => ?_
  rw [hsl] at e1 ⊢
  exact kk H' _ (hP.set hD he ⟨_, hc, ⟨_, e1, q2, q3, dup_set q4 hk hG⟩⟩ e3) (hD.set he) (hS0.put e2 e3 (hD.2 q0 _ he))
theorem va_put2F {k : Nat} (hexec : p.tables.exec = Jvm.exec) (hb : c.code = cc) {own ref C : String} {T : u_T} {N ci index : Nat} {Ts : List Cond} (hts : ∀ w ∈ Ts, w.before args s = true) (hin : ∀ w ∈ u_ws C T N, w ∈ Ts) (ty0 : Nat → FieldType) (hty : ∀ k, k < N → parseFieldDescriptor (T k).2.2.1 = some (ty0 k)) (hnk : ∀ j, j < N → j ≠ k → (T j).2.1 ≠ (T k).2.1) (hown : s.vm.findClass own = some m.cls) (hK : va_K D cl tys s) (hP : va_P D cl ws H) (hD : va_D A ws) (hS0 : va_S A H0 H locs) (q0 : Nat) {fs : List Value} (he : ws[q0]? = some (a, .inr (ci, fs))) (hc : cl[ci]? = some (C, T, N)) (hk : k < N) (hlink : (Cond.fieldLink own index ref (T k).2.1 (T k).2.2.1).before args s = true) (hsame : ∀ x, s.fieldFound? (T k).1 (T k).2.1 (T k).2.2.1 = some x → s.fieldFound? ref (T k).2.1 (T k).2.2.1 = some x) (hfin : (T k).2.2.2 = true) (hin2 : meth.name = "<init>") (hdecl : (T k).1 = own) {ty : FieldType} {v : Value} (hd : parseFieldDescriptor (T k).2.2.1 = some ty) (hn : narrow ty v = v) (hfit : fits ty v = true) (hl : k < fs.length)
    (hdg : decode cc pc = .ok (.putfield index, 3)) (kk : ∀ (H1 : Heap) (locs1 : List Loc), va_P D cl (ws.set q0 (a, .inr (ci, fs.set k v))) H1 → va_D A (ws.set q0 (a, .inr (ci, fs.set k v))) → va_S A H0 H1 locs1 → W p l e R s m args below meth c H1 locs1 cells slots Q (F0 m (pc + 3) ls rest)) : W p l e R s m args below meth c H locs cells slots Q (F0 m pc ls (v :: .ref a :: rest)) := by
  refine va_putGF hexec hb hts hin ty0 hty hown hK hP hD hS0 q0 he hc k hk hlink hsame hfin hin2 hdecl hd hn hfit (fun j hj => ?_) hdg kk
  by_cases hjk : j = k
  · subst hjk
    exact Or.inl ⟨rfl, by rw [← vp_updV_set hl v j]; simp [updV]⟩
  · exact Or.inr ⟨va_apart2 hts hin ty0 hty hK hc hj hk (hnk j hj hjk), by rw [← vp_updV_set hl v j]; simp [updV, hjk]⟩
theorem va_putBF {k : Nat} (hexec : p.tables.exec = Jvm.exec) (hb : c.code = cc) {own ref C : String} {T : u_T} {N ci index : Nat} {Ts : List Cond} (hts : ∀ w ∈ Ts, w.before args s = true) (hin : ∀ w ∈ u_ws C T N, w ∈ Ts) (ty0 : Nat → FieldType) (hty : ∀ k, k < N → parseFieldDescriptor (T k).2.2.1 = some (ty0 k)) (d : Nat) (hnk : ∀ j, j < N → j ≠ k → j ≠ d → (T j).2.1 ≠ (T k).2.1) (hown : s.vm.findClass own = some m.cls) (hK : va_K D cl tys s) (hP : va_P D cl ws H) (hD : va_D A ws) (hS0 : va_S A H0 H locs) (q0 : Nat) {fs : List Value} (he : ws[q0]? = some (a, .inr (ci, fs))) (hc : cl[ci]? = some (C, T, N)) (hk : k < N) (hlink : (Cond.fieldLink own index ref (T k).2.1 (T k).2.2.1).before args s = true) (hsame : ∀ x, s.fieldFound? (T k).1 (T k).2.1 (T k).2.2.1 = some x → s.fieldFound? ref (T k).2.1 (T k).2.2.1 = some x) (hfin : (T k).2.2.2 = true) (hin2 : meth.name = "<init>") (hdecl : (T k).1 = own) {ty : FieldType} {v : Value} (hd : parseFieldDescriptor (T k).2.2.1 = some ty) (hn : narrow ty v = v) (hfit : fits ty v = true) (hl : k < fs.length) (hdv : vp_V fs d = v)
    (hdg : decode cc pc = .ok (.putfield index, 3)) (kk : ∀ (H1 : Heap) (locs1 : List Loc), va_P D cl (ws.set q0 (a, .inr (ci, fs.set k v))) H1 → va_D A (ws.set q0 (a, .inr (ci, fs.set k v))) → va_S A H0 H1 locs1 → W p l e R s m args below meth c H1 locs1 cells slots Q (F0 m (pc + 3) ls rest)) : W p l e R s m args below meth c H locs cells slots Q (F0 m pc ls (v :: .ref a :: rest)) := by
  refine va_putGF hexec hb hts hin ty0 hty hown hK hP hD hS0 q0 he hc k hk hlink hsame hfin hin2 hdecl hd hn hfit (fun j hj => ?_) hdg kk
  by_cases hjk : j = k
  · subst hjk
    exact Or.inl ⟨rfl, by rw [← vp_updV_set hl v j]; simp [updV]⟩
  · by_cases hjd : D.2 ci j = D.2 ci k
    · by_cases hd2 : j = d
      · subst hd2
        exact Or.inl ⟨hjd, by rw [← vp_updV_set hl v j]; simp [updV, hjk, hdv]⟩
      · exact absurd hjd (va_apart2 hts hin ty0 hty hK hc hj hk (hnk j hj hjk hd2))
    · exact Or.inr ⟨hjd, by rw [← vp_updV_set hl v j]; simp [updV, hjk]⟩
theorem va_putDF {k : Nat} (hexec : p.tables.exec = Jvm.exec) (hb : c.code = cc) {own ref C : String} {T : u_T} {N ci index : Nat} {Ts : List Cond} (hts : ∀ w ∈ Ts, w.before args s = true) (hin : ∀ w ∈ u_ws C T N, w ∈ Ts) (ty0 : Nat → FieldType) (hty : ∀ k, k < N → parseFieldDescriptor (T k).2.2.1 = some (ty0 k)) (d : Nat) (hdk : d ≠ k) (hnk : ∀ j, j < N → j ≠ k → j ≠ d → (T j).2.1 ≠ (T k).2.1) (hown : s.vm.findClass own = some m.cls) (hK : va_K D cl tys s) (hP : va_P D cl ws H) (hD : va_D A ws) (hS0 : va_S A H0 H locs) (q0 : Nat) {fs : List Value} (he : ws[q0]? = some (a, .inr (ci, fs))) (hc : cl[ci]? = some (C, T, N)) (hk : k < N) (hlink : (Cond.fieldLink own index ref (T k).2.1 (T k).2.2.1).before args s = true) (hsame : ∀ x, s.fieldFound? (T k).1 (T k).2.1 (T k).2.2.1 = some x → s.fieldFound? ref (T k).2.1 (T k).2.2.1 = some x) (hfin : (T k).2.2.2 = true) (hin2 : meth.name = "<init>") (hdecl : (T k).1 = own) {ty : FieldType} {v : Value} (hd : parseFieldDescriptor (T k).2.2.1 = some ty) (hn : narrow ty v = v) (hfit : fits ty v = true) (hl : k < fs.length) (hld : d < fs.length)
    (hdg : decode cc pc = .ok (.putfield index, 3)) (kk : ∀ (x1 : Value) (H1 : Heap) (locs1 : List Loc), va_P D cl (ws.set q0 (a, .inr (ci, (fs.set d x1).set k v))) H1 → va_D A (ws.set q0 (a, .inr (ci, (fs.set d x1).set k v))) → va_S A H0 H1 locs1 → W p l e R s m args below meth c H1 locs1 cells slots Q (F0 m (pc + 3) ls rest)) : W p l e R s m args below meth c H locs cells slots Q (F0 m pc ls (v :: .ref a :: rest)) := by
  refine va_putGF hexec hb hts hin ty0 hty hown hK hP hD hS0 q0 he hc k hk hlink hsame hfin hin2 hdecl hd hn hfit (fs2 := (fs.set d (if D.2 ci d = D.2 ci k then v else vp_V fs d)).set k v) (fun j hj => ?_) hdg (kk _)
  have e0 : ∀ j, vp_V ((fs.set d (if D.2 ci d = D.2 ci k then v else vp_V fs d)).set k v) j = if j = k then v else if j = d then (if D.2 ci d = D.2 ci k then v else vp_V fs d) else vp_V fs j := fun j => by
    rw [← vp_updV_set (by rw [List.length_set]; exact hl) v j]
    by_cases h1 : j = k
    · simp [updV, h1]
    · simp only [updV, h1, if_false]
      rw [← vp_updV_set hld _ j]
      simp only [updV]
  rw [e0]
  by_cases hjk : j = k
  · exact Or.inl ⟨by rw [hjk], by rw [if_pos hjk]⟩
  · rw [if_neg hjk]
    by_cases hd2 : j = d
    · subst hd2
      rw [if_pos rfl]
      by_cases hs : D.2 ci j = D.2 ci k
      · exact Or.inl ⟨hs, by rw [if_pos hs]⟩
      · exact Or.inr ⟨hs, by rw [if_neg hs]⟩
    · rw [if_neg hd2]
      exact Or.inr ⟨va_apart2 hts hin ty0 hty hK hc hj hk (hnk j hj hjk hd2), rfl⟩
end DUP
