/-! rows of ints in a row: made, read -/
set_option maxRecDepth 100000
/-- eight rows of three -/
def wGr (gI : Nat → ClassId) (q : Nat) (tg : Nat → Nat → Int32) : va_W := [(q, .inl (gI 6, 8, .inr (.inr (.inr (.inr (fun j => some (q + 1 + j))))))), (q + 1 + 0, .inl (gI 0, 3, .inl (tg 0))), (q + 1 + 1, .inl (gI 0, 3, .inl (tg 1))), (q + 1 + 2, .inl (gI 0, 3, .inl (tg 2))), (q + 1 + 3, .inl (gI 0, 3, .inl (tg 3))), (q + 1 + 4, .inl (gI 0, 3, .inl (tg 4))), (q + 1 + 5, .inl (gI 0, 3, .inl (tg 5))), (q + 1 + 6, .inl (gI 0, 3, .inl (tg 6))), (q + 1 + 7, .inl (gI 0, 3, .inl (tg 7)))]
theorem lt8 {i : Nat} (h : i < 8) : i = 0 ∨ i = 1 ∨ i = 2 ∨ i = 3 ∨ i = 4 ∨ i = 5 ∨ i = 6 ∨ i = 7 := by omega
theorem wGr_o {gI : Nat → ClassId} {q i : Nat} {tg : Nat → Nat → Int32} {r : va_W} (hi : i < 8) : (wGr gI q tg ++ r)[1 + i]? = some (q + 1 + i, .inl (gI 0, 3, .inl (tg i))) := by
  rcases lt8 hi with rfl | rfl | rfl | rfl | rfl | rfl | rfl | rfl <;> rfl
theorem wGr_s {gI : Nat → ClassId} {q i : Nat} {tg : Nat → Nat → Int32} {f : Nat → Int32} {r : va_W} (hi : i < 8) : (wGr gI q tg ++ r).set (1 + i) (q + 1 + i, .inl (gI 0, 3, .inl f)) = wGr gI q (va_up tg i f) ++ r := by
  rcases lt8 hi with rfl | rfl | rfl | rfl | rfl | rfl | rfl | rfl <;> rfl
/-- with cells behind them -/
def wGc (gI : Nat → ClassId) (q : Nat) (tg : Nat → Nat → Int32) (r : va_W) : va_W := wGr gI q tg ++ r
theorem wGc_app {gI : Nat → ClassId} {q : Nat} {tg : Nat → Nat → Int32} {r w : va_W} : wGc gI q tg r ++ w = wGr gI q tg ++ (r ++ w) := List.append_assoc _ _ _
theorem wGr_adr {gI : Nat → ClassId} {q : Nat} {tg : Nat → Nat → Int32} : ((wGr gI q tg).map Prod.fst) = [q, q + 1 + 0, q + 1 + 1, q + 1 + 2, q + 1 + 3, q + 1 + 4, q + 1 + 5, q + 1 + 6, q + 1 + 7] := rfl
section GR
variable {p : Program} {l : Launch} {e : Env} {R : Room} {s : State} {m : MethodId} {args : Array Value} {below : List Frame} {meth : Method} {c : Code} {H : Heap} {locs : List Loc} {cells slots : Nat} {Q : State → Prop}
variable {D : va_G} {cl : List vw_C} {tys : List (ClassId × FieldType)} {cc : ByteArray} {pc : Nat} {ls : Array Slot} {rest : List Value} {own : String} {A : Nat → Prop} {ws : va_W} {H0 : Heap} {a : Nat}
theorem pt_aldA (hexec : p.tables.exec = Jvm.exec) (hb : c.code = cc) (hK : va_K D cl tys s) (hP : va_P D cl ws H) (q0 t0 : Nat) {cA : ClassId} {t : FieldType} {n : Nat} {f : Nat → Option Nat} (ha : ws[q0]? = some (a, .inl (cA, n, .inr (.inr (.inr (.inr f)))))) (ht : tys[t0]? = some (cA, .array t)) {i : Int32} (hin : vp_in i n) (hdg : decode cc pc = .ok (.aaload, 1))
    (kk : W p l e R s m args below meth c H locs cells slots Q (F0 m (pc + 1) ls (va_rf (f i.toNatClampNeg) :: rest))) : W p l e R s m args below meth c H locs cells slots Q (F0 m pc ls (.int i :: .ref a :: rest)) := by
  have hlt : i.toNatClampNeg < n := Nat.not_le.mp fun q => hin (Or.inr q)
  exact W.aald (v := va_rf (f i.toNatClampNeg)) (ty := .array t) hexec hb (hP q0 _ ha) ((hK.2 t0 _ ht).1 n (fun j => va_rf (f j))) rfl (fun q => by cases q) (by show ¬ (i < 0 ∨ (arrV _ _ _).slots.size ≤ _); rw [arrV_size]; exact hin) (by show (arrV _ _ _).slots[_]? = _; rw [arrV_read _ _ hlt]) rfl rfl hdg kk

theorem outer8 (cA : ClassId) (h0 : Nat) : Jvm.Free.Multi.outerC cA 8 h0 8 = arrV cA 8 (fun j => va_rf (some (h0 + 1 + j))) := rfl
theorem inner3 (cA : ClassId) : Jvm.Free.Multi.innerC cA 3 (.int 0) = arrV cA 3 (fun _ => .int 0) := rfl
theorem pt_mnew (hexec : p.tables.exec = Jvm.exec) (hb : c.code = cc) {gI : Nat → ClassId} {index : Nat} (hown : s.vm.findClass own = some m.cls) (hclink : (Cond.classLink own index "[[I").before args s = true) (hover : va_AI s) (harr : (Cond.arrayClass .int).before args s = true)
    (hK : va_K D cl tys s) (t0 t1 : Nat) (ht0 : tys[t0]? = some (gI 6, .array .int)) (ht1 : tys[t1]? = some (gI 0, .int)) (hP : va_P D cl ws H) (hD : va_D A ws) (hS : va_S A H0 H locs) (hA : ∀ q, H0.size ≤ q → A q)
    (hcells : cells + 9 ≤ R.cells) (hslots : slots + 32 ≤ R.slots) (hdg : decode cc pc = .ok (.multianewarray index 2, 4))
    (kk : ∀ (q : Nat) (H1 : Heap), va_P D cl (ws ++ wGr gI q (fun _ _ => 0)) H1 → va_D A (ws ++ wGr gI q (fun _ _ => 0)) → va_S A H0 H1 locs →
      W p l e R s m args below meth c H1 locs (cells + 9) (slots + 32) Q (F0 m (pc + 4) ls (.ref q :: rest))) : W p l e R s m args below meth c H locs cells slots Q (F0 m pc ls (.int 3 :: .int 8 :: rest)) := by
  intro T hT X
  obtain ⟨vm₁, cA, comp, hW, hfA, hfC, -, -, X1, step⟩ := X.multianewarray2F hexec hown (ty := .int) hclink hover harr (g := F0 m pc ls (.int 3 :: .int 8 :: rest)) rfl (by rw [hb]; exact hdg) (n := 8) (k := 3) (rest := rest) rfl (by decide) (by decide) (by decide) (by decide) (by decide) rfl rfl (by show cells + (1 + 8) ≤ _; omega) (by show slots + (8 + 8 * 3) ≤ _; omega)
  have eA : cA = gI 6 := Option.some.inj (hfA.symm.trans (hK.2 t0 _ ht0).2)
  have eC : comp = gI 0 := Option.some.inj (hfC.symm.trans (hK.2 t1 _ ht1).2)
  have e8 : (8 : Int32).toNatClampNeg = 8 := rfl
  have e3 : (3 : Int32).toNatClampNeg = 3 := rfl
  rw [e8, e3] at X1 step
  obtain ⟨f1, f2, -, -⟩ := Jvm.Free.Multi.fill_facts (T.setVm vm₁) cA comp 8 3 (defaultValue .int) 8
  have hh : (T.setVm vm₁).heap = H := hT
  have fo : ∀ x : Nat, x < H.size → (Jvm.Free.Multi.fill (T.setVm vm₁) cA comp 8 3 (defaultValue .int) 8).heap[x]? = H[x]? := fun x hx => by
    rw [Jvm.Free.Multi.fill_old (T.setVm vm₁) cA comp 8 3 (defaultValue .int) (a := x) (by rw [hh]; exact hx) 8, hh]
  have fi : ∀ j : Nat, j < 8 → (Jvm.Free.Multi.fill (T.setVm vm₁) cA comp 8 3 (defaultValue .int) 8).heap[H.size + 1 + j]? = some (arrV comp 3 (fun _ => .int 0)) := fun j hj => by
    rw [← hh, Jvm.Free.Multi.fill_inner (T.setVm vm₁) cA comp 8 3 (defaultValue .int) 8 j hj]
    exact congrArg some (inner3 comp)
  rw [hh] at f1 f2
  rw [outer8] at f2
  subst eA; subst eC
  generalize hF : Jvm.Free.Multi.fill (T.setVm vm₁) (gI 6) (gI 0) 8 3 (defaultValue .int) 8 = F at X1 step f1 f2 fo fi
  have hnew : ∀ (k : Nat) (z : Nat × va_E), (wGr gI H.size (fun _ _ => 0))[k]? = some z → va_at D cl z F.heap ∧ H.size ≤ z.1 := fun k z hz => by
    match k, hz with
    | 0, hz => cases hz; exact ⟨f2, Nat.le_refl _⟩
    | 1, hz => cases hz; exact ⟨fi 0 (by decide), by show H.size ≤ H.size + 1 + 0; omega⟩
    | 2, hz => cases hz; exact ⟨fi 1 (by decide), by show H.size ≤ H.size + 1 + 1; omega⟩
    | 3, hz => cases hz; exact ⟨fi 2 (by decide), by show H.size ≤ H.size + 1 + 2; omega⟩
    | 4, hz => cases hz; exact ⟨fi 3 (by decide), by show H.size ≤ H.size + 1 + 3; omega⟩
    | 5, hz => cases hz; exact ⟨fi 4 (by decide), by show H.size ≤ H.size + 1 + 4; omega⟩
    | 6, hz => cases hz; exact ⟨fi 5 (by decide), by show H.size ≤ H.size + 1 + 5; omega⟩
    | 7, hz => cases hz; exact ⟨fi 6 (by decide), by show H.size ≤ H.size + 1 + 6; omega⟩
    | 8, hz => cases hz; exact ⟨fi 7 (by decide), by show H.size ≤ H.size + 1 + 7; omega⟩
    | k + 9, hz => simp [wGr] at hz
  have hP1 : va_P D cl (ws ++ wGr gI H.size (fun _ _ => 0)) F.heap := (hP.kept fun k z hz => fo z.1 (hP k z hz).lt).app fun k z hz => (hnew k z hz).1
  have hD1 : va_D A (ws ++ wGr gI H.size (fun _ _ => 0)) := by
    refine hD.app (va_D_ofnodup ?_ fun z hz => ?_) fun i j x y hi hj he => ?_
    · rw [wGr_adr, List.nodup_iff_pairwise_ne]
      simp only [List.pairwise_cons, List.mem_cons, List.not_mem_nil, or_false, forall_eq_or_imp, forall_eq, List.Pairwise.nil, and_true, false_implies, implies_true]
      refine ⟨⟨?_, ?_, ?_, ?_, ?_, ?_, ?_, ?_⟩, ⟨?_, ?_, ?_, ?_, ?_, ?_, ?_⟩, ⟨?_, ?_, ?_, ?_, ?_, ?_⟩, ⟨?_, ?_, ?_, ?_, ?_⟩, ⟨?_, ?_, ?_, ?_⟩, ⟨?_, ?_, ?_⟩, ⟨?_, ?_⟩, ?_⟩ <;> omega
    · obtain ⟨k, hk⟩ := List.getElem?_of_mem hz
      exact hA _ (Nat.le_trans hS.1 (hnew k z hk).2)
    · have h1 := (hP i x hi).lt
      have h2 := (hnew j y hj).2
      omega
  have hS1 : va_S A H0 F.heap locs := ⟨by rw [f1]; exact Nat.le_trans hS.1 (by omega), fun q h1 h2 => (fo q (Nat.lt_of_lt_of_le h1 hS.1)).trans (hS.2.1 q h1 h2), hS.2.2⟩
  obtain ⟨t, a1, b1⟩ := kk H.size F.heap hP1 hD1 hS1 F rfl X1
  refine ⟨t, step t ?_, b1⟩
  rw [hT]
  exact a1
end GR
