/-! the law's world: the sea; behind it the row out, the model, the pages -/
set_option maxRecDepth 100000
def wPL (gI : Nat → ClassId) (o : Nat) : List PGc → va_W
  | [] => []
  | u :: r => wPg gI o u ++ wPL gI o r
abbrev wPA (gI : Nat → ClassId) (ax : Nat → Nat) (pq : Nat → Option Nat) : va_W := [((ax 31), .inl (gI 5, 3, .inr (.inr (.inr (.inr pq)))))]
abbrev wOut (gI : Nat → ClassId) (po : Nat) (ot : Nat → Int64) : va_W := [(po, .inl (gI 1, 1, .inr (.inl ot)))]
section LW
variable {D : va_G} {cl : List vw_C} {H : Heap} {A : Nat → Prop}
variable {gI : Nat → ClassId} {o : Nat} {ax : Nat → Nat} {rn : Option (Nat × Nat)} {xs ys zs tl z w : va_W} {fd : Nat → Int32} {ar : Nat → Nat → Int32} {lw : Nat → Int64} {hh : HT}
theorem fr_permP (hp : xs.Perm ys) (h : va_P D cl (wX gI o ax rn xs fd ar lw hh) H) : va_P D cl (wX gI o ax rn ys fd ar lw hh) H := by
  rw [wX_nil] at h ⊢
  exact va_P_perm h (List.Perm.append_left _ hp.symm)
theorem fr_permD (hp : xs.Perm ys) (h : va_D A (wX gI o ax rn xs fd ar lw hh)) : va_D A (wX gI o ax rn ys fd ar lw hh) := by
  rw [wX_nil] at h ⊢
  exact va_D_perm h (List.Perm.append_left _ hp.symm)
/-- the model ahead of all -/
theorem lwm_outP (h : va_P D cl (wX gI o ax rn (z ++ (w ++ tl)) fd ar lw hh) H) : va_P D cl (w ++ wX gI o ax rn (z ++ tl) fd ar lw hh) H := fr_outP (fr_permP (List.perm_append_comm_assoc z w tl) h)
theorem lwm_outD (h : va_D A (wX gI o ax rn (z ++ (w ++ tl)) fd ar lw hh)) : va_D A (w ++ wX gI o ax rn (z ++ tl) fd ar lw hh) := fr_outD (fr_permD (List.perm_append_comm_assoc z w tl) h)
theorem lwm_inP (h : va_P D cl (w ++ wX gI o ax rn (z ++ tl) fd ar lw hh) H) : va_P D cl (wX gI o ax rn (z ++ (w ++ tl)) fd ar lw hh) H := fr_permP (List.perm_append_comm_assoc w z tl) (fr_inP h)
theorem lwm_inD (h : va_D A (w ++ wX gI o ax rn (z ++ tl) fd ar lw hh)) : va_D A (wX gI o ax rn (z ++ (w ++ tl)) fd ar lw hh) := fr_permD (List.perm_append_comm_assoc w z tl) (fr_inD h)
/-- the pages' row ahead of the rest -/
theorem lwp_perm : (z ++ (w ++ (xs ++ tl))).Perm (xs ++ (z ++ (w ++ tl))) :=
  (List.Perm.append_left z (List.perm_append_comm_assoc w xs tl)).trans (List.perm_append_comm_assoc z xs (w ++ tl))
theorem lwp_outP (h : va_P D cl (wX gI o ax rn (z ++ (w ++ (xs ++ tl))) fd ar lw hh) H) : va_P D cl (wX gI o ax rn (xs ++ (z ++ (w ++ tl))) fd ar lw hh) H := fr_permP lwp_perm h
theorem lwp_outD (h : va_D A (wX gI o ax rn (z ++ (w ++ (xs ++ tl))) fd ar lw hh)) : va_D A (wX gI o ax rn (xs ++ (z ++ (w ++ tl))) fd ar lw hh) := fr_permD lwp_perm h
theorem lwp_inP (h : va_P D cl (wX gI o ax rn (xs ++ (z ++ (w ++ tl))) fd ar lw hh) H) : va_P D cl (wX gI o ax rn (z ++ (w ++ (xs ++ tl))) fd ar lw hh) H := fr_permP lwp_perm.symm h
theorem lwp_inD (h : va_D A (wX gI o ax rn (xs ++ (z ++ (w ++ tl))) fd ar lw hh)) : va_D A (wX gI o ax rn (z ++ (w ++ (xs ++ tl))) fd ar lw hh) := fr_permD lwp_perm.symm h
/-- a page that is new, ahead of the pages' row -/
theorem lwk_perm : ((ys ++ xs) ++ (z ++ (w ++ tl))).Perm (z ++ (w ++ (xs ++ (ys ++ tl)))) := by
  refine List.Perm.trans ?_ (lwp_perm (z := z) (w := w) (xs := xs) (tl := ys ++ tl)).symm
  rw [List.append_assoc]
  refine (List.perm_append_comm_assoc ys xs _).trans (List.Perm.append_left xs ?_)
  exact (lwp_perm (z := z) (w := w) (xs := ys) (tl := tl)).symm
theorem wPL_app {gI : Nat → ClassId} {o : Nat} : ∀ {a b : List PGc}, wPL gI o (a ++ b) = wPL gI o a ++ wPL gI o b
  | [], _ => rfl
  | u :: a, b => by
    show wPg gI o u ++ wPL gI o (a ++ b) = _
    rw [wPL_app (a := a)]
    exact (List.append_assoc _ _ _).symm
theorem wNP_list {gI : Nat → ClassId} {o : Nat} {np : Option PGc} {pl : List PGc} : wPL gI o (np.toList ++ pl) = wNP gI o np ++ wPL gI o pl := by
  cases np <;> rfl
theorem lwk_inP {np : Option PGc} {pl : List PGc} (h : va_P D cl (wX gI o ax rn ((wNP gI o np ++ xs) ++ (z ++ (w ++ wPL gI o pl))) fd ar lw hh) H) : va_P D cl (wX gI o ax rn (z ++ (w ++ (xs ++ wPL gI o (np.toList ++ pl)))) fd ar lw hh) H := by
  rw [wNP_list]; exact fr_permP lwk_perm h
theorem lwk_inD {np : Option PGc} {pl : List PGc} (h : va_D A (wX gI o ax rn ((wNP gI o np ++ xs) ++ (z ++ (w ++ wPL gI o pl))) fd ar lw hh)) : va_D A (wX gI o ax rn (z ++ (w ++ (xs ++ wPL gI o (np.toList ++ pl)))) fd ar lw hh) := by
  rw [wNP_list]; exact fr_permD lwk_perm h
/-- one page ahead of the pages' row, and back -/
theorem lwa_perm {l1 l2 : List PGc} {u : PGc} : (z ++ (w ++ (xs ++ wPL gI o (l1 ++ u :: l2)))).Perm ((wPg gI o u ++ xs) ++ (z ++ (w ++ (wPL gI o l1 ++ wPL gI o l2)))) := by
  have e : wPL gI o (l1 ++ u :: l2) = wPL gI o l1 ++ (wPg gI o u ++ wPL gI o l2) := wPL_app
  rw [e]
  refine List.Perm.trans ?_ (lwk_perm (ys := wPg gI o u) (xs := xs) (z := z) (w := w) (tl := wPL gI o l1 ++ wPL gI o l2)).symm
  exact List.Perm.append_left z (List.Perm.append_left w (List.Perm.append_left xs (List.perm_append_comm_assoc _ _ _)))
end LW
section CA
variable {V : evT} {D : va_G} {tys : List (ClassId × FieldType)} {cl : List vw_C}
variable {p : Program} {l : Launch} {e : Env} {R : Room} {s : State} {m : MethodId} {args : Array Value} {below : List Frame} {meth : Method} {c : Code} {H : Heap} {locs : List Loc} {cells slots : Nat} {Qf : State → Prop}
variable {cc : ByteArray} {nL pc : Nat} {ls : Array Slot} {rest st0 : List Value} {own : String} {A : Nat → Prop} {ret : Option FieldType} {ws : va_W}
/-- a call that makes cells, the callee holding the whole world -/
theorem cl_iA {S : Type} {Q : Int32 → S → Prop} {w1 : S → va_W} {mc ms kc ks : Nat} {a : Array Value} (hmc : mc ≤ kc) (hms : ms ≤ ks) (F : ct_F p m c meth cc nL s args own ret A V D cl tys)
    (hr : va_Run p l e R s m args below meth c H locs cells slots mc ms (F0 m pc ls st0) rest (va_Qi Q (ct_B D cl tys ws H.size w1) (va_A ws H.size) a) (va_A ws H.size)) (hD : va_D A ws) (hS : va_S A s.heap H locs)
    (kk : ∀ (x : Int32) (u : S) (H1 : Heap) (locs1 : List Loc), Q x u → va_P D cl (w1 u) H1 → va_D A (w1 u) → va_S A s.heap H1 locs1 → W p l e R s m args below meth c H1 locs1 (cells + kc) (slots + ks) Qf (F0 m (pc + 3) ls (.int x :: rest))) : W p l e R s m args below meth c H locs cells slots Qf (F0 m pc ls st0) := by
  obtain ⟨-, -, -, hA, hK, hE⟩ := F
  have hf := ct_fr hD hS hA
  refine va_calli hr hS (fun q _ h => hf q h) hf (fun x u t H1 locs1 ht hvm hq hB hz hk hS1 => ?_)
  obtain ⟨hP1, hK1, hD1⟩ := hB
  rw [ht] at hP1
  exact W.widen (Nat.add_le_add_left hmc _) (Nat.add_le_add_left hms _) (kk x u H1 locs1 hq hP1 (hD1.weaken (fun _ q _ h => hf q.1 h)) hS1)
end CA
