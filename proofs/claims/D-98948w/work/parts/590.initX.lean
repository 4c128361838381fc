/-! the sea as it is made -/
set_option maxRecDepth 100000
theorem va_P_set {D : va_G} {cl : List vw_C} {ws : va_W} {H : Heap} {k a : Nat} {e e' : va_E} (h : va_P D cl ws H) (hk : ws[k]? = some (a, e)) (he : va_at D cl (a, e) H → va_at D cl (a, e') H) : va_P D cl (ws.set k (a, e')) H := by
  intro j q hq
  by_cases hj : k = j
  · subst hj
    rw [List.getElem?_set_self (List.getElem?_eq_some_iff.mp hk).1] at hq
    cases hq
    exact he (h k _ hk)
  · rw [List.getElem?_set_ne hj] at hq
    exact h j q hq
theorem arrV_cong {cA : ClassId} {n : Nat} {f g : Nat → Value} (h : ∀ j, j < n → f j = g j) : arrV cA n f = arrV cA n g := by
  unfold arrV
  have : (Array.ofFn fun i : Fin n => f i.1) = (Array.ofFn fun i : Fin n => g i.1) := congrArg Array.ofFn (funext fun i => h i.1 i.2)
  simp only [this]
theorem va_at_q {D : va_G} {cl : List vw_C} {H : Heap} {a n : Nat} {cA : ClassId} {f g : Nat → Option Nat} (h : ∀ j, j < n → f j = g j) (hv : va_at D cl (a, .inl (cA, n, .inr (.inr (.inr (.inr f))))) H) : va_at D cl (a, .inl (cA, n, .inr (.inr (.inr (.inr g))))) H := by
  have e : vp_cell cA (n, .inr (.inr (.inr (.inr f)))) = vp_cell cA (n, .inr (.inr (.inr (.inr g)))) :=
    show arrV cA n (fun j => va_rf (f j)) = arrV cA n (fun j => va_rf (g j)) from arrV_cong fun j hj => by rw [h j hj]
  exact Eq.trans (α := Option Cell) hv (congrArg some e)
def fdI : Nat → Int32 | 9 => 1 | 12 => 2 | _ => 0
def hhI : HT := (fun i => i, fun _ _ _ => 0, fun _ _ => 0)
theorem pt_pc {p : Program} {l : Launch} {e : Env} {R : Room} {s : State} {m : MethodId} {args : Array Value} {below : List Frame} {meth : Method} {c : Code} {H : Heap} {locs : List Loc} {cells slots : Nat} {Q : State → Prop} {ls : Array Slot} {rest : List Value} {pc n : Nat} (h : pc = n) (k : W p l e R s m args below meth c H locs cells slots Q (F0 m n ls rest)) : W p l e R s m args below meth c H locs cells slots Q (F0 m pc ls rest) := h ▸ k
