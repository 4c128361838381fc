/-! the sea's rule put: none; another one -/
set_option maxRecDepth 100000
section RL
variable {gI : Nat → ClassId} {o : Nat} {ax : Nat → Nat} {rn : Option (Nat × Nat)} {tl : va_W} {fd : Nat → Int32} {ar : Nat → Nat → Int32} {lw : Nat → Int64} {hh : HT}
theorem wXR_none : (wX gI o ax rn tl fd ar lw hh).set 0 (o, .inr (0, (fsX ax rn fd).set 19 .null)) = wX gI o ax none (wR gI o rn fd ar ++ tl) fd ar lw hh := by
  rcases rn with _ | ⟨rp, rq⟩ <;> rfl
theorem wXR_some {rp rq : Nat} {sz en pw ak rt rm : Int32} {tx : Nat → Int32} : (wX gI o ax (some (rp, rq)) (wR gI o rn fd ar ++ tl) (upd (upd (upd (upd (upd (upd fd 70 sz) 71 en) 72 pw) 73 ak) 74 rt) 75 rm) (va_up ar 60 tx) lw hh).Perm ((wX gI o ax rn ([(rp, .inr (3, [.ref rq, .int sz, .int en, .int pw, .int ak, .int rt, .int rm, .ref o])), (rq, .inl (gI 3, 80, .inl tx))] ++ tl) fd ar lw hh).set 0 (o, .inr (0, (fsX ax rn fd).set 19 (.ref rp)))) := by
  have e1 : wX gI o ax (some (rp, rq)) (wR gI o rn fd ar ++ tl) (upd (upd (upd (upd (upd (upd fd 70 sz) 71 en) 72 pw) 73 ak) 74 rt) 75 rm) (va_up ar 60 tx) lw hh = wX0 gI o ax (some (rp, rq)) fd ar lw ++ (wH gI ax hh ++ ([(rp, .inr (3, [.ref rq, .int sz, .int en, .int pw, .int ak, .int rt, .int rm, .ref o])), (rq, .inl (gI 3, 80, .inl tx))] ++ (wR gI o rn fd ar ++ tl))) := rfl
  have e2 : (wX gI o ax rn ([(rp, .inr (3, [.ref rq, .int sz, .int en, .int pw, .int ak, .int rt, .int rm, .ref o])), (rq, .inl (gI 3, 80, .inl tx))] ++ tl) fd ar lw hh).set 0 (o, .inr (0, (fsX ax rn fd).set 19 (.ref rp))) = wX0 gI o ax (some (rp, rq)) fd ar lw ++ (wH gI ax hh ++ (wR gI o rn fd ar ++ ([(rp, .inr (3, [.ref rq, .int sz, .int en, .int pw, .int ak, .int rt, .int rm, .ref o])), (rq, .inl (gI 3, 80, .inl tx))] ++ tl))) := rfl
  rw [e1, e2]
  exact List.Perm.append_left _ (List.Perm.append_left _ (List.perm_append_comm_assoc _ _ _))
theorem wXR_same : (wX gI o ax rn tl fd ar lw hh).set 0 (o, .inr (0, (fsX ax rn fd).set 19 (va_rf (rn.map Prod.fst)))) = wX gI o ax rn tl fd ar lw hh := by
  rcases rn with _ | ⟨rp, rq⟩ <;> rfl
theorem byte_fitN {n : Nat} {cA : ClassId} {f : Nat → Int32} (h : ∀ i, i < n → fits .byte (.int (f i)) = true) (i : Nat) (v : Value) (hv : (arrV cA n (fun j => .int (f j))).slots[i]? = some v) : fits .byte v = true := by
  have hlt : i < n := by
    have := (Array.getElem?_eq_some_iff.mp hv).1
    rwa [arrV_size] at this
  have e : some v = some (Value.int (f i)) := hv.symm.trans (arrV_read cA (fun j => Value.int (f j)) hlt)
  rw [Option.some.inj e]
  exact h i hlt
theorem byte_fit {cA : ClassId} {f : Nat → Int32} (h : ∀ i, i < 80 → fits .byte (.int (f i)) = true) : ∀ (i : Nat) (v : Value), (vp_cell cA (80, .inl f)).slots[i]? = some v → fits .byte v = true := byte_fitN h
end RL
