/-! J, 21: what an array holds may be said by any function that agrees on its places -/
theorem f_ext {E : jE} {K : jK} {z0 z : jZ} {Ws W2 : List va_W} {cells slots pc : Nat} {vs : List (Option Value)} {st : List Value} {w : va_W} {a n : Nat} {c : ClassId} {f g : Nat → Int32} (i j : Nat) (hi : Ws[i]? = some w) (hj : w[j]? = some (a, .inl (c, n, .inl f))) (h : ∀ k, k < n → f k = g k) (h2 : Ws.set i (w.set j (a, .inl (c, n, .inl g))) = W2) (k : jW K (fO K E z0 z W2) cells slots pc vs st) : jW K (fO K E z0 z Ws) cells slots pc vs st := by
  refine j_P (fun H hH => ?_) k
  have hc := (hH.1.cell hi hj).1
  refine hH.upd hi hj h2 ?_ (fun _ _ => rfl)
  have hc : H[a]? = some (vp_cell c (n, .inl f)) := hc
  show H[a]? = some (vp_cell c (n, .inl g))
  rw [hc]
  congr 1
  show arrV c n (fun j => .int (f j)) = arrV c n (fun j => .int (g j))
  unfold arrV
  congr 1
  apply Array.ext_getElem?
  intro q
  by_cases hq : q < n
  · simp [hq, h q hq]
  · simp [hq]
