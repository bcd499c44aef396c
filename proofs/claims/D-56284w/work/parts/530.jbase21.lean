/-! J, 21: what an array holds may be said by any function that agrees on its places -/
theorem f_ext {E : jE} {K : jK} {z0 z : jZ} {Ws W2 : List va_W} {cells slots pc : Nat} {vs : List (Option Value)} {st : List Value} {w : va_W} {a n : Nat} {c : ClassId} {f g : Nat → Int32} (i j : Nat) (hi : Ws[i]? = some w) (hj : w[j]? = some (a, .inl (c, n, .inl f))) (h : ∀ k, k < n → f k = g k) (h2 : Ws.set i (w.set j (a, .inl (c, n, .inl g))) = W2) (k : jW K (fO K E z0 z W2) cells slots pc vs st) : jW K (fO K E z0 z Ws) cells slots pc vs st := by
  refine j_P (fun H hH => ?_) k
  have hc := (hH.1.cell hi hj).1
  refine hH.upd hi hj h2 ?_ (fun _ _ => rfl)
  have hc : H[a]? = some (vp_cell c (n, .inl f)) := hc
  show H[a]? = some (vp_cell c (n, .inl g))
  rw [hc]
  congr 1
  show arrV c n (fun j => .int (f j)) = arrV c n (fun j => .int (g j))
  unfold arrV
  congr 1
  apply Array.ext_getElem?
  intro q
  by_cases hq : q < n
  · simp [hq, h q hq]
  · simp [hq]
theorem f_castA {E : jE} {K : jK} {cc : ByteArray} {own : String} {rm : Room} {z0 z : jZ} {Ws : List va_W} {cells slots pc : Nat} {vs : List (Option Value)} {st : List Value} {a n : Nat} {f : Nat → Int} (hE : jSt E) (hk : jOK E K cc own rm) (hx : fIn z Ws (a, .inl (E.2.2 0, n, .inl (fun j => jI (f j))))) {index : Nat} (hlink : Cond.classLink own index "[I" ∈ lw_all) (d : decode cc pc = .ok (.checkcast index, 3)) (kk : jW K (fO K E z0 z Ws) cells slots (pc + 3) vs (.ref a :: st)) : jW K (fO K E z0 z Ws) cells slots pc vs (.ref a :: st) := by
  obtain ⟨p, l, e, R, s, m', args, below, meth, c, A', Q⟩ := K
  intro H locs ls hP hS hl hz2
  obtain ⟨hx2, hb, hown, hts, -, hG, -⟩ := hk
  have ht : (vwTy E.2.2)[0]? = some (E.2.2 0, .int) := rfl
  exact va_castA hx2 hb hown (hts _ hlink) (va_at_P (va_at_ar (hP.get hx))) 0 rfl (va_nm_int ((hG.K hE.1).2 0 _ ht).2) d (kk H locs ls hP hS hl hz2)
