/-! J, 6: methods that only read objects at hand -/
def zC (l : Launch) (E : jE) (y : MethodName) (b : ByteArray) (L : Nat) (ret : Option FieldType) (fr lo : Nat) (as : List Value) (H0 : Heap) (post : Option Value → Prop) : Prop := jC l E y b L ret fr lo 0 0 as (fun X => X = H0) (fun _ => False) (fun v H => post v ∧ H = H0)
section ZC
variable {l : Launch} {E : jE} {K : jK} {cc : ByteArray} {own C : String} {T : u_T} {N ci : Nat} {Rf Rc Rs Rl : Nat} {cells slots pc : Nat} {vs : List (Option Value)} {st : List Value} {a : Nat} {fs : List Value} {H0 : Heap}
variable {y : MethodName} {b : ByteArray} {L : Nat} {ret : Option FieldType} {fr lo : Nat}
theorem z_start {as : List Value} {post : Option Value → Prop} {vs : List (Option Value)} (hs : l.stackTraces = false) (hy : plainName y.cls = true) (ho : y.cls = own) (hv : jv 0 vs = lv_args 0 as) (hn : vs.length = L) (hg : (lg_sl as).length ≤ L)
    (body : ∀ (K : jK), jOK E K b own ({ frames := fr, cells := 0, slots := 0, locals := lo } : Room) → jEnd K ret 0 0 (fun v H => post v ∧ H = H0) → jKl K = l → jG E.1 (jKs K) → jW K (fun X => X = H0) 0 0 0 vs []) : zC l E y b L ret fr lo as H0 post := by
  refine j_start hs hy ho hv hn hg (fun _ _ _ h => h.elim) ?_
  intro K H1 hP hk he hl hH hA
  have hG : jG E.1 (jKs K) := by
    obtain ⟨p, l, e, R, s, m', args, below, meth, c, A', Q⟩ := K
    exact hk.2.2.2.2.2.1
  subst hP
  exact body K hk he hl hG
theorem va_at_P {D : va_G} {cl : List vw_C} {q : Nat × va_E} {H : Heap} (h : va_at D cl q H) : va_P D cl [q] H := fun k p hk => by
  cases k with
  | zero => cases hk; exact h
  | succ k => exact absurd hk (by simp)
theorem j_hget (hE : jSt E) (hk : jOK E K cc own ({ frames := Rf, cells := Rc, slots := Rs, locals := Rl } : Room)) (hin : ∀ w ∈ u_ws C T N, w ∈ lw_all) (hq : va_at E.2.1 vwCl (a, .inr (ci, fs)) H0) (hc : vwCl[ci]? = some (C, T, N)) (k : Nat) (hkN : k < N) {index : Nat} (hlink : (Cond.fieldLink own index C (T k).2.1 (T k).2.2.1) ∈ lw_all) (hsame : (T k).1 = C) {v : Value} (hv : fs[k]? = some v) (d : decode cc pc = .ok (.getfield index, 3)) (kk : jW K (fun X => X = H0) cells slots (pc + 3) vs (v :: st)) : jW K (fun X => X = H0) cells slots pc vs (.ref a :: st) := by
  obtain ⟨p, l, e, R, s, m', args, below, meth, c, A', Q⟩ := K
  intro H locs ls hP hS hl hz
  subst hP
  obtain ⟨hx, hb, hown, hts, -, hG, -⟩ := hk
  exact va_get hx hb hts hin hown (hG.K hE.1) (va_at_P hq) 0 rfl hc k hkN (hts _ hlink) (by rw [hsame]; exact fun x h => h) hv d (kk H locs ls rfl hS hl hz)
/-- a call of such a method; its answer a number -/
theorem j_zVi (hE : jSt E) (hk : jOK E K cc own ({ frames := Rf, cells := Rc, slots := Rs, locals := Rl } : Room)) (hl0 : jKl K = l) (hG : jG E.1 (jKs K)) (hq : va_at E.2.1 vwCl (a, .inr (ci, fs)) H0) (hc : vwCl[ci]? = some (C, T, N)) {As rest : List Value} {z : Int} (hC : zC l E y b L ret fr lo (.ref a :: As) H0 (fun rr => rr = some (.int (jI z)))) (n : Nat) {idx : Nat} (hT : GoodIn lw_all (wsV own idx C y (ws_ y b L ret)))
    (hd : y.cls = C ∧ y.cls ≠ "java/lang/invoke/MethodHandle" ∧ y.cls ≠ "java/lang/invoke/VarHandle" ∧ (parseMethodDescriptor y.desc).map (fun d => d.parameters.length) = some n) (hn : As.length = n) (hroom : fr + 1 ≤ Rf ∧ 8 + (L + 11) + lo ≤ Rl) (hcell : cells ≤ Rc ∧ slots ≤ Rs) (hst : st = As.reverse ++ .ref a :: rest) (hcat : (rest.map fun v => v.category).sum ≤ 8)
    (d : decode cc pc = .ok (.invokevirtual idx, 3)) (kk : jW K (fun X => X = H0) cells slots (pc + 3) vs (.int (jI z) :: rest)) : jW K (fun X => X = H0) cells slots pc vs st := by
  refine j_callV hk hC hl0 n hT hd hn hroom hcell hst hcat d (fun H h => h) (fun H h => ?_) (fun q h => h.elim) ?_
  · subst h
    exact va_recv (hG.K hE.1) (va_at_P hq) hc (q0 := 0) rfl
  · rintro H1 v H2 rfl ⟨rfl, rfl⟩ - -
    exact kk
end ZC
/-- an operation's object -/
def opFs (o : Op) : List Value := [.int (jI ((letK (oK o) : Nat) : Int)), .int (jI ((oT o : Nat) : Int)), .int (jI ((97 + oI o : Nat) : Int))]
def opAtH (E : jE) (a : Nat) (o : Op) (H : Heap) : Prop := va_at E.2.1 vwCl (a, .inr (5, opFs o)) H ∧ opOK o
theorem letK_c {o : Op} (h : opOK o) : (oK o = 0 ∧ letK (oK o) = 114) ∨ (oK o = 1 ∧ letK (oK o) = 119) ∨ (oK o = 2 ∧ letK (oK o) = 99) ∨ (oK o = 3 ∧ letK (oK o) = 120) := by
  have := h.1
  unfold letK
  rcases (show oK o = 0 ∨ oK o = 1 ∨ oK o = 2 ∨ oK o = 3 by omega) with e | e | e | e <;> rw [e] <;> simp
