/-! J, 5: starts that know the method's name; a world of owned cells -/
def jKn : jK → String
  | (p, l, e, R, s, m, args, below, meth, c, A, Q) => meth.name
theorem j_startI {l : Launch} {E : jE} {y : MethodName} {b : ByteArray} {L : Nat} {ret : Option FieldType} {fr lo mc ms : Nat} {as : List Value} {P : Heap → Prop} {Fr : Nat → Prop} {Post : Option Value → Heap → Prop} {own : String} {vs : List (Option Value)}
    (hs : l.stackTraces = false) (hy : plainName y.cls = true) (ho : y.cls = own) (hv : jv 0 vs = lv_args 0 as) (hn : vs.length = L) (hg : (lg_sl as).length ≤ L) (hF : ∀ H0, P H0 → ∀ q, Fr q → E.1.heap.size ≤ q)
    (body : ∀ (K : jK) (H0 : Heap), P H0 → jOK E K b own ({ frames := fr, cells := mc, slots := ms, locals := lo } : Room) → jEnd K ret mc ms Post → jKl K = l → (jKs K).heap = H0 → jKn K = y.name → (∀ q, jKA K q ↔ Fr q ∨ H0.size ≤ q) → jW K (fun X => X = H0) 0 0 0 vs []) : jC l E y b L ret fr lo mc ms as P Fr Post := by
  intro H0 hP0
  refine Met.ofW (cc := b) (maxL := L) (ret := ret) hy rfl ?_
  intro p e s m args below meth c s₁ B hml hvv
  obtain ⟨rfl, hsz, hG⟩ := hvv
  have hts := atoms_spec (ws := ws_ y b L ret) B.pre
  have hts : ∀ w ∈ lw_all, w.before as.toArray s = true := fun w h => hts w (List.mem_cons_of_mem _ h)
  have hown : s.vm.findClass own = some m.cls := by rw [← ho]; exact findClass_of_methodNamed B.named
  rw [lg_entry_eq]
  have hl := lv_entry as (n := L) hg
  have k := body (p, l, e, _, s, m, as.toArray, below, meth, c, jA Fr H0, MQ below (fun _ st o t => (∃ r, o = .returned r ∧ Post r t.heap) ∧ va_F (jA Fr H0) st t) as.toArray s mc ms (jA Fr H0)) H0 hP0
    ⟨B.exec, B.bytes, hown, hts, fun q h => Or.inr (by rw [← hsz]; exact h), hG, fun q h z => by
      rcases z with z | z
      · exact absurd (hF H0 hP0 q z) (by omega)
      · have := hG.2.1
        rw [hsz] at this
        omega, B.notSynchronized, rfl, hs⟩ ⟨B.returns, rfl⟩ rfl hsz (name_of_methodNamed B.named B.method).1 (fun q => Iff.rfl)
  exact k s.heap [] _ hsz va_S.rf (by rw [hml, hv]; exact hl) (hn.trans hml.symm)
/-- the owned cells -/
def wO (K : jK) (E : jE) (ws : va_W) : Heap → Prop := fun H => va_P E.2.1 vwCl ws H ∧ va_D (jKA K) ws
section WO
variable {E : jE} {K : jK} {cc : ByteArray} {own C : String} {T : u_T} {N ci : Nat} {Rf Rc Rs Rl : Nat} {cells slots pc : Nat} {vs : List (Option Value)} {st : List Value} {ws ws2 : va_W} {a : Nat} {fs : List Value}
theorem j_wget (hE : jSt E) (hk : jOK E K cc own ({ frames := Rf, cells := Rc, slots := Rs, locals := Rl } : Room)) (hin : ∀ w ∈ u_ws C T N, w ∈ lw_all) (q0 : Nat) (he : ws[q0]? = some (a, .inr (ci, fs))) (hc : vwCl[ci]? = some (C, T, N)) (k : Nat) (hkN : k < N) {index : Nat} (hlink : (Cond.fieldLink own index C (T k).2.1 (T k).2.2.1) ∈ lw_all) (hsame : (T k).1 = C) {v : Value} (hv : fs[k]? = some v) (d : decode cc pc = .ok (.getfield index, 3)) (kk : jW K (wO K E ws) cells slots (pc + 3) vs (v :: st)) : jW K (wO K E ws) cells slots pc vs (.ref a :: st) := by
  obtain ⟨p, l, e, R, s, m', args, below, meth, c, A', Q⟩ := K
  intro H locs ls hP hS hl hz
  obtain ⟨hx, hb, hown, hts, -, hG, -⟩ := hk
  exact va_get hx hb hts hin hown (hG.K hE.1) hP.1 q0 he hc k hkN (hts _ hlink) (by rw [hsame]; exact fun x h => h) hv d (kk H locs ls hP hS hl hz)
theorem j_wput (hE : jSt E) (hk : jOK E K cc own ({ frames := Rf, cells := Rc, slots := Rs, locals := Rl } : Room)) (hin : ∀ w ∈ u_ws C T N, w ∈ lw_all) {ty0 : Nat → FieldType} (hty : ∀ k, k < N → parseFieldDescriptor (T k).2.2.1 = some (ty0 k)) (hnm : ∀ a, a < N → ∀ b, b < N → a ≠ b → (T a).2.1 ≠ (T b).2.1) (q0 : Nat) (he : ws[q0]? = some (a, .inr (ci, fs))) (hc : vwCl[ci]? = some (C, T, N)) (k : Nat) (hkN : k < N) {index : Nat} (hlink : (Cond.fieldLink own index C (T k).2.1 (T k).2.2.1) ∈ lw_all) (hsame : (T k).1 = C) (hfin : (T k).2.2.2 = false ∨ ((T k).2.2.2 = true ∧ jKn K = "<init>" ∧ (T k).1 = own)) {ty : FieldType} {v : Value} (hd : parseFieldDescriptor (T k).2.2.1 = some ty) (hn : narrow ty v = v) (hfit : fits ty v = true) (hl : k < fs.length) (h2 : ws.set q0 (a, .inr (ci, fs.set k v)) = ws2) (d : decode cc pc = .ok (.putfield index, 3)) (kk : jW K (wO K E ws2) cells slots (pc + 3) vs st) : jW K (wO K E ws) cells slots pc vs (v :: .ref a :: st) := by
  subst h2
  obtain ⟨p, l, e, R, s, m', args, below, meth, c, A', Q⟩ := K
  intro H locs ls hP hS hl2 hz
  obtain ⟨hx, hb, hown, hts, -, hG, -⟩ := hk
  rcases hfin with hfin | ⟨hf1, hf2, hf3⟩
  · exact va_put hx hb hts hin ty0 hty hnm hown (hG.K hE.1) hP.1 hP.2 hS q0 he hc k hkN (hts _ hlink) (by rw [hsame]; exact fun x h => h) hfin hd hn hfit hl d (fun H1 locs1 hP1 hD1 hS1 => kk H1 locs1 ls ⟨hP1, hD1⟩ hS1 hl2 hz)
  · exact va_putF hx hb hts hin ty0 hty hnm hown (hG.K hE.1) hP.1 hP.2 hS q0 he hc k hkN (hts _ hlink) (by rw [hsame]; exact fun x h => h) hf1 hf2 hf3 hd hn hfit hl d (fun H1 locs1 hP1 hD1 hS1 => kk H1 locs1 ls ⟨hP1, hD1⟩ hS1 hl2 hz)
/-- a new array of ints -/
theorem j_wnewI (hE : jSt E) (hk : jOK E K cc own ({ frames := Rf, cells := Rc, slots := Rs, locals := Rl } : Room)) (harr : Cond.arrayClass FieldType.int ∈ lw_all) {z : Int} (n : Nat) (hz : z = (n : Int)) (hn : n < 100000) (hroom : cells + 1 ≤ Rc ∧ slots + n ≤ Rs) (d : decode cc pc = .ok (.newarray .int, 2)) (kk : ∀ q : Nat, jW K (wO K E (ws ++ [(q, .inl (E.2.2 0, n, .inl (fun _ => 0)))])) (cells + 1) (slots + n) (pc + 2) vs (.ref q :: st)) : jW K (wO K E ws) cells slots pc vs (.int (jI z) :: st) := by
  subst hz
  obtain ⟨p, l, e, R, s, m', args, below, meth, c, A', Q⟩ := K
  intro H locs ls hP hS hl2 hz
  obtain ⟨hx, hb, hown, hts, hA, hG, -, -, rfl, -⟩ := hk
  have hK := hG.K hE.1
  refine va_newa hx hb (atype := .int) (ty := .int) (hts _ harr) rfl hK hP.1 hP.2 hS hA (a0 := (n, .inl (fun _ => 0))) (fun cA => rfl) (N' := n) ?_ ?_ ?_ hroom.1 hroom.2 d (fun q cA H1 hK1 hP1 hD1 hS1 => ?_)
  · intro h
    have := Int32.lt_iff_toInt_lt.mp h
    rw [jI_toInt (by omega)] at this
    have e0 : (0 : Int32).toInt = 0 := rfl
    omega
  · rw [jI_clamp (by omega) (by omega), Int.toNat_natCast]
  · show n * 4 ≤ 536870912; omega
  · have e1 := (hK.2 0 (E.2.2 0, .int) rfl).2
    have e2 := (hK1.2 (vwTy E.2.2).length (cA, .int) (by rw [List.getElem?_append_right (Nat.le_refl _), Nat.sub_self]; rfl)).2
    have e3 : cA = E.2.2 0 := Option.some.inj (e2.symm.trans e1)
    subst e3
    exact kk q H1 locs ls ⟨hP1, hD1⟩ hS1 hl2 hz
end WO
