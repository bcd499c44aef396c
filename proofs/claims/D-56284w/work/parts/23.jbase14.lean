/-! J, 14: copies of arrays, class objects, lent blocks -/
theorem f_lend (z : jZ) (ws Wr : List va_W) (hs : ∀ w ∈ ws, w ∈ Wr) : ∃ zL : jZ, zLe z zL ∧ (∀ w ∈ ws, ∀ x ∈ w, zL x) ∧ ∀ x, zL x → z x ∨ ∃ w ∈ Wr, x ∈ w :=
  ⟨fun x => z x ∨ ∃ w ∈ ws, x ∈ w, fun _ h => Or.inl h, fun w hw x hx => Or.inr ⟨w, hw, hx⟩, fun x h => by
    rcases h with h | ⟨w, hw, hx⟩
    · exact Or.inl h
    · exact Or.inr ⟨w, hs w hw, hx⟩⟩
/-- an object that may lie in an array of Objects -/
def okO (z : jZ) (y : Nat) : Prop := ∃ (ci : Nat) (fs : List Value) (r : vw_C), z (y, .inr (ci, fs)) ∧ vwCl[ci]? = some r ∧ Cond.castable r.1 "java/lang/Object" ∈ lw_tbl
theorem okO.up {z z2 : jZ} {y : Nat} (h : okO z y) (hl : zLe z z2) : okO z2 y := by
  obtain ⟨ci, fs, r, h1, h2⟩ := h
  exact ⟨ci, fs, r, hl _ h1, h2⟩
def elZ (z : jZ) (l : List Nat) : Prop := ∀ y ∈ l, okO z y
theorem elZ.up {z z2 : jZ} {l : List Nat} (h : elZ z l) (hl : zLe z z2) : elZ z2 l := fun y hy => (h y hy).up hl
theorem elZ.nil {z : jZ} : elZ z [] := fun y hy => by cases hy
theorem elZ.app {z : jZ} {l l2 : List Nat} (h : elZ z l) (h2 : elZ z l2) : elZ z (l ++ l2) := fun y hy => by
  rcases List.mem_append.mp hy with q | q
  · exact h y q
  · exact h2 y q
theorem elZ.one {z : jZ} {y : Nat} (h : okO z y) : elZ z [y] := fun x hx => by rw [List.mem_singleton.mp hx]; exact h
theorem elZ.sub {z : jZ} {l l2 : List Nat} (h : elZ z l) (hs : ∀ y ∈ l2, y ∈ l) : elZ z l2 := fun y hy => h y (hs y hy)
theorem okO.op {z : jZ} {y : Nat} {fs : List Value} (h : z (y, .inr (5, fs))) : okO z y := ⟨5, fs, _, h, rfl, q3249⟩
theorem okO.int {z : jZ} {y : Nat} {fs : List Value} (h : z (y, .inr (17, fs))) : okO z y := ⟨17, fs, _, h, rfl, q3252⟩
theorem opsZ.el {z : jZ} {l : List Nat} {s : List Op} (h : opsZ z l s) : elZ z l := by
  induction l generalizing s with
  | nil => exact elZ.nil
  | cons a l ih => cases s with
    | nil => exact h.elim
    | cons o s =>
      intro y hy
      rcases List.mem_cons.mp hy with rfl | q
      · exact okO.op h.1
      · exact ih h.2.2 y q
theorem va_cpy_q {f g : Nat → Option Nat} {sp dp n : Nat} (k : Nat) : va_cpy f g sp dp n k = if dp ≤ k ∧ k < dp + n then f (sp + (k - dp)) else g k := rfl
section FCOPY
variable {E : jE} {K : jK} {cc : ByteArray} {own : String} {Rf Rc Rs Rl : Nat} {z0 z : jZ} {Ws W2 : List va_W} {cells slots pc : Nat} {vs : List (Option Value)} {st : List Value} {a : Nat} {w : va_W} {i j : Nat}
/-- System.arraycopy of references -/
theorem f_copyq (hE : jSt E) (hk : jOK E K cc own ({ frames := Rf, cells := Rc, slots := Rs, locals := Rl } : Room)) {index : Nat} (hlink : (Cond.methodLink own index arraycopyName) ∈ lw_all) (hnat : (Cond.native arraycopyName) ∈ lw_all) (hstat : (Cond.static arraycopyName) ∈ lw_all) (hini : (Cond.initialized "java/lang/System") ∈ lw_all) {a0 n0 n1 : Nat} {f g : Nat → Option Nat} (hx : fIn z Ws (a0, .inl (E.2.2 4, n0, refs f))) (i j : Nat) (hi : Ws[i]? = some w) (hj : w[j]? = some (a, .inl (E.2.2 4, n1, refs g)))
    {sp dp n : Int} (sp' dp' n' : Nat) (e1 : sp = (sp' : Int)) (e2 : dp = (dp' : Int)) (e3 : n = (n' : Int)) (h4 : sp' + n' ≤ n0) (h5 : dp' + n' ≤ n1) (hb0 : n0 < 1000000) (hb1 : n1 < 1000000) (hel : ∀ i : Nat, i < n' → ∀ y : Nat, f (sp' + i) = some y → okO z y) (hroom : 1 ≤ Rf ∧ (st.map fun v => v.category).sum + 40 ≤ Rl) (h2 : Ws.set i (w.set j (a, .inl (E.2.2 4, n1, refs (va_cpy f g sp' dp' n')))) = W2) (d : decode cc pc = .ok (.invokestatic index, 3)) (kk : jW K (fO K E z0 z W2) cells slots (pc + 3) vs st) : jW K (fO K E z0 z Ws) cells slots pc vs (.int (jI n) :: .int (jI dp) :: .ref a :: .int (jI sp) :: .ref a0 :: st) := by
  subst e1 e2 e3
  obtain ⟨p, l, e, R, s, m, args, below, meth, c, A, Q⟩ := K
  intro H locs ls hP0 hS hl hz
  obtain ⟨hexec, hb, hown, hts, hA, hG, hA0, -, rfl, -⟩ := hk
  have hK := hG.K hE.1
  have nn : ∀ x : Nat, x < 1000000 → (jI (x : Int)).toNatClampNeg = x ∧ (jI (x : Int)).toInt = (x : Int) ∧ ¬ jI (x : Int) < 0 := by
    intro x hx
    refine ⟨by rw [jI_clamp (by omega) (by omega), Int.toNat_natCast], jI_toInt (by omega), fun h => ?_⟩
    have := Int32.lt_iff_toInt_lt.mp h
    rw [jI_toInt (by omega)] at this
    have e0 : (0 : Int32).toInt = 0 := rfl
    omega
  obtain ⟨s1, s2, s3⟩ := nn sp' (by omega)
  obtain ⟨d1, d2, d3⟩ := nn dp' (by omega)
  obtain ⟨n1', n2, n3⟩ := nn n' (by omega)
  have hc0 : H[a0]? = some (vp_cell (E.2.2 4) (n0, refs f)) := hP0.get hx
  obtain ⟨hc1, hAa⟩ := hP0.1.cell hi hj
  have hc1 : H[a]? = some (vp_cell (E.2.2 4) (n1, refs g)) := hc1
  have ht : (vwTy E.2.2)[4]? = some (E.2.2 4, .object "java/lang/Object") := rfl
  obtain ⟨-, k0, hk0, cm0, hkk0⟩ := (hK.2 4 _ ht).1 n0 (fun j => va_rf (f j))
  obtain ⟨-, k1, hk1, cm1, hkk1⟩ := (hK.2 4 _ ht).1 n1 (fun j => va_rf (g j))
  intro T hT X
  obtain ⟨vm', X', step⟩ := X.arraycopy hexec hown (hts _ hlink) (hts _ hnat) (hts _ hstat) (hts _ hini) (src := a0) (dst := a) (cs := vp_cell (E.2.2 4) (n0, refs f)) (cd := vp_cell (E.2.2 4) (n1, refs g)) (srcPos := jI (sp' : Int)) (destPos := jI (dp' : Int)) (n := jI (n' : Int)) (by rw [hT]; exact hc0) (by rw [hT]; exact hc1)
    (fun _ h => by cases h) (fun _ h => by cases h) (fun h => by cases h) (fun h => by cases h) hk0 hk1 hkk0 hkk1 rfl s3 d3 n3
    (by rw [s2, n2]; show ¬ _ > ((arrV (E.2.2 4) n0 (fun j => va_rf (f j))).slots.size : Int); rw [arrV_size]; omega)
    (by rw [d2, n2]; show ¬ _ > ((arrV (E.2.2 4) n1 (fun j => va_rf (g j))).slots.size : Int); rw [arrV_size]; omega)
    (fun vm₁ hal i hi => by
      rw [n1'] at hi
      rw [s1]
      have e : (vp_cell (E.2.2 4) (n0, refs f)).slots.getD (sp' + i) .null = va_rf (f (sp' + i)) := by
        show (arrV (E.2.2 4) n0 (fun j => va_rf (f j))).slots.getD _ _ = _
        rw [Array.getD_eq_getD_getElem?, arrV_read _ _ (by omega)]
        rfl
      rw [e]
      cases hy : f (sp' + i) with
      | none => exact ⟨rfl, trivial⟩
      | some y =>
        obtain ⟨ci, fs, r, hzy, hcy, hcast⟩ := hel i hi y hy
        obtain ⟨cellV, g1, g2, g3⟩ := va_recv hK (va_at_P (va_at_dn hcy (hP0.1.2.2 _ hzy))) hcy (q0 := 0) rfl
        obtain ⟨kA, comp, r1, r2, r3, -⟩ := (hK.2 4 _ ht).2
        cases hk1.symm.trans r1
        cases hkk1.symm.trans r2
        obtain ⟨kC, hkC, -⟩ := Vm.findClass_spec g3
        obtain ⟨kE, hkE, -⟩ := Vm.findClass_spec r3
        obtain ⟨kC', hkC', -⟩ := hal.2.2 _ _ hkC
        obtain ⟨kE', hkE', -⟩ := hal.2.2 _ _ hkE
        refine ⟨rfl, cellV, (show T.heap[y]? = some cellV by rw [hT]; exact g1), (fun q h => by rw [h] at g2; cases g2), ⟨kC', hkC'⟩, ?_, ?_⟩
        · exact ⟨kE', hkE'⟩
        · show vm₁.assignable _ _ = true
          rw [hal.assignable]
          exact vb_asgC (jNwC hE hG hcast) _ _ r3 g3)
    (g := F0 m pc ls (.int (jI (n' : Int)) :: .int (jI (dp' : Int)) :: .ref a :: .int (jI (sp' : Int)) :: .ref a0 :: st)) rfl hl.1 (rest := st) rfl (by rw [hb]; exact d) hroom.1 (by show 2 * 0 + _ + _ ≤ Rl; have hw : nativeFrameWords "java/lang/System" "arraycopy" 5 ≤ 29 := (by decide); have := hroom.2; omega)
  have e1 : copied (vp_cell (E.2.2 4) (n0, refs f)) (vp_cell (E.2.2 4) (n1, refs g)) (jI (sp' : Int)) (jI (dp' : Int)) (jI (n' : Int)) = vp_cell (E.2.2 4) (n1, refs (va_cpy f g sp' dp' n')) := by
    show (arrV (E.2.2 4) n1 (fun j => va_rf (g j))).storeRun (jI (dp' : Int)).toNatClampNeg ((arrV (E.2.2 4) n0 (fun j => va_rf (f j))).stretch (jI (sp' : Int)).toNatClampNeg (jI (n' : Int)).toNatClampNeg) = arrV (E.2.2 4) n1 (fun j => va_rf (va_cpy f g sp' dp' n' j))
    rw [s1, d1, n1']
    exact va_copied (fun z => va_rf z) (E.2.2 4) (E.2.2 4) f g h4
  rw [e1] at X' step
  have hlt : a < H.size := (Array.getElem?_eq_some_iff.mp hc1).1
  have hheap : ((T.setVm vm').setCell a (vp_cell (E.2.2 4) (n1, refs (va_cpy f g sp' dp' n')))).heap = H.setIfInBounds a (vp_cell (E.2.2 4) (n1, refs (va_cpy f g sp' dp' n'))) := by rw [← hT]; rfl
  have oq : ∀ q : Nat, q ≠ a → (H.setIfInBounds a (vp_cell (E.2.2 4) (n1, refs (va_cpy f g sp' dp' n'))))[q]? = H[q]? := fun q hq => by simp [Array.getElem?_setIfInBounds, Ne.symm hq]
  obtain ⟨t, a1, b1⟩ := kk _ _ ls (hP0.upd hi hj h2 (show (H.setIfInBounds a _)[a]? = some _ by simp [Array.getElem?_setIfInBounds, hlt]) oq) ⟨by simp; exact hS.1, fun q g1 g2 => by
      rw [oq q (fun e => g2 (by rw [e]; exact hAa))]
      exact hS.2.1 q g1 g2, fun q hq => by
      rcases List.mem_append.mp hq with h | h
      · exact hS.2.2 q h
      · obtain ⟨x, -, hx⟩ := List.mem_map.mp h
        rw [← hx]
        exact hAa⟩ hl hz _ hheap X'
  exact ⟨t, step t a1, b1⟩
theorem f_getC (hE : jSt E) (hk : jOK E K cc own ({ frames := Rf, cells := Rc, slots := Rs, locals := Rl } : Room)) (hM : va_Mi "[Ljava/lang/Object;" (kMir E) E.1) {index n : Nat} {f : Nat → Option Nat} (hx : fIn z Ws (a, .inl (E.2.2 4, n, refs f))) (hlink : (Cond.methodLink own index ⟨"java/lang/Object", "getClass", "()Ljava/lang/Class;"⟩) ∈ lw_all) (hdecl : (Cond.declares ⟨"java/lang/Object", "getClass", "()Ljava/lang/Class;"⟩) ∈ lw_tbl) (hsel : (Cond.selects "[Ljava/lang/Object;" ⟨"java/lang/Object", "getClass", "()Ljava/lang/Class;"⟩ ⟨"java/lang/Object", "getClass", "()Ljava/lang/Class;"⟩) ∈ lw_all) (hinst : (Cond.instanceMethod ⟨"java/lang/Object", "getClass", "()Ljava/lang/Class;"⟩) ∈ lw_all) (hnat : (Cond.native ⟨"java/lang/Object", "getClass", "()Ljava/lang/Class;"⟩) ∈ lw_all) (hroom : 1 ≤ Rf ∧ (st.map fun v => v.category).sum + 14 ≤ Rl) (d : decode cc pc = .ok (.invokevirtual index, 3)) (kk : jW K (fO K E z0 z Ws) cells slots (pc + 3) vs (.ref (kMir E) :: st)) : jW K (fO K E z0 z Ws) cells slots pc vs (.ref a :: st) := by
  have hD := va_Dc.of (jT_of hE hdecl rfl)
  obtain ⟨p, l, e, R, s, m, args, below, meth, c, A, Q⟩ := K
  intro H locs ls hP0 hS hl hz
  obtain ⟨hexec, hb, hown, hts, hA, hG, hA0, -, rfl, -⟩ := hk
  have hK := hG.K hE.1
  have ht : (vwTy E.2.2)[4]? = some (E.2.2 4, .object "java/lang/Object") := rfl
  have hc0 : H[a]? = some (vp_cell (E.2.2 4) (n, refs f)) := hP0.get hx
  exact va_getC hexec hb hl.1.symm hown (hts _ hlink) (hD.moved hG.1.alike).use (hts _ hsel) (hts _ hinst) (hts _ hnat) (va_Mi.moved hG.1.alike hM) ⟨_, hc0, rfl, va_nmO (hK.2 4 _ ht).2 (by decide +kernel)⟩ hroom.1 hroom.2 d (kk H locs ls hP0 hS hl hz)
theorem f_ldcM (hk : jOK E K cc own ({ frames := Rf, cells := Rc, slots := Rs, locals := Rl } : Room)) {P : Heap → Prop} {C : String} {mi index : Nat} (hM : va_Mi C mi E.1) (hlink : Cond.classLink own index C ∈ lw_all) (d : decode cc pc = .ok (.ldc index, 2)) (kk : jW K P cells slots (pc + 2) vs (.ref mi :: st)) : jW K P cells slots pc vs st := by
  obtain ⟨p, l, e, R, s, m, args, below, meth, c, A, Q⟩ := K
  intro H locs ls hP0 hS hl hz
  obtain ⟨hexec, hb, hown, hts, hA, hG, hA0, -, rfl, -⟩ := hk
  exact va_ldcM hexec hb hown (hts _ hlink) (va_Mi.moved hG.1.alike hM) d (kk H locs ls hP0 hS hl hz)
theorem f_ldcI (hk : jOK E K cc own ({ frames := Rf, cells := Rc, slots := Rs, locals := Rl } : Room)) {P : Heap → Prop} {index : Nat} {v : Int32} {zi : Int} (hv : v = jI zi) (hc : Cond.constant own index v ∈ lw_all) (d : decode cc pc = .ok (.ldc index, 2)) (kk : jW K P cells slots (pc + 2) vs (.int (jI zi) :: st)) : jW K P cells slots pc vs st := by
  subst hv
  obtain ⟨p, l, e, R, s, m, args, below, meth, c, A, Q⟩ := K
  intro H locs ls hP0 hS hl hz
  obtain ⟨hexec, hb, hown, hts, hA, hG, hA0, -, rfl, -⟩ := hk
  exact lv_ldc hexec hb hown (hts _ hc) d (kk H locs ls hP0 hS hl hz)
theorem j_castN (hk : jOK E K cc own ({ frames := Rf, cells := Rc, slots := Rs, locals := Rl } : Room)) {P : Heap → Prop} {index : Nat} (d : decode cc pc = .ok (.checkcast index, 3)) (kk : jW K P cells slots (pc + 3) vs (.null :: st)) : jW K P cells slots pc vs (.null :: st) := by
  obtain ⟨p, l, e, R, s, m, args, below, meth, c, A, Q⟩ := K
  intro H locs ls hP0 hS hl hz
  exact lv_castN hk.1 hk.2.1 d (kk H locs ls hP0 hS hl hz)
theorem f_mmax (hk : jOK E K cc own ({ frames := Rf, cells := Rc, slots := Rs, locals := Rl } : Room)) {P : Heap → Prop} {x y : Int} (hxy : jr x ∧ jr y) {index : Nat} (hlink : (Cond.methodLink own index Lib.Math.max.name) ∈ lw_all) (hstat : (Cond.static Lib.Math.max.name) ∈ lw_all) (hini : (Cond.initialized "java/lang/Math") ∈ lw_all) (hcode : (Cond.code Lib.Math.max.name Lib.Math.max.code 2 (some .int)) ∈ lw_all) (hroom : 1 ≤ Rf ∧ (st.map fun v => v.category).sum + 13 ≤ Rl) (hcell : cells ≤ Rc ∧ slots ≤ Rs) (d : decode cc pc = .ok (.invokestatic index, 3)) (kk : jW K P cells slots (pc + 3) vs (.int (jI (max x y)) :: st)) : jW K P cells slots pc vs (.int (jI y) :: .int (jI x) :: st) := by
  have e9 : (if jI x < jI y then jI y else jI x) = jI (max x y) := by
    by_cases h : x < y
    · rw [if_pos ((jI_lt hxy.1 hxy.2).mpr h), show max x y = y by omega]
    · rw [if_neg (fun q => h ((jI_lt hxy.1 hxy.2).mp q)), show max x y = x by omega]
  obtain ⟨p, l, e, R, s, m, args, below, meth, c, A, Q⟩ := K
  intro H locs ls hP0 hS hl hz
  obtain ⟨hexec, hb, hown, hts, hA, hG, hA0, -, rfl, -⟩ := hk
  refine va_mmax hexec hb hl.1.symm hown (hts _ hlink) (hts _ hstat) (hts _ hini) (hts _ hcode) hroom.1 hroom.2 hcell.1 hcell.2 d ?_
  rw [e9]
  exact kk H locs ls hP0 hS hl hz
theorem f_mmin (hk : jOK E K cc own ({ frames := Rf, cells := Rc, slots := Rs, locals := Rl } : Room)) {P : Heap → Prop} {x y : Int} (hxy : jr x ∧ jr y) {index : Nat} (hlink : (Cond.methodLink own index Lib.Math.min.name) ∈ lw_all) (hstat : (Cond.static Lib.Math.min.name) ∈ lw_all) (hini : (Cond.initialized "java/lang/Math") ∈ lw_all) (hcode : (Cond.code Lib.Math.min.name Lib.Math.min.code 2 (some .int)) ∈ lw_all) (hroom : 1 ≤ Rf ∧ (st.map fun v => v.category).sum + 13 ≤ Rl) (hcell : cells ≤ Rc ∧ slots ≤ Rs) (d : decode cc pc = .ok (.invokestatic index, 3)) (kk : jW K P cells slots (pc + 3) vs (.int (jI (min x y)) :: st)) : jW K P cells slots pc vs (.int (jI y) :: .int (jI x) :: st) := by
  have e9 : (if jI y < jI x then jI y else jI x) = jI (min x y) := by
    by_cases h : y < x
    · rw [if_pos ((jI_lt hxy.2 hxy.1).mpr h), show min x y = y by omega]
    · rw [if_neg (fun q => h ((jI_lt hxy.2 hxy.1).mp q)), show min x y = x by omega]
  obtain ⟨p, l, e, R, s, m, args, below, meth, c, A, Q⟩ := K
  intro H locs ls hP0 hS hl hz
  obtain ⟨hexec, hb, hown, hts, hA, hG, hA0, -, rfl, -⟩ := hk
  refine va_mmin hexec hb hl.1.symm hown (hts _ hlink) (hts _ hstat) (hts _ hini) (hts _ hcode) hroom.1 hroom.2 hcell.1 hcell.2 d ?_
  rw [e9]
  exact kk H locs ls hP0 hS hl hz
/-- a copy of an array of ints -/
theorem f_cloneI (hE : jSt E) (hk : jOK E K cc own ({ frames := Rf, cells := Rc, slots := Rs, locals := Rl } : Room)) {index n : Nat} {f : Nat → Int} (hx : fIn z Ws (a, .inl (E.2.2 0, n, .inl (fun j => jI (f j))))) (hlink : (Cond.methodLink own index ⟨"[I", "clone", "()Ljava/lang/Object;"⟩) ∈ lw_all) (hsame : (Cond.sameMethod "[I" "java/lang/Object" "clone" "()Ljava/lang/Object;") ∈ lw_all) (hnat : (Cond.native ⟨"java/lang/Object", "clone", "()Ljava/lang/Object;"⟩) ∈ lw_all) (hinst : (Cond.instanceMethod ⟨"java/lang/Object", "clone", "()Ljava/lang/Object;"⟩) ∈ lw_all)
    (hsel : (Cond.selects "[I" ⟨"[I", "clone", "()Ljava/lang/Object;"⟩ ⟨"java/lang/Object", "clone", "()Ljava/lang/Object;"⟩) ∈ lw_all) (hcl : Cond.castable "[I" "java/lang/Cloneable" ∈ lw_tbl) (hroom : 1 ≤ Rf ∧ (st.map fun v => v.category).sum + 14 ≤ Rl) (hcell : cells + 1 ≤ Rc ∧ slots + n ≤ Rs) (d : decode cc pc = .ok (.invokevirtual index, 3)) (kk : ∀ q : Nat, jW K (fO K E z0 z ([(q, .inl (E.2.2 0, n, .inl (fun j => jI (f j))))] :: Ws)) (cells + 1) (slots + n) (pc + 3) vs (.ref q :: st)) : jW K (fO K E z0 z Ws) cells slots pc vs (.ref a :: st) := by
  obtain ⟨p, l, e, R, s, m, args, below, meth, c, A, Q⟩ := K
  intro H locs ls hP0 hS hl hz
  obtain ⟨hexec, hb, hown, hts, hA, hG, hA0, -, rfl, -⟩ := hk
  have hK := hG.K hE.1
  have ht : (vwTy E.2.2)[0]? = some (E.2.2 0, .int) := rfl
  have hc0 : H[a]? = some (vp_cell (E.2.2 0) (n, .inl (fun j => jI (f j)))) := hP0.get hx
  have hnm : s.vm.findClass "[I" = some (E.2.2 0) := va_nm_int (hK.2 0 _ ht).2
  obtain ⟨c0, t0', f1, f2, f3⟩ := Cond.castable_spec (va_Nw.use (A := args) rfl (jNwC hE hG hcl))
  cases hnm.symm.trans f1
  intro T hT X
  have hcellT : T.heap[a]? = some (vp_cell (E.2.2 0) (n, .inl (fun j => jI (f j)))) := by rw [hT]; exact hc0
  obtain ⟨-, kA, hkA, comp, hkind⟩ := State.isArrayOf_alike X.warmed.alike ((hK.2 0 _ ht).1 0 (fun _ => .null))
  obtain ⟨-, kS, hkS, compS, hkindS⟩ := (hK.2 0 _ ht).1 0 (fun _ => .null)
  obtain ⟨vm', X', step⟩ := X.cloneArray hexec hown (hts _ hlink) (hts _ hsame) (hts _ hnat) (hts _ hinst) (hts _ hsel) (a := a) (cell := vp_cell (E.2.2 0) (n, .inl (fun j => jI (f j)))) hcellT (fun k h => by cases h) (fun h => by cases h) hnm f2 f3
    (fun i v hv => by
      have hk' : T.vm.classes[E.2.2 0]? = some kA := hkA
      have hfit := va_fit (cA := E.2.2 0) (n := n) (F := fun j => .int (jI (f j))) (ty := .int) (fun i _ => rfl) i v hv
      show T.fitsSlot (E.2.2 0) _ i v = true
      simpa [State.fitsSlot, State.slotType?, hk', hkind] using hfit)
    (g := F0 m pc ls (.ref a :: st)) rfl hl.1 rfl (by rw [hb]; exact d) hroom.1 (by show 2 * 0 + _ + 14 ≤ Rl; have := hroom.2; omega) hcell.1 (by show slots + (arrV (E.2.2 0) n (fun j => .int (jI (f j)))).slots.size ≤ _; rw [arrV_size]; exact hcell.2) (hloader := Vm.clonesLoader_of_array hkS hkindS)
  have hcellE : ({ cls := (vp_cell (E.2.2 0) (n, .inl (fun j => jI (f j)))).cls, slots := (vp_cell (E.2.2 0) (n, .inl (fun j => jI (f j)))).slots } : Cell) = vp_cell (E.2.2 0) (n, .inl (fun j => jI (f j))) := rfl
  have hsz : (vp_cell (E.2.2 0) (n, .inl (fun j => jI (f j)))).slots.size = n := arrV_size _ _ _
  rw [hcellE, hsz] at X'
  generalize hH1 : H.push (vp_cell (E.2.2 0) (n, .inl (fun j => jI (f j)))) = H1
  have z1 : H1.size = H.size + 1 := by rw [← hH1, Array.size_push]
  have e1 : H1[H.size]? = some (vp_cell (E.2.2 0) (n, .inl (fun j => jI (f j)))) := by rw [← hH1, Array.getElem?_push_size]
  have o1 : ∀ q : Nat, q < H.size → H1[q]? = H[q]? := fun q hq => by rw [← hH1, Array.getElem?_push, if_neg (Nat.ne_of_lt hq)]
  obtain ⟨t, b1, b2⟩ := kk H.size H1 locs ls ⟨hP0.1.new (hA _ hS.1) e1 o1, hP0.2⟩ ⟨Nat.le_trans hS.1 (by omega), fun y h1 h2 => (o1 y (Nat.lt_of_lt_of_le h1 hS.1)).trans (hS.2.1 y h1 h2), hS.2.2⟩ hl hz ((T.setVm vm').pushCell (vp_cell (E.2.2 0) (n, .inl (fun j => jI (f j))))) (by rw [← hH1, ← hT]; rfl) X'
  refine ⟨t, step t ?_, b2⟩
  rw [hcellE, hT]
  exact b1
end FCOPY
