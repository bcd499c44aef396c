/-! J, 11: rows over blocks -/
theorem jT_of {E : jE} (hE : jSt E) {w : Cond} (hw : w ∈ lw_tbl) (ho : w.onTables = true) : va_Nw w E.1 := by
  obtain ⟨b0, h⟩ := hE.2
  exact va_Nw.of ho (h w hw)
theorem jNwF {E : jE} (hE : jSt E) {s : State} (hG : jG E.1 s) {a : String} {i : Nat} {b n d h : String} (hw : (Cond.fieldLinkNest a i b n d h) ∈ lw_tbl) : va_Nw (.fieldLinkNest a i b n d h) s := (jT_of hE hw rfl).warmF hG.1
theorem jNwM {E : jE} (hE : jSt E) {s : State} (hG : jG E.1 s) {a : String} {i : Nat} {x : MethodName} {h : String} (hw : (Cond.methodLinkNest a i x h) ∈ lw_tbl) : va_Nw (.methodLinkNest a i x h) s := (jT_of hE hw rfl).warmM hG.1
theorem jNwC {E : jE} (hE : jSt E) {s : State} (hG : jG E.1 s) {C T : String} (hw : (Cond.castable C T) ∈ lw_tbl) : va_Nw (.castable C T) s := (jT_of hE hw rfl).warmC hG.1
theorem jAO {E : jE} (hE : jSt E) {s : State} (hG : jG E.1 s) {C : String} (hw : (Cond.arrayOver (.object C)) ∈ lw_tbl) : va_AO C s := by
  obtain ⟨b0, h⟩ := hE.2
  exact va_AO.moved hG.1.alike (va_AO.of (h _ hw))
theorem jFw {E : jE} (hE : jSt E) {s : State} (hG : jG E.1 s) {C : String} {x y : MethodName} (hx : x.cls ≠ "java/lang/invoke/MethodHandle" ∧ x.cls ≠ "java/lang/invoke/VarHandle") (h1 : (Cond.declares x) ∈ lw_tbl) (h2 : (Cond.interfaceMethod x.cls x.cls x.name x.desc) ∈ lw_tbl) (h3 : (Cond.publicMethod y) ∈ lw_tbl) (h4 : (Cond.unhidden C x.name x.desc) ∈ lw_tbl) (h5 : (Cond.castable C x.cls) ∈ lw_tbl) : va_Fw C x y s := by
  obtain ⟨b0, h⟩ := hE.2
  exact va_Fw.moved hx hG.1.alike (va_Fw.of (h _ h1) (h _ h2) (h _ h3) (h _ h4) (h _ h5))
/-- the class has a next row of a block's cell -/
theorem fH.cell {E : jE} {D : Nat → Prop} {z : jZ} {Ws : List va_W} {H : Heap} {i j : Nat} {w : va_W} {x : jX} (h : fH E D z Ws H) (hi : Ws[i]? = some w) (hj : w[j]? = some x) : va_at E.2.1 vwClX x H ∧ D x.1 := by
  have := (h.1 i w hi).1 x (List.mem_of_getElem? hj)
  exact ⟨this.1, this.2.1⟩
theorem f_same {s : State} {args : Array Value} (hts : ∀ w ∈ lw_all, w.before args s = true) {T : u_T} {k : Nat} {ref : String} (h : (T k).1 = ref ∨ Cond.sameField ref (T k).1 (T k).2.1 (T k).2.2.1 ∈ lw_all) : ∀ x, s.fieldFound? (T k).1 (T k).2.1 (T k).2.2.1 = some x → s.fieldFound? ref (T k).2.1 (T k).2.2.1 = some x := by
  rcases h with h | h
  · rw [h]; exact fun x q => q
  · exact fun x q => u_same (hts _ h) x q
section FROWS
variable {E : jE} {K : jK} {cc : ByteArray} {own C : String} {T : u_T} {N ci : Nat} {Rf Rc Rs Rl : Nat} {z0 z : jZ} {Ws W2 : List va_W} {cells slots pc : Nat} {vs : List (Option Value)} {st : List Value} {a : Nat} {fs : List Value} {w : va_W} {i j : Nat}
theorem f_get (hE : jSt E) (hk : jOK E K cc own ({ frames := Rf, cells := Rc, slots := Rs, locals := Rl } : Room)) (hin : ∀ w ∈ u_ws C T N, w ∈ lw_all) (hx : fIn z Ws (a, .inr (ci, fs))) (hc : vwCl[ci]? = some (C, T, N)) (k : Nat) (hkN : k < N) {index : Nat} {ref : String} (hlink : (Cond.fieldLink own index ref (T k).2.1 (T k).2.2.1) ∈ lw_all) (hsame : (T k).1 = ref ∨ Cond.sameField ref (T k).1 (T k).2.1 (T k).2.2.1 ∈ lw_all) {v : Value} (hv : fs[k]? = some v) (d : decode cc pc = .ok (.getfield index, 3)) (kk : jW K (fO K E z0 z Ws) cells slots (pc + 3) vs (v :: st)) : jW K (fO K E z0 z Ws) cells slots pc vs (.ref a :: st) := by
  obtain ⟨p, l, e, R, s, m', args, below, meth, c, A', Q⟩ := K
  intro H locs ls hP hS hl hz
  obtain ⟨hx2, hb, hown, hts, -, hG, -⟩ := hk
  exact va_get hx2 hb hts hin hown (hG.K hE.1) (va_at_P (va_at_dn hc (hP.get hx))) 0 rfl hc k hkN (hts _ hlink) (f_same hts hsame) hv d (kk H locs ls hP hS hl hz)
theorem f_getN (hE : jSt E) (hk : jOK E K cc own ({ frames := Rf, cells := Rc, slots := Rs, locals := Rl } : Room)) (hin : ∀ w ∈ u_ws C T N, w ∈ lw_all) (hx : fIn z Ws (a, .inr (ci, fs))) (hc : vwCl[ci]? = some (C, T, N)) (k : Nat) (hkN : k < N) {index : Nat} {host : String} (hlink : (Cond.fieldLinkNest own index C (T k).2.1 (T k).2.2.1 host) ∈ lw_tbl) (hsame : (T k).1 = C) {v : Value} (hv : fs[k]? = some v) (d : decode cc pc = .ok (.getfield index, 3)) (kk : jW K (fO K E z0 z Ws) cells slots (pc + 3) vs (v :: st)) : jW K (fO K E z0 z Ws) cells slots pc vs (.ref a :: st) := by
  obtain ⟨p, l, e, R, s, m', args, below, meth, c, A', Q⟩ := K
  intro H locs ls hP hS hl hz
  obtain ⟨hx2, hb, hown, hts, -, hG, -⟩ := hk
  exact va_getN hx2 hb hts hin hown (hG.K hE.1) (va_at_P (va_at_dn hc (hP.get hx))) 0 rfl hc k hkN (va_Nw.use rfl (jNwF hE hG hlink)) (by rw [hsame]; exact fun x h => h) hv d (kk H locs ls hP hS hl hz)
/-- a cell of a block gets a new value: what the kit's single steps give -/
theorem fO.upd {H H1 : Heap} {e e2 : va_E} (h : fO K E z0 z Ws H) (hi : Ws[i]? = some w) (hj : w[j]? = some (a, e)) (h2 : Ws.set i (w.set j (a, e2)) = W2) (hc : va_at E.2.1 vwClX (a, e2) H1) (oq : ∀ q : Nat, q ≠ a → H1[q]? = H[q]?) : fO K E z0 z W2 H1 := by
  subst h2
  exact ⟨h.1.upd hi hj hc oq, h.2⟩
theorem f_put (hE : jSt E) (hk : jOK E K cc own ({ frames := Rf, cells := Rc, slots := Rs, locals := Rl } : Room)) (hin : ∀ w ∈ u_ws C T N, w ∈ lw_all) {ty0 : Nat → FieldType} (hty : ∀ k, k < N → parseFieldDescriptor (T k).2.2.1 = some (ty0 k)) (hnm : ∀ a, a < N → ∀ b, b < N → a ≠ b → (T a).2.1 ≠ (T b).2.1) (i j : Nat) (hi : Ws[i]? = some w) (hj : w[j]? = some (a, .inr (ci, fs))) (hc : vwCl[ci]? = some (C, T, N)) (k : Nat) (hkN : k < N) {index : Nat} {ref : String} (hlink : (Cond.fieldLink own index ref (T k).2.1 (T k).2.2.1) ∈ lw_all) (hsame : (T k).1 = ref ∨ Cond.sameField ref (T k).1 (T k).2.1 (T k).2.2.1 ∈ lw_all) (hfin : (T k).2.2.2 = false ∨ ((T k).2.2.2 = true ∧ jKn K = "<init>" ∧ (T k).1 = own)) {ty : FieldType} {v : Value} (hd : parseFieldDescriptor (T k).2.2.1 = some ty) (hn : narrow ty v = v) (hfit : fits ty v = true) (hl : k < fs.length) (h2 : Ws.set i (w.set j (a, .inr (ci, fs.set k v))) = W2) (d : decode cc pc = .ok (.putfield index, 3)) (kk : jW K (fO K E z0 z W2) cells slots (pc + 3) vs st) : jW K (fO K E z0 z Ws) cells slots pc vs (v :: .ref a :: st) := by
  obtain ⟨p, l, e, R, s, m', args, below, meth, c, A', Q⟩ := K
  intro H locs ls hP hS hl2 hz
  obtain ⟨hx, hb, hown, hts, -, hG, -⟩ := hk
  have hK := hG.K hE.1
  have hap := va_apart (own := own) hts hin ty0 hty hnm hK hc
  obtain ⟨⟨r, h1, cell, q1, q2, q3, q4⟩, hA⟩ := hP.1.cell hi hj
  have hr : r = (C, T, N) := Option.some.inj (h1.symm.trans (vwUp hc))
  subst hr
  obtain ⟨hSl, hfc, kC, hkC, hkind⟩ := hK.1 ci _ hc
  obtain ⟨cf, kf, fi, f, hif, hsl⟩ := hSl k hkN
  have hlay := hts _ (hin _ (u_in_lay hkN))
  have hst := (u_facts hfc hkC (u_lays hts hin hkN) hif).1
  have hsm := f_same hts hsame
  have fin : ∀ (H1 : Heap), H1[a]? = some (cell.setSlot f.slot v) → H1.size = H.size → (∀ q, q ≠ a → H1[q]? = H[q]?) → W p l e R s m' args below meth c H1 (locs ++ [⟨a, f.slot⟩]) cells slots Q (F0 m' (pc + 3) ls st) := by
    intro H1 e1 e2 e3
    rw [hsl] at e1 ⊢
    exact kk H1 _ ls (hP.upd hi hj h2 ⟨_, vwUp hc, t_OB.to (V := updV (vp_V fs) k v) ⟨_, e1, q2, q3, t_set q4 hap hkN v⟩ (fun j _ => vp_updV_set hl v j)⟩ e3) (hS.put e2 e3 hA) hl2 hz
  rcases hfin with hfin | ⟨hf1, hf2, hf3⟩
  · unfold u_lay at hlay
    rw [if_neg (by rw [hfin]; decide)] at hlay
    have h6 := u_store hfc hkC hkind hlay hif hd hn hfit
    exact W.putK hx hb (f := f) ⟨hown, hts _ hlink, ⟨_, _, _, hsm _ hif⟩, hst⟩ (by rw [q2]; exact h6) q1 q3 (by rw [hsl]; exact k2_hasslot (q4 k hkN)) rfl rfl d fin
  · unfold u_lay at hlay
    rw [if_pos hf1] at hlay
    have hcf : m'.cls = cf := by
      obtain ⟨_, _, c', _, _, _, -, -, hf', -, -, -, hown2, -⟩ := Cond.laysFinal_spec hlay
      have e1 : c' = cf := by have := hif.symm.trans hf'; simp at this; exact this.1.symm
      rw [hf3] at hown2
      rw [← e1]; exact Option.some.inj (hown.symm.trans hown2)
    have h6 := u_fits hfc hkC hkind (Or.inr hlay) hif hd hn hfit
    exact W.putFinK hx hb hown (hts _ hlink) (hsm _ hif) hst hcf hf2 (by rw [q2]; exact h6) q1 q3 (by rw [hsl]; exact k2_hasslot (q4 k hkN)) rfl rfl d fin
theorem f_putN (hE : jSt E) (hk : jOK E K cc own ({ frames := Rf, cells := Rc, slots := Rs, locals := Rl } : Room)) (hin : ∀ w ∈ u_ws C T N, w ∈ lw_all) {ty0 : Nat → FieldType} (hty : ∀ k, k < N → parseFieldDescriptor (T k).2.2.1 = some (ty0 k)) (hnm : ∀ a, a < N → ∀ b, b < N → a ≠ b → (T a).2.1 ≠ (T b).2.1) (i j : Nat) (hi : Ws[i]? = some w) (hj : w[j]? = some (a, .inr (ci, fs))) (hc : vwCl[ci]? = some (C, T, N)) (k : Nat) (hkN : k < N) {index : Nat} {host : String} (hlink : (Cond.fieldLinkNest own index C (T k).2.1 (T k).2.2.1 host) ∈ lw_tbl) (hsame : (T k).1 = C) (hfin : (T k).2.2.2 = false) {ty : FieldType} {v : Value} (hd : parseFieldDescriptor (T k).2.2.1 = some ty) (hn : narrow ty v = v) (hfit : fits ty v = true) (hl : k < fs.length) (h2 : Ws.set i (w.set j (a, .inr (ci, fs.set k v))) = W2) (d : decode cc pc = .ok (.putfield index, 3)) (kk : jW K (fO K E z0 z W2) cells slots (pc + 3) vs st) : jW K (fO K E z0 z Ws) cells slots pc vs (v :: .ref a :: st) := by
  obtain ⟨p, l, e, R, s, m', args, below, meth, c, A', Q⟩ := K
  intro H locs ls hP hS hl2 hz
  obtain ⟨hx, hb, hown, hts, -, hG, -⟩ := hk
  have hK := hG.K hE.1
  have hap := va_apart (own := own) hts hin ty0 hty hnm hK hc
  obtain ⟨⟨r, h1, cell, q1, q2, q3, q4⟩, hA⟩ := hP.1.cell hi hj
  have hr : r = (C, T, N) := Option.some.inj (h1.symm.trans (vwUp hc))
  subst hr
  obtain ⟨hSl, hfc, kC, hkC, hkind⟩ := hK.1 ci _ hc
  obtain ⟨cf, kf, fi, f, hif, hsl⟩ := hSl k hkN
  have hlay := hts _ (hin _ (u_in_lay hkN))
  unfold u_lay at hlay
  rw [if_neg (by rw [hfin]; decide)] at hlay
  have hst := (u_facts hfc hkC (u_lays hts hin hkN) hif).1
  have h6 := u_store hfc hkC hkind hlay hif hd hn hfit
  refine va_WputK hx hb (f := f) hown (va_Nw.use rfl (jNwF hE hG hlink)) (by rw [← hsame]; exact hif) hst (by rw [q2]; exact h6) q1 q3 (by rw [hsl]; exact k2_hasslot (q4 k hkN)) rfl rfl d fun H1 e1 e2 e3 => ?_
  rw [hsl] at e1 ⊢
  exact kk H1 _ ls (hP.upd hi hj h2 ⟨_, vwUp hc, t_OB.to (V := updV (vp_V fs) k v) ⟨_, e1, q2, q3, t_set q4 hap hkN v⟩ (fun j _ => vp_updV_set hl v j)⟩ e3) (hS.put e2 e3 hA) hl2 hz
/-- arrays of ints -/
theorem f_iald (hE : jSt E) (hk : jOK E K cc own ({ frames := Rf, cells := Rc, slots := Rs, locals := Rl } : Room)) {n : Nat} {f : Nat → Int} (hx : fIn z Ws (a, .inl (E.2.2 0, n, .inl (fun j => jI (f j))))) {zi : Int} (k : Nat) (hz : zi = (k : Int)) (hn : k < n) (hn2 : n < 2147483648) (d : decode cc pc = .ok (.iaload, 1)) (kk : jW K (fO K E z0 z Ws) cells slots (pc + 1) vs (.int (jI (f k)) :: st)) : jW K (fO K E z0 z Ws) cells slots pc vs (.int (jI zi) :: .ref a :: st) := by
  subst hz
  obtain ⟨p, l, e, R, s, m', args, below, meth, c, A', Q⟩ := K
  intro H locs ls hP hS hl hz2
  obtain ⟨hx2, hb, hown, hts, -, hG, -⟩ := hk
  refine va_iald hx2 hb (hG.K hE.1) (va_at_P (va_at_ar (hP.get hx))) 0 0 rfl rfl (jI_in (by omega) (by omega) (by omega)) d ?_
  rw [jI_clamp (by omega) (by omega), Int.toNat_natCast]
  exact kk H locs ls hP hS hl hz2
theorem f_iast (hE : jSt E) (hk : jOK E K cc own ({ frames := Rf, cells := Rc, slots := Rs, locals := Rl } : Room)) {n : Nat} {f : Nat → Int} (i j : Nat) (hi : Ws[i]? = some w) (hj : w[j]? = some (a, .inl (E.2.2 0, n, .inl (fun j => jI (f j))))) {zi v : Int} (k : Nat) (hz : zi = (k : Int)) (hn : k < n) (hn2 : n < 2147483648) (h2 : Ws.set i (w.set j (a, .inl (E.2.2 0, n, .inl (fun j => jI (iup f k v j))))) = W2) (d : decode cc pc = .ok (.iastore, 1)) (kk : jW K (fO K E z0 z W2) cells slots (pc + 1) vs st) : jW K (fO K E z0 z Ws) cells slots pc vs (.int (jI v) :: .int (jI zi) :: .ref a :: st) := by
  subst hz
  obtain ⟨p, l, e, R, s, m', args, below, meth, c, A', Q⟩ := K
  intro H locs ls hP hS hl hz2
  obtain ⟨hx2, hb, hown, hts, -, hG, -⟩ := hk
  obtain ⟨hat, hA⟩ := hP.1.cell hi hj
  have hin : vp_in (jI (k : Int)) n := jI_in (by omega) (by omega) (by omega)
  have hcl : (jI (k : Int)).toNatClampNeg = k := by rw [jI_clamp (by omega) (by omega), Int.toNat_natCast]
  refine W.iast hx2 hb hat (((hG.K hE.1).2 0 (E.2.2 0, .int) rfl).1 n (fun j => .int (jI (f j)))) (fun q => by cases q) (by show ¬ (_ < 0 ∨ (arrV _ _ _).slots.size ≤ _); rw [arrV_size]; exact hin) rfl rfl d fun H1 e1 z1 oq => ?_
  refine kk H1 _ ls (hP.upd hi hj h2 ?_ oq) (hS.put z1 oq hA) hl hz2
  show H1[a]? = some (vp_cell _ _)
  rw [e1, hcl]
  rw [vp_cell_i, vp_cell_i, arrV_store]
  congr 2
  funext q
  by_cases hq : q = k
  · subst hq
    simp [updV, iup]
  · simp [updV, iup, hq]
/-- arrays of references: class t of vwTy -/
theorem f_aald (hE : jSt E) (hk : jOK E K cc own ({ frames := Rf, cells := Rc, slots := Rs, locals := Rl } : Room)) {n t : Nat} {C : String} (ht : (vwTy E.2.2)[t]? = some (E.2.2 t, .object C)) {f : Nat → Option Nat} (hx : fIn z Ws (a, .inl (E.2.2 t, n, .inr (.inr (.inr (.inr f)))))) {zi : Int} (k : Nat) (hz : zi = (k : Int)) (hn : k < n) (hn2 : n < 2147483648) {v : Value} (hv : va_rf (f k) = v) (d : decode cc pc = .ok (.aaload, 1)) (kk : jW K (fO K E z0 z Ws) cells slots (pc + 1) vs (v :: st)) : jW K (fO K E z0 z Ws) cells slots pc vs (.int (jI zi) :: .ref a :: st) := by
  subst hz
  subst hv
  obtain ⟨p, l, e, R, s, m', args, below, meth, c, A', Q⟩ := K
  intro H locs ls hP hS hl hz2
  obtain ⟨hx2, hb, hown, hts, -, hG, -⟩ := hk
  refine va_aldq hx2 hb (hG.K hE.1) (va_at_P (va_at_ar (hP.get hx))) 0 t rfl ht (jI_in (by omega) (by omega) (by omega)) d ?_
  rw [jI_clamp (by omega) (by omega), Int.toNat_natCast]
  exact kk H locs ls hP hS hl hz2
theorem f_aast (hE : jSt E) (hk : jOK E K cc own ({ frames := Rf, cells := Rc, slots := Rs, locals := Rl } : Room)) {n t : Nat} {C : String} (ht : (vwTy E.2.2)[t]? = some (E.2.2 t, .object C)) {f : Nat → Option Nat} (i j : Nat) (hi : Ws[i]? = some w) (hj : w[j]? = some (a, .inl (E.2.2 t, n, .inr (.inr (.inr (.inr f)))))) {b cb : Nat} {gs : List Value} {r : vw_C} (hy : fIn z Ws (b, .inr (cb, gs))) (hcb : vwCl[cb]? = some r) (hca : r.1 = C ∨ (Cond.castable r.1 C) ∈ lw_tbl) {zi : Int} (k : Nat) (hz : zi = (k : Int)) (hn : k < n) (hn2 : n < 2147483648) (h2 : Ws.set i (w.set j (a, .inl (E.2.2 t, n, .inr (.inr (.inr (.inr (va_up f k (some b)))))))) = W2) (d : decode cc pc = .ok (.aastore, 1)) (kk : jW K (fO K E z0 z W2) cells slots (pc + 1) vs st) : jW K (fO K E z0 z Ws) cells slots pc vs (.ref b :: .int (jI zi) :: .ref a :: st) := by
  subst hz
  obtain ⟨p, l, e, R, s, m', args, below, meth, c, A', Q⟩ := K
  intro H locs ls hP hS hl hz2
  obtain ⟨hx2, hb, hown, hts, -, hG, -⟩ := hk
  obtain ⟨hat, hA⟩ := hP.1.cell hi hj
  have hK := hG.K hE.1
  have hin : vp_in (jI (k : Int)) n := jI_in (by omega) (by omega) (by omega)
  have hcl : (jI (k : Int)).toNatClampNeg = k := by rw [jI_clamp (by omega) (by omega), Int.toNat_natCast]
  obtain ⟨cellV, g1, g3, g2⟩ := va_recv hK (va_at_P (va_at_dn hcb (hP.get hy))) hcb (q0 := 0) rfl
  obtain ⟨kA, comp, k1, k2, k3, -⟩ := (hK.2 t _ ht).2
  obtain ⟨kE, hkE, -⟩ := Vm.findClass_spec k3
  obtain ⟨kC, hkC, -⟩ := Vm.findClass_spec g2
  have hasg : s.vm.assignable cellV.cls comp = true := by
    rcases hca with q | q
    · exact vb_asgS (C := C) comp cellV.cls k3 (by rw [← q]; exact g2)
    · exact vb_asgC (jNwC hE hG q) comp cellV.cls k3 g2
  refine W.aast hx2 hb hat (fun q h => by cases h) (fun h => by cases h) k1 k2 rfl hkE ⟨fun q => hin (Or.inl q), by show _ < (arrV _ _ _).slots.size; rw [arrV_size, hcl]; exact hn⟩ g1 (fun q h => by rw [h] at g3; cases g3) hkC hasg rfl rfl d fun H1 e1 z1 oq => ?_
  refine kk H1 _ ls (hP.upd hi hj h2 ?_ oq) (hS.put z1 oq hA) hl hz2
  show H1[a]? = some (vp_cell _ _)
  rw [e1, hcl]
  rw [vp_cell_q, vp_cell_q, arrV_store]
  congr 2
  funext q
  by_cases hq : q = k
  · subst hq
    simp [updV, va_up, va_rf]
  · simp [updV, va_up, hq]
theorem f_aastN (hE : jSt E) (hk : jOK E K cc own ({ frames := Rf, cells := Rc, slots := Rs, locals := Rl } : Room)) {n t : Nat} {C : String} (ht : (vwTy E.2.2)[t]? = some (E.2.2 t, .object C)) {f : Nat → Option Nat} (i j : Nat) (hi : Ws[i]? = some w) (hj : w[j]? = some (a, .inl (E.2.2 t, n, .inr (.inr (.inr (.inr f)))))) {zi : Int} (k : Nat) (hz : zi = (k : Int)) (hn : k < n) (hn2 : n < 2147483648) (h2 : Ws.set i (w.set j (a, .inl (E.2.2 t, n, .inr (.inr (.inr (.inr (va_up f k none))))))) = W2) (d : decode cc pc = .ok (.aastore, 1)) (kk : jW K (fO K E z0 z W2) cells slots (pc + 1) vs st) : jW K (fO K E z0 z Ws) cells slots pc vs (.null :: .int (jI zi) :: .ref a :: st) := by
  subst hz
  obtain ⟨p, l, e, R, s, m', args, below, meth, c, A', Q⟩ := K
  intro H locs ls hP hS hl hz2
  obtain ⟨hx2, hb, hown, hts, -, hG, -⟩ := hk
  obtain ⟨hat, hA⟩ := hP.1.cell hi hj
  have hK := hG.K hE.1
  have hin : vp_in (jI (k : Int)) n := jI_in (by omega) (by omega) (by omega)
  have hcl : (jI (k : Int)).toNatClampNeg = k := by rw [jI_clamp (by omega) (by omega), Int.toNat_natCast]
  refine va_WaastN (C := C) hx2 hb hat ((hK.2 t _ ht).1 n (fun j => va_rf (f j))) (fun h => by cases h) (by show ¬ (_ < 0 ∨ (arrV _ _ _).slots.size ≤ _); rw [arrV_size]; exact hin) rfl rfl d fun H1 e1 z1 oq => ?_
  refine kk H1 _ ls (hP.upd hi hj h2 ?_ oq) (hS.put z1 oq hA) hl hz2
  show H1[a]? = some (vp_cell _ _)
  rw [e1, hcl]
  rw [vp_cell_q, vp_cell_q, arrV_store]
  congr 2
  funext q
  by_cases hq : q = k
  · subst hq
    simp [updV, va_up, va_rf]
  · simp [updV, va_up, hq]
theorem f_alen (hE : jSt E) (hk : jOK E K cc own ({ frames := Rf, cells := Rc, slots := Rs, locals := Rl } : Room)) {n t : Nat} {ty : FieldType} (ht : (vwTy E.2.2)[t]? = some (E.2.2 t, ty)) {f : (Nat → Int32) ⊕ (Nat → Int64) ⊕ (Nat → UInt32) ⊕ (Nat → UInt64) ⊕ (Nat → Option Nat)} (hx : fIn z Ws (a, .inl (E.2.2 t, n, f))) (d : decode cc pc = .ok (.arraylength, 1)) (kk : jW K (fO K E z0 z Ws) cells slots (pc + 1) vs (.int (jI (n : Int)) :: st)) : jW K (fO K E z0 z Ws) cells slots pc vs (.ref a :: st) := by
  obtain ⟨p, l, e, R, s, m', args, below, meth, c, A', Q⟩ := K
  intro H locs ls hP hS hl hz2
  obtain ⟨hx2, hb, hown, hts, -, hG, -⟩ := hk
  refine va_alen hx2 hb (hG.K hE.1) (va_at_P (va_at_ar (hP.get hx))) 0 t rfl ht (v := jI (n : Int)) (by rw [jI_nat]; rfl) d ?_
  exact kk H locs ls hP hS hl hz2
/-- new cells come ahead of the blocks -/
theorem f_new (hE : jSt E) (hk : jOK E K cc own ({ frames := Rf, cells := Rc, slots := Rs, locals := Rl } : Room)) (hin : ∀ w ∈ u_ws C T N, w ∈ lw_all) (ty : Nat → FieldType) (hty : ∀ k, k < N → parseFieldDescriptor (T k).2.2.1 = some (ty k)) {index : Nat} (hcl : Cond.classLink own index C ∈ lw_all) (hinst : Cond.instantiable C N ∈ lw_all) (hini : Cond.initialized C ∈ lw_all) (hc : vwCl[ci]? = some (C, T, N)) (hfs : ∀ j, j < N → defaultValue (ty j) = vp_V fs j) (hroom : cells + 1 ≤ Rc ∧ slots + N ≤ Rs) (d : decode cc pc = .ok (.new index, 3)) (kk : ∀ q : Nat, jW K (fO K E z0 z ([(q, .inr (ci, fs))] :: Ws)) (cells + 1) (slots + N) (pc + 3) vs (.ref q :: st)) : jW K (fO K E z0 z Ws) cells slots pc vs st := by
  obtain ⟨p, l, e, R, s, m', args, below, meth, c, A', Q⟩ := K
  intro H locs ls hP hS hl hz
  obtain ⟨hx2, hb, hown, hts, hA, hG, -, -, rfl, -⟩ := hk
  have hKn := (hG.K hE.1).1 ci _ hc
  refine W.newcK hx2 hb hown (hts _ hcl) (hts _ hinst) (hts _ hini) rfl d hroom.1 hroom.2 hKn.2.1 rfl fun H1 kC hkC e1 z1 o1 => ?_
  exact kk H.size H1 locs ls ⟨hP.1.new (hA _ hS.1) ⟨_, vwUp hc, (u_born ty hts hin hKn hkC e1 hty).to hfs⟩ o1, hP.2⟩ ⟨Nat.le_trans hS.1 (by omega), fun x h1 h2 => (o1 x (Nat.lt_of_lt_of_le h1 hS.1)).trans (hS.2.1 x h1 h2), hS.2.2⟩ hl hz
theorem f_newI (hE : jSt E) (hk : jOK E K cc own ({ frames := Rf, cells := Rc, slots := Rs, locals := Rl } : Room)) (harr : Cond.arrayClass FieldType.int ∈ lw_all) {zi : Int} (n : Nat) (hz : zi = (n : Int)) (hn : n < 100000) (hroom : cells + 1 ≤ Rc ∧ slots + n ≤ Rs) (d : decode cc pc = .ok (.newarray .int, 2)) (kk : ∀ q : Nat, jW K (fO K E z0 z ([(q, .inl (E.2.2 0, n, .inl (fun _ => jI 0)))] :: Ws)) (cells + 1) (slots + n) (pc + 2) vs (.ref q :: st)) : jW K (fO K E z0 z Ws) cells slots pc vs (.int (jI zi) :: st) := by
  subst hz
  obtain ⟨p, l, e, R, s, m', args, below, meth, c, A', Q⟩ := K
  intro H locs ls hP hS hl2 hz
  obtain ⟨hx, hb, hown, hts, hA, hG, -, -, rfl, -⟩ := hk
  refine va_newaK hx hb (atype := .int) (hts _ harr) rfl d rfl ?_ (N := n) ?_ ?_ hroom.1 hroom.2 rfl fun H1 cA e1 z1 o1 hAr hNm => ?_
  · intro h
    have := Int32.lt_iff_toInt_lt.mp h
    rw [jI_toInt (by omega)] at this
    have e0 : (0 : Int32).toInt = 0 := rfl
    omega
  · rw [jI_clamp (by omega) (by omega), Int.toNat_natCast]
  · show n * 4 ≤ 536870912; omega
  · have e2 := ((hG.K hE.1).2 0 (E.2.2 0, .int) rfl).2
    have e3 : cA = E.2.2 0 := Option.some.inj (hNm.symm.trans e2)
    subst e3
    exact kk H.size H1 locs ls ⟨hP.1.new (hA _ hS.1) (show H1[H.size]? = some (vp_cell _ _) from e1) o1, hP.2⟩ ⟨Nat.le_trans hS.1 (by omega), fun x h1 h2 => (o1 x (Nat.lt_of_lt_of_le h1 hS.1)).trans (hS.2.1 x h1 h2), hS.2.2⟩ hl2 hz
theorem f_anew (hE : jSt E) (hk : jOK E K cc own ({ frames := Rf, cells := Rc, slots := Rs, locals := Rl } : Room)) {t index : Nat} {C : String} (ht : (vwTy E.2.2)[t]? = some (E.2.2 t, .object C)) (hcl : Cond.classLink own index C ∈ lw_all) (hover : (Cond.arrayOver (.object C)) ∈ lw_tbl) {zi : Int} (n : Nat) (hz : zi = (n : Int)) (hn : n < 100000) (hroom : cells + 1 ≤ Rc ∧ slots + n ≤ Rs) (d : decode cc pc = .ok (.anewarray index, 3)) (kk : ∀ q : Nat, jW K (fO K E z0 z ([(q, .inl (E.2.2 t, n, .inr (.inr (.inr (.inr (fun _ => none))))))] :: Ws)) (cells + 1) (slots + n) (pc + 3) vs (.ref q :: st)) : jW K (fO K E z0 z Ws) cells slots pc vs (.int (jI zi) :: st) := by
  subst hz
  obtain ⟨p, l, e, R, s, m', args, below, meth, c, A', Q⟩ := K
  intro H locs ls hP hS hl2 hz
  obtain ⟨hx, hb, hown, hts, hA, hG, -, -, rfl, -⟩ := hk
  have hcl2 : (jI (n : Int)).toNatClampNeg = n := by rw [jI_clamp (by omega) (by omega), Int.toNat_natCast]
  refine W.anew hx hb hown (hts _ hcl) (va_AO.use (jAO hE hG hover)) rfl d rfl ?_ (by rw [hcl2]; omega) hroom.1 (by rw [hcl2]; exact hroom.2) fun cA kA comp f1 f2 f3 f4 => ?_
  · intro h
    have := Int32.lt_iff_toInt_lt.mp h
    rw [jI_toInt (by omega)] at this
    have e0 : (0 : Int32).toInt = 0 := rfl
    omega
  rw [hcl2]
  obtain ⟨kA2, comp2, r1, r2, r3, r4⟩ := ((hG.K hE.1).2 t _ ht).2
  have e3 : cA = E.2.2 t := Option.some.inj (f1.symm.trans r4)
  subst e3
  generalize hH1 : H.push ({ cls := E.2.2 t, slots := Array.replicate n .null, vm := .none } : Cell) = H1
  have z1 : H1.size = H.size + 1 := by rw [← hH1, Array.size_push]
  have e1 : H1[H.size]? = some (arrV (E.2.2 t) n (fun _ => .null)) := by rw [← hH1, Array.getElem?_push_size, ← arrV_new]
  have o1 : ∀ q : Nat, q < H.size → H1[q]? = H[q]? := fun q hq => by rw [← hH1, Array.getElem?_push, if_neg (Nat.ne_of_lt hq)]
  exact kk H.size H1 locs ls ⟨hP.1.new (hA _ hS.1) (show H1[H.size]? = some (vp_cell _ _) by rw [vp_cell_q]; exact e1) o1, hP.2⟩ ⟨Nat.le_trans hS.1 (by omega), fun x h1 h2 => (o1 x (Nat.lt_of_lt_of_le h1 hS.1)).trans (hS.2.1 x h1 h2), hS.2.2⟩ hl2 hz
/-- checkcast of an object to its own class; to another -/
theorem f_castS (hE : jSt E) (hk : jOK E K cc own ({ frames := Rf, cells := Rc, slots := Rs, locals := Rl } : Room)) (hx : fIn z Ws (a, .inr (ci, fs))) (hc : vwCl[ci]? = some (C, T, N)) {index : Nat} (hlink : Cond.classLink own index C ∈ lw_all) (d : decode cc pc = .ok (.checkcast index, 3)) (kk : jW K (fO K E z0 z Ws) cells slots (pc + 3) vs (.ref a :: st)) : jW K (fO K E z0 z Ws) cells slots pc vs (.ref a :: st) := by
  obtain ⟨p, l, e, R, s, m', args, below, meth, c, A', Q⟩ := K
  intro H locs ls hP hS hl hz
  obtain ⟨hx2, hb, hown, hts, -, hG, -⟩ := hk
  exact va_castE hx2 hb hown (hts _ hlink) (va_recv (hG.K hE.1) (va_at_P (va_at_dn hc (hP.get hx))) hc (q0 := 0) rfl) d (kk H locs ls hP hS hl hz)
theorem f_castY (hE : jSt E) (hk : jOK E K cc own ({ frames := Rf, cells := Rc, slots := Rs, locals := Rl } : Room)) (hx : fIn z Ws (a, .inr (ci, fs))) (hc : vwCl[ci]? = some (C, T, N)) {index : Nat} {nm : String} (hlink : Cond.classLink own index nm ∈ lw_all) (hca : Cond.castable C nm ∈ lw_tbl) (d : decode cc pc = .ok (.checkcast index, 3)) (kk : jW K (fO K E z0 z Ws) cells slots (pc + 3) vs (.ref a :: st)) : jW K (fO K E z0 z Ws) cells slots pc vs (.ref a :: st) := by
  obtain ⟨p, l, e, R, s, m', args, below, meth, c, A', Q⟩ := K
  intro H locs ls hP hS hl hz
  obtain ⟨hx2, hb, hown, hts, -, hG, -⟩ := hk
  exact va_castY hx2 hb hown (hts _ hlink) (jNwC hE hG hca) (va_recv (hG.K hE.1) (va_at_P (va_at_dn hc (hP.get hx))) hc (q0 := 0) rfl) d (kk H locs ls hP hS hl hz)
end FROWS
