/-! J, 12: calls through interfaces, of nest mates' statics and constructors -/
theorem j_run5 {Post : Option Value → Heap → Prop} {Fr : Nat → Prop} {mc ms cells slots pc : Nat} {vs : List (Option Value)} {p : Program} {l : Launch} {e : Env} {R : Room} {s : State} {m : MethodId} {args : Array Value} {below : List Frame} {meth : Method} {c : Code} {A : Nat → Prop} {Q : State → Prop} {H : Heap} {locs : List Loc} {ls : Array Slot} {rest st0 : List Value}
    (hr : va_Run5 p l e R s m args below meth c H locs cells slots mc ms (F0 m pc ls st0) rest (fun st o t => (∃ r, o = .returned r ∧ Post r t.heap) ∧ va_F (jA Fr H) st t) (jA Fr H))
    (hA : ∀ q : Nat, s.heap.size ≤ q → A q) (hFr : ∀ q, Fr q → A q) (hS : va_S A s.heap H locs) (hl : lv_has ls c.maxLocals (jv 0 vs)) (hz : vs.length = c.maxLocals)
    (kk : ∀ (v : Option Value) (H1 : Heap), Post v H1 → H.size ≤ H1.size → (∀ q : Nat, q < H.size → ¬ Fr q → H1[q]? = H[q]?) → jW (p, l, e, R, s, m, args, below, meth, c, A, Q) (fun X => X = H1) (cells + mc) (slots + ms) (pc + 5) vs (v.toList ++ rest)) : W p l e R s m args below meth c H locs cells slots Q (F0 m pc ls st0) := by
  intro T hT X
  obtain ⟨v, st₀, t, T', L, h0, X', hL, e1, e2, ⟨⟨r, hv, hp⟩, hz1, hk1⟩, st1⟩ := hr T hT X
  cases hv
  rw [h0] at hz1 hk1
  have hfree : ∀ q, jA Fr H q → A q := fun q h => by
    rcases h with h | h
    · exact hFr q h
    · exact hA q (Nat.le_trans hS.1 h)
  obtain ⟨t2, a1, b1⟩ := kk v t.heap hp hz1 (fun q h1 h2 => hk1 q h1 (fun z => by
    rcases z with z | z
    · exact h2 z
    · omega)) T'.heap (locs ++ L) ls (e1) ⟨Nat.le_trans hS.1 (by rw [e1]; exact hz1), fun q h1 h2 => by rw [e1, hk1 q (Nat.lt_of_lt_of_le h1 hS.1) (fun z => h2 (hfree q z))]; exact hS.2.1 q h1 h2, fun q hq => by
      rcases List.mem_append.mp hq with h | h
      · exact hS.2.2 q h
      · exact hfree _ (hL q h)⟩ hl hz T' rfl X'
  exact ⟨t2, st1 t2 a1, b1⟩
section FCALL2
variable {l : Launch} {E : jE} {K : jK} {cc : ByteArray} {own : String} {Rf Rc Rs Rl : Nat} {z0 z : jZ} {Ws Wc Wr : List va_W} {cells slots pc : Nat} {vs : List (Option Value)} {st : List Value}
variable {y : MethodName} {b : ByteArray} {L : Nat} {ret : Option FieldType} {fr lo mc ms : Nat} {post : Option Value → jZ → List va_W → Prop}
theorem f_callF (hE : jSt E) (hk : jOK E K cc own ({ frames := Rf, cells := Rc, slots := Rs, locals := Rl } : Room)) (hl0 : jKl K = l) {As rest : List Value} {a ci N : Nat} {C : String} {T : u_T} {fs : List Value} {zc : jZ} (hx : fIn z (Wc ++ Wr) (a, .inr (ci, fs))) (hc : vwCl[ci]? = some (C, T, N)) (hC : fC l E y b L ret fr lo mc ms (.ref a :: As) zc Wc post) (hz : ∀ x, zc x → z x ∨ ∃ w ∈ Wr, x ∈ w) (n : Nat) {idx cnt : Nat} {x : MethodName} (hT : GoodIn lw_all (va_wsF own idx C x y (ws_ y b L ret)))
    (hF1 : (Cond.declares x) ∈ lw_tbl) (hF2 : (Cond.interfaceMethod x.cls x.cls x.name x.desc) ∈ lw_tbl) (hF3 : (Cond.publicMethod y) ∈ lw_tbl) (hF4 : (Cond.unhidden C x.name x.desc) ∈ lw_tbl) (hF5 : (Cond.castable C x.cls) ∈ lw_tbl)
    (hd : x.cls ≠ "java/lang/invoke/MethodHandle" ∧ x.cls ≠ "java/lang/invoke/VarHandle" ∧ (parseMethodDescriptor x.desc).map (fun d => d.parameters.length) = some n) (hn : As.length = n) (hroom : fr + 1 ≤ Rf ∧ 8 + (L + 11) + lo ≤ Rl) (hcell : cells + mc ≤ Rc ∧ slots + ms ≤ Rs) (hst : st = As.reverse ++ .ref a :: rest) (hcat : (rest.map fun v => v.category).sum ≤ 8)
    (d : decode cc pc = .ok (.invokeinterface idx cnt, 5)) (kk : fGo K E z0 z zc Wr post (cells + mc) (slots + ms) (pc + 5) vs rest) : jW K (fO K E z0 z (Wc ++ Wr)) cells slots pc vs st := by
  refine j_sz (j_Pe (fun H hH => ?_))
  have hf := f_fore (jOK_lo hk) hH.1 hz
  have hgo : ∀ (v : Option Value) (H1 : Heap), fPost E H zc Wc post v H1 → H.size ≤ H1.size → (∀ q : Nat, q < H.size → ¬ wAd Wc q → H1[q]? = H[q]?) → jW K (fun X => X = H1) (cells + mc) (slots + ms) (pc + 5) vs (v.toList ++ rest) := fun v H1 hp hsz hq => f_go hk hH.1 hH.2 hz hp hsz hq kk
  have hCH := hC H hf.1
  have hat := hH.1.get hx
  obtain ⟨p, l', e, R, s, m, args, below, meth, c, A, Q⟩ := K
  intro H' locs ls hP0 hS hl hz9
  subst hP0
  obtain ⟨hx2, hb, hown, hts, hA, hG, hA0, hlk, rfl, htr⟩ := hk
  cases hl0
  subst hst
  refine j_run5 (Fr := wAd Wc) (Post := fPost E H' zc Wc post) (mc := mc) (ms := ms) (rest := rest) ?_ hA hf.2 hS hl hz9 hgo
  exact va_runF (nL := c.maxLocals) ((hG.K hE.1).1 ci _ hc).2 ⟨hx2, hb, rfl, hown, hts⟩ (hCH H' rfl) (va_cwF n hts hT rfl rfl rfl (jFw hE hG ⟨hd.1, hd.2.1⟩ hF1 hF2 hF3 hF4 hF5) hd hroom) ⟨jC_blind, va_recv (hG.K hE.1) (va_at_P (va_at_dn hc hat)) hc (q0 := 0) rfl, fun U hU hW => ⟨rfl, hU, j_preG hG hA0 hS hU hW⟩⟩ rfl hn hl.1 rfl (by simpa using hcat) d hcell
theorem f_callSN (hE : jSt E) (hk : jOK E K cc own ({ frames := Rf, cells := Rc, slots := Rs, locals := Rl } : Room)) (hl0 : jKl K = l) {As rest : List Value} {zc : jZ} (hC : fC l E y b L ret fr lo mc ms As zc Wc post) (hz : ∀ x, zc x → z x ∨ ∃ w ∈ Wr, x ∈ w) (n : Nat) {idx : Nat} {host : String} (hM : Cond.code y b L ret ∈ lw_all) (hi1 : Cond.initialized y.cls ∈ lw_all) (hi2 : Cond.methodLinkNest own idx y host ∈ lw_tbl) (hi3 : Cond.static y ∈ lw_all)
    (hd : y.cls ≠ "java/lang/invoke/MethodHandle" ∧ y.cls ≠ "java/lang/invoke/VarHandle" ∧ (parseMethodDescriptor y.desc).map (fun d => d.parameters.length) = some n) (hn : As.length = n) (hroom : fr + 1 ≤ Rf ∧ 8 + (L + 11) + lo ≤ Rl) (hcell : cells + mc ≤ Rc ∧ slots + ms ≤ Rs) (hst : st = As.reverse ++ rest) (hcat : (rest.map fun v => v.category).sum ≤ 8)
    (d : decode cc pc = .ok (.invokestatic idx, 3)) (kk : fGo K E z0 z zc Wr post (cells + mc) (slots + ms) (pc + 3) vs rest) : jW K (fO K E z0 z (Wc ++ Wr)) cells slots pc vs st := by
  refine j_sz (j_Pe (fun H hH => ?_))
  have hf := f_fore (jOK_lo hk) hH.1 hz
  have hgo : ∀ (v : Option Value) (H1 : Heap), fPost E H zc Wc post v H1 → H.size ≤ H1.size → (∀ q : Nat, q < H.size → ¬ wAd Wc q → H1[q]? = H[q]?) → jW K (fun X => X = H1) (cells + mc) (slots + ms) (pc + 3) vs (v.toList ++ rest) := fun v H1 hp hsz hq => f_go hk hH.1 hH.2 hz hp hsz hq kk
  have hCH := hC H hf.1
  obtain ⟨p, l', e, R, s, m, args, below, meth, c, A, Q⟩ := K
  intro H' locs ls hP0 hS hl hz9
  subst hP0
  obtain ⟨hx2, hb, hown, hts, hA, hG, hA0, hlk, rfl, htr⟩ := hk
  cases hl0
  subst hst
  refine j_run (Fr := wAd Wc) (Post := fPost E H' zc Wc post) (mc := mc) (ms := ms) (rest := rest) ?_ hA hf.2 hS hl hz9 hgo
  exact va_runSN (nL := c.maxLocals) ⟨hx2, hb, rfl, hown, hts⟩ (hCH H' rfl) ⟨va_cnB n hts (lw_meth hM) rfl rfl rfl (jNwM hE hG hi2) (hts _ hi1) hd hroom, hts _ hi3, trivial⟩ ⟨jC_blind, fun U hU hW => ⟨rfl, hU, j_preG hG hA0 hS hU hW⟩⟩ rfl hn hl.1 rfl (by simpa using hcat) d hcell
theorem f_callIN (hE : jSt E) (hk : jOK E K cc own ({ frames := Rf, cells := Rc, slots := Rs, locals := Rl } : Room)) (hl0 : jKl K = l) {As rest : List Value} {a : Nat} {zc : jZ} (hC : fC l E y b L none fr lo mc ms (.ref a :: As) zc Wc post) (hz : ∀ x, zc x → z x ∨ ∃ w ∈ Wr, x ∈ w) (n : Nat) {idx : Nat} {host : String} (hM : Cond.code y b L none ∈ lw_all) (hi1 : Cond.initialized y.cls ∈ lw_all) (hi2 : Cond.methodLinkNest own idx y host ∈ lw_tbl) (hi3 : Cond.instanceMethod y ∈ lw_all) (hi4 : y.name = "<init>")
    (hd : y.cls ≠ "java/lang/invoke/MethodHandle" ∧ y.cls ≠ "java/lang/invoke/VarHandle" ∧ (parseMethodDescriptor y.desc).map (fun d => d.parameters.length) = some n) (hn : As.length = n) (hroom : fr + 1 ≤ Rf ∧ 8 + (L + 11) + lo ≤ Rl) (hcell : cells + mc ≤ Rc ∧ slots + ms ≤ Rs) (hst : st = As.reverse ++ .ref a :: rest) (hcat : (rest.map fun v => v.category).sum ≤ 8)
    (d : decode cc pc = .ok (.invokespecial idx, 3)) (kk : fGo K E z0 z zc Wr post (cells + mc) (slots + ms) (pc + 3) vs rest) : jW K (fO K E z0 z (Wc ++ Wr)) cells slots pc vs st := by
  refine j_sz (j_Pe (fun H hH => ?_))
  have hf := f_fore (jOK_lo hk) hH.1 hz
  have hgo : ∀ (v : Option Value) (H1 : Heap), fPost E H zc Wc post v H1 → H.size ≤ H1.size → (∀ q : Nat, q < H.size → ¬ wAd Wc q → H1[q]? = H[q]?) → jW K (fun X => X = H1) (cells + mc) (slots + ms) (pc + 3) vs (v.toList ++ rest) := fun v H1 hp hsz hq => f_go hk hH.1 hH.2 hz hp hsz hq kk
  have hCH := hC H hf.1
  obtain ⟨p, l', e, R, s, m, args, below, meth, c, A, Q⟩ := K
  intro H' locs ls hP0 hS hl hz9
  subst hP0
  obtain ⟨hx2, hb, hown, hts, hA, hG, hA0, hlk, rfl, htr⟩ := hk
  cases hl0
  subst hst
  refine j_run (Fr := wAd Wc) (Post := fPost E H' zc Wc post) (mc := mc) (ms := ms) (rest := rest) ?_ hA hf.2 hS hl hz9 hgo
  exact va_runIN (nL := c.maxLocals) ⟨hx2, hb, rfl, hown, hts⟩ (hCH H' rfl) ⟨va_cnB n hts (lw_meth hM) rfl rfl rfl (jNwM hE hG hi2) (hts _ hi1) hd hroom, hi4, hts _ hi3⟩ ⟨jC_blind, fun U hU hW => ⟨rfl, hU, j_preG hG hA0 hS hU hW⟩⟩ rfl hn hl.1 rfl (by simpa using hcat) d hcell
theorem f_callU (hE : jSt E) (hk : jOK E K cc own ({ frames := Rf, cells := Rc, slots := Rs, locals := Rl } : Room)) (hl0 : jKl K = l) {As rest : List Value} {a ci N : Nat} {C owner : String} {T : u_T} {fs : List Value} {zc : jZ} (hx : fIn z (Wc ++ Wr) (a, .inr (ci, fs))) (hc : vwCl[ci]? = some (C, T, N)) (hC : fC l E y b L ret fr lo mc ms (.ref a :: As) zc Wc post) (hz : ∀ x, zc x → z x ∨ ∃ w ∈ Wr, x ∈ w) (n : Nat) {idx : Nat} {x : MethodName} (h1 : Cond.methodLink own idx x ∈ lw_all) (h2 : Cond.sameMethod x.cls owner x.name x.desc ∈ lw_all) (h3 : Cond.selects C x y ∈ lw_all) (h4 : Cond.instanceMethod y ∈ lw_all) (h5 : Cond.initialized y.cls ∈ lw_all) (hM : Cond.code y b L ret ∈ lw_all) (hyx : y = ⟨owner, x.name, x.desc⟩)
    (hd : owner ≠ "java/lang/invoke/MethodHandle" ∧ owner ≠ "java/lang/invoke/VarHandle" ∧ (parseMethodDescriptor x.desc).map (fun d => d.parameters.length) = some n) (hn : As.length = n) (hroom : fr + 1 ≤ Rf ∧ 8 + (L + 11) + lo ≤ Rl) (hcell : cells + mc ≤ Rc ∧ slots + ms ≤ Rs) (hst : st = As.reverse ++ .ref a :: rest) (hcat : (rest.map fun v => v.category).sum ≤ 8)
    (d : decode cc pc = .ok (.invokevirtual idx, 3)) (kk : fGo K E z0 z zc Wr post (cells + mc) (slots + ms) (pc + 3) vs rest) : jW K (fO K E z0 z (Wc ++ Wr)) cells slots pc vs st := by
  refine j_sz (j_Pe (fun H hH => ?_))
  have hf := f_fore (jOK_lo hk) hH.1 hz
  have hgo : ∀ (v : Option Value) (H1 : Heap), fPost E H zc Wc post v H1 → H.size ≤ H1.size → (∀ q : Nat, q < H.size → ¬ wAd Wc q → H1[q]? = H[q]?) → jW K (fun X => X = H1) (cells + mc) (slots + ms) (pc + 3) vs (v.toList ++ rest) := fun v H1 hp hsz hq => f_go hk hH.1 hH.2 hz hp hsz hq kk
  have hCH := hC H hf.1
  have hat := hH.1.get hx
  obtain ⟨p, l', e, R, s, m, args, below, meth, c, A, Q⟩ := K
  intro H' locs ls hP0 hS hl hz9
  subst hP0
  obtain ⟨hx2, hb, hown, hts, hA, hG, hA0, hlk, rfl, htr⟩ := hk
  cases hl0
  subst hst
  refine j_run (Fr := wAd Wc) (Post := fPost E H' zc Wc post) (mc := mc) (ms := ms) (rest := rest) ?_ hA hf.2 hS hl hz9 hgo
  exact va_runU (nL := c.maxLocals) ⟨hx2, hb, rfl, hown, hts⟩ (hCH H' rfl) (va_cwU n hts (lw_app (List.forall_mem_cons.mpr ⟨h1, List.forall_mem_cons.mpr ⟨h2, List.forall_mem_cons.mpr ⟨h3, List.forall_mem_cons.mpr ⟨h4, List.forall_mem_cons.mpr ⟨h5, fun _ h => by cases h⟩⟩⟩⟩⟩) (lw_meth hM)) rfl rfl rfl hyx hd hroom) ⟨jC_blind, va_recv (hG.K hE.1) (va_at_P (va_at_dn hc hat)) hc (q0 := 0) rfl, fun U hU hW => ⟨rfl, hU, j_preG hG hA0 hS hU hW⟩⟩ rfl hn hl.1 rfl (by simpa using hcat) d hcell
theorem f_callO (hE : jSt E) (hk : jOK E K cc own ({ frames := Rf, cells := Rc, slots := Rs, locals := Rl } : Room)) (hl0 : jKl K = l) {As rest : List Value} {a ci N : Nat} {C owner : String} {T : u_T} {fs : List Value} {zc : jZ} (hx : fIn z (Wc ++ Wr) (a, .inr (ci, fs))) (hc : vwCl[ci]? = some (C, T, N)) (hC : fC l E y b L ret fr lo mc ms (.ref a :: As) zc Wc post) (hz : ∀ x, zc x → z x ∨ ∃ w ∈ Wr, x ∈ w) (n : Nat) {idx : Nat} {x : MethodName} {b0 : ByteArray} {m0 : Nat} {r0 : Option FieldType} (h0 : Cond.code ⟨owner, x.name, x.desc⟩ b0 m0 r0 ∈ lw_all) (h1 : Cond.methodLink own idx x ∈ lw_all) (h2 : Cond.sameMethod x.cls owner x.name x.desc ∈ lw_all) (h6 : Cond.instanceMethod ⟨owner, x.name, x.desc⟩ ∈ lw_all) (h3 : Cond.selects C x y ∈ lw_all) (h4 : Cond.instanceMethod y ∈ lw_all) (h5 : Cond.initialized y.cls ∈ lw_all) (hM : Cond.code y b L ret ∈ lw_all)
    (hd : owner ≠ "java/lang/invoke/MethodHandle" ∧ owner ≠ "java/lang/invoke/VarHandle" ∧ (parseMethodDescriptor x.desc).map (fun d => d.parameters.length) = some n) (hn : As.length = n) (hroom : fr + 1 ≤ Rf ∧ 8 + (L + 11) + lo ≤ Rl) (hcell : cells + mc ≤ Rc ∧ slots + ms ≤ Rs) (hst : st = As.reverse ++ .ref a :: rest) (hcat : (rest.map fun v => v.category).sum ≤ 8)
    (d : decode cc pc = .ok (.invokevirtual idx, 3)) (kk : fGo K E z0 z zc Wr post (cells + mc) (slots + ms) (pc + 3) vs rest) : jW K (fO K E z0 z (Wc ++ Wr)) cells slots pc vs st := by
  refine j_sz (j_Pe (fun H hH => ?_))
  have hf := f_fore (jOK_lo hk) hH.1 hz
  have hgo : ∀ (v : Option Value) (H1 : Heap), fPost E H zc Wc post v H1 → H.size ≤ H1.size → (∀ q : Nat, q < H.size → ¬ wAd Wc q → H1[q]? = H[q]?) → jW K (fun X => X = H1) (cells + mc) (slots + ms) (pc + 3) vs (v.toList ++ rest) := fun v H1 hp hsz hq => f_go hk hH.1 hH.2 hz hp hsz hq kk
  have hCH := hC H hf.1
  have hat := hH.1.get hx
  obtain ⟨p, l', e, R, s, m, args, below, meth, c, A, Q⟩ := K
  intro H' locs ls hP0 hS hl hz9
  subst hP0
  obtain ⟨hx2, hb, hown, hts, hA, hG, hA0, hlk, rfl, htr⟩ := hk
  cases hl0
  subst hst
  refine j_run (Fr := wAd Wc) (Post := fPost E H' zc Wc post) (mc := mc) (ms := ms) (rest := rest) ?_ hA hf.2 hS hl hz9 hgo
  exact va_runU (nL := c.maxLocals) ⟨hx2, hb, rfl, hown, hts⟩ (hCH H' rfl) (va_cwO n hts (lw_app (List.forall_mem_cons.mpr ⟨h1, List.forall_mem_cons.mpr ⟨h2, List.forall_mem_cons.mpr ⟨h6, List.forall_mem_cons.mpr ⟨h3, List.forall_mem_cons.mpr ⟨h4, List.forall_mem_cons.mpr ⟨h5, fun _ h => by cases h⟩⟩⟩⟩⟩⟩) (lw_meth hM)) rfl rfl rfl h0 hd hroom) ⟨jC_blind, va_recv (hG.K hE.1) (va_at_P (va_at_dn hc hat)) hc (q0 := 0) rfl, fun U hU hW => ⟨rfl, hU, j_preG hG hA0 hS hU hW⟩⟩ rfl hn hl.1 rfl (by simpa using hcat) d hcell
/-- both sides of a comparison are one word -/
theorem f_icmp_eqS (hk : jOK E K cc own ({ frames := Rf, cells := Rc, slots := Rs, locals := Rl } : Room)) {P : Heap → Prop} {x : Int32} {off : Int} {tgt : Nat} (d : decode cc pc = .ok (.if_icmp .eq off, 3)) (ht : (pc : Int) + off = (tgt : Int)) (kt : jW K P cells slots tgt vs st) : jW K P cells slots pc vs (.int x :: .int x :: st) := by
  obtain ⟨p, l, e, R, s, m', args, below, meth, c, A', Q⟩ := K
  intro H locs ls hP hS hl hz
  exact lv_icmp_eq hk.1 hk.2.1 d ht (fun _ => kt H locs ls hP hS hl hz) (fun h => absurd rfl h)
end FCALL2
