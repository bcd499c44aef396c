/-! J, 10: starts, ends, calls over blocks -/
theorem jOK_G {E : jE} {K : jK} {cc : ByteArray} {own : String} {rm : Room} (hk : jOK E K cc own rm) : jG E.1 (jKs K) := by
  obtain ⟨p, l, e, R, s, m', args, below, meth, c, A', Q⟩ := K
  exact hk.2.2.2.2.2.1
theorem jOK_lo {E : jE} {K : jK} {cc : ByteArray} {own : String} {rm : Room} (hk : jOK E K cc own rm) : ∀ q : Nat, q < E.1.heap.size → ¬ jKA K q := by
  obtain ⟨p, l, e, R, s, m', args, below, meth, c, A', Q⟩ := K
  exact hk.2.2.2.2.2.2.1
theorem jOK_new {E : jE} {K : jK} {cc : ByteArray} {own : String} {rm : Room} (hk : jOK E K cc own rm) : ∀ q : Nat, (jKs K).heap.size ≤ q → jKA K q := by
  obtain ⟨p, l, e, R, s, m', args, below, meth, c, A', Q⟩ := K
  exact hk.2.2.2.2.1
theorem fH.wAd_ge {E : jE} {D : Nat → Prop} {z : jZ} {W : List va_W} {H : Heap} (h : fH E D z W H) {q : Nat} (hq : wAd W q) : D q ∧ q < H.size := by
  obtain ⟨w, hw, x, hx, rfl⟩ := hq
  obtain ⟨i, hi⟩ := List.getElem?_of_mem hw
  exact ⟨((h.1 i w hi).1 x hx).2.1, ((h.1 i w hi).1 x hx).1.lt⟩
theorem f_start {l : Launch} {E : jE} {y : MethodName} {b : ByteArray} {L : Nat} {ret : Option FieldType} {fr lo mc ms : Nat} {as : List Value} {z : jZ} {W : List va_W} {post : Option Value → jZ → List va_W → Prop} {own : String} {vs : List (Option Value)}
    (hs : l.stackTraces = false) (hy : plainName y.cls = true) (ho : y.cls = own) (hv : jv 0 vs = lv_args 0 as) (hn : vs.length = L) (hg : (lg_sl as).length ≤ L)
    (body : ∀ (K : jK) (H0 : Heap), jOK E K b own ({ frames := fr, cells := mc, slots := ms, locals := lo } : Room) → jEnd K ret mc ms (fPost E H0 z W post) → jKl K = l → jKn K = y.name → (∀ q, jKA K q ↔ wAd W q ∨ H0.size ≤ q) → jW K (fO K E z z W) 0 0 0 vs []) : fC l E y b L ret fr lo mc ms as z W post := by
  intro H0 h0
  refine j_startI hs hy ho hv hn hg (fun X hX q hq => (h0.wAd_ge hq).1) ?_
  intro K H1 hP hk he hl hH hI hA
  subst hP
  refine j_P (P2 := fO K E z z W) (fun H h => ?_) (body K H1 hk he hl hI hA)
  subst h
  refine ⟨⟨fun i w hi => ?_, h0.2.1, h0.2.2⟩, zLe.rf, fun x hx => Or.inl hx⟩
  have := h0.1 i w hi
  exact ⟨fun x hx => ⟨(this.1 x hx).1, (hA x.1).mpr (Or.inl ⟨w, List.mem_of_getElem? hi, x, hx, rfl⟩), (this.1 x hx).2.2⟩, this.2⟩
/-- the kit's Met.ofW, of a method whose class has rows of its own among the natives, but not for it -/
theorem Met_ofWF {l : Launch} {y : MethodName} {ws ws' : List Cond} {rm : Room} {Pc : Array Value → State → Prop} {Qc : Array Value → State → Outcome → State → Prop} {mc ms : Nat} {free : Addr → Prop} {cc : ByteArray} {maxL : Nat} {ret : Option FieldType}
    (hy : plainFor y = true) (hw : ws = Cond.code y cc maxL ret :: ws')
    (body : ∀ p e s m args below meth c s₁, BodyLoose p l y (headSpec ws rm) cc maxL ret e s m args below meth c s₁ → c.maxLocals = maxL → Pc args s →
      W p l e (headSpec ws rm).room s m args below meth c s.heap [] 0 0 (MQ below Qc args s mc ms free) (entryFrame m args maxL)) : Met l y ws rm Pc Qc mc ms free := by
  refine MetFree.of_bodySF (code := cc) (maxLocals := maxL) (ret := ret) hy ?_ ?_
  · intro args s m h hn
    obtain ⟨meth, c, h1, h2, h3, h4, h5, h6, -, -⟩ := Cond.code_spec hn (atoms_spec (ws := ws) h _ (by rw [hw]; exact List.mem_cons_self))
    exact ⟨meth, c, h1, h2, h3, h4, h5, h6⟩
  · intro p e s m args below meth c s₁ B hml hP _
    have hh0 : s₁.heap = s.heap := by rw [B.state]; rfl
    obtain ⟨t, a1, o, b1, b2, b3⟩ := body p e s m args below meth c s₁ B hml hP s₁ hh0 (Stand.of_body B)
    exact ⟨t, o, a1, b1, b2, ⟨b3.1, b3.2⟩⟩
theorem j_startF {l : Launch} {E : jE} {y : MethodName} {b : ByteArray} {L : Nat} {ret : Option FieldType} {fr lo mc ms : Nat} {as : List Value} {P : Heap → Prop} {Fr : Nat → Prop} {Post : Option Value → Heap → Prop} {own : String} {vs : List (Option Value)}
    (hs : l.stackTraces = false) (hy : plainFor y = true) (ho : y.cls = own) (hv : jv 0 vs = lv_args 0 as) (hn : vs.length = L) (hg : (lg_sl as).length ≤ L) (hF : ∀ H0, P H0 → ∀ q, Fr q → E.1.heap.size ≤ q)
    (body : ∀ (K : jK) (H0 : Heap), P H0 → jOK E K b own ({ frames := fr, cells := mc, slots := ms, locals := lo } : Room) → jEnd K ret mc ms Post → jKl K = l → (jKs K).heap = H0 → jKn K = y.name → (∀ q, jKA K q ↔ Fr q ∨ H0.size ≤ q) → jW K (fun X => X = H0) 0 0 0 vs []) : jC l E y b L ret fr lo mc ms as P Fr Post := by
  intro H0 hP0
  refine Met_ofWF (cc := b) (maxL := L) (ret := ret) hy rfl ?_
  intro p e s m args below meth c s₁ B hml hvv
  obtain ⟨rfl, hsz, hG⟩ := hvv
  have hts := atoms_spec (ws := ws_ y b L ret) B.pre
  have hts : ∀ w ∈ lw_all, w.before as.toArray s = true := fun w h => hts w (List.mem_cons_of_mem _ h)
  have hown : s.vm.findClass own = some m.cls := by rw [← ho]; exact findClass_of_methodNamed B.named
  rw [lg_entry_eq]
  have hl := lv_entry as (n := L) hg
  have k := body (p, l, e, _, s, m, as.toArray, below, meth, c, jA Fr H0, MQ below (fun _ st o t => (∃ r, o = .returned r ∧ Post r t.heap) ∧ va_F (jA Fr H0) st t) as.toArray s mc ms (jA Fr H0)) H0 hP0
    ⟨B.exec, B.bytes, hown, hts, fun q h => Or.inr (by rw [← hsz]; exact h), hG, fun q h z => by
      rcases z with z | z
      · exact absurd (hF H0 hP0 q z) (by omega)
      · have := hG.2.1
        rw [hsz] at this
        omega, B.notSynchronized, rfl, hs⟩ ⟨B.returns, rfl⟩ rfl hsz (name_of_methodNamed B.named B.method).1 (fun q => Iff.rfl)
  exact k s.heap [] _ hsz va_S.rf (by rw [hml, hv]; exact hl) (hn.trans hml.symm)
theorem f_startF {l : Launch} {E : jE} {y : MethodName} {b : ByteArray} {L : Nat} {ret : Option FieldType} {fr lo mc ms : Nat} {as : List Value} {z : jZ} {W : List va_W} {post : Option Value → jZ → List va_W → Prop} {own : String} {vs : List (Option Value)}
    (hs : l.stackTraces = false) (hy : plainFor y = true) (ho : y.cls = own) (hv : jv 0 vs = lv_args 0 as) (hn : vs.length = L) (hg : (lg_sl as).length ≤ L)
    (body : ∀ (K : jK) (H0 : Heap), jOK E K b own ({ frames := fr, cells := mc, slots := ms, locals := lo } : Room) → jEnd K ret mc ms (fPost E H0 z W post) → jKl K = l → jKn K = y.name → (∀ q, jKA K q ↔ wAd W q ∨ H0.size ≤ q) → jW K (fO K E z z W) 0 0 0 vs []) : fC l E y b L ret fr lo mc ms as z W post := by
  intro H0 h0
  refine j_startF hs hy ho hv hn hg (fun X hX q hq => (h0.wAd_ge hq).1) ?_
  intro K H1 hP hk he hl hH hI hA
  subst hP
  refine j_P (P2 := fO K E z z W) (fun H h => ?_) (body K H1 hk he hl hI hA)
  subst h
  refine ⟨⟨fun i w hi => ?_, h0.2.1, h0.2.2⟩, zLe.rf, fun x hx => Or.inl hx⟩
  have := h0.1 i w hi
  exact ⟨fun x hx => ⟨(this.1 x hx).1, (hA x.1).mpr (Or.inl ⟨w, List.mem_of_getElem? hi, x, hx, rfl⟩), (this.1 x hx).2.2⟩, this.2⟩
section FEND
variable {E : jE} {K : jK} {cc : ByteArray} {own : String} {rm : Room} {z0 z : jZ} {W W0 : List va_W} {cells slots pc : Nat} {vs : List (Option Value)} {mc ms : Nat} {post : Option Value → jZ → List va_W → Prop} {H0 : Heap}
theorem f_post (hA : ∀ q, jKA K q ↔ wAd W0 q ∨ H0.size ≤ q) {v : Option Value} (hp : post v z W) {H : Heap} (h : fO K E z0 z W H) : fPost E H0 z0 W0 post v H := by
  obtain ⟨h1, h2, h3⟩ := h
  refine ⟨z, W, hp, h2, ⟨fun i w hi => ?_, h1.2.1, h1.2.2⟩, fun x hx => ?_⟩
  · have := h1.1 i w hi
    exact ⟨fun x hx => ⟨(this.1 x hx).1, (hA x.1).mp (this.1 x hx).2.1, (this.1 x hx).2.2⟩, this.2⟩
  · rcases h3 x hx with q | q | q
    · exact Or.inl q
    · exact Or.inr (Or.inl ((hA x.1).mp q))
    · exact Or.inr (Or.inr q)
theorem f_iret (hk : jOK E K cc own rm) {ty : FieldType} (he : jEnd K (some ty) mc ms (fPost E H0 z0 W0 post)) (hA : ∀ q, jKA K q ↔ wAd W0 q ∨ H0.size ≤ q) {x : Int} (hn : narrow ty (.int (jI x)) = .int (jI x)) (d : decode cc pc = .ok (.ireturn, 1)) (hc : cells ≤ mc) (hs : slots ≤ ms) (hq : post (some (.int (jI x))) z W) : jW K (fO K E z0 z W) cells slots pc vs [.int (jI x)] :=
  j_iret hk he hn d hc hs (fun _ h => f_post hA hq h)
theorem f_vret (hk : jOK E K cc own rm) (he : jEnd K none mc ms (fPost E H0 z0 W0 post)) (hA : ∀ q, jKA K q ↔ wAd W0 q ∨ H0.size ≤ q) (d : decode cc pc = .ok (.return_, 1)) (hc : cells ≤ mc) (hs : slots ≤ ms) (hq : post none z W) : jW K (fO K E z0 z W) cells slots pc vs [] :=
  j_vret hk he d hc hs (fun _ h => f_post hA hq h)
theorem f_aret (hk : jOK E K cc own rm) {ty : FieldType} (he : jEnd K (some ty) mc ms (fPost E H0 z0 W0 post)) (hA : ∀ q, jKA K q ↔ wAd W0 q ∨ H0.size ≤ q) (hty : (∃ n, ty = .object n) ∨ ∃ t, ty = .array t) {v : Value} (hv : v = .null ∨ ∃ a, v = .ref a) (d : decode cc pc = .ok (.areturn, 1)) (hc : cells ≤ mc) (hs : slots ≤ ms) (hq : post (some v) z W) : jW K (fO K E z0 z W) cells slots pc vs [v] :=
  j_aret hk he hty hv d hc hs (fun _ h => f_post hA hq h)
end FEND
/-- behind a call -/
theorem f_back {K : jK} {E : jE} {z0 z zc : jZ} {Wc Wr : List va_W} {H H1 : Heap} {post : Option Value → jZ → List va_W → Prop} {v : Option Value} (hlo : ∀ q : Nat, q < E.1.heap.size → ¬ jKA K q) (hnew : ∀ q : Nat, H.size ≤ q → jKA K q) (h : fO K E z0 z (Wc ++ Wr) H) (hz : ∀ x, zc x → z x ∨ ∃ w ∈ Wr, x ∈ w) (hp : fPost E H zc Wc post v H1) (hsz : H.size ≤ H1.size) (hq : ∀ q : Nat, q < H.size → ¬ wAd Wc q → H1[q]? = H[q]?) :
    ∃ z2 W2, post v z2 W2 ∧ zLe zc z2 ∧ fO K E z0 z (W2 ++ Wr) H1 ∧ (zc = z → fO K E z0 z2 (W2 ++ Wr) H1) := by
  obtain ⟨z2, W2, p1, p2, p3, p4⟩ := hp
  obtain ⟨⟨h1, h2, h3⟩, h4, h5⟩ := h
  have inC : ∀ {q : Nat}, wAd Wc q → jKA K q ∧ q < H.size ∧ (∀ y, z y → y.1 ≠ q) ∧ (∀ (i : Nat) (w : va_W), Wr[i]? = some w → ∀ x ∈ w, x.1 ≠ q) := by
    intro q hq
    obtain ⟨w, hw, x, hx, rfl⟩ := hq
    obtain ⟨i, hi⟩ := List.getElem?_of_mem hw
    have hil := (List.getElem?_eq_some_iff.mp hi).1
    have hi2 : (Wc ++ Wr)[i]? = some w := by rw [List.getElem?_append_left hil]; exact hi
    have := (h1 i w hi2).1 x hx
    refine ⟨this.2.1, this.1.lt, this.2.2, fun j u hj y hy => ?_⟩
    have hj2 : (Wc ++ Wr)[Wc.length + j]? = some u := by rw [List.getElem?_append_right (by omega)]; rw [show Wc.length + j - Wc.length = j by omega]; exact hj
    exact h2 (Wc.length + j) i u w hj2 hi2 (by omega) y hy x hx
  have inR : ∀ {j : Nat} {u : va_W}, Wr[j]? = some u → (∀ x ∈ u, va_at E.2.1 vwClX x H ∧ jKA K x.1 ∧ ∀ y, z y → y.1 ≠ x.1) ∧ (u.map (fun q => q.1)).Nodup := by
    intro j u hj
    exact h1 (Wc.length + j) u (by rw [List.getElem?_append_right (by omega), show Wc.length + j - Wc.length = j by omega]; exact hj)
  have keepR : ∀ {j : Nat} {u : va_W}, Wr[j]? = some u → ∀ x ∈ u, va_at E.2.1 vwClX x H1 := by
    intro j u hj x hx
    have := (inR hj).1 x hx
    exact this.1.kept (hq _ this.1.lt (fun q => (inC q).2.2.2 j u hj x hx rfl))
  have keepZ : ∀ x, z x → va_at E.2.1 vwClX x H1 := fun x hx => (h3 x hx).kept (hq _ (h3 x hx).lt (fun q => (inC q).2.2.1 x hx rfl))
  have newOf : ∀ {q : Nat}, (wAd Wc q ∨ H.size ≤ q) → jKA K q ∧ (∀ y, z y → y.1 ≠ q) ∧ ∀ (i : Nat) (w : va_W), Wr[i]? = some w → ∀ x ∈ w, x.1 ≠ q := by
    intro q hq
    rcases hq with hq | hq
    · exact ⟨(inC hq).1, (inC hq).2.2.1, (inC hq).2.2.2⟩
    · exact ⟨hnew q hq, fun y hy => by have := (h3 y hy).lt; omega, fun i w hi x hx => by have := ((inR hi).1 x hx).1.lt; omega⟩
  have main : ∀ zz : jZ, (∀ x, zz x → va_at E.2.1 vwClX x H1) → (∀ (i : Nat) (w : va_W), W2[i]? = some w → ∀ x ∈ w, ∀ y, zz y → y.1 ≠ x.1) → (∀ (i : Nat) (w : va_W), Wr[i]? = some w → ∀ x ∈ w, ∀ y, zz y → y.1 ≠ x.1) → fH E (jKA K) zz (W2 ++ Wr) H1 := by
    intro zz g1 g2 g3
    have sp : ∀ {i : Nat} {w : va_W}, (W2 ++ Wr)[i]? = some w → (i < W2.length ∧ W2[i]? = some w) ∨ (W2.length ≤ i ∧ Wr[i - W2.length]? = some w) := by
      intro i w hi
      by_cases hl : i < W2.length
      · rw [List.getElem?_append_left hl] at hi; exact Or.inl ⟨hl, hi⟩
      · rw [List.getElem?_append_right (by omega)] at hi; exact Or.inr ⟨by omega, hi⟩
    have cross : ∀ {i j : Nat} {w u : va_W}, W2[i]? = some w → Wr[j]? = some u → ∀ x ∈ w, ∀ y ∈ u, y.1 ≠ x.1 := fun {i j w u} hi hj x hx y hy => (newOf ((p3.1 i w hi).1 x hx).2.1).2.2 j u hj y hy
    refine ⟨fun i w hi => ?_, fun i j w u hi hj hne x hx y hy => ?_, g1⟩
    · rcases sp hi with ⟨-, hi⟩ | ⟨-, hi⟩
      · have := p3.1 i w hi
        exact ⟨fun x hx => ⟨(this.1 x hx).1, (newOf (this.1 x hx).2.1).1, fun y hy => g2 i w hi x hx y hy⟩, this.2⟩
      · exact ⟨fun x hx => ⟨keepR hi x hx, ((inR hi).1 x hx).2.1, fun y hy => g3 _ w hi x hx y hy⟩, (inR hi).2⟩
    · rcases sp hi with ⟨li, hi⟩ | ⟨li, hi⟩ <;> rcases sp hj with ⟨lj, hj⟩ | ⟨lj, hj⟩
      · exact p3.2.1 i j w u hi hj hne x hx y hy
      · exact Ne.symm (cross hi hj x hx y hy)
      · exact cross hj hi y hy x hx
      · have hi2 : (Wc ++ Wr)[Wc.length + (i - W2.length)]? = some w := by rw [List.getElem?_append_right (by omega), show Wc.length + (i - W2.length) - Wc.length = i - W2.length by omega]; exact hi
        have hj2 : (Wc ++ Wr)[Wc.length + (j - W2.length)]? = some u := by rw [List.getElem?_append_right (by omega), show Wc.length + (j - W2.length) - Wc.length = j - W2.length by omega]; exact hj
        exact h2 _ _ w u hi2 hj2 (by omega) x hx y hy
  refine ⟨z2, W2, p1, p2, ⟨main z keepZ (fun i w hi x hx y hy => (newOf ((p3.1 i w hi).1 x hx).2.1).2.1 y hy) (fun i w hi x hx y hy => ((inR hi).1 x hx).2.2 y hy), h4, h5⟩, fun ez => ?_⟩
  subst ez
  refine ⟨main z2 p3.2.2 (fun i w hi x hx y hy => ((p3.1 i w hi).1 x hx).2.2 y hy) (fun i w hi x hx y hy => ?_), fun x hx => p2 x (h4 x hx), fun x hx => ?_⟩
  · rcases p4 y hy with q | q | q
    · exact ((inR hi).1 x hx).2.2 y q
    · exact fun e => (newOf q).2.2 i w hi x hx e.symm
    · intro e
      exact hlo _ q (e ▸ ((inR hi).1 x hx).2.1)
  · rcases p4 x hx with q | q | q
    · exact h5 x q
    · exact Or.inr (Or.inl (newOf q).1)
    · exact Or.inr (Or.inr q)
/-- ahead of a call -/
theorem f_fore {K : jK} {E : jE} {z0 z zc : jZ} {Wc Wr : List va_W} {H : Heap} (hlo : ∀ q : Nat, q < E.1.heap.size → ¬ jKA K q) (h : fO K E z0 z (Wc ++ Wr) H) (hz : ∀ x, zc x → z x ∨ ∃ w ∈ Wr, x ∈ w) : fH E (fun q => E.1.heap.size ≤ q) zc Wc H ∧ ∀ q, wAd Wc q → jKA K q := by
  obtain ⟨⟨h1, h2, h3⟩, -, -⟩ := h
  have up : ∀ {i : Nat} {w : va_W}, Wc[i]? = some w → (Wc ++ Wr)[i]? = some w := fun {i w} hi => by rw [List.getElem?_append_left (List.getElem?_eq_some_iff.mp hi).1]; exact hi
  have upR : ∀ {j : Nat} {u : va_W}, Wr[j]? = some u → (Wc ++ Wr)[Wc.length + j]? = some u := fun {j u} hj => by rw [List.getElem?_append_right (by omega), show Wc.length + j - Wc.length = j by omega]; exact hj
  refine ⟨⟨fun i w hi => ?_, fun i j w u hi hj => h2 i j w u (up hi) (up hj), fun x hx => ?_⟩, fun q hq => ?_⟩
  · have := h1 i w (up hi)
    refine ⟨fun x hx => ⟨(this.1 x hx).1, Nat.not_lt.mp (fun q => hlo _ q (this.1 x hx).2.1), fun y hy => ?_⟩, this.2⟩
    rcases hz y hy with q | ⟨u, hu, hyu⟩
    · exact (this.1 x hx).2.2 y q
    · obtain ⟨j, hj⟩ := List.getElem?_of_mem hu
      have hil := (List.getElem?_eq_some_iff.mp hi).1
      exact h2 (Wc.length + j) i u w (upR hj) (up hi) (by omega) y hyu x hx
  · rcases hz x hx with q | ⟨u, hu, hxu⟩
    · exact h3 x q
    · obtain ⟨j, hj⟩ := List.getElem?_of_mem hu
      exact ((h1 _ u (upR hj)).1 x hxu).1
  · obtain ⟨w, hw, x, hx, rfl⟩ := hq
    obtain ⟨i, hi⟩ := List.getElem?_of_mem hw
    exact ((h1 i w (up hi)).1 x hx).2.1
section FCALL
variable {l : Launch} {E : jE} {K : jK} {cc : ByteArray} {own : String} {Rf Rc Rs Rl : Nat} {z0 z : jZ} {W Wc Wr : List va_W} {cells slots pc : Nat} {vs : List (Option Value)} {st : List Value}
variable {y : MethodName} {b : ByteArray} {L : Nat} {ret : Option FieldType} {fr lo mc ms : Nat} {post : Option Value → jZ → List va_W → Prop}
theorem f_sel {z0 z : jZ} {W W2 : List va_W} (is : List Nat) (hs : is.map (fun i => W[i]?) = W2.map some) (hn : va_nd is = true) (k : jW K (fO K E z0 z W2) cells slots pc vs st) : jW K (fO K E z0 z W) cells slots pc vs st :=
  j_P (fun _ h => ⟨h.1.sel is hs hn, h.2⟩) k
theorem f_freeze {w : va_W} (hk : jOK E K cc own ({ frames := Rf, cells := Rc, slots := Rs, locals := Rl } : Room)) (k : ∀ z2 : jZ, zLe z z2 → (∀ x ∈ w, z2 x) → jW K (fO K E z0 z2 W) cells slots pc vs st) : jW K (fO K E z0 z (w :: W)) cells slots pc vs st :=
  j_P (fun _ h => ⟨h.1.freeze, fun x hx => Or.inl (h.2.1 x hx), fun x hx => by
    rcases hx with q | q
    · exact h.2.2 x q
    · exact Or.inr (Or.inl ((h.1.1 0 w rfl).1 x q).2.1)⟩) (k (fun x => z x ∨ x ∈ w) (fun _ q => Or.inl q) (fun _ q => Or.inr q))
theorem f_glue {w1 w2 : va_W} (k : jW K (fO K E z0 z ((w1 ++ w2) :: W)) cells slots pc vs st) : jW K (fO K E z0 z (w1 :: w2 :: W)) cells slots pc vs st := j_P (fun _ h => ⟨h.1.glue, h.2⟩) k
theorem f_cut {w1 w2 : va_W} (k : jW K (fO K E z0 z (w1 :: w2 :: W)) cells slots pc vs st) : jW K (fO K E z0 z ((w1 ++ w2) :: W)) cells slots pc vs st := j_P (fun _ h => ⟨h.1.cut, h.2⟩) k
/-- what a block is made of may be said otherwise -/
theorem f_W {W2 : List va_W} (e : W = W2) (k : jW K (fO K E z0 z W2) cells slots pc vs st) : jW K (fO K E z0 z W) cells slots pc vs st := by rw [e]; exact k
theorem f_hnew {H : Heap} (hk : jOK E K cc own ({ frames := Rf, cells := Rc, slots := Rs, locals := Rl } : Room)) (hsz : (jKs K).heap.size ≤ H.size) : ∀ q : Nat, H.size ≤ q → jKA K q := fun q hq => jOK_new hk q (Nat.le_trans hsz hq)
/-- the judgement with the entry's size at hand -/
theorem j_sz {P : Heap → Prop} (k : jW K (fun H => P H ∧ (jKs K).heap.size ≤ H.size) cells slots pc vs st) : jW K P cells slots pc vs st := by
  obtain ⟨p, l, e, R, s, m, args, below, meth, c, A, Q⟩ := K
  exact fun H locs ls hP hS hl hz => k H locs ls ⟨hP, hS.1⟩ hS hl hz
/-- the two ways on: with what the callee froze; or (it was lent some blocks) without -/
abbrev fGo (K : jK) (E : jE) (z0 z zc : jZ) (Wr : List va_W) (post : Option Value → jZ → List va_W → Prop) (cells slots pc : Nat) (vs : List (Option Value)) (rest : List Value) : Prop :=
  (zc = z ∧ ∀ (v : Option Value) (z2 : jZ) (W2 : List va_W), post v z2 W2 → zLe z z2 → jW K (fO K E z0 z2 (W2 ++ Wr)) cells slots pc vs (v.toList ++ rest)) ∨
  (∀ (v : Option Value) (z2 : jZ) (W2 : List va_W), post v z2 W2 → zLe zc z2 → jW K (fO K E z0 z (W2 ++ Wr)) cells slots pc vs (v.toList ++ rest))
theorem f_go {zc : jZ} {H H1 : Heap} {v : Option Value} {rest : List Value} (hk : jOK E K cc own ({ frames := Rf, cells := Rc, slots := Rs, locals := Rl } : Room)) (h : fO K E z0 z (Wc ++ Wr) H) (hsz0 : (jKs K).heap.size ≤ H.size) (hz : ∀ x, zc x → z x ∨ ∃ w ∈ Wr, x ∈ w) (hp : fPost E H zc Wc post v H1) (hsz : H.size ≤ H1.size) (hq : ∀ q : Nat, q < H.size → ¬ wAd Wc q → H1[q]? = H[q]?) (kk : fGo K E z0 z zc Wr post cells slots pc vs rest) : jW K (fun X => X = H1) cells slots pc vs (v.toList ++ rest) := by
  obtain ⟨z2, W2, p1, p2, p3, p4⟩ := f_back (jOK_lo hk) (f_hnew hk hsz0) h hz hp hsz hq
  rcases kk with ⟨e, kk⟩ | kk
  · subst e
    exact j_P (fun X hX => by rw [hX]; exact p4 rfl) (kk v z2 W2 p1 p2)
  · exact j_P (fun X hX => by rw [hX]; exact p3) (kk v z2 W2 p1 p2)
theorem f_callS (hk : jOK E K cc own ({ frames := Rf, cells := Rc, slots := Rs, locals := Rl } : Room)) (hl0 : jKl K = l) {As rest : List Value} {zc : jZ} (hC : fC l E y b L ret fr lo mc ms As zc Wc post) (hz : ∀ x, zc x → z x ∨ ∃ w ∈ Wr, x ∈ w) (n : Nat) {idx : Nat} (hT : GoodIn lw_all (va_wsS own idx y (ws_ y b L ret)))
    (hd : y.cls ≠ "java/lang/invoke/MethodHandle" ∧ y.cls ≠ "java/lang/invoke/VarHandle" ∧ (parseMethodDescriptor y.desc).map (fun d => d.parameters.length) = some n) (hn : As.length = n) (hroom : fr + 1 ≤ Rf ∧ 8 + (L + 11) + lo ≤ Rl) (hcell : cells + mc ≤ Rc ∧ slots + ms ≤ Rs) (hst : st = As.reverse ++ rest) (hcat : (rest.map fun v => v.category).sum ≤ 8)
    (d : decode cc pc = .ok (.invokestatic idx, 3)) (kk : fGo K E z0 z zc Wr post (cells + mc) (slots + ms) (pc + 3) vs rest) : jW K (fO K E z0 z (Wc ++ Wr)) cells slots pc vs st := by
  refine j_sz (j_Pe (fun H hH => ?_))
  have hf := f_fore (jOK_lo hk) hH.1 hz
  refine j_callS hk (hC H hf.1) hl0 n hT hd hn hroom hcell hst hcat d (fun X h => h) hf.2 ?_
  rintro H0 v H1 rfl hp hsz hq
  exact f_go hk hH.1 hH.2 hz hp hsz hq kk
theorem f_callV (hE : jSt E) (hk : jOK E K cc own ({ frames := Rf, cells := Rc, slots := Rs, locals := Rl } : Room)) (hl0 : jKl K = l) {As rest : List Value} {a ci N : Nat} {C : String} {T : u_T} {fs : List Value} {zc : jZ} (hx : fIn z (Wc ++ Wr) (a, .inr (ci, fs))) (hc : vwCl[ci]? = some (C, T, N)) (hC : fC l E y b L ret fr lo mc ms (.ref a :: As) zc Wc post) (hz : ∀ x, zc x → z x ∨ ∃ w ∈ Wr, x ∈ w) (n : Nat) {idx : Nat} (hT : GoodIn lw_all (wsV own idx C y (ws_ y b L ret)))
    (hd : y.cls = C ∧ y.cls ≠ "java/lang/invoke/MethodHandle" ∧ y.cls ≠ "java/lang/invoke/VarHandle" ∧ (parseMethodDescriptor y.desc).map (fun d => d.parameters.length) = some n) (hn : As.length = n) (hroom : fr + 1 ≤ Rf ∧ 8 + (L + 11) + lo ≤ Rl) (hcell : cells + mc ≤ Rc ∧ slots + ms ≤ Rs) (hst : st = As.reverse ++ .ref a :: rest) (hcat : (rest.map fun v => v.category).sum ≤ 8)
    (d : decode cc pc = .ok (.invokevirtual idx, 3)) (kk : fGo K E z0 z zc Wr post (cells + mc) (slots + ms) (pc + 3) vs rest) : jW K (fO K E z0 z (Wc ++ Wr)) cells slots pc vs st := by
  refine j_sz (j_Pe (fun H hH => ?_))
  have hf := f_fore (jOK_lo hk) hH.1 hz
  refine j_callV hk (hC H hf.1) hl0 n hT hd hn hroom hcell hst hcat d (fun X h => h) (fun X hX => ?_) hf.2 ?_
  · subst hX
    exact va_recv ((jOK_G hk).K hE.1) (va_at_P (va_at_dn hc (hH.1.get hx))) hc (q0 := 0) rfl
  rintro H0 v H1 rfl hp hsz hq
  exact f_go hk hH.1 hH.2 hz hp hsz hq kk
theorem f_callI (hk : jOK E K cc own ({ frames := Rf, cells := Rc, slots := Rs, locals := Rl } : Room)) (hl0 : jKl K = l) {As rest : List Value} {a : Nat} {zc : jZ} (hC : fC l E y b L none fr lo mc ms (.ref a :: As) zc Wc post) (hz : ∀ x, zc x → z x ∨ ∃ w ∈ Wr, x ∈ w) (n : Nat) {idx : Nat} (hM : Cond.code y b L none ∈ lw_all) (hi1 : Cond.initialized y.cls ∈ lw_all) (hi2 : Cond.methodLink own idx y ∈ lw_all) (hi3 : Cond.instanceMethod y ∈ lw_all) (hi4 : y.name = "<init>")
    (hd : y.cls ≠ "java/lang/invoke/MethodHandle" ∧ y.cls ≠ "java/lang/invoke/VarHandle" ∧ (parseMethodDescriptor y.desc).map (fun d => d.parameters.length) = some n) (hn : As.length = n) (hroom : fr + 1 ≤ Rf ∧ 8 + (L + 11) + lo ≤ Rl) (hcell : cells + mc ≤ Rc ∧ slots + ms ≤ Rs) (hst : st = As.reverse ++ .ref a :: rest) (hcat : (rest.map fun v => v.category).sum ≤ 8)
    (d : decode cc pc = .ok (.invokespecial idx, 3)) (kk : fGo K E z0 z zc Wr post (cells + mc) (slots + ms) (pc + 3) vs rest) : jW K (fO K E z0 z (Wc ++ Wr)) cells slots pc vs st := by
  refine j_sz (j_Pe (fun H hH => ?_))
  have hf := f_fore (jOK_lo hk) hH.1 hz
  refine j_callI hk (hC H hf.1) hl0 n hM hi1 hi2 hi3 hi4 hd hn hroom hcell hst hcat d (fun X h => h) hf.2 ?_
  rintro H0 v H1 rfl hp hsz hq
  exact f_go hk hH.1 hH.2 hz hp hsz hq kk
end FCALL
