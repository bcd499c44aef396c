/-! J, 16: lambdas in a walk -/
section LINV
variable {α : Type} {r : α}
theorem lam_i1 {x : Option CpInfo} {f : Nat → Nat → Option α} (h : Jvm.Lambda.shapeOf?.match_19 (fun _ => Option α) x f (fun _ => none) = some r) : ∃ a b, x = some (.invokeDynamic a b) ∧ f a b = some r := by
  split at h <;> first | exact ⟨_, _, rfl, h⟩ | cases h
theorem lam_i2 {x : Option CpInfo} {f : Nat → Option α} (h : Jvm.Lambda.shapeOf?.match_17 (fun _ => Option α) x f (fun _ => none) = some r) : ∃ a, f a = some r := by
  split at h <;> first | exact ⟨_, h⟩ | cases h
theorem lam_i3 {x : Array Nat} {f : Nat → Nat → Nat → Option α} (h : Jvm.Lambda.shapeOf?.match_15 (fun _ => Option α) x f (fun _ => none) = some r) : ∃ a b c, f a b c = some r := by
  obtain ⟨xs⟩ := x
  rcases xs with _ | ⟨a, _ | ⟨b, _ | ⟨c, _ | ⟨d, rest⟩⟩⟩⟩
  · cases h
  · cases h
  · cases h
  · exact ⟨a, b, c, h⟩
  · cases h
theorem lam_i4 {x : Option CpInfo} {f : Nat → Option α} (h : Jvm.Lambda.shapeOf?.match_9 (fun _ => Option α) x f (fun _ => none) = some r) : ∃ a, f a = some r := by
  split at h <;> first | exact ⟨_, h⟩ | cases h
theorem lam_i5 {x : Option CpInfo} {f : Nat → Nat → Option α} (h : Jvm.Lambda.shapeOf?.match_12 (fun _ => Option α) x f (fun _ => none) = some r) : ∃ a b, f a b = some r := by
  split at h <;> first | exact ⟨_, _, h⟩ | cases h
theorem lam_i6 {x : Option FieldType} {f : String → Option α} (h : Jvm.Lambda.shapeOf?.match_6 (fun _ => Option α) x f (fun _ => none) = some r) : ∃ a, f a = some r := by
  split at h <;> first | exact ⟨_, h⟩ | cases h
end LINV
/-- what a site says of its call's descriptor -/
theorem lam_site {cf : ClassFile} {index : Nat} {σ : Jvm.Lambda.Shape} (h : Jvm.Lambda.shapeOf? cf index = some σ) :
    ∃ (b nt : Nat) (name desc : String) (site : MethodDescriptor), cf.constantPool[index]? = some (.invokeDynamic b nt) ∧ cf.constantPool.nameAndType? nt = some (name, desc) ∧ parseMethodDescriptor desc = some site ∧ site.parameters = σ.captured := by
  unfold Jvm.Lambda.shapeOf? at h
  obtain ⟨b, nt, hc, h⟩ := lam_i1 h
  obtain ⟨_, -, h⟩ := Option.bind_eq_some_iff.mp h
  obtain ⟨_, -, h⟩ := Option.bind_eq_some_iff.mp h
  obtain ⟨_, h⟩ := lam_i2 h
  obtain ⟨_, -, h⟩ := Option.bind_eq_some_iff.mp h
  obtain ⟨_, _, _, h⟩ := lam_i3 h
  obtain ⟨_, h⟩ := lam_i4 h
  obtain ⟨_, _, h⟩ := lam_i5 h
  obtain ⟨_, h⟩ := lam_i4 h
  obtain ⟨nd, hnt, h⟩ := Option.bind_eq_some_iff.mp h
  obtain ⟨site, hsite, h⟩ := Option.bind_eq_some_iff.mp h
  obtain ⟨_, h⟩ := lam_i6 h
  obtain ⟨_, -, h⟩ := Option.bind_eq_some_iff.mp h
  obtain ⟨_, -, h⟩ := Option.bind_eq_some_iff.mp h
  obtain ⟨_, -, h⟩ := Option.bind_eq_some_iff.mp h
  obtain ⟨_, -, h⟩ := Option.bind_eq_some_iff.mp h
  obtain ⟨_, -, h⟩ := Option.bind_eq_some_iff.mp h
  obtain ⟨_, -, h⟩ := Option.bind_eq_some_iff.mp h
  cases h
  exact ⟨b, nt, nd.1, nd.2, site, hc, hnt, hsite, rfl⟩
/-- the lambdas' classes of the start -/
def lamAt (E : jE) : Prop := ∀ (i : Nat) (t : lam_S), lamT[i]? = some t → (∃ one, E.1.lambdaAt? t.1 t.2.1 t.2.2.1 t.2.2.2 = some (E.2.1.1 (18 + i), one) ∧ (t.2.2.2.captured = [] → one = some (E.2.2 (400 + i)))) ∧ ∀ k, E.2.1.2 (18 + i) k = k
abbrev lamW (s : State) (t : lam_S) (c a : Nat) (m : MethodId) (k : Class) (cf : ClassFile) (i0 p0 : Nat) (l : Linked) : Prop :=
  s.methodNamed? t.1 = some m ∧ s.vm.classes[m.cls]? = some k ∧ k.cf = some cf ∧ Jvm.Lambda.shapeOf? cf t.2.2.1 = some t.2.2.2 ∧ (k.callSites.find? fun y => y.1 == m.idx && y.2.1 == t.2.1) = some (i0, p0, l)
  ∧ Jvm.Lambda.isMade { classPath := fun _ => none } s.vm m.cls t.2.2.2 c = true ∧ s.lambdaCallable t.2.2.2 c = true ∧ (t.2.2.2.captured = [] → l = .constant a) ∧ (t.2.2.2.captured ≠ [] → l = .makes c)
theorem lam_facts {E : jE} (h : lamAt E) {s : State} (hG : jG E.1 s) {i : Nat} {t : lam_S} (ht : lamT[i]? = some t) : ∃ m k cf i0 p0 l, lamW s t (E.2.1.1 (18 + i)) (E.2.2 (400 + i)) m k cf i0 p0 l := by
  obtain ⟨⟨one, h1, h2⟩, -⟩ := h i t ht
  obtain ⟨m, kc, cf, i0, p0, l, hm, hk, hcf, hsh, hin, hfind, hmade, hcall, hl⟩ := State.lambdaAt?_spec h1
  have hA := hG.1.alike
  obtain ⟨kc', hk', he⟩ := hA.2.2 _ _ hk
  refine ⟨m, kc', cf, i0, p0, l, ?_, hk', by rw [he]; exact hcf, hsh, by rw [he]; exact hfind, Jvm.Lambda.isMade_warmer hG.1 hmade, ?_, fun hc => ?_, fun hc => ?_⟩
  · have := State.methodNamed?_setVm (s := E.1) hA t.1
    rw [hm] at this
    exact this
  · simp only [State.lambdaCallable, hA.findClass, hA.assignable, hA.superclasses, hA.declaredIn] at hcall ⊢
    exact hcall
  · rcases hl with ⟨a, cell, rfl, e1, -⟩ | ⟨-, -, hc2⟩
    · rw [h2 hc] at e1
      cases e1
      rfl
    · exact absurd hc hc2
  · rcases hl with ⟨a, cell, -, -, hc2, -⟩ | ⟨rfl, -, -⟩
    · exact absurd hc2 hc
    · rfl
/-- a constant one's cell -/
theorem lam_const {E : jE} (h : lamAt E) {i : Nat} {t : lam_S} (ht : lamT[i]? = some t) (hc : t.2.2.2.captured = []) {r : vw_C} (hr : vwClX[18 + i]? = some r) (hr0 : r.2.2 = 0) : zS E (E.2.2 (400 + i), .inr (18 + i, [])) := by
  obtain ⟨⟨one, h1, h2⟩, -⟩ := h i t ht
  obtain ⟨m, kc, cf, i0, p0, l, hm, hk, hcf, hsh, hin, hfind, hmade, hcall, hl⟩ := State.lambdaAt?_spec h1
  rcases hl with ⟨a, cell, -, e1, -, hcell, hcls, hvm, -⟩ | ⟨-, -, hc2⟩
  · rw [h2 hc] at e1
    cases e1
    exact ⟨r, hr, cell, hcell, hcls, hvm, fun k hk => by rw [hr0] at hk; exact absurd hk (Nat.not_lt_zero _)⟩
  · exact absurd hc hc2
/-- Object has no fields -/
theorem lam_O {args : Array Value} {s : State} (hts : ∀ w ∈ lw_all, w.before args s = true) : ∀ o ok, s.vm.findClass "java/lang/Object" = some o → s.vm.classes[o]? = some ok → ok.instanceTypes.size = 0 := by
  intro o ok h1 h2
  obtain ⟨c, k, g1, g2, -, -, -, g3⟩ := Cond.instantiable_spec (hts _ q3272)
  cases h1.symm.trans g1
  cases h2.symm.trans g2
  exact g3
theorem and_t {a b : Bool} : (a && b) = true ↔ a = true ∧ b = true := Bool.and_eq_true_iff
/-- the class that a site makes -/
theorem lam_made {t : lam_S} {u : lam_U} (hchk : lamChk t u = true) {e : Setting} {vm : Vm} {d c : ClassId} {dk : Class} (hd : vm.classes[d]? = some dk) (hname : dk.name = t.1.cls) (h : Jvm.Lambda.isMade e vm d t.2.2.2 c = true)
    (hO : ∀ o ok, vm.findClass "java/lang/Object" = some o → vm.classes[o]? = some ok → ok.instanceTypes.size = 0) :
    ∃ (k tk : Class) (file : ClassFile) (methk : Method) (ck : Code) (toy : ClassId) (tg : MethodId) (nt : Nat),
      vm.classes[c]? = some k ∧ k.name = t.1.cls ++ "$$Lambda" ∧ k.cf = some file ∧ k.instanceTypes = t.2.2.2.captured.toArray ∧ k.kind = .ordinary ∧
      vm.method? ⟨c, 1⟩ = some methk ∧ methk.code = some ck ∧ ck.code = u.1 ∧ ck.maxLocals = 2 ∧ methk.locks = false ∧ methk.accessFlags = 0x0001 ∧ methk.sig.returnType = some .boolean ∧
      vm.findClass t.2.2.2.implClass = some toy ∧ vm.classes[toy]? = some tk ∧ tk.isInterface = false ∧ ((methodIn toy t.2.2.2.implName t.2.2.2.implDesc.toString tk.isInterface none).ask e vm).1 = .ok tg ∧
      file.constantPool[u.2.1]? = some (.methodref u.2.2.1 nt) ∧ file.constantPool.nameAndType? nt = some (t.2.2.2.implName, t.2.2.2.implDesc.toString) ∧ vm.methodReady c u.2.1 tg ∧ vm.classReady c u.2.2.1 toy ∧
      (∀ i, i < u.2.2.2.length → ∃ f : Field, vm.fieldReady c (u.2.2.2.getD i 0) c f ∧ f.isStatic = false ∧ f.slot = i) := by
  unfold lamChk at hchk
  simp only [and_t, decide_eq_true_eq, Prod.mk.injEq] at hchk
  obtain ⟨⟨⟨⟨⟨⟨⟨⟨⟨⟨⟨c1, c2⟩, c3⟩, c4⟩, c5⟩, c6⟩, c7⟩, c8⟩, c9⟩, c10⟩, c11⟩, c12⟩ := hchk
  obtain ⟨dk', k, ok, tk, file, cf, object, iface, toy, lay, methods, target, found, hd', hk, hfile, hcf, hobj, -, hok, hlay, hms, ht, htk, hg, -, hrec, -, -, -, hitf, hpool, hmeth, hfields, hty, hres, -⟩ := Jvm.Lambda.isMade_spec h
  cases hd.symm.trans hd'
  have eD : cf = lamD t := by
    unfold lamD
    rw [hname] at hcf
    rw [hcf]
    rfl
  subst eD
  have eL : lay = lamL (lamD t) := by
    rw [hO object ok hobj hok] at hlay
    unfold lamL
    rw [hlay]
    rfl
  subst eL
  have hok0 : ok.instanceTypes = #[] := Array.eq_empty_of_size_eq_zero (hO object ok hobj hok)
  have eF : methods[1]? = some (lamF (lamD t)) := by
    unfold lamF
    rw [hms] at c2 ⊢
    obtain ⟨x, hx⟩ := Option.isSome_iff_exists.mp c2
    rw [hx]
    exact hx
  obtain ⟨b, hb, hsame⟩ := hmeth 1 _ eF
  obtain ⟨s1, s2, s3, s4, x, y, s5, s6, s7, s8, s9, s10⟩ := Jvm.Lambda.sameMethod_spec hsame
  rw [s5] at c4
  simp only [Option.map_some, Option.some.injEq, Prod.mk.injEq] at c4
  unfold lamMth at c6
  split at c6
  · rename_i cc nt hM
    simp only [and_t, decide_eq_true_eq] at c6
    obtain ⟨⟨⟨rfl, d2⟩, d3⟩, d4⟩ := c6
    split at d4
    · rename_i n hC
      simp only [and_t, decide_eq_true_eq] at d4
      refine ⟨k, tk, file, b, y, toy, target, nt, hk, by rw [hrec.1, hname], hfile, by rw [hty.1, hok0, c8]; simp, hrec.2.1, by simp [Vm.method?, hk, hb], s6, by rw [s9]; exact ByteArray.ext c4.1, by rw [s8]; exact c4.2, ?_, by rw [s4]; exact c5.1, by rw [s3]; exact c5.2, ht, htk, by rw [hitf]; exact c11, hg,
        by rw [hpool.2.1]; exact hM, by rw [hpool.2.1]; exact d3, ⟨k, hk, hres _ _ (Jvm.Lambda.resolvedOf_method hM d2 ht htk d3 hg)⟩, ⟨k, hk, hres _ _ (Jvm.Lambda.resolvedOf_class hC d4.2 d4.1 ht)⟩, fun i hi => ?_⟩
      · have h4 : b.accessFlags = 1 := by rw [s4]; exact c5.1
        simp [Method.locks, Method.isSynchronized, h4, hasFlag, Acc.synchronized]
      · have hF := List.all_eq_true.mp c7 i (List.mem_range.mpr hi)
        unfold lamFld at hF
        split at hF
        · rename_i nt2 hf1
          split at hF
          · rename_i n2 d2' hnt2
            simp only [and_t, decide_eq_true_eq] at hF
            obtain ⟨g, hg0, hp0⟩ := Option.map_eq_some_iff.mp hF.2
            simp only [Prod.mk.injEq] at hp0
            exact ⟨g, ⟨k, i, k, hk, hres _ _ (Jvm.Lambda.resolvedOf_field hf1 hnt2 hF.1), hk, hfields i _ hg0⟩, hp0.1, hp0.2⟩
          · cases hF
        · cases hF
    · cases d4
  · cases c6
/-! ### making one -/
def jKm : jK → MethodName → Prop
  | (p, l, e, R, s, m, args, below, meth, c, A, Q), y => s.methodNamed? y = some m
theorem j_startM {l : Launch} {E : jE} {y : MethodName} {b : ByteArray} {L : Nat} {ret : Option FieldType} {fr lo mc ms : Nat} {as : List Value} {P : Heap → Prop} {Fr : Nat → Prop} {Post : Option Value → Heap → Prop} {own : String} {vs : List (Option Value)}
    (hs : l.stackTraces = false) (hy : plainName y.cls = true) (ho : y.cls = own) (hv : jv 0 vs = lv_args 0 as) (hn : vs.length = L) (hg : (lg_sl as).length ≤ L) (hF : ∀ H0, P H0 → ∀ q, Fr q → E.1.heap.size ≤ q)
    (body : ∀ (K : jK) (H0 : Heap), P H0 → jOK E K b own ({ frames := fr, cells := mc, slots := ms, locals := lo } : Room) → jEnd K ret mc ms Post → jKl K = l → (jKs K).heap = H0 → jKn K = y.name → jKm K y → (∀ q, jKA K q ↔ Fr q ∨ H0.size ≤ q) → jW K (fun X => X = H0) 0 0 0 vs []) : jC l E y b L ret fr lo mc ms as P Fr Post := by
  intro H0 hP0
  refine Met.ofW (cc := b) (maxL := L) (ret := ret) hy rfl ?_
  intro p e s m args below meth c s₁ B hml hvv
  obtain ⟨rfl, hsz, hG⟩ := hvv
  have hts := atoms_spec (ws := ws_ y b L ret) B.pre
  have hts : ∀ w ∈ lw_all, w.before as.toArray s = true := fun w h => hts w (List.mem_cons_of_mem _ h)
  have hown : s.vm.findClass own = some m.cls := by rw [← ho]; exact findClass_of_methodNamed B.named
  rw [lg_entry_eq]
  have hl := lv_entry as (n := L) hg
  have k := body (p, l, e, _, s, m, as.toArray, below, meth, c, jA Fr H0, MQ below (fun _ st o t => (∃ r, o = .returned r ∧ Post r t.heap) ∧ va_F (jA Fr H0) st t) as.toArray s mc ms (jA Fr H0)) H0 hP0
    ⟨B.exec, B.bytes, hown, hts, fun q h => Or.inr (by rw [← hsz]; exact h), hG, fun q h z => by
      rcases z with z | z
      · exact absurd (hF H0 hP0 q z) (by omega)
      · have := hG.2.1
        rw [hsz] at this
        omega, B.notSynchronized, rfl, hs⟩ ⟨B.returns, rfl⟩ rfl hsz (name_of_methodNamed B.named B.method).1 B.named (fun q => Iff.rfl)
  exact k s.heap [] _ hsz va_S.rf (by rw [hml, hv]; exact hl) (hn.trans hml.symm)
theorem f_startM {l : Launch} {E : jE} {y : MethodName} {b : ByteArray} {L : Nat} {ret : Option FieldType} {fr lo mc ms : Nat} {as : List Value} {z : jZ} {W : List va_W} {post : Option Value → jZ → List va_W → Prop} {own : String} {vs : List (Option Value)}
    (hs : l.stackTraces = false) (hy : plainName y.cls = true) (ho : y.cls = own) (hv : jv 0 vs = lv_args 0 as) (hn : vs.length = L) (hg : (lg_sl as).length ≤ L)
    (body : ∀ (K : jK) (H0 : Heap), jOK E K b own ({ frames := fr, cells := mc, slots := ms, locals := lo } : Room) → jEnd K ret mc ms (fPost E H0 z W post) → jKl K = l → jKn K = y.name → jKm K y → (∀ q, jKA K q ↔ wAd W q ∨ H0.size ≤ q) → jW K (fO K E z z W) 0 0 0 vs []) : fC l E y b L ret fr lo mc ms as z W post := by
  intro H0 h0
  refine j_startM hs hy ho hv hn hg (fun X hX q hq => (h0.wAd_ge hq).1) ?_
  intro K H1 hP hk he hl hH hI hM hA
  subst hP
  refine j_P (P2 := fO K E z z W) (fun H h => ?_) (body K H1 hk he hl hI hM hA)
  subst h
  refine ⟨⟨fun i w hi => ?_, h0.2.1, h0.2.2⟩, zLe.rf, fun x hx => Or.inl hx⟩
  have := h0.1 i w hi
  exact ⟨fun x hx => ⟨(this.1 x hx).1, (hA x.1).mpr (Or.inl ⟨w, List.mem_of_getElem? hi, x, hx, rfl⟩), (this.1 x hx).2.2⟩, this.2⟩
/-- values that fit their types as they are -/
def lamFit : List FieldType → List Value → Prop
  | [], [] => True
  | t :: ts, v :: vs => narrow t v = v ∧ fits t v = true ∧ lamFit ts vs
  | _, _ => False
theorem lamFit.len {ts : List FieldType} {vs : List Value} (h : lamFit ts vs) : vs.length = ts.length := by
  induction ts generalizing vs with
  | nil => cases vs with
    | nil => rfl
    | cons v vs => exact h.elim
  | cons t ts ih => cases vs with
    | nil => exact h.elim
    | cons v vs => simp [ih h.2.2]
theorem lamFit.zip {ts : List FieldType} {vs : List Value} (h : lamFit ts vs) : ((ts.zip vs).map fun (t, v) => narrow t v) = vs := by
  induction ts generalizing vs with
  | nil => cases vs with
    | nil => rfl
    | cons v vs => exact h.elim
  | cons t ts ih => cases vs with
    | nil => exact h.elim
    | cons v vs =>
      show narrow t v :: _ = _
      rw [h.1]
      exact congrArg _ (ih h.2.2)
theorem lamFit.at {ts : List FieldType} {vs : List Value} (h : lamFit ts vs) {i : Nat} {v : Value} (hv : vs[i]? = some v) : ∃ t, ts[i]? = some t ∧ fits t v = true := by
  induction ts generalizing vs i with
  | nil => cases vs with
    | nil => simp at hv
    | cons v vs => exact h.elim
  | cons t ts ih => cases vs with
    | nil => exact h.elim
    | cons w vs =>
      cases i with
      | zero =>
        simp at hv
        subst hv
        exact ⟨t, rfl, h.2.1⟩
      | succ i =>
        obtain ⟨t2, h1, h2⟩ := ih h.2.2 (i := i) (by simpa using hv)
        exact ⟨t2, by simpa using h1, h2⟩
section LROW
variable {l : Launch} {E : jE} {K : jK} {cc : ByteArray} {own : String} {Rf Rc Rs Rl : Nat} {z0 z : jZ} {Ws : List va_W} {cells slots pc : Nat} {vs : List (Option Value)} {st : List Value}
theorem f_indy (hL : lamAt E) (hk : jOK E K cc own ({ frames := Rf, cells := Rc, slots := Rs, locals := Rl } : Room)) (i : Nat) {t : lam_S} {u : lam_U} (ht : lamT[i]? = some t) (hu : lamU[i]? = some u) (hm : jKm K t.1) {vals rest : List Value} {N : Nat} (hN : vwClX[18 + i]? = some ("", TX1, N)) (hcap : t.2.2.2.captured.length = N) (hne : t.2.2.2.captured ≠ []) (hfit : lamFit t.2.2.2.captured vals)
    (hcat : ((vals.reverse ++ rest).map fun v => v.category).sum ≤ 20) (hRl : 3092 ≤ Rl) (hcell : cells + 1 ≤ Rc ∧ slots + N ≤ Rs) (hst : st = vals.reverse ++ rest) (hpc : pc = t.2.1) (d : decode cc pc = .ok (.invokedynamic t.2.2.1, 5))
    (kk : ∀ q, jW K (fO K E z0 z ([(q, .inr (18 + i, vals))] :: Ws)) (cells + 1) (slots + N) (pc + 5) vs (.ref q :: rest)) : jW K (fO K E z0 z Ws) cells slots pc vs st := by
  obtain ⟨p, l, e, R, s, m, args, below, meth, c, A, Q⟩ := K
  intro H locs ls hP hS hl hz
  obtain ⟨hx, hb, hown, hts, hA, hG, hA0, hlk, rfl, htr⟩ := hk
  subst hst; subst hpc
  obtain ⟨m', k, cf, i0, p0, lk, g1, g2, g3, g4, g5, g6, g7, -, g9⟩ := lam_facts hL hG ht
  have hm : s.methodNamed? t.1 = some m := hm
  cases hm.symm.trans g1
  obtain ⟨kD, hkD, hnm⟩ := className_of_methodNamed hm
  cases g2.symm.trans hkD
  obtain ⟨kc, tk, file, methk, ck, toy, tg, nt2, m1, m2, m3, m4, m5, -⟩ := lam_made (lamC i t u ht hu) g2 hnm g6 (lam_O hts)
  obtain ⟨b, nt, name, desc, site, s1, s2, s3, s4⟩ := lam_site g4
  have hz1 := hfit.zip
  have eL : ((kc.instanceTypes.toList.zip vals).map fun (t, v) => narrow t v) = vals := by rw [m4]; exact hz1
  have hvl : vals.length = N := hfit.len.trans hcap
  rw [g9 hne] at g5
  intro T hT X
  subst hT
  have hw : e.platform.lambdaLinkWords = 3072 := by rw [X.admits.platform]
  obtain ⟨X', st'⟩ := X.lambdaMakes hx (g := F0 m t.2.1 ls (vals.reverse ++ rest)) rfl hl.1 (by rw [hb]; exact d) g2 g5 g3 s1 s2 (parseLong_of_parse s3) (by rw [s4]; exact hfit.len) rfl m1
    (by show 2 * 0 + ((vals.reverse ++ rest).map fun v => v.category).sum + e.platform.lambdaLinkWords ≤ Rl; rw [hw]; omega) (by show cells + 1 ≤ Rc; omega) (by rw [eL, hvl]; exact hcell.2)
    (fun j v hj => by
      rw [eL] at hj
      have hj2 : vals[j]? = some v := by simpa using hj
      obtain ⟨ty, q1, q2⟩ := hfit.at hj2
      unfold State.fitsSlot State.slotType?
      simp only [m1, m5, m4, Option.bind_eq_bind, Option.bind_some]
      rw [show t.2.2.2.captured.toArray[j]? = some ty by simpa using q1]
      exact q2)
  rw [eL] at X' st'
  have o1 : ∀ q : Nat, q < T.heap.size → (T.heap.push ({ cls := E.2.1.1 (18 + i), slots := vals.toArray, vm := .none } : Cell))[q]? = T.heap[q]? := fun q hq => Array.getElem?_push_lt hq |>.trans (Array.getElem?_eq_getElem hq).symm
  have hnew := hP.1.new (e := .inr (18 + i, vals)) (hA _ hS.1) (H1 := T.heap.push ({ cls := E.2.1.1 (18 + i), slots := vals.toArray, vm := .none } : Cell))
    ⟨_, hN, _, Array.getElem?_push_size, rfl, rfl, fun k hk => by
      rw [(hL i t ht).2 k]
      have hk : k < vals.length := by rw [hvl]; exact hk
      show vals.toArray[k]? = some (vals.getD k .null)
      rw [List.getElem?_toArray, List.getD_eq_getElem?_getD, List.getElem?_eq_getElem hk]
      rfl⟩ o1
  obtain ⟨t2, a1, b1⟩ := kk T.heap.size (T.heap.push ({ cls := E.2.1.1 (18 + i), slots := vals.toArray, vm := .none } : Cell)) locs ls ⟨hnew, hP.2⟩ ⟨Nat.le_trans hS.1 (by simp), fun q h1 h2 => (o1 q (Nat.lt_of_lt_of_le h1 hS.1)).trans (hS.2.1 q h1 h2), hS.2.2⟩ hl hz _ rfl (by rw [← hvl]; simpa using X')
  exact ⟨t2, st' t2 a1, b1⟩
end LROW
/-! ### the test's own code -/
section FWD
variable {p : Program} {l : Launch} {e : Env} {R : Room} {s : State} {m : MethodId} {args : Array Value} {below : List Frame} {meth : Method} {c : Code} {H : Heap} {locs : List Loc} {cells slots : Nat} {Q : State → Prop} {cc : ByteArray}
theorem fw_get1 (hexec : p.tables.exec = Jvm.exec) (hb : c.code = cc) {pc ta idx j : Nat} {ls : Array Slot} {rest : List Value} {v : Value} {cell : Cell} (hcell : H[ta]? = some cell) (hkn : cell.vm = .none) (hf : ∀ U : State, s.WarmedH U.vm → ∃ f : Field, U.vm.fieldReady m.cls idx m.cls f ∧ f.isStatic = false ∧ f.slot = j) (hsl : cell.slots[j]? = some v) (d : decode cc pc = .ok (.getfield idx, 3))
    (kk : W p l e R s m args below meth c H locs cells slots Q (F0 m (pc + 3) ls (v :: rest))) : W p l e R s m args below meth c H locs cells slots Q (F0 m pc ls (.ref ta :: rest)) := by
  intro T hT X
  obtain ⟨t2, a1, b1⟩ := kk T hT X
  refine ⟨t2, ?_, b1⟩
  obtain ⟨f, f1, f2, f3⟩ := hf T X.warmed
  jvm_step X.here [hexec, hb, d, getfield.wp_ready (e := e) (s := T) (c := m.cls) (field := f) (a := ta) (rest := rest) (cell := cell) (v := v) (f := F0 m pc ls (.ref ta :: rest)) X.here.top f1 f2 rfl (by rw [hT]; exact hcell) (by rw [hkn]; decide) (by rw [f3]; exact hsl)]
  exact a1
theorem fw_gets (hexec : p.tables.exec = Jvm.exec) (hb : c.code = cc) {ta : Nat} {ls : Array Slot} (h0 : ls[0]? = some (.val (.ref ta))) {vals : List Value} {ixs : List Nat} {cell : Cell} (hcell : H[ta]? = some cell) (hkn : cell.vm = .none) (hsl : ∀ j, j < vals.length → cell.slots[j]? = vals[j]?)
    (hf : ∀ U : State, s.WarmedH U.vm → ∀ j, j < vals.length → ∃ f : Field, U.vm.fieldReady m.cls (ixs.getD j 0) m.cls f ∧ f.isStatic = false ∧ f.slot = j) (hd : ∀ j, j < vals.length → decode cc (4 * j) = .ok (.aload_n 0, 1) ∧ decode cc (4 * j + 1) = .ok (.getfield (ixs.getD j 0), 3))
    (kk : W p l e R s m args below meth c H locs cells slots Q (F0 m (4 * vals.length) ls vals.reverse)) : ∀ k j, j + k = vals.length → W p l e R s m args below meth c H locs cells slots Q (F0 m (4 * j) ls (vals.take j).reverse) := by
  intro k
  induction k with
  | zero =>
    intro j hj
    rw [Nat.add_zero] at hj
    subst hj
    rw [List.take_length]
    exact kk
  | succ k ih =>
    intro j hj
    have hjl : j < vals.length := by omega
    obtain ⟨d0, d1⟩ := hd j hjl
    refine lv_aload_n hexec hb d0 (i := 0) rfl h0 ?_
    refine fw_get1 hexec hb hcell hkn (fun U hU => hf U hU j hjl) (v := vals[j]) (by rw [hsl j hjl, List.getElem?_eq_getElem hjl]) d1 ?_
    have := ih (j + 1) (by omega)
    rw [List.take_add_one, List.getElem?_eq_getElem hjl] at this
    simp only [Option.toList_some, List.reverse_append, List.reverse_cons, List.reverse_nil, List.nil_append, List.singleton_append] at this
    exact this
/-- the test's code: the captured values, the argument, the call, the answer -/
theorem fw_body {E : jE} (hexec : p.tables.exec = Jvm.exec) (hb : c.code = cc) (hlk : meth.locks = false) (hret : meth.sig.returnType = some .boolean) (hH : s.heap = H) {ta b : Nat} {vals : List Value} {ixs : List Nat} {kind iM : Nat} {cell : Cell} (hcell : H[ta]? = some cell) (hkn : cell.vm = .none) (hsl : ∀ j, j < vals.length → cell.slots[j]? = vals[j]?)
    (hf : ∀ U : State, s.WarmedH U.vm → ∀ j, j < vals.length → ∃ f : Field, U.vm.fieldReady m.cls (ixs.getD j 0) m.cls f ∧ f.isStatic = false ∧ f.slot = j) (hdec : lamDec cc vals.length ixs kind iM = true) {Post : Option Value → Heap → Prop} {mc ms : Nat} (hbool : ∀ r X, Post r X → ∃ x : Bool, r = some (.int (jI (jB x))))
    (hcall : va_Run p l e R s m args below meth c H [] 0 0 mc ms (F0 m (4 * vals.length + 1) #[.val (.ref ta), .val (.ref b)] (.ref b :: vals.reverse)) [] (fun st o t => (∃ r, o = .returned r ∧ Post r t.heap) ∧ va_F (jA (wAd []) H) st t) (jA (wAd []) H)) :
    W p l e R s m args below meth c H [] 0 0 (MQ below (fun _ st o t => (∃ r, o = .returned r ∧ Post r t.heap) ∧ va_F (jA (wAd []) H) st t) args s mc ms (jA (wAd []) H)) (F0 m 0 #[.val (.ref ta), .val (.ref b)] []) := by
  unfold lamDec at hdec
  simp only [and_t, decide_eq_true_eq] at hdec
  obtain ⟨⟨⟨d1, d2⟩, d3⟩, d4⟩ := hdec
  refine fw_gets hexec hb (ls := #[.val (.ref ta), .val (.ref b)]) rfl hcell hkn hsl hf (fun j hj => ?_) ?_ vals.length 0 (by omega)
  · have := List.all_eq_true.mp d1 j (List.mem_range.mpr hj)
    simp only [and_t, decide_eq_true_eq] at this
    exact this
  refine lv_aload_n hexec hb d2 (i := 1) rfl (x := b) rfl ?_
  intro T hT X
  obtain ⟨v, st₀, t, T', L, h0, X', hL, e1, e2, ⟨⟨r, hv, hp⟩, hz1, hk1⟩, st1⟩ := hcall T hT X
  cases hv
  obtain ⟨x, rfl⟩ := hbool _ _ hp
  have fin : W p l e R s m args below meth c t.heap ([] ++ L) (0 + mc) (0 + ms) (MQ below (fun _ st o t => (∃ r, o = .returned r ∧ Post r t.heap) ∧ va_F (jA (wAd []) H) st t) args s mc ms (jA (wAd []) H)) (F0 m (4 * vals.length + 4) #[.val (.ref ta), .val (.ref b)] [.int (jI (jB x))]) := by
    rw [Nat.zero_add, Nat.zero_add]
    rw [h0] at hz1 hk1
    exact W.zret (Qc := fun _ st o t => (∃ r, o = .returned r ∧ Post r t.heap) ∧ va_F (jA (wAd []) H) st t) hexec hb hret (jn_bool x) (fun t2 ht2 hW => ⟨⟨_, rfl, by rw [ht2]; exact hp⟩, ⟨by rw [ht2, hH]; exact hz1, fun q h1 h2 => by rw [ht2, hH]; rw [hH] at h1; exact hk1 q h1 h2⟩⟩) (fun q hq => hL q (by simpa using hq)) d4 hlk
  obtain ⟨t2, a1, b1⟩ := fin T' e1 X'
  exact ⟨t2, st1 t2 a1, b1⟩
/-- the call of a static method -/
theorem fw_runS (hexec : p.tables.exec = Jvm.exec) (hb : c.code = cc) {y : MethodName} {Pc : Array Value → State → Prop} {Qc : Array Value → State → Outcome → State → Prop} {mc ms : Nat} {free : Addr → Prop} (hK : Back l R p e below s args y 3 8 (PreOf R mc ms Pc) (PostOf Qc mc ms free)) {tg : MethodId} {methM : Method} {kP : Class} {index : Nat} {As : List Value} {pc : Nat} {ls : Array Slot}
    (hnamed : s.methodNamed? y = some tg) (hmeth : s.vm.method? tg = some methM) (hstatic : methM.isStatic = true) (hkP : s.vm.classes[tg.cls]? = some kP) (hinit : kP.init = .initialized) (hy : kP.name ≠ "java/lang/invoke/MethodHandle" ∧ kP.name ≠ "java/lang/invoke/VarHandle") (hlen : As.length = methM.sig.parameters.length)
    (href : ∀ U : State, s.WarmedH U.vm → plainRef U e m.cls index ∧ U.vm.methodReady m.cls index tg) (hsize : ls.size = c.maxLocals) (hdg : decode cc pc = .ok (.invokestatic index, 3)) (hPc : ∀ U : State, U.heap = H → s.WarmedH U.vm → Pc As.toArray U) (hf : cells + mc ≤ R.cells ∧ slots + ms ≤ R.slots) :
    va_Run p l e R s m args below meth c H locs cells slots mc ms (F0 m pc ls As.reverse) [] (Qc As.toArray) free := by
  intro T hT X
  obtain ⟨v, ⟨U', l2, c2, s2⟩, X', ⟨g', mk, t, L, e1, e2, hq, h1, hL, h2, h3⟩, st⟩ := hK m meth c ⟨T, locs, cells, slots⟩ (F0 m pc ls []) (.invokestatic index) tg As.toArray X rfl hsize (by rw [hb]; exact hdg) (by show 2 * 0 + 0 ≤ 8; omega) (X.named hnamed) ⟨hf.1, hf.2, hPc T hT X.warmed⟩
  dsimp only [Pt.U, Pt.locs, Pt.cells, Pt.slots] at X' e1 e2 h1 h2 h3 st
  subst h1; subst h2; subst h3
  refine ⟨v, T.calling g' mk As.toArray, t, U', L, hT, X', hL, e1, e2, hq, fun target htg => ?_⟩
  obtain ⟨r1, r2⟩ := href T X.warmed
  obtain ⟨kP', hkP', hke⟩ := X.warmed.alike.2.2 _ _ hkP
  have hpoly : signaturePolymorphic kP' methM = false := by
    have : kP'.name = kP.name := by rw [hke]
    simp [signaturePolymorphic, this, hy.1, hy.2]
  jvm_step X.here [hexec, hb, hdg, invokestatic.wp_ready (e := e) (s := T) (m := tg) (k := kP') (meth := methM) (args := As) (rest := []) (f := F0 m pc ls As.reverse) X.here.top r1 r2 hkP' (by rw [X.warmed.alike.method?]; exact hmeth) hpoly hstatic (by rw [hke]; exact hinit) hlen (by simp)]
  intro acts
  rw [doInvoke_state]
  exact st.trans htg
end FWD
section FWD2
variable {p : Program} {l : Launch} {e : Env} {R : Room} {s : State} {m : MethodId} {args : Array Value} {below : List Frame} {meth : Method} {c : Code} {H : Heap} {locs : List Loc} {cells slots : Nat} {Q : State → Prop} {cc : ByteArray}
/-- the call of a private method of an object -/
theorem fw_runV (hexec : p.tables.exec = Jvm.exec) (hb : c.code = cc) {y : MethodName} {Pc : Array Value → State → Prop} {Qc : Array Value → State → Outcome → State → Prop} {mc ms : Nat} {free : Addr → Prop} (hK : Back l R p e below s args y 3 8 (PreOf R mc ms Pc) (PostOf Qc mc ms free)) {tg : MethodId} {methM : Method} {kP : Class} {index a : Nat} {As : List Value} {pc : Nat} {ls : Array Slot} {cell : Cell}
    (hnamed : s.methodNamed? y = some tg) (hmeth : s.vm.method? tg = some methM) (hstatic : methM.isStatic = false) (habs : methM.isAbstract = false) (hpriv : methM.isPrivate = true) (hkP : s.vm.classes[tg.cls]? = some kP) (hitf : kP.isInterface = false) (hy : kP.name ≠ "java/lang/invoke/MethodHandle" ∧ kP.name ≠ "java/lang/invoke/VarHandle") (hlen : As.length = methM.sig.parameters.length) (hcell : H[a]? = some cell) (hkn : cell.vm = .none)
    (href : ∀ U : State, s.WarmedH U.vm → namesAClass U m.cls index ∧ U.vm.methodReady m.cls index tg) (hsize : ls.size = c.maxLocals) (hdg : decode cc pc = .ok (.invokevirtual index, 3)) (hPc : ∀ U : State, U.heap = H → s.WarmedH U.vm → Pc (.ref a :: As).toArray U) (hf : cells + mc ≤ R.cells ∧ slots + ms ≤ R.slots) :
    va_Run p l e R s m args below meth c H locs cells slots mc ms (F0 m pc ls (As.reverse ++ [.ref a])) [] (Qc (.ref a :: As).toArray) free := by
  intro T hT X
  obtain ⟨v, ⟨U', l2, c2, s2⟩, X', ⟨g', mk, t, L, e1, e2, hq, h1, hL, h2, h3⟩, st⟩ := hK m meth c ⟨T, locs, cells, slots⟩ (F0 m pc ls []) (.invokevirtual index) tg (.ref a :: As).toArray X rfl hsize (by rw [hb]; exact hdg) (by show 2 * 0 + 0 ≤ 8; omega) (X.named hnamed) ⟨hf.1, hf.2, hPc T hT X.warmed⟩
  dsimp only [Pt.U, Pt.locs, Pt.cells, Pt.slots] at X' e1 e2 h1 h2 h3 st
  subst h1; subst h2; subst h3
  refine ⟨v, T.calling g' mk (.ref a :: As).toArray, t, U', L, hT, X', hL, e1, e2, hq, fun target htg => ?_⟩
  obtain ⟨r1, r2⟩ := href T X.warmed
  obtain ⟨kP', hkP', hke⟩ := X.warmed.alike.2.2 _ _ hkP
  have hpoly : signaturePolymorphic kP' methM = false := by
    have : kP'.name = kP.name := by rw [hke]
    simp [signaturePolymorphic, this, hy.1, hy.2]
  have hm2 : T.vm.method? tg = some methM := by rw [X.warmed.alike.method?]; exact hmeth
  jvm_step X.here [hexec, hb, hdg, invokevirtual.wp_ready (e := e) (s := T) (r := tg) (m := tg) (k := kP') (mk := kP') (rmeth := methM) (meth := methM) (a := a) (args := As) (rest := []) (cell := cell) (f := F0 m pc ls (As.reverse ++ [.ref a])) X.here.top r1 r2 hkP' hm2 hpoly hstatic hlen rfl (by rw [hT]; exact hcell) (fun q hq => by rw [hkn] at hq; cases hq) (by simp [selectMethod, hm2, hpriv]) hm2 habs hkP' (by rw [hke]; exact hitf)]
  intro acts
  rw [doInvoke_state]
  exact st.trans htg
end FWD2
def yHolds : MethodName := ⟨"ScheduleAnalyzer$OperationTest", "holdsFor", "(LScheduleAnalyzer$Operation;)Z"⟩
/-- the interface's method -/
theorem lam_face {E : jE} (hE : jSt E) {s : State} (hG : jG E.1 s) : ∃ r0 r kL, s.methodNamed? yHolds = some r0 ∧ s.vm.method? r0 = some r ∧ r.isStatic = false ∧ r.sig.parameters.length = 1 ∧ s.vm.findClass "ScheduleAnalyzer$OperationTest" = some r0.cls ∧ s.vm.classes[r0.cls]? = some kL ∧ kL.isInterface = true ∧ ((methodIn r0.cls "holdsFor" "(LScheduleAnalyzer$Operation;)Z" true none).ask { classPath := fun _ => none } s.vm).1 = .ok r0 ∧ r.name = "holdsFor" ∧ r.desc = "(LScheduleAnalyzer$Operation;)Z" := by
  obtain ⟨b0, hw⟩ := hE.2
  have hvm := hG.1.alike
  have tr : ∀ {c : Cond}, c.onTables = true → c.before #[] (E.1.setVm s.vm) = true → c.before #[] s = true := by
    intro c hc h
    have e := Cond.onTables_vm (A := #[]) (A' := #[]) (U := E.1) (U' := s) s.vm c hc
    have hU : s.setVm s.vm = s := rfl
    rw [hU] at e
    rw [← e]
    exact h
  have h1 : (Cond.declares yHolds).before #[] E.1 = true := va_any rfl (hw _ q916)
  have h2 : (Cond.interfaceMethod "ScheduleAnalyzer$OperationTest" "ScheduleAnalyzer$OperationTest" "holdsFor" "(LScheduleAnalyzer$Operation;)Z").before #[] E.1 = true := va_any rfl (hw _ q915)
  obtain ⟨x0, x1, hn, -⟩ := Cond.declares_spec h1
  have g1 : (Cond.declares yHolds).before #[] s = true := tr rfl (by rw [Cond.declares_setVm hvm]; exact h1)
  have g2 : (Cond.interfaceMethod "ScheduleAnalyzer$OperationTest" "ScheduleAnalyzer$OperationTest" "holdsFor" "(LScheduleAnalyzer$Operation;)Z").before #[] s = true := tr rfl (by rw [Cond.interfaceMethod_setVm hvm (r := x0) hn (by decide)]; exact h2)
  obtain ⟨r0, r, hn0, hrm, hst, hsig⟩ := Cond.declares_spec g1
  obtain ⟨cL, kL, r1, hcL, hkL, hiL, hfound, hn1⟩ := Cond.interfaceMethod_spec g2
  cases hn0.symm.trans hn1
  have hr0 : r0.cls = cL := Option.some.inj ((findClass_of_methodNamed hn0).symm.trans hcL)
  subst hr0
  obtain ⟨hnr, hdr⟩ := name_of_methodNamed hn0 hrm
  refine ⟨r0, r, kL, hn0, hrm, hst, ?_, hcL, hkL, hiL, ?_, hnr, hdr⟩
  · have h5 : (parseMethodDescriptor "(LScheduleAnalyzer$Operation;)Z").map (fun d => d.parameters.length) = some 1 := by decide +kernel
    have h6 : parseMethodDescriptor "(LScheduleAnalyzer$Operation;)Z" = some r.sig := hsig
    rw [h6] at h5
    exact Option.some.inj h5
  · have h7 : s.methodFound? "ScheduleAnalyzer$OperationTest" "holdsFor" "(LScheduleAnalyzer$Operation;)Z" = some r0 := hfound
    simp only [State.methodFound?, hcL, hkL, hiL, Option.bind_eq_bind, Option.bind_some] at h7
    cases hx : ((methodIn r0.cls "holdsFor" "(LScheduleAnalyzer$Operation;)Z" true none).ask { classPath := fun _ => none } s.vm).1 with
    | error x => rw [hx] at h7; cases h7
    | ok y =>
      rw [hx] at h7
      rw [Option.some.inj h7]
/-- a test and what it answers for an operation -/
def tC (l : Launch) (E : jE) (fr lo mc ms : Nat) (z : jZ) (ta b : Nat) (r : Bool) : Prop :=
  ∃ (i : Nat) (t : lam_S) (u : lam_U) (vals : List Value) (y : MethodName) (bc : ByteArray) (L fr2 lo2 : Nat),
    lamT[i]? = some t ∧ lamU[i]? = some u ∧ vwClX[18 + i]? = some ("", TX1, vals.length) ∧ t.2.2.2.captured.length = vals.length ∧ z (ta, .inr (18 + i, vals)) ∧ y = ⟨t.2.2.2.implClass, t.2.2.2.implName, t.2.2.2.implDesc.toString⟩
    ∧ (y.cls ≠ "java/lang/invoke/MethodHandle" ∧ y.cls ≠ "java/lang/invoke/VarHandle") ∧ Cond.code y bc L (some .boolean) ∈ lw_all ∧ Cond.initialized y.cls ∈ lw_all
    ∧ ((t.2.2.2.kind ≠ 5 ∧ Cond.static y ∈ lw_all ∧ (parseMethodDescriptor y.desc).map (fun d => d.parameters.length) = some (vals.length + 1))
      ∨ (t.2.2.2.kind = 5 ∧ Cond.instanceMethod y ∈ lw_all ∧ Cond.privateMethod y ∈ lw_tbl ∧ ∃ a As ci fs, vals = .ref a :: As ∧ z (a, .inr (ci, fs)) ∧ (parseMethodDescriptor y.desc).map (fun d => d.parameters.length) = some (As.length + 1)))
    ∧ fr2 + 2 ≤ fr ∧ L + lo2 + 40 ≤ lo ∧ fC l E y bc L (some .boolean) fr2 lo2 mc ms (vals ++ [.ref b]) z [] (fun rr z2 W2 => rr = some (.int (jI (jB r))) ∧ W2 = [] ∧ z = z2)
theorem lam_sam {i : Nat} {t : lam_S} (h : lamT[i]? = some t) : t.2.2.2.iface = "ScheduleAnalyzer$OperationTest" ∧ t.2.2.2.name = "holdsFor" ∧ t.2.2.2.sam.toString = "(LScheduleAnalyzer$Operation;)Z" ∧ (t.1.cls ++ "$$Lambda" = "ScheduleAnalyzer$Schedule$$Lambda" ∨ t.1.cls ++ "$$Lambda" = "ScheduleAnalyzer$$Lambda" ∨ t.1.cls ++ "$$Lambda" = "ScheduleAnalyzer$Locking$$Lambda") := by
  have key : ∀ t ∈ lamT, t.2.2.2.iface = "ScheduleAnalyzer$OperationTest" ∧ t.2.2.2.name = "holdsFor" ∧ t.2.2.2.sam.toString = "(LScheduleAnalyzer$Operation;)Z" ∧ (t.1.cls ++ "$$Lambda" = "ScheduleAnalyzer$Schedule$$Lambda" ∨ t.1.cls ++ "$$Lambda" = "ScheduleAnalyzer$$Lambda" ∨ t.1.cls ++ "$$Lambda" = "ScheduleAnalyzer$Locking$$Lambda") := by decide +kernel
  exact key t (List.mem_of_getElem? h)
theorem stW {tb : Tables} {e : Env} {mid below : List Frame} {a b : State} (h : Steps tb e (mid ++ below) a b) : Steps tb e below a b := by
  obtain ⟨n, hn, w⟩ := h
  exact ⟨n, hn, fun k hk => (w k hk).weaken⟩
theorem lam_chk2 {t : lam_S} {u : lam_U} (h : lamChk t u = true) : u.2.2.2.length = t.2.2.2.captured.length ∧ lamDec u.1 u.2.2.2.length u.2.2.2 t.2.2.2.kind u.2.1 = true := by
  unfold lamChk at h
  simp only [and_t, decide_eq_true_eq] at h
  exact ⟨h.1.1.1.2, h.1.1.2⟩
section LTEST
variable {l : Launch} {E : jE} {K : jK} {cc : ByteArray} {own : String} {Rf Rc Rs Rl : Nat} {z0 z : jZ} {Ws : List va_W} {cells slots pc : Nat} {vs : List (Option Value)} {st : List Value}
variable {p : Program} {e : Env} {s : State} {m : MethodId} {args : Array Value} {below : List Frame} {meth : Method} {c : Code} {H : Heap} {locs : List Loc}
theorem lam_run (hE : jSt E) (hL : lamAt E) (hexec : p.tables.exec = Jvm.exec) (hb : c.code = cc) (hown : s.vm.findClass "ScheduleAnalyzer" = some m.cls) (hts : ∀ w ∈ lw_all, w.before args s = true) (hG : jG E.1 s) {i : Nat} {t : lam_S} {u : lam_U} {vals : List Value} {y : MethodName} {bc : ByteArray} {L fr2 lo2 mc ms ta b : Nat} {Post : Option Value → Heap → Prop} {rest : List Value} {ls : Array Slot} {cnt : Nat}
    (ht : lamT[i]? = some t) (hu : lamU[i]? = some u) (hN : vwClX[18 + i]? = some ("", TX1, vals.length)) (hcap : t.2.2.2.captured.length = vals.length) (hat : va_at E.2.1 vwClX (ta, .inr (18 + i, vals)) H) (hy : y = ⟨t.2.2.2.implClass, t.2.2.2.implName, t.2.2.2.implDesc.toString⟩) (hyn : y.cls ≠ "java/lang/invoke/MethodHandle" ∧ y.cls ≠ "java/lang/invoke/VarHandle") (hcode : Cond.code y bc L (some .boolean) ∈ lw_all) (hini : Cond.initialized y.cls ∈ lw_all)
    (hkind : (t.2.2.2.kind ≠ 5 ∧ Cond.static y ∈ lw_all ∧ (parseMethodDescriptor y.desc).map (fun d => d.parameters.length) = some (vals.length + 1)) ∨ (t.2.2.2.kind = 5 ∧ Cond.instanceMethod y ∈ lw_all ∧ Cond.privateMethod y ∈ lw_tbl ∧ ∃ a As ci fs, vals = .ref a :: As ∧ va_at E.2.1 vwClX (a, .inr (ci, fs)) H ∧ (parseMethodDescriptor y.desc).map (fun d => d.parameters.length) = some (As.length + 1)))
    (hfr : fr2 + 2 ≤ Rf) (hlo : L + lo2 + 40 ≤ Rl) (hC : Met l y (ws_ y bc L (some .boolean)) ({ frames := fr2, cells := mc, slots := ms, locals := lo2 } : Room) (va_Pc (vals ++ [.ref b]) (fun U => U.heap = H ∧ jG E.1 U)) (fun _ st o t => (∃ r, o = .returned r ∧ Post r t.heap) ∧ va_F (jA (wAd []) H) st t) mc ms (jA (wAd []) H)) (hbool : ∀ r X, Post r X → ∃ x : Bool, r = some (.int (jI (jB x))))
    (hGT : ∀ U : State, U.heap = H → s.WarmedH U.vm → jG E.1 U) (hsize : ls.size = c.maxLocals) (hcat : (rest.map fun v => v.category).sum ≤ 8) (d : decode cc pc = .ok (.invokeinterface 75 cnt, 5)) (hcell : cells + mc ≤ Rc ∧ slots + ms ≤ Rs) :
    va_Run5 p l e ({ frames := Rf, cells := Rc, slots := Rs, locals := Rl } : Room) s m args below meth c H locs cells slots mc ms (F0 m pc ls (.ref b :: .ref ta :: rest)) rest (fun st o t => (∃ r, o = .returned r ∧ Post r t.heap) ∧ va_F (jA (wAd []) H) st t) (jA (wAd []) H) := by
  intro T hT X
  obtain ⟨rN, hrN, cell, q1, q2, q3, q4⟩ := hat
  cases hN.symm.trans hrN
  obtain ⟨mD, kD, cfD, i0, p0, lk, g1, g2, g3, g4, g5, g6, g7, -, -⟩ := lam_facts hL hG ht
  obtain ⟨kD2, hkD2, hnm⟩ := className_of_methodNamed g1
  cases g2.symm.trans hkD2
  obtain ⟨si, sn, sd, sL⟩ := lam_sam ht
  obtain ⟨r0, r, kL, f1, f2, f3, f4, f5, f6, f7, f8, f9, f10⟩ := lam_face hE hG
  obtain ⟨dk', kK, ok, tk, file, cf, object, iface, toy, lay, methods, target, found, -, hkK, -, -, -, hifc, -, -, -, -, -, -, hfnd, -, -, -, -, -, -, -, -, -, -, hsel⟩ := Jvm.Lambda.isMade_spec g6
  rw [si] at hifc
  cases f5.symm.trans hifc
  rw [sn, sd] at hfnd
  cases Except.ok.inj (f8.symm.trans hfnd)
  obtain ⟨kK2, tkx, filex, methk, ckx, toyx, tgx, ntx, n1, -, -, -, -, n6, n7, n8, n9, n10, n11, n12, -⟩ := lam_made (lamC i t u ht hu) g2 hnm g6 (lam_O hts)
  obtain ⟨i2, hi2, hasg, hway⟩ := State.lambdaCallable_spec g7
  rw [si] at hi2
  cases f5.symm.trans hi2
  rw [sn, sd] at hway
  obtain ⟨vm₁, X₁, hstep₁⟩ := X.invokeinterface hexec hown (hts _ q914) f1 f2 f3 f6 f7 (by decide) (a := ta) (cell := cell) (kcell := kK) (by rw [hT]; exact q1) (fun z h => by rw [q3] at h; cases h) (by rw [q2]; exact hkK) (by rw [q2]; exact hasg)
    (m' := ⟨E.2.1.1 (18 + i), 1⟩) (meth' := methk) (by rw [Launch.admits_selectMethod X.admits, q2]; exact hsel) n6 (by rw [f9, f10, q2]; exact hway) (by rw [n11]; decide) (by simp [Method.isAbstract, n11, hasFlag, Acc.abstract])
    (g := F0 m pc ls (.ref b :: .ref ta :: rest)) rfl (argsL := [.ref b]) (rest := rest) (by rw [f4]; rfl) rfl (by rw [hb]; exact d)
  have hW₁ : s.WarmedH vm₁ := X₁.warmed
  have tsw : ∀ w ∈ lw_all, ((w.onTables && w.keeps) = true ∨ ∃ ty, w = .arrayClass ty) → ∀ (a' : Array Value) (U : State), s.WarmedH U.vm → w.before a' U = true := fun w hw hg a' U hU => word_at hU hg (hts w hw)
  -- the target
  obtain ⟨tg, hnamed⟩ := Cond.code_named (hts _ hcode)
  obtain ⟨methM, cM, hmM, hcM, hbM, hlM, hrM, hlkM, -, hsigM⟩ := Cond.code_spec hnamed (hts _ hcode)
  obtain ⟨kP, hkP, hnP⟩ := className_of_methodNamed hnamed
  have hfy : s.vm.findClass y.cls = some tg.cls := findClass_of_methodNamed hnamed
  have hinP : kP.init = .initialized := Cond.initialized_spec hfy hkP (hts _ hini)
  have hyc : y.cls = t.2.2.2.implClass := by rw [hy]
  -- under warmer tables
  have key : ∀ vm' : Vm, s.WarmedH vm' → ∃ (k tk : Class) (file : ClassFile) (methk : Method) (ck : Code) (nt : Nat), vm'.classes[E.2.1.1 (18 + i)]? = some k ∧ k.name = t.1.cls ++ "$$Lambda" ∧ k.cf = some file ∧ vm'.method? ⟨E.2.1.1 (18 + i), 1⟩ = some methk ∧ methk.code = some ck ∧ ck.code = u.1 ∧ ck.maxLocals = 2 ∧ methk.locks = false ∧ methk.sig.returnType = some .boolean ∧
      vm'.classes[tg.cls]? = some tk ∧ tk.isInterface = false ∧ tk.name = y.cls ∧ tk.init = .initialized ∧ file.constantPool[u.2.1]? = some (.methodref u.2.2.1 nt) ∧ file.constantPool.nameAndType? nt = some (t.2.2.2.implName, t.2.2.2.implDesc.toString) ∧ vm'.methodReady (E.2.1.1 (18 + i)) u.2.1 tg ∧ vm'.classReady (E.2.1.1 (18 + i)) u.2.2.1 tg.cls ∧
      (∀ j, j < u.2.2.2.length → ∃ f : Field, vm'.fieldReady (E.2.1.1 (18 + i)) (u.2.2.2.getD j 0) (E.2.1.1 (18 + i)) f ∧ f.isStatic = false ∧ f.slot = j) := by
    intro vm' hW
    obtain ⟨kD₁, hkD₁, heD₁⟩ := hW.alike.2.2 _ _ g2
    have hO2 : ∀ o ok, vm'.findClass "java/lang/Object" = some o → vm'.classes[o]? = some ok → ok.instanceTypes.size = 0 := by
      intro o ok h1 h2
      obtain ⟨cO, kO, e1, e2, -, -, -, e3⟩ := Cond.instantiable_spec (hts _ q3272)
      rw [hW.alike.findClass] at h1
      cases h1.symm.trans e1
      obtain ⟨kO', hkO', heO⟩ := hW.alike.2.2 _ _ e2
      cases h2.symm.trans hkO'
      rw [heO]
      exact e3
    obtain ⟨k₁, tk₁, file₁, methk₁, ck₁, toy₁, tg₁, nt₁, w1, w2, w3, -, -, w6, w7, w8, w9, w10, w11, w12, w13, w14, w15, w16, w17, w18, w19, w20, w21⟩ := lam_made (lamC i t u ht hu) hkD₁ (by rw [heD₁]; exact hnm) (Jvm.Lambda.isMade_warmer hW g6) hO2
    have e1 : vm'.findClass t.2.2.2.implClass = some tg.cls := by rw [hW.alike.findClass, ← hyc]; exact hfy
    cases w13.symm.trans e1
    have htg : tg₁ = tg := by
      have h1 : (s.setVm vm').methodFound? y.cls y.name y.desc = some tg := by rw [State.methodFound?_setVm hW.alike]; exact State.methodFound?_of_named hnamed hyn
      rw [hy] at h1
      simp only [State.methodFound?, State.vm_setVm, e1, w14, Option.bind_eq_bind, Option.bind_some] at h1
      rw [w16] at h1
      exact Option.some.inj h1
    subst htg
    obtain ⟨kP', hkP', heP⟩ := hW.alike.2.2 _ _ hkP
    cases w14.symm.trans hkP'
    exact ⟨k₁, _, file₁, methk₁, ck₁, nt₁, w1, w2, w3, w6, w7, w8, w9, w10, w12, w14, w15, by rw [heP]; exact hnP, by rw [heP]; exact hinP, w17, w18, w19, w20, w21⟩
  obtain ⟨k₁, tk₁, file₁, methk₁, ck₁, nt₁, w1, w2, w3, w6, w7, w8, w9, w10, w12, w14, w15, wn, wi, w17, w18, w19, w20, w21⟩ := key vm₁ hW₁
  have hpk : (T.setVm vm₁).plainMethod ⟨E.2.1.1 (18 + i), 1⟩ := State.plainMethod.of_name (fun k' hk' => by
    cases w1.symm.trans hk'
    rw [w2]
    rcases sL with q | q | q <;> rw [q] <;> decide)
  obtain ⟨Y₀, hin⟩ := X₁.into (g := F0 m pc ls rest) rfl hsize (by rw [hb]; exact d) #[.ref ta, .ref b] (R' := { frames := fr2 + 1, cells := mc, slots := ms, locals := Rl - 21 }) w6 w7 w10 hpk
    (by show fr2 + 1 + 1 ≤ Rf; omega) (by rw [w9]; show 2 * 0 + (rest.map fun v => v.category).sum + (2 + 11) + (Rl - 21) ≤ Rl; omega) (by show cells + mc ≤ Rc; exact hcell.1) (by show slots + ms ≤ Rs; exact hcell.2)
  have hs₁ : s.WarmedH ((T.setVm vm₁).calling (F0 m pc ls rest) ⟨E.2.1.1 (18 + i), 1⟩ #[.ref ta, .ref b]).vm := hW₁
  have hvS : ((T.setVm vm₁).calling (F0 m pc ls rest) ⟨E.2.1.1 (18 + i), 1⟩ #[.ref ta, .ref b]).vm = vm₁ := rfl
  have hhS : ((T.setVm vm₁).calling (F0 m pc ls rest) ⟨E.2.1.1 (18 + i), 1⟩ #[.ref ta, .ref b]).heap = H := hT
  generalize hS' : (T.setVm vm₁).calling (F0 m pc ls rest) ⟨E.2.1.1 (18 + i), 1⟩ #[.ref ta, .ref b] = S' at Y₀ hs₁ hvS hhS
  have upW : ∀ U : State, S'.WarmedH U.vm → s.WarmedH U.vm := fun U hU => State.WarmedH.trans hs₁ hU
  have hK : Back l ({ frames := fr2 + 1, cells := mc, slots := ms, locals := Rl - 21 } : Room) p e (.java (F0 m pc ls rest) :: below) S' #[.ref ta, .ref b] y 3 8 (PreOf ({ frames := fr2 + 1, cells := mc, slots := ms, locals := Rl - 21 } : Room) mc ms (va_Pc (vals ++ [.ref b]) (fun U => U.heap = H ∧ jG E.1 U))) (PostOf (fun _ st o t => (∃ r, o = .returned r ∧ Post r t.heap) ∧ va_F (jA (wAd []) H) st t) mc ms (jA (wAd []) H)) :=
    back_of (bytes := bc) (maxL := L) (ret := some .boolean) hC jC_blind rfl rfl (Nat.le_refl _) (by show 8 + (L + 11) + lo2 ≤ Rl - 21; omega) (fun w hw a' U hU => tsw w (lw_meth hcode w hw).1 (lw_meth hcode w hw).2 a' U (upW U hU)) List.mem_cons_self (fun a' U hU => word_at (upW U hU) (Or.inl (by first | rfl | simp [Cond.onTables, Cond.keeps, Cond.steady])) (hts _ hini))
  have hnS : S'.methodNamed? y = some tg := by
    have h := State.methodNamed?_setVm (s := s) hW₁.alike y
    rw [hnamed, ← hvS] at h
    exact h
  have hmS : S'.vm.method? tg = some methM := by rw [hvS, hW₁.alike.method?]; exact hmM
  have hcS : S'.vm.classes[tg.cls]? = some tk₁ := by rw [hvS]; exact w14
  obtain ⟨hlen, hdec⟩ := lam_chk2 (lamC i t u ht hu)
  rw [hcap] at hlen
  rw [hlen] at hdec
  have hdec0 := hdec
  unfold lamDec at hdec
  simp only [and_t, decide_eq_true_eq] at hdec
  obtain ⟨⟨-, d3⟩, -⟩ := hdec
  have hsg : ∀ n, (parseMethodDescriptor y.desc).map (fun d => d.parameters.length) = some n → n = methM.sig.parameters.length := fun n h => by
    rw [hsigM] at h
    exact (Option.some.inj h).symm
  have hcall : va_Run p l e ({ frames := fr2 + 1, cells := mc, slots := ms, locals := Rl - 21 } : Room) S' ⟨E.2.1.1 (18 + i), 1⟩ #[.ref ta, .ref b] (.java (F0 m pc ls rest) :: below) methk₁ ck₁ H [] 0 0 mc ms (F0 ⟨E.2.1.1 (18 + i), 1⟩ (4 * vals.length + 1) #[.val (.ref ta), .val (.ref b)] (.ref b :: vals.reverse)) [] (fun st o t => (∃ r, o = .returned r ∧ Post r t.heap) ∧ va_F (jA (wAd []) H) st t) (jA (wAd []) H) := by
    rcases hkind with ⟨h1, h2, h3⟩ | ⟨h1, h2, h3, a, As, ci, fs, rfl, hva, h4⟩
    · rw [if_neg h1] at d3
      have hst : methM.isStatic = true := Cond.static_spec hnamed hmM (hts _ h2)
      have := fw_runS (m := ⟨E.2.1.1 (18 + i), 1⟩) (meth := methk₁) hexec w8 hK (As := vals ++ [.ref b]) (index := u.2.1) (pc := 4 * vals.length + 1) (ls := #[.val (.ref ta), .val (.ref b)]) (cells := 0) (slots := 0) (locs := []) hnS hmS hst hcS wi (by rw [wn]; exact hyn) (by rw [← hsg _ h3]; simp)
        (fun U hU => by
          obtain ⟨ku, tku, fileu, methu, cku, ntu, u1, u2, u3, -, -, -, -, -, -, u14, u15, un, -, u17, u18, u19, u20, -⟩ := key U.vm (upW U hU)
          obtain ⟨bb, hmem⟩ := memberRef_ask' (e := e) (vm := U.vm) (d := E.2.1.1 (18 + i)) (index := u.2.1) u1 u3 (Or.inl u17) u18
          have hnm2 : tku.name ≠ "java/lang/invoke/MethodHandle" ∧ tku.name ≠ "java/lang/invoke/VarHandle" := by rw [un]; exact hyn
          exact ⟨⟨u.2.2.1, _, _, bb, tg.cls, tku, hmem, u20, u14, by simp [signaturePolymorphic, hnm2.1, hnm2.2]⟩, u19⟩)
        (by rw [w9]; rfl) d3 (fun U hU hW => ⟨rfl, hU, hGT U hU (upW U hW)⟩) (by show 0 + mc ≤ mc ∧ 0 + ms ≤ ms; omega)
      simpa using this
    · rw [if_pos h1] at d3
      obtain ⟨mI, methI, i1, i2, i3, i4⟩ := Cond.instanceMethod_spec (hts _ h2)
      cases hnamed.symm.trans i1
      cases hmM.symm.trans i2
      have hpv : methM.isPrivate = true := by
        obtain ⟨b0, hw⟩ := hE.2
        have g := hw _ h3
        have hn0 := State.methodNamed?_setVm (s := E.1) hG.1.alike y
        have hn1 : s.methodNamed? y = E.1.methodNamed? y := hn0
        have : E.1.vm.method? tg = some methM := by rw [← hG.1.alike.method?]; exact hmM
        simpa [Cond.before, Cond.holds, Cond.value, ← hn1, hnamed, this] using g
      obtain ⟨rA, hrA, cellA, a1, a2, a3, a4⟩ := hva
      have := fw_runV (m := ⟨E.2.1.1 (18 + i), 1⟩) (meth := methk₁) hexec w8 hK (As := As ++ [.ref b]) (a := a) (index := u.2.1) (pc := 4 * (Value.ref a :: As).length + 1) (ls := #[.val (.ref ta), .val (.ref b)]) (cells := 0) (slots := 0) (locs := []) hnS hmS i3 i4 hpv hcS w15 (by rw [wn]; exact hyn) (by rw [← hsg _ h4]; simp) a1 a3
        (fun U hU => by
          obtain ⟨ku, tku, fileu, methu, cku, ntu, u1, u2, u3, -, -, -, -, -, -, u14, u15, un, -, u17, u18, u19, u20, -⟩ := key U.vm (upW U hU)
          exact ⟨⟨ku, fileu, u.2.2.1, ntu, tg.cls, tku, u1, u3, u17, u20, u14, u15⟩, u19⟩)
        (by rw [w9]; rfl) d3 (fun U hU hW => ⟨rfl, hU, hGT U hU (upW U hW)⟩) (by show 0 + mc ≤ mc ∧ 0 + ms ≤ ms; omega)
      simpa using this
  have hwb := fw_body (E := E) hexec w8 w10 w12 hhS (ixs := u.2.2.2) (kind := t.2.2.2.kind) (iM := u.2.1) q1 q3 (fun j hj => by
    have := q4 j hj
    rw [(hL i t ht).2 j] at this
    rw [this]
    show some (vals.getD j .null) = vals[j]?
    rw [List.getD_eq_getElem?_getD, List.getElem?_eq_getElem hj]
    rfl) (fun U hU j hj => by
    obtain ⟨ku, tku, fileu, methu, cku, ntu, -, -, -, -, -, -, -, -, -, -, -, -, -, -, -, -, -, u21⟩ := key U.vm (upW U hU)
    exact u21 j (by rw [hlen]; exact hj)) hdec0 hbool hcall
  have hloc : entryFrame (⟨E.2.1.1 (18 + i), 1⟩ : MethodId) #[.ref ta, .ref b] ck₁.maxLocals = F0 ⟨E.2.1.1 (18 + i), 1⟩ 0 #[.val (.ref ta), .val (.ref b)] [] := by rw [w9]; rfl
  obtain ⟨t2, a1, o, hrun, hended, hq, L2, ⟨⟨v, rfl⟩, hWe, hsame⟩, hfree⟩ := hwb _ (by show T.heap = H; exact hT) Y₀
  subst hS'
  obtain ⟨T', X', hW', hB, ht2⟩ := X₁.outOf (g := F0 m pc ls rest) rfl (by rw [hb]; exact d) hended hWe hsame
  refine ⟨v, _, t2, T', L2, hhS, X', hfree, by rw [ht2]; rfl, by rw [ht2]; rfl, hq, fun target htg => hstep₁ target fun acts => ?_⟩
  have := hin acts
  rw [show (Value.ref ta :: [Value.ref b]).toArray = #[Value.ref ta, Value.ref b] from rfl, this]
  have a2 := (congrArg (fun g => Steps p.tables e (.java (F0 m pc ls rest) :: below) ((((T.setVm vm₁).setTop (F0 m pc ls rest)).pushFrame (.java (entryFrame (⟨E.2.1.1 (18 + i), 1⟩ : MethodId) #[.ref ta, .ref b] ck₁.maxLocals))).setTop g) t2) hloc).mpr a1
  refine (stW (mid := [.java (F0 m pc ls rest)]) a2).trans ?_
  rw [ht2]
  exact htg
/-- a test asked -/
theorem f_test (hE : jSt E) (hL : lamAt E) (hk : jOK E K cc "ScheduleAnalyzer" ({ frames := Rf, cells := Rc, slots := Rs, locals := Rl } : Room)) (hl0 : jKl K = l) {ta b fr lo mc ms cnt : Nat} {r : Bool} {rest : List Value} (hT : tC l E fr lo mc ms z ta b r) (hroom : fr ≤ Rf ∧ lo ≤ Rl) (hcell : cells + mc ≤ Rc ∧ slots + ms ≤ Rs) (hst : st = .ref b :: .ref ta :: rest) (hcat : (rest.map fun v => v.category).sum ≤ 8)
    (d : decode cc pc = .ok (.invokeinterface 75 cnt, 5)) (kk : jW K (fO K E z0 z Ws) (cells + mc) (slots + ms) (pc + 5) vs (.int (jI (jB r)) :: rest)) : jW K (fO K E z0 z Ws) cells slots pc vs st := by
  obtain ⟨i, t, u, vals, y, bc, L, fr2, lo2, ht, hu, hN, hcap, hz, hy, hyn, hcode, hini, hkind, hfr, hlo, hC⟩ := hT
  refine j_sz (j_Pe (fun H hH => ?_))
  have hf := f_fore (Wc := []) (Wr := Ws) (jOK_lo hk) hH.1 (fun x h => Or.inl h)
  have hgo : ∀ (v : Option Value) (H1 : Heap), fPost E H z [] (fun rr z2 W2 => rr = some (.int (jI (jB r))) ∧ W2 = [] ∧ z = z2) v H1 → H.size ≤ H1.size → (∀ q : Nat, q < H.size → ¬ wAd [] q → H1[q]? = H[q]?) → jW K (fun X => X = H1) (cells + mc) (slots + ms) (pc + 5) vs (v.toList ++ rest) := fun v H1 hp hsz hq => f_go (Wc := []) (Wr := Ws) hk hH.1 hH.2 (fun x h => Or.inl h) hp hsz hq (Or.inl ⟨rfl, by
    rintro _ _ _ ⟨rfl, rfl, rfl⟩ -
    exact kk⟩)
  have hCH := hC H hf.1
  have hat := hH.1.get (fIn.z hz)
  have hkind2 : (t.2.2.2.kind ≠ 5 ∧ Cond.static y ∈ lw_all ∧ (parseMethodDescriptor y.desc).map (fun d => d.parameters.length) = some (vals.length + 1)) ∨ (t.2.2.2.kind = 5 ∧ Cond.instanceMethod y ∈ lw_all ∧ Cond.privateMethod y ∈ lw_tbl ∧ ∃ a As ci fs, vals = .ref a :: As ∧ va_at E.2.1 vwClX (a, .inr (ci, fs)) H ∧ (parseMethodDescriptor y.desc).map (fun d => d.parameters.length) = some (As.length + 1)) := by
    rcases hkind with h | ⟨h1, h2, h3, a, As, ci, fs, h4, h5, h6⟩
    · exact Or.inl h
    · exact Or.inr ⟨h1, h2, h3, a, As, ci, fs, h4, hH.1.get (fIn.z h5), h6⟩
  obtain ⟨p, l', e, R, s, m, args, below, meth, c, A, Q⟩ := K
  intro H' locs ls hP0 hS hl hz9
  subst hP0
  obtain ⟨hx2, hb, hown, hts, hA, hG, hA0, hlk, rfl, htr⟩ := hk
  cases hl0
  subst hst
  refine j_run5 (Fr := wAd []) (Post := fPost E H' z [] (fun rr z2 W2 => rr = some (.int (jI (jB r))) ∧ W2 = [] ∧ z = z2)) (mc := mc) (ms := ms) (rest := rest) ?_ hA hf.2 hS hl hz9 hgo
  exact lam_run hE hL hx2 hb hown hts hG ht hu hN hcap hat hy hyn hcode hini hkind2 (by omega) (by omega) (hCH H' rfl) (fun rr X hP => by
    obtain ⟨z2, W2, ⟨h1, -⟩, -⟩ := hP
    exact ⟨r, h1⟩) (fun U hU hW => j_preG hG hA0 hS hU hW) hl.1 hcat d hcell
/-- a test that has captured nothing: there from the start -/
theorem f_indyC (hL : lamAt E) (hk : jOK E K cc own ({ frames := Rf, cells := Rc, slots := Rs, locals := Rl } : Room)) (i : Nat) {t : lam_S} (ht : lamT[i]? = some t) (hm : jKm K t.1) (hne : t.2.2.2.captured = []) (hcat : (st.map fun v => v.category).sum ≤ 20) (hRl : 3092 ≤ Rl) (hpc : pc = t.2.1) (d : decode cc pc = .ok (.invokedynamic t.2.2.1, 5))
    (kk : jW K (fO K E z0 z Ws) cells slots (pc + 5) vs (.ref (E.2.2 (400 + i)) :: st)) : jW K (fO K E z0 z Ws) cells slots pc vs st := by
  obtain ⟨p, l, e, R, s, m, args, below, meth, c, A, Q⟩ := K
  intro H locs ls hP hS hl hz
  obtain ⟨hx, hb, hown, hts, hA, hG, hA0, hlk, rfl, htr⟩ := hk
  subst hpc
  obtain ⟨m', k, cf, i0, p0, lk, g1, g2, g3, g4, g5, g6, g7, g8, -⟩ := lam_facts hL hG ht
  have hm : s.methodNamed? t.1 = some m := hm
  cases hm.symm.trans g1
  rw [g8 hne] at g5
  intro T hT X
  have hw : e.platform.lambdaLinkWords = 3072 := by rw [X.admits.platform]
  obtain ⟨t2, a1, b1⟩ := kk H locs ls hP hS hl hz T hT X
  exact ⟨t2, X.lambdaConstant hx (g := F0 m t.2.1 ls st) rfl hl.1 (by rw [hb]; exact d) g2 g5 (by show 2 * 0 + (st.map fun v => v.category).sum + e.platform.lambdaLinkWords ≤ Rl; rw [hw]; omega) a1, b1⟩
end LTEST
