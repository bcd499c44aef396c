/-! J, 3: contracts; a method's start and end; calls -/
def jA (Fr : Nat → Prop) (H0 : Heap) : Nat → Prop := fun q => Fr q ∨ H0.size ≤ q
/-- a contract: from any heap with P the method returns with Post; it writes among the old cells those of Fr alone -/
def jC (l : Launch) (E : jE) (y : MethodName) (b : ByteArray) (L : Nat) (ret : Option FieldType) (fr lo mc ms : Nat) (as : List Value) (P : Heap → Prop) (Fr : Nat → Prop) (Post : Option Value → Heap → Prop) : Prop :=
  ∀ H0 : Heap, P H0 → Met l y (ws_ y b L ret) ({ frames := fr, cells := mc, slots := ms, locals := lo } : Room) (va_Pc as (fun U => U.heap = H0 ∧ jG E.1 U)) (fun _ st o t => (∃ r, o = .returned r ∧ Post r t.heap) ∧ va_F (jA Fr H0) st t) mc ms (jA Fr H0)
/-- where a walk ends: its answer's type, its room, its post -/
def jEnd : jK → Option FieldType → Nat → Nat → (Option Value → Heap → Prop) → Prop
  | (p, l, e, R, s, m, args, below, meth, c, A, Q), ret, mc, ms, Post => meth.sig.returnType = ret ∧ Q = MQ below (fun _ st o t => (∃ r, o = .returned r ∧ Post r t.heap) ∧ va_F A st t) args s mc ms A
/-- the cells that the walk may write -/
def jKA : jK → Nat → Prop
  | (p, l, e, R, s, m, args, below, meth, c, A, Q) => A
def jKs : jK → State
  | (p, l, e, R, s, m, args, below, meth, c, A, Q) => s
def jKl : jK → Launch
  | (p, l, e, R, s, m, args, below, meth, c, A, Q) => l
theorem jG.warm {S0 s T : State} (h : jG S0 s) (hW : s.WarmedH T.vm) (hz : s.heap.size ≤ T.heap.size) (hq : ∀ q : Nat, q < S0.heap.size → T.heap[q]? = s.heap[q]?) : jG S0 T :=
  ⟨State.WarmedH.trans h.1 hW, Nat.le_trans h.2.1 hz, fun q hl => (hq q hl).trans (h.2.2 q hl)⟩
theorem jG.K {S0 s : State} (h : jG S0 s) {D : va_G} {cl : List vw_C} {tys : List (ClassId × FieldType)} (hK : va_K D cl tys S0) : va_K D cl tys s := va_K.moved h.1.alike hK
theorem j_start {l : Launch} {E : jE} {y : MethodName} {b : ByteArray} {L : Nat} {ret : Option FieldType} {fr lo mc ms : Nat} {as : List Value} {P : Heap → Prop} {Fr : Nat → Prop} {Post : Option Value → Heap → Prop} {own : String} {vs : List (Option Value)}
    (hs : l.stackTraces = false) (hy : plainName y.cls = true) (ho : y.cls = own) (hv : jv 0 vs = lv_args 0 as) (hn : vs.length = L) (hg : (lg_sl as).length ≤ L) (hF : ∀ H0, P H0 → ∀ q, Fr q → E.1.heap.size ≤ q)
    (body : ∀ (K : jK) (H0 : Heap), P H0 → jOK E K b own ({ frames := fr, cells := mc, slots := ms, locals := lo } : Room) → jEnd K ret mc ms Post → jKl K = l → (jKs K).heap = H0 → (∀ q, jKA K q ↔ Fr q ∨ H0.size ≤ q) → jW K (fun X => X = H0) 0 0 0 vs []) : jC l E y b L ret fr lo mc ms as P Fr Post := by
  intro H0 hP0
  refine Met.ofW (cc := b) (maxL := L) (ret := ret) hy rfl ?_
  intro p e s m args below meth c s₁ B hml hvv
  obtain ⟨rfl, hsz, hG⟩ := hvv
  have hts := atoms_spec (ws := ws_ y b L ret) B.pre
  have hts : ∀ w ∈ lw_all, w.before as.toArray s = true := fun w h => hts w (List.mem_cons_of_mem _ h)
  have hown : s.vm.findClass own = some m.cls := by rw [← ho]; exact findClass_of_methodNamed B.named
  rw [lg_entry_eq]
  have hl := lv_entry as (n := L) hg
  have k := body (p, l, e, _, s, m, as.toArray, below, meth, c, jA Fr H0, MQ below (fun _ st o t => (∃ r, o = .returned r ∧ Post r t.heap) ∧ va_F (jA Fr H0) st t) as.toArray s mc ms (jA Fr H0)) H0 hP0
    ⟨B.exec, B.bytes, hown, hts, fun q h => Or.inr (by rw [← hsz]; exact h), hG, fun q h z => by
      rcases z with z | z
      · exact absurd (hF H0 hP0 q z) (by omega)
      · have := hG.2.1
        rw [hsz] at this
        omega, B.notSynchronized, rfl, hs⟩ ⟨B.returns, rfl⟩ rfl hsz (fun q => Iff.rfl)
  exact k s.heap [] _ hsz va_S.rf (by rw [hml, hv]; exact hl) (hn.trans hml.symm)
section JEND
variable {E : jE} {K : jK} {cc : ByteArray} {own : String} {rm : Room} {P : Heap → Prop} {cells slots pc : Nat} {vs : List (Option Value)} {st : List Value} {mc ms : Nat} {Post : Option Value → Heap → Prop}
theorem j_iret (hk : jOK E K cc own rm) {ty : FieldType} (he : jEnd K (some ty) mc ms Post) {x : Int32} (hn : narrow ty (.int x) = .int x) (d : decode cc pc = .ok (.ireturn, 1)) (hc : cells ≤ mc) (hs : slots ≤ ms) (hq : ∀ H, P H → Post (some (.int x)) H) : jW K P cells slots pc vs [.int x] := by
  obtain ⟨p, l, e, R, s, m, args, below, meth, c, A, Q⟩ := K
  intro H locs ls hP hS hl hz
  obtain ⟨h1, rfl⟩ := he
  refine W.widen hc hs ?_
  exact W.zret (v := x) hk.1 hk.2.1 h1 hn (fun t ht hW => ⟨⟨_, rfl, by rw [ht]; exact hq H hP⟩, hS.F ht⟩) hS.2.2 d hk.2.2.2.2.2.2.2.1
theorem j_vret (hk : jOK E K cc own rm) (he : jEnd K none mc ms Post) (d : decode cc pc = .ok (.return_, 1)) (hc : cells ≤ mc) (hs : slots ≤ ms) (hq : ∀ H, P H → Post none H) : jW K P cells slots pc vs [] := by
  obtain ⟨p, l, e, R, s, m, args, below, meth, c, A, Q⟩ := K
  intro H locs ls hP hS hl hz
  obtain ⟨h1, rfl⟩ := he
  refine W.widen hc hs ?_
  exact W.vret hk.1 hk.2.1 h1 (fun t ht hW => ⟨⟨_, rfl, by rw [ht]; exact hq H hP⟩, hS.F ht⟩) hS.2.2 d hk.2.2.2.2.2.2.2.1
theorem j_aret (hk : jOK E K cc own rm) {ty : FieldType} (he : jEnd K (some ty) mc ms Post) (hty : (∃ n, ty = .object n) ∨ ∃ t, ty = .array t) {v : Value} (hv : v = .null ∨ ∃ a, v = .ref a) (d : decode cc pc = .ok (.areturn, 1)) (hc : cells ≤ mc) (hs : slots ≤ ms) (hq : ∀ H, P H → Post (some v) H) : jW K P cells slots pc vs [v] := by
  obtain ⟨p, l, e, R, s, m, args, below, meth, c, A, Q⟩ := K
  intro H locs ls hP hS hl hz
  obtain ⟨h1, rfl⟩ := he
  refine W.widen hc hs ?_
  exact W.aret hk.1 hk.2.1 h1 hty hv (fun t ht hW => ⟨⟨_, rfl, by rw [ht]; exact hq H hP⟩, hS.F ht⟩) hS.2.2 d hk.2.2.2.2.2.2.2.1
end JEND
section JCALL
variable {l : Launch} {E : jE} {K : jK} {cc : ByteArray} {own : String} {Rf Rc Rs Rl : Nat} {P : Heap → Prop} {cells slots pc : Nat} {vs : List (Option Value)} {st : List Value}
variable {y : MethodName} {b : ByteArray} {L : Nat} {ret : Option FieldType} {fr lo mc ms : Nat} {P2 : Heap → Prop} {Fr : Nat → Prop} {Post : Option Value → Heap → Prop}
theorem jC_blind {S0 : State} {as : List Value} {H0 : Heap} : FrameBlind (va_Pc as (fun U => U.heap = H0 ∧ jG S0 U)) := by
  intro a U g mk h
  exact h
/-- what a call gives: a Run of the kit's into a walk -/
theorem j_run {p : Program} {l : Launch} {e : Env} {R : Room} {s : State} {m : MethodId} {args : Array Value} {below : List Frame} {meth : Method} {c : Code} {A : Nat → Prop} {Q : State → Prop} {H : Heap} {locs : List Loc} {ls : Array Slot} {rest st0 : List Value}
    (hr : va_Run p l e R s m args below meth c H locs cells slots mc ms (F0 m pc ls st0) rest (fun st o t => (∃ r, o = .returned r ∧ Post r t.heap) ∧ va_F (jA Fr H) st t) (jA Fr H))
    (hA : ∀ q : Nat, s.heap.size ≤ q → A q) (hFr : ∀ q, Fr q → A q) (hS : va_S A s.heap H locs) (hl : lv_has ls c.maxLocals (jv 0 vs)) (hz : vs.length = c.maxLocals)
    (kk : ∀ (v : Option Value) (H1 : Heap), Post v H1 → H.size ≤ H1.size → (∀ q : Nat, q < H.size → ¬ Fr q → H1[q]? = H[q]?) → jW (p, l, e, R, s, m, args, below, meth, c, A, Q) (fun X => X = H1) (cells + mc) (slots + ms) (pc + 3) vs (v.toList ++ rest)) : W p l e R s m args below meth c H locs cells slots Q (F0 m pc ls st0) := by
  intro T hT X
  obtain ⟨v, st₀, t, T', L, h0, X', hL, e1, e2, ⟨⟨r, hv, hp⟩, hz1, hk1⟩, st1⟩ := hr T hT X
  cases hv
  rw [h0] at hz1 hk1
  have hfree : ∀ q, jA Fr H q → A q := fun q h => by
    rcases h with h | h
    · exact hFr q h
    · exact hA q (Nat.le_trans hS.1 h)
  obtain ⟨t2, a1, b1⟩ := kk v t.heap hp hz1 (fun q h1 h2 => hk1 q h1 (fun z => by
    rcases z with z | z
    · exact h2 z
    · omega)) T'.heap (locs ++ L) ls (e1) ⟨Nat.le_trans hS.1 (by rw [e1]; exact hz1), fun q h1 h2 => by rw [e1, hk1 q (Nat.lt_of_lt_of_le h1 hS.1) (fun z => h2 (hfree q z))]; exact hS.2.1 q h1 h2, fun q hq => by
      rcases List.mem_append.mp hq with h | h
      · exact hS.2.2 q h
      · exact hfree _ (hL q h)⟩ hl hz T' rfl X'
  exact ⟨t2, st1 t2 a1, b1⟩
theorem j_preG {s T : State} {S0 : State} {A : Nat → Prop} {H : Heap} {locs : List Loc} (hG : jG S0 s) (hA0 : ∀ q : Nat, q < S0.heap.size → ¬ A q) (hS : va_S A s.heap H locs) (hT : T.heap = H) (hW : s.WarmedH T.vm) : jG S0 T :=
  hG.warm hW (by rw [hT]; exact hS.1) (fun q hq => by rw [hT]; exact hS.2.1 q (Nat.lt_of_lt_of_le hq hG.2.1) (hA0 q hq))
/-- invokevirtual -/
theorem j_callV (hk : jOK E K cc own ({ frames := Rf, cells := Rc, slots := Rs, locals := Rl } : Room)) {a : Nat} {As rest : List Value} (hC : jC l E y b L ret fr lo mc ms (.ref a :: As) P2 Fr Post) (hl0 : jKl K = l) (n : Nat) {idx : Nat} {C : String} (hT : GoodIn lw_all (wsV own idx C y (ws_ y b L ret)))
    (hd : y.cls = C ∧ y.cls ≠ "java/lang/invoke/MethodHandle" ∧ y.cls ≠ "java/lang/invoke/VarHandle" ∧ (parseMethodDescriptor y.desc).map (fun d => d.parameters.length) = some n) (hn : As.length = n) (hroom : fr + 1 ≤ Rf ∧ 8 + (L + 11) + lo ≤ Rl) (hcell : cells + mc ≤ Rc ∧ slots + ms ≤ Rs) (hst : st = As.reverse ++ .ref a :: rest) (hcat : (rest.map fun v => v.category).sum ≤ 8)
    (d : decode cc pc = .ok (.invokevirtual idx, 3)) (hP : ∀ H, P H → P2 H) (hrecv : ∀ H, P H → ∃ cell : Cell, H[a]? = some cell ∧ cell.vm.isStatics = false ∧ (jKs K).vm.findClass C = some cell.cls) (hFr : ∀ q, Fr q → jKA K q)
    (kk : ∀ (H0 : Heap) (v : Option Value) (H1 : Heap), P H0 → Post v H1 → H0.size ≤ H1.size → (∀ q : Nat, q < H0.size → ¬ Fr q → H1[q]? = H0[q]?) → jW K (fun X => X = H1) (cells + mc) (slots + ms) (pc + 3) vs (v.toList ++ rest)) : jW K P cells slots pc vs st := by
  obtain ⟨p, l', e, R, s, m, args, below, meth, c, A, Q⟩ := K
  intro H locs ls hP0 hS hl hz
  obtain ⟨hx, hb, hown, hts, hA, hG, hA0, hlk, rfl, htr⟩ := hk
  cases hl0
  subst hst
  refine j_run (Fr := Fr) (Post := Post) (mc := mc) (ms := ms) (rest := rest) ?_ hA hFr hS hl hz (fun v H1 => kk H v H1 hP0)
  exact va_runV (nL := c.maxLocals) ⟨hx, hb, rfl, hown, hts⟩ (hC H (hP H hP0)) (cwV n hts hT rfl rfl rfl hd hroom) ⟨jC_blind, hrecv H hP0, fun U hU hW => ⟨rfl, hU, j_preG hG hA0 hS hU hW⟩⟩ rfl hn hl.1 rfl (by simpa using hcat) d hcell
/-- invokestatic -/
theorem j_callS (hk : jOK E K cc own ({ frames := Rf, cells := Rc, slots := Rs, locals := Rl } : Room)) {As rest : List Value} (hC : jC l E y b L ret fr lo mc ms As P2 Fr Post) (hl0 : jKl K = l) (n : Nat) {idx : Nat} (hT : GoodIn lw_all (va_wsS own idx y (ws_ y b L ret)))
    (hd : y.cls ≠ "java/lang/invoke/MethodHandle" ∧ y.cls ≠ "java/lang/invoke/VarHandle" ∧ (parseMethodDescriptor y.desc).map (fun d => d.parameters.length) = some n) (hn : As.length = n) (hroom : fr + 1 ≤ Rf ∧ 8 + (L + 11) + lo ≤ Rl) (hcell : cells + mc ≤ Rc ∧ slots + ms ≤ Rs) (hst : st = As.reverse ++ rest) (hcat : (rest.map fun v => v.category).sum ≤ 8)
    (d : decode cc pc = .ok (.invokestatic idx, 3)) (hP : ∀ H, P H → P2 H) (hFr : ∀ q, Fr q → jKA K q)
    (kk : ∀ (H0 : Heap) (v : Option Value) (H1 : Heap), P H0 → Post v H1 → H0.size ≤ H1.size → (∀ q : Nat, q < H0.size → ¬ Fr q → H1[q]? = H0[q]?) → jW K (fun X => X = H1) (cells + mc) (slots + ms) (pc + 3) vs (v.toList ++ rest)) : jW K P cells slots pc vs st := by
  obtain ⟨p, l', e, R, s, m, args, below, meth, c, A, Q⟩ := K
  intro H locs ls hP0 hS hl hz
  obtain ⟨hx, hb, hown, hts, hA, hG, hA0, hlk, rfl, htr⟩ := hk
  cases hl0
  subst hst
  refine j_run (Fr := Fr) (Post := Post) (mc := mc) (ms := ms) (rest := rest) ?_ hA hFr hS hl hz (fun v H1 => kk H v H1 hP0)
  exact va_runS (nL := c.maxLocals) ⟨hx, hb, rfl, hown, hts⟩ (hC H (hP H hP0)) (va_cwS n hts hT rfl rfl rfl hd hroom) ⟨jC_blind, fun U hU hW => ⟨rfl, hU, j_preG hG hA0 hS hU hW⟩⟩ rfl hn hl.1 rfl (by simpa using hcat) d hcell
/-- a constructor -/
theorem j_callI (hk : jOK E K cc own ({ frames := Rf, cells := Rc, slots := Rs, locals := Rl } : Room)) {a : Nat} {As rest : List Value} (hC : jC l E y b L none fr lo mc ms (.ref a :: As) P2 Fr Post) (hl0 : jKl K = l) (n : Nat) {idx : Nat} (hM : Cond.code y b L none ∈ lw_all) (hi1 : Cond.initialized y.cls ∈ lw_all) (hi2 : Cond.methodLink own idx y ∈ lw_all) (hi3 : Cond.instanceMethod y ∈ lw_all) (hi4 : y.name = "<init>")
    (hd : y.cls ≠ "java/lang/invoke/MethodHandle" ∧ y.cls ≠ "java/lang/invoke/VarHandle" ∧ (parseMethodDescriptor y.desc).map (fun d => d.parameters.length) = some n) (hn : As.length = n) (hroom : fr + 1 ≤ Rf ∧ 8 + (L + 11) + lo ≤ Rl) (hcell : cells + mc ≤ Rc ∧ slots + ms ≤ Rs) (hst : st = As.reverse ++ .ref a :: rest) (hcat : (rest.map fun v => v.category).sum ≤ 8)
    (d : decode cc pc = .ok (.invokespecial idx, 3)) (hP : ∀ H, P H → P2 H) (hFr : ∀ q, Fr q → jKA K q)
    (kk : ∀ (H0 : Heap) (v : Option Value) (H1 : Heap), P H0 → Post v H1 → H0.size ≤ H1.size → (∀ q : Nat, q < H0.size → ¬ Fr q → H1[q]? = H0[q]?) → jW K (fun X => X = H1) (cells + mc) (slots + ms) (pc + 3) vs (v.toList ++ rest)) : jW K P cells slots pc vs st := by
  obtain ⟨p, l', e, R, s, m, args, below, meth, c, A, Q⟩ := K
  intro H locs ls hP0 hS hl hz
  obtain ⟨hx, hb, hown, hts, hA, hG, hA0, hlk, rfl, htr⟩ := hk
  cases hl0
  subst hst
  refine j_run (Fr := Fr) (Post := Post) (mc := mc) (ms := ms) (rest := rest) ?_ hA hFr hS hl hz (fun v H1 => kk H v H1 hP0)
  exact va_runI (nL := c.maxLocals) ⟨hx, hb, rfl, hown, hts⟩ (hC H (hP H hP0)) (cwI n hts (lw_meth hM) rfl rfl rfl (hts _ hi1) (hts _ hi2) (hts _ hi3) hi4 hd hroom) ⟨jC_blind, fun U hU hW => ⟨rfl, hU, j_preG hG hA0 hS hU hW⟩⟩ rfl hn hl.1 rfl (by simpa using hcat) d hcell
/-- Object's own constructor -/
theorem j_objInit (hk : jOK E K cc own ({ frames := Rf, cells := Rc, slots := Rs, locals := Rl } : Room)) {a idx : Nat} {rest : List Value} (h1 : Cond.methodLink own idx Lib.objectInit ∈ lw_all) (h2 : Cond.instanceMethod Lib.objectInit ∈ lw_all) (h3 : Cond.code Lib.objectInit ⟨#[0xb1]⟩ 1 none ∈ lw_all) (hr : 1 ≤ Rf ∧ (rest.map fun v => v.category).sum + 12 ≤ Rl) (d : decode cc pc = .ok (.invokespecial idx, 3)) (k : jW K P cells slots (pc + 3) vs rest) : jW K P cells slots pc vs (.ref a :: rest) := by
  obtain ⟨p, l', e, R, s, m, args, below, meth, c, A, Q⟩ := K
  intro H locs ls hP0 hS hl hz
  obtain ⟨hx, hb, hown, hts, hA, hG, hA0, hlk, rfl, htr⟩ := hk
  refine W.objInit hx hb hown (hts _ h1) (hts _ h2) (hts _ h3) rfl hl.1 rfl d hr.1 (by simpa using hr.2) ?_
  exact k H locs ls hP0 hS hl hz
end JCALL
