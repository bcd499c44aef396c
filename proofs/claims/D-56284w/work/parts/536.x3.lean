/-! X, 3 -/
def xcTo (s : List Op) (x : XcS) : Nat → XcS
  | 0 => x
  | k + 1 => xcS (opAt s k) (xcTo s x k)
def xc0 (c : Nat → Nat) : XcS := (c, (fun j => if 1 ≤ j ∧ j ≤ 5 then j else 0), [], [])
def xcR (s : List Op) (c : Nat → Nat) : XcS := xcTo s (xc0 c) s.length
def rgW (k : Nat) : Nat → Nat := fun j => if 1 ≤ j ∧ j ≤ k then j else 0
theorem rgW_0 : (fun _ => (0 : Int)) = (fun j => ((rgW 0 j : Nat) : Int)) := by
  funext j
  unfold rgW
  rw [if_neg (by omega)]
  rfl
theorem rgW_S {k : Nat} : iup (fun j => ((rgW k j : Nat) : Int)) (k + 1) (((k + 1 : Nat)) : Int) = (fun j => ((rgW (k + 1) j : Nat) : Int)) := by
  funext j
  unfold iup rgW
  dsimp only
  by_cases h : j = k + 1
  · rw [if_pos h, if_pos (by omega), h]
  · rw [if_neg h]
    by_cases h2 : 1 ≤ j ∧ j ≤ k
    · rw [if_pos h2, if_pos (by omega)]
    · rw [if_neg h2, if_neg (by omega)]
theorem xcS_len {o : Op} {x : XcS} (h : x.2.2.2.length = x.2.2.1.length) : (xcS o x).2.2.2.length = (xcS o x).2.2.1.length ∧ (xcS o x).2.2.1.length ≤ x.2.2.1.length + 1 := by
  unfold xcS
  split
  · exact ⟨h, Nat.le_succ _⟩
  · split
    · simp [h]
    · split
      · exact ⟨h, Nat.le_succ _⟩
      · exact ⟨h, Nat.le_succ _⟩
theorem unC_lt {ws : List Op} {rp : List Nat} {t : Nat} (hr : ∀ n ∈ rp, n < 1000) : ∀ {k : Nat} {c : Nat → Nat}, (∀ i, c i < 1000) → ∀ i, unC ws rp t k c i < 1000 := by
  intro k
  induction k with
  | zero => exact fun h => h
  | succ k ih =>
    intro c hc
    refine ih (fun i => ?_)
    split
    · unfold nup
      split
      · rw [List.getD_eq_getElem?_getD]
        cases h : rp[k]? with
        | none => exact (by decide : (0 : Nat) < 1000)
        | some n => exact hr n (List.mem_of_getElem? h)
      · exact hc i
    · exact hc i
def xcOK (x : XcS) : Prop := (∀ i, x.1 i < 1000) ∧ (∀ i, x.2.1 i < 1000) ∧ (∀ n ∈ x.2.2.2, n < 1000) ∧ x.2.2.2.length = x.2.2.1.length
theorem xcS_ok {o : Op} {x : XcS} (h : xcOK x) : xcOK (xcS o x) := by
  obtain ⟨h1, h2, h3, h4⟩ := h
  refine ⟨?_, ?_, ?_, (xcS_len h4).1⟩
  · unfold xcS
    split
    · exact h1
    · split
      · intro i
        show nup _ _ _ i < 1000
        unfold nup
        split
        · exact h2 _
        · exact h1 i
      · split
        · exact unC_lt h3 h1
        · exact h1
  · unfold xcS
    split
    · intro i
      show nup _ _ _ i < 1000
      unfold nup
      split
      · omega
      · exact h2 i
    · split
      · exact h2
      · split <;> exact h2
  · unfold xcS
    split
    · exact h3
    · split
      · intro n hn
        rcases List.mem_append.mp hn with q | q
        · exact h3 n q
        · rw [List.mem_singleton.mp q]
          exact h1 _
      · split <;> exact h3
theorem xcTo_ok {s : List Op} {x : XcS} (h : xcOK x) : ∀ k, xcOK (xcTo s x k) := by
  intro k
  induction k with
  | zero => exact h
  | succ k ih => exact xcS_ok ih
theorem xcTo_len {s : List Op} {x : XcS} (h : xcOK x) : ∀ k, (xcTo s x k).2.2.1.length ≤ x.2.2.1.length + k := by
  intro k
  induction k with
  | zero => exact Nat.le_refl _
  | succ k ih =>
    have := (xcS_len (o := opAt s k) (xcTo_ok (s := s) h k).2.2.2).2
    show (xcS (opAt s k) (xcTo s x k)).2.2.1.length ≤ _
    omega
theorem xc0_ok {c : Nat → Nat} (h : ∀ i, c i < 1000) : xcOK (xc0 c) := ⟨h, fun i => by
  unfold xc0
  dsimp only
  split <;> omega, fun n hn => (by cases hn), rfl⟩
set_option maxHeartbeats 1500000 in
/-- X10 init([ILScheduleAnalyzer$Schedule;)V -/
theorem fc_X10_init {l : Launch} {E : jE} (hls : l.stackTraces = false) (hE : jSt E) (hN : jCn E) {z : jZ} (hzc : zLe (zS E) z) {a : Nat} {iv : Nat} {rs : Nat} {s : List Op} {c : Nat → Nat} (h : schZ E z rs s) (hv0 : z (iv, .inl (E.2.2 0, 4, .inl (fun j => jI ((fun j => ((c j : Nat) : Int)) j))))) (hc : ∀ i, c i < 1000) (hs32 : s.length < 32) : fC l E yX10_init cX10_init 5 (none) 8 214 (3 * s.length + 60) (68 * s.length + 140) [.ref a, .ref iv, .ref rs] z [[(a, .inr (9, [.null, .null, .null, .null]))]] (fun rr z2 W2 => ∃ va : Nat, ∃ rg : Nat, ∃ wl : Nat, ∃ rl : Nat, ∃ w1 : va_W, ∃ w2 : va_W, rr = none ∧ W2 = [[(va, .inl (E.2.2 0, 4, .inl (fun j => jI ((fun j => (((xcR s c).1 j : Nat) : Int)) j))))], [(rg, .inl (E.2.2 0, 6, .inl (fun j => jI ((fun j => (((xcR s c).2.1 j : Nat) : Int)) j))))], w1, w2] ∧ z2 (a, .inr (9, [.ref va, .ref rg, .ref wl, .ref rl]))) := by
  refine f_start (own := "ScheduleAnalyzer$Execution") (vs := [some (.ref a), some (.ref iv), some (.ref rs), none, none]) hls (by decide +kernel) rfl rfl rfl (Nat.le_of_ble_eq_true rfl) ?_
  intro K H0 hk he hl0 hI hA
  obtain ⟨lss1, mss1, lis1, hzs1, hals1, hops1, hnds1⟩ := id h
  have hll := (hops1).len
  refine j_ald4 hk dX10_init_0 rfl rfl ?_
  refine j_objInit hk q1403 q171 q172 ⟨by decide, by decide⟩ dX10_init_1 ?_
  refine j_ald4 hk dX10_init_4 rfl rfl ?_
  refine j_bipush (n := 6) hk rfl dX10_init_5 ?_
  refine f_newI hE hk q211 (6) (by omega) (by omega) ⟨by omega, by omega⟩ dX10_init_7 ?_
  intro ar1
  refine f_W (W2 := [[(ar1, .inl (E.2.2 0, 6, .inl (fun j => jI ((fun _ => 0) j))))], [(a, .inr (9, [.null, .null, .null, .null]))]]) rfl ?_
  refine f_put (fs := [.null, .null, .null, .null]) (ty := (.array .int)) (W2 := [[(ar1, .inl (E.2.2 0, 6, .inl (fun j => jI ((fun _ => 0) j))))], [(a, .inr (9, [.null, .ref ar1, .null, .null]))]]) hE hk in_X10 tyX10_ok nmX10 1 0 rfl rfl (show vwCl[9]? = some (RX10, TX10, 4) from rfl) 1 (by decide) q1437 (Or.inl rfl) (Or.inr ⟨rfl, hI, rfl⟩) (by decide +kernel) rfl rfl (show 1 < 4 by decide) rfl dX10_init_9 ?_
  refine j_ald4 hk dX10_init_12 rfl rfl ?_
  refine f_new (fs := [.int (jI 0), .null, .int (jI 0)]) hE hk in_J2 tyJ2 tyJ2_ok q1404 q183 q120 (show vwCl[10]? = some (RJ2, TJ2, 3) from rfl) (fun j hj => match j, hj with | 0, _ => rfl | 1, _ => rfl | 2, _ => rfl | j + 3, h => absurd h (by omega)) ⟨by omega, by omega⟩ dX10_init_13 ?_
  intro ad2
  refine j_dup hk rfl dX10_init_16 ?_
  refine f_callI (Wc := [[(ad2, .inr (10, [.int (jI 0), .null, .int (jI 0)]))]]) (Wr := [[(ar1, .inl (E.2.2 0, 6, .inl (fun j => jI ((fun _ => 0) j))))], [(a, .inr (9, [.null, .ref ar1, .null, .null]))]]) hk hl0 (fc_J2_init hls hE hN (z := z) hzc (a := ad2) ) (fun _ h => Or.inl h) 0 q186 q120 q1405 q185 rfl (by decide +kernel) rfl (by decide) (by omega) rfl (Nat.le_of_ble_eq_true rfl) dX10_init_17 ?_
  refine Or.inl ⟨rfl, ?_⟩
  rintro _ _ _ ⟨w12, rfl, rfl, rfl, hp2_0⟩ -
  refine f_W (W2 := [w12, [(ar1, .inl (E.2.2 0, 6, .inl (fun j => jI ((fun _ => 0) j))))], [(a, .inr (9, [.null, .ref ar1, .null, .null]))]]) rfl ?_
  refine f_put (fs := [.null, .ref ar1, .null, .null]) (ty := (.object "java/util/List")) (W2 := [w12, [(ar1, .inl (E.2.2 0, 6, .inl (fun j => jI ((fun _ => 0) j))))], [(a, .inr (9, [.null, .ref ar1, .ref ad2, .null]))]]) hE hk in_X10 tyX10_ok nmX10 2 0 rfl rfl (show vwCl[9]? = some (RX10, TX10, 4) from rfl) 2 (by decide) q1439 (Or.inl rfl) (Or.inr ⟨rfl, hI, rfl⟩) (by decide +kernel) rfl rfl (show 2 < 4 by decide) rfl dX10_init_20 ?_
  refine j_ald4 hk dX10_init_23 rfl rfl ?_
  refine f_new (fs := [.int (jI 0), .null, .int (jI 0)]) hE hk in_J2 tyJ2 tyJ2_ok q1404 q183 q120 (show vwCl[10]? = some (RJ2, TJ2, 3) from rfl) (fun j hj => match j, hj with | 0, _ => rfl | 1, _ => rfl | 2, _ => rfl | j + 3, h => absurd h (by omega)) ⟨by omega, by omega⟩ dX10_init_24 ?_
  intro ad3
  refine j_dup hk rfl dX10_init_27 ?_
  refine f_callI (Wc := [[(ad3, .inr (10, [.int (jI 0), .null, .int (jI 0)]))]]) (Wr := [w12, [(ar1, .inl (E.2.2 0, 6, .inl (fun j => jI ((fun _ => 0) j))))], [(a, .inr (9, [.null, .ref ar1, .ref ad2, .null]))]]) hk hl0 (fc_J2_init hls hE hN (z := z) hzc (a := ad3) ) (fun _ h => Or.inl h) 0 q186 q120 q1405 q185 rfl (by decide +kernel) rfl (by decide) (by omega) rfl (Nat.le_of_ble_eq_true rfl) dX10_init_28 ?_
  refine Or.inl ⟨rfl, ?_⟩
  rintro _ _ _ ⟨w13, rfl, rfl, rfl, hp3_0⟩ -
  refine f_W (W2 := [w13, w12, [(ar1, .inl (E.2.2 0, 6, .inl (fun j => jI ((fun _ => 0) j))))], [(a, .inr (9, [.null, .ref ar1, .ref ad2, .null]))]]) rfl ?_
  refine f_put (fs := [.null, .ref ar1, .ref ad2, .null]) (ty := (.object "java/util/List")) (W2 := [w13, w12, [(ar1, .inl (E.2.2 0, 6, .inl (fun j => jI ((fun _ => 0) j))))], [(a, .inr (9, [.null, .ref ar1, .ref ad2, .ref ad3]))]]) hE hk in_X10 tyX10_ok nmX10 3 0 rfl rfl (show vwCl[9]? = some (RX10, TX10, 4) from rfl) 3 (by decide) q1440 (Or.inl rfl) (Or.inr ⟨rfl, hI, rfl⟩) (by decide +kernel) rfl rfl (show 3 < 4 by decide) rfl dX10_init_31 ?_
  refine j_ald4 hk dX10_init_34 rfl rfl ?_
  refine j_ald4 hk dX10_init_35 rfl rfl ?_
  refine f_cloneI (n := 4) (f := (fun j => ((c j : Nat) : Int))) hE hk (.inl hv0) q1406 q1341 q497 q498 q1342 q1343 ⟨by omega, by simp [Value.category]⟩ ⟨by omega, by omega⟩ dX10_init_36 ?_
  intro ar4
  refine f_castA (n := 4) (f := (fun j => ((c j : Nat) : Int))) hE hk (fIn.at 0 0 rfl rfl) q1407 dX10_init_39 ?_
  refine f_put (fs := [.null, .ref ar1, .ref ad2, .ref ad3]) (ty := (.array .int)) (W2 := [[(ar4, .inl (E.2.2 0, 4, .inl (fun j => jI ((fun j => ((c j : Nat) : Int)) j))))], w13, w12, [(ar1, .inl (E.2.2 0, 6, .inl (fun j => jI ((fun _ => 0) j))))], [(a, .inr (9, [.ref ar4, .ref ar1, .ref ad2, .ref ad3]))]]) hE hk in_X10 tyX10_ok nmX10 4 0 rfl rfl (show vwCl[9]? = some (RX10, TX10, 4) from rfl) 0 (by decide) q1435 (Or.inl rfl) (Or.inr ⟨rfl, hI, rfl⟩) (by decide +kernel) rfl rfl (show 0 < 4 by decide) rfl dX10_init_42 ?_
  refine j_iconst (n := 1) hk dX10_init_45 ?_
  refine j_ist3 hk dX10_init_46 rfl ?_
  have loop47 : ∀ (fuel47 : Nat) (k : Nat), 5 - k < fuel47 → k ≤ 5 → jW K (fO K E z z [[(ar4, .inl (E.2.2 0, 4, .inl (fun j => jI ((fun j => ((c j : Nat) : Int)) j))))], w13, w12, [(ar1, .inl (E.2.2 0, 6, .inl (fun j => jI ((fun j => (((rgW k) j : Nat) : Int)) j))))], [(a, .inr (9, [.ref ar4, .ref ar1, .ref ad2, .ref ad3]))]]) (20) (30) 47 [some (.ref a), some (.ref iv), some (.ref rs), some (.int (jI ((k + 1 : Nat) : Int))), none] [] := by
    intro fuel47
    induction fuel47 with
    | zero => intro k hm; exact absurd hm (Nat.not_lt_zero _)
    | succ fuel47 ih47 =>
      intro k hm47 hk5
      refine j_ild4 hk dX10_init_47 rfl rfl ?_
      refine j_iconst (n := 5) hk dX10_init_48 ?_
      refine j_icmp_gt hk (by omega) (by omega) dX10_init_49 rfl (tgt := 65) (fun h49 => ?_) (fun h49 => ?_)
      · have hk5 : k = 5 := by omega
        refine f_W (W2 := [[(ar4, .inl (E.2.2 0, 4, .inl (fun j => jI ((fun j => ((c j : Nat) : Int)) j))))], w13, w12, [(ar1, .inl (E.2.2 0, 6, .inl (fun j => jI ((fun j => (((xcTo s (xc0 c) 0).2.1 j : Nat) : Int)) j))))], [(a, .inr (9, [.ref ar4, .ref ar1, .ref ad2, .ref ad3]))]]) (by rw [show (fun j => (((rgW k) j : Nat) : Int)) = (fun j => (((xcTo s (xc0 c) 0).2.1 j : Nat) : Int)) from by rw [hk5]; rfl]) ?_
        refine f_W (W2 := [[(ar4, .inl (E.2.2 0, 4, .inl (fun j => jI ((fun j => (((xcTo s (xc0 c) 0).1 j : Nat) : Int)) j))))], w13, w12, [(ar1, .inl (E.2.2 0, 6, .inl (fun j => jI ((fun j => (((xcTo s (xc0 c) 0).2.1 j : Nat) : Int)) j))))], [(a, .inr (9, [.ref ar4, .ref ar1, .ref ad2, .ref ad3]))]]) (by rw [show (fun j => ((c j : Nat) : Int)) = (fun j => (((xcTo s (xc0 c) 0).1 j : Nat) : Int)) from rfl]) ?_
        refine f_sel (W2 := [[(a, .inr (9, [.ref ar4, .ref ar1, .ref ad2, .ref ad3]))], [(ar4, .inl (E.2.2 0, 4, .inl (fun j => jI ((fun j => (((xcTo s (xc0 c) 0).1 j : Nat) : Int)) j))))], w13, w12, [(ar1, .inl (E.2.2 0, 6, .inl (fun j => jI ((fun j => (((xcTo s (xc0 c) 0).2.1 j : Nat) : Int)) j))))]]) [4, 0, 1, 2, 3] rfl rfl ?_
        refine f_freeze hk ?_
        intro z1 zl1 hm1
        have hzc := hzc.tr zl1
        have h := h.up zl1
        have hv0 := zl1 _ hv0
        have hzs1 := zl1 _ hzs1
        have hals1 := hals1.up zl1
        have hops1 := hops1.up zl1
        have hx10 := hm1 _ (List.mem_cons_self)
        refine j_ald4 hk dX10_init_65 rfl rfl ?_
        refine f_getN hE hk in_X3 (.inl hzs1) (show vwCl[2]? = some (RX3, TX3, 1) from rfl) 0 (by decide) q806 rfl rfl dX10_init_66 ?_
        obtain ⟨qo4, capo4, fo4, hc1o4, hc2o4, hl1o4, hl2o4, hfo4⟩ := hals1.cell hN hzc
        refine f_callF (Wc := []) (Wr := [[(ar4, .inl (E.2.2 0, 4, .inl (fun j => jI ((fun j => (((xcTo s (xc0 c) 0).1 j : Nat) : Int)) j))))], w13, w12, [(ar1, .inl (E.2.2 0, 6, .inl (fun j => jI ((fun j => (((xcTo s (xc0 c) 0).2.1 j : Nat) : Int)) j))))]]) hE hk hl0 (.inl hc1o4) (show vwCl[10]? = some (RJ2, TJ2, 3) from rfl) (fc_J2_iterator hls hE hN (z := z1) hzc (a := lss1) (mc := mss1) (li := lis1) (hals1)) (fun _ h => Or.inl h) 0 (lw_Fg q1409 q223 q225 q120 q227) q221 q220 q226 q224 q222 (by decide +kernel) rfl (by decide) (by omega) rfl (Nat.le_of_ble_eq_true rfl) dX10_init_69 ?_
        refine Or.inl ⟨rfl, ?_⟩
        rintro _ _ _ ⟨it5, w15, rfl, rfl, rfl, hp5_0⟩ -
        refine f_W (W2 := [w15, [(ar4, .inl (E.2.2 0, 4, .inl (fun j => jI ((fun j => (((xcTo s (xc0 c) 0).1 j : Nat) : Int)) j))))], w13, w12, [(ar1, .inl (E.2.2 0, 6, .inl (fun j => jI ((fun j => (((xcTo s (xc0 c) 0).2.1 j : Nat) : Int)) j))))]]) rfl ?_
        refine j_ast3 hk dX10_init_74 rfl ?_
        have loop75 : ∀ (fuel75 : Nat) (zq75 : jZ) (x : Nat) (mv : Int) (mw : Int) (l1 : List Nat) (l2 : List Nat) (w1 : va_W) (w2 : va_W) (wi : va_W), lis1.length - x < fuel75 → zLe z1 zq75 → x ≤ lis1.length → alW E ad2 mv l1 w1 → alW E ad3 mw l2 w2 → opsZ zq75 l1 (xcTo s (xc0 c) x).2.2.1 → intsZ zq75 l2 (xcTo s (xc0 c) x).2.2.2 → itW it5 x mss1 lss1 wi → jW K (fO K E z zq75 [[(ar4, .inl (E.2.2 0, 4, .inl (fun j => jI ((fun j => (((xcTo s (xc0 c) x).1 j : Nat) : Int)) j))))], [(ar1, .inl (E.2.2 0, 6, .inl (fun j => jI ((fun j => (((xcTo s (xc0 c) x).2.1 j : Nat) : Int)) j))))], w1, w2, wi]) (40 + 3 * x) (90 + 68 * x) 75 [some (.ref a), some (.ref iv), some (.ref rs), some (.ref it5), none] [] := by
          intro fuel75
          induction fuel75 with
          | zero => intro zq75 x mv mw l1 l2 w1 w2 wi hm; exact absurd hm (Nat.not_lt_zero _)
          | succ fuel75 ih75 =>
            intro zq75 x mv mw l1 l2 w1 w2 wi hm75 zlq75 hxn hw1 hw2 hs3 hi3 hwi
            have hzc := hzc.tr zlq75
            have h := h.up zlq75
            have hv0 := zlq75 _ hv0
            have hzs1 := zlq75 _ hzs1
            have hals1 := hals1.up zlq75
            have hops1 := hops1.up zlq75
            have hx10 := zlq75 _ hx10
            have hc1o4 := zlq75 _ hc1o4
            have hc2o4 := zlq75 _ hc2o4
            have hok3 := xcTo_ok (s := s) (xc0_ok hc) x
            have hle3 := xcTo_len (s := s) (xc0_ok hc) x
            refine j_ald4 hk dX10_init_75 rfl rfl ?_
            refine f_sel (W2 := [wi, [(ar4, .inl (E.2.2 0, 4, .inl (fun j => jI ((fun j => (((xcTo s (xc0 c) x).1 j : Nat) : Int)) j))))], [(ar1, .inl (E.2.2 0, 6, .inl (fun j => jI ((fun j => (((xcTo s (xc0 c) x).2.1 j : Nat) : Int)) j))))], w1, w2]) [4, 0, 1, 2, 3] rfl rfl ?_
            obtain ⟨rm6, hrm6⟩ := itW.mem hwi
            refine f_callF (Wc := [wi]) (Wr := [[(ar4, .inl (E.2.2 0, 4, .inl (fun j => jI ((fun j => (((xcTo s (xc0 c) x).1 j : Nat) : Int)) j))))], [(ar1, .inl (E.2.2 0, 6, .inl (fun j => jI ((fun j => (((xcTo s (xc0 c) x).2.1 j : Nat) : Int)) j))))], w1, w2]) hE hk hl0 (fIn.of 0 rfl hrm6) (show vwCl[11]? = some (RJ3, TJ3, 4) from rfl) (fc_J3_hasNext hls hE hN (z := zq75) hzc (it := it5) (k := x) (mc := mss1) (a := lss1) (wi := wi) (li := lis1) (hals1) (hwi) (by first | assumption | omega)) (fun _ h => Or.inl h) 0 (lw_Fg q1411 q291 q293 q121 q295) q289 q288 q294 q292 q290 (by decide +kernel) rfl (by decide) (by omega) rfl (Nat.le_of_ble_eq_true rfl) dX10_init_76 ?_
            refine Or.inl ⟨rfl, ?_⟩
            rintro _ _ _ ⟨rfl, rfl, rfl⟩ -
            refine f_W (W2 := [wi, [(ar4, .inl (E.2.2 0, 4, .inl (fun j => jI ((fun j => (((xcTo s (xc0 c) x).1 j : Nat) : Int)) j))))], [(ar1, .inl (E.2.2 0, 6, .inl (fun j => jI ((fun j => (((xcTo s (xc0 c) x).2.1 j : Nat) : Int)) j))))], w1, w2]) rfl ?_
            refine j_ifeqB hk dX10_init_81 rfl (tgt := 104) (fun h81 => ?_) (fun h81 => ?_)
            · have hk9 := of_decide_eq_false h81
              refine f_sel (W2 := [[(ar4, .inl (E.2.2 0, 4, .inl (fun j => jI ((fun j => (((xcTo s (xc0 c) x).1 j : Nat) : Int)) j))))], [(ar1, .inl (E.2.2 0, 6, .inl (fun j => jI ((fun j => (((xcTo s (xc0 c) x).2.1 j : Nat) : Int)) j))))], w1, w2]) [1, 2, 3, 4] rfl rfl ?_
              refine f_vret hk he hA dX10_init_104 (by omega) (by omega) ?_
              obtain rfl : x = s.length := by omega
              exact ⟨_, _, _, _, _, _, rfl, rfl, hx10⟩
            · refine j_ald4 hk dX10_init_84 rfl rfl ?_
              have hk9 := of_decide_eq_true h81
              obtain ⟨b, hb, hob, hok⟩ := hops1.at (i := x) (by omega)
              obtain ⟨o1, o2, o3, o4, o5⟩ := id hok
              have lk := letK_c hok
              obtain ⟨rm8, hrm8⟩ := itW.mem hwi
              refine f_callF (Wc := [wi]) (Wr := [[(ar4, .inl (E.2.2 0, 4, .inl (fun j => jI ((fun j => (((xcTo s (xc0 c) x).1 j : Nat) : Int)) j))))], [(ar1, .inl (E.2.2 0, 6, .inl (fun j => jI ((fun j => (((xcTo s (xc0 c) x).2.1 j : Nat) : Int)) j))))], w1, w2]) hE hk hl0 (fIn.of 0 rfl hrm8) (show vwCl[11]? = some (RJ3, TJ3, 4) from rfl) (fc_J3_next hls hE hN (z := zq75) hzc (it := it5) (k := x) (mc := mss1) (a := lss1) (wi := wi) (li := lis1) (b := b) (hals1) (hwi) (hb)) (fun _ h => Or.inl h) 0 (lw_Fg q1413 q306 q308 q121 q310) q305 q304 q309 q307 q290 (by decide +kernel) rfl (by decide) (by omega) rfl (Nat.le_of_ble_eq_true rfl) dX10_init_85 ?_
              refine Or.inl ⟨rfl, ?_⟩
              rintro _ _ _ ⟨w19, rfl, rfl, rfl, hp9_0⟩ -
              refine f_W (W2 := [w19, [(ar4, .inl (E.2.2 0, 4, .inl (fun j => jI ((fun j => (((xcTo s (xc0 c) x).1 j : Nat) : Int)) j))))], [(ar1, .inl (E.2.2 0, 6, .inl (fun j => jI ((fun j => (((xcTo s (xc0 c) x).2.1 j : Nat) : Int)) j))))], w1, w2]) rfl ?_
              refine f_castS hE hk (.inl hob) (show vwCl[5]? = some (RX6, TX6, 3) from rfl) q1414 dX10_init_90 ?_
              refine j_ast4 hk dX10_init_93 rfl ?_
              refine j_ald4 hk dX10_init_95 rfl rfl ?_
              refine j_ald hk dX10_init_96 rfl ?_
              refine f_sel (W2 := [[(ar4, .inl (E.2.2 0, 4, .inl (fun j => jI ((fun j => (((xcTo s (xc0 c) x).1 j : Nat) : Int)) j))))], [(ar1, .inl (E.2.2 0, 6, .inl (fun j => jI ((fun j => (((xcTo s (xc0 c) x).2.1 j : Nat) : Int)) j))))], w1, w2, w19]) [1, 2, 3, 4, 0] rfl rfl ?_
              refine f_callV (Wc := [[(ar4, .inl (E.2.2 0, 4, .inl (fun j => jI ((fun j => (((xcTo s (xc0 c) x).1 j : Nat) : Int)) j))))], [(ar1, .inl (E.2.2 0, 6, .inl (fun j => jI ((fun j => (((xcTo s (xc0 c) x).2.1 j : Nat) : Int)) j))))], w1, w2]) (Wr := [w19]) hE hk hl0 (.inl hx10) (show vwCl[9]? = some (RX10, TX10, 4) from rfl) (fc_X10_execute hls hE hN (z := zq75) hzc (a := a) (b := b) (va := ar4) (rg := ar1) (wl := ad2) (rl := ad3) (c := (xcTo s (xc0 c) x).1) (g := (xcTo s (xc0 c) x).2.1) (l1 := l1) (l2 := l2) (ws := (xcTo s (xc0 c) x).2.2.1) (rp := (xcTo s (xc0 c) x).2.2.2) (o := opAt s x) (m1 := mv) (w1 := w1) (m2 := mw) (w2 := w2) (hx10) (hob) (hok) (hw1) (hw2) (hs3) (hi3) (hok3.2.2.2) (hok3.1) (hok3.2.1) (by have : (xc0 c).2.2.1.length = 0 := rfl; omega)) (fun _ h => Or.inl h) 1 (lw_V q1415 q1417 qs22 q163 q1418) (by decide +kernel) rfl (by decide) (by omega) rfl (Nat.le_of_ble_eq_true rfl) dX10_init_98 ?_
              refine Or.inl ⟨rfl, ?_⟩
              rintro _ z2 _ ⟨l310, l410, m310, m410, w310, w410, rfl, rfl, hp10_0, hp10_1, hp10_2, hp10_3⟩ zl2
              refine f_W (W2 := [[(ar4, .inl (E.2.2 0, 4, .inl (fun j => jI ((fun j => (((xcS (opAt s x) (((xcTo s (xc0 c) x).1), ((xcTo s (xc0 c) x).2.1), ((xcTo s (xc0 c) x).2.2.1), ((xcTo s (xc0 c) x).2.2.2))).1 j : Nat) : Int)) j))))], [(ar1, .inl (E.2.2 0, 6, .inl (fun j => jI ((fun j => (((xcS (opAt s x) (((xcTo s (xc0 c) x).1), ((xcTo s (xc0 c) x).2.1), ((xcTo s (xc0 c) x).2.2.1), ((xcTo s (xc0 c) x).2.2.2))).2.1 j : Nat) : Int)) j))))], w310, w410, w19]) rfl ?_
              have hzc := hzc.tr zl2
              have h := h.up zl2
              have hv0 := zl2 _ hv0
              have hzs1 := zl2 _ hzs1
              have hals1 := hals1.up zl2
              have hops1 := hops1.up zl2
              have hx10 := zl2 _ hx10
              have hc1o4 := zl2 _ hc1o4
              have hc2o4 := zl2 _ hc2o4
              have hs3 := hs3.up zl2
              have hi3 := hi3.up zl2
              have hob := zl2 _ hob
              refine j_goto (tgt := 75) hk dX10_init_101 rfl ?_
              refine j_forget (i := 4) ?_
              refine f_W (W2 := [[(ar4, .inl (E.2.2 0, 4, .inl (fun j => jI ((fun j => (((xcTo s (xc0 c) (x + 1)).1 j : Nat) : Int)) j))))], [(ar1, .inl (E.2.2 0, 6, .inl (fun j => jI ((fun j => (((xcTo s (xc0 c) (x + 1)).2.1 j : Nat) : Int)) j))))], w310, w410, w19]) (rfl) ?_
              refine j_wide (k2 := 40 + 3 * (x + 1)) (n2 := 90 + 68 * (x + 1)) (by omega) (by omega) ?_
              exact ih75 z2 (x + 1) m310 m410 l310 l410 w310 w410 w19 (by omega) (zlq75.tr (zl2)) (by omega) (hp10_0) (hp10_1) (hp10_2) (hp10_3) (hp9_0)
        refine f_sel (W2 := [[(ar4, .inl (E.2.2 0, 4, .inl (fun j => jI ((fun j => (((xcTo s (xc0 c) 0).1 j : Nat) : Int)) j))))], [(ar1, .inl (E.2.2 0, 6, .inl (fun j => jI ((fun j => (((xcTo s (xc0 c) 0).2.1 j : Nat) : Int)) j))))], w12, w13, w15]) [1, 4, 3, 2, 0] rfl rfl ?_
        refine j_wide (k2 := 40 + 3 * 0) (n2 := 90 + 68 * 0) (by omega) (by omega) ?_
        exact loop75 _ z1 0 0 0 ([] : List Nat) ([] : List Nat) w12 w13 w15 (Nat.lt_succ_self _) (zLe.rf) (Nat.zero_le _) (hp2_0) (hp3_0) (trivial) (trivial) (hp5_0)
      · refine j_ald4 hk dX10_init_52 rfl rfl ?_
        refine f_get hE hk in_X10 (fIn.at 4 0 rfl rfl) (show vwCl[9]? = some (RX10, TX10, 4) from rfl) 1 (by decide) q1437 (Or.inl rfl) rfl dX10_init_53 ?_
        refine j_ild4 hk dX10_init_56 rfl rfl ?_
        refine j_ild4 hk dX10_init_57 rfl rfl ?_
        refine f_iast (n := 6) (f := (fun j => (((rgW k) j : Nat) : Int))) (W2 := [[(ar4, .inl (E.2.2 0, 4, .inl (fun j => jI ((fun j => ((c j : Nat) : Int)) j))))], w13, w12, [(ar1, .inl (E.2.2 0, 6, .inl (fun j => jI ((iup (fun j => (((rgW k) j : Nat) : Int)) (k + 1) ((k + 1 : Nat) : Int)) j))))], [(a, .inr (9, [.ref ar4, .ref ar1, .ref ad2, .ref ad3]))]]) hE hk 3 0 rfl rfl (k + 1) (by omega) (by omega) (by omega) rfl dX10_init_58 ?_
        refine f_W (W2 := [[(ar4, .inl (E.2.2 0, 4, .inl (fun j => jI ((fun j => ((c j : Nat) : Int)) j))))], w13, w12, [(ar1, .inl (E.2.2 0, 6, .inl (fun j => jI ((fun j => (((rgW (k + 1)) j : Nat) : Int)) j))))], [(a, .inr (9, [.ref ar4, .ref ar1, .ref ad2, .ref ad3]))]]) (by rw [show iup (fun j => (((rgW k) j : Nat) : Int)) (k + 1) ((k + 1 : Nat) : Int) = (fun j => (((rgW (k + 1)) j : Nat) : Int)) from rgW_S]) ?_
        refine j_iinc3 hk dX10_init_59 rfl ?_
        refine j_goto (tgt := 47) hk dX10_init_62 rfl ?_
        exact ih47 (k + 1) (by omega) (by omega)
  refine f_W (W2 := [[(ar4, .inl (E.2.2 0, 4, .inl (fun j => jI ((fun j => ((c j : Nat) : Int)) j))))], w13, w12, [(ar1, .inl (E.2.2 0, 6, .inl (fun j => jI ((fun j => (((rgW 0) j : Nat) : Int)) j))))], [(a, .inr (9, [.ref ar4, .ref ar1, .ref ad2, .ref ad3]))]]) (by rw [rgW_0]) ?_
  refine j_wide (k2 := 20) (n2 := 30) (by omega) (by omega) ?_
  exact loop47 _ 0 (Nat.lt_succ_self _) (Nat.zero_le _)
