/-! V, 3 -/
def oplN (s : List Op) (t : Nat) : List Nat := (List.range s.length).filter (sqP s t)
def eqvP (s : List Op) (sf lf : Nat → Int) (pre : List Nat) : Bool := vqB s (fun j => pre.getD j 0) (fun _ => -1) sf lf
/-- trying the transactions that are not placed yet -/
def vsR (s : List Op) (sf lf : Nat → Int) : Nat → Nat → List Nat → Bool
  | 0, _, pre => decide (pre.length = s.length) && eqvP s sf lf pre
  | d + 1, p, pre => if pre.length = s.length then eqvP s sf lf pre else (List.range 5).any (fun t => !p.testBit (t + 1) && (decide (0 < cN (sqP s (t + 1)) s.length) && vsR s sf lf d (p ||| 2 ^ (t + 1)) (pre ++ oplN s (t + 1))))
def un5 (p : Nat) : Nat := cN (fun j => !p.testBit (j + 1)) 5
theorem un5_lt {p t : Nat} (ht : t < 5) (h : p.testBit (t + 1) = false) : un5 (p ||| 2 ^ (t + 1)) + 1 ≤ un5 p := by
  unfold un5
  refine cN_lt (k := t) (fun j _ hj => ?_) ht ?_ ?_
  · rw [Nat.testBit_or] at hj
    cases hq : p.testBit (j + 1) with
    | false => rfl
    | true => rw [hq] at hj; cases hj
  · rw [Nat.testBit_or, Nat.testBit_two_pow]
    simp
  · rw [h]; rfl
theorem vsR_full {s : List Op} {sf lf : Nat → Int} {d p : Nat} {pre : List Nat} (h : pre.length = s.length) : vsR s sf lf d p pre = eqvP s sf lf pre := by
  cases d with
  | zero =>
    show (decide (pre.length = s.length) && _) = _
    rw [decide_eq_true h]
    rfl
  | succ d => exact if_pos h
theorem vsR_e {s : List Op} {sf lf : Nat → Int} {d p : Nat} {pre : List Nat} (h : ¬ pre.length = s.length) (hd : un5 p ≤ d) : vsR s sf lf d p pre = (List.range 5).any (fun t => !p.testBit (t + 1) && (decide (0 < cN (sqP s (t + 1)) s.length) && vsR s sf lf (d - 1) (p ||| 2 ^ (t + 1)) (pre ++ oplN s (t + 1)))) := by
  cases d with
  | zero =>
    show (decide (pre.length = s.length) && _) = _
    rw [decide_eq_false h]
    symm
    rw [Bool.false_and, List.any_eq_false]
    intro t ht hc
    have hc := (Bool.and_eq_true_iff.mp hc).1
    have := un5_lt (p := p) (List.mem_range.mp ht) (by cases hq : p.testBit (t + 1) with
      | false => rfl
      | true => rw [hq] at hc; cases hc)
    omega
  | succ d => exact if_neg h
theorem any_le {p : Nat → Bool} {i n : Nat} (h : i ≤ n) (ht : (List.range i).any p = true) : (List.range n).any p = true := by
  obtain ⟨x, hx, hp⟩ := List.any_eq_true.mp ht
  exact List.any_eq_true.mpr ⟨x, List.mem_range.mpr (by have := List.mem_range.mp hx; omega), hp⟩
theorem oplN_len {s : List Op} {t : Nat} : (oplN s t).length = cN (sqP s t) s.length := by
  unfold oplN
  have : ∀ k, ((List.range k).filter (sqP s t)).length = cN (sqP s t) k := by
    intro k
    induction k with
    | zero => rfl
    | succ k ih =>
      rw [sq_s, List.length_append, ih, cN_S]
      split <;> rfl
  exact this _
theorem oplN_lt {s : List Op} {t : Nat} : ∀ i ∈ oplN s t, i < s.length := fun i hi => List.mem_range.mp (List.mem_filter.mp hi).1
/-- what arrange writes -/
theorem agW_at {s : List Op} {t : Nat} {pre : List Nat} {q : Nat → Int} (hq : ∀ j, j < pre.length → q j = ((pre.getD j 0 : Nat) : Int)) : ∀ k j, j < (pre ++ (List.range k).filter (sqP s t)).length → agW s t pre.length q k j = (((pre ++ (List.range k).filter (sqP s t)).getD j 0 : Nat) : Int) := by
  intro k
  have hlen : ∀ k, ((List.range k).filter (sqP s t)).length = cN (sqP s t) k := by
    intro k
    induction k with
    | zero => rfl
    | succ k ih =>
      rw [sq_s, List.length_append, ih, cN_S]
      split <;> rfl
  induction k with
  | zero =>
    intro j hj
    have e : (List.range 0).filter (sqP s t) = [] := rfl
    rw [e, List.append_nil] at hj ⊢
    exact hq j hj
  | succ k ih =>
    intro j hj
    rw [agW_S]
    rw [sq_s] at hj ⊢
    by_cases h : sqP s t k = true
    · rw [if_pos h]
      rw [if_pos h] at hj ⊢
      rw [← List.append_assoc] at hj ⊢
      have hl : (pre ++ (List.range k).filter (sqP s t)).length = pre.length + cN (sqP s t) k := by rw [List.length_append, hlen]
      unfold iup
      by_cases e : j = pre.length + cN (sqP s t) k
      · rw [if_pos e, List.getD_eq_getElem?_getD, List.getElem?_append_right (by omega), show j - (pre ++ (List.range k).filter (sqP s t)).length = 0 by omega]
        rfl
      · rw [if_neg e]
        rw [List.length_append, hl] at hj
        have hj2 : j < (pre ++ (List.range k).filter (sqP s t)).length := by
          have : ([k] : List Nat).length = 1 := rfl
          omega
        rw [ih j hj2, List.getD_eq_getElem?_getD, List.getD_eq_getElem?_getD, List.getElem?_append_left hj2]
    · rw [if_neg h]
      rw [if_neg h, List.append_nil] at hj ⊢
      exact ih j hj
theorem pre_app {pre m : List Nat} {q : Nat → Int} (h : ∀ j, j < (pre ++ m).length → q j = (((pre ++ m).getD j 0 : Nat) : Int)) : ∀ j, j < pre.length → q j = ((pre.getD j 0 : Nat) : Int) := by
  intro j hj
  rw [h j (by rw [List.length_append]; omega), List.getD_eq_getElem?_getD, List.getD_eq_getElem?_getD, List.getElem?_append_left hj]
theorem agW_c {s : List Op} {t c : Nat} {pre : List Nat} {q : Nat → Int} (hc : c = pre.length) (hq : ∀ j, j < pre.length → q j = ((pre.getD j 0 : Nat) : Int)) : ∀ j, j < (pre ++ oplN s t).length → agW s t c q s.length j = (((pre ++ oplN s t).getD j 0 : Nat) : Int) := by
  subst hc
  exact agW_at hq s.length
/-- the operations of the placed transactions -/
def plN (s : List Op) (p : Nat) : Nat := cN (fun i => p.testBit (oT (opAt s i))) s.length
theorem plN_or {s : List Op} {p t : Nat} (h : p.testBit t = false) : plN s (p ||| 2 ^ t) = plN s p + cN (sqP s t) s.length ∧ plN s p + cN (sqP s t) s.length ≤ s.length := by
  unfold plN
  have : ∀ k, cN (fun i => (p ||| 2 ^ t).testBit (oT (opAt s i))) k = cN (fun i => p.testBit (oT (opAt s i))) k + cN (sqP s t) k ∧ cN (fun i => p.testBit (oT (opAt s i))) k + cN (sqP s t) k ≤ k := by
    intro k
    induction k with
    | zero => exact ⟨rfl, Nat.le_refl _⟩
    | succ k ih =>
      obtain ⟨ih1, ih2⟩ := ih
      have hb : (p ||| 2 ^ t).testBit (oT (opAt s k)) = (p.testBit (oT (opAt s k)) || decide (t = oT (opAt s k))) := by rw [Nat.testBit_or, Nat.testBit_two_pow]
      rw [cN_S, cN_S, cN_S, ih1, hb]
      by_cases e : oT (opAt s k) = t
      · have e2 : sqP s t k = true := decide_eq_true e
        rw [e, h, e2]
        simp only [Bool.false_or, decide_true, if_true, Bool.false_eq_true, if_false]
        omega
      · have e2 : sqP s t k = false := decide_eq_false e
        rw [e2, decide_eq_false (show ¬ t = oT (opAt s k) from fun q => e q.symm), Bool.or_false]
        cases p.testBit (oT (opAt s k)) <;> simp only [if_true, Bool.false_eq_true, if_false] <;> omega
  exact this _
set_option maxHeartbeats 1500000 in
/-- X9 search(II)Z -/
theorem fc_X9_search {l : Launch} {E : jE} (hls : l.stackTraces = false) (hE : jSt E) (hN : jCn E) : ∀ (d : Nat) {z : jZ} (hzc : zLe (zS E) z) {a : Nat} {p : Nat} {c : Nat} {lo : Nat} {so : Nat} {lw : Nat} {ao : Nat} {la : Nat} {sf : Nat → Int} {lf : Nat → Int} {g : Nat → Int} {q : Nat → Int} {pre : List Nat} {mo : Int} {li : List Nat} {s : List Op} (hv : z (a, .inr (8, [.ref lo, .ref so, .ref lw, .ref ao, .ref la]))) (hso : z (so, .inl (E.2.2 0, s.length, .inl (fun j => jI (sf j))))) (hlw : z (lw, .inl (E.2.2 0, 4, .inl (fun j => jI (lf j))))) (hl : alZ E z lo mo li) (hs : opsZ z li s) (hsf : ∀ i, i < s.length → -1 ≤ sf i ∧ sf i < 100) (hlf : ∀ i, i < 4 → -1 ≤ lf i ∧ lf i < 100) (hg : ∀ i, i < 4 → -1 ≤ g i ∧ g i < 100) (hp : p < 64) (hd : un5 p ≤ d) (hcl : c = pre.length) (hqp : ∀ j, j < pre.length → q j = ((pre.getD j 0 : Nat) : Int)) (hpl : ∀ i ∈ pre, i < s.length) (hpn : plN s p = pre.length) (hle : pre.length ≤ s.length), fC l E yX9_search cX9_search 6 (some .boolean) (8 * d + 12) (200 * d + 600) (0) (0) [.ref a, .int (jI ((p : Nat) : Int)), .int (jI ((c : Nat) : Int))] z [[(la, .inl (E.2.2 0, 4, .inl (fun j => jI (g j))))], [(ao, .inl (E.2.2 0, s.length, .inl (fun j => jI (q j))))]] (fun rr z2 W2 => ∃ g2 : Nat → Int, ∃ q2 : Nat → Int, rr = some (.int (jI (jB (vsR s sf lf d p pre)))) ∧ W2 = [[(la, .inl (E.2.2 0, 4, .inl (fun j => jI (g2 j))))], [(ao, .inl (E.2.2 0, s.length, .inl (fun j => jI (q2 j))))]] ∧ z = z2 ∧ (∀ j, j < pre.length → q2 j = ((pre.getD j 0 : Nat) : Int)) ∧ (∀ i, i < 4 → -1 ≤ g2 i ∧ g2 i < 100)) := by
  intro d
  induction d using Nat.strongRecOn with
  | _ d ih =>
    intro z hzc a p c lo so lw ao la sf lf g q pre mo li s hv hso hlw hl hs hsf hlf hg hp hd hcl hqp hpl hpn hle
    refine f_start (own := "ScheduleAnalyzer$ViewSearch") (vs := [some (.ref a), some (.int (jI ((p : Nat) : Int))), some (.int (jI ((c : Nat) : Int))), none, none, none]) hls (by decide +kernel) rfl rfl rfl (Nat.le_of_ble_eq_true rfl) ?_
    intro K H0 hk he hl0 hI hA
    have hlen := hs.len
    have hl33 := hl.len
    refine j_ild4 hk dX9_search_0 rfl rfl ?_
    refine j_ald4 hk dX9_search_1 rfl rfl ?_
    refine f_get hE hk in_X9 (.inl hv) (show vwCl[8]? = some (RX9, TX9, 5) from rfl) 0 (by decide) q1345 (Or.inl rfl) rfl dX9_search_2 ?_
    obtain ⟨qo1, capo1, fo1, hc1o1, hc2o1, hl1o1, hl2o1, hfo1⟩ := hl.cell hN hzc
    refine f_callF (Wc := []) (Wr := [[(la, .inl (E.2.2 0, 4, .inl (fun j => jI (g j))))], [(ao, .inl (E.2.2 0, s.length, .inl (fun j => jI (q j))))]]) hE hk hl0 (.inl hc1o1) (show vwCl[10]? = some (RJ2, TJ2, 3) from rfl) (fc_J2_size hls hE hN (z := z) hzc (a := lo) (mc := mo) (li := li) (hl)) (fun _ h => Or.inl h) 0 (lw_Fg q1328 q896 q898 q120 q900) q895 q894 q899 q897 q222 (by decide +kernel) rfl (by omega) (by omega) rfl (Nat.le_of_ble_eq_true rfl) dX9_search_5 ?_
    refine Or.inl ⟨rfl, ?_⟩
    rintro _ _ _ ⟨rfl, rfl, rfl⟩ -
    refine f_W (W2 := [[(la, .inl (E.2.2 0, 4, .inl (fun j => jI (g j))))], [(ao, .inl (E.2.2 0, s.length, .inl (fun j => jI (q j))))]]) rfl ?_
    refine j_icmp_ne hk (by omega) (by omega) dX9_search_10 rfl (tgt := 18) (fun h10 => ?_) (fun h10 => ?_)
    · refine j_iconst (n := 0) hk dX9_search_18 ?_
      refine j_ist3 hk dX9_search_19 rfl ?_
      refine j_iconst (n := 1) hk dX9_search_20 ?_
      refine j_ist4 hk dX9_search_21 rfl ?_
      have loop23 : ∀ (fuel23 : Nat) (t : Nat) (f : Bool) (g : Nat → Int) (q : Nat → Int), 5 - t < fuel23 → t ≤ 5 → f = (List.range t).any (fun t => !p.testBit (t + 1) && (decide (0 < cN (sqP s (t + 1)) s.length) && vsR s sf lf (d - 1) (p ||| 2 ^ (t + 1)) (pre ++ oplN s (t + 1)))) → (∀ j, j < pre.length → q j = ((pre.getD j 0 : Nat) : Int)) → (∀ i, i < 4 → -1 ≤ g i ∧ g i < 100) → jW K (fO K E z z [[(la, .inl (E.2.2 0, 4, .inl (fun j => jI (g j))))], [(ao, .inl (E.2.2 0, s.length, .inl (fun j => jI (q j))))]]) (0) (0) 23 [some (.ref a), some (.int (jI ((p : Nat) : Int))), some (.int (jI ((c : Nat) : Int))), some (.int (jI (jB f))), some (.int (jI ((t + 1 : Nat) : Int))), none] [] := by
        intro fuel23
        induction fuel23 with
        | zero => intro t f g q hm; exact absurd hm (Nat.not_lt_zero _)
        | succ fuel23 ih23 =>
          intro t f g q hm23 ht5 hf hqp hg
          refine j_ild4 hk dX9_search_23 rfl rfl ?_
          refine j_ifneB hk dX9_search_24 rfl (tgt := 88) (fun h24 => ?_) (fun h24 => ?_)
          · refine j_ild4 hk dX9_search_88 rfl rfl ?_
            refine f_iret hk he hA (jn_bool _) dX9_search_89 (by omega) (by omega) ?_
            exact ⟨_, _, congrArg (fun z => some (Value.int (jI (jB z)))) (by rw [vsR_e (show ¬ pre.length = s.length by omega) hd]; first | (rw [h24, any_le ht5 (by rw [← hf]; exact h24)]; done) | (rw [hf, show t = 5 by omega])), rfl, rfl, hqp, hg⟩
          · refine j_ild hk dX9_search_27 rfl ?_
            refine j_iconst (n := 5) hk dX9_search_29 ?_
            refine j_icmp_gt hk (by omega) (by omega) dX9_search_30 rfl (tgt := 88) (fun h30 => ?_) (fun h30 => ?_)
            · refine j_ild4 hk dX9_search_88 rfl rfl ?_
              refine f_iret hk he hA (jn_bool _) dX9_search_89 (by omega) (by omega) ?_
              exact ⟨_, _, congrArg (fun z => some (Value.int (jI (jB z)))) (by rw [vsR_e (show ¬ pre.length = s.length by omega) hd]; first | (rw [h24, any_le ht5 (by rw [← hf]; exact h24)]; done) | (rw [hf, show t = 5 by omega])), rfl, rfl, hqp, hg⟩
            · refine j_ild hk dX9_search_33 rfl ?_
              refine j_ild4 hk dX9_search_35 rfl rfl ?_
              refine f_callSN (Wc := []) (Wr := [[(la, .inl (E.2.2 0, 4, .inl (fun j => jI (g j))))], [(ao, .inl (E.2.2 0, s.length, .inl (fun j => jI (q j))))]]) hE hk hl0 (fc_X1_isIn hls hE hN (z := z) hzc (i := t + 1) (m := p) (by omega) (by omega)) (fun _ h => Or.inl h) 2 q1291 q115 q1369 q1290 (by decide +kernel) rfl (by omega) (by omega) rfl (Nat.le_of_ble_eq_true rfl) dX9_search_36 ?_
              refine Or.inl ⟨rfl, ?_⟩
              rintro _ _ _ ⟨rfl, rfl, rfl⟩ -
              refine f_W (W2 := [[(la, .inl (E.2.2 0, 4, .inl (fun j => jI (g j))))], [(ao, .inl (E.2.2 0, s.length, .inl (fun j => jI (q j))))]]) rfl ?_
              refine j_ifeqB hk dX9_search_39 rfl (tgt := 46) (fun h39 => ?_) (fun h39 => ?_)
              · refine j_ald4 hk dX9_search_46 rfl rfl ?_
                refine j_ild hk dX9_search_47 rfl ?_
                refine j_ild4 hk dX9_search_49 rfl rfl ?_
                have hplt := plN_or (s := s) h39
                refine f_sel (W2 := [[(ao, .inl (E.2.2 0, s.length, .inl (fun j => jI (q j))))], [(la, .inl (E.2.2 0, 4, .inl (fun j => jI (g j))))]]) [1, 0] rfl rfl ?_
                refine f_callV (Wc := [[(ao, .inl (E.2.2 0, s.length, .inl (fun j => jI (q j))))]]) (Wr := [[(la, .inl (E.2.2 0, 4, .inl (fun j => jI (g j))))]]) hE hk hl0 (.inl hv) (show vwCl[8]? = some (RX9, TX9, 5) from rfl) (fc_X9_arrange hls hE hN (z := z) hzc (a := a) (t := t + 1) (c := c) (lwv := (.ref lw)) (q := q) (lo := lo) (so := so) (ao := ao) (la := la) (mo := mo) (li := li) (s := s) (hv) (hl) (hs) (by omega) (by omega)) (fun _ h => Or.inl h) 2 (lw_V q1370 q1372 qs18 q162 q1373) (by decide +kernel) rfl (by omega) (by omega) rfl (Nat.le_of_ble_eq_true rfl) dX9_search_50 ?_
                refine Or.inl ⟨rfl, ?_⟩
                rintro _ _ _ ⟨rfl, rfl, rfl⟩ -
                refine f_W (W2 := [[(ao, .inl (E.2.2 0, s.length, .inl (fun j => jI ((agW s (t + 1) c q s.length) j))))], [(la, .inl (E.2.2 0, 4, .inl (fun j => jI (g j))))]]) rfl ?_
                refine j_ist5 hk dX9_search_53 rfl ?_
                refine j_ild hk dX9_search_55 rfl ?_
                refine j_ild4 hk dX9_search_57 rfl rfl ?_
                refine j_icmp_le hk (by omega) (by omega) dX9_search_58 rfl (tgt := 80) (fun h58 => ?_) (fun h58 => ?_)
                · refine j_iconst (n := 0) hk dX9_search_80 ?_
                  refine j_ist3 hk dX9_search_81 rfl ?_
                  refine j_iinc4 hk dX9_search_82 rfl ?_
                  refine j_goto (tgt := 23) hk dX9_search_85 rfl ?_
                  refine j_forget (i := 5) ?_
                  refine f_sel (W2 := [[(la, .inl (E.2.2 0, 4, .inl (fun j => jI (g j))))], [(ao, .inl (E.2.2 0, s.length, .inl (fun j => jI ((agW s (t + 1) c q s.length) j))))]]) [1, 0] rfl rfl ?_
                  exact ih23 (t + 1) false g (agW s (t + 1) c q s.length) (by omega) (by omega) (by rw [any_S, ← hf, h24]; rw [h39, decide_eq_false (show ¬ 0 < cN (sqP s (t + 1)) s.length by omega)]; rfl) (pre_app (agW_c (t := t + 1) hcl hqp)) (hg)
                · refine j_ald4 hk dX9_search_61 rfl rfl ?_
                  refine j_ild4 hk dX9_search_62 rfl rfl ?_
                  refine j_iconst (n := 1) hk dX9_search_63 ?_
                  refine j_ild hk dX9_search_64 rfl ?_
                  refine j_ishl (a := 1) (b := t + 1) hk (by omega) dX9_search_66 ?_
                  refine j_ior (a := p) (b := 1 * 2 ^ (t + 1)) hk dX9_search_67 ?_
                  have hplt := plN_or (s := s) h39
                  have hun5 := un5_lt (p := p) (show t < 5 by omega) h39
                  refine j_top (z2 := (((p ||| 2 ^ (t + 1)) : Nat) : Int)) (by rw [Nat.one_mul]) ?_
                  refine j_ild hk dX9_search_68 rfl ?_
                  refine f_sel (W2 := [[(la, .inl (E.2.2 0, 4, .inl (fun j => jI (g j))))], [(ao, .inl (E.2.2 0, s.length, .inl (fun j => jI ((agW s (t + 1) c q s.length) j))))]]) [1, 0] rfl rfl ?_
                  refine f_callV (Wc := [[(la, .inl (E.2.2 0, 4, .inl (fun j => jI (g j))))], [(ao, .inl (E.2.2 0, s.length, .inl (fun j => jI ((agW s (t + 1) c q s.length) j))))]]) (Wr := []) hE hk hl0 (.inl hv) (show vwCl[8]? = some (RX9, TX9, 5) from rfl) (ih (d - 1) (by omega) (z := z) hzc (a := a) (p := (p ||| 2 ^ (t + 1))) (c := c + cN (sqP s (t + 1)) s.length) (q := (agW s (t + 1) c q s.length)) (g := g) (pre := (pre ++ oplN s (t + 1))) (lo := lo) (so := so) (lw := lw) (ao := ao) (la := la) (sf := sf) (lf := lf) (mo := mo) (li := li) (s := s) (hv) (hso) (hlw) (hl) (hs) (hsf) (hlf) (hg) (Nat.or_lt_two_pow (n := 6) hp (Nat.pow_lt_pow_right (by decide) (by omega))) (by omega) (by rw [List.length_append, oplN_len, hcl]) (agW_c hcl hqp) (fun i hi => (by rcases List.mem_append.mp hi with q9 | q9; exact hpl i q9; exact oplN_lt i q9)) (by rw [hplt.1, hpn, List.length_append, oplN_len]) (by rw [List.length_append, oplN_len, ← hpn]; exact hplt.2)) (fun _ h => Or.inl h) 2 (lw_V q1374 q1362 q1363 q162 q1364) (by decide +kernel) rfl (by omega) (by omega) rfl (Nat.le_of_ble_eq_true rfl) dX9_search_70 ?_
                  refine Or.inl ⟨rfl, ?_⟩
                  rintro _ _ _ ⟨g25, q25, rfl, rfl, rfl, hp5_0, hp5_1⟩ -
                  refine f_W (W2 := [[(la, .inl (E.2.2 0, 4, .inl (fun j => jI (g25 j))))], [(ao, .inl (E.2.2 0, s.length, .inl (fun j => jI (q25 j))))]]) rfl ?_
                  refine j_ifeqB hk dX9_search_73 rfl (tgt := 80) (fun h73 => ?_) (fun h73 => ?_)
                  · refine j_iconst (n := 0) hk dX9_search_80 ?_
                    refine j_ist3 hk dX9_search_81 rfl ?_
                    refine j_iinc4 hk dX9_search_82 rfl ?_
                    refine j_goto (tgt := 23) hk dX9_search_85 rfl ?_
                    refine j_forget (i := 5) ?_
                    exact ih23 (t + 1) false g25 q25 (by omega) (by omega) (by rw [any_S, ← hf, h24]; rw [h39, decide_eq_true (show 0 < cN (sqP s (t + 1)) s.length by omega), h73]; rfl) (pre_app hp5_0) (hp5_1)
                  · refine j_iconst (n := 1) hk dX9_search_76 ?_
                    refine j_goto (tgt := 81) hk dX9_search_77 rfl ?_
                    refine j_ist3 hk dX9_search_81 rfl ?_
                    refine j_iinc4 hk dX9_search_82 rfl ?_
                    refine j_goto (tgt := 23) hk dX9_search_85 rfl ?_
                    refine j_forget (i := 5) ?_
                    exact ih23 (t + 1) true g25 q25 (by omega) (by omega) (by rw [any_S, ← hf, h24]; rw [h39, decide_eq_true (show 0 < cN (sqP s (t + 1)) s.length by omega), h73]; rfl) (pre_app hp5_0) (hp5_1)
              · refine j_ild4 hk dX9_search_42 rfl rfl ?_
                refine j_goto (tgt := 53) hk dX9_search_43 rfl ?_
                refine j_ist5 hk dX9_search_53 rfl ?_
                refine j_ild hk dX9_search_55 rfl ?_
                refine j_ild4 hk dX9_search_57 rfl rfl ?_
                refine j_icmp_le hk (by omega) (by omega) dX9_search_58 rfl (tgt := 80) (fun h58 => ?_) (fun h58 => ?_)
                · refine j_iconst (n := 0) hk dX9_search_80 ?_
                  refine j_ist3 hk dX9_search_81 rfl ?_
                  refine j_iinc4 hk dX9_search_82 rfl ?_
                  refine j_goto (tgt := 23) hk dX9_search_85 rfl ?_
                  refine j_forget (i := 5) ?_
                  exact ih23 (t + 1) false g q (by omega) (by omega) (by rw [any_S, ← hf, h24]; rw [h39]; rfl) (hqp) (hg)
                · exfalso; omega
      exact loop23 _ 0 false g q (Nat.lt_succ_self _) (Nat.zero_le _) (rfl) (hqp) (hg)
    · refine f_ext (g := fun j => jI ((fun j => (((fun j => pre.getD j 0) j : Nat) : Int)) j)) (W2 := [[(la, .inl (E.2.2 0, 4, .inl (fun j => jI (g j))))], [(ao, .inl (E.2.2 0, s.length, .inl (fun j => jI ((fun j => (((fun j => pre.getD j 0) j : Nat) : Int)) j))))]]) 1 0 rfl rfl (fun k9 hk9 => by rw [hqp k9 (by omega)]) rfl ?_
      refine j_ald4 hk dX9_search_13 rfl rfl ?_
      refine f_callV (Wc := [[(la, .inl (E.2.2 0, 4, .inl (fun j => jI (g j))))], [(ao, .inl (E.2.2 0, s.length, .inl (fun j => jI ((fun j => (((fun j => pre.getD j 0) j : Nat) : Int)) j))))]]) (Wr := []) hE hk hl0 (.inl hv) (show vwCl[8]? = some (RX9, TX9, 5) from rfl) (fc_X9_isEquivalent hls hE hN (z := z) hzc (a := a) (q := (fun j => pre.getD j 0)) (g := g) (lo := lo) (so := so) (lw := lw) (ao := ao) (la := la) (sf := sf) (lf := lf) (mo := mo) (li := li) (s := s) (hv) (hso) (hlw) (hl) (hs) (fun i hi => hpl _ (by show pre.getD i 0 ∈ pre; rw [List.getD_eq_getElem?_getD, List.getElem?_eq_getElem (show i < pre.length by omega)]; exact List.getElem_mem _)) (hsf) (hlf)) (fun _ h => Or.inl h) 0 (lw_V q1365 q1367 qs17 q162 q1368) (by decide +kernel) rfl (by omega) (by omega) rfl (Nat.le_of_ble_eq_true rfl) dX9_search_14 ?_
      refine Or.inl ⟨rfl, ?_⟩
      rintro _ _ _ ⟨g26, rfl, rfl, rfl, hp6_0⟩ -
      refine f_W (W2 := [[(la, .inl (E.2.2 0, 4, .inl (fun j => jI (g26 j))))], [(ao, .inl (E.2.2 0, s.length, .inl (fun j => jI ((fun j => (((fun j => pre.getD j 0) j : Nat) : Int)) j))))]]) rfl ?_
      refine f_iret hk he hA (jn_bool _) dX9_search_17 (by omega) (by omega) ?_
      exact ⟨_, _, congrArg (fun z => some (Value.int (jI (jB z)))) (by rw [vsR_full (by omega)]; rfl), rfl, rfl, fun j hj => rfl, hp6_0⟩
