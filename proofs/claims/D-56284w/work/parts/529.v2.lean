/-! V, 2 -/
/-- the latest writes behind the first arranged operations -/
def flS (s : List Op) (q : Nat → Nat) (g : Nat → Int) : Nat → (Nat → Int)
  | 0 => g
  | j + 1 => flW s (flS s q g j) (q j)
theorem flW_r {s : List Op} {g : Nat → Int} {k : Nat} (hk : k < 100) (hg : ∀ i, i < 4 → -1 ≤ g i ∧ g i < 100) : ∀ i, i < 4 → -1 ≤ flW s g k i ∧ flW s g k i < 100 := by
  intro i hi
  unfold flW
  split
  · unfold iup
    split
    · omega
    · exact hg i hi
  · exact hg i hi
theorem flS_r {s : List Op} {q : Nat → Nat} {g : Nat → Int} (hg : ∀ i, i < 4 → -1 ≤ g i ∧ g i < 100) : ∀ {j}, (∀ i, i < j → q i < 100) → ∀ i, i < 4 → -1 ≤ flS s q g j i ∧ flS s q g j i < 100 := by
  intro j
  induction j with
  | zero => exact fun _ => hg
  | succ j ih => exact fun h => flW_r (h j (by omega)) (ih (fun i hi => h i (by omega)))
theorem fgN_r {g : Nat → Int} : ∀ i, i < 4 → -1 ≤ fgN g 4 i ∧ fgN g 4 i < 100 := fun i hi => by
  unfold fgN
  rw [if_pos hi]
  omega
/-- the sources and the last writes are the schedule's -/
def vqB (s : List Op) (q : Nat → Nat) (g sf lf : Nat → Int) : Bool := (List.range s.length).all (fun j => decide (flR s (flS s q g j) (q j) = sf (q j))) && (List.range 4).all (fun i => decide (flS s q g s.length i = lf i))
theorem flS_g {s : List Op} (hs : ∀ i, i < s.length → opOK (opAt s i)) {q : Nat → Nat} {g h : Nat → Int} (e : ∀ i, i < 4 → g i = h i) : ∀ {j}, (∀ i, i < j → q i < s.length) → ∀ i, i < 4 → flS s q g j i = flS s q h j i := by
  intro j
  induction j with
  | zero => exact fun _ => e
  | succ j ih =>
    intro hq i hi
    have h0 := ih (fun i hi => hq i (by omega)) i hi
    show flW s _ _ i = flW s _ _ i
    unfold flW
    split
    · unfold iup
      split
      · rfl
      · exact h0
    · exact h0
theorem vqB_g {s : List Op} (hs : ∀ i, i < s.length → opOK (opAt s i)) {q : Nat → Nat} (hq : ∀ i, i < s.length → q i < s.length) {g h sf lf : Nat → Int} (e : ∀ i, i < 4 → g i = h i) : vqB s q g sf lf = vqB s q h sf lf := by
  unfold vqB
  congr 1
  · rw [Bool.eq_iff_iff, List.all_eq_true, List.all_eq_true]
    have key : ∀ j, j < s.length → flR s (flS s q g j) (q j) = flR s (flS s q h j) (q j) := fun j hj => by
      unfold flR
      have := hs (q j) (hq j hj)
      rw [flS_g hs e (fun i hi => hq i (by omega)) (oI (opAt s (q j))) this.2.2.2.1]
    constructor
    · intro p x hx
      rw [← key x (List.mem_range.mp hx)]
      exact p x hx
    · intro p x hx
      rw [key x (List.mem_range.mp hx)]
      exact p x hx
  · rw [Bool.eq_iff_iff, List.all_eq_true, List.all_eq_true]
    constructor
    · intro p x hx
      rw [← flS_g hs e hq x (List.mem_range.mp hx)]
      exact p x hx
    · intro p x hx
      rw [flS_g hs e hq x (List.mem_range.mp hx)]
      exact p x hx
set_option maxHeartbeats 1500000 in
/-- X9 arrange(II)I -/
theorem fc_X9_arrange {l : Launch} {E : jE} (hls : l.stackTraces = false) (hE : jSt E) (hN : jCn E) {z : jZ} (hzc : zLe (zS E) z) {a : Nat} {t : Nat} {c : Nat} {lo : Nat} {so : Nat} {lwv : Value} {ao : Nat} {la : Nat} {mo : Int} {li : List Nat} {s : List Op} {q : Nat → Int} (hv : z (a, .inr (8, [.ref lo, .ref so, lwv, .ref ao, .ref la]))) (hl : alZ E z lo mo li) (hs : opsZ z li s) (hc : c + cN (sqP s t) s.length ≤ s.length) (ht : t < 1000) : fC l E yX9_arrange cX9_arrange 5 (some .int) 4 76 (0) (0) [.ref a, .int (jI ((t : Nat) : Int)), .int (jI ((c : Nat) : Int))] z [[(ao, .inl (E.2.2 0, s.length, .inl (fun j => jI (q j))))]] (fun rr z2 W2 => rr = some (.int (jI ((c + cN (sqP s t) s.length : Nat) : Int))) ∧ W2 = [[(ao, .inl (E.2.2 0, s.length, .inl (fun j => jI ((agW s t c q s.length) j))))]] ∧ z = z2) := by
  refine f_start (own := "ScheduleAnalyzer$ViewSearch") (vs := [some (.ref a), some (.int (jI ((t : Nat) : Int))), some (.int (jI ((c : Nat) : Int))), none, none]) hls (by decide +kernel) rfl rfl rfl (Nat.le_of_ble_eq_true rfl) ?_
  intro K H0 hk he hl0 hI hA
  have hlen := hs.len
  have hl33 := hl.len
  refine j_ild4 hk dX9_arrange_0 rfl rfl ?_
  refine j_ist3 hk dX9_arrange_1 rfl ?_
  refine j_iconst (n := 0) hk dX9_arrange_2 ?_
  refine j_ist4 hk dX9_arrange_3 rfl ?_
  have loop5 : ∀ (fuel5 : Nat) (k : Nat), s.length - k < fuel5 → k ≤ s.length → jW K (fO K E z z [[(ao, .inl (E.2.2 0, s.length, .inl (fun j => jI ((agW s t c q k) j))))]]) (0) (0) 5 [some (.ref a), some (.int (jI ((t : Nat) : Int))), some (.int (jI ((c : Nat) : Int))), some (.int (jI ((c + cN (sqP s t) k : Nat) : Int))), some (.int (jI ((k : Nat) : Int)))] [] := by
    intro fuel5
    induction fuel5 with
    | zero => intro k hm; exact absurd hm (Nat.not_lt_zero _)
    | succ fuel5 ih5 =>
      intro k hm5 hkn
      refine j_ild hk dX9_arrange_5 rfl ?_
      refine j_ald4 hk dX9_arrange_7 rfl rfl ?_
      refine f_get hE hk in_X9 (.inl hv) (show vwCl[8]? = some (RX9, TX9, 5) from rfl) 0 (by decide) q1345 (Or.inl rfl) rfl dX9_arrange_8 ?_
      obtain ⟨qo1, capo1, fo1, hc1o1, hc2o1, hl1o1, hl2o1, hfo1⟩ := hl.cell hN hzc
      refine f_callF (Wc := []) (Wr := [[(ao, .inl (E.2.2 0, s.length, .inl (fun j => jI ((agW s t c q k) j))))]]) hE hk hl0 (.inl hc1o1) (show vwCl[10]? = some (RJ2, TJ2, 3) from rfl) (fc_J2_size hls hE hN (z := z) hzc (a := lo) (mc := mo) (li := li) (hl)) (fun _ h => Or.inl h) 0 (lw_Fg q1328 q896 q898 q120 q900) q895 q894 q899 q897 q222 (by decide +kernel) rfl (by decide) (by omega) rfl (Nat.le_of_ble_eq_true rfl) dX9_arrange_11 ?_
      refine Or.inl ⟨rfl, ?_⟩
      rintro _ _ _ ⟨rfl, rfl, rfl⟩ -
      refine f_W (W2 := [[(ao, .inl (E.2.2 0, s.length, .inl (fun j => jI ((agW s t c q k) j))))]]) rfl ?_
      refine j_icmp_ge hk (by omega) (by omega) dX9_arrange_16 rfl (tgt := 57) (fun h16 => ?_) (fun h16 => ?_)
      · have hkk : k = s.length := by omega
        refine j_ild4 hk dX9_arrange_57 rfl rfl ?_
        refine f_iret hk he hA rfl dX9_arrange_58 (by omega) (by omega) ?_
        subst hkk
        exact ⟨congrArg (fun z => some (Value.int (jI z))) (rfl), rfl, rfl⟩
      · refine j_ald4 hk dX9_arrange_19 rfl rfl ?_
        refine f_get hE hk in_X9 (.inl hv) (show vwCl[8]? = some (RX9, TX9, 5) from rfl) 0 (by decide) q1345 (Or.inl rfl) rfl dX9_arrange_20 ?_
        refine j_ild hk dX9_arrange_23 rfl ?_
        obtain ⟨b, hb, hob, hok⟩ := hs.at (i := k) (by omega)
        obtain ⟨o1, o2, o3, o4, o5⟩ := id hok
        have lk := letK_c hok
        refine f_callF (Wc := []) (Wr := [[(ao, .inl (E.2.2 0, s.length, .inl (fun j => jI ((agW s t c q k) j))))]]) hE hk hl0 (.inl hc1o1) (show vwCl[10]? = some (RJ2, TJ2, 3) from rfl) (fc_J2_get hls hE hN (z := z) hzc (a := lo) (i := k) (mc := mo) (li := li) (b := b) (hl) (hb)) (fun _ h => Or.inl h) 1 (lw_Fg q1338 q393 q395 q120 q397) q392 q391 q396 q394 q222 (by decide +kernel) rfl (by decide) (by omega) rfl (Nat.le_of_ble_eq_true rfl) dX9_arrange_25 ?_
        refine Or.inl ⟨rfl, ?_⟩
        rintro _ _ _ ⟨rfl, rfl, rfl⟩ -
        refine f_W (W2 := [[(ao, .inl (E.2.2 0, s.length, .inl (fun j => jI ((agW s t c q k) j))))]]) rfl ?_
        refine f_castS hE hk (.inl hob) (show vwCl[5]? = some (RX6, TX6, 3) from rfl) q1339 dX9_arrange_30 ?_
        refine f_getN hE hk in_X6 (.inl hob) (show vwCl[5]? = some (RX6, TX6, 3) from rfl) 1 (by decide) q1666 rfl rfl dX9_arrange_33 ?_
        refine j_ild4 hk dX9_arrange_36 rfl rfl ?_
        refine j_icmp_ne hk (by omega) (by omega) dX9_arrange_37 rfl (tgt := 51) (fun h37 => ?_) (fun h37 => ?_)
        · refine f_W (W2 := [[(ao, .inl (E.2.2 0, s.length, .inl (fun j => jI ((agW s t c q (k + 1)) j))))]]) (by rw [show (agW s t c q k) = (agW s t c q (k + 1)) from by rw [agW_S, if_neg (by unfold sqP; rw [decide_eq_false (show ¬ oT (opAt s k) = t by omega)]; decide)]]) ?_
          refine j_iinc4 hk dX9_arrange_51 rfl ?_
          refine j_loc (i := 3) (z2 := ((c + cN (sqP s t) (k + 1) : Nat) : Int)) rfl (by rw [cN_S]; first | (rw [if_pos (show sqP s t k = true from decide_eq_true (by omega))]; omega) | (rw [if_neg (show ¬ sqP s t k = true by unfold sqP; rw [decide_eq_false (by omega)]; decide)]; omega)) ?_
          refine j_goto (tgt := 5) hk dX9_arrange_54 rfl ?_
          exact ih5 (k + 1) (by omega) (by omega)
        · refine j_ald4 hk dX9_arrange_40 rfl rfl ?_
          refine f_get hE hk in_X9 (.inl hv) (show vwCl[8]? = some (RX9, TX9, 5) from rfl) 3 (by decide) q1348 (Or.inl rfl) rfl dX9_arrange_41 ?_
          refine j_ild4 hk dX9_arrange_44 rfl rfl ?_
          refine j_ild hk dX9_arrange_45 rfl ?_
          have hup := cN_up (p := sqP s t) (show k < s.length by omega) (decide_eq_true (show oT (opAt s k) = t by omega))
          refine f_iast (n := s.length) (f := (agW s t c q k)) (W2 := [[(ao, .inl (E.2.2 0, s.length, .inl (fun j => jI ((iup (agW s t c q k) (c + cN (sqP s t) k) ((k : Nat) : Int)) j))))]]) hE hk 0 0 rfl rfl (c + cN (sqP s t) k) (by omega) (by omega) (by omega) rfl dX9_arrange_47 ?_
          refine j_iinc3 hk dX9_arrange_48 rfl ?_
          refine f_W (W2 := [[(ao, .inl (E.2.2 0, s.length, .inl (fun j => jI ((agW s t c q (k + 1)) j))))]]) (by rw [show iup (agW s t c q k) (c + cN (sqP s t) k) ((k : Nat) : Int) = (agW s t c q (k + 1)) from by rw [agW_S, if_pos (show sqP s t k = true from decide_eq_true (show oT (opAt s k) = t by omega))]]) ?_
          refine j_iinc4 hk dX9_arrange_51 rfl ?_
          refine j_loc (i := 3) (z2 := ((c + cN (sqP s t) (k + 1) : Nat) : Int)) rfl (by rw [cN_S]; first | (rw [if_pos (show sqP s t k = true from decide_eq_true (by omega))]; omega) | (rw [if_neg (show ¬ sqP s t k = true by unfold sqP; rw [decide_eq_false (by omega)]; decide)]; omega)) ?_
          refine j_goto (tgt := 5) hk dX9_arrange_54 rfl ?_
          exact ih5 (k + 1) (by omega) (by omega)
  refine f_W (W2 := [[(ao, .inl (E.2.2 0, s.length, .inl (fun j => jI ((agW s t c q 0) j))))]]) (rfl) ?_
  exact loop5 _ 0 (Nat.lt_succ_self _) (Nat.zero_le _)
set_option maxHeartbeats 1500000 in
/-- X9 isEquivalent()Z -/
theorem fc_X9_isEquivalent {l : Launch} {E : jE} (hls : l.stackTraces = false) (hE : jSt E) (hN : jCn E) {z : jZ} (hzc : zLe (zS E) z) {a : Nat} {lo : Nat} {so : Nat} {lw : Nat} {ao : Nat} {la : Nat} {sf : Nat → Int} {lf : Nat → Int} {q : Nat → Nat} {g : Nat → Int} {mo : Int} {li : List Nat} {s : List Op} (hv : z (a, .inr (8, [.ref lo, .ref so, .ref lw, .ref ao, .ref la]))) (hso : z (so, .inl (E.2.2 0, s.length, .inl (fun j => jI (sf j))))) (hlw : z (lw, .inl (E.2.2 0, 4, .inl (fun j => jI (lf j))))) (hl : alZ E z lo mo li) (hs : opsZ z li s) (hq : ∀ i, i < s.length → q i < s.length) (hsf : ∀ i, i < s.length → -1 ≤ sf i ∧ sf i < 100) (hlf : ∀ i, i < 4 → -1 ≤ lf i ∧ lf i < 100) : fC l E yX9_isEquivalent cX9_isEquivalent 6 (some .boolean) 5 100 (0) (0) [.ref a] z [[(la, .inl (E.2.2 0, 4, .inl (fun j => jI (g j))))], [(ao, .inl (E.2.2 0, s.length, .inl (fun j => jI ((fun j => ((q j : Nat) : Int)) j))))]] (fun rr z2 W2 => ∃ g2 : Nat → Int, rr = some (.int (jI (jB (vqB s q (fun _ => -1) sf lf)))) ∧ W2 = [[(la, .inl (E.2.2 0, 4, .inl (fun j => jI (g2 j))))], [(ao, .inl (E.2.2 0, s.length, .inl (fun j => jI ((fun j => ((q j : Nat) : Int)) j))))]] ∧ z = z2 ∧ (∀ i, i < 4 → -1 ≤ g2 i ∧ g2 i < 100)) := by
  refine f_start (own := "ScheduleAnalyzer$ViewSearch") (vs := [some (.ref a), none, none, none, none, none]) hls (by decide +kernel) rfl rfl rfl (Nat.le_of_ble_eq_true rfl) ?_
  intro K H0 hk he hl0 hI hA
  have hlen := hs.len
  have hl33 := hl.len
  refine j_iconst (n := 1) hk dX9_isEquivalent_0 ?_
  refine j_ist1 hk dX9_isEquivalent_1 rfl ?_
  refine j_ald4 hk dX9_isEquivalent_2 rfl rfl ?_
  refine f_callV (Wc := [[(la, .inl (E.2.2 0, 4, .inl (fun j => jI (g j))))]]) (Wr := [[(ao, .inl (E.2.2 0, s.length, .inl (fun j => jI ((fun j => ((q j : Nat) : Int)) j))))]]) hE hk hl0 (.inl hv) (show vwCl[8]? = some (RX9, TX9, 5) from rfl) (fc_X9_forget hls hE hN (z := z) hzc (a := a) (lwv := (.ref lw)) (g := g) (lo := lo) (so := so) (ao := ao) (la := la) (hv)) (fun _ h => Or.inl h) 0 (lw_V q1329 q1331 qs15 q162 q1332) (by decide +kernel) rfl (by decide) (by omega) rfl (Nat.le_of_ble_eq_true rfl) dX9_isEquivalent_3 ?_
  refine Or.inl ⟨rfl, ?_⟩
  rintro _ _ _ ⟨rfl, rfl, rfl⟩ -
  refine f_W (W2 := [[(la, .inl (E.2.2 0, 4, .inl (fun j => jI ((fgN g 4) j))))], [(ao, .inl (E.2.2 0, s.length, .inl (fun j => jI ((fun j => ((q j : Nat) : Int)) j))))]]) rfl ?_
  refine j_ald4 hk dX9_isEquivalent_6 rfl rfl ?_
  refine f_get hE hk in_X9 (.inl hv) (show vwCl[8]? = some (RX9, TX9, 5) from rfl) 3 (by decide) q1348 (Or.inl rfl) rfl dX9_isEquivalent_7 ?_
  refine j_ast2 hk dX9_isEquivalent_10 rfl ?_
  refine j_ald4 hk dX9_isEquivalent_11 rfl rfl ?_
  refine f_alen (n := s.length) (t := 0) (f := .inl (fun j => jI ((fun j => ((q j : Nat) : Int)) j))) hE hk rfl (fIn.at 1 0 rfl rfl) dX9_isEquivalent_12 ?_
  refine j_ist3 hk dX9_isEquivalent_13 rfl ?_
  refine j_iconst (n := 0) hk dX9_isEquivalent_14 ?_
  refine j_ist4 hk dX9_isEquivalent_15 rfl ?_
  have loop17 : ∀ (fuel17 : Nat) (x : Nat), s.length - x < fuel17 → x ≤ s.length → jW K (fO K E z z [[(la, .inl (E.2.2 0, 4, .inl (fun j => jI ((flS s q (fgN g 4) x) j))))], [(ao, .inl (E.2.2 0, s.length, .inl (fun j => jI ((fun j => ((q j : Nat) : Int)) j))))]]) (0) (0) 17 [some (.ref a), some (.int (jI (jB ((List.range x).all (fun j => decide (flR s (flS s q (fgN g 4) j) (q j) = sf (q j))))))), some (.ref ao), some (.int (jI ((s.length : Nat) : Int))), some (.int (jI ((x : Nat) : Int))), none] [] := by
    intro fuel17
    induction fuel17 with
    | zero => intro x hm; exact absurd hm (Nat.not_lt_zero _)
    | succ fuel17 ih17 =>
      intro x hm17 hjn
      refine j_ild hk dX9_isEquivalent_17 rfl ?_
      refine j_ild4 hk dX9_isEquivalent_19 rfl rfl ?_
      refine j_icmp_ge hk (by omega) (by omega) dX9_isEquivalent_20 rfl (tgt := 59) (fun h20 => ?_) (fun h20 => ?_)
      · have hjj : x = s.length := by omega
        have hgr := flS_r (s := s) (q := q) (g := fgN g 4) fgN_r (j := s.length) (fun i hi => by have := hq i (by omega); omega)
        refine j_loc (i := 1) (z2 := jB ((List.range s.length).all (fun j => decide (flR s (flS s q (fgN g 4) j) (q j) = sf (q j))) && (List.range 0).all (fun i => decide ((flS s q (fgN g 4) s.length) i = lf i)))) rfl (by rw [show x = s.length by omega]; simp) ?_
        refine j_iconst (n := 0) hk dX9_isEquivalent_59 ?_
        refine j_ist2 hk dX9_isEquivalent_60 rfl ?_
        refine j_forget (i := 3) ?_
        refine j_forget (i := 4) ?_
        have loop61 : ∀ (fuel61 : Nat) (i : Nat), 4 - i < fuel61 → i ≤ 4 → jW K (fO K E z z [[(la, .inl (E.2.2 0, 4, .inl (fun j => jI ((flS s q (fgN g 4) s.length) j))))], [(ao, .inl (E.2.2 0, s.length, .inl (fun j => jI ((fun j => ((q j : Nat) : Int)) j))))]]) (0) (0) 61 [some (.ref a), some (.int (jI (jB ((List.range s.length).all (fun j => decide (flR s (flS s q (fgN g 4) j) (q j) = sf (q j))) && (List.range i).all (fun i => decide ((flS s q (fgN g 4) s.length) i = lf i)))))), some (.int (jI ((i : Nat) : Int))), none, none, none] [] := by
          intro fuel61
          induction fuel61 with
          | zero => intro i hm; exact absurd hm (Nat.not_lt_zero _)
          | succ fuel61 ih61 =>
            intro i hm61 hi4
            refine j_ild4 hk dX9_isEquivalent_61 rfl rfl ?_
            refine j_iconst (n := 4) hk dX9_isEquivalent_62 ?_
            refine j_icmp_ge hk (by omega) (by omega) dX9_isEquivalent_63 rfl (tgt := 95) (fun h63 => ?_) (fun h63 => ?_)
            · refine j_ild4 hk dX9_isEquivalent_95 rfl rfl ?_
              refine f_iret hk he hA (jn_bool _) dX9_isEquivalent_96 (by omega) (by omega) ?_
              exact ⟨_, congrArg (fun z => some (Value.int (jI z))) (by rw [show vqB s q (fun _ => -1) sf lf = vqB s q (fgN g 4) sf lf from vqB_g hs.okAt hq (fun i hi => by unfold fgN; rw [if_pos hi]), show i = 4 by omega]; rfl), rfl, rfl, hgr⟩
            · have hgi := hgr i (by omega)
              have hli := hlf i (by omega)
              refine j_ild4 hk dX9_isEquivalent_66 rfl rfl ?_
              refine j_ald4 hk dX9_isEquivalent_67 rfl rfl ?_
              refine f_get hE hk in_X9 (.inl hv) (show vwCl[8]? = some (RX9, TX9, 5) from rfl) 4 (by decide) q1349 (Or.inl rfl) rfl dX9_isEquivalent_68 ?_
              refine j_ild4 hk dX9_isEquivalent_71 rfl rfl ?_
              refine f_iald (n := 4) (f := (flS s q (fgN g 4) s.length)) hE hk (fIn.at 0 0 rfl rfl) (i) (by omega) (by omega) (by omega) dX9_isEquivalent_72 ?_
              refine j_ald4 hk dX9_isEquivalent_73 rfl rfl ?_
              refine f_get hE hk in_X9 (.inl hv) (show vwCl[8]? = some (RX9, TX9, 5) from rfl) 2 (by decide) q1347 (Or.inl rfl) rfl dX9_isEquivalent_74 ?_
              refine j_ild4 hk dX9_isEquivalent_77 rfl rfl ?_
              refine f_iald (n := 4) (f := lf) hE hk (.inl hlw) (i) (by omega) (by omega) (by omega) dX9_isEquivalent_78 ?_
              refine j_icmp_ne hk (by omega) (by omega) dX9_isEquivalent_79 rfl (tgt := 86) (fun h79 => ?_) (fun h79 => ?_)
              · refine j_iconst (n := 0) hk dX9_isEquivalent_86 ?_
                refine j_top (z2 := jB (decide ((flS s q (fgN g 4) s.length) i = lf i))) (by first | (rw [decide_eq_true (by assumption)]; rfl) | (rw [decide_eq_false (by assumption)]; rfl)) ?_
                refine j_iandB hk dX9_isEquivalent_87 ?_
                refine j_ist1 hk dX9_isEquivalent_88 rfl ?_
                refine j_iinc2 hk dX9_isEquivalent_89 rfl ?_
                refine j_loc (i := 1) (z2 := jB ((List.range s.length).all (fun j => decide (flR s (flS s q (fgN g 4) j) (q j) = sf (q j))) && (List.range (i + 1)).all (fun i => decide ((flS s q (fgN g 4) s.length) i = lf i)))) rfl (by rw [all_S, Bool.and_assoc]) ?_
                refine j_goto (tgt := 61) hk dX9_isEquivalent_92 rfl ?_
                exact ih61 (i + 1) (by omega) (by omega)
              · refine j_iconst (n := 1) hk dX9_isEquivalent_82 ?_
                refine j_goto (tgt := 87) hk dX9_isEquivalent_83 rfl ?_
                refine j_top (z2 := jB (decide ((flS s q (fgN g 4) s.length) i = lf i))) (by first | (rw [decide_eq_true (by assumption)]; rfl) | (rw [decide_eq_false (by assumption)]; rfl)) ?_
                refine j_iandB hk dX9_isEquivalent_87 ?_
                refine j_ist1 hk dX9_isEquivalent_88 rfl ?_
                refine j_iinc2 hk dX9_isEquivalent_89 rfl ?_
                refine j_loc (i := 1) (z2 := jB ((List.range s.length).all (fun j => decide (flR s (flS s q (fgN g 4) j) (q j) = sf (q j))) && (List.range (i + 1)).all (fun i => decide ((flS s q (fgN g 4) s.length) i = lf i)))) rfl (by rw [all_S, Bool.and_assoc]) ?_
                refine j_goto (tgt := 61) hk dX9_isEquivalent_92 rfl ?_
                exact ih61 (i + 1) (by omega) (by omega)
        refine f_W (W2 := [[(la, .inl (E.2.2 0, 4, .inl (fun j => jI ((flS s q (fgN g 4) s.length) j))))], [(ao, .inl (E.2.2 0, s.length, .inl (fun j => jI ((fun j => ((q j : Nat) : Int)) j))))]]) (by rw [show x = s.length by omega]) ?_
        exact loop61 _ 0 (Nat.lt_succ_self _) (Nat.zero_le _)
      · have hqj := hq x (by omega)
        have hgr := flS_r (s := s) (q := q) (g := fgN g 4) fgN_r (j := x) (fun i hi => by have := hq i (by omega); omega)
        have hsj := hsf (q x) hqj
        refine j_ald4 hk dX9_isEquivalent_23 rfl rfl ?_
        refine j_ild hk dX9_isEquivalent_24 rfl ?_
        refine f_iald (n := s.length) (f := (fun j => ((q j : Nat) : Int))) hE hk (fIn.at 1 0 rfl rfl) (x) (by omega) (by omega) (by omega) dX9_isEquivalent_26 ?_
        refine j_ist5 hk dX9_isEquivalent_27 rfl ?_
        refine j_ild4 hk dX9_isEquivalent_29 rfl rfl ?_
        refine j_ald4 hk dX9_isEquivalent_30 rfl rfl ?_
        refine j_ild hk dX9_isEquivalent_31 rfl ?_
        refine f_callV (Wc := [[(la, .inl (E.2.2 0, 4, .inl (fun j => jI ((flS s q (fgN g 4) x) j))))]]) (Wr := [[(ao, .inl (E.2.2 0, s.length, .inl (fun j => jI ((fun j => ((q j : Nat) : Int)) j))))]]) hE hk hl0 (.inl hv) (show vwCl[8]? = some (RX9, TX9, 5) from rfl) (fc_X9_follow hls hE hN (z := z) hzc (a := a) (k := q x) (lwv := (.ref lw)) (g := (flS s q (fgN g 4) x)) (lo := lo) (so := so) (ao := ao) (la := la) (mo := mo) (li := li) (s := s) (hv) (hl) (hs) (hqj) (hgr)) (fun _ h => Or.inl h) 1 (lw_V q1333 q1335 qs16 q162 q1336) (by decide +kernel) rfl (by decide) (by omega) rfl (Nat.le_of_ble_eq_true rfl) dX9_isEquivalent_33 ?_
        refine Or.inl ⟨rfl, ?_⟩
        rintro _ _ _ ⟨rfl, rfl, rfl⟩ -
        refine f_W (W2 := [[(la, .inl (E.2.2 0, 4, .inl (fun j => jI ((flW s (flS s q (fgN g 4) x) (q x)) j))))], [(ao, .inl (E.2.2 0, s.length, .inl (fun j => jI ((fun j => ((q j : Nat) : Int)) j))))]]) rfl ?_
        refine j_ald4 hk dX9_isEquivalent_36 rfl rfl ?_
        refine f_get hE hk in_X9 (.inl hv) (show vwCl[8]? = some (RX9, TX9, 5) from rfl) 1 (by decide) q1346 (Or.inl rfl) rfl dX9_isEquivalent_37 ?_
        refine j_ild hk dX9_isEquivalent_40 rfl ?_
        refine f_iald (n := s.length) (f := sf) hE hk (.inl hso) (q x) (by omega) (by omega) (by omega) dX9_isEquivalent_42 ?_
        have hfr : -1 ≤ flR s (flS s q (fgN g 4) x) (q x) ∧ flR s (flS s q (fgN g 4) x) (q x) < 100 := by
          unfold flR
          split
          · exact hgr _ (hs.okAt _ hqj).2.2.2.1
          · omega
        refine j_icmp_ne hk (by omega) (by omega) dX9_isEquivalent_43 rfl (tgt := 50) (fun h43 => ?_) (fun h43 => ?_)
        · refine j_iconst (n := 0) hk dX9_isEquivalent_50 ?_
          refine j_top (z2 := jB (decide (flR s (flS s q (fgN g 4) x) (q x) = sf (q x)))) (by first | (rw [decide_eq_true (by assumption)]; rfl) | (rw [decide_eq_false (by assumption)]; rfl)) ?_
          refine j_iandB hk dX9_isEquivalent_51 ?_
          refine j_ist1 hk dX9_isEquivalent_52 rfl ?_
          refine j_iinc4 hk dX9_isEquivalent_53 rfl ?_
          refine j_loc (i := 1) (z2 := jB ((List.range (x + 1)).all (fun j => decide (flR s (flS s q (fgN g 4) j) (q j) = sf (q j))))) rfl (by rw [all_S]) ?_
          refine j_goto (tgt := 17) hk dX9_isEquivalent_56 rfl ?_
          refine j_forget (i := 5) ?_
          refine f_W (W2 := [[(la, .inl (E.2.2 0, 4, .inl (fun j => jI ((flS s q (fgN g 4) (x + 1)) j))))], [(ao, .inl (E.2.2 0, s.length, .inl (fun j => jI ((fun j => ((q j : Nat) : Int)) j))))]]) (rfl) ?_
          exact ih17 (x + 1) (by omega) (by omega)
        · refine j_iconst (n := 1) hk dX9_isEquivalent_46 ?_
          refine j_goto (tgt := 51) hk dX9_isEquivalent_47 rfl ?_
          refine j_top (z2 := jB (decide (flR s (flS s q (fgN g 4) x) (q x) = sf (q x)))) (by first | (rw [decide_eq_true (by assumption)]; rfl) | (rw [decide_eq_false (by assumption)]; rfl)) ?_
          refine j_iandB hk dX9_isEquivalent_51 ?_
          refine j_ist1 hk dX9_isEquivalent_52 rfl ?_
          refine j_iinc4 hk dX9_isEquivalent_53 rfl ?_
          refine j_loc (i := 1) (z2 := jB ((List.range (x + 1)).all (fun j => decide (flR s (flS s q (fgN g 4) j) (q j) = sf (q j))))) rfl (by rw [all_S]) ?_
          refine j_goto (tgt := 17) hk dX9_isEquivalent_56 rfl ?_
          refine j_forget (i := 5) ?_
          refine f_W (W2 := [[(la, .inl (E.2.2 0, 4, .inl (fun j => jI ((flS s q (fgN g 4) (x + 1)) j))))], [(ao, .inl (E.2.2 0, s.length, .inl (fun j => jI ((fun j => ((q j : Nat) : Int)) j))))]]) (rfl) ?_
          exact ih17 (x + 1) (by omega) (by omega)
  refine f_W (W2 := [[(la, .inl (E.2.2 0, 4, .inl (fun j => jI ((flS s q (fgN g 4) 0) j))))], [(ao, .inl (E.2.2 0, s.length, .inl (fun j => jI ((fun j => ((q j : Nat) : Int)) j))))]]) (rfl) ?_
  exact loop17 _ 0 (Nat.lt_succ_self _) (Nat.zero_le _)
