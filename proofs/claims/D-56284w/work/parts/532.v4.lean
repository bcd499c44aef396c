/-! V, 4 -/
def idW (k : Nat) : Nat → Int := fun j => if j < k then ((j : Nat) : Int) else 0
theorem idW_0 : (fun _ => 0) = idW 0 := by
  funext j
  unfold idW
  rw [if_neg (Nat.not_lt_zero _)]
theorem idW_S {k : Nat} : iup (idW k) k ((k : Nat) : Int) = idW (k + 1) := by
  funext i
  unfold iup idW
  by_cases h : i = k
  · rw [if_pos h, if_pos (by omega), h]
  · rw [if_neg h]
    by_cases h2 : i < k
    · rw [if_pos h2, if_pos (by omega)]
    · rw [if_neg h2, if_neg (by omega)]
/-- the latest writes of a schedule; its sources -/
def lsG (s : List Op) (k : Nat) : Nat → Int := flS s (fun j => j) (fgN (fun _ => 0) 4) k
def srW (s : List Op) (k : Nat) : Nat → Int := fun j => if j < k then flR s (lsG s j) j else 0
theorem srW_0 {s : List Op} : (fun _ => 0) = srW s 0 := by
  funext j
  unfold srW
  rw [if_neg (Nat.not_lt_zero _)]
theorem srW_S {s : List Op} {k : Nat} : iup (srW s k) k (flR s (lsG s k) k) = srW s (k + 1) := by
  funext i
  unfold iup srW
  by_cases h : i = k
  · rw [if_pos h, if_pos (by omega), h]
  · rw [if_neg h]
    by_cases h2 : i < k
    · rw [if_pos h2, if_pos (by omega)]
    · rw [if_neg h2, if_neg (by omega)]
theorem lsG_S {s : List Op} {k : Nat} : flW s (lsG s k) k = lsG s (k + 1) := rfl
theorem lsG_r {s : List Op} {k : Nat} (h : k ≤ 100) : ∀ i, i < 4 → -1 ≤ lsG s k i ∧ lsG s k i < 100 := flS_r fgN_r (fun i hi => by omega)
set_option maxHeartbeats 1500000 in
/-- X9 init(LScheduleAnalyzer$Schedule;)V -/
theorem fc_X9_init {l : Launch} {E : jE} (hls : l.stackTraces = false) (hE : jSt E) (hN : jCn E) {z : jZ} (hzc : zLe (zS E) z) {a : Nat} {rs : Nat} {s : List Op} (h : schZ E z rs s) : fC l E yX9_init cX9_init 3 (none) 5 100 (4) (2 * s.length + 8) [.ref a, .ref rs] z [[(a, .inr (8, [.null, .null, .null, .null, .null]))]] (fun rr z2 W2 => ∃ lo : Nat, ∃ so : Nat, ∃ lw : Nat, ∃ ao : Nat, ∃ la : Nat, ∃ mo : Int, ∃ li : List Nat, rr = none ∧ W2 = [[(a, .inr (8, [.ref lo, .ref so, .ref lw, .ref ao, .ref la]))], [(lw, .inl (E.2.2 0, 4, .inl (fun j => jI ((lsG s s.length) j))))], [(ao, .inl (E.2.2 0, s.length, .inl (fun j => jI ((idW s.length) j))))], [(so, .inl (E.2.2 0, s.length, .inl (fun j => jI ((srW s s.length) j))))], [(la, .inl (E.2.2 0, 4, .inl (fun j => jI ((lsG s s.length) j))))]] ∧ z = z2 ∧ alZ E z lo mo li ∧ opsZ z li s) := by
  refine f_start (own := "ScheduleAnalyzer$ViewSearch") (vs := [some (.ref a), some (.ref rs), none]) hls (by decide +kernel) rfl rfl rfl (Nat.le_of_ble_eq_true rfl) ?_
  intro K H0 hk he hl0 hI hA
  have hsl33 := h.len
  obtain ⟨lss1, mss1, lis1, hzs1, hals1, hops1, hnds1⟩ := id h
  have hll := (hops1).len
  refine j_ald4 hk dX9_init_0 rfl rfl ?_
  refine j_objInit hk q1326 q171 q172 ⟨by decide, by decide⟩ dX9_init_1 ?_
  refine j_ald4 hk dX9_init_4 rfl rfl ?_
  refine j_iconst (n := 4) hk dX9_init_5 ?_
  refine f_newI hE hk q211 (4) (by omega) (by omega) ⟨by omega, by omega⟩ dX9_init_6 ?_
  intro ar1
  refine f_W (W2 := [[(ar1, .inl (E.2.2 0, 4, .inl (fun j => jI ((fun _ => 0) j))))], [(a, .inr (8, [.null, .null, .null, .null, .null]))]]) rfl ?_
  refine f_put (fs := [.null, .null, .null, .null, .null]) (ty := (.array .int)) (W2 := [[(ar1, .inl (E.2.2 0, 4, .inl (fun j => jI ((fun _ => 0) j))))], [(a, .inr (8, [.null, .null, .null, .null, .ref ar1]))]]) hE hk in_X9 tyX9_ok nmX9 1 0 rfl rfl (show vwCl[8]? = some (RX9, TX9, 5) from rfl) 4 (by decide) q1349 (Or.inl rfl) (Or.inr ⟨rfl, hI, rfl⟩) (by decide +kernel) rfl rfl (show 4 < 5 by decide) rfl dX9_init_8 ?_
  refine j_ald4 hk dX9_init_11 rfl rfl ?_
  refine j_ald4 hk dX9_init_12 rfl rfl ?_
  refine f_getN hE hk in_X3 (.inl hzs1) (show vwCl[2]? = some (RX3, TX3, 1) from rfl) 0 (by decide) q804 rfl rfl dX9_init_13 ?_
  refine f_put (fs := [.null, .null, .null, .null, .ref ar1]) (ty := (.object "java/util/List")) (W2 := [[(ar1, .inl (E.2.2 0, 4, .inl (fun j => jI ((fun _ => 0) j))))], [(a, .inr (8, [.ref lss1, .null, .null, .null, .ref ar1]))]]) hE hk in_X9 tyX9_ok nmX9 1 0 rfl rfl (show vwCl[8]? = some (RX9, TX9, 5) from rfl) 0 (by decide) q1345 (Or.inl rfl) (Or.inr ⟨rfl, hI, rfl⟩) (by decide +kernel) rfl rfl (show 0 < 5 by decide) rfl dX9_init_16 ?_
  refine j_ald4 hk dX9_init_19 rfl rfl ?_
  refine j_ald4 hk dX9_init_20 rfl rfl ?_
  refine f_get hE hk in_X9 (fIn.at 1 0 rfl rfl) (show vwCl[8]? = some (RX9, TX9, 5) from rfl) 0 (by decide) q1345 (Or.inl rfl) rfl dX9_init_21 ?_
  obtain ⟨qo2, capo2, fo2, hc1o2, hc2o2, hl1o2, hl2o2, hfo2⟩ := hals1.cell hN hzc
  refine f_callF (Wc := []) (Wr := [[(ar1, .inl (E.2.2 0, 4, .inl (fun j => jI ((fun _ => 0) j))))], [(a, .inr (8, [.ref lss1, .null, .null, .null, .ref ar1]))]]) hE hk hl0 (.inl hc1o2) (show vwCl[10]? = some (RJ2, TJ2, 3) from rfl) (fc_J2_size hls hE hN (z := z) hzc (a := lss1) (mc := mss1) (li := lis1) (hals1)) (fun _ h => Or.inl h) 0 (lw_Fg q1328 q896 q898 q120 q900) q895 q894 q899 q897 q222 (by decide +kernel) rfl (by decide) (by omega) rfl (Nat.le_of_ble_eq_true rfl) dX9_init_24 ?_
  refine Or.inl ⟨rfl, ?_⟩
  rintro _ _ _ ⟨rfl, rfl, rfl⟩ -
  refine f_W (W2 := [[(ar1, .inl (E.2.2 0, 4, .inl (fun j => jI ((fun _ => 0) j))))], [(a, .inr (8, [.ref lss1, .null, .null, .null, .ref ar1]))]]) rfl ?_
  refine j_top (z2 := ((s.length : Nat) : Int)) (by rw [hll]) ?_
  refine f_newI hE hk q211 (s.length) (by omega) (by omega) ⟨by omega, by omega⟩ dX9_init_29 ?_
  intro ar2
  refine f_W (W2 := [[(ar2, .inl (E.2.2 0, s.length, .inl (fun j => jI ((fun _ => 0) j))))], [(ar1, .inl (E.2.2 0, 4, .inl (fun j => jI ((fun _ => 0) j))))], [(a, .inr (8, [.ref lss1, .null, .null, .null, .ref ar1]))]]) rfl ?_
  refine f_put (fs := [.ref lss1, .null, .null, .null, .ref ar1]) (ty := (.array .int)) (W2 := [[(ar2, .inl (E.2.2 0, s.length, .inl (fun j => jI ((fun _ => 0) j))))], [(ar1, .inl (E.2.2 0, 4, .inl (fun j => jI ((fun _ => 0) j))))], [(a, .inr (8, [.ref lss1, .ref ar2, .null, .null, .ref ar1]))]]) hE hk in_X9 tyX9_ok nmX9 2 0 rfl rfl (show vwCl[8]? = some (RX9, TX9, 5) from rfl) 1 (by decide) q1346 (Or.inl rfl) (Or.inr ⟨rfl, hI, rfl⟩) (by decide +kernel) rfl rfl (show 1 < 5 by decide) rfl dX9_init_31 ?_
  refine j_ald4 hk dX9_init_34 rfl rfl ?_
  refine j_ald4 hk dX9_init_35 rfl rfl ?_
  refine f_get hE hk in_X9 (fIn.at 2 0 rfl rfl) (show vwCl[8]? = some (RX9, TX9, 5) from rfl) 0 (by decide) q1345 (Or.inl rfl) rfl dX9_init_36 ?_
  refine f_callF (Wc := []) (Wr := [[(ar2, .inl (E.2.2 0, s.length, .inl (fun j => jI ((fun _ => 0) j))))], [(ar1, .inl (E.2.2 0, 4, .inl (fun j => jI ((fun _ => 0) j))))], [(a, .inr (8, [.ref lss1, .ref ar2, .null, .null, .ref ar1]))]]) hE hk hl0 (.inl hc1o2) (show vwCl[10]? = some (RJ2, TJ2, 3) from rfl) (fc_J2_size hls hE hN (z := z) hzc (a := lss1) (mc := mss1) (li := lis1) (hals1)) (fun _ h => Or.inl h) 0 (lw_Fg q1328 q896 q898 q120 q900) q895 q894 q899 q897 q222 (by decide +kernel) rfl (by decide) (by omega) rfl (Nat.le_of_ble_eq_true rfl) dX9_init_39 ?_
  refine Or.inl ⟨rfl, ?_⟩
  rintro _ _ _ ⟨rfl, rfl, rfl⟩ -
  refine f_W (W2 := [[(ar2, .inl (E.2.2 0, s.length, .inl (fun j => jI ((fun _ => 0) j))))], [(ar1, .inl (E.2.2 0, 4, .inl (fun j => jI ((fun _ => 0) j))))], [(a, .inr (8, [.ref lss1, .ref ar2, .null, .null, .ref ar1]))]]) rfl ?_
  refine j_top (z2 := ((s.length : Nat) : Int)) (by rw [hll]) ?_
  refine f_newI hE hk q211 (s.length) (by omega) (by omega) ⟨by omega, by omega⟩ dX9_init_44 ?_
  intro ar3
  refine f_W (W2 := [[(ar3, .inl (E.2.2 0, s.length, .inl (fun j => jI ((fun _ => 0) j))))], [(ar2, .inl (E.2.2 0, s.length, .inl (fun j => jI ((fun _ => 0) j))))], [(ar1, .inl (E.2.2 0, 4, .inl (fun j => jI ((fun _ => 0) j))))], [(a, .inr (8, [.ref lss1, .ref ar2, .null, .null, .ref ar1]))]]) rfl ?_
  refine f_put (fs := [.ref lss1, .ref ar2, .null, .null, .ref ar1]) (ty := (.array .int)) (W2 := [[(ar3, .inl (E.2.2 0, s.length, .inl (fun j => jI ((fun _ => 0) j))))], [(ar2, .inl (E.2.2 0, s.length, .inl (fun j => jI ((fun _ => 0) j))))], [(ar1, .inl (E.2.2 0, 4, .inl (fun j => jI ((fun _ => 0) j))))], [(a, .inr (8, [.ref lss1, .ref ar2, .null, .ref ar3, .ref ar1]))]]) hE hk in_X9 tyX9_ok nmX9 3 0 rfl rfl (show vwCl[8]? = some (RX9, TX9, 5) from rfl) 3 (by decide) q1348 (Or.inl rfl) (Or.inr ⟨rfl, hI, rfl⟩) (by decide +kernel) rfl rfl (show 3 < 5 by decide) rfl dX9_init_46 ?_
  refine j_iconst (n := 0) hk dX9_init_49 ?_
  refine j_ist2 hk dX9_init_50 rfl ?_
  have loop51 : ∀ (fuel51 : Nat) (k : Nat), s.length - k < fuel51 → k ≤ s.length → jW K (fO K E z z [[(ar3, .inl (E.2.2 0, s.length, .inl (fun j => jI ((idW k) j))))], [(ar2, .inl (E.2.2 0, s.length, .inl (fun j => jI ((fun _ => 0) j))))], [(ar1, .inl (E.2.2 0, 4, .inl (fun j => jI ((fun _ => 0) j))))], [(a, .inr (8, [.ref lss1, .ref ar2, .null, .ref ar3, .ref ar1]))]]) (0 + 1 + 1 + 1) (0 + 4 + s.length + s.length) 51 [some (.ref a), some (.ref rs), some (.int (jI ((k : Nat) : Int)))] [] := by
    intro fuel51
    induction fuel51 with
    | zero => intro k hm; exact absurd hm (Nat.not_lt_zero _)
    | succ fuel51 ih51 =>
      intro k hm51 hkn
      refine j_ild4 hk dX9_init_51 rfl rfl ?_
      refine j_ald4 hk dX9_init_52 rfl rfl ?_
      refine f_get hE hk in_X9 (fIn.at 3 0 rfl rfl) (show vwCl[8]? = some (RX9, TX9, 5) from rfl) 3 (by decide) q1348 (Or.inl rfl) rfl dX9_init_53 ?_
      refine f_alen (n := s.length) (t := 0) (f := .inl (fun j => jI ((idW k) j))) hE hk rfl (fIn.at 0 0 rfl rfl) dX9_init_56 ?_
      refine j_icmp_ge hk (by omega) (by omega) dX9_init_57 rfl (tgt := 73) (fun h57 => ?_) (fun h57 => ?_)
      · have hk1 : k = s.length := by omega
        refine f_W (W2 := [[(ar3, .inl (E.2.2 0, s.length, .inl (fun j => jI ((idW s.length) j))))], [(ar2, .inl (E.2.2 0, s.length, .inl (fun j => jI ((fun _ => 0) j))))], [(ar1, .inl (E.2.2 0, 4, .inl (fun j => jI ((fun _ => 0) j))))], [(a, .inr (8, [.ref lss1, .ref ar2, .null, .ref ar3, .ref ar1]))]]) (by rw [show (idW k) = (idW s.length) from by rw [hk1]]) ?_
        refine j_ald4 hk dX9_init_73 rfl rfl ?_
        refine f_sel (W2 := [[(ar1, .inl (E.2.2 0, 4, .inl (fun j => jI ((fun _ => 0) j))))], [(ar3, .inl (E.2.2 0, s.length, .inl (fun j => jI ((idW s.length) j))))], [(ar2, .inl (E.2.2 0, s.length, .inl (fun j => jI ((fun _ => 0) j))))], [(a, .inr (8, [.ref lss1, .ref ar2, .null, .ref ar3, .ref ar1]))]]) [2, 0, 1, 3] rfl rfl ?_
        obtain ⟨zL5, hlL5, hmL5, hbL5⟩ := f_lend z [[(a, .inr (8, [.ref lss1, .ref ar2, .null, .ref ar3, .ref ar1]))]] [[(ar3, .inl (E.2.2 0, s.length, .inl (fun j => jI ((idW s.length) j))))], [(ar2, .inl (E.2.2 0, s.length, .inl (fun j => jI ((fun _ => 0) j))))], [(a, .inr (8, [.ref lss1, .ref ar2, .null, .ref ar3, .ref ar1]))]] (by simp)
        refine f_callV (Wc := [[(ar1, .inl (E.2.2 0, 4, .inl (fun j => jI ((fun _ => 0) j))))]]) (Wr := [[(ar3, .inl (E.2.2 0, s.length, .inl (fun j => jI ((idW s.length) j))))], [(ar2, .inl (E.2.2 0, s.length, .inl (fun j => jI ((fun _ => 0) j))))], [(a, .inr (8, [.ref lss1, .ref ar2, .null, .ref ar3, .ref ar1]))]]) hE hk hl0 (fIn.at 3 0 rfl rfl) (show vwCl[8]? = some (RX9, TX9, 5) from rfl) (fc_X9_forget hls hE hN (z := zL5) (hzc.tr hlL5) (a := a) (lo := lss1) (so := ar2) (lwv := .null) (ao := ar3) (la := ar1) (g := (fun _ => 0)) (hmL5 _ (List.mem_cons_self) _ (List.mem_cons_self))) (hbL5) 0 (lw_V q1329 q1331 qs15 q162 q1332) (by decide +kernel) rfl (by decide) (by omega) rfl (Nat.le_of_ble_eq_true rfl) dX9_init_74 ?_
        refine Or.inr ?_
        rintro _ _ _ ⟨rfl, rfl, -⟩ -
        refine f_W (W2 := [[(ar1, .inl (E.2.2 0, 4, .inl (fun j => jI ((fgN (fun _ => 0) 4) j))))], [(ar3, .inl (E.2.2 0, s.length, .inl (fun j => jI ((idW s.length) j))))], [(ar2, .inl (E.2.2 0, s.length, .inl (fun j => jI ((fun _ => 0) j))))], [(a, .inr (8, [.ref lss1, .ref ar2, .null, .ref ar3, .ref ar1]))]]) rfl ?_
        refine j_iconst (n := 0) hk dX9_init_77 ?_
        refine j_ist2 hk dX9_init_78 rfl ?_
        have loop79 : ∀ (fuel79 : Nat) (k : Nat), s.length - k < fuel79 → k ≤ s.length → jW K (fO K E z z [[(ar1, .inl (E.2.2 0, 4, .inl (fun j => jI ((lsG s k) j))))], [(ar3, .inl (E.2.2 0, s.length, .inl (fun j => jI ((idW s.length) j))))], [(ar2, .inl (E.2.2 0, s.length, .inl (fun j => jI ((srW s k) j))))], [(a, .inr (8, [.ref lss1, .ref ar2, .null, .ref ar3, .ref ar1]))]]) (0 + 1 + 1 + 1) (0 + 4 + s.length + s.length) 79 [some (.ref a), some (.ref rs), some (.int (jI ((k : Nat) : Int)))] [] := by
          intro fuel79
          induction fuel79 with
          | zero => intro k hm; exact absurd hm (Nat.not_lt_zero _)
          | succ fuel79 ih79 =>
            intro k hm79 hkn
            refine j_ild4 hk dX9_init_79 rfl rfl ?_
            refine j_ald4 hk dX9_init_80 rfl rfl ?_
            refine f_get hE hk in_X9 (fIn.at 3 0 rfl rfl) (show vwCl[8]? = some (RX9, TX9, 5) from rfl) 3 (by decide) q1348 (Or.inl rfl) rfl dX9_init_81 ?_
            refine f_alen (n := s.length) (t := 0) (f := .inl (fun j => jI ((idW s.length) j))) hE hk rfl (fIn.at 1 0 rfl rfl) dX9_init_84 ?_
            refine j_icmp_ge hk (by omega) (by omega) dX9_init_85 rfl (tgt := 105) (fun h85 => ?_) (fun h85 => ?_)
            · have hk2 : k = s.length := by omega
              refine f_W (W2 := [[(ar1, .inl (E.2.2 0, 4, .inl (fun j => jI ((lsG s s.length) j))))], [(ar3, .inl (E.2.2 0, s.length, .inl (fun j => jI ((idW s.length) j))))], [(ar2, .inl (E.2.2 0, s.length, .inl (fun j => jI ((srW s k) j))))], [(a, .inr (8, [.ref lss1, .ref ar2, .null, .ref ar3, .ref ar1]))]]) (by rw [show (lsG s k) = (lsG s s.length) from by rw [hk2]]) ?_
              refine f_W (W2 := [[(ar1, .inl (E.2.2 0, 4, .inl (fun j => jI ((lsG s s.length) j))))], [(ar3, .inl (E.2.2 0, s.length, .inl (fun j => jI ((idW s.length) j))))], [(ar2, .inl (E.2.2 0, s.length, .inl (fun j => jI ((srW s s.length) j))))], [(a, .inr (8, [.ref lss1, .ref ar2, .null, .ref ar3, .ref ar1]))]]) (by rw [show (srW s k) = (srW s s.length) from by rw [hk2]]) ?_
              refine j_ald4 hk dX9_init_105 rfl rfl ?_
              refine j_ald4 hk dX9_init_106 rfl rfl ?_
              refine f_get hE hk in_X9 (fIn.at 3 0 rfl rfl) (show vwCl[8]? = some (RX9, TX9, 5) from rfl) 4 (by decide) q1349 (Or.inl rfl) rfl dX9_init_107 ?_
              refine f_cloneI (n := 4) (f := (lsG s s.length)) hE hk (fIn.at 0 0 rfl rfl) q1340 q1341 q497 q498 q1342 q1343 ⟨by omega, by simp [Value.category]⟩ ⟨by omega, by omega⟩ dX9_init_110 ?_
              intro ar4
              refine f_castA (n := 4) (f := (lsG s s.length)) hE hk (fIn.at 0 0 rfl rfl) q1344 dX9_init_113 ?_
              refine f_put (fs := [.ref lss1, .ref ar2, .null, .ref ar3, .ref ar1]) (ty := (.array .int)) (W2 := [[(ar4, .inl (E.2.2 0, 4, .inl (fun j => jI ((lsG s s.length) j))))], [(ar1, .inl (E.2.2 0, 4, .inl (fun j => jI ((lsG s s.length) j))))], [(ar3, .inl (E.2.2 0, s.length, .inl (fun j => jI ((idW s.length) j))))], [(ar2, .inl (E.2.2 0, s.length, .inl (fun j => jI ((srW s s.length) j))))], [(a, .inr (8, [.ref lss1, .ref ar2, .ref ar4, .ref ar3, .ref ar1]))]]) hE hk in_X9 tyX9_ok nmX9 4 0 rfl rfl (show vwCl[8]? = some (RX9, TX9, 5) from rfl) 2 (by decide) q1347 (Or.inl rfl) (Or.inr ⟨rfl, hI, rfl⟩) (by decide +kernel) rfl rfl (show 2 < 5 by decide) rfl dX9_init_116 ?_
              refine f_sel (W2 := [[(a, .inr (8, [.ref lss1, .ref ar2, .ref ar4, .ref ar3, .ref ar1]))], [(ar4, .inl (E.2.2 0, 4, .inl (fun j => jI ((lsG s s.length) j))))], [(ar3, .inl (E.2.2 0, s.length, .inl (fun j => jI ((idW s.length) j))))], [(ar2, .inl (E.2.2 0, s.length, .inl (fun j => jI ((srW s s.length) j))))], [(ar1, .inl (E.2.2 0, 4, .inl (fun j => jI ((lsG s s.length) j))))]]) [4, 0, 2, 3, 1] rfl rfl ?_
              refine f_vret hk he hA dX9_init_119 (by omega) (by omega) ?_
              exact ⟨_, _, _, _, _, _, _, rfl, rfl, rfl, hals1, hops1⟩
            · refine j_ald4 hk dX9_init_88 rfl rfl ?_
              refine f_get hE hk in_X9 (fIn.at 3 0 rfl rfl) (show vwCl[8]? = some (RX9, TX9, 5) from rfl) 1 (by decide) q1346 (Or.inl rfl) rfl dX9_init_89 ?_
              refine j_ild4 hk dX9_init_92 rfl rfl ?_
              refine j_ald4 hk dX9_init_93 rfl rfl ?_
              refine j_ild4 hk dX9_init_94 rfl rfl ?_
              obtain ⟨zL7, hlL7, hmL7, hbL7⟩ := f_lend z [[(a, .inr (8, [.ref lss1, .ref ar2, .null, .ref ar3, .ref ar1]))]] [[(ar3, .inl (E.2.2 0, s.length, .inl (fun j => jI ((idW s.length) j))))], [(ar2, .inl (E.2.2 0, s.length, .inl (fun j => jI ((srW s k) j))))], [(a, .inr (8, [.ref lss1, .ref ar2, .null, .ref ar3, .ref ar1]))]] (by simp)
              refine f_callV (Wc := [[(ar1, .inl (E.2.2 0, 4, .inl (fun j => jI ((lsG s k) j))))]]) (Wr := [[(ar3, .inl (E.2.2 0, s.length, .inl (fun j => jI ((idW s.length) j))))], [(ar2, .inl (E.2.2 0, s.length, .inl (fun j => jI ((srW s k) j))))], [(a, .inr (8, [.ref lss1, .ref ar2, .null, .ref ar3, .ref ar1]))]]) hE hk hl0 (fIn.at 3 0 rfl rfl) (show vwCl[8]? = some (RX9, TX9, 5) from rfl) (fc_X9_follow hls hE hN (z := zL7) (hzc.tr hlL7) (a := a) (k := k) (lo := lss1) (so := ar2) (lwv := .null) (ao := ar3) (la := ar1) (g := (lsG s k)) (mo := mss1) (li := lis1) (s := s) (hmL7 _ (List.mem_cons_self) _ (List.mem_cons_self)) (hals1.up hlL7) (hops1.up hlL7) (by omega) (lsG_r (by omega))) (hbL7) 1 (lw_V q1333 q1335 qs16 q162 q1336) (by decide +kernel) rfl (by decide) (by omega) rfl (Nat.le_of_ble_eq_true rfl) dX9_init_95 ?_
              refine Or.inr ?_
              rintro _ _ _ ⟨rfl, rfl, -⟩ -
              refine f_W (W2 := [[(ar1, .inl (E.2.2 0, 4, .inl (fun j => jI ((flW s (lsG s k) k) j))))], [(ar3, .inl (E.2.2 0, s.length, .inl (fun j => jI ((idW s.length) j))))], [(ar2, .inl (E.2.2 0, s.length, .inl (fun j => jI ((srW s k) j))))], [(a, .inr (8, [.ref lss1, .ref ar2, .null, .ref ar3, .ref ar1]))]]) rfl ?_
              refine f_iast (n := s.length) (f := (srW s k)) (W2 := [[(ar1, .inl (E.2.2 0, 4, .inl (fun j => jI ((flW s (lsG s k) k) j))))], [(ar3, .inl (E.2.2 0, s.length, .inl (fun j => jI ((idW s.length) j))))], [(ar2, .inl (E.2.2 0, s.length, .inl (fun j => jI ((iup (srW s k) k (flR s (lsG s k) k)) j))))], [(a, .inr (8, [.ref lss1, .ref ar2, .null, .ref ar3, .ref ar1]))]]) hE hk 2 0 rfl rfl (k) (by omega) (by omega) (by omega) rfl dX9_init_98 ?_
              refine f_W (W2 := [[(ar1, .inl (E.2.2 0, 4, .inl (fun j => jI ((lsG s (k + 1)) j))))], [(ar3, .inl (E.2.2 0, s.length, .inl (fun j => jI ((idW s.length) j))))], [(ar2, .inl (E.2.2 0, s.length, .inl (fun j => jI ((iup (srW s k) k (flR s (lsG s k) k)) j))))], [(a, .inr (8, [.ref lss1, .ref ar2, .null, .ref ar3, .ref ar1]))]]) (by rw [show (flW s (lsG s k) k) = (lsG s (k + 1)) from lsG_S]) ?_
              refine f_W (W2 := [[(ar1, .inl (E.2.2 0, 4, .inl (fun j => jI ((lsG s (k + 1)) j))))], [(ar3, .inl (E.2.2 0, s.length, .inl (fun j => jI ((idW s.length) j))))], [(ar2, .inl (E.2.2 0, s.length, .inl (fun j => jI ((srW s (k + 1)) j))))], [(a, .inr (8, [.ref lss1, .ref ar2, .null, .ref ar3, .ref ar1]))]]) (by rw [show iup (srW s k) k (flR s (lsG s k) k) = (srW s (k + 1)) from srW_S]) ?_
              refine j_iinc2 hk dX9_init_99 rfl ?_
              refine j_goto (tgt := 79) hk dX9_init_102 rfl ?_
              exact ih79 (k + 1) (by omega) (by omega)
        refine f_W (W2 := [[(ar1, .inl (E.2.2 0, 4, .inl (fun j => jI ((lsG s 0) j))))], [(ar3, .inl (E.2.2 0, s.length, .inl (fun j => jI ((idW s.length) j))))], [(ar2, .inl (E.2.2 0, s.length, .inl (fun j => jI ((srW s 0) j))))], [(a, .inr (8, [.ref lss1, .ref ar2, .null, .ref ar3, .ref ar1]))]]) (by first | rfl | (rw [← srW_0]; rfl)) ?_
        exact loop79 _ 0 (Nat.lt_succ_self _) (Nat.zero_le _)
      · refine j_ald4 hk dX9_init_60 rfl rfl ?_
        refine f_get hE hk in_X9 (fIn.at 3 0 rfl rfl) (show vwCl[8]? = some (RX9, TX9, 5) from rfl) 3 (by decide) q1348 (Or.inl rfl) rfl dX9_init_61 ?_
        refine j_ild4 hk dX9_init_64 rfl rfl ?_
        refine j_ild4 hk dX9_init_65 rfl rfl ?_
        refine f_iast (n := s.length) (f := (idW k)) (W2 := [[(ar3, .inl (E.2.2 0, s.length, .inl (fun j => jI ((iup (idW k) k ((k : Nat) : Int)) j))))], [(ar2, .inl (E.2.2 0, s.length, .inl (fun j => jI ((fun _ => 0) j))))], [(ar1, .inl (E.2.2 0, 4, .inl (fun j => jI ((fun _ => 0) j))))], [(a, .inr (8, [.ref lss1, .ref ar2, .null, .ref ar3, .ref ar1]))]]) hE hk 0 0 rfl rfl (k) (by omega) (by omega) (by omega) rfl dX9_init_66 ?_
        refine f_W (W2 := [[(ar3, .inl (E.2.2 0, s.length, .inl (fun j => jI ((idW (k + 1)) j))))], [(ar2, .inl (E.2.2 0, s.length, .inl (fun j => jI ((fun _ => 0) j))))], [(ar1, .inl (E.2.2 0, 4, .inl (fun j => jI ((fun _ => 0) j))))], [(a, .inr (8, [.ref lss1, .ref ar2, .null, .ref ar3, .ref ar1]))]]) (by rw [show iup (idW k) k ((k : Nat) : Int) = (idW (k + 1)) from idW_S]) ?_
        refine j_iinc2 hk dX9_init_67 rfl ?_
        refine j_goto (tgt := 51) hk dX9_init_70 rfl ?_
        exact ih51 (k + 1) (by omega) (by omega)
  refine f_W (W2 := [[(ar3, .inl (E.2.2 0, s.length, .inl (fun j => jI ((idW 0) j))))], [(ar2, .inl (E.2.2 0, s.length, .inl (fun j => jI ((fun _ => 0) j))))], [(ar1, .inl (E.2.2 0, 4, .inl (fun j => jI ((fun _ => 0) j))))], [(a, .inr (8, [.ref lss1, .ref ar2, .null, .ref ar3, .ref ar1]))]]) (by rw [← idW_0]) ?_
  exact loop51 _ 0 (Nat.lt_succ_self _) (Nat.zero_le _)
