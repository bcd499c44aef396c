/-! S, 5: questions to a schedule -/
/-- an operation with the property stands below n -/
def anyB (p : Op → Bool) (s : List Op) (n : Nat) : Bool := (List.range n).any fun i => p (opAt s i)
theorem anyB_1 {p : Op → Bool} {s : List Op} {n : Nat} (h : ¬ lastN (fun i => p (opAt s i)) n = -1) : anyB p s n = true := by
  cases hq : anyB p s n with
  | true => rfl
  | false => exact absurd ((lastN_neg _ _).mpr hq) h
theorem anyB_0 {p : Op → Bool} {s : List Op} {n : Nat} (h : lastN (fun i => p (opAt s i)) n = -1) : anyB p s n = false := (lastN_neg _ _).mp h
/-- a write of an item by a transaction that has not aborted in front of a place -/
def pSrc (s : List Op) (place it : Nat) (o : Op) : Bool := decide (oK o = 1) && (decide (oI o = it) && !anyB (pIs 3 (oT o)) s place)
/-- the source of a read -/
def srcC (s : List Op) (k : Nat) : Int := lastN (fun i => pSrc s k (oI (opAt s k)) (opAt s i)) k
theorem srcC_r (s : List Op) (k : Nat) : -1 ≤ srcC s k ∧ srcC s k < k := lastN_r _ _
set_option maxHeartbeats 1500000 in
/-- X3 size()I -/
theorem fc_X3_size {l : Launch} {E : jE} (hls : l.stackTraces = false) (hE : jSt E) (hN : jCn E) {z : jZ} (hzc : zLe (zS E) z) {a : Nat} {s : List Op} (h : schZ E z a s) : fC l E yX3_size cX3_size 1 (some .int) 2 32 (0) (0) [.ref a] z [] (fun rr z2 W2 => rr = some (.int (jI ((s.length : Nat) : Int))) ∧ W2 = [] ∧ z = z2) := by
  refine f_start (own := "ScheduleAnalyzer$Schedule") (vs := [some (.ref a)]) hls (by decide +kernel) rfl rfl rfl (Nat.le_of_ble_eq_true rfl) ?_
  intro K H0 hk he hl0 hI hA
  have hsl33 := h.len
  refine j_ald4 hk dX3_size_0 rfl rfl ?_
  obtain ⟨lss1, mss1, lis1, hzs1, hals1, hops1, hnds1⟩ := id h
  refine f_get hE hk in_X3 (.inl hzs1) (show vwCl[2]? = some (RX3, TX3, 1) from rfl) 0 (by decide) q803 (Or.inl rfl) rfl dX3_size_1 ?_
  obtain ⟨qo2, capo2, fo2, hc1o2, hc2o2, hl1o2, hl2o2, hfo2⟩ := hals1.cell hN hzc
  refine f_callF (Wc := []) (Wr := []) hE hk hl0 (.inl hc1o2) (show vwCl[10]? = some (RJ2, TJ2, 3) from rfl) (fc_J2_size hls hE hN (z := z) hzc (a := lss1) (mc := mss1) (li := lis1) (hals1)) (fun _ h => Or.inl h) 0 (lw_Fg q893 q896 q898 q120 q900) q895 q894 q899 q897 q222 (by decide +kernel) rfl (by decide) (by omega) rfl (Nat.le_of_ble_eq_true rfl) dX3_size_4 ?_
  refine Or.inl ⟨rfl, ?_⟩
  rintro _ _ _ ⟨rfl, rfl, rfl⟩ -
  refine f_W (W2 := []) rfl ?_
  refine f_iret hk he hA rfl dX3_size_9 (by omega) (by omega) ?_
  exact ⟨congrArg (fun z => some (Value.int (jI z))) (by rw [(hops1).len]), rfl, rfl⟩
set_option maxHeartbeats 1500000 in
/-- X3 has(LScheduleAnalyzer$OperationTest;)Z -/
theorem fc_X3_has {l : Launch} {E : jE} (hls : l.stackTraces = false) (hE : jSt E) (hN : jCn E) {z : jZ} (hzc : zLe (zS E) z) {a : Nat} {t : Nat} {s : List Op} {p : Op → Bool} (h : schZ E z a s) (hT : ∀ (b : Nat) (o : Op), z (b, .inr (5, opFs o)) → opOK o → tC l E 6 300 0 0 z t b (p o)) : fC l E yX3_has cX3_has 2 (some .boolean) 7 323 (0) (0) [.ref a, .ref t] z [] (fun rr z2 W2 => rr = some (.int (jI (jB (anyB p s s.length)))) ∧ W2 = [] ∧ z = z2) := by
  refine f_start (own := "ScheduleAnalyzer$Schedule") (vs := [some (.ref a), some (.ref t)]) hls (by decide +kernel) rfl rfl rfl (Nat.le_of_ble_eq_true rfl) ?_
  intro K H0 hk he hl0 hI hA
  have hsl33 := h.len
  refine j_ald4 hk dX3_has_0 rfl rfl ?_
  obtain ⟨lss1, mss1, lis1, hzs1, hals1, hops1, hnds1⟩ := id h
  refine f_get hE hk in_X3 (.inl hzs1) (show vwCl[2]? = some (RX3, TX3, 1) from rfl) 0 (by decide) q803 (Or.inl rfl) rfl dX3_has_1 ?_
  refine j_ald4 hk dX3_has_4 rfl rfl ?_
  refine f_callV (Wc := []) (Wr := []) hE hk hl0 (.inl hzs1) (show vwCl[2]? = some (RX3, TX3, 1) from rfl) (fc_X3_size hls hE hN (z := z) hzc (a := a) (s := s) (h)) (fun _ h => Or.inl h) 0 (lw_V q888 q889 q890 q117 q891) (by decide +kernel) rfl (by decide) (by omega) rfl (Nat.le_of_ble_eq_true rfl) dX3_has_5 ?_
  refine Or.inl ⟨rfl, ?_⟩
  rintro _ _ _ ⟨rfl, rfl, rfl⟩ -
  refine f_W (W2 := []) rfl ?_
  refine j_ald4 hk dX3_has_8 rfl rfl ?_
  refine f_callSN (Wc := []) (Wr := []) hE hk hl0 (fc_X1_findBefore hls hE hN (z := z) hzc (a := lss1) (n := s.length) (t := t) (p := p) (mc := mss1) (li := lis1) (s := s) (hals1) (hops1) (Nat.le_refl _) (hT)) (fun _ h => Or.inl h) 3 q909 q115 q907 q908 (by decide +kernel) rfl (by decide) (by omega) rfl (Nat.le_of_ble_eq_true rfl) dX3_has_9 ?_
  refine Or.inl ⟨rfl, ?_⟩
  rintro _ _ _ ⟨rfl, rfl, rfl⟩ -
  refine f_W (W2 := []) rfl ?_
  have rf4 := lastN_r (fun i => p (opAt s i)) s.length
  refine j_iconst (n := -1) hk dX3_has_12 ?_
  refine j_icmp_eq hk (by omega) (by omega) dX3_has_13 rfl (tgt := 20) (fun h13 => ?_) (fun h13 => ?_)
  · refine j_iconst (n := 0) hk dX3_has_20 ?_
    refine f_iret hk he hA rfl dX3_has_21 (by omega) (by omega) ?_
    exact ⟨congrArg (fun z => some (Value.int (jI z))) (by rw [show anyB p s s.length = false from anyB_0 ‹_›]; rfl), rfl, rfl⟩
  · refine j_iconst (n := 1) hk dX3_has_16 ?_
    refine j_goto (tgt := 21) hk dX3_has_17 rfl ?_
    refine f_iret hk he hA rfl dX3_has_21 (by omega) (by omega) ?_
    exact ⟨congrArg (fun z => some (Value.int (jI z))) (by rw [show anyB p s s.length = true from anyB_1 ‹_›]; rfl), rfl, rfl⟩
set_option maxHeartbeats 1500000 in
/-- X3 hasEnded(I)Z -/
theorem fc_X3_hasEnded {l : Launch} {E : jE} (hls : l.stackTraces = false) (hE : jSt E) (hN : jCn E) {z : jZ} (hzc : zLe (zS E) z) {a : Nat} {t : Nat} {s : List Op} (h : schZ E z a s) (ht : t < 1000) : fC l E yX3_hasEnded cX3_hasEnded 2 (some .boolean) 8 3092 (1) (1) [.ref a, .int (jI ((t : Nat) : Int))] z [] (fun rr z2 W2 => rr = some (.int (jI (jB (anyB (pEnd t) s s.length)))) ∧ W2 = [] ∧ z = z2) := by
  refine f_startM (own := "ScheduleAnalyzer$Schedule") (vs := [some (.ref a), some (.int (jI ((t : Nat) : Int)))]) hls (by decide +kernel) rfl rfl rfl (Nat.le_of_ble_eq_true rfl) ?_
  intro K H0 hk he hl0 hI hM hA
  have hsl33 := h.len
  refine j_ald4 hk dX3_hasEnded_0 rfl rfl ?_
  refine j_ild4 hk dX3_hasEnded_1 rfl rfl ?_
  refine f_indy (vals := [.int (jI ((t : Nat) : Int))]) (N := 1) hN.lam hk 0 rfl rfl hM rfl rfl (by decide) ⟨rfl, rfl, trivial⟩ (by simp [Value.category]) (by omega) ⟨by omega, by omega⟩ rfl rfl dX3_hasEnded_2 ?_
  intro lm1
  refine f_W (W2 := [[(lm1, .inr (18, [.int (jI ((t : Nat) : Int))]))]]) rfl ?_
  obtain ⟨lss1, mss1, lis1, hzs1, hals1, hops1, hnds1⟩ := id h
  obtain ⟨zL2, hlL2, hmL2, hbL2⟩ := f_lend z [[(lm1, .inr (18, [.int (jI ((t : Nat) : Int))]))]] [[(lm1, .inr (18, [.int (jI ((t : Nat) : Int))]))]] (by simp)
  refine f_callV (Wc := []) (Wr := [[(lm1, .inr (18, [.int (jI ((t : Nat) : Int))]))]]) hE hk hl0 (.inl hzs1) (show vwCl[2]? = some (RX3, TX3, 1) from rfl) (fc_X3_has hls hE hN (z := zL2) (hzc.tr hlL2) (a := a) (t := lm1) (p := (pEnd t)) (s := s) (h.up hlL2) (fun b o hb ho => tc_0 hls hE hN (hzc.tr hlL2) (hmL2 _ (List.mem_cons_self) _ (List.mem_cons_self)) hb ho ht)) (hbL2) 1 (lw_V q884 q885 q886 q117 q887) (by decide +kernel) rfl (by decide) (by omega) rfl (Nat.le_of_ble_eq_true rfl) dX3_hasEnded_7 ?_
  refine Or.inr ?_
  rintro _ _ _ ⟨rfl, rfl, -⟩ -
  refine f_W (W2 := [[(lm1, .inr (18, [.int (jI ((t : Nat) : Int))]))]]) rfl ?_
  refine f_sel (W2 := []) [] rfl rfl ?_
  refine f_iret hk he hA (jn_bool _) dX3_hasEnded_10 (by omega) (by omega) ?_
  exact ⟨rfl, rfl, rfl⟩
set_option maxHeartbeats 1500000 in
/-- X3 isAborted(I)Z -/
theorem fc_X3_isAborted {l : Launch} {E : jE} (hls : l.stackTraces = false) (hE : jSt E) (hN : jCn E) {z : jZ} (hzc : zLe (zS E) z) {a : Nat} {t : Nat} {s : List Op} (h : schZ E z a s) (ht : t < 1000) : fC l E yX3_isAborted cX3_isAborted 2 (some .boolean) 8 3092 (1) (1) [.ref a, .int (jI ((t : Nat) : Int))] z [] (fun rr z2 W2 => rr = some (.int (jI (jB (anyB (pIs 3 t) s s.length)))) ∧ W2 = [] ∧ z = z2) := by
  refine f_startM (own := "ScheduleAnalyzer$Schedule") (vs := [some (.ref a), some (.int (jI ((t : Nat) : Int)))]) hls (by decide +kernel) rfl rfl rfl (Nat.le_of_ble_eq_true rfl) ?_
  intro K H0 hk he hl0 hI hM hA
  have hsl33 := h.len
  refine j_ald4 hk dX3_isAborted_0 rfl rfl ?_
  refine j_ild4 hk dX3_isAborted_1 rfl rfl ?_
  refine f_indy (vals := [.int (jI ((t : Nat) : Int))]) (N := 1) hN.lam hk 1 rfl rfl hM rfl rfl (by decide) ⟨rfl, rfl, trivial⟩ (by simp [Value.category]) (by omega) ⟨by omega, by omega⟩ rfl rfl dX3_isAborted_2 ?_
  intro lm1
  refine f_W (W2 := [[(lm1, .inr (19, [.int (jI ((t : Nat) : Int))]))]]) rfl ?_
  obtain ⟨lss1, mss1, lis1, hzs1, hals1, hops1, hnds1⟩ := id h
  obtain ⟨zL2, hlL2, hmL2, hbL2⟩ := f_lend z [[(lm1, .inr (19, [.int (jI ((t : Nat) : Int))]))]] [[(lm1, .inr (19, [.int (jI ((t : Nat) : Int))]))]] (by simp)
  refine f_callV (Wc := []) (Wr := [[(lm1, .inr (19, [.int (jI ((t : Nat) : Int))]))]]) hE hk hl0 (.inl hzs1) (show vwCl[2]? = some (RX3, TX3, 1) from rfl) (fc_X3_has hls hE hN (z := zL2) (hzc.tr hlL2) (a := a) (t := lm1) (p := (pIs 3 t)) (s := s) (h.up hlL2) (fun b o hb ho => tc_1 hls hE hN (hzc.tr hlL2) (hmL2 _ (List.mem_cons_self) _ (List.mem_cons_self)) hb ho ht)) (hbL2) 1 (lw_V q884 q885 q886 q117 q887) (by decide +kernel) rfl (by decide) (by omega) rfl (Nat.le_of_ble_eq_true rfl) dX3_isAborted_7 ?_
  refine Or.inr ?_
  rintro _ _ _ ⟨rfl, rfl, -⟩ -
  refine f_W (W2 := [[(lm1, .inr (19, [.int (jI ((t : Nat) : Int))]))]]) rfl ?_
  refine f_sel (W2 := []) [] rfl rfl ?_
  refine f_iret hk he hA (jn_bool _) dX3_isAborted_10 (by omega) (by omega) ?_
  exact ⟨rfl, rfl, rfl⟩
set_option maxHeartbeats 1500000 in
/-- X3 isAbortedBefore(II)Z -/
theorem fc_X3_isAbortedBefore {l : Launch} {E : jE} (hls : l.stackTraces = false) (hE : jSt E) (hN : jCn E) {z : jZ} (hzc : zLe (zS E) z) {a : Nat} {t : Nat} {n : Nat} {s : List Op} (h : schZ E z a s) (ht : t < 1000) (hn : n ≤ s.length) : fC l E yX3_isAbortedBefore cX3_isAbortedBefore 3 (some .boolean) 7 3092 (1) (1) [.ref a, .int (jI ((t : Nat) : Int)), .int (jI ((n : Nat) : Int))] z [] (fun rr z2 W2 => rr = some (.int (jI (jB (anyB (pIs 3 t) s n)))) ∧ W2 = [] ∧ z = z2) := by
  refine f_startM (own := "ScheduleAnalyzer$Schedule") (vs := [some (.ref a), some (.int (jI ((t : Nat) : Int))), some (.int (jI ((n : Nat) : Int)))]) hls (by decide +kernel) rfl rfl rfl (Nat.le_of_ble_eq_true rfl) ?_
  intro K H0 hk he hl0 hI hM hA
  have hsl33 := h.len
  refine j_ald4 hk dX3_isAbortedBefore_0 rfl rfl ?_
  obtain ⟨lss1, mss1, lis1, hzs1, hals1, hops1, hnds1⟩ := id h
  refine f_get hE hk in_X3 (.inl hzs1) (show vwCl[2]? = some (RX3, TX3, 1) from rfl) 0 (by decide) q803 (Or.inl rfl) rfl dX3_isAbortedBefore_1 ?_
  refine j_ild4 hk dX3_isAbortedBefore_4 rfl rfl ?_
  refine j_ild4 hk dX3_isAbortedBefore_5 rfl rfl ?_
  refine f_indy (vals := [.int (jI ((t : Nat) : Int))]) (N := 1) hN.lam hk 4 rfl rfl hM rfl rfl (by decide) ⟨rfl, rfl, trivial⟩ (by simp [Value.category]) (by omega) ⟨by omega, by omega⟩ rfl rfl dX3_isAbortedBefore_6 ?_
  intro lm1
  refine f_W (W2 := [[(lm1, .inr (22, [.int (jI ((t : Nat) : Int))]))]]) rfl ?_
  obtain ⟨zL2, hlL2, hmL2, hbL2⟩ := f_lend z [[(lm1, .inr (22, [.int (jI ((t : Nat) : Int))]))]] [[(lm1, .inr (22, [.int (jI ((t : Nat) : Int))]))]] (by simp)
  refine f_callSN (Wc := []) (Wr := [[(lm1, .inr (22, [.int (jI ((t : Nat) : Int))]))]]) hE hk hl0 (fc_X1_findBefore hls hE hN (z := zL2) (hzc.tr hlL2) (a := lss1) (n := n) (t := lm1) (p := (pIs 3 t)) (mc := mss1) (li := lis1) (s := s) (hals1.up hlL2) (hops1.up hlL2) (hn) (fun b o hb ho => tc_4 hls hE hN (hzc.tr hlL2) (hmL2 _ (List.mem_cons_self) _ (List.mem_cons_self)) hb ho ht)) (hbL2) 3 q909 q115 q907 q908 (by decide +kernel) rfl (by decide) (by omega) rfl (Nat.le_of_ble_eq_true rfl) dX3_isAbortedBefore_11 ?_
  refine Or.inr ?_
  rintro _ _ _ ⟨rfl, rfl, -⟩ -
  refine f_W (W2 := [[(lm1, .inr (22, [.int (jI ((t : Nat) : Int))]))]]) rfl ?_
  have rf4 := lastN_r (fun i => (pIs 3 t) (opAt s i)) n
  refine j_iconst (n := -1) hk dX3_isAbortedBefore_14 ?_
  refine j_icmp_eq hk (by omega) (by omega) dX3_isAbortedBefore_15 rfl (tgt := 22) (fun h15 => ?_) (fun h15 => ?_)
  · refine j_iconst (n := 0) hk dX3_isAbortedBefore_22 ?_
    refine f_sel (W2 := []) [] rfl rfl ?_
    refine f_iret hk he hA rfl dX3_isAbortedBefore_23 (by omega) (by omega) ?_
    exact ⟨congrArg (fun z => some (Value.int (jI z))) (by rw [show anyB (pIs 3 t) s n = false from anyB_0 ‹_›]; rfl), rfl, rfl⟩
  · refine j_iconst (n := 1) hk dX3_isAbortedBefore_18 ?_
    refine j_goto (tgt := 23) hk dX3_isAbortedBefore_19 rfl ?_
    refine f_sel (W2 := []) [] rfl rfl ?_
    refine f_iret hk he hA rfl dX3_isAbortedBefore_23 (by omega) (by omega) ?_
    exact ⟨congrArg (fun z => some (Value.int (jI z))) (by rw [show anyB (pIs 3 t) s n = true from anyB_1 ‹_›]; rfl), rfl, rfl⟩
set_option maxHeartbeats 1500000 in
/-- X3 isCommittedBefore(II)Z -/
theorem fc_X3_isCommittedBefore {l : Launch} {E : jE} (hls : l.stackTraces = false) (hE : jSt E) (hN : jCn E) {z : jZ} (hzc : zLe (zS E) z) {a : Nat} {t : Nat} {n : Nat} {s : List Op} (h : schZ E z a s) (ht : t < 1000) (hn : n ≤ s.length) : fC l E yX3_isCommittedBefore cX3_isCommittedBefore 3 (some .boolean) 7 3092 (1) (1) [.ref a, .int (jI ((t : Nat) : Int)), .int (jI ((n : Nat) : Int))] z [] (fun rr z2 W2 => rr = some (.int (jI (jB (anyB (pIs 2 t) s n)))) ∧ W2 = [] ∧ z = z2) := by
  refine f_startM (own := "ScheduleAnalyzer$Schedule") (vs := [some (.ref a), some (.int (jI ((t : Nat) : Int))), some (.int (jI ((n : Nat) : Int)))]) hls (by decide +kernel) rfl rfl rfl (Nat.le_of_ble_eq_true rfl) ?_
  intro K H0 hk he hl0 hI hM hA
  have hsl33 := h.len
  refine j_ald4 hk dX3_isCommittedBefore_0 rfl rfl ?_
  obtain ⟨lss1, mss1, lis1, hzs1, hals1, hops1, hnds1⟩ := id h
  refine f_get hE hk in_X3 (.inl hzs1) (show vwCl[2]? = some (RX3, TX3, 1) from rfl) 0 (by decide) q803 (Or.inl rfl) rfl dX3_isCommittedBefore_1 ?_
  refine j_ild4 hk dX3_isCommittedBefore_4 rfl rfl ?_
  refine j_ild4 hk dX3_isCommittedBefore_5 rfl rfl ?_
  refine f_indy (vals := [.int (jI ((t : Nat) : Int))]) (N := 1) hN.lam hk 5 rfl rfl hM rfl rfl (by decide) ⟨rfl, rfl, trivial⟩ (by simp [Value.category]) (by omega) ⟨by omega, by omega⟩ rfl rfl dX3_isCommittedBefore_6 ?_
  intro lm1
  refine f_W (W2 := [[(lm1, .inr (23, [.int (jI ((t : Nat) : Int))]))]]) rfl ?_
  obtain ⟨zL2, hlL2, hmL2, hbL2⟩ := f_lend z [[(lm1, .inr (23, [.int (jI ((t : Nat) : Int))]))]] [[(lm1, .inr (23, [.int (jI ((t : Nat) : Int))]))]] (by simp)
  refine f_callSN (Wc := []) (Wr := [[(lm1, .inr (23, [.int (jI ((t : Nat) : Int))]))]]) hE hk hl0 (fc_X1_findBefore hls hE hN (z := zL2) (hzc.tr hlL2) (a := lss1) (n := n) (t := lm1) (p := (pIs 2 t)) (mc := mss1) (li := lis1) (s := s) (hals1.up hlL2) (hops1.up hlL2) (hn) (fun b o hb ho => tc_5 hls hE hN (hzc.tr hlL2) (hmL2 _ (List.mem_cons_self) _ (List.mem_cons_self)) hb ho ht)) (hbL2) 3 q909 q115 q907 q908 (by decide +kernel) rfl (by decide) (by omega) rfl (Nat.le_of_ble_eq_true rfl) dX3_isCommittedBefore_11 ?_
  refine Or.inr ?_
  rintro _ _ _ ⟨rfl, rfl, -⟩ -
  refine f_W (W2 := [[(lm1, .inr (23, [.int (jI ((t : Nat) : Int))]))]]) rfl ?_
  have rf4 := lastN_r (fun i => (pIs 2 t) (opAt s i)) n
  refine j_iconst (n := -1) hk dX3_isCommittedBefore_14 ?_
  refine j_icmp_eq hk (by omega) (by omega) dX3_isCommittedBefore_15 rfl (tgt := 22) (fun h15 => ?_) (fun h15 => ?_)
  · refine j_iconst (n := 0) hk dX3_isCommittedBefore_22 ?_
    refine f_sel (W2 := []) [] rfl rfl ?_
    refine f_iret hk he hA rfl dX3_isCommittedBefore_23 (by omega) (by omega) ?_
    exact ⟨congrArg (fun z => some (Value.int (jI z))) (by rw [show anyB (pIs 2 t) s n = false from anyB_0 ‹_›]; rfl), rfl, rfl⟩
  · refine j_iconst (n := 1) hk dX3_isCommittedBefore_18 ?_
    refine j_goto (tgt := 23) hk dX3_isCommittedBefore_19 rfl ?_
    refine f_sel (W2 := []) [] rfl rfl ?_
    refine f_iret hk he hA rfl dX3_isCommittedBefore_23 (by omega) (by omega) ?_
    exact ⟨congrArg (fun z => some (Value.int (jI z))) (by rw [show anyB (pIs 2 t) s n = true from anyB_1 ‹_›]; rfl), rfl, rfl⟩
set_option maxHeartbeats 1500000 in
/-- X3 isEndedBefore(II)Z -/
theorem fc_X3_isEndedBefore {l : Launch} {E : jE} (hls : l.stackTraces = false) (hE : jSt E) (hN : jCn E) {z : jZ} (hzc : zLe (zS E) z) {a : Nat} {t : Nat} {n : Nat} {s : List Op} (h : schZ E z a s) (ht : t < 1000) (hn : n ≤ s.length) : fC l E yX3_isEndedBefore cX3_isEndedBefore 3 (some .boolean) 7 3092 (1) (1) [.ref a, .int (jI ((t : Nat) : Int)), .int (jI ((n : Nat) : Int))] z [] (fun rr z2 W2 => rr = some (.int (jI (jB (anyB (pEnd t) s n)))) ∧ W2 = [] ∧ z = z2) := by
  refine f_startM (own := "ScheduleAnalyzer$Schedule") (vs := [some (.ref a), some (.int (jI ((t : Nat) : Int))), some (.int (jI ((n : Nat) : Int)))]) hls (by decide +kernel) rfl rfl rfl (Nat.le_of_ble_eq_true rfl) ?_
  intro K H0 hk he hl0 hI hM hA
  have hsl33 := h.len
  refine j_ald4 hk dX3_isEndedBefore_0 rfl rfl ?_
  obtain ⟨lss1, mss1, lis1, hzs1, hals1, hops1, hnds1⟩ := id h
  refine f_get hE hk in_X3 (.inl hzs1) (show vwCl[2]? = some (RX3, TX3, 1) from rfl) 0 (by decide) q803 (Or.inl rfl) rfl dX3_isEndedBefore_1 ?_
  refine j_ild4 hk dX3_isEndedBefore_4 rfl rfl ?_
  refine j_ild4 hk dX3_isEndedBefore_5 rfl rfl ?_
  refine f_indy (vals := [.int (jI ((t : Nat) : Int))]) (N := 1) hN.lam hk 8 rfl rfl hM rfl rfl (by decide) ⟨rfl, rfl, trivial⟩ (by simp [Value.category]) (by omega) ⟨by omega, by omega⟩ rfl rfl dX3_isEndedBefore_6 ?_
  intro lm1
  refine f_W (W2 := [[(lm1, .inr (26, [.int (jI ((t : Nat) : Int))]))]]) rfl ?_
  obtain ⟨zL2, hlL2, hmL2, hbL2⟩ := f_lend z [[(lm1, .inr (26, [.int (jI ((t : Nat) : Int))]))]] [[(lm1, .inr (26, [.int (jI ((t : Nat) : Int))]))]] (by simp)
  refine f_callSN (Wc := []) (Wr := [[(lm1, .inr (26, [.int (jI ((t : Nat) : Int))]))]]) hE hk hl0 (fc_X1_findBefore hls hE hN (z := zL2) (hzc.tr hlL2) (a := lss1) (n := n) (t := lm1) (p := (pEnd t)) (mc := mss1) (li := lis1) (s := s) (hals1.up hlL2) (hops1.up hlL2) (hn) (fun b o hb ho => tc_8 hls hE hN (hzc.tr hlL2) (hmL2 _ (List.mem_cons_self) _ (List.mem_cons_self)) hb ho ht)) (hbL2) 3 q909 q115 q907 q908 (by decide +kernel) rfl (by decide) (by omega) rfl (Nat.le_of_ble_eq_true rfl) dX3_isEndedBefore_11 ?_
  refine Or.inr ?_
  rintro _ _ _ ⟨rfl, rfl, -⟩ -
  refine f_W (W2 := [[(lm1, .inr (26, [.int (jI ((t : Nat) : Int))]))]]) rfl ?_
  have rf4 := lastN_r (fun i => (pEnd t) (opAt s i)) n
  refine j_iconst (n := -1) hk dX3_isEndedBefore_14 ?_
  refine j_icmp_eq hk (by omega) (by omega) dX3_isEndedBefore_15 rfl (tgt := 22) (fun h15 => ?_) (fun h15 => ?_)
  · refine j_iconst (n := 0) hk dX3_isEndedBefore_22 ?_
    refine f_sel (W2 := []) [] rfl rfl ?_
    refine f_iret hk he hA rfl dX3_isEndedBefore_23 (by omega) (by omega) ?_
    exact ⟨congrArg (fun z => some (Value.int (jI z))) (by rw [show anyB (pEnd t) s n = false from anyB_0 ‹_›]; rfl), rfl, rfl⟩
  · refine j_iconst (n := 1) hk dX3_isEndedBefore_18 ?_
    refine j_goto (tgt := 23) hk dX3_isEndedBefore_19 rfl ?_
    refine f_sel (W2 := []) [] rfl rfl ?_
    refine f_iret hk he hA rfl dX3_isEndedBefore_23 (by omega) (by omega) ?_
    exact ⟨congrArg (fun z => some (Value.int (jI z))) (by rw [show anyB (pEnd t) s n = true from anyB_1 ‹_›]; rfl), rfl, rfl⟩
set_option maxHeartbeats 1500000 in
/-- X3 commitOf(I)I -/
theorem fc_X3_commitOf {l : Launch} {E : jE} (hls : l.stackTraces = false) (hE : jSt E) (hN : jCn E) {z : jZ} (hzc : zLe (zS E) z) {a : Nat} {t : Nat} {s : List Op} (h : schZ E z a s) (ht : t < 1000) : fC l E yX3_commitOf cX3_commitOf 2 (some .int) 7 3092 (1) (1) [.ref a, .int (jI ((t : Nat) : Int))] z [] (fun rr z2 W2 => rr = some (.int (jI (lastN (fun i => pIs 2 t (opAt s i)) s.length))) ∧ W2 = [] ∧ z = z2) := by
  refine f_startM (own := "ScheduleAnalyzer$Schedule") (vs := [some (.ref a), some (.int (jI ((t : Nat) : Int)))]) hls (by decide +kernel) rfl rfl rfl (Nat.le_of_ble_eq_true rfl) ?_
  intro K H0 hk he hl0 hI hM hA
  have hsl33 := h.len
  refine j_ald4 hk dX3_commitOf_0 rfl rfl ?_
  obtain ⟨lss1, mss1, lis1, hzs1, hals1, hops1, hnds1⟩ := id h
  refine f_get hE hk in_X3 (.inl hzs1) (show vwCl[2]? = some (RX3, TX3, 1) from rfl) 0 (by decide) q803 (Or.inl rfl) rfl dX3_commitOf_1 ?_
  refine j_ald4 hk dX3_commitOf_4 rfl rfl ?_
  refine f_callV (Wc := []) (Wr := []) hE hk hl0 (.inl hzs1) (show vwCl[2]? = some (RX3, TX3, 1) from rfl) (fc_X3_size hls hE hN (z := z) hzc (a := a) (s := s) (h)) (fun _ h => Or.inl h) 0 (lw_V q888 q889 q890 q117 q891) (by decide +kernel) rfl (by decide) (by omega) rfl (Nat.le_of_ble_eq_true rfl) dX3_commitOf_5 ?_
  refine Or.inl ⟨rfl, ?_⟩
  rintro _ _ _ ⟨rfl, rfl, rfl⟩ -
  refine f_W (W2 := []) rfl ?_
  refine j_ild4 hk dX3_commitOf_8 rfl rfl ?_
  refine f_indy (vals := [.int (jI ((t : Nat) : Int))]) (N := 1) hN.lam hk 7 rfl rfl hM rfl rfl (by decide) ⟨rfl, rfl, trivial⟩ (by simp [Value.category]) (by omega) ⟨by omega, by omega⟩ rfl rfl dX3_commitOf_9 ?_
  intro lm1
  refine f_W (W2 := [[(lm1, .inr (25, [.int (jI ((t : Nat) : Int))]))]]) rfl ?_
  obtain ⟨zL3, hlL3, hmL3, hbL3⟩ := f_lend z [[(lm1, .inr (25, [.int (jI ((t : Nat) : Int))]))]] [[(lm1, .inr (25, [.int (jI ((t : Nat) : Int))]))]] (by simp)
  refine f_callSN (Wc := []) (Wr := [[(lm1, .inr (25, [.int (jI ((t : Nat) : Int))]))]]) hE hk hl0 (fc_X1_findBefore hls hE hN (z := zL3) (hzc.tr hlL3) (a := lss1) (n := s.length) (t := lm1) (p := (pIs 2 t)) (mc := mss1) (li := lis1) (s := s) (hals1.up hlL3) (hops1.up hlL3) (Nat.le_refl _) (fun b o hb ho => tc_7 hls hE hN (hzc.tr hlL3) (hmL3 _ (List.mem_cons_self) _ (List.mem_cons_self)) hb ho ht)) (hbL3) 3 q909 q115 q907 q908 (by decide +kernel) rfl (by decide) (by omega) rfl (Nat.le_of_ble_eq_true rfl) dX3_commitOf_14 ?_
  refine Or.inr ?_
  rintro _ _ _ ⟨rfl, rfl, -⟩ -
  refine f_W (W2 := [[(lm1, .inr (25, [.int (jI ((t : Nat) : Int))]))]]) rfl ?_
  have rf5 := lastN_r (fun i => (pIs 2 t) (opAt s i)) s.length
  refine f_sel (W2 := []) [] rfl rfl ?_
  refine f_iret hk he hA rfl dX3_commitOf_17 (by omega) (by omega) ?_
  exact ⟨rfl, rfl, rfl⟩
set_option maxHeartbeats 1500000 in
/-- X3 lambda_sourceOf_6(CILScheduleAnalyzer$Operation;)Z -/
theorem fc_X3_lambda_sourceOf_6 {l : Launch} {E : jE} (hls : l.stackTraces = false) (hE : jSt E) (hN : jCn E) {z : jZ} (hzc : zLe (zS E) z) {a : Nat} {n : Nat} {b : Nat} {s : List Op} {ii : Nat} {o : Op} (h : schZ E z a s) (ho_b : z (b, .inr (5, opFs o))) (hk_b : opOK o) (hii : ii < 4) (hn : n ≤ s.length) : fC l E yX3_lambda_sourceOf_6 cX3_lambda_sourceOf_6 4 (some .boolean) 8 3114 (1) (1) [.ref a, .int (jI ((97 + ii : Nat) : Int)), .int (jI ((n : Nat) : Int)), .ref b] z [] (fun rr z2 W2 => rr = some (.int (jI (jB (pSrc s n ii o)))) ∧ W2 = [] ∧ z = z2) := by
  refine f_start (own := "ScheduleAnalyzer$Schedule") (vs := [some (.ref a), some (.int (jI ((97 + ii : Nat) : Int))), some (.int (jI ((n : Nat) : Int))), some (.ref b)]) hls (by decide +kernel) rfl rfl rfl (Nat.le_of_ble_eq_true rfl) ?_
  intro K H0 hk he hl0 hI hA
  have hsl33 := h.len
  have lk_b := letK_c hk_b
  have hk0_b := hk_b
  obtain ⟨b1, b2, b3, b4, b5⟩ := hk0_b
  refine j_ald4 hk dX3_lambda_sourceOf_6_0 rfl rfl ?_
  refine j_ild4 hk dX3_lambda_sourceOf_6_1 rfl rfl ?_
  refine f_callV (Wc := []) (Wr := []) hE hk hl0 (.inl ho_b) (show vwCl[5]? = some (RX6, TX6, 3) from rfl) (fc_X6_isWriteOf hls hE hN (z := z) hzc (a := b) (c := ((97 + ii : Nat) : Int)) (o := o) (ho_b) (hk_b) (by first | assumption | omega)) (fun _ h => Or.inl h) 1 (lw_V q1241 q1242 q1243 q149 q1244) (by decide +kernel) rfl (by decide) (by omega) rfl (Nat.le_of_ble_eq_true rfl) dX3_lambda_sourceOf_6_2 ?_
  refine Or.inl ⟨rfl, ?_⟩
  rintro _ _ _ ⟨rfl, rfl, rfl⟩ -
  refine f_W (W2 := []) rfl ?_
  refine j_ifeqB hk dX3_lambda_sourceOf_6_5 rfl (tgt := 24) (fun h5 => ?_) (fun h5 => ?_)
  · refine j_iconst (n := 0) hk dX3_lambda_sourceOf_6_24 ?_
    refine f_iret hk he hA rfl dX3_lambda_sourceOf_6_25 (by omega) (by omega) ?_
    exact ⟨congrArg (fun z => some (Value.int (jI z))) (by rw [show pSrc s n ii o = false by unfold pSrc; first | (rw [h17]; simp) | (simp at h5 ⊢; intro q1 q2; omega)]; rfl), rfl, rfl⟩
  · refine j_ald4 hk dX3_lambda_sourceOf_6_8 rfl rfl ?_
    refine j_ald4 hk dX3_lambda_sourceOf_6_9 rfl rfl ?_
    refine f_getN hE hk in_X6 (.inl ho_b) (show vwCl[5]? = some (RX6, TX6, 3) from rfl) 1 (by decide) q1667 rfl rfl dX3_lambda_sourceOf_6_10 ?_
    refine j_ild4 hk dX3_lambda_sourceOf_6_13 rfl rfl ?_
    obtain ⟨lss2, mss2, lis2, hzs2, hals2, hops2, hnds2⟩ := id h
    refine f_callV (Wc := []) (Wr := []) hE hk hl0 (.inl hzs2) (show vwCl[2]? = some (RX3, TX3, 1) from rfl) (fc_X3_isAbortedBefore hls hE hN (z := z) hzc (a := a) (t := oT o) (n := n) (s := s) (h) (by first | assumption | omega) (hn)) (fun _ h => Or.inl h) 2 (lw_V q1245 q1247 qs10 q117 q1248) (by decide +kernel) rfl (by decide) (by omega) rfl (Nat.le_of_ble_eq_true rfl) dX3_lambda_sourceOf_6_14 ?_
    refine Or.inl ⟨rfl, ?_⟩
    rintro _ _ _ ⟨rfl, rfl, rfl⟩ -
    refine f_W (W2 := []) rfl ?_
    refine j_ifneB hk dX3_lambda_sourceOf_6_17 rfl (tgt := 24) (fun h17 => ?_) (fun h17 => ?_)
    · refine j_iconst (n := 0) hk dX3_lambda_sourceOf_6_24 ?_
      refine f_iret hk he hA rfl dX3_lambda_sourceOf_6_25 (by omega) (by omega) ?_
      exact ⟨congrArg (fun z => some (Value.int (jI z))) (by rw [show pSrc s n ii o = false by unfold pSrc; first | (rw [h17]; simp) | (simp at h5 ⊢; intro q1 q2; omega)]; rfl), rfl, rfl⟩
    · refine j_iconst (n := 1) hk dX3_lambda_sourceOf_6_20 ?_
      refine j_goto (tgt := 25) hk dX3_lambda_sourceOf_6_21 rfl ?_
      refine f_iret hk he hA rfl dX3_lambda_sourceOf_6_25 (by omega) (by omega) ?_
      exact ⟨congrArg (fun z => some (Value.int (jI z))) (by rw [show pSrc s n ii o = true by unfold pSrc; rw [h17]; simp at h5 ⊢; omega]; rfl), rfl, rfl⟩
theorem tc_6 {l : Launch} {E : jE} (hls : l.stackTraces = false) (hE : jSt E) (hN : jCn E) {z : jZ} (hzc : zLe (zS E) z) {ta a n b : Nat} {s : List Op} {ii : Nat} {o : Op} (hta : z (ta, .inr (18 + 6, [.ref a, .int (jI ((97 + ii : Nat) : Int)), .int (jI ((n : Nat) : Int))]))) (h : schZ E z a s) (ho_b : z (b, .inr (5, opFs o))) (hk_b : opOK o) (hii : ii < 4) (hn : n ≤ s.length) : tC l E 20 7000 1 1 z ta b (pSrc s n ii o) := by
  have h0 := h
  obtain ⟨lst, mcx, li, hz, -⟩ := h0
  exact ⟨6, _, _, [.ref a, .int (jI ((97 + ii : Nat) : Int)), .int (jI ((n : Nat) : Int))], yX3_lambda_sourceOf_6, cX3_lambda_sourceOf_6, 4, 8, 3114, rfl, rfl, rfl, rfl, hta, (by decide +kernel), (by decide +kernel), q1240, q117, Or.inr ⟨by decide, q1239, q1238, a, _, 2, _, rfl, hz, (show (parseMethodDescriptor yX3_lambda_sourceOf_6.desc).map (fun d => d.parameters.length) = some 3 by decide +kernel)⟩, (by decide), (by decide), fc_X3_lambda_sourceOf_6 hls hE hN hzc h ho_b hk_b hii hn⟩
