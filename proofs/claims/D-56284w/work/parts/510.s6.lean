/-! S, 6: sources -/
/-- the other transaction from which a read gets its value -/
def frC (s : List Op) (k : Nat) : Int := if oK (opAt s k) = 0 then (if srcC s k = -1 then -1 else if oT (opAt s (srcC s k).toNat) = oT (opAt s k) then -1 else ((oT (opAt s (srcC s k).toNat) : Nat) : Int)) else -1
def drC (s : List Op) (k : Nat) : Bool := !decide (frC s k = -1) && !anyB (pIs 2 (frC s k).toNat) s k
def cmC (s : List Op) (k : Nat) : Int := if frC s k = -1 then -1 else lastN (fun i => pIs 2 (oT (opAt s k)) (opAt s i)) s.length
def rcC (s : List Op) (k : Nat) : Bool := decide (cmC s k = -1) || anyB (pIs 2 (frC s k).toNat) s (cmC s k).toNat
def teC (s : List Op) (k j : Nat) : Bool := decide (oK (opAt s k) < 2) && ((decide (oK (opAt s j) = 1) && decide (oI (opAt s j) = oI (opAt s k)) && !decide (oT (opAt s j) = oT (opAt s k))) && !anyB (pEnd (oT (opAt s j))) s k)
def tooC (s : List Op) (k : Nat) : Bool := (List.range k).any (teC s k)
theorem all_S {p : Nat → Bool} {k : Nat} : (List.range (k + 1)).all p = ((List.range k).all p && p k) := by
  rw [List.range_succ, List.all_append]
  simp
theorem any_S {p : Nat → Bool} {k : Nat} : (List.range (k + 1)).any p = ((List.range k).any p || p k) := by
  rw [List.range_succ, List.any_append]
  simp
theorem frC_r {s : List Op} {k : Nat} (hs : ∀ i, i < s.length → opOK (opAt s i)) (hk : k < s.length) : frC s k = -1 ∨ (1 ≤ frC s k ∧ frC s k ≤ 5) := by
  have hr := srcC_r s k
  unfold frC
  split
  · split
    · exact Or.inl rfl
    · split
      · exact Or.inl rfl
      · have := hs (srcC s k).toNat (by omega)
        obtain ⟨-, h1, h2, -⟩ := this
        omega
  · exact Or.inl rfl
theorem te_0 {s : List Op} {k : Nat} (h : decide (oK (opAt s k) < 2) = false) {n : Nat} : (List.range n).any (teC s k) = false := by
  rw [List.any_eq_false]
  intro j _
  unfold teC
  rw [h]
  simp
theorem opsZ.okAt {z : jZ} {l : List Nat} {s : List Op} (h : opsZ z l s) : ∀ i, i < s.length → opOK (opAt s i) := fun i hi => by
  obtain ⟨-, -, -, h3⟩ := h.at hi
  exact h3
set_option maxHeartbeats 1500000 in
/-- X3 sourceOf(I)I -/
theorem fc_X3_sourceOf {l : Launch} {E : jE} (hls : l.stackTraces = false) (hE : jSt E) (hN : jCn E) {z : jZ} (hzc : zLe (zS E) z) {a : Nat} {k : Nat} {s : List Op} (h : schZ E z a s) (hk_ : k < s.length) : fC l E yX3_sourceOf cX3_sourceOf 3 (some .int) 21 7023 (1 + k) (3 + k) [.ref a, .int (jI ((k : Nat) : Int))] z [] (fun rr z2 W2 => rr = some (.int (jI (srcC s k))) ∧ W2 = [] ∧ z = z2) := by
  refine f_startM (own := "ScheduleAnalyzer$Schedule") (vs := [some (.ref a), some (.int (jI ((k : Nat) : Int))), none]) hls (by decide +kernel) rfl rfl rfl (Nat.le_of_ble_eq_true rfl) ?_
  intro K H0 hk he hl0 hI hM hA
  have hsl33 := h.len
  refine j_ald4 hk dX3_sourceOf_0 rfl rfl ?_
  obtain ⟨lss1, mss1, lis1, hzs1, hals1, hops1, hnds1⟩ := id h
  refine f_get hE hk in_X3 (.inl hzs1) (show vwCl[2]? = some (RX3, TX3, 1) from rfl) 0 (by decide) q803 (Or.inl rfl) rfl dX3_sourceOf_1 ?_
  refine j_ild4 hk dX3_sourceOf_4 rfl rfl ?_
  obtain ⟨b, hb, hob, hok⟩ := hops1.at (i := k) (by omega)
  obtain ⟨o1, o2, o3, o4, o5⟩ := id hok
  have lk := letK_c hok
  obtain ⟨qo2, capo2, fo2, hc1o2, hc2o2, hl1o2, hl2o2, hfo2⟩ := hals1.cell hN hzc
  refine f_callF (Wc := []) (Wr := []) hE hk hl0 (.inl hc1o2) (show vwCl[10]? = some (RJ2, TJ2, 3) from rfl) (fc_J2_get hls hE hN (z := z) hzc (a := lss1) (i := k) (mc := mss1) (li := lis1) (b := b) (hals1) (hb)) (fun _ h => Or.inl h) 1 (lw_Fg q1201 q393 q395 q120 q397) q392 q391 q396 q394 q222 (by decide +kernel) rfl (by decide) (by omega) rfl (Nat.le_of_ble_eq_true rfl) dX3_sourceOf_5 ?_
  refine Or.inl ⟨rfl, ?_⟩
  rintro _ _ _ ⟨rfl, rfl, rfl⟩ -
  refine f_W (W2 := []) rfl ?_
  refine f_castS hE hk (.inl hob) (show vwCl[5]? = some (RX6, TX6, 3) from rfl) q712 dX3_sourceOf_10 ?_
  refine f_getN hE hk in_X6 (.inl hob) (show vwCl[5]? = some (RX6, TX6, 3) from rfl) 2 (by decide) q1672 rfl rfl dX3_sourceOf_13 ?_
  refine j_ist2 hk dX3_sourceOf_16 rfl ?_
  refine j_ald4 hk dX3_sourceOf_17 rfl rfl ?_
  refine f_get hE hk in_X3 (.inl hzs1) (show vwCl[2]? = some (RX3, TX3, 1) from rfl) 0 (by decide) q803 (Or.inl rfl) rfl dX3_sourceOf_18 ?_
  refine j_ild4 hk dX3_sourceOf_21 rfl rfl ?_
  refine j_ald4 hk dX3_sourceOf_22 rfl rfl ?_
  refine j_ild4 hk dX3_sourceOf_23 rfl rfl ?_
  refine j_ild4 hk dX3_sourceOf_24 rfl rfl ?_
  refine f_indy (vals := [.ref a, .int (jI ((97 + oI (opAt s k) : Nat) : Int)), .int (jI ((k : Nat) : Int))]) (N := 3) hN.lam hk 6 rfl rfl hM rfl rfl (by decide) ⟨rfl, rfl, (jn_charI (by omega) (by omega)), (jn_charF (by omega) (by omega)), rfl, rfl, trivial⟩ (by simp [Value.category]) (by omega) ⟨by omega, by omega⟩ rfl rfl dX3_sourceOf_25 ?_
  intro lm1
  refine f_W (W2 := [[(lm1, .inr (24, [.ref a, .int (jI ((97 + oI (opAt s k) : Nat) : Int)), .int (jI ((k : Nat) : Int))]))]]) rfl ?_
  obtain ⟨zL4, hlL4, hmL4, hbL4⟩ := f_lend z [[(lm1, .inr (24, [.ref a, .int (jI ((97 + oI (opAt s k) : Nat) : Int)), .int (jI ((k : Nat) : Int))]))]] [[(lm1, .inr (24, [.ref a, .int (jI ((97 + oI (opAt s k) : Nat) : Int)), .int (jI ((k : Nat) : Int))]))]] (by simp)
  refine f_callSN (Wc := []) (Wr := [[(lm1, .inr (24, [.ref a, .int (jI ((97 + oI (opAt s k) : Nat) : Int)), .int (jI ((k : Nat) : Int))]))]]) hE hk hl0 (fc_X1_findBeforeG hls hE hN (z := zL4) (hzc.tr hlL4) (a := lss1) (n := k) (t := lm1) (p := (pSrc s k (oI (opAt s k)))) (mc := mss1) (li := lis1) (s := s) (hals1.up hlL4) (hops1.up hlL4) (by omega) (fun b o hb ho => tc_6 hls hE hN (hzc.tr hlL4) (hmL4 _ (List.mem_cons_self) _ (List.mem_cons_self)) (h.up hlL4) hb ho (by omega) (by omega))) (hbL4) 3 q909 q115 q907 q908 (by decide +kernel) rfl (by decide) (by omega) rfl (Nat.le_of_ble_eq_true rfl) dX3_sourceOf_30 ?_
  refine Or.inr ?_
  rintro _ _ _ ⟨rfl, rfl, -⟩ -
  refine f_W (W2 := [[(lm1, .inr (24, [.ref a, .int (jI ((97 + oI (opAt s k) : Nat) : Int)), .int (jI ((k : Nat) : Int))]))]]) rfl ?_
  have rf6 := lastN_r (fun i => (pSrc s k (oI (opAt s k))) (opAt s i)) k
  refine f_sel (W2 := []) [] rfl rfl ?_
  refine f_iret hk he hA rfl dX3_sourceOf_33 (by omega) (by omega) ?_
  exact ⟨rfl, rfl, rfl⟩
set_option maxHeartbeats 1500000 in
/-- X3 foreignSource(I)I -/
theorem fc_X3_foreignSource {l : Launch} {E : jE} (hls : l.stackTraces = false) (hE : jSt E) (hN : jCn E) {z : jZ} (hzc : zLe (zS E) z) {a : Nat} {k : Nat} {s : List Op} (h : schZ E z a s) (hk_ : k < s.length) : fC l E yX3_foreignSource cX3_foreignSource 4 (some .int) 22 7045 (1 + k) (3 + k) [.ref a, .int (jI ((k : Nat) : Int))] z [] (fun rr z2 W2 => rr = some (.int (jI (frC s k))) ∧ W2 = [] ∧ z = z2) := by
  refine f_start (own := "ScheduleAnalyzer$Schedule") (vs := [some (.ref a), some (.int (jI ((k : Nat) : Int))), none, none]) hls (by decide +kernel) rfl rfl rfl (Nat.le_of_ble_eq_true rfl) ?_
  intro K H0 hk he hl0 hI hA
  have hsl33 := h.len
  refine j_ald4 hk dX3_foreignSource_0 rfl rfl ?_
  obtain ⟨lss1, mss1, lis1, hzs1, hals1, hops1, hnds1⟩ := id h
  refine f_get hE hk in_X3 (.inl hzs1) (show vwCl[2]? = some (RX3, TX3, 1) from rfl) 0 (by decide) q803 (Or.inl rfl) rfl dX3_foreignSource_1 ?_
  refine j_ild4 hk dX3_foreignSource_4 rfl rfl ?_
  obtain ⟨b, hb, hob, hok⟩ := hops1.at (i := k) (by omega)
  obtain ⟨o1, o2, o3, o4, o5⟩ := id hok
  have lk := letK_c hok
  obtain ⟨qo2, capo2, fo2, hc1o2, hc2o2, hl1o2, hl2o2, hfo2⟩ := hals1.cell hN hzc
  refine f_callF (Wc := []) (Wr := []) hE hk hl0 (.inl hc1o2) (show vwCl[10]? = some (RJ2, TJ2, 3) from rfl) (fc_J2_get hls hE hN (z := z) hzc (a := lss1) (i := k) (mc := mss1) (li := lis1) (b := b) (hals1) (hb)) (fun _ h => Or.inl h) 1 (lw_Fg q1201 q393 q395 q120 q397) q392 q391 q396 q394 q222 (by decide +kernel) rfl (by decide) (by omega) rfl (Nat.le_of_ble_eq_true rfl) dX3_foreignSource_5 ?_
  refine Or.inl ⟨rfl, ?_⟩
  rintro _ _ _ ⟨rfl, rfl, rfl⟩ -
  refine f_W (W2 := []) rfl ?_
  refine f_castS hE hk (.inl hob) (show vwCl[5]? = some (RX6, TX6, 3) from rfl) q712 dX3_foreignSource_10 ?_
  refine f_getN hE hk in_X6 (.inl hob) (show vwCl[5]? = some (RX6, TX6, 3) from rfl) 0 (by decide) q1661 rfl rfl dX3_foreignSource_13 ?_
  refine j_bipush (n := 114) hk rfl dX3_foreignSource_16 ?_
  refine j_icmp_ne hk (by omega) (by omega) dX3_foreignSource_18 rfl (tgt := 29) (fun h18 => ?_) (fun h18 => ?_)
  · refine j_iconst (n := -1) hk dX3_foreignSource_29 ?_
    refine j_ist2 hk dX3_foreignSource_30 rfl ?_
    refine j_ild4 hk dX3_foreignSource_31 rfl rfl ?_
    refine j_iconst (n := -1) hk dX3_foreignSource_32 ?_
    refine j_icmp_ne hk (by omega) (by omega) dX3_foreignSource_33 rfl (tgt := 40) (fun h33 => ?_) (fun h33 => ?_)
    · refine j_ald4 hk dX3_foreignSource_40 rfl rfl ?_
      refine f_get hE hk in_X3 (.inl hzs1) (show vwCl[2]? = some (RX3, TX3, 1) from rfl) 0 (by decide) q803 (Or.inl rfl) rfl dX3_foreignSource_41 ?_
      refine j_ild4 hk dX3_foreignSource_44 rfl rfl ?_
      refine j_top (z2 := (((srcC s k).toNat : Nat) : Int)) (by omega) ?_
      obtain ⟨bS, hbS, hobS, hokS⟩ := hops1.at (i := (srcC s k).toNat) (by omega)
      obtain ⟨o1S, o2S, o3S, o4S, o5S⟩ := id hokS
      have lkS := letK_c hokS
      refine f_callF (Wc := []) (Wr := []) hE hk hl0 (.inl hc1o2) (show vwCl[10]? = some (RJ2, TJ2, 3) from rfl) (fc_J2_get hls hE hN (z := z) hzc (a := lss1) (i := (srcC s k).toNat) (mc := mss1) (li := lis1) (b := bS) (hals1) (hbS)) (fun _ h => Or.inl h) 1 (lw_Fg q1201 q393 q395 q120 q397) q392 q391 q396 q394 q222 (by decide +kernel) rfl (by decide) (by omega) rfl (Nat.le_of_ble_eq_true rfl) dX3_foreignSource_45 ?_
      refine Or.inl ⟨rfl, ?_⟩
      rintro _ _ _ ⟨rfl, rfl, rfl⟩ -
      refine f_W (W2 := []) rfl ?_
      refine f_castS hE hk (.inl hobS) (show vwCl[5]? = some (RX6, TX6, 3) from rfl) q712 dX3_foreignSource_50 ?_
      refine f_getN hE hk in_X6 (.inl hobS) (show vwCl[5]? = some (RX6, TX6, 3) from rfl) 1 (by decide) q1667 rfl rfl dX3_foreignSource_53 ?_
      refine j_ist3 hk dX3_foreignSource_56 rfl ?_
      refine j_ild4 hk dX3_foreignSource_57 rfl rfl ?_
      refine j_ald4 hk dX3_foreignSource_58 rfl rfl ?_
      refine f_get hE hk in_X3 (.inl hzs1) (show vwCl[2]? = some (RX3, TX3, 1) from rfl) 0 (by decide) q803 (Or.inl rfl) rfl dX3_foreignSource_59 ?_
      refine j_ild4 hk dX3_foreignSource_62 rfl rfl ?_
      refine f_callF (Wc := []) (Wr := []) hE hk hl0 (.inl hc1o2) (show vwCl[10]? = some (RJ2, TJ2, 3) from rfl) (fc_J2_get hls hE hN (z := z) hzc (a := lss1) (i := k) (mc := mss1) (li := lis1) (b := b) (hals1) (hb)) (fun _ h => Or.inl h) 1 (lw_Fg q1201 q393 q395 q120 q397) q392 q391 q396 q394 q222 (by decide +kernel) rfl (by decide) (by omega) rfl (Nat.le_of_ble_eq_true rfl) dX3_foreignSource_63 ?_
      refine Or.inl ⟨rfl, ?_⟩
      rintro _ _ _ ⟨rfl, rfl, rfl⟩ -
      refine f_W (W2 := []) rfl ?_
      refine f_castS hE hk (.inl hob) (show vwCl[5]? = some (RX6, TX6, 3) from rfl) q712 dX3_foreignSource_68 ?_
      refine f_getN hE hk in_X6 (.inl hob) (show vwCl[5]? = some (RX6, TX6, 3) from rfl) 1 (by decide) q1667 rfl rfl dX3_foreignSource_71 ?_
      refine j_icmp_ne hk (by omega) (by omega) dX3_foreignSource_74 rfl (tgt := 81) (fun h74 => ?_) (fun h74 => ?_)
      · refine j_ild4 hk dX3_foreignSource_81 rfl rfl ?_
        refine f_iret hk he hA rfl dX3_foreignSource_82 (by omega) (by omega) ?_
        exact ⟨congrArg (fun z => some (Value.int (jI z))) (by unfold frC; first | (exfalso; omega) | (rw [if_neg (by omega)]) | (rw [if_pos (by omega), if_pos (by omega)]) | (rw [if_pos (by omega), if_neg (by omega), if_pos (by omega)]) | (rw [if_pos (by omega), if_neg (by omega), if_neg (by omega)])), rfl, rfl⟩
      · refine j_iconst (n := -1) hk dX3_foreignSource_77 ?_
        refine j_goto (tgt := 82) hk dX3_foreignSource_78 rfl ?_
        refine f_iret hk he hA rfl dX3_foreignSource_82 (by omega) (by omega) ?_
        exact ⟨congrArg (fun z => some (Value.int (jI z))) (by unfold frC; first | (exfalso; omega) | (rw [if_neg (by omega)]) | (rw [if_pos (by omega), if_pos (by omega)]) | (rw [if_pos (by omega), if_neg (by omega), if_pos (by omega)]) | (rw [if_pos (by omega), if_neg (by omega), if_neg (by omega)])), rfl, rfl⟩
    · refine j_iconst (n := -1) hk dX3_foreignSource_36 ?_
      refine j_goto (tgt := 56) hk dX3_foreignSource_37 rfl ?_
      refine j_ist3 hk dX3_foreignSource_56 rfl ?_
      refine j_ild4 hk dX3_foreignSource_57 rfl rfl ?_
      refine j_ald4 hk dX3_foreignSource_58 rfl rfl ?_
      refine f_get hE hk in_X3 (.inl hzs1) (show vwCl[2]? = some (RX3, TX3, 1) from rfl) 0 (by decide) q803 (Or.inl rfl) rfl dX3_foreignSource_59 ?_
      refine j_ild4 hk dX3_foreignSource_62 rfl rfl ?_
      refine f_callF (Wc := []) (Wr := []) hE hk hl0 (.inl hc1o2) (show vwCl[10]? = some (RJ2, TJ2, 3) from rfl) (fc_J2_get hls hE hN (z := z) hzc (a := lss1) (i := k) (mc := mss1) (li := lis1) (b := b) (hals1) (hb)) (fun _ h => Or.inl h) 1 (lw_Fg q1201 q393 q395 q120 q397) q392 q391 q396 q394 q222 (by decide +kernel) rfl (by decide) (by omega) rfl (Nat.le_of_ble_eq_true rfl) dX3_foreignSource_63 ?_
      refine Or.inl ⟨rfl, ?_⟩
      rintro _ _ _ ⟨rfl, rfl, rfl⟩ -
      refine f_W (W2 := []) rfl ?_
      refine f_castS hE hk (.inl hob) (show vwCl[5]? = some (RX6, TX6, 3) from rfl) q712 dX3_foreignSource_68 ?_
      refine f_getN hE hk in_X6 (.inl hob) (show vwCl[5]? = some (RX6, TX6, 3) from rfl) 1 (by decide) q1667 rfl rfl dX3_foreignSource_71 ?_
      refine j_icmp_ne hk (by omega) (by omega) dX3_foreignSource_74 rfl (tgt := 81) (fun h74 => ?_) (fun h74 => ?_)
      · refine j_ild4 hk dX3_foreignSource_81 rfl rfl ?_
        refine f_iret hk he hA rfl dX3_foreignSource_82 (by omega) (by omega) ?_
        exact ⟨congrArg (fun z => some (Value.int (jI z))) (by unfold frC; first | (exfalso; omega) | (rw [if_neg (by omega)]) | (rw [if_pos (by omega), if_pos (by omega)]) | (rw [if_pos (by omega), if_neg (by omega), if_pos (by omega)]) | (rw [if_pos (by omega), if_neg (by omega), if_neg (by omega)])), rfl, rfl⟩
      · refine j_iconst (n := -1) hk dX3_foreignSource_77 ?_
        refine j_goto (tgt := 82) hk dX3_foreignSource_78 rfl ?_
        refine f_iret hk he hA rfl dX3_foreignSource_82 (by omega) (by omega) ?_
        exact ⟨congrArg (fun z => some (Value.int (jI z))) (by unfold frC; first | (exfalso; omega) | (rw [if_neg (by omega)]) | (rw [if_pos (by omega), if_pos (by omega)]) | (rw [if_pos (by omega), if_neg (by omega), if_pos (by omega)]) | (rw [if_pos (by omega), if_neg (by omega), if_neg (by omega)])), rfl, rfl⟩
  · refine j_ald4 hk dX3_foreignSource_21 rfl rfl ?_
    refine j_ild4 hk dX3_foreignSource_22 rfl rfl ?_
    refine f_callV (Wc := []) (Wr := []) hE hk hl0 (.inl hzs1) (show vwCl[2]? = some (RX3, TX3, 1) from rfl) (fc_X3_sourceOf hls hE hN (z := z) hzc (a := a) (k := k) (s := s) (h) (hk_)) (fun _ h => Or.inl h) 1 (lw_V q1234 q1235 q1236 q117 q1237) (by decide +kernel) rfl (by decide) (by omega) rfl (Nat.le_of_ble_eq_true rfl) dX3_foreignSource_23 ?_
    refine Or.inl ⟨rfl, ?_⟩
    rintro _ _ _ ⟨rfl, rfl, rfl⟩ -
    refine f_W (W2 := []) rfl ?_
    have rf8 := srcC_r s k
    refine j_goto (tgt := 30) hk dX3_foreignSource_26 rfl ?_
    refine j_ist2 hk dX3_foreignSource_30 rfl ?_
    refine j_ild4 hk dX3_foreignSource_31 rfl rfl ?_
    refine j_iconst (n := -1) hk dX3_foreignSource_32 ?_
    refine j_icmp_ne hk (by omega) (by omega) dX3_foreignSource_33 rfl (tgt := 40) (fun h33 => ?_) (fun h33 => ?_)
    · refine j_ald4 hk dX3_foreignSource_40 rfl rfl ?_
      refine f_get hE hk in_X3 (.inl hzs1) (show vwCl[2]? = some (RX3, TX3, 1) from rfl) 0 (by decide) q803 (Or.inl rfl) rfl dX3_foreignSource_41 ?_
      refine j_ild4 hk dX3_foreignSource_44 rfl rfl ?_
      refine j_top (z2 := (((srcC s k).toNat : Nat) : Int)) (by omega) ?_
      obtain ⟨bS, hbS, hobS, hokS⟩ := hops1.at (i := (srcC s k).toNat) (by omega)
      obtain ⟨o1S, o2S, o3S, o4S, o5S⟩ := id hokS
      have lkS := letK_c hokS
      refine f_callF (Wc := []) (Wr := []) hE hk hl0 (.inl hc1o2) (show vwCl[10]? = some (RJ2, TJ2, 3) from rfl) (fc_J2_get hls hE hN (z := z) hzc (a := lss1) (i := (srcC s k).toNat) (mc := mss1) (li := lis1) (b := bS) (hals1) (hbS)) (fun _ h => Or.inl h) 1 (lw_Fg q1201 q393 q395 q120 q397) q392 q391 q396 q394 q222 (by decide +kernel) rfl (by decide) (by omega) rfl (Nat.le_of_ble_eq_true rfl) dX3_foreignSource_45 ?_
      refine Or.inl ⟨rfl, ?_⟩
      rintro _ _ _ ⟨rfl, rfl, rfl⟩ -
      refine f_W (W2 := []) rfl ?_
      refine f_castS hE hk (.inl hobS) (show vwCl[5]? = some (RX6, TX6, 3) from rfl) q712 dX3_foreignSource_50 ?_
      refine f_getN hE hk in_X6 (.inl hobS) (show vwCl[5]? = some (RX6, TX6, 3) from rfl) 1 (by decide) q1667 rfl rfl dX3_foreignSource_53 ?_
      refine j_ist3 hk dX3_foreignSource_56 rfl ?_
      refine j_ild4 hk dX3_foreignSource_57 rfl rfl ?_
      refine j_ald4 hk dX3_foreignSource_58 rfl rfl ?_
      refine f_get hE hk in_X3 (.inl hzs1) (show vwCl[2]? = some (RX3, TX3, 1) from rfl) 0 (by decide) q803 (Or.inl rfl) rfl dX3_foreignSource_59 ?_
      refine j_ild4 hk dX3_foreignSource_62 rfl rfl ?_
      refine f_callF (Wc := []) (Wr := []) hE hk hl0 (.inl hc1o2) (show vwCl[10]? = some (RJ2, TJ2, 3) from rfl) (fc_J2_get hls hE hN (z := z) hzc (a := lss1) (i := k) (mc := mss1) (li := lis1) (b := b) (hals1) (hb)) (fun _ h => Or.inl h) 1 (lw_Fg q1201 q393 q395 q120 q397) q392 q391 q396 q394 q222 (by decide +kernel) rfl (by decide) (by omega) rfl (Nat.le_of_ble_eq_true rfl) dX3_foreignSource_63 ?_
      refine Or.inl ⟨rfl, ?_⟩
      rintro _ _ _ ⟨rfl, rfl, rfl⟩ -
      refine f_W (W2 := []) rfl ?_
      refine f_castS hE hk (.inl hob) (show vwCl[5]? = some (RX6, TX6, 3) from rfl) q712 dX3_foreignSource_68 ?_
      refine f_getN hE hk in_X6 (.inl hob) (show vwCl[5]? = some (RX6, TX6, 3) from rfl) 1 (by decide) q1667 rfl rfl dX3_foreignSource_71 ?_
      refine j_icmp_ne hk (by omega) (by omega) dX3_foreignSource_74 rfl (tgt := 81) (fun h74 => ?_) (fun h74 => ?_)
      · refine j_ild4 hk dX3_foreignSource_81 rfl rfl ?_
        refine f_iret hk he hA rfl dX3_foreignSource_82 (by omega) (by omega) ?_
        exact ⟨congrArg (fun z => some (Value.int (jI z))) (by unfold frC; first | (exfalso; omega) | (rw [if_neg (by omega)]) | (rw [if_pos (by omega), if_pos (by omega)]) | (rw [if_pos (by omega), if_neg (by omega), if_pos (by omega)]) | (rw [if_pos (by omega), if_neg (by omega), if_neg (by omega)])), rfl, rfl⟩
      · refine j_iconst (n := -1) hk dX3_foreignSource_77 ?_
        refine j_goto (tgt := 82) hk dX3_foreignSource_78 rfl ?_
        refine f_iret hk he hA rfl dX3_foreignSource_82 (by omega) (by omega) ?_
        exact ⟨congrArg (fun z => some (Value.int (jI z))) (by unfold frC; first | (exfalso; omega) | (rw [if_neg (by omega)]) | (rw [if_pos (by omega), if_pos (by omega)]) | (rw [if_pos (by omega), if_neg (by omega), if_pos (by omega)]) | (rw [if_pos (by omega), if_neg (by omega), if_neg (by omega)])), rfl, rfl⟩
    · refine j_iconst (n := -1) hk dX3_foreignSource_36 ?_
      refine j_goto (tgt := 56) hk dX3_foreignSource_37 rfl ?_
      refine j_ist3 hk dX3_foreignSource_56 rfl ?_
      refine j_ild4 hk dX3_foreignSource_57 rfl rfl ?_
      refine j_ald4 hk dX3_foreignSource_58 rfl rfl ?_
      refine f_get hE hk in_X3 (.inl hzs1) (show vwCl[2]? = some (RX3, TX3, 1) from rfl) 0 (by decide) q803 (Or.inl rfl) rfl dX3_foreignSource_59 ?_
      refine j_ild4 hk dX3_foreignSource_62 rfl rfl ?_
      refine f_callF (Wc := []) (Wr := []) hE hk hl0 (.inl hc1o2) (show vwCl[10]? = some (RJ2, TJ2, 3) from rfl) (fc_J2_get hls hE hN (z := z) hzc (a := lss1) (i := k) (mc := mss1) (li := lis1) (b := b) (hals1) (hb)) (fun _ h => Or.inl h) 1 (lw_Fg q1201 q393 q395 q120 q397) q392 q391 q396 q394 q222 (by decide +kernel) rfl (by decide) (by omega) rfl (Nat.le_of_ble_eq_true rfl) dX3_foreignSource_63 ?_
      refine Or.inl ⟨rfl, ?_⟩
      rintro _ _ _ ⟨rfl, rfl, rfl⟩ -
      refine f_W (W2 := []) rfl ?_
      refine f_castS hE hk (.inl hob) (show vwCl[5]? = some (RX6, TX6, 3) from rfl) q712 dX3_foreignSource_68 ?_
      refine f_getN hE hk in_X6 (.inl hob) (show vwCl[5]? = some (RX6, TX6, 3) from rfl) 1 (by decide) q1667 rfl rfl dX3_foreignSource_71 ?_
      refine j_icmp_ne hk (by omega) (by omega) dX3_foreignSource_74 rfl (tgt := 81) (fun h74 => ?_) (fun h74 => ?_)
      · refine j_ild4 hk dX3_foreignSource_81 rfl rfl ?_
        refine f_iret hk he hA rfl dX3_foreignSource_82 (by omega) (by omega) ?_
        exact ⟨congrArg (fun z => some (Value.int (jI z))) (by unfold frC; first | (exfalso; omega) | (rw [if_neg (by omega)]) | (rw [if_pos (by omega), if_pos (by omega)]) | (rw [if_pos (by omega), if_neg (by omega), if_pos (by omega)]) | (rw [if_pos (by omega), if_neg (by omega), if_neg (by omega)])), rfl, rfl⟩
      · refine j_iconst (n := -1) hk dX3_foreignSource_77 ?_
        refine j_goto (tgt := 82) hk dX3_foreignSource_78 rfl ?_
        refine f_iret hk he hA rfl dX3_foreignSource_82 (by omega) (by omega) ?_
        exact ⟨congrArg (fun z => some (Value.int (jI z))) (by unfold frC; first | (exfalso; omega) | (rw [if_neg (by omega)]) | (rw [if_pos (by omega), if_pos (by omega)]) | (rw [if_pos (by omega), if_neg (by omega), if_pos (by omega)]) | (rw [if_pos (by omega), if_neg (by omega), if_neg (by omega)])), rfl, rfl⟩
set_option maxHeartbeats 1500000 in
/-- X3 isDirty(I)Z -/
theorem fc_X3_isDirty {l : Launch} {E : jE} (hls : l.stackTraces = false) (hE : jSt E) (hN : jCn E) {z : jZ} (hzc : zLe (zS E) z) {a : Nat} {k : Nat} {s : List Op} (h : schZ E z a s) (hk_ : k < s.length) : fC l E yX3_isDirty cX3_isDirty 3 (some .boolean) 23 7068 (2 + k) (4 + k) [.ref a, .int (jI ((k : Nat) : Int))] z [] (fun rr z2 W2 => rr = some (.int (jI (jB (drC s k)))) ∧ W2 = [] ∧ z = z2) := by
  refine f_start (own := "ScheduleAnalyzer$Schedule") (vs := [some (.ref a), some (.int (jI ((k : Nat) : Int))), none]) hls (by decide +kernel) rfl rfl rfl (Nat.le_of_ble_eq_true rfl) ?_
  intro K H0 hk he hl0 hI hA
  have hsl33 := h.len
  refine j_ald4 hk dX3_isDirty_0 rfl rfl ?_
  refine j_ild4 hk dX3_isDirty_1 rfl rfl ?_
  obtain ⟨lss1, mss1, lis1, hzs1, hals1, hops1, hnds1⟩ := id h
  refine f_callV (Wc := []) (Wr := []) hE hk hl0 (.inl hzs1) (show vwCl[2]? = some (RX3, TX3, 1) from rfl) (fc_X3_foreignSource hls hE hN (z := z) hzc (a := a) (k := k) (s := s) (h) (hk_)) (fun _ h => Or.inl h) 1 (lw_V q1230 q1232 qs8 q117 q1233) (by decide +kernel) rfl (by decide) (by omega) rfl (Nat.le_of_ble_eq_true rfl) dX3_isDirty_2 ?_
  refine Or.inl ⟨rfl, ?_⟩
  rintro _ _ _ ⟨rfl, rfl, rfl⟩ -
  refine f_W (W2 := []) rfl ?_
  have hoks := (hops1).okAt
  have hfr := frC_r hoks hk_
  refine j_ist2 hk dX3_isDirty_5 rfl ?_
  refine j_ild4 hk dX3_isDirty_6 rfl rfl ?_
  refine j_iconst (n := -1) hk dX3_isDirty_7 ?_
  refine j_icmp_eq hk (by omega) (by omega) dX3_isDirty_8 rfl (tgt := 24) (fun h8 => ?_) (fun h8 => ?_)
  · refine j_iconst (n := 0) hk dX3_isDirty_24 ?_
    refine f_iret hk he hA rfl dX3_isDirty_25 (by omega) (by omega) ?_
    exact ⟨congrArg (fun z => some (Value.int (jI z))) (by unfold drC; first | (exfalso; omega) | (rw [decide_eq_true (show frC s k = -1 by omega)]; rfl) | (rw [decide_eq_false (show ¬ frC s k = -1 by omega), h17]; rfl)), rfl, rfl⟩
  · refine j_ald4 hk dX3_isDirty_11 rfl rfl ?_
    refine j_ild4 hk dX3_isDirty_12 rfl rfl ?_
    refine j_top (z2 := (((frC s k).toNat : Nat) : Int)) (by omega) ?_
    refine j_ild4 hk dX3_isDirty_13 rfl rfl ?_
    refine f_callV (Wc := []) (Wr := []) hE hk hl0 (.inl hzs1) (show vwCl[2]? = some (RX3, TX3, 1) from rfl) (fc_X3_isCommittedBefore hls hE hN (z := z) hzc (a := a) (t := (frC s k).toNat) (n := k) (s := s) (h) (by first | assumption | omega) (by first | assumption | omega)) (fun _ h => Or.inl h) 2 (lw_V q1251 q1253 qs11 q117 q1254) (by decide +kernel) rfl (by decide) (by omega) rfl (Nat.le_of_ble_eq_true rfl) dX3_isDirty_14 ?_
    refine Or.inl ⟨rfl, ?_⟩
    rintro _ _ _ ⟨rfl, rfl, rfl⟩ -
    refine f_W (W2 := []) rfl ?_
    refine j_ifneB hk dX3_isDirty_17 rfl (tgt := 24) (fun h17 => ?_) (fun h17 => ?_)
    · refine j_iconst (n := 0) hk dX3_isDirty_24 ?_
      refine f_iret hk he hA rfl dX3_isDirty_25 (by omega) (by omega) ?_
      exact ⟨congrArg (fun z => some (Value.int (jI z))) (by unfold drC; first | (exfalso; omega) | (rw [decide_eq_true (show frC s k = -1 by omega)]; rfl) | (rw [decide_eq_false (show ¬ frC s k = -1 by omega), h17]; rfl)), rfl, rfl⟩
    · refine j_iconst (n := 1) hk dX3_isDirty_20 ?_
      refine j_goto (tgt := 25) hk dX3_isDirty_21 rfl ?_
      refine f_iret hk he hA rfl dX3_isDirty_25 (by omega) (by omega) ?_
      exact ⟨congrArg (fun z => some (Value.int (jI z))) (by unfold drC; first | (exfalso; omega) | (rw [decide_eq_true (show frC s k = -1 by omega)]; rfl) | (rw [decide_eq_false (show ¬ frC s k = -1 by omega), h17]; rfl)), rfl, rfl⟩
set_option maxHeartbeats 1500000 in
/-- X3 countDirtyReads()I -/
theorem fc_X3_countDirtyReads {l : Launch} {E : jE} (hls : l.stackTraces = false) (hE : jSt E) (hN : jCn E) {z : jZ} (hzc : zLe (zS E) z) {a : Nat} {s : List Op} (h : schZ E z a s) : fC l E yX3_countDirtyReads cX3_countDirtyReads 3 (some .int) 24 7090 (35 * s.length) (37 * s.length) [.ref a] z [] (fun rr z2 W2 => rr = some (.int (jI ((cN (drC s) s.length : Nat) : Int))) ∧ W2 = [] ∧ z = z2) := by
  refine f_start (own := "ScheduleAnalyzer$Schedule") (vs := [some (.ref a), none, none]) hls (by decide +kernel) rfl rfl rfl (Nat.le_of_ble_eq_true rfl) ?_
  intro K H0 hk he hl0 hI hA
  have hsl33 := h.len
  refine j_iconst (n := 0) hk dX3_countDirtyReads_0 ?_
  refine j_ist1 hk dX3_countDirtyReads_1 rfl ?_
  refine j_iconst (n := 0) hk dX3_countDirtyReads_2 ?_
  refine j_ist2 hk dX3_countDirtyReads_3 rfl ?_
  have loop4 : ∀ (fuel4 : Nat) (k : Nat), s.length - k < fuel4 → k ≤ s.length → jW K (fO K E z z []) (35 * k) (37 * k) 4 [some (.ref a), some (.int (jI ((cN (drC s) k : Nat) : Int))), some (.int (jI ((k : Nat) : Int)))] [] := by
    intro fuel4
    induction fuel4 with
    | zero => intro k hm; exact absurd hm (Nat.not_lt_zero _)
    | succ fuel4 ih4 =>
      intro k hm4 hkn
      refine j_ild4 hk dX3_countDirtyReads_4 rfl rfl ?_
      refine j_ald4 hk dX3_countDirtyReads_5 rfl rfl ?_
      obtain ⟨lss1, mss1, lis1, hzs1, hals1, hops1, hnds1⟩ := id h
      refine f_callV (Wc := []) (Wr := []) hE hk hl0 (.inl hzs1) (show vwCl[2]? = some (RX3, TX3, 1) from rfl) (fc_X3_size hls hE hN (z := z) hzc (a := a) (s := s) (h)) (fun _ h => Or.inl h) 0 (lw_V q888 q889 q890 q117 q891) (by decide +kernel) rfl (by decide) (by omega) rfl (Nat.le_of_ble_eq_true rfl) dX3_countDirtyReads_6 ?_
      refine Or.inl ⟨rfl, ?_⟩
      rintro _ _ _ ⟨rfl, rfl, rfl⟩ -
      refine f_W (W2 := []) rfl ?_
      have hcn := cN_le (drC s) k
      refine j_icmp_ge hk (by omega) (by omega) dX3_countDirtyReads_9 rfl (tgt := 34) (fun h9 => ?_) (fun h9 => ?_)
      · refine j_ild4 hk dX3_countDirtyReads_34 rfl rfl ?_
        refine f_iret hk he hA rfl dX3_countDirtyReads_35 (by omega) (by omega) ?_
        exact ⟨congrArg (fun z => some (Value.int (jI z))) (by rw [show s.length = k by omega]), rfl, rfl⟩
      · refine j_ild4 hk dX3_countDirtyReads_12 rfl rfl ?_
        refine j_ald4 hk dX3_countDirtyReads_13 rfl rfl ?_
        refine j_ild4 hk dX3_countDirtyReads_14 rfl rfl ?_
        refine f_callV (Wc := []) (Wr := []) hE hk hl0 (.inl hzs1) (show vwCl[2]? = some (RX3, TX3, 1) from rfl) (fc_X3_isDirty hls hE hN (z := z) hzc (a := a) (k := k) (s := s) (h) (by first | assumption | omega)) (fun _ h => Or.inl h) 1 (lw_V q1226 q1227 q1228 q117 q1229) (by decide +kernel) rfl (by decide) (by omega) rfl (Nat.le_of_ble_eq_true rfl) dX3_countDirtyReads_15 ?_
        refine Or.inl ⟨rfl, ?_⟩
        rintro _ _ _ ⟨rfl, rfl, rfl⟩ -
        refine f_W (W2 := []) rfl ?_
        refine j_ifeqB hk dX3_countDirtyReads_18 rfl (tgt := 25) (fun h18 => ?_) (fun h18 => ?_)
        · refine j_iconst (n := 0) hk dX3_countDirtyReads_25 ?_
          refine j_iadd hk dX3_countDirtyReads_26 ?_
          refine j_ist1 hk dX3_countDirtyReads_27 rfl ?_
          refine j_iinc2 hk dX3_countDirtyReads_28 rfl ?_
          refine j_loc (i := 1) (z2 := ((cN (drC s) (k + 1) : Nat) : Int)) rfl (by rw [cN_S]; first | (rw [if_pos h18]; rfl) | (rw [if_neg (by rw [h18]; decide)]; rfl)) ?_
          refine j_goto (tgt := 4) hk dX3_countDirtyReads_31 rfl ?_
          refine j_wide (k2 := 35 * (k + 1)) (n2 := 37 * (k + 1)) (by omega) (by omega) ?_
          exact ih4 (k + 1) (by omega) (by omega)
        · refine j_iconst (n := 1) hk dX3_countDirtyReads_21 ?_
          refine j_goto (tgt := 26) hk dX3_countDirtyReads_22 rfl ?_
          refine j_iadd hk dX3_countDirtyReads_26 ?_
          refine j_ist1 hk dX3_countDirtyReads_27 rfl ?_
          refine j_iinc2 hk dX3_countDirtyReads_28 rfl ?_
          refine j_loc (i := 1) (z2 := ((cN (drC s) (k + 1) : Nat) : Int)) rfl (by rw [cN_S]; first | (rw [if_pos h18]; rfl) | (rw [if_neg (by rw [h18]; decide)]; rfl)) ?_
          refine j_goto (tgt := 4) hk dX3_countDirtyReads_31 rfl ?_
          refine j_wide (k2 := 35 * (k + 1)) (n2 := 37 * (k + 1)) (by omega) (by omega) ?_
          exact ih4 (k + 1) (by omega) (by omega)
  refine j_wide (k2 := 35 * 0) (n2 := 37 * 0) (by omega) (by omega) ?_
  exact loop4 _ 0 (Nat.lt_succ_self _) (Nat.zero_le _)
set_option maxHeartbeats 1500000 in
/-- X3 isRecoverable()Z -/
theorem fc_X3_isRecoverable {l : Launch} {E : jE} (hls : l.stackTraces = false) (hE : jSt E) (hN : jCn E) {z : jZ} (hzc : zLe (zS E) z) {a : Nat} {s : List Op} (h : schZ E z a s) : fC l E yX3_isRecoverable cX3_isRecoverable 5 (some .boolean) 23 7068 (40 * s.length) (40 * s.length) [.ref a] z [] (fun rr z2 W2 => rr = some (.int (jI (jB ((List.range s.length).all (rcC s))))) ∧ W2 = [] ∧ z = z2) := by
  refine f_start (own := "ScheduleAnalyzer$Schedule") (vs := [some (.ref a), none, none, none, none]) hls (by decide +kernel) rfl rfl rfl (Nat.le_of_ble_eq_true rfl) ?_
  intro K H0 hk he hl0 hI hA
  have hsl33 := h.len
  refine j_iconst (n := 1) hk dX3_isRecoverable_0 ?_
  refine j_ist1 hk dX3_isRecoverable_1 rfl ?_
  refine j_iconst (n := 0) hk dX3_isRecoverable_2 ?_
  refine j_ist2 hk dX3_isRecoverable_3 rfl ?_
  have loop4 : ∀ (fuel4 : Nat) (k : Nat), s.length - k < fuel4 → k ≤ s.length → jW K (fO K E z z []) (40 * k) (40 * k) 4 [some (.ref a), some (.int (jI (jB ((List.range k).all (rcC s))))), some (.int (jI ((k : Nat) : Int))), none, none] [] := by
    intro fuel4
    induction fuel4 with
    | zero => intro k hm; exact absurd hm (Nat.not_lt_zero _)
    | succ fuel4 ih4 =>
      intro k hm4 hkn
      refine j_ild4 hk dX3_isRecoverable_4 rfl rfl ?_
      refine j_ald4 hk dX3_isRecoverable_5 rfl rfl ?_
      obtain ⟨lss1, mss1, lis1, hzs1, hals1, hops1, hnds1⟩ := id h
      refine f_callV (Wc := []) (Wr := []) hE hk hl0 (.inl hzs1) (show vwCl[2]? = some (RX3, TX3, 1) from rfl) (fc_X3_size hls hE hN (z := z) hzc (a := a) (s := s) (h)) (fun _ h => Or.inl h) 0 (lw_V q888 q889 q890 q117 q891) (by decide +kernel) rfl (by decide) (by omega) rfl (Nat.le_of_ble_eq_true rfl) dX3_isRecoverable_6 ?_
      refine Or.inl ⟨rfl, ?_⟩
      rintro _ _ _ ⟨rfl, rfl, rfl⟩ -
      refine f_W (W2 := []) rfl ?_
      refine j_icmp_ge hk (by omega) (by omega) dX3_isRecoverable_9 rfl (tgt := 79) (fun h9 => ?_) (fun h9 => ?_)
      · refine j_ild4 hk dX3_isRecoverable_79 rfl rfl ?_
        refine f_iret hk he hA (jn_bool _) dX3_isRecoverable_80 (by omega) (by omega) ?_
        exact ⟨congrArg (fun z => some (Value.int (jI z))) (by rw [show s.length = k by omega]), rfl, rfl⟩
      · refine j_ald4 hk dX3_isRecoverable_12 rfl rfl ?_
        refine j_ild4 hk dX3_isRecoverable_13 rfl rfl ?_
        refine f_callV (Wc := []) (Wr := []) hE hk hl0 (.inl hzs1) (show vwCl[2]? = some (RX3, TX3, 1) from rfl) (fc_X3_foreignSource hls hE hN (z := z) hzc (a := a) (k := k) (s := s) (h) (by first | assumption | omega)) (fun _ h => Or.inl h) 1 (lw_V q1230 q1232 qs8 q117 q1233) (by decide +kernel) rfl (by decide) (by omega) rfl (Nat.le_of_ble_eq_true rfl) dX3_isRecoverable_14 ?_
        refine Or.inl ⟨rfl, ?_⟩
        rintro _ _ _ ⟨rfl, rfl, rfl⟩ -
        refine f_W (W2 := []) rfl ?_
        have hoks := (hops1).okAt
        have hfr := frC_r hoks (show k < s.length by omega)
        refine j_ist3 hk dX3_isRecoverable_17 rfl ?_
        refine j_ild4 hk dX3_isRecoverable_18 rfl rfl ?_
        refine j_iconst (n := -1) hk dX3_isRecoverable_19 ?_
        refine j_icmp_ne hk (by omega) (by omega) dX3_isRecoverable_20 rfl (tgt := 27) (fun h20 => ?_) (fun h20 => ?_)
        · refine j_ald4 hk dX3_isRecoverable_27 rfl rfl ?_
          refine j_ald4 hk dX3_isRecoverable_28 rfl rfl ?_
          refine f_get hE hk in_X3 (.inl hzs1) (show vwCl[2]? = some (RX3, TX3, 1) from rfl) 0 (by decide) q803 (Or.inl rfl) rfl dX3_isRecoverable_29 ?_
          refine j_ild4 hk dX3_isRecoverable_32 rfl rfl ?_
          obtain ⟨b, hb, hob, hok⟩ := hops1.at (i := k) (by omega)
          obtain ⟨o1, o2, o3, o4, o5⟩ := id hok
          have lk := letK_c hok
          obtain ⟨qo4, capo4, fo4, hc1o4, hc2o4, hl1o4, hl2o4, hfo4⟩ := hals1.cell hN hzc
          refine f_callF (Wc := []) (Wr := []) hE hk hl0 (.inl hc1o4) (show vwCl[10]? = some (RJ2, TJ2, 3) from rfl) (fc_J2_get hls hE hN (z := z) hzc (a := lss1) (i := k) (mc := mss1) (li := lis1) (b := b) (hals1) (hb)) (fun _ h => Or.inl h) 1 (lw_Fg q1201 q393 q395 q120 q397) q392 q391 q396 q394 q222 (by decide +kernel) rfl (by decide) (by omega) rfl (Nat.le_of_ble_eq_true rfl) dX3_isRecoverable_33 ?_
          refine Or.inl ⟨rfl, ?_⟩
          rintro _ _ _ ⟨rfl, rfl, rfl⟩ -
          refine f_W (W2 := []) rfl ?_
          refine f_castS hE hk (.inl hob) (show vwCl[5]? = some (RX6, TX6, 3) from rfl) q712 dX3_isRecoverable_38 ?_
          refine f_getN hE hk in_X6 (.inl hob) (show vwCl[5]? = some (RX6, TX6, 3) from rfl) 1 (by decide) q1667 rfl rfl dX3_isRecoverable_41 ?_
          refine f_callV (Wc := []) (Wr := []) hE hk hl0 (.inl hzs1) (show vwCl[2]? = some (RX3, TX3, 1) from rfl) (fc_X3_commitOf hls hE hN (z := z) hzc (a := a) (t := oT (opAt s k)) (s := s) (h) (by first | assumption | omega)) (fun _ h => Or.inl h) 1 (lw_V q1454 q1456 qs24 q117 q1457) (by decide +kernel) rfl (by decide) (by omega) rfl (Nat.le_of_ble_eq_true rfl) dX3_isRecoverable_44 ?_
          refine Or.inl ⟨rfl, ?_⟩
          rintro _ _ _ ⟨rfl, rfl, rfl⟩ -
          refine f_W (W2 := []) rfl ?_
          have rf7 := lastN_r (fun i => pIs 2 (oT (opAt s k)) (opAt s i)) s.length
          refine j_ist4 hk dX3_isRecoverable_47 rfl ?_
          refine j_ild4 hk dX3_isRecoverable_49 rfl rfl ?_
          refine j_ild hk dX3_isRecoverable_50 rfl ?_
          refine j_iconst (n := -1) hk dX3_isRecoverable_52 ?_
          refine j_icmp_eq hk (by omega) (by omega) dX3_isRecoverable_53 rfl (tgt := 66) (fun h53 => ?_) (fun h53 => ?_)
          · refine j_iconst (n := 1) hk dX3_isRecoverable_66 ?_
            refine j_goto (tgt := 71) hk dX3_isRecoverable_67 rfl ?_
            refine j_top (z2 := jB (rcC s k)) (by first | (rw [show rcC s k = true by unfold rcC; first | (rw [show cmC s k = -1 by (unfold cmC; first | (rw [if_pos (by omega)]) | (rw [if_neg (by omega)]; omega))]; rfl) | (rw [decide_eq_false (show ¬ cmC s k = -1 by omega), h63]; rfl)]; rfl) | (rw [show rcC s k = false by unfold rcC; first | (rw [show cmC s k = -1 by (unfold cmC; first | (rw [if_pos (by omega)]) | (rw [if_neg (by omega)]; omega))]; rfl) | (rw [decide_eq_false (show ¬ cmC s k = -1 by omega), h63]; rfl)]; rfl) | (exfalso; omega)) ?_
            refine j_iandB hk dX3_isRecoverable_71 ?_
            refine j_ist1 hk dX3_isRecoverable_72 rfl ?_
            refine j_iinc2 hk dX3_isRecoverable_73 rfl ?_
            refine j_loc (i := 1) (z2 := jB ((List.range (k + 1)).all (rcC s))) rfl (by rw [all_S]) ?_
            refine j_goto (tgt := 4) hk dX3_isRecoverable_76 rfl ?_
            refine j_forget (i := 3) ?_
            refine j_forget (i := 4) ?_
            refine j_wide (k2 := 40 * (k + 1)) (n2 := 40 * (k + 1)) (by omega) (by omega) ?_
            exact ih4 (k + 1) (by omega) (by omega)
          · refine j_ald4 hk dX3_isRecoverable_56 rfl rfl ?_
            refine j_ild4 hk dX3_isRecoverable_57 rfl rfl ?_
            refine j_top (z2 := (((frC s k).toNat : Nat) : Int)) (by omega) ?_
            refine j_ild hk dX3_isRecoverable_58 rfl ?_
            have hce : cmC s k = lastN (fun i => pIs 2 (oT (opAt s k)) (opAt s i)) s.length := by first | (exfalso; omega) | (unfold cmC; rw [if_neg (by omega)])
            have hcm : -1 ≤ cmC s k ∧ cmC s k < s.length := by unfold cmC; split <;> (first | omega | exact ⟨by omega, by omega⟩)
            refine j_top (z2 := (((cmC s k).toNat : Nat) : Int)) (by omega) ?_
            refine f_callV (Wc := []) (Wr := []) hE hk hl0 (.inl hzs1) (show vwCl[2]? = some (RX3, TX3, 1) from rfl) (fc_X3_isCommittedBefore hls hE hN (z := z) hzc (a := a) (t := (frC s k).toNat) (n := (cmC s k).toNat) (s := s) (h) (by first | assumption | omega) (by first | assumption | omega)) (fun _ h => Or.inl h) 2 (lw_V q1251 q1253 qs11 q117 q1254) (by decide +kernel) rfl (by decide) (by omega) rfl (Nat.le_of_ble_eq_true rfl) dX3_isRecoverable_60 ?_
            refine Or.inl ⟨rfl, ?_⟩
            rintro _ _ _ ⟨rfl, rfl, rfl⟩ -
            refine f_W (W2 := []) rfl ?_
            refine j_ifeqB hk dX3_isRecoverable_63 rfl (tgt := 70) (fun h63 => ?_) (fun h63 => ?_)
            · refine j_iconst (n := 0) hk dX3_isRecoverable_70 ?_
              refine j_top (z2 := jB (rcC s k)) (by first | (rw [show rcC s k = true by unfold rcC; first | (rw [show cmC s k = -1 by (unfold cmC; first | (rw [if_pos (by omega)]) | (rw [if_neg (by omega)]; omega))]; rfl) | (rw [decide_eq_false (show ¬ cmC s k = -1 by omega), h63]; rfl)]; rfl) | (rw [show rcC s k = false by unfold rcC; first | (rw [show cmC s k = -1 by (unfold cmC; first | (rw [if_pos (by omega)]) | (rw [if_neg (by omega)]; omega))]; rfl) | (rw [decide_eq_false (show ¬ cmC s k = -1 by omega), h63]; rfl)]; rfl) | (exfalso; omega)) ?_
              refine j_iandB hk dX3_isRecoverable_71 ?_
              refine j_ist1 hk dX3_isRecoverable_72 rfl ?_
              refine j_iinc2 hk dX3_isRecoverable_73 rfl ?_
              refine j_loc (i := 1) (z2 := jB ((List.range (k + 1)).all (rcC s))) rfl (by rw [all_S]) ?_
              refine j_goto (tgt := 4) hk dX3_isRecoverable_76 rfl ?_
              refine j_forget (i := 3) ?_
              refine j_forget (i := 4) ?_
              refine j_wide (k2 := 40 * (k + 1)) (n2 := 40 * (k + 1)) (by omega) (by omega) ?_
              exact ih4 (k + 1) (by omega) (by omega)
            · refine j_iconst (n := 1) hk dX3_isRecoverable_66 ?_
              refine j_goto (tgt := 71) hk dX3_isRecoverable_67 rfl ?_
              refine j_top (z2 := jB (rcC s k)) (by first | (rw [show rcC s k = true by unfold rcC; first | (rw [show cmC s k = -1 by (unfold cmC; first | (rw [if_pos (by omega)]) | (rw [if_neg (by omega)]; omega))]; rfl) | (rw [decide_eq_false (show ¬ cmC s k = -1 by omega), h63]; rfl)]; rfl) | (rw [show rcC s k = false by unfold rcC; first | (rw [show cmC s k = -1 by (unfold cmC; first | (rw [if_pos (by omega)]) | (rw [if_neg (by omega)]; omega))]; rfl) | (rw [decide_eq_false (show ¬ cmC s k = -1 by omega), h63]; rfl)]; rfl) | (exfalso; omega)) ?_
              refine j_iandB hk dX3_isRecoverable_71 ?_
              refine j_ist1 hk dX3_isRecoverable_72 rfl ?_
              refine j_iinc2 hk dX3_isRecoverable_73 rfl ?_
              refine j_loc (i := 1) (z2 := jB ((List.range (k + 1)).all (rcC s))) rfl (by rw [all_S]) ?_
              refine j_goto (tgt := 4) hk dX3_isRecoverable_76 rfl ?_
              refine j_forget (i := 3) ?_
              refine j_forget (i := 4) ?_
              refine j_wide (k2 := 40 * (k + 1)) (n2 := 40 * (k + 1)) (by omega) (by omega) ?_
              exact ih4 (k + 1) (by omega) (by omega)
        · refine j_iconst (n := -1) hk dX3_isRecoverable_23 ?_
          refine j_goto (tgt := 47) hk dX3_isRecoverable_24 rfl ?_
          refine j_ist4 hk dX3_isRecoverable_47 rfl ?_
          refine j_ild4 hk dX3_isRecoverable_49 rfl rfl ?_
          refine j_ild hk dX3_isRecoverable_50 rfl ?_
          refine j_iconst (n := -1) hk dX3_isRecoverable_52 ?_
          refine j_icmp_eq hk (by omega) (by omega) dX3_isRecoverable_53 rfl (tgt := 66) (fun h53 => ?_) (fun h53 => ?_)
          · refine j_iconst (n := 1) hk dX3_isRecoverable_66 ?_
            refine j_goto (tgt := 71) hk dX3_isRecoverable_67 rfl ?_
            refine j_top (z2 := jB (rcC s k)) (by first | (rw [show rcC s k = true by unfold rcC; first | (rw [show cmC s k = -1 by (unfold cmC; first | (rw [if_pos (by omega)]) | (rw [if_neg (by omega)]; omega))]; rfl) | (rw [decide_eq_false (show ¬ cmC s k = -1 by omega), h63]; rfl)]; rfl) | (rw [show rcC s k = false by unfold rcC; first | (rw [show cmC s k = -1 by (unfold cmC; first | (rw [if_pos (by omega)]) | (rw [if_neg (by omega)]; omega))]; rfl) | (rw [decide_eq_false (show ¬ cmC s k = -1 by omega), h63]; rfl)]; rfl) | (exfalso; omega)) ?_
            refine j_iandB hk dX3_isRecoverable_71 ?_
            refine j_ist1 hk dX3_isRecoverable_72 rfl ?_
            refine j_iinc2 hk dX3_isRecoverable_73 rfl ?_
            refine j_loc (i := 1) (z2 := jB ((List.range (k + 1)).all (rcC s))) rfl (by rw [all_S]) ?_
            refine j_goto (tgt := 4) hk dX3_isRecoverable_76 rfl ?_
            refine j_forget (i := 3) ?_
            refine j_forget (i := 4) ?_
            refine j_wide (k2 := 40 * (k + 1)) (n2 := 40 * (k + 1)) (by omega) (by omega) ?_
            exact ih4 (k + 1) (by omega) (by omega)
          · refine j_ald4 hk dX3_isRecoverable_56 rfl rfl ?_
            refine j_ild4 hk dX3_isRecoverable_57 rfl rfl ?_
            refine j_top (z2 := (((frC s k).toNat : Nat) : Int)) (by omega) ?_
            refine j_ild hk dX3_isRecoverable_58 rfl ?_
            have hce : cmC s k = lastN (fun i => pIs 2 (oT (opAt s k)) (opAt s i)) s.length := by first | (exfalso; omega) | (unfold cmC; rw [if_neg (by omega)])
            have hcm : -1 ≤ cmC s k ∧ cmC s k < s.length := by unfold cmC; split <;> (first | omega | exact ⟨by omega, by omega⟩)
            refine j_top (z2 := (((cmC s k).toNat : Nat) : Int)) (by omega) ?_
            refine f_callV (Wc := []) (Wr := []) hE hk hl0 (.inl hzs1) (show vwCl[2]? = some (RX3, TX3, 1) from rfl) (fc_X3_isCommittedBefore hls hE hN (z := z) hzc (a := a) (t := (frC s k).toNat) (n := (cmC s k).toNat) (s := s) (h) (by first | assumption | omega) (by first | assumption | omega)) (fun _ h => Or.inl h) 2 (lw_V q1251 q1253 qs11 q117 q1254) (by decide +kernel) rfl (by decide) (by omega) rfl (Nat.le_of_ble_eq_true rfl) dX3_isRecoverable_60 ?_
            refine Or.inl ⟨rfl, ?_⟩
            rintro _ _ _ ⟨rfl, rfl, rfl⟩ -
            refine f_W (W2 := []) rfl ?_
            refine j_ifeqB hk dX3_isRecoverable_63 rfl (tgt := 70) (fun h63 => ?_) (fun h63 => ?_)
            · refine j_iconst (n := 0) hk dX3_isRecoverable_70 ?_
              refine j_top (z2 := jB (rcC s k)) (by first | (rw [show rcC s k = true by unfold rcC; first | (rw [show cmC s k = -1 by (unfold cmC; first | (rw [if_pos (by omega)]) | (rw [if_neg (by omega)]; omega))]; rfl) | (rw [decide_eq_false (show ¬ cmC s k = -1 by omega), h63]; rfl)]; rfl) | (rw [show rcC s k = false by unfold rcC; first | (rw [show cmC s k = -1 by (unfold cmC; first | (rw [if_pos (by omega)]) | (rw [if_neg (by omega)]; omega))]; rfl) | (rw [decide_eq_false (show ¬ cmC s k = -1 by omega), h63]; rfl)]; rfl) | (exfalso; omega)) ?_
              refine j_iandB hk dX3_isRecoverable_71 ?_
              refine j_ist1 hk dX3_isRecoverable_72 rfl ?_
              refine j_iinc2 hk dX3_isRecoverable_73 rfl ?_
              refine j_loc (i := 1) (z2 := jB ((List.range (k + 1)).all (rcC s))) rfl (by rw [all_S]) ?_
              refine j_goto (tgt := 4) hk dX3_isRecoverable_76 rfl ?_
              refine j_forget (i := 3) ?_
              refine j_forget (i := 4) ?_
              refine j_wide (k2 := 40 * (k + 1)) (n2 := 40 * (k + 1)) (by omega) (by omega) ?_
              exact ih4 (k + 1) (by omega) (by omega)
            · refine j_iconst (n := 1) hk dX3_isRecoverable_66 ?_
              refine j_goto (tgt := 71) hk dX3_isRecoverable_67 rfl ?_
              refine j_top (z2 := jB (rcC s k)) (by first | (rw [show rcC s k = true by unfold rcC; first | (rw [show cmC s k = -1 by (unfold cmC; first | (rw [if_pos (by omega)]) | (rw [if_neg (by omega)]; omega))]; rfl) | (rw [decide_eq_false (show ¬ cmC s k = -1 by omega), h63]; rfl)]; rfl) | (rw [show rcC s k = false by unfold rcC; first | (rw [show cmC s k = -1 by (unfold cmC; first | (rw [if_pos (by omega)]) | (rw [if_neg (by omega)]; omega))]; rfl) | (rw [decide_eq_false (show ¬ cmC s k = -1 by omega), h63]; rfl)]; rfl) | (exfalso; omega)) ?_
              refine j_iandB hk dX3_isRecoverable_71 ?_
              refine j_ist1 hk dX3_isRecoverable_72 rfl ?_
              refine j_iinc2 hk dX3_isRecoverable_73 rfl ?_
              refine j_loc (i := 1) (z2 := jB ((List.range (k + 1)).all (rcC s))) rfl (by rw [all_S]) ?_
              refine j_goto (tgt := 4) hk dX3_isRecoverable_76 rfl ?_
              refine j_forget (i := 3) ?_
              refine j_forget (i := 4) ?_
              refine j_wide (k2 := 40 * (k + 1)) (n2 := 40 * (k + 1)) (by omega) (by omega) ?_
              exact ih4 (k + 1) (by omega) (by omega)
  refine j_wide (k2 := 40 * 0) (n2 := 40 * 0) (by omega) (by omega) ?_
  exact loop4 _ 0 (Nat.lt_succ_self _) (Nat.zero_le _)
set_option maxHeartbeats 1500000 in
/-- X3 isTooEarly(I)Z -/
theorem fc_X3_isTooEarly {l : Launch} {E : jE} (hls : l.stackTraces = false) (hE : jSt E) (hN : jCn E) {z : jZ} (hzc : zLe (zS E) z) {a : Nat} {k : Nat} {s : List Op} (h : schZ E z a s) (hk_ : k < s.length) : fC l E yX3_isTooEarly cX3_isTooEarly 7 (some .boolean) 8 3114 (k) (k) [.ref a, .int (jI ((k : Nat) : Int))] z [] (fun rr z2 W2 => rr = some (.int (jI (jB (tooC s k)))) ∧ W2 = [] ∧ z = z2) := by
  refine f_start (own := "ScheduleAnalyzer$Schedule") (vs := [some (.ref a), some (.int (jI ((k : Nat) : Int))), none, none, none, none, none]) hls (by decide +kernel) rfl rfl rfl (Nat.le_of_ble_eq_true rfl) ?_
  intro K H0 hk he hl0 hI hA
  have hsl33 := h.len
  refine j_ald4 hk dX3_isTooEarly_0 rfl rfl ?_
  obtain ⟨lss1, mss1, lis1, hzs1, hals1, hops1, hnds1⟩ := id h
  refine f_get hE hk in_X3 (.inl hzs1) (show vwCl[2]? = some (RX3, TX3, 1) from rfl) 0 (by decide) q803 (Or.inl rfl) rfl dX3_isTooEarly_1 ?_
  refine j_ild4 hk dX3_isTooEarly_4 rfl rfl ?_
  obtain ⟨b, hb, hob, hok⟩ := hops1.at (i := k) (by omega)
  obtain ⟨o1, o2, o3, o4, o5⟩ := id hok
  have lk := letK_c hok
  obtain ⟨qo2, capo2, fo2, hc1o2, hc2o2, hl1o2, hl2o2, hfo2⟩ := hals1.cell hN hzc
  refine f_callF (Wc := []) (Wr := []) hE hk hl0 (.inl hc1o2) (show vwCl[10]? = some (RJ2, TJ2, 3) from rfl) (fc_J2_get hls hE hN (z := z) hzc (a := lss1) (i := k) (mc := mss1) (li := lis1) (b := b) (hals1) (hb)) (fun _ h => Or.inl h) 1 (lw_Fg q1201 q393 q395 q120 q397) q392 q391 q396 q394 q222 (by decide +kernel) rfl (by decide) (by omega) rfl (Nat.le_of_ble_eq_true rfl) dX3_isTooEarly_5 ?_
  refine Or.inl ⟨rfl, ?_⟩
  rintro _ _ _ ⟨rfl, rfl, rfl⟩ -
  refine f_W (W2 := []) rfl ?_
  refine f_castS hE hk (.inl hob) (show vwCl[5]? = some (RX6, TX6, 3) from rfl) q712 dX3_isTooEarly_10 ?_
  refine j_ast2 hk dX3_isTooEarly_13 rfl ?_
  refine j_iconst (n := 0) hk dX3_isTooEarly_14 ?_
  refine j_ist3 hk dX3_isTooEarly_15 rfl ?_
  refine j_iconst (n := 0) hk dX3_isTooEarly_16 ?_
  refine j_ist4 hk dX3_isTooEarly_17 rfl ?_
  have loop19 : ∀ (fuel19 : Nat) (j : Nat), k - j < fuel19 → j ≤ k → jW K (fO K E z z []) (j) (j) 19 [some (.ref a), some (.int (jI ((k : Nat) : Int))), some (.ref b), some (.int (jI (jB ((List.range j).any (teC s k))))), some (.int (jI ((j : Nat) : Int))), none, none] [] := by
    intro fuel19
    induction fuel19 with
    | zero => intro j hm; exact absurd hm (Nat.not_lt_zero _)
    | succ fuel19 ih19 =>
      intro j hm19 hjk
      refine j_ald4 hk dX3_isTooEarly_19 rfl rfl ?_
      refine f_callV (Wc := []) (Wr := []) hE hk hl0 (.inl hob) (show vwCl[5]? = some (RX6, TX6, 3) from rfl) (fc_X6_isAccess hls hE hN (z := z) hzc (a := b) (o := opAt s k) (hob) (hok)) (fun _ h => Or.inl h) 0 (lw_V q1383 q1207 q1208 q149 q1209) (by decide +kernel) rfl (by decide) (by omega) rfl (Nat.le_of_ble_eq_true rfl) dX3_isTooEarly_20 ?_
      refine Or.inl ⟨rfl, ?_⟩
      rintro _ _ _ ⟨rfl, rfl, rfl⟩ -
      refine f_W (W2 := []) rfl ?_
      refine j_ifeqB hk dX3_isTooEarly_23 rfl (tgt := 111) (fun h23 => ?_) (fun h23 => ?_)
      · refine j_ild4 hk dX3_isTooEarly_111 rfl rfl ?_
        refine f_iret hk he hA (jn_bool _) dX3_isTooEarly_112 (by omega) (by omega) ?_
        exact ⟨congrArg (fun z => some (Value.int (jI z))) (by unfold tooC; first | (rw [show k = j by omega]) | (rw [te_0 h23, te_0 h23])), rfl, rfl⟩
      · refine j_ild hk dX3_isTooEarly_26 rfl ?_
        refine j_ild4 hk dX3_isTooEarly_28 rfl rfl ?_
        refine j_icmp_ge hk (by omega) (by omega) dX3_isTooEarly_29 rfl (tgt := 111) (fun h29 => ?_) (fun h29 => ?_)
        · refine j_ild4 hk dX3_isTooEarly_111 rfl rfl ?_
          refine f_iret hk he hA (jn_bool _) dX3_isTooEarly_112 (by omega) (by omega) ?_
          exact ⟨congrArg (fun z => some (Value.int (jI z))) (by unfold tooC; first | (rw [show k = j by omega]) | (rw [te_0 h23, te_0 h23])), rfl, rfl⟩
        · refine j_ald4 hk dX3_isTooEarly_32 rfl rfl ?_
          refine f_get hE hk in_X3 (.inl hzs1) (show vwCl[2]? = some (RX3, TX3, 1) from rfl) 0 (by decide) q803 (Or.inl rfl) rfl dX3_isTooEarly_33 ?_
          obtain ⟨bE, hbE, hobE, hokE⟩ := hops1.at (i := j) (by omega)
          obtain ⟨o1E, o2E, o3E, o4E, o5E⟩ := id hokE
          have lkE := letK_c hokE
          refine j_ild hk dX3_isTooEarly_36 rfl ?_
          refine f_callF (Wc := []) (Wr := []) hE hk hl0 (.inl hc1o2) (show vwCl[10]? = some (RJ2, TJ2, 3) from rfl) (fc_J2_get hls hE hN (z := z) hzc (a := lss1) (i := j) (mc := mss1) (li := lis1) (b := bE) (hals1) (hbE)) (fun _ h => Or.inl h) 1 (lw_Fg q1201 q393 q395 q120 q397) q392 q391 q396 q394 q222 (by decide +kernel) rfl (by decide) (by omega) rfl (Nat.le_of_ble_eq_true rfl) dX3_isTooEarly_38 ?_
          refine Or.inl ⟨rfl, ?_⟩
          rintro _ _ _ ⟨rfl, rfl, rfl⟩ -
          refine f_W (W2 := []) rfl ?_
          refine f_castS hE hk (.inl hobE) (show vwCl[5]? = some (RX6, TX6, 3) from rfl) q712 dX3_isTooEarly_43 ?_
          refine j_ast5 hk dX3_isTooEarly_46 rfl ?_
          refine j_ald hk dX3_isTooEarly_48 rfl ?_
          refine j_ald4 hk dX3_isTooEarly_50 rfl rfl ?_
          refine f_getN hE hk in_X6 (.inl hob) (show vwCl[5]? = some (RX6, TX6, 3) from rfl) 2 (by decide) q1672 rfl rfl dX3_isTooEarly_51 ?_
          refine f_callV (Wc := []) (Wr := []) hE hk hl0 (.inl hobE) (show vwCl[5]? = some (RX6, TX6, 3) from rfl) (fc_X6_isWriteOf hls hE hN (z := z) hzc (a := bE) (c := ((97 + oI (opAt s k) : Nat) : Int)) (o := opAt s j) (hobE) (hokE) (by first | assumption | omega)) (fun _ h => Or.inl h) 1 (lw_V q1241 q1242 q1243 q149 q1244) (by decide +kernel) rfl (by decide) (by omega) rfl (Nat.le_of_ble_eq_true rfl) dX3_isTooEarly_54 ?_
          refine Or.inl ⟨rfl, ?_⟩
          rintro _ _ _ ⟨rfl, rfl, rfl⟩ -
          refine f_W (W2 := []) rfl ?_
          refine j_ifeqB hk dX3_isTooEarly_57 rfl (tgt := 76) (fun h57 => ?_) (fun h57 => ?_)
          · refine j_iconst (n := 0) hk dX3_isTooEarly_76 ?_
            refine j_ist6 hk dX3_isTooEarly_77 rfl ?_
            refine j_ild4 hk dX3_isTooEarly_79 rfl rfl ?_
            refine j_ild hk dX3_isTooEarly_80 rfl ?_
            refine j_if_eq hk (by omega) dX3_isTooEarly_82 rfl (tgt := 102) (fun _ => ?_) (fun h => absurd h (by omega))
            refine j_iconst (n := 0) hk dX3_isTooEarly_102 ?_
            refine j_top (z2 := jB (teC s k j)) (by first | (exfalso; omega) | (rw [show teC s k j = true by unfold teC; first | (rw [h95]; simp; done) | (rw [h95]; simp at h23 h57 ⊢; omega) | (simp at h23 h57 ⊢; omega) | (simp at h23 h57 ⊢; intro q1 q2 q3; omega)]; rfl) | (rw [show teC s k j = false by unfold teC; first | (rw [h95]; simp; done) | (rw [h95]; simp at h23 h57 ⊢; omega) | (simp at h23 h57 ⊢; omega) | (simp at h23 h57 ⊢; intro q1 q2 q3; omega)]; rfl)) ?_
            refine j_iorB hk dX3_isTooEarly_103 ?_
            refine j_ist3 hk dX3_isTooEarly_104 rfl ?_
            refine j_iinc4 hk dX3_isTooEarly_105 rfl ?_
            refine j_loc (i := 3) (z2 := jB ((List.range (j + 1)).any (teC s k))) rfl (by rw [any_S]) ?_
            refine j_goto (tgt := 19) hk dX3_isTooEarly_108 rfl ?_
            refine j_forget (i := 5) ?_
            refine j_forget (i := 6) ?_
            refine j_wide (k2 := (j + 1)) (n2 := (j + 1)) (by omega) (by omega) ?_
            exact ih19 (j + 1) (by omega) (by omega)
          · refine j_ald hk dX3_isTooEarly_60 rfl ?_
            refine f_getN hE hk in_X6 (.inl hobE) (show vwCl[5]? = some (RX6, TX6, 3) from rfl) 1 (by decide) q1667 rfl rfl dX3_isTooEarly_62 ?_
            refine j_ald4 hk dX3_isTooEarly_65 rfl rfl ?_
            refine f_getN hE hk in_X6 (.inl hob) (show vwCl[5]? = some (RX6, TX6, 3) from rfl) 1 (by decide) q1667 rfl rfl dX3_isTooEarly_66 ?_
            refine j_icmp_eq hk (by omega) (by omega) dX3_isTooEarly_69 rfl (tgt := 76) (fun h69 => ?_) (fun h69 => ?_)
            · refine j_iconst (n := 0) hk dX3_isTooEarly_76 ?_
              refine j_ist6 hk dX3_isTooEarly_77 rfl ?_
              refine j_ild4 hk dX3_isTooEarly_79 rfl rfl ?_
              refine j_ild hk dX3_isTooEarly_80 rfl ?_
              refine j_if_eq hk (by omega) dX3_isTooEarly_82 rfl (tgt := 102) (fun _ => ?_) (fun h => absurd h (by omega))
              refine j_iconst (n := 0) hk dX3_isTooEarly_102 ?_
              refine j_top (z2 := jB (teC s k j)) (by first | (exfalso; omega) | (rw [show teC s k j = true by unfold teC; first | (rw [h95]; simp; done) | (rw [h95]; simp at h23 h57 ⊢; omega) | (simp at h23 h57 ⊢; omega) | (simp at h23 h57 ⊢; intro q1 q2 q3; omega)]; rfl) | (rw [show teC s k j = false by unfold teC; first | (rw [h95]; simp; done) | (rw [h95]; simp at h23 h57 ⊢; omega) | (simp at h23 h57 ⊢; omega) | (simp at h23 h57 ⊢; intro q1 q2 q3; omega)]; rfl)) ?_
              refine j_iorB hk dX3_isTooEarly_103 ?_
              refine j_ist3 hk dX3_isTooEarly_104 rfl ?_
              refine j_iinc4 hk dX3_isTooEarly_105 rfl ?_
              refine j_loc (i := 3) (z2 := jB ((List.range (j + 1)).any (teC s k))) rfl (by rw [any_S]) ?_
              refine j_goto (tgt := 19) hk dX3_isTooEarly_108 rfl ?_
              refine j_forget (i := 5) ?_
              refine j_forget (i := 6) ?_
              refine j_wide (k2 := (j + 1)) (n2 := (j + 1)) (by omega) (by omega) ?_
              exact ih19 (j + 1) (by omega) (by omega)
            · refine j_iconst (n := 1) hk dX3_isTooEarly_72 ?_
              refine j_goto (tgt := 77) hk dX3_isTooEarly_73 rfl ?_
              refine j_ist6 hk dX3_isTooEarly_77 rfl ?_
              refine j_ild4 hk dX3_isTooEarly_79 rfl rfl ?_
              refine j_ild hk dX3_isTooEarly_80 rfl ?_
              refine j_if_eq hk (by omega) dX3_isTooEarly_82 rfl (tgt := 102) (fun h => absurd h (by omega)) (fun _ => ?_)
              refine j_ald4 hk dX3_isTooEarly_85 rfl rfl ?_
              refine j_ald hk dX3_isTooEarly_86 rfl ?_
              refine f_getN hE hk in_X6 (.inl hobE) (show vwCl[5]? = some (RX6, TX6, 3) from rfl) 1 (by decide) q1667 rfl rfl dX3_isTooEarly_88 ?_
              refine j_ild4 hk dX3_isTooEarly_91 rfl rfl ?_
              refine f_callV (Wc := []) (Wr := []) hE hk hl0 (.inl hzs1) (show vwCl[2]? = some (RX3, TX3, 1) from rfl) (fc_X3_isEndedBefore hls hE hN (z := z) hzc (a := a) (t := oT (opAt s j)) (n := k) (s := s) (h) (by first | assumption | omega) (by first | assumption | omega)) (fun _ h => Or.inl h) 2 (lw_V q1384 q1386 qs20 q117 q1387) (by decide +kernel) rfl (by decide) (by omega) rfl (Nat.le_of_ble_eq_true rfl) dX3_isTooEarly_92 ?_
              refine Or.inl ⟨rfl, ?_⟩
              rintro _ _ _ ⟨rfl, rfl, rfl⟩ -
              refine f_W (W2 := []) rfl ?_
              refine j_ifneB hk dX3_isTooEarly_95 rfl (tgt := 102) (fun h95 => ?_) (fun h95 => ?_)
              · refine j_iconst (n := 0) hk dX3_isTooEarly_102 ?_
                refine j_top (z2 := jB (teC s k j)) (by first | (exfalso; omega) | (rw [show teC s k j = true by unfold teC; first | (rw [h95]; simp; done) | (rw [h95]; simp at h23 h57 ⊢; omega) | (simp at h23 h57 ⊢; omega) | (simp at h23 h57 ⊢; intro q1 q2 q3; omega)]; rfl) | (rw [show teC s k j = false by unfold teC; first | (rw [h95]; simp; done) | (rw [h95]; simp at h23 h57 ⊢; omega) | (simp at h23 h57 ⊢; omega) | (simp at h23 h57 ⊢; intro q1 q2 q3; omega)]; rfl)) ?_
                refine j_iorB hk dX3_isTooEarly_103 ?_
                refine j_ist3 hk dX3_isTooEarly_104 rfl ?_
                refine j_iinc4 hk dX3_isTooEarly_105 rfl ?_
                refine j_loc (i := 3) (z2 := jB ((List.range (j + 1)).any (teC s k))) rfl (by rw [any_S]) ?_
                refine j_goto (tgt := 19) hk dX3_isTooEarly_108 rfl ?_
                refine j_forget (i := 5) ?_
                refine j_forget (i := 6) ?_
                refine j_wide (k2 := (j + 1)) (n2 := (j + 1)) (by omega) (by omega) ?_
                exact ih19 (j + 1) (by omega) (by omega)
              · refine j_iconst (n := 1) hk dX3_isTooEarly_98 ?_
                refine j_goto (tgt := 103) hk dX3_isTooEarly_99 rfl ?_
                refine j_top (z2 := jB (teC s k j)) (by first | (exfalso; omega) | (rw [show teC s k j = true by unfold teC; first | (rw [h95]; simp; done) | (rw [h95]; simp at h23 h57 ⊢; omega) | (simp at h23 h57 ⊢; omega) | (simp at h23 h57 ⊢; intro q1 q2 q3; omega)]; rfl) | (rw [show teC s k j = false by unfold teC; first | (rw [h95]; simp; done) | (rw [h95]; simp at h23 h57 ⊢; omega) | (simp at h23 h57 ⊢; omega) | (simp at h23 h57 ⊢; intro q1 q2 q3; omega)]; rfl)) ?_
                refine j_iorB hk dX3_isTooEarly_103 ?_
                refine j_ist3 hk dX3_isTooEarly_104 rfl ?_
                refine j_iinc4 hk dX3_isTooEarly_105 rfl ?_
                refine j_loc (i := 3) (z2 := jB ((List.range (j + 1)).any (teC s k))) rfl (by rw [any_S]) ?_
                refine j_goto (tgt := 19) hk dX3_isTooEarly_108 rfl ?_
                refine j_forget (i := 5) ?_
                refine j_forget (i := 6) ?_
                refine j_wide (k2 := (j + 1)) (n2 := (j + 1)) (by omega) (by omega) ?_
                exact ih19 (j + 1) (by omega) (by omega)
  exact loop19 _ 0 (Nat.lt_succ_self _) (Nat.zero_le _)
set_option maxHeartbeats 1500000 in
/-- X3 isStrict()Z -/
theorem fc_X3_isStrict {l : Launch} {E : jE} (hls : l.stackTraces = false) (hE : jSt E) (hN : jCn E) {z : jZ} (hzc : zLe (zS E) z) {a : Nat} {s : List Op} (h : schZ E z a s) : fC l E yX3_isStrict cX3_isStrict 3 (some .boolean) 9 3140 (34 * s.length) (34 * s.length) [.ref a] z [] (fun rr z2 W2 => rr = some (.int (jI (jB ((List.range s.length).all (fun k => !tooC s k))))) ∧ W2 = [] ∧ z = z2) := by
  refine f_start (own := "ScheduleAnalyzer$Schedule") (vs := [some (.ref a), none, none]) hls (by decide +kernel) rfl rfl rfl (Nat.le_of_ble_eq_true rfl) ?_
  intro K H0 hk he hl0 hI hA
  have hsl33 := h.len
  refine j_iconst (n := 1) hk dX3_isStrict_0 ?_
  refine j_ist1 hk dX3_isStrict_1 rfl ?_
  refine j_iconst (n := 0) hk dX3_isStrict_2 ?_
  refine j_ist2 hk dX3_isStrict_3 rfl ?_
  have loop4 : ∀ (fuel4 : Nat) (k : Nat), s.length - k < fuel4 → k ≤ s.length → jW K (fO K E z z []) (34 * k) (34 * k) 4 [some (.ref a), some (.int (jI (jB ((List.range k).all (fun k => !tooC s k))))), some (.int (jI ((k : Nat) : Int)))] [] := by
    intro fuel4
    induction fuel4 with
    | zero => intro k hm; exact absurd hm (Nat.not_lt_zero _)
    | succ fuel4 ih4 =>
      intro k hm4 hkn
      refine j_ild4 hk dX3_isStrict_4 rfl rfl ?_
      refine j_ald4 hk dX3_isStrict_5 rfl rfl ?_
      obtain ⟨lss1, mss1, lis1, hzs1, hals1, hops1, hnds1⟩ := id h
      refine f_callV (Wc := []) (Wr := []) hE hk hl0 (.inl hzs1) (show vwCl[2]? = some (RX3, TX3, 1) from rfl) (fc_X3_size hls hE hN (z := z) hzc (a := a) (s := s) (h)) (fun _ h => Or.inl h) 0 (lw_V q888 q889 q890 q117 q891) (by decide +kernel) rfl (by decide) (by omega) rfl (Nat.le_of_ble_eq_true rfl) dX3_isStrict_6 ?_
      refine Or.inl ⟨rfl, ?_⟩
      rintro _ _ _ ⟨rfl, rfl, rfl⟩ -
      refine f_W (W2 := []) rfl ?_
      refine j_icmp_ge hk (by omega) (by omega) dX3_isStrict_9 rfl (tgt := 34) (fun h9 => ?_) (fun h9 => ?_)
      · refine j_ild4 hk dX3_isStrict_34 rfl rfl ?_
        refine f_iret hk he hA (jn_bool _) dX3_isStrict_35 (by omega) (by omega) ?_
        exact ⟨congrArg (fun z => some (Value.int (jI z))) (by rw [show s.length = k by omega]), rfl, rfl⟩
      · refine j_ild4 hk dX3_isStrict_12 rfl rfl ?_
        refine j_ald4 hk dX3_isStrict_13 rfl rfl ?_
        refine j_ild4 hk dX3_isStrict_14 rfl rfl ?_
        refine f_callV (Wc := []) (Wr := []) hE hk hl0 (.inl hzs1) (show vwCl[2]? = some (RX3, TX3, 1) from rfl) (fc_X3_isTooEarly hls hE hN (z := z) hzc (a := a) (k := k) (s := s) (h) (by first | assumption | omega)) (fun _ h => Or.inl h) 1 (lw_V q1379 q1381 qs19 q117 q1382) (by decide +kernel) rfl (by decide) (by omega) rfl (Nat.le_of_ble_eq_true rfl) dX3_isStrict_15 ?_
        refine Or.inl ⟨rfl, ?_⟩
        rintro _ _ _ ⟨rfl, rfl, rfl⟩ -
        refine f_W (W2 := []) rfl ?_
        refine j_ifneB hk dX3_isStrict_18 rfl (tgt := 25) (fun h18 => ?_) (fun h18 => ?_)
        · refine j_iconst (n := 0) hk dX3_isStrict_25 ?_
          refine j_top (z2 := jB (!tooC s k)) (by rw [h18]; rfl) ?_
          refine j_iandB hk dX3_isStrict_26 ?_
          refine j_ist1 hk dX3_isStrict_27 rfl ?_
          refine j_iinc2 hk dX3_isStrict_28 rfl ?_
          refine j_loc (i := 1) (z2 := jB ((List.range (k + 1)).all (fun k => !tooC s k))) rfl (by rw [all_S]) ?_
          refine j_goto (tgt := 4) hk dX3_isStrict_31 rfl ?_
          refine j_wide (k2 := 34 * (k + 1)) (n2 := 34 * (k + 1)) (by omega) (by omega) ?_
          exact ih4 (k + 1) (by omega) (by omega)
        · refine j_iconst (n := 1) hk dX3_isStrict_21 ?_
          refine j_goto (tgt := 26) hk dX3_isStrict_22 rfl ?_
          refine j_top (z2 := jB (!tooC s k)) (by rw [h18]; rfl) ?_
          refine j_iandB hk dX3_isStrict_26 ?_
          refine j_ist1 hk dX3_isStrict_27 rfl ?_
          refine j_iinc2 hk dX3_isStrict_28 rfl ?_
          refine j_loc (i := 1) (z2 := jB ((List.range (k + 1)).all (fun k => !tooC s k))) rfl (by rw [all_S]) ?_
          refine j_goto (tgt := 4) hk dX3_isStrict_31 rfl ?_
          refine j_wide (k2 := 34 * (k + 1)) (n2 := 34 * (k + 1)) (by omega) (by omega) ?_
          exact ih4 (k + 1) (by omega) (by omega)
  refine j_wide (k2 := 34 * 0) (n2 := 34 * 0) (by omega) (by omega) ?_
  exact loop4 _ 0 (Nat.lt_succ_self _) (Nat.zero_le _)

