/-! S, 1: operations -/
set_option maxHeartbeats 1500000 in
/-- X6 isAccess()Z -/
theorem fc_X6_isAccess {l : Launch} {E : jE} (hls : l.stackTraces = false) (hE : jSt E) (hN : jCn E) {z : jZ} (hzc : zLe (zS E) z) {a : Nat} {o : Op} (ho_a : z (a, .inr (5, opFs o))) (hk_a : opOK o) : fC l E yX6_isAccess cX6_isAccess 1 (some .boolean) 1 12 (0) (0) [.ref a] z [] (fun rr z2 W2 => rr = some (.int (jI (jB (decide (oK o < 2))))) ∧ W2 = [] ∧ z = z2) := by
  refine f_start (own := "ScheduleAnalyzer$Operation") (vs := [some (.ref a)]) hls (by decide +kernel) rfl rfl rfl (Nat.le_of_ble_eq_true rfl) ?_
  intro K H0 hk he hl0 hI hA
  have lk_a := letK_c hk_a
  have hk0_a := hk_a
  obtain ⟨a1, a2, a3, a4, a5⟩ := hk0_a
  refine j_ald4 hk dX6_isAccess_0 rfl rfl ?_
  refine f_get hE hk in_X6 (.inl ho_a) (show vwCl[5]? = some (RX6, TX6, 3) from rfl) 0 (by decide) q1658 (Or.inl rfl) rfl dX6_isAccess_1 ?_
  refine j_bipush (n := 114) hk rfl dX6_isAccess_4 ?_
  refine j_icmp_eq hk (by omega) (by omega) dX6_isAccess_6 rfl (tgt := 18) (fun h6 => ?_) (fun h6 => ?_)
  · refine j_iconst (n := 1) hk dX6_isAccess_18 ?_
    refine j_goto (tgt := 23) hk dX6_isAccess_19 rfl ?_
    refine f_iret hk he hA rfl dX6_isAccess_23 (by omega) (by omega) ?_
    exact ⟨congrArg (fun z => some (Value.int (jI z))) (by rw [show (decide (oK o < 2)) = true by simp; omega]; rfl), rfl, rfl⟩
  · refine j_ald4 hk dX6_isAccess_9 rfl rfl ?_
    refine f_get hE hk in_X6 (.inl ho_a) (show vwCl[5]? = some (RX6, TX6, 3) from rfl) 0 (by decide) q1658 (Or.inl rfl) rfl dX6_isAccess_10 ?_
    refine j_bipush (n := 119) hk rfl dX6_isAccess_13 ?_
    refine j_icmp_ne hk (by omega) (by omega) dX6_isAccess_15 rfl (tgt := 22) (fun h15 => ?_) (fun h15 => ?_)
    · refine j_iconst (n := 0) hk dX6_isAccess_22 ?_
      refine f_iret hk he hA rfl dX6_isAccess_23 (by omega) (by omega) ?_
      exact ⟨congrArg (fun z => some (Value.int (jI z))) (by rw [show (decide (oK o < 2)) = false by simp; omega]; rfl), rfl, rfl⟩
    · refine j_iconst (n := 1) hk dX6_isAccess_18 ?_
      refine j_goto (tgt := 23) hk dX6_isAccess_19 rfl ?_
      refine f_iret hk he hA rfl dX6_isAccess_23 (by omega) (by omega) ?_
      exact ⟨congrArg (fun z => some (Value.int (jI z))) (by rw [show (decide (oK o < 2)) = true by simp; omega]; rfl), rfl, rfl⟩
set_option maxHeartbeats 1500000 in
/-- X6 isOf(CI)Z -/
theorem fc_X6_isOf {l : Launch} {E : jE} (hls : l.stackTraces = false) (hE : jSt E) (hN : jCn E) {z : jZ} (hzc : zLe (zS E) z) {a : Nat} {c : Int} {t : Int} {o : Op} (ho_a : z (a, .inr (5, opFs o))) (hk_a : opOK o) (hr_c : jr c) (hr_t : jr t) : fC l E yX6_isOf cX6_isOf 3 (some .boolean) 1 12 (0) (0) [.ref a, .int (jI c), .int (jI t)] z [] (fun rr z2 W2 => rr = some (.int (jI (jB (decide (((letK (oK o) : Nat) : Int) = c) && decide (((oT o : Nat) : Int) = t))))) ∧ W2 = [] ∧ z = z2) := by
  refine f_start (own := "ScheduleAnalyzer$Operation") (vs := [some (.ref a), some (.int (jI c)), some (.int (jI t))]) hls (by decide +kernel) rfl rfl rfl (Nat.le_of_ble_eq_true rfl) ?_
  intro K H0 hk he hl0 hI hA
  have lk_a := letK_c hk_a
  have hk0_a := hk_a
  obtain ⟨a1, a2, a3, a4, a5⟩ := hk0_a
  refine j_ald4 hk dX6_isOf_0 rfl rfl ?_
  refine f_get hE hk in_X6 (.inl ho_a) (show vwCl[5]? = some (RX6, TX6, 3) from rfl) 0 (by decide) q1658 (Or.inl rfl) rfl dX6_isOf_1 ?_
  refine j_ild4 hk dX6_isOf_4 rfl rfl ?_
  refine j_icmp_ne hk (by omega) (by omega) dX6_isOf_5 rfl (tgt := 20) (fun h5 => ?_) (fun h5 => ?_)
  · refine j_iconst (n := 0) hk dX6_isOf_20 ?_
    refine f_iret hk he hA rfl dX6_isOf_21 (by omega) (by omega) ?_
    exact ⟨congrArg (fun z => some (Value.int (jI z))) (by rw [show (decide (((letK (oK o) : Nat) : Int) = c) && decide (((oT o : Nat) : Int) = t)) = false by simp; omega]; rfl), rfl, rfl⟩
  · refine j_ald4 hk dX6_isOf_8 rfl rfl ?_
    refine f_get hE hk in_X6 (.inl ho_a) (show vwCl[5]? = some (RX6, TX6, 3) from rfl) 1 (by decide) q1663 (Or.inl rfl) rfl dX6_isOf_9 ?_
    refine j_ild4 hk dX6_isOf_12 rfl rfl ?_
    refine j_icmp_ne hk (by omega) (by omega) dX6_isOf_13 rfl (tgt := 20) (fun h13 => ?_) (fun h13 => ?_)
    · refine j_iconst (n := 0) hk dX6_isOf_20 ?_
      refine f_iret hk he hA rfl dX6_isOf_21 (by omega) (by omega) ?_
      exact ⟨congrArg (fun z => some (Value.int (jI z))) (by rw [show (decide (((letK (oK o) : Nat) : Int) = c) && decide (((oT o : Nat) : Int) = t)) = false by simp; omega]; rfl), rfl, rfl⟩
    · refine j_iconst (n := 1) hk dX6_isOf_16 ?_
      refine j_goto (tgt := 21) hk dX6_isOf_17 rfl ?_
      refine f_iret hk he hA rfl dX6_isOf_21 (by omega) (by omega) ?_
      exact ⟨congrArg (fun z => some (Value.int (jI z))) (by rw [show (decide (((letK (oK o) : Nat) : Int) = c) && decide (((oT o : Nat) : Int) = t)) = true by simp; omega]; rfl), rfl, rfl⟩
set_option maxHeartbeats 1500000 in
/-- X6 isWriteOf(C)Z -/
theorem fc_X6_isWriteOf {l : Launch} {E : jE} (hls : l.stackTraces = false) (hE : jSt E) (hN : jCn E) {z : jZ} (hzc : zLe (zS E) z) {a : Nat} {c : Int} {o : Op} (ho_a : z (a, .inr (5, opFs o))) (hk_a : opOK o) (hr_c : jr c) : fC l E yX6_isWriteOf cX6_isWriteOf 2 (some .boolean) 1 12 (0) (0) [.ref a, .int (jI c)] z [] (fun rr z2 W2 => rr = some (.int (jI (jB (decide (oK o = 1) && decide (((97 + oI o : Nat) : Int) = c))))) ∧ W2 = [] ∧ z = z2) := by
  refine f_start (own := "ScheduleAnalyzer$Operation") (vs := [some (.ref a), some (.int (jI c))]) hls (by decide +kernel) rfl rfl rfl (Nat.le_of_ble_eq_true rfl) ?_
  intro K H0 hk he hl0 hI hA
  have lk_a := letK_c hk_a
  have hk0_a := hk_a
  obtain ⟨a1, a2, a3, a4, a5⟩ := hk0_a
  refine j_ald4 hk dX6_isWriteOf_0 rfl rfl ?_
  refine f_get hE hk in_X6 (.inl ho_a) (show vwCl[5]? = some (RX6, TX6, 3) from rfl) 0 (by decide) q1658 (Or.inl rfl) rfl dX6_isWriteOf_1 ?_
  refine j_bipush (n := 119) hk rfl dX6_isWriteOf_4 ?_
  refine j_icmp_ne hk (by omega) (by omega) dX6_isWriteOf_6 rfl (tgt := 21) (fun h6 => ?_) (fun h6 => ?_)
  · refine j_iconst (n := 0) hk dX6_isWriteOf_21 ?_
    refine f_iret hk he hA rfl dX6_isWriteOf_22 (by omega) (by omega) ?_
    exact ⟨congrArg (fun z => some (Value.int (jI z))) (by rw [show (decide (oK o = 1) && decide (((97 + oI o : Nat) : Int) = c)) = false by simp; omega]; rfl), rfl, rfl⟩
  · refine j_ald4 hk dX6_isWriteOf_9 rfl rfl ?_
    refine f_get hE hk in_X6 (.inl ho_a) (show vwCl[5]? = some (RX6, TX6, 3) from rfl) 2 (by decide) q1669 (Or.inl rfl) rfl dX6_isWriteOf_10 ?_
    refine j_ild4 hk dX6_isWriteOf_13 rfl rfl ?_
    refine j_icmp_ne hk (by omega) (by omega) dX6_isWriteOf_14 rfl (tgt := 21) (fun h14 => ?_) (fun h14 => ?_)
    · refine j_iconst (n := 0) hk dX6_isWriteOf_21 ?_
      refine f_iret hk he hA rfl dX6_isWriteOf_22 (by omega) (by omega) ?_
      exact ⟨congrArg (fun z => some (Value.int (jI z))) (by rw [show (decide (oK o = 1) && decide (((97 + oI o : Nat) : Int) = c)) = false by simp; omega]; rfl), rfl, rfl⟩
    · refine j_iconst (n := 1) hk dX6_isWriteOf_17 ?_
      refine j_goto (tgt := 22) hk dX6_isWriteOf_18 rfl ?_
      refine f_iret hk he hA rfl dX6_isWriteOf_22 (by omega) (by omega) ?_
      exact ⟨congrArg (fun z => some (Value.int (jI z))) (by rw [show (decide (oK o = 1) && decide (((97 + oI o : Nat) : Int) = c)) = true by simp; omega]; rfl), rfl, rfl⟩
set_option maxHeartbeats 1500000 in
/-- X6 isEndOf(I)Z -/
theorem fc_X6_isEndOf {l : Launch} {E : jE} (hls : l.stackTraces = false) (hE : jSt E) (hN : jCn E) {z : jZ} (hzc : zLe (zS E) z) {a : Nat} {t : Int} {o : Op} (ho_a : z (a, .inr (5, opFs o))) (hk_a : opOK o) (hr_t : jr t) : fC l E yX6_isEndOf cX6_isEndOf 2 (some .boolean) 2 32 (0) (0) [.ref a, .int (jI t)] z [] (fun rr z2 W2 => rr = some (.int (jI (jB (!decide (oK o < 2) && decide (((oT o : Nat) : Int) = t))))) ∧ W2 = [] ∧ z = z2) := by
  refine f_start (own := "ScheduleAnalyzer$Operation") (vs := [some (.ref a), some (.int (jI t))]) hls (by decide +kernel) rfl rfl rfl (Nat.le_of_ble_eq_true rfl) ?_
  intro K H0 hk he hl0 hI hA
  have lk_a := letK_c hk_a
  have hk0_a := hk_a
  obtain ⟨a1, a2, a3, a4, a5⟩ := hk0_a
  refine j_ald4 hk dX6_isEndOf_0 rfl rfl ?_
  refine f_callV (Wc := []) (Wr := []) hE hk hl0 (.inl ho_a) (show vwCl[5]? = some (RX6, TX6, 3) from rfl) (fc_X6_isAccess hls hE hN (z := z) hzc (a := a) (o := o) (ho_a) (hk_a)) (fun _ h => Or.inl h) 0 (lw_V q1206 q1207 q1208 q149 q1209) (by decide +kernel) rfl (by decide) (by omega) rfl (Nat.le_of_ble_eq_true rfl) dX6_isEndOf_1 ?_
  refine Or.inl ⟨rfl, ?_⟩
  rintro _ _ _ ⟨rfl, rfl, rfl⟩ -
  refine f_W (W2 := []) rfl ?_
  refine j_ifneB hk dX6_isEndOf_4 rfl (tgt := 19) (fun h4 => ?_) (fun h4 => ?_)
  · refine j_iconst (n := 0) hk dX6_isEndOf_19 ?_
    refine f_iret hk he hA rfl dX6_isEndOf_20 (by omega) (by omega) ?_
    exact ⟨congrArg (fun z => some (Value.int (jI z))) (by rw [show (!decide (oK o < 2) && decide (((oT o : Nat) : Int) = t)) = false by simp at *; omega]; rfl), rfl, rfl⟩
  · refine j_ald4 hk dX6_isEndOf_7 rfl rfl ?_
    refine f_get hE hk in_X6 (.inl ho_a) (show vwCl[5]? = some (RX6, TX6, 3) from rfl) 1 (by decide) q1663 (Or.inl rfl) rfl dX6_isEndOf_8 ?_
    refine j_ild4 hk dX6_isEndOf_11 rfl rfl ?_
    refine j_icmp_ne hk (by omega) (by omega) dX6_isEndOf_12 rfl (tgt := 19) (fun h12 => ?_) (fun h12 => ?_)
    · refine j_iconst (n := 0) hk dX6_isEndOf_19 ?_
      refine f_iret hk he hA rfl dX6_isEndOf_20 (by omega) (by omega) ?_
      exact ⟨congrArg (fun z => some (Value.int (jI z))) (by rw [show (!decide (oK o < 2) && decide (((oT o : Nat) : Int) = t)) = false by simp at *; omega]; rfl), rfl, rfl⟩
    · refine j_iconst (n := 1) hk dX6_isEndOf_15 ?_
      refine j_goto (tgt := 20) hk dX6_isEndOf_16 rfl ?_
      refine f_iret hk he hA rfl dX6_isEndOf_20 (by omega) (by omega) ?_
      exact ⟨congrArg (fun z => some (Value.int (jI z))) (by rw [show (!decide (oK o < 2) && decide (((oT o : Nat) : Int) = t)) = true by simp at *; omega]; rfl), rfl, rfl⟩
set_option maxHeartbeats 1500000 in
/-- X6 conflictsWith(LScheduleAnalyzer$Operation;)Z -/
theorem fc_X6_conflictsWith {l : Launch} {E : jE} (hls : l.stackTraces = false) (hE : jSt E) (hN : jCn E) {z : jZ} (hzc : zLe (zS E) z) {a : Nat} {b : Nat} {o : Op} {o2 : Op} (ho_a : z (a, .inr (5, opFs o))) (hk_a : opOK o) (ho_b : z (b, .inr (5, opFs o2))) (hk_b : opOK o2) : fC l E yX6_conflictsWith cX6_conflictsWith 3 (some .boolean) 2 32 (0) (0) [.ref a, .ref b] z [] (fun rr z2 W2 => rr = some (.int (jI (jB (opConf o o2)))) ∧ W2 = [] ∧ z = z2) := by
  refine f_start (own := "ScheduleAnalyzer$Operation") (vs := [some (.ref a), some (.ref b), none]) hls (by decide +kernel) rfl rfl rfl (Nat.le_of_ble_eq_true rfl) ?_
  intro K H0 hk he hl0 hI hA
  have lk_a := letK_c hk_a
  have hk0_a := hk_a
  obtain ⟨a1, a2, a3, a4, a5⟩ := hk0_a
  have lk_b := letK_c hk_b
  have hk0_b := hk_b
  obtain ⟨b1, b2, b3, b4, b5⟩ := hk0_b
  refine j_ald4 hk dX6_conflictsWith_0 rfl rfl ?_
  refine f_callV (Wc := []) (Wr := []) hE hk hl0 (.inl ho_a) (show vwCl[5]? = some (RX6, TX6, 3) from rfl) (fc_X6_isAccess hls hE hN (z := z) hzc (a := a) (o := o) (ho_a) (hk_a)) (fun _ h => Or.inl h) 0 (lw_V q1206 q1207 q1208 q149 q1209) (by decide +kernel) rfl (by decide) (by omega) rfl (Nat.le_of_ble_eq_true rfl) dX6_conflictsWith_1 ?_
  refine Or.inl ⟨rfl, ?_⟩
  rintro _ _ _ ⟨rfl, rfl, rfl⟩ -
  refine f_W (W2 := []) rfl ?_
  refine j_ifeqB hk dX6_conflictsWith_4 rfl (tgt := 29) (fun h4 => ?_) (fun h4 => ?_)
  · refine j_iconst (n := 0) hk dX6_conflictsWith_29 ?_
    refine j_ist2 hk dX6_conflictsWith_30 rfl ?_
    refine j_ild4 hk dX6_conflictsWith_31 rfl rfl ?_
    refine j_if_eq hk (by omega) dX6_conflictsWith_32 rfl (tgt := 68) (fun _ => ?_) (fun h => absurd h (by omega))
    refine j_iconst (n := 0) hk dX6_conflictsWith_68 ?_
    refine f_iret hk he hA rfl dX6_conflictsWith_69 (by omega) (by omega) ?_
    exact ⟨congrArg (fun z => some (Value.int (jI z))) (by rw [show (opConf o o2) = false by simp [opConf] at *; omega]; rfl), rfl, rfl⟩
  · refine j_ald4 hk dX6_conflictsWith_7 rfl rfl ?_
    refine f_callV (Wc := []) (Wr := []) hE hk hl0 (.inl ho_b) (show vwCl[5]? = some (RX6, TX6, 3) from rfl) (fc_X6_isAccess hls hE hN (z := z) hzc (a := b) (o := o2) (ho_b) (hk_b)) (fun _ h => Or.inl h) 0 (lw_V q1206 q1207 q1208 q149 q1209) (by decide +kernel) rfl (by decide) (by omega) rfl (Nat.le_of_ble_eq_true rfl) dX6_conflictsWith_8 ?_
    refine Or.inl ⟨rfl, ?_⟩
    rintro _ _ _ ⟨rfl, rfl, rfl⟩ -
    refine f_W (W2 := []) rfl ?_
    refine j_ifeqB hk dX6_conflictsWith_11 rfl (tgt := 29) (fun h11 => ?_) (fun h11 => ?_)
    · refine j_iconst (n := 0) hk dX6_conflictsWith_29 ?_
      refine j_ist2 hk dX6_conflictsWith_30 rfl ?_
      refine j_ild4 hk dX6_conflictsWith_31 rfl rfl ?_
      refine j_if_eq hk (by omega) dX6_conflictsWith_32 rfl (tgt := 68) (fun _ => ?_) (fun h => absurd h (by omega))
      refine j_iconst (n := 0) hk dX6_conflictsWith_68 ?_
      refine f_iret hk he hA rfl dX6_conflictsWith_69 (by omega) (by omega) ?_
      exact ⟨congrArg (fun z => some (Value.int (jI z))) (by rw [show (opConf o o2) = false by simp [opConf] at *; omega]; rfl), rfl, rfl⟩
    · refine j_ald4 hk dX6_conflictsWith_14 rfl rfl ?_
      refine f_get hE hk in_X6 (.inl ho_a) (show vwCl[5]? = some (RX6, TX6, 3) from rfl) 2 (by decide) q1669 (Or.inl rfl) rfl dX6_conflictsWith_15 ?_
      refine j_ald4 hk dX6_conflictsWith_18 rfl rfl ?_
      refine f_get hE hk in_X6 (.inl ho_b) (show vwCl[5]? = some (RX6, TX6, 3) from rfl) 2 (by decide) q1669 (Or.inl rfl) rfl dX6_conflictsWith_19 ?_
      refine j_icmp_ne hk (by omega) (by omega) dX6_conflictsWith_22 rfl (tgt := 29) (fun h22 => ?_) (fun h22 => ?_)
      · refine j_iconst (n := 0) hk dX6_conflictsWith_29 ?_
        refine j_ist2 hk dX6_conflictsWith_30 rfl ?_
        refine j_ild4 hk dX6_conflictsWith_31 rfl rfl ?_
        refine j_if_eq hk (by omega) dX6_conflictsWith_32 rfl (tgt := 68) (fun _ => ?_) (fun h => absurd h (by omega))
        refine j_iconst (n := 0) hk dX6_conflictsWith_68 ?_
        refine f_iret hk he hA rfl dX6_conflictsWith_69 (by omega) (by omega) ?_
        exact ⟨congrArg (fun z => some (Value.int (jI z))) (by rw [show (opConf o o2) = false by simp [opConf] at *; omega]; rfl), rfl, rfl⟩
      · refine j_iconst (n := 1) hk dX6_conflictsWith_25 ?_
        refine j_goto (tgt := 30) hk dX6_conflictsWith_26 rfl ?_
        refine j_ist2 hk dX6_conflictsWith_30 rfl ?_
        refine j_ild4 hk dX6_conflictsWith_31 rfl rfl ?_
        refine j_if_eq hk (by omega) dX6_conflictsWith_32 rfl (tgt := 68) (fun h => absurd h (by omega)) (fun _ => ?_)
        refine j_ald4 hk dX6_conflictsWith_35 rfl rfl ?_
        refine f_get hE hk in_X6 (.inl ho_a) (show vwCl[5]? = some (RX6, TX6, 3) from rfl) 1 (by decide) q1663 (Or.inl rfl) rfl dX6_conflictsWith_36 ?_
        refine j_ald4 hk dX6_conflictsWith_39 rfl rfl ?_
        refine f_get hE hk in_X6 (.inl ho_b) (show vwCl[5]? = some (RX6, TX6, 3) from rfl) 1 (by decide) q1663 (Or.inl rfl) rfl dX6_conflictsWith_40 ?_
        refine j_icmp_eq hk (by omega) (by omega) dX6_conflictsWith_43 rfl (tgt := 68) (fun h43 => ?_) (fun h43 => ?_)
        · refine j_iconst (n := 0) hk dX6_conflictsWith_68 ?_
          refine f_iret hk he hA rfl dX6_conflictsWith_69 (by omega) (by omega) ?_
          exact ⟨congrArg (fun z => some (Value.int (jI z))) (by rw [show (opConf o o2) = false by simp [opConf] at *; omega]; rfl), rfl, rfl⟩
        · refine j_ald4 hk dX6_conflictsWith_46 rfl rfl ?_
          refine f_get hE hk in_X6 (.inl ho_a) (show vwCl[5]? = some (RX6, TX6, 3) from rfl) 0 (by decide) q1658 (Or.inl rfl) rfl dX6_conflictsWith_47 ?_
          refine j_bipush (n := 119) hk rfl dX6_conflictsWith_50 ?_
          refine j_icmp_eq hk (by omega) (by omega) dX6_conflictsWith_52 rfl (tgt := 64) (fun h52 => ?_) (fun h52 => ?_)
          · refine j_iconst (n := 1) hk dX6_conflictsWith_64 ?_
            refine j_goto (tgt := 69) hk dX6_conflictsWith_65 rfl ?_
            refine f_iret hk he hA rfl dX6_conflictsWith_69 (by omega) (by omega) ?_
            exact ⟨congrArg (fun z => some (Value.int (jI z))) (by rw [show (opConf o o2) = true by simp [opConf] at *; omega]; rfl), rfl, rfl⟩
          · refine j_ald4 hk dX6_conflictsWith_55 rfl rfl ?_
            refine f_get hE hk in_X6 (.inl ho_b) (show vwCl[5]? = some (RX6, TX6, 3) from rfl) 0 (by decide) q1658 (Or.inl rfl) rfl dX6_conflictsWith_56 ?_
            refine j_bipush (n := 119) hk rfl dX6_conflictsWith_59 ?_
            refine j_icmp_ne hk (by omega) (by omega) dX6_conflictsWith_61 rfl (tgt := 68) (fun h61 => ?_) (fun h61 => ?_)
            · refine j_iconst (n := 0) hk dX6_conflictsWith_68 ?_
              refine f_iret hk he hA rfl dX6_conflictsWith_69 (by omega) (by omega) ?_
              exact ⟨congrArg (fun z => some (Value.int (jI z))) (by rw [show (opConf o o2) = false by simp [opConf] at *; omega]; rfl), rfl, rfl⟩
            · refine j_iconst (n := 1) hk dX6_conflictsWith_64 ?_
              refine j_goto (tgt := 69) hk dX6_conflictsWith_65 rfl ?_
              refine f_iret hk he hA rfl dX6_conflictsWith_69 (by omega) (by omega) ?_
              exact ⟨congrArg (fun z => some (Value.int (jI z))) (by rw [show (opConf o o2) = true by simp [opConf] at *; omega]; rfl), rfl, rfl⟩
set_option maxHeartbeats 1500000 in
/-- X6 isEqual(LScheduleAnalyzer$Operation;)Z -/
theorem fc_X6_isEqual {l : Launch} {E : jE} (hls : l.stackTraces = false) (hE : jSt E) (hN : jCn E) {z : jZ} (hzc : zLe (zS E) z) {a : Nat} {b : Nat} {o : Op} {o2 : Op} (ho_a : z (a, .inr (5, opFs o))) (hk_a : opOK o) (ho_b : z (b, .inr (5, opFs o2))) (hk_b : opOK o2) : fC l E yX6_isEqual cX6_isEqual 2 (some .boolean) 1 12 (0) (0) [.ref a, .ref b] z [] (fun rr z2 W2 => rr = some (.int (jI (jB (decide (opV o = opV o2))))) ∧ W2 = [] ∧ z = z2) := by
  refine f_start (own := "ScheduleAnalyzer$Operation") (vs := [some (.ref a), some (.ref b)]) hls (by decide +kernel) rfl rfl rfl (Nat.le_of_ble_eq_true rfl) ?_
  intro K H0 hk he hl0 hI hA
  have lk_a := letK_c hk_a
  have hk0_a := hk_a
  obtain ⟨a1, a2, a3, a4, a5⟩ := hk0_a
  have lk_b := letK_c hk_b
  have hk0_b := hk_b
  obtain ⟨b1, b2, b3, b4, b5⟩ := hk0_b
  refine j_ald4 hk dX6_isEqual_0 rfl rfl ?_
  refine f_get hE hk in_X6 (.inl ho_a) (show vwCl[5]? = some (RX6, TX6, 3) from rfl) 0 (by decide) q1658 (Or.inl rfl) rfl dX6_isEqual_1 ?_
  refine j_ald4 hk dX6_isEqual_4 rfl rfl ?_
  refine f_get hE hk in_X6 (.inl ho_b) (show vwCl[5]? = some (RX6, TX6, 3) from rfl) 0 (by decide) q1658 (Or.inl rfl) rfl dX6_isEqual_5 ?_
  refine j_icmp_ne hk (by omega) (by omega) dX6_isEqual_8 rfl (tgt := 37) (fun h8 => ?_) (fun h8 => ?_)
  · refine j_iconst (n := 0) hk dX6_isEqual_37 ?_
    refine f_iret hk he hA rfl dX6_isEqual_38 (by omega) (by omega) ?_
    exact ⟨congrArg (fun z => some (Value.int (jI z))) (by rw [show decide (opV o = opV o2) = false from decide_eq_false (by unfold opV; omega)]; rfl), rfl, rfl⟩
  · refine j_ald4 hk dX6_isEqual_11 rfl rfl ?_
    refine f_get hE hk in_X6 (.inl ho_a) (show vwCl[5]? = some (RX6, TX6, 3) from rfl) 1 (by decide) q1663 (Or.inl rfl) rfl dX6_isEqual_12 ?_
    refine j_ald4 hk dX6_isEqual_15 rfl rfl ?_
    refine f_get hE hk in_X6 (.inl ho_b) (show vwCl[5]? = some (RX6, TX6, 3) from rfl) 1 (by decide) q1663 (Or.inl rfl) rfl dX6_isEqual_16 ?_
    refine j_icmp_ne hk (by omega) (by omega) dX6_isEqual_19 rfl (tgt := 37) (fun h19 => ?_) (fun h19 => ?_)
    · refine j_iconst (n := 0) hk dX6_isEqual_37 ?_
      refine f_iret hk he hA rfl dX6_isEqual_38 (by omega) (by omega) ?_
      exact ⟨congrArg (fun z => some (Value.int (jI z))) (by rw [show decide (opV o = opV o2) = false from decide_eq_false (by unfold opV; omega)]; rfl), rfl, rfl⟩
    · refine j_ald4 hk dX6_isEqual_22 rfl rfl ?_
      refine f_get hE hk in_X6 (.inl ho_a) (show vwCl[5]? = some (RX6, TX6, 3) from rfl) 2 (by decide) q1669 (Or.inl rfl) rfl dX6_isEqual_23 ?_
      refine j_ald4 hk dX6_isEqual_26 rfl rfl ?_
      refine f_get hE hk in_X6 (.inl ho_b) (show vwCl[5]? = some (RX6, TX6, 3) from rfl) 2 (by decide) q1669 (Or.inl rfl) rfl dX6_isEqual_27 ?_
      refine j_icmp_ne hk (by omega) (by omega) dX6_isEqual_30 rfl (tgt := 37) (fun h30 => ?_) (fun h30 => ?_)
      · refine j_iconst (n := 0) hk dX6_isEqual_37 ?_
        refine f_iret hk he hA rfl dX6_isEqual_38 (by omega) (by omega) ?_
        exact ⟨congrArg (fun z => some (Value.int (jI z))) (by rw [show decide (opV o = opV o2) = false from decide_eq_false (by unfold opV; omega)]; rfl), rfl, rfl⟩
      · refine j_iconst (n := 1) hk dX6_isEqual_33 ?_
        refine j_goto (tgt := 38) hk dX6_isEqual_34 rfl ?_
        refine f_iret hk he hA rfl dX6_isEqual_38 (by omega) (by omega) ?_
        exact ⟨congrArg (fun z => some (Value.int (jI z))) (by rw [show decide (opV o = opV o2) = true from decide_eq_true (by unfold opV; omega)]; rfl), rfl, rfl⟩
set_option maxHeartbeats 1500000 in
/-- X6 init(CIC)V -/
theorem fc_X6_init {l : Launch} {E : jE} (hls : l.stackTraces = false) (hE : jSt E) (hN : jCn E) {z : jZ} (hzc : zLe (zS E) z) {a : Nat} {c : Int} {t : Int} {d : Int} (hc : 0 ≤ c ∧ c < 65536) (hd : 0 ≤ d ∧ d < 65536) : fC l E yX6_init cX6_init 4 (none) 1 20 (0) (0) [.ref a, .int (jI c), .int (jI t), .int (jI d)] z [[(a, .inr (5, [.int (jI 0), .int (jI 0), .int (jI 0)]))]] (fun rr z2 W2 => rr = none ∧ W2 = [[(a, .inr (5, [.int (jI c), .int (jI t), .int (jI d)]))]] ∧ z = z2) := by
  refine f_start (own := "ScheduleAnalyzer$Operation") (vs := [some (.ref a), some (.int (jI c)), some (.int (jI t)), some (.int (jI d))]) hls (by decide +kernel) rfl rfl rfl (Nat.le_of_ble_eq_true rfl) ?_
  intro K H0 hk he hl0 hI hA
  refine j_ald4 hk dX6_init_0 rfl rfl ?_
  refine j_objInit hk q1657 q171 q172 ⟨by decide, by decide⟩ dX6_init_1 ?_
  refine j_ald4 hk dX6_init_4 rfl rfl ?_
  refine j_ild4 hk dX6_init_5 rfl rfl ?_
  refine f_put (fs := [.int (jI 0), .int (jI 0), .int (jI 0)]) (ty := .char) (W2 := [[(a, .inr (5, [.int (jI c), .int (jI 0), .int (jI 0)]))]]) hE hk in_X6 tyX6_ok nmX6 0 0 rfl rfl (show vwCl[5]? = some (RX6, TX6, 3) from rfl) 0 (by decide) q1658 (Or.inl rfl) (Or.inr ⟨rfl, hI, rfl⟩) (by decide +kernel) (jn_charI (by omega) (by omega)) (jn_charF (by omega) (by omega)) (show 0 < 3 by decide) rfl dX6_init_6 ?_
  refine j_ald4 hk dX6_init_9 rfl rfl ?_
  refine j_ild4 hk dX6_init_10 rfl rfl ?_
  refine f_put (fs := [.int (jI c), .int (jI 0), .int (jI 0)]) (ty := .int) (W2 := [[(a, .inr (5, [.int (jI c), .int (jI t), .int (jI 0)]))]]) hE hk in_X6 tyX6_ok nmX6 0 0 rfl rfl (show vwCl[5]? = some (RX6, TX6, 3) from rfl) 1 (by decide) q1663 (Or.inl rfl) (Or.inr ⟨rfl, hI, rfl⟩) (by decide +kernel) rfl rfl (show 1 < 3 by decide) rfl dX6_init_11 ?_
  refine j_ald4 hk dX6_init_14 rfl rfl ?_
  refine j_ild4 hk dX6_init_15 rfl rfl ?_
  refine f_put (fs := [.int (jI c), .int (jI t), .int (jI 0)]) (ty := .char) (W2 := [[(a, .inr (5, [.int (jI c), .int (jI t), .int (jI d)]))]]) hE hk in_X6 tyX6_ok nmX6 0 0 rfl rfl (show vwCl[5]? = some (RX6, TX6, 3) from rfl) 2 (by decide) q1669 (Or.inl rfl) (Or.inr ⟨rfl, hI, rfl⟩) (by decide +kernel) (jn_charI (by omega) (by omega)) (jn_charF (by omega) (by omega)) (show 2 < 3 by decide) rfl dX6_init_16 ?_
  refine f_vret hk he hA dX6_init_19 (by omega) (by omega) ?_
  exact ⟨rfl, rfl, rfl⟩
