/-! S, 2: tests -/
theorem letK_l {k : Nat} (h : k < 4) : (k = 0 ∧ letK k = 114) ∨ (k = 1 ∧ letK k = 119) ∨ (k = 2 ∧ letK k = 99) ∨ (k = 3 ∧ letK k = 120) := by
  unfold letK
  split <;> (try split) <;> (try split) <;> omega
def pEnd (t : Nat) (o : Op) : Bool := decide (2 ≤ oK o) && decide (oT o = t)
def pIs (k t : Nat) (o : Op) : Bool := decide (oK o = k) && decide (oT o = t)
def pTr (t : Nat) (o : Op) : Bool := decide (oT o = t)
def pOf (k t i : Nat) (o : Op) : Bool := decide (oK o = k) && (decide (oT o = t) && decide (oI o = i))
def pAcc (o : Op) : Bool := decide (oK o < 2)
def pRd (o : Op) : Bool := decide (oK o = 0)
def pBy (t : Nat) (oc o : Op) : Bool := decide (oT o = t) && opConf o oc
set_option maxHeartbeats 1500000 in
/-- X3 lambda_hasEnded_0(ILScheduleAnalyzer$Operation;)Z -/
theorem fc_X3_lambda_hasEnded_0 {l : Launch} {E : jE} (hls : l.stackTraces = false) (hE : jSt E) (hN : jCn E) {z : jZ} (hzc : zLe (zS E) z) {t : Nat} {b : Nat} {o : Op} (ho_b : z (b, .inr (5, opFs o))) (hk_b : opOK o) (ht : t < 1000) : fC l E yX3_lambda_hasEnded_0 cX3_lambda_hasEnded_0 2 (some .boolean) 3 53 (0) (0) [.int (jI ((t : Nat) : Int)), .ref b] z [] (fun rr z2 W2 => rr = some (.int (jI (jB (pEnd t o)))) ∧ W2 = [] ∧ z = z2) := by
  refine f_start (own := "ScheduleAnalyzer$Schedule") (vs := [some (.int (jI ((t : Nat) : Int))), some (.ref b)]) hls (by decide +kernel) rfl rfl rfl (Nat.le_of_ble_eq_true rfl) ?_
  intro K H0 hk he hl0 hI hA
  have lk_b := letK_c hk_b
  have hk0_b := hk_b
  obtain ⟨b1, b2, b3, b4, b5⟩ := hk0_b
  refine j_ald4 hk dX3_lambda_hasEnded_0_0 rfl rfl ?_
  refine j_ild4 hk dX3_lambda_hasEnded_0_1 rfl rfl ?_
  refine f_callV (Wc := []) (Wr := []) hE hk hl0 (.inl ho_b) (show vwCl[5]? = some (RX6, TX6, 3) from rfl) (fc_X6_isEndOf hls hE hN (z := z) hzc (a := b) (t := ((t : Nat) : Int)) (o := o) (ho_b) (hk_b) (by first | assumption | omega)) (fun _ h => Or.inl h) 1 (lw_V q1390 q1391 q1392 q149 q1393) (by decide +kernel) rfl (by decide) (by omega) rfl (Nat.le_of_ble_eq_true rfl) dX3_lambda_hasEnded_0_2 ?_
  refine Or.inl ⟨rfl, ?_⟩
  rintro _ _ _ ⟨rfl, rfl, rfl⟩ -
  refine f_W (W2 := []) rfl ?_
  refine f_iret hk he hA (jn_bool _) dX3_lambda_hasEnded_0_5 (by omega) (by omega) ?_
  exact ⟨congrArg (fun z => some (Value.int (jI z))) (by rw [show (!decide (oK o < 2) && decide (((oT o : Nat) : Int) = ((t : Nat) : Int))) = pEnd t o by unfold pEnd; rw [Bool.eq_iff_iff]; simp; omega]), rfl, rfl⟩
set_option maxHeartbeats 1500000 in
/-- X3 lambda_isAborted_1(ILScheduleAnalyzer$Operation;)Z -/
theorem fc_X3_lambda_isAborted_1 {l : Launch} {E : jE} (hls : l.stackTraces = false) (hE : jSt E) (hN : jCn E) {z : jZ} (hzc : zLe (zS E) z) {t : Nat} {b : Nat} {o : Op} (ho_b : z (b, .inr (5, opFs o))) (hk_b : opOK o) (ht : t < 1000) : fC l E yX3_lambda_isAborted_1 cX3_lambda_isAborted_1 2 (some .boolean) 2 34 (0) (0) [.int (jI ((t : Nat) : Int)), .ref b] z [] (fun rr z2 W2 => rr = some (.int (jI (jB (pIs 3 t o)))) ∧ W2 = [] ∧ z = z2) := by
  refine f_start (own := "ScheduleAnalyzer$Schedule") (vs := [some (.int (jI ((t : Nat) : Int))), some (.ref b)]) hls (by decide +kernel) rfl rfl rfl (Nat.le_of_ble_eq_true rfl) ?_
  intro K H0 hk he hl0 hI hA
  have lk_b := letK_c hk_b
  have hk0_b := hk_b
  obtain ⟨b1, b2, b3, b4, b5⟩ := hk0_b
  refine j_ald4 hk dX3_lambda_isAborted_1_0 rfl rfl ?_
  refine j_bipush (n := 120) hk rfl dX3_lambda_isAborted_1_1 ?_
  refine j_ild4 hk dX3_lambda_isAborted_1_3 rfl rfl ?_
  refine f_callV (Wc := []) (Wr := []) hE hk hl0 (.inl ho_b) (show vwCl[5]? = some (RX6, TX6, 3) from rfl) (fc_X6_isOf hls hE hN (z := z) hzc (a := b) (c := 120) (t := ((t : Nat) : Int)) (o := o) (ho_b) (hk_b) (by first | assumption | omega) (by first | assumption | omega)) (fun _ h => Or.inl h) 2 (lw_V q880 q881 q882 q149 q883) (by decide +kernel) rfl (by decide) (by omega) rfl (Nat.le_of_ble_eq_true rfl) dX3_lambda_isAborted_1_4 ?_
  refine Or.inl ⟨rfl, ?_⟩
  rintro _ _ _ ⟨rfl, rfl, rfl⟩ -
  refine f_W (W2 := []) rfl ?_
  refine f_iret hk he hA (jn_bool _) dX3_lambda_isAborted_1_7 (by omega) (by omega) ?_
  exact ⟨congrArg (fun z => some (Value.int (jI z))) (by rw [show (decide (((letK (oK o) : Nat) : Int) = 120) && decide (((oT o : Nat) : Int) = ((t : Nat) : Int))) = pIs 3 t o by unfold pIs; rw [Bool.eq_iff_iff]; simp; omega]), rfl, rfl⟩
set_option maxHeartbeats 1500000 in
/-- X3 lambda_isAbortedBefore_4(ILScheduleAnalyzer$Operation;)Z -/
theorem fc_X3_lambda_isAbortedBefore_4 {l : Launch} {E : jE} (hls : l.stackTraces = false) (hE : jSt E) (hN : jCn E) {z : jZ} (hzc : zLe (zS E) z) {t : Nat} {b : Nat} {o : Op} (ho_b : z (b, .inr (5, opFs o))) (hk_b : opOK o) (ht : t < 1000) : fC l E yX3_lambda_isAbortedBefore_4 cX3_lambda_isAbortedBefore_4 2 (some .boolean) 2 34 (0) (0) [.int (jI ((t : Nat) : Int)), .ref b] z [] (fun rr z2 W2 => rr = some (.int (jI (jB (pIs 3 t o)))) ∧ W2 = [] ∧ z = z2) := by
  refine f_start (own := "ScheduleAnalyzer$Schedule") (vs := [some (.int (jI ((t : Nat) : Int))), some (.ref b)]) hls (by decide +kernel) rfl rfl rfl (Nat.le_of_ble_eq_true rfl) ?_
  intro K H0 hk he hl0 hI hA
  have lk_b := letK_c hk_b
  have hk0_b := hk_b
  obtain ⟨b1, b2, b3, b4, b5⟩ := hk0_b
  refine j_ald4 hk dX3_lambda_isAbortedBefore_4_0 rfl rfl ?_
  refine j_bipush (n := 120) hk rfl dX3_lambda_isAbortedBefore_4_1 ?_
  refine j_ild4 hk dX3_lambda_isAbortedBefore_4_3 rfl rfl ?_
  refine f_callV (Wc := []) (Wr := []) hE hk hl0 (.inl ho_b) (show vwCl[5]? = some (RX6, TX6, 3) from rfl) (fc_X6_isOf hls hE hN (z := z) hzc (a := b) (c := 120) (t := ((t : Nat) : Int)) (o := o) (ho_b) (hk_b) (by first | assumption | omega) (by first | assumption | omega)) (fun _ h => Or.inl h) 2 (lw_V q880 q881 q882 q149 q883) (by decide +kernel) rfl (by decide) (by omega) rfl (Nat.le_of_ble_eq_true rfl) dX3_lambda_isAbortedBefore_4_4 ?_
  refine Or.inl ⟨rfl, ?_⟩
  rintro _ _ _ ⟨rfl, rfl, rfl⟩ -
  refine f_W (W2 := []) rfl ?_
  refine f_iret hk he hA (jn_bool _) dX3_lambda_isAbortedBefore_4_7 (by omega) (by omega) ?_
  exact ⟨congrArg (fun z => some (Value.int (jI z))) (by rw [show (decide (((letK (oK o) : Nat) : Int) = 120) && decide (((oT o : Nat) : Int) = ((t : Nat) : Int))) = pIs 3 t o by unfold pIs; rw [Bool.eq_iff_iff]; simp; omega]), rfl, rfl⟩
set_option maxHeartbeats 1500000 in
/-- X3 lambda_isCommittedBefore_5(ILScheduleAnalyzer$Operation;)Z -/
theorem fc_X3_lambda_isCommittedBefore_5 {l : Launch} {E : jE} (hls : l.stackTraces = false) (hE : jSt E) (hN : jCn E) {z : jZ} (hzc : zLe (zS E) z) {t : Nat} {b : Nat} {o : Op} (ho_b : z (b, .inr (5, opFs o))) (hk_b : opOK o) (ht : t < 1000) : fC l E yX3_lambda_isCommittedBefore_5 cX3_lambda_isCommittedBefore_5 2 (some .boolean) 2 34 (0) (0) [.int (jI ((t : Nat) : Int)), .ref b] z [] (fun rr z2 W2 => rr = some (.int (jI (jB (pIs 2 t o)))) ∧ W2 = [] ∧ z = z2) := by
  refine f_start (own := "ScheduleAnalyzer$Schedule") (vs := [some (.int (jI ((t : Nat) : Int))), some (.ref b)]) hls (by decide +kernel) rfl rfl rfl (Nat.le_of_ble_eq_true rfl) ?_
  intro K H0 hk he hl0 hI hA
  have lk_b := letK_c hk_b
  have hk0_b := hk_b
  obtain ⟨b1, b2, b3, b4, b5⟩ := hk0_b
  refine j_ald4 hk dX3_lambda_isCommittedBefore_5_0 rfl rfl ?_
  refine j_bipush (n := 99) hk rfl dX3_lambda_isCommittedBefore_5_1 ?_
  refine j_ild4 hk dX3_lambda_isCommittedBefore_5_3 rfl rfl ?_
  refine f_callV (Wc := []) (Wr := []) hE hk hl0 (.inl ho_b) (show vwCl[5]? = some (RX6, TX6, 3) from rfl) (fc_X6_isOf hls hE hN (z := z) hzc (a := b) (c := 99) (t := ((t : Nat) : Int)) (o := o) (ho_b) (hk_b) (by first | assumption | omega) (by first | assumption | omega)) (fun _ h => Or.inl h) 2 (lw_V q880 q881 q882 q149 q883) (by decide +kernel) rfl (by decide) (by omega) rfl (Nat.le_of_ble_eq_true rfl) dX3_lambda_isCommittedBefore_5_4 ?_
  refine Or.inl ⟨rfl, ?_⟩
  rintro _ _ _ ⟨rfl, rfl, rfl⟩ -
  refine f_W (W2 := []) rfl ?_
  refine f_iret hk he hA (jn_bool _) dX3_lambda_isCommittedBefore_5_7 (by omega) (by omega) ?_
  exact ⟨congrArg (fun z => some (Value.int (jI z))) (by rw [show (decide (((letK (oK o) : Nat) : Int) = 99) && decide (((oT o : Nat) : Int) = ((t : Nat) : Int))) = pIs 2 t o by unfold pIs; rw [Bool.eq_iff_iff]; simp; omega]), rfl, rfl⟩
set_option maxHeartbeats 1500000 in
/-- X3 lambda_commitOf_7(ILScheduleAnalyzer$Operation;)Z -/
theorem fc_X3_lambda_commitOf_7 {l : Launch} {E : jE} (hls : l.stackTraces = false) (hE : jSt E) (hN : jCn E) {z : jZ} (hzc : zLe (zS E) z) {t : Nat} {b : Nat} {o : Op} (ho_b : z (b, .inr (5, opFs o))) (hk_b : opOK o) (ht : t < 1000) : fC l E yX3_lambda_commitOf_7 cX3_lambda_commitOf_7 2 (some .boolean) 2 34 (0) (0) [.int (jI ((t : Nat) : Int)), .ref b] z [] (fun rr z2 W2 => rr = some (.int (jI (jB (pIs 2 t o)))) ∧ W2 = [] ∧ z = z2) := by
  refine f_start (own := "ScheduleAnalyzer$Schedule") (vs := [some (.int (jI ((t : Nat) : Int))), some (.ref b)]) hls (by decide +kernel) rfl rfl rfl (Nat.le_of_ble_eq_true rfl) ?_
  intro K H0 hk he hl0 hI hA
  have lk_b := letK_c hk_b
  have hk0_b := hk_b
  obtain ⟨b1, b2, b3, b4, b5⟩ := hk0_b
  refine j_ald4 hk dX3_lambda_commitOf_7_0 rfl rfl ?_
  refine j_bipush (n := 99) hk rfl dX3_lambda_commitOf_7_1 ?_
  refine j_ild4 hk dX3_lambda_commitOf_7_3 rfl rfl ?_
  refine f_callV (Wc := []) (Wr := []) hE hk hl0 (.inl ho_b) (show vwCl[5]? = some (RX6, TX6, 3) from rfl) (fc_X6_isOf hls hE hN (z := z) hzc (a := b) (c := 99) (t := ((t : Nat) : Int)) (o := o) (ho_b) (hk_b) (by first | assumption | omega) (by first | assumption | omega)) (fun _ h => Or.inl h) 2 (lw_V q880 q881 q882 q149 q883) (by decide +kernel) rfl (by decide) (by omega) rfl (Nat.le_of_ble_eq_true rfl) dX3_lambda_commitOf_7_4 ?_
  refine Or.inl ⟨rfl, ?_⟩
  rintro _ _ _ ⟨rfl, rfl, rfl⟩ -
  refine f_W (W2 := []) rfl ?_
  refine f_iret hk he hA (jn_bool _) dX3_lambda_commitOf_7_7 (by omega) (by omega) ?_
  exact ⟨congrArg (fun z => some (Value.int (jI z))) (by rw [show (decide (((letK (oK o) : Nat) : Int) = 99) && decide (((oT o : Nat) : Int) = ((t : Nat) : Int))) = pIs 2 t o by unfold pIs; rw [Bool.eq_iff_iff]; simp; omega]), rfl, rfl⟩
set_option maxHeartbeats 1500000 in
/-- X3 lambda_isEndedBefore_8(ILScheduleAnalyzer$Operation;)Z -/
theorem fc_X3_lambda_isEndedBefore_8 {l : Launch} {E : jE} (hls : l.stackTraces = false) (hE : jSt E) (hN : jCn E) {z : jZ} (hzc : zLe (zS E) z) {t : Nat} {b : Nat} {o : Op} (ho_b : z (b, .inr (5, opFs o))) (hk_b : opOK o) (ht : t < 1000) : fC l E yX3_lambda_isEndedBefore_8 cX3_lambda_isEndedBefore_8 2 (some .boolean) 3 53 (0) (0) [.int (jI ((t : Nat) : Int)), .ref b] z [] (fun rr z2 W2 => rr = some (.int (jI (jB (pEnd t o)))) ∧ W2 = [] ∧ z = z2) := by
  refine f_start (own := "ScheduleAnalyzer$Schedule") (vs := [some (.int (jI ((t : Nat) : Int))), some (.ref b)]) hls (by decide +kernel) rfl rfl rfl (Nat.le_of_ble_eq_true rfl) ?_
  intro K H0 hk he hl0 hI hA
  have lk_b := letK_c hk_b
  have hk0_b := hk_b
  obtain ⟨b1, b2, b3, b4, b5⟩ := hk0_b
  refine j_ald4 hk dX3_lambda_isEndedBefore_8_0 rfl rfl ?_
  refine j_ild4 hk dX3_lambda_isEndedBefore_8_1 rfl rfl ?_
  refine f_callV (Wc := []) (Wr := []) hE hk hl0 (.inl ho_b) (show vwCl[5]? = some (RX6, TX6, 3) from rfl) (fc_X6_isEndOf hls hE hN (z := z) hzc (a := b) (t := ((t : Nat) : Int)) (o := o) (ho_b) (hk_b) (by first | assumption | omega)) (fun _ h => Or.inl h) 1 (lw_V q1390 q1391 q1392 q149 q1393) (by decide +kernel) rfl (by decide) (by omega) rfl (Nat.le_of_ble_eq_true rfl) dX3_lambda_isEndedBefore_8_2 ?_
  refine Or.inl ⟨rfl, ?_⟩
  rintro _ _ _ ⟨rfl, rfl, rfl⟩ -
  refine f_W (W2 := []) rfl ?_
  refine f_iret hk he hA (jn_bool _) dX3_lambda_isEndedBefore_8_5 (by omega) (by omega) ?_
  exact ⟨congrArg (fun z => some (Value.int (jI z))) (by rw [show (!decide (oK o < 2) && decide (((oT o : Nat) : Int) = ((t : Nat) : Int))) = pEnd t o by unfold pEnd; rw [Bool.eq_iff_iff]; simp; omega]), rfl, rfl⟩
set_option maxHeartbeats 1500000 in
/-- X3 lambda_placeIn_9(ILScheduleAnalyzer$Operation;)Z -/
theorem fc_X3_lambda_placeIn_9 {l : Launch} {E : jE} (hls : l.stackTraces = false) (hE : jSt E) (hN : jCn E) {z : jZ} (hzc : zLe (zS E) z) {t : Nat} {b : Nat} {o : Op} (ho_b : z (b, .inr (5, opFs o))) (hk_b : opOK o) (ht : t < 1000) : fC l E yX3_lambda_placeIn_9 cX3_lambda_placeIn_9 2 (some .boolean) 1 12 (0) (0) [.int (jI ((t : Nat) : Int)), .ref b] z [] (fun rr z2 W2 => rr = some (.int (jI (jB (pTr t o)))) ∧ W2 = [] ∧ z = z2) := by
  refine f_start (own := "ScheduleAnalyzer$Schedule") (vs := [some (.int (jI ((t : Nat) : Int))), some (.ref b)]) hls (by decide +kernel) rfl rfl rfl (Nat.le_of_ble_eq_true rfl) ?_
  intro K H0 hk he hl0 hI hA
  have lk_b := letK_c hk_b
  have hk0_b := hk_b
  obtain ⟨b1, b2, b3, b4, b5⟩ := hk0_b
  refine j_ald4 hk dX3_lambda_placeIn_9_0 rfl rfl ?_
  refine f_getN hE hk in_X6 (.inl ho_b) (show vwCl[5]? = some (RX6, TX6, 3) from rfl) 1 (by decide) q1667 rfl rfl dX3_lambda_placeIn_9_1 ?_
  refine j_ild4 hk dX3_lambda_placeIn_9_4 rfl rfl ?_
  refine j_icmp_ne hk (by omega) (by omega) dX3_lambda_placeIn_9_5 rfl (tgt := 12) (fun h5 => ?_) (fun h5 => ?_)
  · refine j_iconst (n := 0) hk dX3_lambda_placeIn_9_12 ?_
    refine f_iret hk he hA rfl dX3_lambda_placeIn_9_13 (by omega) (by omega) ?_
    exact ⟨congrArg (fun z => some (Value.int (jI z))) (by rw [show (pTr t o) = false by unfold pTr; simp at *; omega]; rfl), rfl, rfl⟩
  · refine j_iconst (n := 1) hk dX3_lambda_placeIn_9_8 ?_
    refine j_goto (tgt := 13) hk dX3_lambda_placeIn_9_9 rfl ?_
    refine f_iret hk he hA rfl dX3_lambda_placeIn_9_13 (by omega) (by omega) ?_
    exact ⟨congrArg (fun z => some (Value.int (jI z))) (by rw [show (pTr t o) = true by unfold pTr; simp at *; omega]; rfl), rfl, rfl⟩
set_option maxHeartbeats 1500000 in
/-- X1 lambda_isAllowed_0(ILScheduleAnalyzer$Operation;)Z -/
theorem fc_X1_lambda_isAllowed_0 {l : Launch} {E : jE} (hls : l.stackTraces = false) (hE : jSt E) (hN : jCn E) {z : jZ} (hzc : zLe (zS E) z) {t : Nat} {b : Nat} {o : Op} (ho_b : z (b, .inr (5, opFs o))) (hk_b : opOK o) (ht : t < 1000) : fC l E yX1_lambda_isAllowed_0 cX1_lambda_isAllowed_0 2 (some .boolean) 3 53 (0) (0) [.int (jI ((t : Nat) : Int)), .ref b] z [] (fun rr z2 W2 => rr = some (.int (jI (jB (pEnd t o)))) ∧ W2 = [] ∧ z = z2) := by
  refine f_start (own := "ScheduleAnalyzer") (vs := [some (.int (jI ((t : Nat) : Int))), some (.ref b)]) hls (by decide +kernel) rfl rfl rfl (Nat.le_of_ble_eq_true rfl) ?_
  intro K H0 hk he hl0 hI hA
  have lk_b := letK_c hk_b
  have hk0_b := hk_b
  obtain ⟨b1, b2, b3, b4, b5⟩ := hk0_b
  refine j_ald4 hk dX1_lambda_isAllowed_0_0 rfl rfl ?_
  refine j_ild4 hk dX1_lambda_isAllowed_0_1 rfl rfl ?_
  refine f_callV (Wc := []) (Wr := []) hE hk hl0 (.inl ho_b) (show vwCl[5]? = some (RX6, TX6, 3) from rfl) (fc_X6_isEndOf hls hE hN (z := z) hzc (a := b) (t := ((t : Nat) : Int)) (o := o) (ho_b) (hk_b) (by first | assumption | omega)) (fun _ h => Or.inl h) 1 (lw_V q1696 q1391 q1392 q149 q1393) (by decide +kernel) rfl (by decide) (by omega) rfl (Nat.le_of_ble_eq_true rfl) dX1_lambda_isAllowed_0_2 ?_
  refine Or.inl ⟨rfl, ?_⟩
  rintro _ _ _ ⟨rfl, rfl, rfl⟩ -
  refine f_W (W2 := []) rfl ?_
  refine f_iret hk he hA (jn_bool _) dX1_lambda_isAllowed_0_5 (by omega) (by omega) ?_
  exact ⟨congrArg (fun z => some (Value.int (jI z))) (by rw [show (!decide (oK o < 2) && decide (((oT o : Nat) : Int) = ((t : Nat) : Int))) = pEnd t o by unfold pEnd; rw [Bool.eq_iff_iff]; simp; omega]), rfl, rfl⟩
set_option maxHeartbeats 1500000 in
/-- X1 lambda_stateOf_1(ILScheduleAnalyzer$Operation;)Z -/
theorem fc_X1_lambda_stateOf_1 {l : Launch} {E : jE} (hls : l.stackTraces = false) (hE : jSt E) (hN : jCn E) {z : jZ} (hzc : zLe (zS E) z) {t : Nat} {b : Nat} {o : Op} (ho_b : z (b, .inr (5, opFs o))) (hk_b : opOK o) (ht : t < 1000) : fC l E yX1_lambda_stateOf_1 cX1_lambda_stateOf_1 2 (some .boolean) 1 12 (0) (0) [.int (jI ((t : Nat) : Int)), .ref b] z [] (fun rr z2 W2 => rr = some (.int (jI (jB (pTr t o)))) ∧ W2 = [] ∧ z = z2) := by
  refine f_start (own := "ScheduleAnalyzer") (vs := [some (.int (jI ((t : Nat) : Int))), some (.ref b)]) hls (by decide +kernel) rfl rfl rfl (Nat.le_of_ble_eq_true rfl) ?_
  intro K H0 hk he hl0 hI hA
  have lk_b := letK_c hk_b
  have hk0_b := hk_b
  obtain ⟨b1, b2, b3, b4, b5⟩ := hk0_b
  refine j_ald4 hk dX1_lambda_stateOf_1_0 rfl rfl ?_
  refine f_getN hE hk in_X6 (.inl ho_b) (show vwCl[5]? = some (RX6, TX6, 3) from rfl) 1 (by decide) q1668 rfl rfl dX1_lambda_stateOf_1_1 ?_
  refine j_ild4 hk dX1_lambda_stateOf_1_4 rfl rfl ?_
  refine j_icmp_ne hk (by omega) (by omega) dX1_lambda_stateOf_1_5 rfl (tgt := 12) (fun h5 => ?_) (fun h5 => ?_)
  · refine j_iconst (n := 0) hk dX1_lambda_stateOf_1_12 ?_
    refine f_iret hk he hA rfl dX1_lambda_stateOf_1_13 (by omega) (by omega) ?_
    exact ⟨congrArg (fun z => some (Value.int (jI z))) (by rw [show (pTr t o) = false by unfold pTr; simp at *; omega]; rfl), rfl, rfl⟩
  · refine j_iconst (n := 1) hk dX1_lambda_stateOf_1_8 ?_
    refine j_goto (tgt := 13) hk dX1_lambda_stateOf_1_9 rfl ?_
    refine f_iret hk he hA rfl dX1_lambda_stateOf_1_13 (by omega) (by omega) ?_
    exact ⟨congrArg (fun z => some (Value.int (jI z))) (by rw [show (pTr t o) = true by unfold pTr; simp at *; omega]; rfl), rfl, rfl⟩
set_option maxHeartbeats 1500000 in
/-- X1 lambda_registerOf_2(ILScheduleAnalyzer$Operation;)Z -/
theorem fc_X1_lambda_registerOf_2 {l : Launch} {E : jE} (hls : l.stackTraces = false) (hE : jSt E) (hN : jCn E) {z : jZ} (hzc : zLe (zS E) z) {t : Nat} {b : Nat} {o : Op} (ho_b : z (b, .inr (5, opFs o))) (hk_b : opOK o) (ht : t < 1000) : fC l E yX1_lambda_registerOf_2 cX1_lambda_registerOf_2 2 (some .boolean) 1 12 (0) (0) [.int (jI ((t : Nat) : Int)), .ref b] z [] (fun rr z2 W2 => rr = some (.int (jI (jB (pTr t o)))) ∧ W2 = [] ∧ z = z2) := by
  refine f_start (own := "ScheduleAnalyzer") (vs := [some (.int (jI ((t : Nat) : Int))), some (.ref b)]) hls (by decide +kernel) rfl rfl rfl (Nat.le_of_ble_eq_true rfl) ?_
  intro K H0 hk he hl0 hI hA
  have lk_b := letK_c hk_b
  have hk0_b := hk_b
  obtain ⟨b1, b2, b3, b4, b5⟩ := hk0_b
  refine j_ald4 hk dX1_lambda_registerOf_2_0 rfl rfl ?_
  refine f_getN hE hk in_X6 (.inl ho_b) (show vwCl[5]? = some (RX6, TX6, 3) from rfl) 1 (by decide) q1668 rfl rfl dX1_lambda_registerOf_2_1 ?_
  refine j_ild4 hk dX1_lambda_registerOf_2_4 rfl rfl ?_
  refine j_icmp_ne hk (by omega) (by omega) dX1_lambda_registerOf_2_5 rfl (tgt := 12) (fun h5 => ?_) (fun h5 => ?_)
  · refine j_iconst (n := 0) hk dX1_lambda_registerOf_2_12 ?_
    refine f_iret hk he hA rfl dX1_lambda_registerOf_2_13 (by omega) (by omega) ?_
    exact ⟨congrArg (fun z => some (Value.int (jI z))) (by rw [show (pTr t o) = false by unfold pTr; simp at *; omega]; rfl), rfl, rfl⟩
  · refine j_iconst (n := 1) hk dX1_lambda_registerOf_2_8 ?_
    refine j_goto (tgt := 13) hk dX1_lambda_registerOf_2_9 rfl ?_
    refine f_iret hk he hA rfl dX1_lambda_registerOf_2_13 (by omega) (by omega) ?_
    exact ⟨congrArg (fun z => some (Value.int (jI z))) (by rw [show (pTr t o) = true by unfold pTr; simp at *; omega]; rfl), rfl, rfl⟩
set_option maxHeartbeats 1500000 in
/-- X1 lambda_readShare_3(LScheduleAnalyzer$Operation;)Z -/
theorem fc_X1_lambda_readShare_3 {l : Launch} {E : jE} (hls : l.stackTraces = false) (hE : jSt E) (hN : jCn E) {z : jZ} (hzc : zLe (zS E) z) {b : Nat} {o : Op} (ho_b : z (b, .inr (5, opFs o))) (hk_b : opOK o) : fC l E yX1_lambda_readShare_3 cX1_lambda_readShare_3 1 (some .boolean) 2 32 (0) (0) [.ref b] z [] (fun rr z2 W2 => rr = some (.int (jI (jB (pAcc o)))) ∧ W2 = [] ∧ z = z2) := by
  refine f_start (own := "ScheduleAnalyzer") (vs := [some (.ref b)]) hls (by decide +kernel) rfl rfl rfl (Nat.le_of_ble_eq_true rfl) ?_
  intro K H0 hk he hl0 hI hA
  have lk_b := letK_c hk_b
  have hk0_b := hk_b
  obtain ⟨b1, b2, b3, b4, b5⟩ := hk0_b
  refine j_ald4 hk dX1_lambda_readShare_3_0 rfl rfl ?_
  refine f_callV (Wc := []) (Wr := []) hE hk hl0 (.inl ho_b) (show vwCl[5]? = some (RX6, TX6, 3) from rfl) (fc_X6_isAccess hls hE hN (z := z) hzc (a := b) (o := o) (ho_b) (hk_b)) (fun _ h => Or.inl h) 0 (lw_V q2134 q1207 q1208 q149 q1209) (by decide +kernel) rfl (by decide) (by omega) rfl (Nat.le_of_ble_eq_true rfl) dX1_lambda_readShare_3_1 ?_
  refine Or.inl ⟨rfl, ?_⟩
  rintro _ _ _ ⟨rfl, rfl, rfl⟩ -
  refine f_W (W2 := []) rfl ?_
  refine f_iret hk he hA (jn_bool _) dX1_lambda_readShare_3_4 (by omega) (by omega) ?_
  exact ⟨congrArg (fun z => some (Value.int (jI z))) (rfl), rfl, rfl⟩
set_option maxHeartbeats 1500000 in
/-- X1 lambda_readShare_4(LScheduleAnalyzer$Operation;)Z -/
theorem fc_X1_lambda_readShare_4 {l : Launch} {E : jE} (hls : l.stackTraces = false) (hE : jSt E) (hN : jCn E) {z : jZ} (hzc : zLe (zS E) z) {b : Nat} {o : Op} (ho_b : z (b, .inr (5, opFs o))) (hk_b : opOK o) : fC l E yX1_lambda_readShare_4 cX1_lambda_readShare_4 1 (some .boolean) 1 12 (0) (0) [.ref b] z [] (fun rr z2 W2 => rr = some (.int (jI (jB (pRd o)))) ∧ W2 = [] ∧ z = z2) := by
  refine f_start (own := "ScheduleAnalyzer") (vs := [some (.ref b)]) hls (by decide +kernel) rfl rfl rfl (Nat.le_of_ble_eq_true rfl) ?_
  intro K H0 hk he hl0 hI hA
  have lk_b := letK_c hk_b
  have hk0_b := hk_b
  obtain ⟨b1, b2, b3, b4, b5⟩ := hk0_b
  refine j_ald4 hk dX1_lambda_readShare_4_0 rfl rfl ?_
  refine f_getN hE hk in_X6 (.inl ho_b) (show vwCl[5]? = some (RX6, TX6, 3) from rfl) 0 (by decide) q1662 rfl rfl dX1_lambda_readShare_4_1 ?_
  refine j_bipush (n := 114) hk rfl dX1_lambda_readShare_4_4 ?_
  refine j_icmp_ne hk (by omega) (by omega) dX1_lambda_readShare_4_6 rfl (tgt := 13) (fun h6 => ?_) (fun h6 => ?_)
  · refine j_iconst (n := 0) hk dX1_lambda_readShare_4_13 ?_
    refine f_iret hk he hA rfl dX1_lambda_readShare_4_14 (by omega) (by omega) ?_
    exact ⟨congrArg (fun z => some (Value.int (jI z))) (by rw [show (pRd o) = false by unfold pRd; simp at *; omega]; rfl), rfl, rfl⟩
  · refine j_iconst (n := 1) hk dX1_lambda_readShare_4_9 ?_
    refine j_goto (tgt := 14) hk dX1_lambda_readShare_4_10 rfl ?_
    refine f_iret hk he hA rfl dX1_lambda_readShare_4_14 (by omega) (by omega) ?_
    exact ⟨congrArg (fun z => some (Value.int (jI z))) (by rw [show (pRd o) = true by unfold pRd; simp at *; omega]; rfl), rfl, rfl⟩
set_option maxHeartbeats 1500000 in
/-- X8 lambda_isWaiting_0(ILScheduleAnalyzer$Operation;)Z -/
theorem fc_X8_lambda_isWaiting_0 {l : Launch} {E : jE} (hls : l.stackTraces = false) (hE : jSt E) (hN : jCn E) {z : jZ} (hzc : zLe (zS E) z) {t : Nat} {b : Nat} {o : Op} (ho_b : z (b, .inr (5, opFs o))) (hk_b : opOK o) (ht : t < 1000) : fC l E yX8_lambda_isWaiting_0 cX8_lambda_isWaiting_0 2 (some .boolean) 1 12 (0) (0) [.int (jI ((t : Nat) : Int)), .ref b] z [] (fun rr z2 W2 => rr = some (.int (jI (jB (pTr t o)))) ∧ W2 = [] ∧ z = z2) := by
  refine f_start (own := "ScheduleAnalyzer$Locking") (vs := [some (.int (jI ((t : Nat) : Int))), some (.ref b)]) hls (by decide +kernel) rfl rfl rfl (Nat.le_of_ble_eq_true rfl) ?_
  intro K H0 hk he hl0 hI hA
  have lk_b := letK_c hk_b
  have hk0_b := hk_b
  obtain ⟨b1, b2, b3, b4, b5⟩ := hk0_b
  refine j_ald4 hk dX8_lambda_isWaiting_0_0 rfl rfl ?_
  refine f_getN hE hk in_X6 (.inl ho_b) (show vwCl[5]? = some (RX6, TX6, 3) from rfl) 1 (by decide) q1664 rfl rfl dX8_lambda_isWaiting_0_1 ?_
  refine j_ild4 hk dX8_lambda_isWaiting_0_4 rfl rfl ?_
  refine j_icmp_ne hk (by omega) (by omega) dX8_lambda_isWaiting_0_5 rfl (tgt := 12) (fun h5 => ?_) (fun h5 => ?_)
  · refine j_iconst (n := 0) hk dX8_lambda_isWaiting_0_12 ?_
    refine f_iret hk he hA rfl dX8_lambda_isWaiting_0_13 (by omega) (by omega) ?_
    exact ⟨congrArg (fun z => some (Value.int (jI z))) (by rw [show (pTr t o) = false by unfold pTr; simp at *; omega]; rfl), rfl, rfl⟩
  · refine j_iconst (n := 1) hk dX8_lambda_isWaiting_0_8 ?_
    refine j_goto (tgt := 13) hk dX8_lambda_isWaiting_0_9 rfl ?_
    refine f_iret hk he hA rfl dX8_lambda_isWaiting_0_13 (by omega) (by omega) ?_
    exact ⟨congrArg (fun z => some (Value.int (jI z))) (by rw [show (pTr t o) = true by unfold pTr; simp at *; omega]; rfl), rfl, rfl⟩
set_option maxHeartbeats 1500000 in
/-- X8 lambda_isPreventedBy_1(ILScheduleAnalyzer$Operation;)Z -/
theorem fc_X8_lambda_isPreventedBy_1 {l : Launch} {E : jE} (hls : l.stackTraces = false) (hE : jSt E) (hN : jCn E) {z : jZ} (hzc : zLe (zS E) z) {t : Nat} {b : Nat} {o : Op} (ho_b : z (b, .inr (5, opFs o))) (hk_b : opOK o) (ht : t < 1000) : fC l E yX8_lambda_isPreventedBy_1 cX8_lambda_isPreventedBy_1 2 (some .boolean) 3 53 (0) (0) [.int (jI ((t : Nat) : Int)), .ref b] z [] (fun rr z2 W2 => rr = some (.int (jI (jB (pEnd t o)))) ∧ W2 = [] ∧ z = z2) := by
  refine f_start (own := "ScheduleAnalyzer$Locking") (vs := [some (.int (jI ((t : Nat) : Int))), some (.ref b)]) hls (by decide +kernel) rfl rfl rfl (Nat.le_of_ble_eq_true rfl) ?_
  intro K H0 hk he hl0 hI hA
  have lk_b := letK_c hk_b
  have hk0_b := hk_b
  obtain ⟨b1, b2, b3, b4, b5⟩ := hk0_b
  refine j_ald4 hk dX8_lambda_isPreventedBy_1_0 rfl rfl ?_
  refine j_ild4 hk dX8_lambda_isPreventedBy_1_1 rfl rfl ?_
  refine f_callV (Wc := []) (Wr := []) hE hk hl0 (.inl ho_b) (show vwCl[5]? = some (RX6, TX6, 3) from rfl) (fc_X6_isEndOf hls hE hN (z := z) hzc (a := b) (t := ((t : Nat) : Int)) (o := o) (ho_b) (hk_b) (by first | assumption | omega)) (fun _ h => Or.inl h) 1 (lw_V q1989 q1391 q1392 q149 q1393) (by decide +kernel) rfl (by decide) (by omega) rfl (Nat.le_of_ble_eq_true rfl) dX8_lambda_isPreventedBy_1_2 ?_
  refine Or.inl ⟨rfl, ?_⟩
  rintro _ _ _ ⟨rfl, rfl, rfl⟩ -
  refine f_W (W2 := []) rfl ?_
  refine f_iret hk he hA (jn_bool _) dX8_lambda_isPreventedBy_1_5 (by omega) (by omega) ?_
  exact ⟨congrArg (fun z => some (Value.int (jI z))) (by rw [show (!decide (oK o < 2) && decide (((oT o : Nat) : Int) = ((t : Nat) : Int))) = pEnd t o by unfold pEnd; rw [Bool.eq_iff_iff]; simp; omega]), rfl, rfl⟩
set_option maxHeartbeats 1500000 in
/-- X3 lambda_countConflicts_2(LScheduleAnalyzer$Operation;LScheduleAnalyzer$Operation;)Z -/
theorem fc_X3_lambda_countConflicts_2 {l : Launch} {E : jE} (hls : l.stackTraces = false) (hE : jSt E) (hN : jCn E) {z : jZ} (hzc : zLe (zS E) z) {b : Nat} {a : Nat} {o : Op} {o2 : Op} (ho_b : z (b, .inr (5, opFs o))) (hk_b : opOK o) (ho_a : z (a, .inr (5, opFs o2))) (hk_a : opOK o2) : fC l E yX3_lambda_countConflicts_2 cX3_lambda_countConflicts_2 2 (some .boolean) 3 54 (0) (0) [.ref b, .ref a] z [] (fun rr z2 W2 => rr = some (.int (jI (jB (opConf o2 o)))) ∧ W2 = [] ∧ z = z2) := by
  refine f_start (own := "ScheduleAnalyzer$Schedule") (vs := [some (.ref b), some (.ref a)]) hls (by decide +kernel) rfl rfl rfl (Nat.le_of_ble_eq_true rfl) ?_
  intro K H0 hk he hl0 hI hA
  have lk_b := letK_c hk_b
  have hk0_b := hk_b
  obtain ⟨b1, b2, b3, b4, b5⟩ := hk0_b
  have lk_a := letK_c hk_a
  have hk0_a := hk_a
  obtain ⟨a1, a2, a3, a4, a5⟩ := hk0_a
  refine j_ald4 hk dX3_lambda_countConflicts_2_0 rfl rfl ?_
  refine j_ald4 hk dX3_lambda_countConflicts_2_1 rfl rfl ?_
  refine f_callV (Wc := []) (Wr := []) hE hk hl0 (.inl ho_a) (show vwCl[5]? = some (RX6, TX6, 3) from rfl) (fc_X6_conflictsWith hls hE hN (z := z) hzc (a := a) (b := b) (o := o2) (o2 := o) (ho_a) (hk_a) (ho_b) (hk_b)) (fun _ h => Or.inl h) 1 (lw_V q1202 q1203 q1204 q149 q1205) (by decide +kernel) rfl (by decide) (by omega) rfl (Nat.le_of_ble_eq_true rfl) dX3_lambda_countConflicts_2_2 ?_
  refine Or.inl ⟨rfl, ?_⟩
  rintro _ _ _ ⟨rfl, rfl, rfl⟩ -
  refine f_W (W2 := []) rfl ?_
  refine f_iret hk he hA (jn_bool _) dX3_lambda_countConflicts_2_5 (by omega) (by omega) ?_
  exact ⟨congrArg (fun z => some (Value.int (jI z))) (rfl), rfl, rfl⟩
set_option maxHeartbeats 1500000 in
/-- X8 lambda_isPreventedBy_2(ILScheduleAnalyzer$Operation;LScheduleAnalyzer$Operation;)Z -/
theorem fc_X8_lambda_isPreventedBy_2 {l : Launch} {E : jE} (hls : l.stackTraces = false) (hE : jSt E) (hN : jCn E) {z : jZ} (hzc : zLe (zS E) z) {t : Nat} {b : Nat} {a : Nat} {o : Op} {o2 : Op} (ho_b : z (b, .inr (5, opFs o))) (hk_b : opOK o) (ho_a : z (a, .inr (5, opFs o2))) (hk_a : opOK o2) (ht : t < 1000) : fC l E yX8_lambda_isPreventedBy_2 cX8_lambda_isPreventedBy_2 3 (some .boolean) 3 54 (0) (0) [.int (jI ((t : Nat) : Int)), .ref b, .ref a] z [] (fun rr z2 W2 => rr = some (.int (jI (jB (pBy t o o2)))) ∧ W2 = [] ∧ z = z2) := by
  refine f_start (own := "ScheduleAnalyzer$Locking") (vs := [some (.int (jI ((t : Nat) : Int))), some (.ref b), some (.ref a)]) hls (by decide +kernel) rfl rfl rfl (Nat.le_of_ble_eq_true rfl) ?_
  intro K H0 hk he hl0 hI hA
  have lk_b := letK_c hk_b
  have hk0_b := hk_b
  obtain ⟨b1, b2, b3, b4, b5⟩ := hk0_b
  have lk_a := letK_c hk_a
  have hk0_a := hk_a
  obtain ⟨a1, a2, a3, a4, a5⟩ := hk0_a
  refine j_ald4 hk dX8_lambda_isPreventedBy_2_0 rfl rfl ?_
  refine f_getN hE hk in_X6 (.inl ho_a) (show vwCl[5]? = some (RX6, TX6, 3) from rfl) 1 (by decide) q1664 rfl rfl dX8_lambda_isPreventedBy_2_1 ?_
  refine j_ild4 hk dX8_lambda_isPreventedBy_2_4 rfl rfl ?_
  refine j_icmp_ne hk (by omega) (by omega) dX8_lambda_isPreventedBy_2_5 rfl (tgt := 20) (fun h5 => ?_) (fun h5 => ?_)
  · refine j_iconst (n := 0) hk dX8_lambda_isPreventedBy_2_20 ?_
    refine f_iret hk he hA rfl dX8_lambda_isPreventedBy_2_21 (by omega) (by omega) ?_
    exact ⟨congrArg (fun z => some (Value.int (jI z))) (by rw [show (pBy t o o2) = false by unfold pBy; first | (have e : ¬ oT o2 = t := (by omega); simp [e]) | simp [h13]]; rfl), rfl, rfl⟩
  · refine j_ald4 hk dX8_lambda_isPreventedBy_2_8 rfl rfl ?_
    refine j_ald4 hk dX8_lambda_isPreventedBy_2_9 rfl rfl ?_
    refine f_callV (Wc := []) (Wr := []) hE hk hl0 (.inl ho_a) (show vwCl[5]? = some (RX6, TX6, 3) from rfl) (fc_X6_conflictsWith hls hE hN (z := z) hzc (a := a) (b := b) (o := o2) (o2 := o) (ho_a) (hk_a) (ho_b) (hk_b)) (fun _ h => Or.inl h) 1 (lw_V q1992 q1203 q1204 q149 q1205) (by decide +kernel) rfl (by decide) (by omega) rfl (Nat.le_of_ble_eq_true rfl) dX8_lambda_isPreventedBy_2_10 ?_
    refine Or.inl ⟨rfl, ?_⟩
    rintro _ _ _ ⟨rfl, rfl, rfl⟩ -
    refine f_W (W2 := []) rfl ?_
    refine j_ifeqB hk dX8_lambda_isPreventedBy_2_13 rfl (tgt := 20) (fun h13 => ?_) (fun h13 => ?_)
    · refine j_iconst (n := 0) hk dX8_lambda_isPreventedBy_2_20 ?_
      refine f_iret hk he hA rfl dX8_lambda_isPreventedBy_2_21 (by omega) (by omega) ?_
      exact ⟨congrArg (fun z => some (Value.int (jI z))) (by rw [show (pBy t o o2) = false by unfold pBy; first | (have e : ¬ oT o2 = t := (by omega); simp [e]) | simp [h13]]; rfl), rfl, rfl⟩
    · refine j_iconst (n := 1) hk dX8_lambda_isPreventedBy_2_16 ?_
      refine j_goto (tgt := 21) hk dX8_lambda_isPreventedBy_2_17 rfl ?_
      refine f_iret hk he hA rfl dX8_lambda_isPreventedBy_2_21 (by omega) (by omega) ?_
      exact ⟨congrArg (fun z => some (Value.int (jI z))) (by rw [show (pBy t o o2) = true by unfold pBy; have e : oT o2 = t := (by omega); simp [e, h13]]; rfl), rfl, rfl⟩
set_option maxHeartbeats 1500000 in
/-- X3 lambda_countOf_3(CICLScheduleAnalyzer$Operation;)Z -/
theorem fc_X3_lambda_countOf_3 {l : Launch} {E : jE} (hls : l.stackTraces = false) (hE : jSt E) (hN : jCn E) {z : jZ} (hzc : zLe (zS E) z) {t : Nat} {b : Nat} {o : Op} {ks : Nat} {ii : Nat} (ho_b : z (b, .inr (5, opFs o))) (hk_b : opOK o) (ht : t < 1000) (hks : ks < 4) (hii : ii < 4) : fC l E yX3_lambda_countOf_3 cX3_lambda_countOf_3 4 (some .boolean) 2 34 (0) (0) [.int (jI ((letK ks : Nat) : Int)), .int (jI ((t : Nat) : Int)), .int (jI ((97 + ii : Nat) : Int)), .ref b] z [] (fun rr z2 W2 => rr = some (.int (jI (jB (pOf ks t ii o)))) ∧ W2 = [] ∧ z = z2) := by
  refine f_start (own := "ScheduleAnalyzer$Schedule") (vs := [some (.int (jI ((letK ks : Nat) : Int))), some (.int (jI ((t : Nat) : Int))), some (.int (jI ((97 + ii : Nat) : Int))), some (.ref b)]) hls (by decide +kernel) rfl rfl rfl (Nat.le_of_ble_eq_true rfl) ?_
  intro K H0 hk he hl0 hI hA
  have lk_b := letK_c hk_b
  have hk0_b := hk_b
  obtain ⟨b1, b2, b3, b4, b5⟩ := hk0_b
  have lks := letK_l hks
  refine j_ald4 hk dX3_lambda_countOf_3_0 rfl rfl ?_
  refine j_ild4 hk dX3_lambda_countOf_3_1 rfl rfl ?_
  refine j_ild4 hk dX3_lambda_countOf_3_2 rfl rfl ?_
  refine f_callV (Wc := []) (Wr := []) hE hk hl0 (.inl ho_b) (show vwCl[5]? = some (RX6, TX6, 3) from rfl) (fc_X6_isOf hls hE hN (z := z) hzc (a := b) (c := ((letK ks : Nat) : Int)) (t := ((t : Nat) : Int)) (o := o) (ho_b) (hk_b) (by first | assumption | omega) (by first | assumption | omega)) (fun _ h => Or.inl h) 2 (lw_V q880 q881 q882 q149 q883) (by decide +kernel) rfl (by decide) (by omega) rfl (Nat.le_of_ble_eq_true rfl) dX3_lambda_countOf_3_3 ?_
  refine Or.inl ⟨rfl, ?_⟩
  rintro _ _ _ ⟨rfl, rfl, rfl⟩ -
  refine f_W (W2 := []) rfl ?_
  refine j_ifeqB hk dX3_lambda_countOf_3_6 rfl (tgt := 21) (fun h6 => ?_) (fun h6 => ?_)
  · refine j_iconst (n := 0) hk dX3_lambda_countOf_3_21 ?_
    refine f_iret hk he hA rfl dX3_lambda_countOf_3_22 (by omega) (by omega) ?_
    exact ⟨congrArg (fun z => some (Value.int (jI z))) (by rw [show (pOf ks t ii o) = false by unfold pOf; simp at *; omega]; rfl), rfl, rfl⟩
  · refine j_ald4 hk dX3_lambda_countOf_3_9 rfl rfl ?_
    refine f_getN hE hk in_X6 (.inl ho_b) (show vwCl[5]? = some (RX6, TX6, 3) from rfl) 2 (by decide) q1672 rfl rfl dX3_lambda_countOf_3_10 ?_
    refine j_ild4 hk dX3_lambda_countOf_3_13 rfl rfl ?_
    refine j_icmp_ne hk (by omega) (by omega) dX3_lambda_countOf_3_14 rfl (tgt := 21) (fun h14 => ?_) (fun h14 => ?_)
    · refine j_iconst (n := 0) hk dX3_lambda_countOf_3_21 ?_
      refine f_iret hk he hA rfl dX3_lambda_countOf_3_22 (by omega) (by omega) ?_
      exact ⟨congrArg (fun z => some (Value.int (jI z))) (by rw [show (pOf ks t ii o) = false by unfold pOf; simp at *; omega]; rfl), rfl, rfl⟩
    · refine j_iconst (n := 1) hk dX3_lambda_countOf_3_17 ?_
      refine j_goto (tgt := 22) hk dX3_lambda_countOf_3_18 rfl ?_
      refine f_iret hk he hA rfl dX3_lambda_countOf_3_22 (by omega) (by omega) ?_
      exact ⟨congrArg (fun z => some (Value.int (jI z))) (by rw [show (pOf ks t ii o) = true by unfold pOf; simp at *; omega]; rfl), rfl, rfl⟩
theorem tc_0 {l : Launch} {E : jE} (hls : l.stackTraces = false) (hE : jSt E) (hN : jCn E) {z : jZ} (hzc : zLe (zS E) z) {ta : Nat} {t : Nat} {b : Nat} {o : Op} (hta : z (ta, .inr (18 + 0, [.int (jI ((t : Nat) : Int))]))) (ho_b : z (b, .inr (5, opFs o))) (hk_b : opOK o) (ht : t < 1000) : tC l E 6 300 0 0 z ta b (pEnd t o) :=
  ⟨0, _, _, [.int (jI ((t : Nat) : Int))], yX3_lambda_hasEnded_0, cX3_lambda_hasEnded_0, 2, 3, 53, rfl, rfl, rfl, rfl, hta, (by decide +kernel), (by decide +kernel), q1788, q117, Or.inl ⟨by decide, q1787, (show (parseMethodDescriptor yX3_lambda_hasEnded_0.desc).map (fun d => d.parameters.length) = some 2 by decide +kernel)⟩, (by decide), (by decide), fc_X3_lambda_hasEnded_0 hls hE hN hzc ho_b hk_b ht⟩
theorem tc_1 {l : Launch} {E : jE} (hls : l.stackTraces = false) (hE : jSt E) (hN : jCn E) {z : jZ} (hzc : zLe (zS E) z) {ta : Nat} {t : Nat} {b : Nat} {o : Op} (hta : z (ta, .inr (18 + 1, [.int (jI ((t : Nat) : Int))]))) (ho_b : z (b, .inr (5, opFs o))) (hk_b : opOK o) (ht : t < 1000) : tC l E 6 300 0 0 z ta b (pIs 3 t o) :=
  ⟨1, _, _, [.int (jI ((t : Nat) : Int))], yX3_lambda_isAborted_1, cX3_lambda_isAborted_1, 2, 2, 34, rfl, rfl, rfl, rfl, hta, (by decide +kernel), (by decide +kernel), q879, q117, Or.inl ⟨by decide, q878, (show (parseMethodDescriptor yX3_lambda_isAborted_1.desc).map (fun d => d.parameters.length) = some 2 by decide +kernel)⟩, (by decide), (by decide), fc_X3_lambda_isAborted_1 hls hE hN hzc ho_b hk_b ht⟩
theorem tc_4 {l : Launch} {E : jE} (hls : l.stackTraces = false) (hE : jSt E) (hN : jCn E) {z : jZ} (hzc : zLe (zS E) z) {ta : Nat} {t : Nat} {b : Nat} {o : Op} (hta : z (ta, .inr (18 + 4, [.int (jI ((t : Nat) : Int))]))) (ho_b : z (b, .inr (5, opFs o))) (hk_b : opOK o) (ht : t < 1000) : tC l E 6 300 0 0 z ta b (pIs 3 t o) :=
  ⟨4, _, _, [.int (jI ((t : Nat) : Int))], yX3_lambda_isAbortedBefore_4, cX3_lambda_isAbortedBefore_4, 2, 2, 34, rfl, rfl, rfl, rfl, hta, (by decide +kernel), (by decide +kernel), q1250, q117, Or.inl ⟨by decide, q1249, (show (parseMethodDescriptor yX3_lambda_isAbortedBefore_4.desc).map (fun d => d.parameters.length) = some 2 by decide +kernel)⟩, (by decide), (by decide), fc_X3_lambda_isAbortedBefore_4 hls hE hN hzc ho_b hk_b ht⟩
theorem tc_5 {l : Launch} {E : jE} (hls : l.stackTraces = false) (hE : jSt E) (hN : jCn E) {z : jZ} (hzc : zLe (zS E) z) {ta : Nat} {t : Nat} {b : Nat} {o : Op} (hta : z (ta, .inr (18 + 5, [.int (jI ((t : Nat) : Int))]))) (ho_b : z (b, .inr (5, opFs o))) (hk_b : opOK o) (ht : t < 1000) : tC l E 6 300 0 0 z ta b (pIs 2 t o) :=
  ⟨5, _, _, [.int (jI ((t : Nat) : Int))], yX3_lambda_isCommittedBefore_5, cX3_lambda_isCommittedBefore_5, 2, 2, 34, rfl, rfl, rfl, rfl, hta, (by decide +kernel), (by decide +kernel), q1256, q117, Or.inl ⟨by decide, q1255, (show (parseMethodDescriptor yX3_lambda_isCommittedBefore_5.desc).map (fun d => d.parameters.length) = some 2 by decide +kernel)⟩, (by decide), (by decide), fc_X3_lambda_isCommittedBefore_5 hls hE hN hzc ho_b hk_b ht⟩
theorem tc_7 {l : Launch} {E : jE} (hls : l.stackTraces = false) (hE : jSt E) (hN : jCn E) {z : jZ} (hzc : zLe (zS E) z) {ta : Nat} {t : Nat} {b : Nat} {o : Op} (hta : z (ta, .inr (18 + 7, [.int (jI ((t : Nat) : Int))]))) (ho_b : z (b, .inr (5, opFs o))) (hk_b : opOK o) (ht : t < 1000) : tC l E 6 300 0 0 z ta b (pIs 2 t o) :=
  ⟨7, _, _, [.int (jI ((t : Nat) : Int))], yX3_lambda_commitOf_7, cX3_lambda_commitOf_7, 2, 2, 34, rfl, rfl, rfl, rfl, hta, (by decide +kernel), (by decide +kernel), q1459, q117, Or.inl ⟨by decide, q1458, (show (parseMethodDescriptor yX3_lambda_commitOf_7.desc).map (fun d => d.parameters.length) = some 2 by decide +kernel)⟩, (by decide), (by decide), fc_X3_lambda_commitOf_7 hls hE hN hzc ho_b hk_b ht⟩
theorem tc_8 {l : Launch} {E : jE} (hls : l.stackTraces = false) (hE : jSt E) (hN : jCn E) {z : jZ} (hzc : zLe (zS E) z) {ta : Nat} {t : Nat} {b : Nat} {o : Op} (hta : z (ta, .inr (18 + 8, [.int (jI ((t : Nat) : Int))]))) (ho_b : z (b, .inr (5, opFs o))) (hk_b : opOK o) (ht : t < 1000) : tC l E 6 300 0 0 z ta b (pEnd t o) :=
  ⟨8, _, _, [.int (jI ((t : Nat) : Int))], yX3_lambda_isEndedBefore_8, cX3_lambda_isEndedBefore_8, 2, 3, 53, rfl, rfl, rfl, rfl, hta, (by decide +kernel), (by decide +kernel), q1389, q117, Or.inl ⟨by decide, q1388, (show (parseMethodDescriptor yX3_lambda_isEndedBefore_8.desc).map (fun d => d.parameters.length) = some 2 by decide +kernel)⟩, (by decide), (by decide), fc_X3_lambda_isEndedBefore_8 hls hE hN hzc ho_b hk_b ht⟩
theorem tc_9 {l : Launch} {E : jE} (hls : l.stackTraces = false) (hE : jSt E) (hN : jCn E) {z : jZ} (hzc : zLe (zS E) z) {ta : Nat} {t : Nat} {b : Nat} {o : Op} (hta : z (ta, .inr (18 + 9, [.int (jI ((t : Nat) : Int))]))) (ho_b : z (b, .inr (5, opFs o))) (hk_b : opOK o) (ht : t < 1000) : tC l E 6 300 0 0 z ta b (pTr t o) :=
  ⟨9, _, _, [.int (jI ((t : Nat) : Int))], yX3_lambda_placeIn_9, cX3_lambda_placeIn_9, 2, 1, 12, rfl, rfl, rfl, rfl, hta, (by decide +kernel), (by decide +kernel), q2247, q117, Or.inl ⟨by decide, q2246, (show (parseMethodDescriptor yX3_lambda_placeIn_9.desc).map (fun d => d.parameters.length) = some 2 by decide +kernel)⟩, (by decide), (by decide), fc_X3_lambda_placeIn_9 hls hE hN hzc ho_b hk_b ht⟩
theorem tc_10 {l : Launch} {E : jE} (hls : l.stackTraces = false) (hE : jSt E) (hN : jCn E) {z : jZ} (hzc : zLe (zS E) z) {ta : Nat} {t : Nat} {b : Nat} {o : Op} (hta : z (ta, .inr (18 + 10, [.int (jI ((t : Nat) : Int))]))) (ho_b : z (b, .inr (5, opFs o))) (hk_b : opOK o) (ht : t < 1000) : tC l E 6 300 0 0 z ta b (pEnd t o) :=
  ⟨10, _, _, [.int (jI ((t : Nat) : Int))], yX1_lambda_isAllowed_0, cX1_lambda_isAllowed_0, 2, 3, 53, rfl, rfl, rfl, rfl, hta, (by decide +kernel), (by decide +kernel), q1695, q115, Or.inl ⟨by decide, q1694, (show (parseMethodDescriptor yX1_lambda_isAllowed_0.desc).map (fun d => d.parameters.length) = some 2 by decide +kernel)⟩, (by decide), (by decide), fc_X1_lambda_isAllowed_0 hls hE hN hzc ho_b hk_b ht⟩
theorem tc_11 {l : Launch} {E : jE} (hls : l.stackTraces = false) (hE : jSt E) (hN : jCn E) {z : jZ} (hzc : zLe (zS E) z) {ta : Nat} {t : Nat} {b : Nat} {o : Op} (hta : z (ta, .inr (18 + 11, [.int (jI ((t : Nat) : Int))]))) (ho_b : z (b, .inr (5, opFs o))) (hk_b : opOK o) (ht : t < 1000) : tC l E 6 300 0 0 z ta b (pTr t o) :=
  ⟨11, _, _, [.int (jI ((t : Nat) : Int))], yX1_lambda_stateOf_1, cX1_lambda_stateOf_1, 2, 1, 12, rfl, rfl, rfl, rfl, hta, (by decide +kernel), (by decide +kernel), q2153, q115, Or.inl ⟨by decide, q2152, (show (parseMethodDescriptor yX1_lambda_stateOf_1.desc).map (fun d => d.parameters.length) = some 2 by decide +kernel)⟩, (by decide), (by decide), fc_X1_lambda_stateOf_1 hls hE hN hzc ho_b hk_b ht⟩
theorem tc_12 {l : Launch} {E : jE} (hls : l.stackTraces = false) (hE : jSt E) (hN : jCn E) {z : jZ} (hzc : zLe (zS E) z) {ta : Nat} {t : Nat} {b : Nat} {o : Op} (hta : z (ta, .inr (18 + 12, [.int (jI ((t : Nat) : Int))]))) (ho_b : z (b, .inr (5, opFs o))) (hk_b : opOK o) (ht : t < 1000) : tC l E 6 300 0 0 z ta b (pTr t o) :=
  ⟨12, _, _, [.int (jI ((t : Nat) : Int))], yX1_lambda_registerOf_2, cX1_lambda_registerOf_2, 2, 1, 12, rfl, rfl, rfl, rfl, hta, (by decide +kernel), (by decide +kernel), q2320, q115, Or.inl ⟨by decide, q2319, (show (parseMethodDescriptor yX1_lambda_registerOf_2.desc).map (fun d => d.parameters.length) = some 2 by decide +kernel)⟩, (by decide), (by decide), fc_X1_lambda_registerOf_2 hls hE hN hzc ho_b hk_b ht⟩
theorem tc_13 {l : Launch} {E : jE} (hls : l.stackTraces = false) (hE : jSt E) (hN : jCn E) {z : jZ} (hzc : zLe (zS E) z) {ta : Nat} {b : Nat} {o : Op} (hta : z (ta, .inr (18 + 13, []))) (ho_b : z (b, .inr (5, opFs o))) (hk_b : opOK o) : tC l E 6 300 0 0 z ta b (pAcc o) :=
  ⟨13, _, _, [], yX1_lambda_readShare_3, cX1_lambda_readShare_3, 1, 2, 32, rfl, rfl, rfl, rfl, hta, (by decide +kernel), (by decide +kernel), q2391, q115, Or.inl ⟨by decide, q2390, (show (parseMethodDescriptor yX1_lambda_readShare_3.desc).map (fun d => d.parameters.length) = some 1 by decide +kernel)⟩, (by decide), (by decide), fc_X1_lambda_readShare_3 hls hE hN hzc ho_b hk_b⟩
theorem tc_14 {l : Launch} {E : jE} (hls : l.stackTraces = false) (hE : jSt E) (hN : jCn E) {z : jZ} (hzc : zLe (zS E) z) {ta : Nat} {b : Nat} {o : Op} (hta : z (ta, .inr (18 + 14, []))) (ho_b : z (b, .inr (5, opFs o))) (hk_b : opOK o) : tC l E 6 300 0 0 z ta b (pRd o) :=
  ⟨14, _, _, [], yX1_lambda_readShare_4, cX1_lambda_readShare_4, 1, 1, 12, rfl, rfl, rfl, rfl, hta, (by decide +kernel), (by decide +kernel), q2394, q115, Or.inl ⟨by decide, q2393, (show (parseMethodDescriptor yX1_lambda_readShare_4.desc).map (fun d => d.parameters.length) = some 1 by decide +kernel)⟩, (by decide), (by decide), fc_X1_lambda_readShare_4 hls hE hN hzc ho_b hk_b⟩
theorem tc_15 {l : Launch} {E : jE} (hls : l.stackTraces = false) (hE : jSt E) (hN : jCn E) {z : jZ} (hzc : zLe (zS E) z) {ta : Nat} {t : Nat} {b : Nat} {o : Op} (hta : z (ta, .inr (18 + 15, [.int (jI ((t : Nat) : Int))]))) (ho_b : z (b, .inr (5, opFs o))) (hk_b : opOK o) (ht : t < 1000) : tC l E 6 300 0 0 z ta b (pTr t o) :=
  ⟨15, _, _, [.int (jI ((t : Nat) : Int))], yX8_lambda_isWaiting_0, cX8_lambda_isWaiting_0, 2, 1, 12, rfl, rfl, rfl, rfl, hta, (by decide +kernel), (by decide +kernel), q1977, q156, Or.inl ⟨by decide, q1976, (show (parseMethodDescriptor yX8_lambda_isWaiting_0.desc).map (fun d => d.parameters.length) = some 2 by decide +kernel)⟩, (by decide), (by decide), fc_X8_lambda_isWaiting_0 hls hE hN hzc ho_b hk_b ht⟩
theorem tc_16 {l : Launch} {E : jE} (hls : l.stackTraces = false) (hE : jSt E) (hN : jCn E) {z : jZ} (hzc : zLe (zS E) z) {ta : Nat} {t : Nat} {b : Nat} {o : Op} (hta : z (ta, .inr (18 + 16, [.int (jI ((t : Nat) : Int))]))) (ho_b : z (b, .inr (5, opFs o))) (hk_b : opOK o) (ht : t < 1000) : tC l E 6 300 0 0 z ta b (pEnd t o) :=
  ⟨16, _, _, [.int (jI ((t : Nat) : Int))], yX8_lambda_isPreventedBy_1, cX8_lambda_isPreventedBy_1, 2, 3, 53, rfl, rfl, rfl, rfl, hta, (by decide +kernel), (by decide +kernel), q1988, q156, Or.inl ⟨by decide, q1987, (show (parseMethodDescriptor yX8_lambda_isPreventedBy_1.desc).map (fun d => d.parameters.length) = some 2 by decide +kernel)⟩, (by decide), (by decide), fc_X8_lambda_isPreventedBy_1 hls hE hN hzc ho_b hk_b ht⟩
theorem tc_2 {l : Launch} {E : jE} (hls : l.stackTraces = false) (hE : jSt E) (hN : jCn E) {z : jZ} (hzc : zLe (zS E) z) {ta : Nat} {b : Nat} {a : Nat} {o : Op} {o2 : Op} (hta : z (ta, .inr (18 + 2, [.ref b]))) (ho_b : z (b, .inr (5, opFs o))) (hk_b : opOK o) (ho_a : z (a, .inr (5, opFs o2))) (hk_a : opOK o2) : tC l E 6 300 0 0 z ta a (opConf o2 o) :=
  ⟨2, _, _, [.ref b], yX3_lambda_countConflicts_2, cX3_lambda_countConflicts_2, 2, 3, 54, rfl, rfl, rfl, rfl, hta, (by decide +kernel), (by decide +kernel), q1262, q117, Or.inl ⟨by decide, q1261, (show (parseMethodDescriptor yX3_lambda_countConflicts_2.desc).map (fun d => d.parameters.length) = some 2 by decide +kernel)⟩, (by decide), (by decide), fc_X3_lambda_countConflicts_2 hls hE hN hzc ho_b hk_b ho_a hk_a⟩
theorem tc_17 {l : Launch} {E : jE} (hls : l.stackTraces = false) (hE : jSt E) (hN : jCn E) {z : jZ} (hzc : zLe (zS E) z) {ta : Nat} {t : Nat} {b : Nat} {a : Nat} {o : Op} {o2 : Op} (hta : z (ta, .inr (18 + 17, [.int (jI ((t : Nat) : Int)), .ref b]))) (ho_b : z (b, .inr (5, opFs o))) (hk_b : opOK o) (ho_a : z (a, .inr (5, opFs o2))) (hk_a : opOK o2) (ht : t < 1000) : tC l E 6 300 0 0 z ta a (pBy t o o2) :=
  ⟨17, _, _, [.int (jI ((t : Nat) : Int)), .ref b], yX8_lambda_isPreventedBy_2, cX8_lambda_isPreventedBy_2, 3, 3, 54, rfl, rfl, rfl, rfl, hta, (by decide +kernel), (by decide +kernel), q1991, q156, Or.inl ⟨by decide, q1990, (show (parseMethodDescriptor yX8_lambda_isPreventedBy_2.desc).map (fun d => d.parameters.length) = some 3 by decide +kernel)⟩, (by decide), (by decide), fc_X8_lambda_isPreventedBy_2 hls hE hN hzc ho_b hk_b ho_a hk_a ht⟩
theorem tc_3 {l : Launch} {E : jE} (hls : l.stackTraces = false) (hE : jSt E) (hN : jCn E) {z : jZ} (hzc : zLe (zS E) z) {ta : Nat} {t : Nat} {b : Nat} {o : Op} {ks : Nat} {ii : Nat} (hta : z (ta, .inr (18 + 3, [.int (jI ((letK ks : Nat) : Int)), .int (jI ((t : Nat) : Int)), .int (jI ((97 + ii : Nat) : Int))]))) (ho_b : z (b, .inr (5, opFs o))) (hk_b : opOK o) (ht : t < 1000) (hks : ks < 4) (hii : ii < 4) : tC l E 6 300 0 0 z ta b (pOf ks t ii o) :=
  ⟨3, _, _, [.int (jI ((letK ks : Nat) : Int)), .int (jI ((t : Nat) : Int)), .int (jI ((97 + ii : Nat) : Int))], yX3_lambda_countOf_3, cX3_lambda_countOf_3, 4, 2, 34, rfl, rfl, rfl, rfl, hta, (by decide +kernel), (by decide +kernel), q1274, q117, Or.inl ⟨by decide, q1273, (show (parseMethodDescriptor yX3_lambda_countOf_3.desc).map (fun d => d.parameters.length) = some 4 by decide +kernel)⟩, (by decide), (by decide), fc_X3_lambda_countOf_3 hls hE hN hzc ho_b hk_b ht hks hii⟩
