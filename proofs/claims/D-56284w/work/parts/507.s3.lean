/-! S, 3: count and find -/
/-- the last place below n with the property -/
def lastN (p : Nat → Bool) : Nat → Int
  | 0 => -1
  | n + 1 => if p n then (n : Int) else lastN p n
theorem lastN_t {p : Nat → Bool} {k : Nat} (h0 : 0 < k) (h : p (k - 1) = true) : lastN p k = (k : Int) - 1 := by
  obtain ⟨j, rfl⟩ : ∃ j, k = j + 1 := ⟨k - 1, by omega⟩
  rw [Nat.add_sub_cancel] at h
  unfold lastN
  rw [if_pos h]
  omega
theorem lastN_f {p : Nat → Bool} {k : Nat} (h0 : 0 < k) (h : p (k - 1) = false) : lastN p k = lastN p (k - 1) := by
  obtain ⟨j, rfl⟩ : ∃ j, k = j + 1 := ⟨k - 1, by omega⟩
  rw [Nat.add_sub_cancel] at h ⊢
  conv => lhs; unfold lastN
  rw [if_neg (by rw [h]; decide)]
theorem lastN_r (p : Nat → Bool) (n : Nat) : -1 ≤ lastN p n ∧ lastN p n < n := by
  induction n with
  | zero => unfold lastN; exact ⟨by decide, by omega⟩
  | succ n ih =>
    unfold lastN
    split <;> omega
theorem lastN_neg (p : Nat → Bool) (n : Nat) : lastN p n = -1 ↔ (List.range n).any p = false := by
  induction n with
  | zero => simp [lastN]
  | succ n ih =>
    unfold lastN
    rw [List.range_succ, List.any_append]
    cases h : p n
    · simp [ih, h]
    · simp [h]
theorem cN_S (p : Nat → Bool) (n : Nat) : cN p (n + 1) = cN p n + (if p n then 1 else 0) := rfl
set_option maxHeartbeats 1500000 in
/-- X1 findBefore(Ljava/util/List;ILScheduleAnalyzer$OperationTest;)I -/
theorem fc_X1_findBefore {l : Launch} {E : jE} (hls : l.stackTraces = false) (hE : jSt E) (hN : jCn E) {z : jZ} (hzc : zLe (zS E) z) {a : Nat} {n : Nat} {t : Nat} {li : List Nat} {mc : Int} {s : List Op} {p : Op → Bool} (h : alZ E z a mc li) (hs : opsZ z li s) (hn : n ≤ s.length) (hT : ∀ (b : Nat) (o : Op), z (b, .inr (5, opFs o)) → opOK o → tC l E 6 300 0 0 z t b (p o)) : fC l E yX1_findBefore cX1_findBefore 4 (some .int) 6 300 (0) (0) [.ref a, .int (jI ((n : Nat) : Int)), .ref t] z [] (fun rr z2 W2 => rr = some (.int (jI (lastN (fun i => p (opAt s i)) n))) ∧ W2 = [] ∧ z = z2) := by
  refine f_start (own := "ScheduleAnalyzer") (vs := [some (.ref a), some (.int (jI ((n : Nat) : Int))), some (.ref t), none]) hls (by decide +kernel) rfl rfl rfl (Nat.le_of_ble_eq_true rfl) ?_
  intro K H0 hk he hl0 hI hA
  have hlen_a := h.len
  obtain ⟨q_a, cap_a, f_a, hc1_a, hc2_a, hl1_a, hl2_a, hf_a⟩ := h.cell hN hzc
  have hsl := hs.len
  refine j_ild4 hk dX1_findBefore_0 rfl rfl ?_
  refine j_iconst (n := 1) hk dX1_findBefore_1 ?_
  refine j_isub hk dX1_findBefore_2 ?_
  refine j_ist3 hk dX1_findBefore_3 rfl ?_
  have loop4 : ∀ (fuel4 : Nat) (k : Nat), k < fuel4 → k ≤ n → lastN (fun i => p (opAt s i)) n = lastN (fun i => p (opAt s i)) k → jW K (fO K E z z []) (0) (0) 4 [some (.ref a), some (.int (jI ((n : Nat) : Int))), some (.ref t), some (.int (jI ((k : Int) - 1)))] [] := by
    intro fuel4
    induction fuel4 with
    | zero => intro k hm; exact absurd hm (Nat.not_lt_zero _)
    | succ fuel4 ih4 =>
      intro k hm4 hkn hlk
      refine j_ild4 hk dX1_findBefore_4 rfl rfl ?_
      refine j_if_lt hk (by omega) dX1_findBefore_5 rfl (tgt := 33) (fun h5 => ?_) (fun h5 => ?_)
      · refine j_ild4 hk dX1_findBefore_33 rfl rfl ?_
        refine f_iret hk he hA rfl dX1_findBefore_34 (by omega) (by omega) ?_
        exact ⟨congrArg (fun z => some (Value.int (jI z))) (by rw [hlk]; first | (exact (lastN_t (by omega) h24).symm) | (rw [show k = 0 by omega]; rfl)), rfl, rfl⟩
      · refine j_ald4 hk dX1_findBefore_8 rfl rfl ?_
        refine j_ald4 hk dX1_findBefore_9 rfl rfl ?_
        refine j_ild4 hk dX1_findBefore_10 rfl rfl ?_
        refine j_top (z2 := ((k - 1 : Nat) : Int)) (by omega) ?_
        obtain ⟨b, hb, hob, hok⟩ := hs.at (i := k - 1) (by omega)
        refine f_callF (Wc := []) (Wr := []) hE hk hl0 (.inl hc1_a) (show vwCl[10]? = some (RJ2, TJ2, 3) from rfl) (fc_J2_get hls hE hN (z := z) hzc (a := a) (i := k - 1) (mc := mc) (li := li) (b := b) (h) (hb)) (fun _ h => Or.inl h) 1 (lw_Fg q911 q393 q395 q120 q397) q392 q391 q396 q394 q222 (by decide +kernel) rfl (by decide) (by omega) rfl (Nat.le_of_ble_eq_true rfl) dX1_findBefore_11 ?_
        refine Or.inl ⟨rfl, ?_⟩
        rintro _ _ _ ⟨rfl, rfl, rfl⟩ -
        refine f_W (W2 := []) rfl ?_
        refine f_castS hE hk (.inl hob) (show vwCl[5]? = some (RX6, TX6, 3) from rfl) q912 dX1_findBefore_16 ?_
        refine f_test hE hN.lam hk hl0 (hT _ _ hob hok) ⟨by omega, by omega⟩ ⟨by omega, by omega⟩ rfl (by simp [Value.category]) dX1_findBefore_19 ?_
        refine j_ifneB hk dX1_findBefore_24 rfl (tgt := 33) (fun h24 => ?_) (fun h24 => ?_)
        · refine j_ild4 hk dX1_findBefore_33 rfl rfl ?_
          refine f_iret hk he hA rfl dX1_findBefore_34 (by omega) (by omega) ?_
          exact ⟨congrArg (fun z => some (Value.int (jI z))) (by rw [hlk]; first | (exact (lastN_t (by omega) h24).symm) | (rw [show k = 0 by omega]; rfl)), rfl, rfl⟩
        · refine j_iinc3 hk dX1_findBefore_27 rfl ?_
          refine j_loc (i := 3) (z2 := ((k - 1 : Nat) : Int) - 1) rfl (by omega) ?_
          refine j_goto (tgt := 4) hk dX1_findBefore_30 rfl ?_
          exact ih4 (k - 1) (by omega) (by omega) (by rw [hlk]; exact lastN_f (by omega) h24)
  exact loop4 _ n (Nat.lt_succ_self _) (Nat.le_refl _) (rfl)
set_option maxHeartbeats 1500000 in
/-- X1 findBefore(Ljava/util/List;ILScheduleAnalyzer$OperationTest;)I -/
theorem fc_X1_findBeforeG {l : Launch} {E : jE} (hls : l.stackTraces = false) (hE : jSt E) (hN : jCn E) {z : jZ} (hzc : zLe (zS E) z) {a : Nat} {n : Nat} {t : Nat} {li : List Nat} {mc : Int} {s : List Op} {p : Op → Bool} (h : alZ E z a mc li) (hs : opsZ z li s) (hn : n ≤ s.length) (hT : ∀ (b : Nat) (o : Op), z (b, .inr (5, opFs o)) → opOK o → tC l E 20 7000 1 1 z t b (p o)) : fC l E yX1_findBefore cX1_findBefore 4 (some .int) 20 7000 (n) (n) [.ref a, .int (jI ((n : Nat) : Int)), .ref t] z [] (fun rr z2 W2 => rr = some (.int (jI (lastN (fun i => p (opAt s i)) n))) ∧ W2 = [] ∧ z = z2) := by
  refine f_start (own := "ScheduleAnalyzer") (vs := [some (.ref a), some (.int (jI ((n : Nat) : Int))), some (.ref t), none]) hls (by decide +kernel) rfl rfl rfl (Nat.le_of_ble_eq_true rfl) ?_
  intro K H0 hk he hl0 hI hA
  have hlen_a := h.len
  obtain ⟨q_a, cap_a, f_a, hc1_a, hc2_a, hl1_a, hl2_a, hf_a⟩ := h.cell hN hzc
  have hsl := hs.len
  refine j_ild4 hk dX1_findBefore_0 rfl rfl ?_
  refine j_iconst (n := 1) hk dX1_findBefore_1 ?_
  refine j_isub hk dX1_findBefore_2 ?_
  refine j_ist3 hk dX1_findBefore_3 rfl ?_
  have loop4 : ∀ (fuel4 : Nat) (k : Nat), k < fuel4 → k ≤ n → lastN (fun i => p (opAt s i)) n = lastN (fun i => p (opAt s i)) k → jW K (fO K E z z []) (n - k) (n - k) 4 [some (.ref a), some (.int (jI ((n : Nat) : Int))), some (.ref t), some (.int (jI ((k : Int) - 1)))] [] := by
    intro fuel4
    induction fuel4 with
    | zero => intro k hm; exact absurd hm (Nat.not_lt_zero _)
    | succ fuel4 ih4 =>
      intro k hm4 hkn hlk
      refine j_ild4 hk dX1_findBefore_4 rfl rfl ?_
      refine j_if_lt hk (by omega) dX1_findBefore_5 rfl (tgt := 33) (fun h5 => ?_) (fun h5 => ?_)
      · refine j_ild4 hk dX1_findBefore_33 rfl rfl ?_
        refine f_iret hk he hA rfl dX1_findBefore_34 (by omega) (by omega) ?_
        exact ⟨congrArg (fun z => some (Value.int (jI z))) (by rw [hlk]; first | (exact (lastN_t (by omega) h24).symm) | (rw [show k = 0 by omega]; rfl)), rfl, rfl⟩
      · refine j_ald4 hk dX1_findBefore_8 rfl rfl ?_
        refine j_ald4 hk dX1_findBefore_9 rfl rfl ?_
        refine j_ild4 hk dX1_findBefore_10 rfl rfl ?_
        refine j_top (z2 := ((k - 1 : Nat) : Int)) (by omega) ?_
        obtain ⟨b, hb, hob, hok⟩ := hs.at (i := k - 1) (by omega)
        refine f_callF (Wc := []) (Wr := []) hE hk hl0 (.inl hc1_a) (show vwCl[10]? = some (RJ2, TJ2, 3) from rfl) (fc_J2_get hls hE hN (z := z) hzc (a := a) (i := k - 1) (mc := mc) (li := li) (b := b) (h) (hb)) (fun _ h => Or.inl h) 1 (lw_Fg q911 q393 q395 q120 q397) q392 q391 q396 q394 q222 (by decide +kernel) rfl (by decide) (by omega) rfl (Nat.le_of_ble_eq_true rfl) dX1_findBefore_11 ?_
        refine Or.inl ⟨rfl, ?_⟩
        rintro _ _ _ ⟨rfl, rfl, rfl⟩ -
        refine f_W (W2 := []) rfl ?_
        refine f_castS hE hk (.inl hob) (show vwCl[5]? = some (RX6, TX6, 3) from rfl) q912 dX1_findBefore_16 ?_
        refine f_test hE hN.lam hk hl0 (hT _ _ hob hok) ⟨by omega, by omega⟩ ⟨by omega, by omega⟩ rfl (by simp [Value.category]) dX1_findBefore_19 ?_
        refine j_ifneB hk dX1_findBefore_24 rfl (tgt := 33) (fun h24 => ?_) (fun h24 => ?_)
        · refine j_ild4 hk dX1_findBefore_33 rfl rfl ?_
          refine f_iret hk he hA rfl dX1_findBefore_34 (by omega) (by omega) ?_
          exact ⟨congrArg (fun z => some (Value.int (jI z))) (by rw [hlk]; first | (exact (lastN_t (by omega) h24).symm) | (rw [show k = 0 by omega]; rfl)), rfl, rfl⟩
        · refine j_iinc3 hk dX1_findBefore_27 rfl ?_
          refine j_loc (i := 3) (z2 := ((k - 1 : Nat) : Int) - 1) rfl (by omega) ?_
          refine j_goto (tgt := 4) hk dX1_findBefore_30 rfl ?_
          refine j_wide (k2 := n - (k - 1)) (n2 := n - (k - 1)) (by omega) (by omega) ?_
          exact ih4 (k - 1) (by omega) (by omega) (by rw [hlk]; exact lastN_f (by omega) h24)
  refine j_wide (k2 := n - n) (n2 := n - n) (by omega) (by omega) ?_
  exact loop4 _ n (Nat.lt_succ_self _) (Nat.le_refl _) (rfl)
set_option maxHeartbeats 1500000 in
/-- X1 countBefore(Ljava/util/List;ILScheduleAnalyzer$OperationTest;)I -/
theorem fc_X1_countBefore {l : Launch} {E : jE} (hls : l.stackTraces = false) (hE : jSt E) (hN : jCn E) {z : jZ} (hzc : zLe (zS E) z) {a : Nat} {n : Nat} {t : Nat} {li : List Nat} {mc : Int} {s : List Op} {p : Op → Bool} (h : alZ E z a mc li) (hs : opsZ z li s) (hn : n ≤ s.length) (hT : ∀ (b : Nat) (o : Op), z (b, .inr (5, opFs o)) → opOK o → tC l E 6 300 0 0 z t b (p o)) : fC l E yX1_countBefore cX1_countBefore 5 (some .int) 6 300 (0) (0) [.ref a, .int (jI ((n : Nat) : Int)), .ref t] z [] (fun rr z2 W2 => rr = some (.int (jI ((cN (fun i => p (opAt s i)) n : Nat) : Int))) ∧ W2 = [] ∧ z = z2) := by
  refine f_start (own := "ScheduleAnalyzer") (vs := [some (.ref a), some (.int (jI ((n : Nat) : Int))), some (.ref t), none, none]) hls (by decide +kernel) rfl rfl rfl (Nat.le_of_ble_eq_true rfl) ?_
  intro K H0 hk he hl0 hI hA
  have hlen_a := h.len
  obtain ⟨q_a, cap_a, f_a, hc1_a, hc2_a, hl1_a, hl2_a, hf_a⟩ := h.cell hN hzc
  have hsl := hs.len
  refine j_iconst (n := 0) hk dX1_countBefore_0 ?_
  refine j_ist3 hk dX1_countBefore_1 rfl ?_
  refine j_iconst (n := 0) hk dX1_countBefore_2 ?_
  refine j_ist4 hk dX1_countBefore_3 rfl ?_
  have loop5 : ∀ (fuel5 : Nat) (k : Nat), n - k < fuel5 → k ≤ n → jW K (fO K E z z []) (0) (0) 5 [some (.ref a), some (.int (jI ((n : Nat) : Int))), some (.ref t), some (.int (jI ((cN (fun i => p (opAt s i)) k : Nat) : Int))), some (.int (jI ((k : Nat) : Int)))] [] := by
    intro fuel5
    induction fuel5 with
    | zero => intro k hm; exact absurd hm (Nat.not_lt_zero _)
    | succ fuel5 ih5 =>
      intro k hm5 hkn
      refine j_ild hk dX1_countBefore_5 rfl ?_
      refine j_ild4 hk dX1_countBefore_7 rfl rfl ?_
      refine j_icmp_ge hk (by omega) (by omega) dX1_countBefore_8 rfl (tgt := 45) (fun h8 => ?_) (fun h8 => ?_)
      · refine j_ild4 hk dX1_countBefore_45 rfl rfl ?_
        refine f_iret hk he hA rfl dX1_countBefore_46 (by omega) (by omega) ?_
        exact ⟨congrArg (fun z => some (Value.int (jI z))) (by rw [show n = k by omega]), rfl, rfl⟩
      · refine j_ild4 hk dX1_countBefore_11 rfl rfl ?_
        refine j_ald4 hk dX1_countBefore_12 rfl rfl ?_
        refine j_ald4 hk dX1_countBefore_13 rfl rfl ?_
        refine j_ild hk dX1_countBefore_14 rfl ?_
        obtain ⟨b, hb, hob, hok⟩ := hs.at (i := k) (by omega)
        refine f_callF (Wc := []) (Wr := []) hE hk hl0 (.inl hc1_a) (show vwCl[10]? = some (RJ2, TJ2, 3) from rfl) (fc_J2_get hls hE hN (z := z) hzc (a := a) (i := k) (mc := mc) (li := li) (b := b) (h) (hb)) (fun _ h => Or.inl h) 1 (lw_Fg q911 q393 q395 q120 q397) q392 q391 q396 q394 q222 (by decide +kernel) rfl (by decide) (by omega) rfl (Nat.le_of_ble_eq_true rfl) dX1_countBefore_16 ?_
        refine Or.inl ⟨rfl, ?_⟩
        rintro _ _ _ ⟨rfl, rfl, rfl⟩ -
        refine f_W (W2 := []) rfl ?_
        refine f_castS hE hk (.inl hob) (show vwCl[5]? = some (RX6, TX6, 3) from rfl) q912 dX1_countBefore_21 ?_
        refine f_test hE hN.lam hk hl0 (hT _ _ hob hok) ⟨by omega, by omega⟩ ⟨by omega, by omega⟩ rfl (by simp [Value.category]) dX1_countBefore_24 ?_
        refine j_ifeqB hk dX1_countBefore_29 rfl (tgt := 36) (fun h29 => ?_) (fun h29 => ?_)
        · refine j_iconst (n := 0) hk dX1_countBefore_36 ?_
          refine j_iadd hk dX1_countBefore_37 ?_
          refine j_ist3 hk dX1_countBefore_38 rfl ?_
          refine j_iinc4 hk dX1_countBefore_39 rfl ?_
          refine j_loc (i := 3) (z2 := ((cN (fun i => p (opAt s i)) (k + 1) : Nat) : Int)) rfl (by rw [cN_S]; first | (rw [if_pos h29]; rfl) | (rw [if_neg (by rw [h29]; decide)]; rfl)) ?_
          refine j_goto (tgt := 5) hk dX1_countBefore_42 rfl ?_
          exact ih5 (k + 1) (by omega) (by omega)
        · refine j_iconst (n := 1) hk dX1_countBefore_32 ?_
          refine j_goto (tgt := 37) hk dX1_countBefore_33 rfl ?_
          refine j_iadd hk dX1_countBefore_37 ?_
          refine j_ist3 hk dX1_countBefore_38 rfl ?_
          refine j_iinc4 hk dX1_countBefore_39 rfl ?_
          refine j_loc (i := 3) (z2 := ((cN (fun i => p (opAt s i)) (k + 1) : Nat) : Int)) rfl (by rw [cN_S]; first | (rw [if_pos h29]; rfl) | (rw [if_neg (by rw [h29]; decide)]; rfl)) ?_
          refine j_goto (tgt := 5) hk dX1_countBefore_42 rfl ?_
          exact ih5 (k + 1) (by omega) (by omega)
  exact loop5 _ 0 (Nat.lt_succ_self _) (Nat.zero_le _)
set_option maxHeartbeats 1500000 in
/-- X1 count(Ljava/util/List;LScheduleAnalyzer$OperationTest;)I -/
theorem fc_X1_count {l : Launch} {E : jE} (hls : l.stackTraces = false) (hE : jSt E) (hN : jCn E) {z : jZ} (hzc : zLe (zS E) z) {a : Nat} {t : Nat} {li : List Nat} {mc : Int} {s : List Op} {p : Op → Bool} (h : alZ E z a mc li) (hs : opsZ z li s) (hT : ∀ (b : Nat) (o : Op), z (b, .inr (5, opFs o)) → opOK o → tC l E 6 300 0 0 z t b (p o)) : fC l E yX1_count cX1_count 2 (some .int) 7 324 (0) (0) [.ref a, .ref t] z [] (fun rr z2 W2 => rr = some (.int (jI ((cN (fun i => p (opAt s i)) s.length : Nat) : Int))) ∧ W2 = [] ∧ z = z2) := by
  refine f_start (own := "ScheduleAnalyzer") (vs := [some (.ref a), some (.ref t)]) hls (by decide +kernel) rfl rfl rfl (Nat.le_of_ble_eq_true rfl) ?_
  intro K H0 hk he hl0 hI hA
  have hlen_a := h.len
  obtain ⟨q_a, cap_a, f_a, hc1_a, hc2_a, hl1_a, hl2_a, hf_a⟩ := h.cell hN hzc
  have hsl := hs.len
  refine j_ald4 hk dX1_count_0 rfl rfl ?_
  refine j_ald4 hk dX1_count_1 rfl rfl ?_
  refine f_callF (Wc := []) (Wr := []) hE hk hl0 (.inl hc1_a) (show vwCl[10]? = some (RJ2, TJ2, 3) from rfl) (fc_J2_size hls hE hN (z := z) hzc (a := a) (mc := mc) (li := li) (h)) (fun _ h => Or.inl h) 0 (lw_Fg q1279 q896 q898 q120 q900) q895 q894 q899 q897 q222 (by decide +kernel) rfl (by decide) (by omega) rfl (Nat.le_of_ble_eq_true rfl) dX1_count_2 ?_
  refine Or.inl ⟨rfl, ?_⟩
  rintro _ _ _ ⟨rfl, rfl, rfl⟩ -
  refine f_W (W2 := []) rfl ?_
  refine j_top (z2 := ((s.length : Nat) : Int)) (by rw [hsl]) ?_
  refine j_ald4 hk dX1_count_7 rfl rfl ?_
  refine f_callS (Wc := []) (Wr := []) hk hl0 (fc_X1_countBefore hls hE hN (z := z) hzc (a := a) (n := s.length) (t := t) (p := p) (mc := mc) (li := li) (s := s) (h) (hs) (Nat.le_refl _) (hT)) (fun _ h => Or.inl h) 3 (lw_S q1280 q1264 q115 q1265) (by decide +kernel) rfl (by decide) (by omega) rfl (Nat.le_of_ble_eq_true rfl) dX1_count_8 ?_
  refine Or.inl ⟨rfl, ?_⟩
  rintro _ _ _ ⟨rfl, rfl, rfl⟩ -
  refine f_W (W2 := []) rfl ?_
  have rf3 := cN_le (fun i => p (opAt s i)) s.length
  refine f_iret hk he hA rfl dX1_count_11 (by omega) (by omega) ?_
  exact ⟨rfl, rfl, rfl⟩
