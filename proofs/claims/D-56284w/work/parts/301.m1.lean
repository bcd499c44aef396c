set_option maxHeartbeats 1500000 in
/-- thrown()I -/
theorem mc_thrown {l : Launch} {E : jE} {m : Nat} {ad : Nat → Nat} {A : Nat → Nat → Int} {F : Nat → Int} (hls : l.stackTraces = false) (hE : jSt E)   : mC l E yX4_thrown cX4_thrown 1 (some .int) 1 12 [.ref m] m ad A F (mQi E m ad (fun r A2 F2 => F 4 = r ∧ A = A2 ∧ F = F2)) := by
  refine m_start (own := "ScheduleAnalyzerModel") (vs := [some (.ref m)]) hls (by decide +kernel) rfl rfl rfl (Nat.le_of_ble_eq_true rfl) ?_
  intro K hk he hl0 hF hG0
  refine j_ald4 hk dX4_thrown_0 rfl rfl ?_
  refine j_mget hE hk 4 (by decide) rfl q2618 dX4_thrown_1 ?_
  refine j_miret hk he rfl dX4_thrown_4 (Nat.le_refl _) (Nat.le_refl _) ?_
  exact ⟨rfl, rfl, rfl⟩
set_option maxHeartbeats 1500000 in
/-- in(III)Z -/
theorem sc_in {l : Launch} {E : jE} (hls : l.stackTraces = false) {v : Int} {a : Int} {b : Int} (h : jr v ∧ jr a ∧ jr b) : sC l E yX4_in cX4_in 3 (some .boolean) 1 12 [.int (jI v), .int (jI a), .int (jI b)] (fun rr => rr = some (.int (jI (jB (decide (a ≤ v ∧ v ≤ b)))))) := by
  refine s_start (own := "ScheduleAnalyzerModel") (vs := [some (.int (jI v)), some (.int (jI a)), some (.int (jI b))]) hls (by decide +kernel) rfl rfl rfl (Nat.le_of_ble_eq_true rfl) ?_
  intro K H0 hk he hl0
  refine j_ild4 hk dX4_in_0 rfl rfl ?_
  refine j_ild4 hk dX4_in_1 rfl rfl ?_
  refine j_icmp_lt hk (by omega) (by omega) dX4_in_2 rfl (tgt := 14) (fun h2 => ?_) (fun h2 => ?_)
  · refine j_iconst (n := 0) hk dX4_in_14 ?_
    refine j_siret hk he rfl dX4_in_15 (Nat.le_refl _) (Nat.le_refl _) ?_
    exact congrArg (fun z => some (Value.int (jI z))) (by simp [jB]; omega)
  · refine j_ild4 hk dX4_in_5 rfl rfl ?_
    refine j_ild4 hk dX4_in_6 rfl rfl ?_
    refine j_icmp_gt hk (by omega) (by omega) dX4_in_7 rfl (tgt := 14) (fun h7 => ?_) (fun h7 => ?_)
    · refine j_iconst (n := 0) hk dX4_in_14 ?_
      refine j_siret hk he rfl dX4_in_15 (Nat.le_refl _) (Nat.le_refl _) ?_
      exact congrArg (fun z => some (Value.int (jI z))) (by simp [jB]; omega)
    · refine j_iconst (n := 1) hk dX4_in_10 ?_
      refine j_goto (tgt := 15) hk dX4_in_11 rfl ?_
      refine j_siret hk he rfl dX4_in_15 (Nat.le_refl _) (Nat.le_refl _) ?_
      exact congrArg (fun z => some (Value.int (jI z))) (by simp [jB]; omega)
set_option maxHeartbeats 1500000 in
/-- isSlot(I)Z -/
theorem sc_isSlot {l : Launch} {E : jE} (hls : l.stackTraces = false) {v : Int} (h : jr v) : sC l E yX4_isSlot cX4_isSlot 1 (some .boolean) 2 34 [.int (jI v)] (fun rr => rr = some (.int (jI (jB (decide (0 ≤ v ∧ v ≤ 3)))))) := by
  refine s_start (own := "ScheduleAnalyzerModel") (vs := [some (.int (jI v))]) hls (by decide +kernel) rfl rfl rfl (Nat.le_of_ble_eq_true rfl) ?_
  intro K H0 hk he hl0
  refine j_ild4 hk dX4_isSlot_0 rfl rfl ?_
  refine j_iconst (n := 0) hk dX4_isSlot_1 ?_
  refine j_iconst (n := 3) hk dX4_isSlot_2 ?_
  refine j_sSi hk hl0 (sc_in hls (v := v) (a := 0) (b := 3) (by omega)) 3 (lw_S q2734 q2735 q145 q2736) (by decide +kernel) rfl (by decide) (by decide) rfl (Nat.le_of_ble_eq_true rfl) dX4_isSlot_3 ?_
  refine j_siret hk he (jn_bool _) dX4_isSlot_6 (Nat.le_refl _) (Nat.le_refl _) ?_
  exact rfl
set_option maxHeartbeats 1500000 in
/-- isTransaction(I)Z -/
theorem sc_isTransaction {l : Launch} {E : jE} (hls : l.stackTraces = false) {v : Int} (h : jr v) : sC l E yX4_isTransaction cX4_isTransaction 1 (some .boolean) 2 34 [.int (jI v)] (fun rr => rr = some (.int (jI (jB (decide (1 ≤ v ∧ v ≤ 5)))))) := by
  refine s_start (own := "ScheduleAnalyzerModel") (vs := [some (.int (jI v))]) hls (by decide +kernel) rfl rfl rfl (Nat.le_of_ble_eq_true rfl) ?_
  intro K H0 hk he hl0
  refine j_ild4 hk dX4_isTransaction_0 rfl rfl ?_
  refine j_iconst (n := 1) hk dX4_isTransaction_1 ?_
  refine j_iconst (n := 5) hk dX4_isTransaction_2 ?_
  refine j_sSi hk hl0 (sc_in hls (v := v) (a := 1) (b := 5) (by omega)) 3 (lw_S q2734 q2735 q145 q2736) (by decide +kernel) rfl (by decide) (by decide) rfl (Nat.le_of_ble_eq_true rfl) dX4_isTransaction_3 ?_
  refine j_siret hk he (jn_bool _) dX4_isTransaction_6 (Nat.le_refl _) (Nat.le_refl _) ?_
  exact rfl
set_option maxHeartbeats 1500000 in
/-- isItem(I)Z -/
theorem sc_isItem {l : Launch} {E : jE} (hls : l.stackTraces = false) {v : Int} (h : jr v) : sC l E yX4_isItem cX4_isItem 1 (some .boolean) 2 34 [.int (jI v)] (fun rr => rr = some (.int (jI (jB (decide (97 ≤ v ∧ v ≤ 100)))))) := by
  refine s_start (own := "ScheduleAnalyzerModel") (vs := [some (.int (jI v))]) hls (by decide +kernel) rfl rfl rfl (Nat.le_of_ble_eq_true rfl) ?_
  intro K H0 hk he hl0
  refine j_ild4 hk dX4_isItem_0 rfl rfl ?_
  refine j_bipush (n := 97) hk rfl dX4_isItem_1 ?_
  refine j_bipush (n := 100) hk rfl dX4_isItem_3 ?_
  refine j_sSi hk hl0 (sc_in hls (v := v) (a := 97) (b := 100) (by omega)) 3 (lw_S q2734 q2735 q145 q2736) (by decide +kernel) rfl (by decide) (by decide) rfl (Nat.le_of_ble_eq_true rfl) dX4_isItem_5 ?_
  refine j_siret hk he (jn_bool _) dX4_isItem_8 (Nat.le_refl _) (Nat.le_refl _) ?_
  exact rfl
set_option maxHeartbeats 1500000 in
/-- kindOf(I)I -/
theorem sc_kindOf {l : Launch} {E : jE} (hls : l.stackTraces = false) {c : Nat} (h : c < 2147483648) : sC l E yX4_kindOf cX4_kindOf 1 (some .int) 1 12 [.int (jI ((c : Nat) : Int))] (fun rr => rr = some (.int (jI ((c / 100 : Nat) : Int)))) := by
  refine s_start (own := "ScheduleAnalyzerModel") (vs := [some (.int (jI ((c : Nat) : Int)))]) hls (by decide +kernel) rfl rfl rfl (Nat.le_of_ble_eq_true rfl) ?_
  intro K H0 hk he hl0
  refine j_ild4 hk dX4_kindOf_0 rfl rfl ?_
  refine j_bipush (n := 100) hk rfl dX4_kindOf_1 ?_
  refine j_idiv hk (by omega) dX4_kindOf_3 ?_
  refine j_siret hk he rfl dX4_kindOf_4 (Nat.le_refl _) (Nat.le_refl _) ?_
  exact rfl
set_option maxHeartbeats 1500000 in
/-- transactionOf(I)I -/
theorem sc_transactionOf {l : Launch} {E : jE} (hls : l.stackTraces = false) {c : Nat} (h : c < 2147483648) : sC l E yX4_transactionOf cX4_transactionOf 1 (some .int) 1 12 [.int (jI ((c : Nat) : Int))] (fun rr => rr = some (.int (jI ((c / 10 % 10 : Nat) : Int)))) := by
  refine s_start (own := "ScheduleAnalyzerModel") (vs := [some (.int (jI ((c : Nat) : Int)))]) hls (by decide +kernel) rfl rfl rfl (Nat.le_of_ble_eq_true rfl) ?_
  intro K H0 hk he hl0
  refine j_ild4 hk dX4_transactionOf_0 rfl rfl ?_
  refine j_bipush (n := 10) hk rfl dX4_transactionOf_1 ?_
  refine j_idiv hk (by omega) dX4_transactionOf_3 ?_
  refine j_bipush (n := 10) hk rfl dX4_transactionOf_4 ?_
  refine j_irem hk (by omega) dX4_transactionOf_6 ?_
  refine j_siret hk he rfl dX4_transactionOf_7 (Nat.le_refl _) (Nat.le_refl _) ?_
  exact rfl
set_option maxHeartbeats 1500000 in
/-- coded(III)I -/
theorem sc_coded {l : Launch} {E : jE} (hls : l.stackTraces = false) {k : Nat} {t : Nat} {i : Nat}  : sC l E yX4_coded cX4_coded 3 (some .int) 1 12 [.int (jI ((k : Nat) : Int)), .int (jI ((t : Nat) : Int)), .int (jI ((i : Nat) : Int))] (fun rr => rr = some (.int (jI ((100 * k + 10 * t + i : Nat) : Int)))) := by
  refine s_start (own := "ScheduleAnalyzerModel") (vs := [some (.int (jI ((k : Nat) : Int))), some (.int (jI ((t : Nat) : Int))), some (.int (jI ((i : Nat) : Int)))]) hls (by decide +kernel) rfl rfl rfl (Nat.le_of_ble_eq_true rfl) ?_
  intro K H0 hk he hl0
  refine j_bipush (n := 100) hk rfl dX4_coded_0 ?_
  refine j_ild4 hk dX4_coded_2 rfl rfl ?_
  refine j_imul hk dX4_coded_3 ?_
  refine j_bipush (n := 10) hk rfl dX4_coded_4 ?_
  refine j_ild4 hk dX4_coded_6 rfl rfl ?_
  refine j_imul hk dX4_coded_7 ?_
  refine j_iadd hk dX4_coded_8 ?_
  refine j_ild4 hk dX4_coded_9 rfl rfl ?_
  refine j_iadd hk dX4_coded_10 ?_
  refine j_siret hk he rfl dX4_coded_11 (Nat.le_refl _) (Nat.le_refl _) ?_
  exact rfl
set_option maxHeartbeats 1500000 in
/-- kindOfLetter(I)I -/
theorem sc_kindOfLetter {l : Launch} {E : jE} (hls : l.stackTraces = false) {c : Int} (h : jr c) : sC l E yX4_kindOfLetter cX4_kindOfLetter 1 (some .int) 1 12 [.int (jI c)] (fun rr => rr = some (.int (jI (if c = 114 then 0 else if c = 119 then 1 else if c = 99 then 2 else if c = 120 then 3 else -1)))) := by
  refine s_start (own := "ScheduleAnalyzerModel") (vs := [some (.int (jI c))]) hls (by decide +kernel) rfl rfl rfl (Nat.le_of_ble_eq_true rfl) ?_
  intro K H0 hk he hl0
  refine j_ild4 hk dX4_kindOfLetter_0 rfl rfl ?_
  refine j_bipush (n := 114) hk rfl dX4_kindOfLetter_1 ?_
  refine j_icmp_ne hk (by omega) (by omega) dX4_kindOfLetter_3 rfl (tgt := 10) (fun h3 => ?_) (fun h3 => ?_)
  · refine j_ild4 hk dX4_kindOfLetter_10 rfl rfl ?_
    refine j_bipush (n := 119) hk rfl dX4_kindOfLetter_11 ?_
    refine j_icmp_ne hk (by omega) (by omega) dX4_kindOfLetter_13 rfl (tgt := 20) (fun h13 => ?_) (fun h13 => ?_)
    · refine j_ild4 hk dX4_kindOfLetter_20 rfl rfl ?_
      refine j_bipush (n := 99) hk rfl dX4_kindOfLetter_21 ?_
      refine j_icmp_ne hk (by omega) (by omega) dX4_kindOfLetter_23 rfl (tgt := 30) (fun h23 => ?_) (fun h23 => ?_)
      · refine j_ild4 hk dX4_kindOfLetter_30 rfl rfl ?_
        refine j_bipush (n := 120) hk rfl dX4_kindOfLetter_31 ?_
        refine j_icmp_ne hk (by omega) (by omega) dX4_kindOfLetter_33 rfl (tgt := 40) (fun h33 => ?_) (fun h33 => ?_)
        · refine j_iconst (n := -1) hk dX4_kindOfLetter_40 ?_
          refine j_siret hk he rfl dX4_kindOfLetter_41 (Nat.le_refl _) (Nat.le_refl _) ?_
          exact congrArg (fun z => some (Value.int (jI z))) (by simp [*])
        · refine j_iconst (n := 3) hk dX4_kindOfLetter_36 ?_
          refine j_goto (tgt := 41) hk dX4_kindOfLetter_37 rfl ?_
          refine j_siret hk he rfl dX4_kindOfLetter_41 (Nat.le_refl _) (Nat.le_refl _) ?_
          exact congrArg (fun z => some (Value.int (jI z))) (by simp [*])
      · refine j_iconst (n := 2) hk dX4_kindOfLetter_26 ?_
        refine j_goto (tgt := 41) hk dX4_kindOfLetter_27 rfl ?_
        refine j_siret hk he rfl dX4_kindOfLetter_41 (Nat.le_refl _) (Nat.le_refl _) ?_
        exact congrArg (fun z => some (Value.int (jI z))) (by simp [*])
    · refine j_iconst (n := 1) hk dX4_kindOfLetter_16 ?_
      refine j_goto (tgt := 41) hk dX4_kindOfLetter_17 rfl ?_
      refine j_siret hk he rfl dX4_kindOfLetter_41 (Nat.le_refl _) (Nat.le_refl _) ?_
      exact congrArg (fun z => some (Value.int (jI z))) (by simp [*])
  · refine j_iconst (n := 0) hk dX4_kindOfLetter_6 ?_
    refine j_goto (tgt := 41) hk dX4_kindOfLetter_7 rfl ?_
    refine j_siret hk he rfl dX4_kindOfLetter_41 (Nat.le_refl _) (Nat.le_refl _) ?_
    exact congrArg (fun z => some (Value.int (jI z))) (by simp [*])
set_option maxHeartbeats 1500000 in
/-- letterOfKind(I)I -/
theorem sc_letterOfKind {l : Launch} {E : jE} (hls : l.stackTraces = false) {k : Nat} (h : k < 4) : sC l E yX4_letterOfKind cX4_letterOfKind 1 (some .int) 1 12 [.int (jI ((k : Nat) : Int))] (fun rr => rr = some (.int (jI ((letK k : Nat) : Int)))) := by
  refine s_start (own := "ScheduleAnalyzerModel") (vs := [some (.int (jI ((k : Nat) : Int)))]) hls (by decide +kernel) rfl rfl rfl (Nat.le_of_ble_eq_true rfl) ?_
  intro K H0 hk he hl0
  refine j_ild4 hk dX4_letterOfKind_0 rfl rfl ?_
  refine j_if_ne hk (by omega) dX4_letterOfKind_1 rfl (tgt := 9) (fun h1 => ?_) (fun h1 => ?_)
  · refine j_ild4 hk dX4_letterOfKind_9 rfl rfl ?_
    refine j_iconst (n := 1) hk dX4_letterOfKind_10 ?_
    refine j_icmp_ne hk (by omega) (by omega) dX4_letterOfKind_11 rfl (tgt := 19) (fun h11 => ?_) (fun h11 => ?_)
    · refine j_ild4 hk dX4_letterOfKind_19 rfl rfl ?_
      refine j_iconst (n := 2) hk dX4_letterOfKind_20 ?_
      refine j_icmp_ne hk (by omega) (by omega) dX4_letterOfKind_21 rfl (tgt := 29) (fun h21 => ?_) (fun h21 => ?_)
      · refine j_bipush (n := 120) hk rfl dX4_letterOfKind_29 ?_
        refine j_siret hk he rfl dX4_letterOfKind_31 (Nat.le_refl _) (Nat.le_refl _) ?_
        exact congrArg (fun z => some (Value.int (jI z))) (by unfold letK; repeat' (first | omega | split))
      · refine j_bipush (n := 99) hk rfl dX4_letterOfKind_24 ?_
        refine j_goto (tgt := 31) hk dX4_letterOfKind_26 rfl ?_
        refine j_siret hk he rfl dX4_letterOfKind_31 (Nat.le_refl _) (Nat.le_refl _) ?_
        exact congrArg (fun z => some (Value.int (jI z))) (by unfold letK; repeat' (first | omega | split))
    · refine j_bipush (n := 119) hk rfl dX4_letterOfKind_14 ?_
      refine j_goto (tgt := 31) hk dX4_letterOfKind_16 rfl ?_
      refine j_siret hk he rfl dX4_letterOfKind_31 (Nat.le_refl _) (Nat.le_refl _) ?_
      exact congrArg (fun z => some (Value.int (jI z))) (by unfold letK; repeat' (first | omega | split))
  · refine j_bipush (n := 114) hk rfl dX4_letterOfKind_4 ?_
    refine j_goto (tgt := 31) hk dX4_letterOfKind_6 rfl ?_
    refine j_siret hk he rfl dX4_letterOfKind_31 (Nat.le_refl _) (Nat.le_refl _) ?_
    exact congrArg (fun z => some (Value.int (jI z))) (by unfold letK; repeat' (first | omega | split))
set_option maxHeartbeats 1500000 in
/-- fail(I)I -/
theorem mc_fail {l : Launch} {E : jE} {m : Nat} {ad : Nat → Nat} {A : Nat → Nat → Int} {F : Nat → Int} (hls : l.stackTraces = false) (hE : jSt E) {n : Int}  : mC l E yX4_fail cX4_fail 2 (some .int) 1 12 [.ref m, .int (jI n)] m ad A F (mQi E m ad (fun r A2 F2 => 0 = r ∧ A = A2 ∧ iup F 4 n = F2)) := by
  refine m_start (own := "ScheduleAnalyzerModel") (vs := [some (.ref m), some (.int (jI n))]) hls (by decide +kernel) rfl rfl rfl (Nat.le_of_ble_eq_true rfl) ?_
  intro K hk he hl0 hF hG0
  refine j_ald4 hk dX4_fail_0 rfl rfl ?_
  refine j_ild4 hk dX4_fail_1 rfl rfl ?_
  refine j_mput hE hk hF 4 (by decide) rfl q2618 rfl rfl rfl rfl dX4_fail_2 ?_
  refine j_iconst (n := 0) hk dX4_fail_5 ?_
  refine j_miret hk he rfl dX4_fail_6 (Nat.le_refl _) (Nat.le_refl _) ?_
  exact ⟨rfl, rfl, rfl⟩
set_option maxHeartbeats 1500000 in
/-- plain(I)I -/
theorem mc_plain {l : Launch} {E : jE} {m : Nat} {ad : Nat → Nat} {A : Nat → Nat → Int} {F : Nat → Int} (hls : l.stackTraces = false) (hE : jSt E) {v : Int}  : mC l E yX4_plain cX4_plain 2 (some .int) 1 12 [.ref m, .int (jI v)] m ad A F (mQi E m ad (fun r A2 F2 => v = r ∧ A = A2 ∧ iup F 4 0 = F2)) := by
  refine m_start (own := "ScheduleAnalyzerModel") (vs := [some (.ref m), some (.int (jI v))]) hls (by decide +kernel) rfl rfl rfl (Nat.le_of_ble_eq_true rfl) ?_
  intro K hk he hl0 hF hG0
  refine j_ald4 hk dX4_plain_0 rfl rfl ?_
  refine j_iconst (n := 0) hk dX4_plain_1 ?_
  refine j_mput hE hk hF 4 (by decide) rfl q2618 rfl rfl rfl rfl dX4_plain_2 ?_
  refine j_ild4 hk dX4_plain_5 rfl rfl ?_
  refine j_miret hk he rfl dX4_plain_6 (Nat.le_refl _) (Nat.le_refl _) ?_
  exact ⟨rfl, rfl, rfl⟩
set_option maxHeartbeats 1500000 in
/-- checked(Z)I -/
theorem mc_checked {l : Launch} {E : jE} {m : Nat} {ad : Nat → Nat} {A : Nat → Nat → Int} {F : Nat → Int} (hls : l.stackTraces = false) (hE : jSt E) {b : Bool}  : mC l E yX4_checked cX4_checked 2 (some .int) 1 12 [.ref m, .int (jI (jB b))] m ad A F (mQi E m ad (fun r A2 F2 => jB (!b) = r ∧ A = A2 ∧ iup F 4 (jB (!b)) = F2)) := by
  refine m_start (own := "ScheduleAnalyzerModel") (vs := [some (.ref m), some (.int (jI (jB b)))]) hls (by decide +kernel) rfl rfl rfl (Nat.le_of_ble_eq_true rfl) ?_
  intro K hk he hl0 hF hG0
  refine j_ald4 hk dX4_checked_0 rfl rfl ?_
  refine j_ild4 hk dX4_checked_1 rfl rfl ?_
  refine j_ifeqB hk dX4_checked_2 rfl (tgt := 9) (fun h2 => ?_) (fun h2 => ?_)
  · refine j_iconst (n := 1) hk dX4_checked_9 ?_
    refine j_mput hE hk hF 4 (by decide) rfl q2618 rfl rfl rfl rfl dX4_checked_10 ?_
    refine j_ald4 hk dX4_checked_13 rfl rfl ?_
    refine j_mget hE hk 4 (by decide) rfl q2618 dX4_checked_14 ?_
    refine j_miret hk he rfl dX4_checked_17 (Nat.le_refl _) (Nat.le_refl _) ?_
    refine ⟨?_, rfl, ?_⟩ <;> simp [*, iup_s, jB]
  · refine j_iconst (n := 0) hk dX4_checked_5 ?_
    refine j_goto (tgt := 10) hk dX4_checked_6 rfl ?_
    refine j_mput hE hk hF 4 (by decide) rfl q2618 rfl rfl rfl rfl dX4_checked_10 ?_
    refine j_ald4 hk dX4_checked_13 rfl rfl ?_
    refine j_mget hE hk 4 (by decide) rfl q2618 dX4_checked_14 ?_
    refine j_miret hk he rfl dX4_checked_17 (Nat.le_refl _) (Nat.le_refl _) ?_
    refine ⟨?_, rfl, ?_⟩ <;> simp [*, iup_s, jB]
set_option maxHeartbeats 1500000 in
/-- count(I)I -/
theorem mc_count {l : Launch} {E : jE} {m : Nat} {ad : Nat → Nat} {A : Nat → Nat → Int} {F : Nat → Int} (hls : l.stackTraces = false) (hE : jSt E) {s : Nat} {S : Nat → List Op} {V : Nat → Nat} (hN : nowIs (A 0) S V) (hs : s < 4) : mC l E yX4_count cX4_count 2 (some .int) 1 12 [.ref m, .int (jI ((s : Nat) : Int))] m ad A F (mQi E m ad (fun r A2 F2 => (((S s).length : Nat) : Int) = r ∧ A = A2 ∧ F = F2)) := by
  refine m_start (own := "ScheduleAnalyzerModel") (vs := [some (.ref m), some (.int (jI ((s : Nat) : Int)))]) hls (by decide +kernel) rfl rfl rfl (Nat.le_of_ble_eq_true rfl) ?_
  intro K hk he hl0 hF hG0
  refine j_ald4 hk dX4_count_0 rfl rfl ?_
  refine j_mgetA hE hk 0 (by decide) rfl q2614 dX4_count_1 ?_
  refine j_bipush (n := 21) hk rfl dX4_count_4 ?_
  refine j_ild4 hk dX4_count_6 rfl rfl ?_
  refine j_imul hk dX4_count_7 ?_
  refine j_mald hE hk 0 0 rfl (21 * s) (by omega) (by simp only [mLen]; omega) dX4_count_8 ?_
  refine j_top (z2 := (((S s).length : Nat) : Int)) (hN.cnt hs) ?_
  refine j_miret hk he rfl dX4_count_9 (Nat.le_refl _) (Nat.le_refl _) ?_
  exact ⟨rfl, rfl, rfl⟩
set_option maxHeartbeats 1500000 in
/-- code(II)I -/
theorem mc_code {l : Launch} {E : jE} {m : Nat} {ad : Nat → Nat} {A : Nat → Nat → Int} {F : Nat → Int} (hls : l.stackTraces = false) (hE : jSt E) {s : Nat} {i : Nat} {S : Nat → List Op} {V : Nat → Nat} (hN : nowIs (A 0) S V) (hs : s < 4) (hi : i < (S s).length) : mC l E yX4_code cX4_code 3 (some .int) 1 12 [.ref m, .int (jI ((s : Nat) : Int)), .int (jI ((i : Nat) : Int))] m ad A F (mQi E m ad (fun r A2 F2 => ((opV (opAt (S s) i) : Nat) : Int) = r ∧ A = A2 ∧ F = F2)) := by
  refine m_start (own := "ScheduleAnalyzerModel") (vs := [some (.ref m), some (.int (jI ((s : Nat) : Int))), some (.int (jI ((i : Nat) : Int)))]) hls (by decide +kernel) rfl rfl rfl (Nat.le_of_ble_eq_true rfl) ?_
  intro K hk he hl0 hF hG0
  have hL := hN.len hs
  refine j_ald4 hk dX4_code_0 rfl rfl ?_
  refine j_mgetA hE hk 0 (by decide) rfl q2614 dX4_code_1 ?_
  refine j_bipush (n := 21) hk rfl dX4_code_4 ?_
  refine j_ild4 hk dX4_code_6 rfl rfl ?_
  refine j_imul hk dX4_code_7 ?_
  refine j_iconst (n := 1) hk dX4_code_8 ?_
  refine j_iadd hk dX4_code_9 ?_
  refine j_ild4 hk dX4_code_10 rfl rfl ?_
  refine j_iadd hk dX4_code_11 ?_
  refine j_mald hE hk 0 0 rfl (((21 * s) + 1) + i) (by omega) (by simp only [mLen]; omega) dX4_code_12 ?_
  refine j_top (z2 := ((opV (opAt (S s) i) : Nat) : Int)) (hN.code hs hi) ?_
  refine j_miret hk he rfl dX4_code_13 (Nat.le_refl _) (Nat.le_refl _) ?_
  exact ⟨rfl, rfl, rfl⟩
set_option maxHeartbeats 1500000 in
/-- has(IIII)Z -/
theorem mc_has {l : Launch} {E : jE} {m : Nat} {ad : Nat → Nat} {A : Nat → Nat → Int} {F : Nat → Int} (hls : l.stackTraces = false) (hE : jSt E) {s : Nat} {t : Nat} {lo : Nat} {hi : Nat} {S : Nat → List Op} {V : Nat → Nat} (hN : nowIs (A 0) S V) (hs : s < 4) (h9 : t < 100 ∧ lo < 100 ∧ hi < 100) : mC l E yX4_has cX4_has 6 (some .boolean) 2 34 [.ref m, .int (jI ((s : Nat) : Int)), .int (jI ((t : Nat) : Int)), .int (jI ((lo : Nat) : Int)), .int (jI ((hi : Nat) : Int))] m ad A F (mQi E m ad (fun r A2 F2 => jB (opHas (S s) t lo hi) = r ∧ A = A2 ∧ F = F2)) := by
  refine m_start (own := "ScheduleAnalyzerModel") (vs := [some (.ref m), some (.int (jI ((s : Nat) : Int))), some (.int (jI ((t : Nat) : Int))), some (.int (jI ((lo : Nat) : Int))), some (.int (jI ((hi : Nat) : Int))), none]) hls (by decide +kernel) rfl rfl rfl (Nat.le_of_ble_eq_true rfl) ?_
  intro K hk he hl0 hF hG0
  have hL := hN.len hs
  refine j_iconst (n := 0) hk dX4_has_0 ?_
  refine j_ist5 hk dX4_has_1 rfl ?_
  have loop3 : ∀ (fuel3 : Nat) (k : Nat), (S s).length - k < fuel3 → k ≤ (S s).length → ((S s).take k).any (fun o => oT o == t && (decide (lo ≤ oK o) && decide (oK o ≤ hi))) = false → jW K (mAs E m ad A F) 0 0 3 [some (.ref m), some (.int (jI ((s : Nat) : Int))), some (.int (jI ((t : Nat) : Int))), some (.int (jI ((lo : Nat) : Int))), some (.int (jI ((hi : Nat) : Int))), some (.int (jI ((k : Nat) : Int)))] [] := by
    intro fuel3
    induction fuel3 with
    | zero => intro k hm; exact absurd hm (Nat.not_lt_zero _)
    | succ fuel3 ih3 =>
      intro k hm3 hk1 hk2
      refine j_ild hk dX4_has_3 rfl ?_
      refine j_ald4 hk dX4_has_5 rfl rfl ?_
      refine j_ild4 hk dX4_has_6 rfl rfl ?_
      refine j_mVi hE hk hl0 hF (mc_count hls hE (A := A) (F := F) (s := s) (by first | assumption | omega) (by first | assumption | omega)) 1 (lw_V q2801 q2803 qs60 q145 q2804) (by decide +kernel) rfl (by decide) (by decide) rfl (Nat.le_of_ble_eq_true rfl) dX4_has_7 ?_
      rintro _ _ _ ⟨rfl, rfl, rfl⟩
      refine j_icmp_ge hk (by omega) (by omega) dX4_has_10 rfl (tgt := 54) (fun h10 => ?_) (fun h10 => ?_)
      · refine j_iconst (n := 0) hk dX4_has_54 ?_
        refine j_miret hk he rfl dX4_has_55 (Nat.le_refl _) (Nat.le_refl _) ?_
        exact ⟨by rw [show opHas (S s) t lo hi = false from (any_f _ (by omega)).symm.trans hk2]; rfl, rfl, rfl⟩
      · have hlt : k < (S s).length := by omega
        obtain ⟨o1, o2, o3, o4, o5⟩ := hN.ok hs hlt
        have o6 := opV_lt (hN.ok hs hlt)
        refine j_ald4 hk dX4_has_13 rfl rfl ?_
        refine j_ild4 hk dX4_has_14 rfl rfl ?_
        refine j_ild hk dX4_has_15 rfl ?_
        refine j_mVi hE hk hl0 hF (mc_code hls hE (A := A) (F := F) (s := s) (i := k) (by first | assumption | omega) (by first | assumption | omega) (by first | assumption | omega)) 2 (lw_V q2821 q2823 qs64 q145 q2824) (by decide +kernel) rfl (by decide) (by decide) rfl (Nat.le_of_ble_eq_true rfl) dX4_has_17 ?_
        rintro _ _ _ ⟨rfl, rfl, rfl⟩
        refine j_sSi hk hl0 (sc_transactionOf hls (c := opV (opAt (S s) k)) (by first | assumption | omega)) 1 (lw_S q2787 q2788 q145 q2789) (by decide +kernel) rfl (by decide) (by decide) rfl (Nat.le_of_ble_eq_true rfl) dX4_has_20 ?_
        refine j_top (z2 := ((oT (opAt (S s) k) : Nat) : Int)) (by rw [opV_t (hN.ok hs hlt)]) ?_
        refine j_ild4 hk dX4_has_23 rfl rfl ?_
        refine j_icmp_ne hk (by omega) (by omega) dX4_has_24 rfl (tgt := 48) (fun h24 => ?_) (fun h24 => ?_)
        · refine j_iinc5 hk dX4_has_48 rfl ?_
          refine j_goto (tgt := 3) hk dX4_has_51 rfl ?_
          exact ih3 (k + 1) (by omega) (by omega) (by rw [any_s _ hlt, hk2]; grind)
        · refine j_ald4 hk dX4_has_27 rfl rfl ?_
          refine j_ild4 hk dX4_has_28 rfl rfl ?_
          refine j_ild hk dX4_has_29 rfl ?_
          refine j_mVi hE hk hl0 hF (mc_code hls hE (A := A) (F := F) (s := s) (i := k) (by first | assumption | omega) (by first | assumption | omega) (by first | assumption | omega)) 2 (lw_V q2821 q2823 qs64 q145 q2824) (by decide +kernel) rfl (by decide) (by decide) rfl (Nat.le_of_ble_eq_true rfl) dX4_has_31 ?_
          rintro _ _ _ ⟨rfl, rfl, rfl⟩
          refine j_sSi hk hl0 (sc_kindOf hls (c := opV (opAt (S s) k)) (by first | assumption | omega)) 1 (lw_S q2790 q2791 q145 q2792) (by decide +kernel) rfl (by decide) (by decide) rfl (Nat.le_of_ble_eq_true rfl) dX4_has_34 ?_
          refine j_top (z2 := ((oK (opAt (S s) k) : Nat) : Int)) (by rw [opV_k (hN.ok hs hlt)]) ?_
          refine j_ild4 hk dX4_has_37 rfl rfl ?_
          refine j_ild hk dX4_has_38 rfl ?_
          refine j_sSi hk hl0 (sc_in hls (v := ((oK (opAt (S s) k) : Nat) : Int)) (a := ((lo : Nat) : Int)) (b := ((hi : Nat) : Int)) (by omega)) 3 (lw_S q2734 q2735 q145 q2736) (by decide +kernel) rfl (by decide) (by decide) rfl (Nat.le_of_ble_eq_true rfl) dX4_has_40 ?_
          refine j_ifeqB hk dX4_has_43 rfl (tgt := 48) (fun h43 => ?_) (fun h43 => ?_)
          · refine j_iinc5 hk dX4_has_48 rfl ?_
            refine j_goto (tgt := 3) hk dX4_has_51 rfl ?_
            exact ih3 (k + 1) (by omega) (by omega) (by rw [any_s _ hlt, hk2]; grind)
          · refine j_iconst (n := 1) hk dX4_has_46 ?_
            refine j_miret hk he rfl dX4_has_47 (Nat.le_refl _) (Nat.le_refl _) ?_
            exact ⟨by rw [show opHas (S s) t lo hi = true from any_at _ hlt (by simp_all; omega)]; rfl, rfl, rfl⟩
  exact loop3 _ 0 (Nat.lt_succ_self _) (Nat.zero_le _) (rfl)
set_option maxHeartbeats 1500000 in
/-- isPresent(II)Z -/
theorem mc_isPresent {l : Launch} {E : jE} {m : Nat} {ad : Nat → Nat} {A : Nat → Nat → Int} {F : Nat → Int} (hls : l.stackTraces = false) (hE : jSt E) {s : Nat} {t : Nat} {S : Nat → List Op} {V : Nat → Nat} (hN : nowIs (A 0) S V) (hs : s < 4) (h9 : t < 100) : mC l E yX4_isPresent cX4_isPresent 3 (some .boolean) 3 59 [.ref m, .int (jI ((s : Nat) : Int)), .int (jI ((t : Nat) : Int))] m ad A F (mQi E m ad (fun r A2 F2 => jB (opHas (S s) t 0 3) = r ∧ A = A2 ∧ F = F2)) := by
  refine m_start (own := "ScheduleAnalyzerModel") (vs := [some (.ref m), some (.int (jI ((s : Nat) : Int))), some (.int (jI ((t : Nat) : Int)))]) hls (by decide +kernel) rfl rfl rfl (Nat.le_of_ble_eq_true rfl) ?_
  intro K hk he hl0 hF hG0
  refine j_ald4 hk dX4_isPresent_0 rfl rfl ?_
  refine j_ild4 hk dX4_isPresent_1 rfl rfl ?_
  refine j_ild4 hk dX4_isPresent_2 rfl rfl ?_
  refine j_iconst (n := 0) hk dX4_isPresent_3 ?_
  refine j_iconst (n := 3) hk dX4_isPresent_4 ?_
  refine j_mVi hE hk hl0 hF (mc_has hls hE (A := A) (F := F) (s := s) (t := t) (lo := 0) (hi := 3) (by first | assumption | omega) (by first | assumption | omega) (by first | assumption | omega)) 4 (lw_V q2817 q2819 qs63 q145 q2820) (by decide +kernel) rfl (by decide) (by decide) rfl (Nat.le_of_ble_eq_true rfl) dX4_isPresent_5 ?_
  rintro _ _ _ ⟨rfl, rfl, rfl⟩
  refine j_miret hk he (jn_bool _) dX4_isPresent_8 (Nat.le_refl _) (Nat.le_refl _) ?_
  exact ⟨rfl, rfl, rfl⟩
set_option maxHeartbeats 1500000 in
/-- isAborted(II)Z -/
theorem mc_isAborted {l : Launch} {E : jE} {m : Nat} {ad : Nat → Nat} {A : Nat → Nat → Int} {F : Nat → Int} (hls : l.stackTraces = false) (hE : jSt E) {s : Nat} {t : Nat} {S : Nat → List Op} {V : Nat → Nat} (hN : nowIs (A 0) S V) (hs : s < 4) (h9 : t < 100) : mC l E yX4_isAborted cX4_isAborted 3 (some .boolean) 3 59 [.ref m, .int (jI ((s : Nat) : Int)), .int (jI ((t : Nat) : Int))] m ad A F (mQi E m ad (fun r A2 F2 => jB (opHas (S s) t 3 3) = r ∧ A = A2 ∧ F = F2)) := by
  refine m_start (own := "ScheduleAnalyzerModel") (vs := [some (.ref m), some (.int (jI ((s : Nat) : Int))), some (.int (jI ((t : Nat) : Int)))]) hls (by decide +kernel) rfl rfl rfl (Nat.le_of_ble_eq_true rfl) ?_
  intro K hk he hl0 hF hG0
  refine j_ald4 hk dX4_isAborted_0 rfl rfl ?_
  refine j_ild4 hk dX4_isAborted_1 rfl rfl ?_
  refine j_ild4 hk dX4_isAborted_2 rfl rfl ?_
  refine j_iconst (n := 3) hk dX4_isAborted_3 ?_
  refine j_iconst (n := 3) hk dX4_isAborted_4 ?_
  refine j_mVi hE hk hl0 hF (mc_has hls hE (A := A) (F := F) (s := s) (t := t) (lo := 3) (hi := 3) (by first | assumption | omega) (by first | assumption | omega) (by first | assumption | omega)) 4 (lw_V q2817 q2819 qs63 q145 q2820) (by decide +kernel) rfl (by decide) (by decide) rfl (Nat.le_of_ble_eq_true rfl) dX4_isAborted_5 ?_
  rintro _ _ _ ⟨rfl, rfl, rfl⟩
  refine j_miret hk he (jn_bool _) dX4_isAborted_8 (Nat.le_refl _) (Nat.le_refl _) ?_
  exact ⟨rfl, rfl, rfl⟩
set_option maxHeartbeats 1500000 in
/-- isAccess(I)Z -/
theorem mc_isAccess {l : Launch} {E : jE} {m : Nat} {ad : Nat → Nat} {A : Nat → Nat → Int} {F : Nat → Int} (hls : l.stackTraces = false) (hE : jSt E) {k : Nat} {L : List Op} (hL : laid A F L) (hk1 : k < L.length) : mC l E yX4_isAccess cX4_isAccess 2 (some .boolean) 1 12 [.ref m, .int (jI ((k : Nat) : Int))] m ad A F (mQi E m ad (fun r A2 F2 => jB (decide (oK (opAt L k) < 2)) = r ∧ A = A2 ∧ F = F2)) := by
  refine m_start (own := "ScheduleAnalyzerModel") (vs := [some (.ref m), some (.int (jI ((k : Nat) : Int)))]) hls (by decide +kernel) rfl rfl rfl (Nat.le_of_ble_eq_true rfl) ?_
  intro K hk he hl0 hF hG0
  have hlen := hL.len
  obtain ⟨o1, o2, o3, o4, o5⟩ := hL.ok hk1
  obtain ⟨l1, l2, l3⟩ := hL.2.2 k hk1
  refine j_ald4 hk dX4_isAccess_0 rfl rfl ?_
  refine j_mgetA hE hk 13 (by decide) rfl q2627 dX4_isAccess_1 ?_
  refine j_ild4 hk dX4_isAccess_4 rfl rfl ?_
  refine j_mald hE hk 13 6 rfl (k) (by omega) (by simp only [mLen]; omega) dX4_isAccess_5 ?_
  refine j_top (z2 := ((oK (opAt L k) : Nat) : Int)) (l1) ?_
  refine j_iconst (n := 2) hk dX4_isAccess_6 ?_
  refine j_icmp_ge hk (by omega) (by omega) dX4_isAccess_7 rfl (tgt := 14) (fun h7 => ?_) (fun h7 => ?_)
  · refine j_iconst (n := 0) hk dX4_isAccess_14 ?_
    refine j_miret hk he rfl dX4_isAccess_15 (Nat.le_refl _) (Nat.le_refl _) ?_
    exact ⟨by simp [jB, *]; try omega, rfl, rfl⟩
  · refine j_iconst (n := 1) hk dX4_isAccess_10 ?_
    refine j_goto (tgt := 15) hk dX4_isAccess_11 rfl ?_
    refine j_miret hk he rfl dX4_isAccess_15 (Nat.le_refl _) (Nat.le_refl _) ?_
    exact ⟨by simp [jB, *]; try omega, rfl, rfl⟩
