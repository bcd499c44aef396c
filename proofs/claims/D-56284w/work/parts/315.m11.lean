set_option maxHeartbeats 1500000 in
/-- operationCount(I)I -/
theorem mc_operationCount {l : Launch} {E : jE} {m : Nat} {ad : Nat → Nat} {A : Nat → Nat → Int} {F : Nat → Int} (hls : l.stackTraces = false) (hE : jSt E) {si : Int} {g : SS} (hR : mR A F g) (hr : jr si) : mC l E yX4_operationCount cX4_operationCount 2 (some .int) 3 54 [.ref m, .int (jI si)] m ad A F (mQi E m ad (fun r A2 F2 => mP (sp_operationCount g si) r A2 F2)) := by
  refine m_start (own := "ScheduleAnalyzerModel") (vs := [some (.ref m), some (.int (jI si))]) hls (by decide +kernel) rfl rfl rfl (Nat.le_of_ble_eq_true rfl) ?_
  intro K hk he hl0 hF hG0
  refine j_ald4 hk dX4_operationCount_0 rfl rfl ?_
  refine j_ild4 hk dX4_operationCount_1 rfl rfl ?_
  refine j_sSi hk hl0 (sc_isSlot hls (v := si) (hr)) 1 (lw_S q2752 q2753 q145 q2754) (by decide +kernel) rfl (by decide) (by decide) rfl (Nat.le_of_ble_eq_true rfl) dX4_operationCount_2 ?_
  refine j_mVi hE hk hl0 hF (mc_checked hls hE (A := A) (F := F) (b := decide (0 ≤ si ∧ si ≤ 3)) ) 1 (lw_V q2972 q2974 qs92 q145 q2975) (by decide +kernel) rfl (by decide) (by decide) rfl (Nat.le_of_ble_eq_true rfl) dX4_operationCount_5 ?_
  rintro _ _ _ ⟨rfl, rfl, rfl⟩
  refine j_ifleB hk dX4_operationCount_8 rfl (tgt := 15) (fun h8 => ?_) (fun h8 => ?_)
  · have q1 : 0 ≤ si ∧ si ≤ 3 := by simpa using h8
    obtain ⟨s, rfl⟩ : ∃ s : Nat, si = ((s : Nat) : Int) := ⟨si.toNat, by omega⟩
    have e1 : isSl (s : Int) = true := by simp [isSl]; omega
    have hm : mR A (iup F 4 (jB (!decide (0 ≤ (s : Int) ∧ (s : Int) ≤ 3)))) g := hR.up4
    have ht : (iup F 4 (jB (!decide (0 ≤ (s : Int) ∧ (s : Int) ≤ 3)))) 4 = 0 := by rw [iup_s, h8]; rfl
    refine j_ald4 hk dX4_operationCount_15 rfl rfl ?_
    refine j_ild4 hk dX4_operationCount_16 rfl rfl ?_
    refine j_mVi hE hk hl0 hF (mc_count hls hE (A := A) (F := (iup F 4 (jB (!(decide (0 ≤ ((s : Nat) : Int) ∧ ((s : Nat) : Int) ≤ 3)))))) (s := s) (S := g.1.1) (V := g.1.2) (hm.1) (by omega)) 1 (lw_V q2801 q2803 qs60 q145 q2804) (by decide +kernel) rfl (by decide) (by decide) rfl (Nat.le_of_ble_eq_true rfl) dX4_operationCount_17 ?_
    rintro _ _ _ ⟨rfl, rfl, rfl⟩
    refine j_miret hk he rfl dX4_operationCount_20 (Nat.le_refl _) (Nat.le_refl _) ?_
    have e : sp_operationCount g (s : Int) = (0, (((g.1.1 s).length : Nat) : Int), g) := by simp [sp_operationCount, e1]
    rw [mP, e]
    exact ⟨rfl, ht, hm⟩
  · refine j_iconst (n := 0) hk dX4_operationCount_11 ?_
    refine j_goto (tgt := 20) hk dX4_operationCount_12 rfl ?_
    refine j_miret hk he rfl dX4_operationCount_20 (Nat.le_refl _) (Nat.le_refl _) ?_
    have e : sp_operationCount g si = (1, 0, g) := by
      have : isSl si = false := by have h := h8; rw [Bool.not_eq_true'] at h; exact h
      simp [sp_operationCount, this]
    rw [mP, e]
    exact ⟨rfl, by rw [iup_s, h8]; rfl, hR.up4⟩
set_option maxHeartbeats 1500000 in
/-- kindAt(II)C -/
theorem mc_kindAt {l : Launch} {E : jE} {m : Nat} {ad : Nat → Nat} {A : Nat → Nat → Int} {F : Nat → Int} (hls : l.stackTraces = false) (hE : jSt E) {si : Int} {pi : Int} {g : SS} (hR : mR A F g) (hr : jr si ∧ jr pi) : mC l E yX4_kindAt cX4_kindAt 3 (some .char) 4 76 [.ref m, .int (jI si), .int (jI pi)] m ad A F (mQi E m ad (fun r A2 F2 => mP (sp_kindAt g si pi) r A2 F2)) := by
  refine m_start (own := "ScheduleAnalyzerModel") (vs := [some (.ref m), some (.int (jI si)), some (.int (jI pi))]) hls (by decide +kernel) rfl rfl rfl (Nat.le_of_ble_eq_true rfl) ?_
  intro K hk he hl0 hF hG0
  refine j_ald4 hk dX4_kindAt_0 rfl rfl ?_
  refine j_ald4 hk dX4_kindAt_1 rfl rfl ?_
  refine j_ild4 hk dX4_kindAt_2 rfl rfl ?_
  refine j_ild4 hk dX4_kindAt_3 rfl rfl ?_
  refine j_mVi hE hk hl0 hF (mc_isOperation hls hE (A := A) (F := F) (s := si) (p := pi) (S := g.1.1) (V := g.1.2) (hR.1) (hr)) 2 (lw_V q2833 q2835 qs65 q145 q2836) (by decide +kernel) rfl (by decide) (by decide) rfl (Nat.le_of_ble_eq_true rfl) dX4_kindAt_4 ?_
  rintro _ _ _ ⟨rfl, rfl, rfl⟩
  refine j_mVi hE hk hl0 hF (mc_checked hls hE (A := A) (F := F) (b := isOpB g.1.1 si pi) ) 1 (lw_V q2972 q2974 qs92 q145 q2975) (by decide +kernel) rfl (by decide) (by decide) rfl (Nat.le_of_ble_eq_true rfl) dX4_kindAt_7 ?_
  rintro _ _ _ ⟨rfl, rfl, rfl⟩
  refine j_ifleB hk dX4_kindAt_10 rfl (tgt := 18) (fun h10 => ?_) (fun h10 => ?_)
  · have q1 := h10
    simp only [isOpB, Bool.and_eq_true, decide_eq_true_eq, Bool.not_eq_true', Bool.not_eq_false', Bool.not_eq_eq_eq_not, Bool.not_true, Bool.not_false] at q1
    obtain ⟨s, rfl⟩ : ∃ s : Nat, si = ((s : Nat) : Int) := ⟨si.toNat, by omega⟩
    obtain ⟨p, rfl⟩ : ∃ p : Nat, pi = ((p : Nat) : Int) := ⟨pi.toNat, by omega⟩
    simp only [Int.toNat_natCast] at q1
    have hpl : p < (g.1.1 s).length := by omega
    have hok := hR.1.ok (s := s) (by omega) hpl
    obtain ⟨o1, o2, o3, o4, o5⟩ := hok
    have hok := hR.1.ok (s := s) (by omega) hpl
    have hv := opV_lt hok
    have ht : (iup F 4 (jB (!isOpB g.1.1 (s : Int) (p : Int)))) 4 = 0 := by rw [iup_s, h10]; rfl
    refine j_ald4 hk dX4_kindAt_18 rfl rfl ?_
    refine j_ild4 hk dX4_kindAt_19 rfl rfl ?_
    refine j_ild4 hk dX4_kindAt_20 rfl rfl ?_
    refine j_mVi hE hk hl0 hF (mc_code hls hE (A := A) (F := (iup F 4 (jB (!(isOpB g.1.1 ((s : Nat) : Int) ((p : Nat) : Int)))))) (s := s) (i := p) (S := g.1.1) (V := g.1.2) (hR.1) (by omega) (hpl)) 2 (lw_V q2821 q2823 qs64 q145 q2824) (by decide +kernel) rfl (by decide) (by decide) rfl (Nat.le_of_ble_eq_true rfl) dX4_kindAt_21 ?_
    rintro _ _ _ ⟨rfl, rfl, rfl⟩
    refine j_sSi hk hl0 (sc_kindOf hls (c := opV (opAt (g.1.1 s) p)) (by omega)) 1 (lw_S q2790 q2791 q145 q2792) (by decide +kernel) rfl (by decide) (by decide) rfl (Nat.le_of_ble_eq_true rfl) dX4_kindAt_24 ?_
    refine j_top (z2 := ((oK (opAt (g.1.1 s) p) : Nat) : Int)) (by rw [opV_k hok]) ?_
    refine j_sSi hk hl0 (sc_letterOfKind hls (k := oK (opAt (g.1.1 s) p)) (by omega)) 1 (lw_S q2992 q2993 q145 q2994) (by decide +kernel) rfl (by decide) (by decide) rfl (Nat.le_of_ble_eq_true rfl) dX4_kindAt_27 ?_
    refine j_i2c hk dX4_kindAt_30 ?_
    refine j_top (z2 := ((letK (oK (opAt (g.1.1 s) p)) : Nat) : Int)) (by have := letK_lt (oK (opAt (g.1.1 s) p)); omega) ?_
    refine j_miret hk he (jn_charI (by have := letK_lt (oK (opAt (g.1.1 s) p)); omega) (by have := letK_lt (oK (opAt (g.1.1 s) p)); omega)) dX4_kindAt_31 (Nat.le_refl _) (Nat.le_refl _) ?_
    have e : sp_kindAt g (s : Int) (p : Int) = (0, ((letK (oK (opAt (g.1.1 s) p)) : Nat) : Int), g) := by simp [sp_kindAt, (show isOpB g.1.1 (s : Int) (p : Int) = true by simpa using h10)]
    rw [mP, e]
    exact ⟨rfl, ht, hR.up4⟩
  · refine j_bipush (n := 32) hk rfl dX4_kindAt_13 ?_
    refine j_goto (tgt := 31) hk dX4_kindAt_15 rfl ?_
    refine j_miret hk he (jn_charI (by omega) (by omega)) dX4_kindAt_31 (Nat.le_refl _) (Nat.le_refl _) ?_
    have e : sp_kindAt g si pi = (1, 32, g) := by simp [sp_kindAt, (show isOpB g.1.1 si pi = false by simpa using h10)]
    rw [mP, e]
    exact ⟨rfl, by rw [iup_s, h10]; rfl, hR.up4⟩
set_option maxHeartbeats 1500000 in
/-- transactionAt(II)I -/
theorem mc_transactionAt {l : Launch} {E : jE} {m : Nat} {ad : Nat → Nat} {A : Nat → Nat → Int} {F : Nat → Int} (hls : l.stackTraces = false) (hE : jSt E) {si : Int} {pi : Int} {g : SS} (hR : mR A F g) (hr : jr si ∧ jr pi) : mC l E yX4_transactionAt cX4_transactionAt 3 (some .int) 4 76 [.ref m, .int (jI si), .int (jI pi)] m ad A F (mQi E m ad (fun r A2 F2 => mP (sp_transactionAt g si pi) r A2 F2)) := by
  refine m_start (own := "ScheduleAnalyzerModel") (vs := [some (.ref m), some (.int (jI si)), some (.int (jI pi))]) hls (by decide +kernel) rfl rfl rfl (Nat.le_of_ble_eq_true rfl) ?_
  intro K hk he hl0 hF hG0
  refine j_ald4 hk dX4_transactionAt_0 rfl rfl ?_
  refine j_ald4 hk dX4_transactionAt_1 rfl rfl ?_
  refine j_ild4 hk dX4_transactionAt_2 rfl rfl ?_
  refine j_ild4 hk dX4_transactionAt_3 rfl rfl ?_
  refine j_mVi hE hk hl0 hF (mc_isOperation hls hE (A := A) (F := F) (s := si) (p := pi) (S := g.1.1) (V := g.1.2) (hR.1) (hr)) 2 (lw_V q2833 q2835 qs65 q145 q2836) (by decide +kernel) rfl (by decide) (by decide) rfl (Nat.le_of_ble_eq_true rfl) dX4_transactionAt_4 ?_
  rintro _ _ _ ⟨rfl, rfl, rfl⟩
  refine j_mVi hE hk hl0 hF (mc_checked hls hE (A := A) (F := F) (b := isOpB g.1.1 si pi) ) 1 (lw_V q2972 q2974 qs92 q145 q2975) (by decide +kernel) rfl (by decide) (by decide) rfl (Nat.le_of_ble_eq_true rfl) dX4_transactionAt_7 ?_
  rintro _ _ _ ⟨rfl, rfl, rfl⟩
  refine j_ifleB hk dX4_transactionAt_10 rfl (tgt := 17) (fun h10 => ?_) (fun h10 => ?_)
  · have q1 := h10
    simp only [isOpB, Bool.and_eq_true, decide_eq_true_eq, Bool.not_eq_true', Bool.not_eq_false', Bool.not_eq_eq_eq_not, Bool.not_true, Bool.not_false] at q1
    obtain ⟨s, rfl⟩ : ∃ s : Nat, si = ((s : Nat) : Int) := ⟨si.toNat, by omega⟩
    obtain ⟨p, rfl⟩ : ∃ p : Nat, pi = ((p : Nat) : Int) := ⟨pi.toNat, by omega⟩
    simp only [Int.toNat_natCast] at q1
    have hpl : p < (g.1.1 s).length := by omega
    have hok := hR.1.ok (s := s) (by omega) hpl
    obtain ⟨o1, o2, o3, o4, o5⟩ := hok
    have hok := hR.1.ok (s := s) (by omega) hpl
    have hv := opV_lt hok
    have ht : (iup F 4 (jB (!isOpB g.1.1 (s : Int) (p : Int)))) 4 = 0 := by rw [iup_s, h10]; rfl
    refine j_ald4 hk dX4_transactionAt_17 rfl rfl ?_
    refine j_ild4 hk dX4_transactionAt_18 rfl rfl ?_
    refine j_ild4 hk dX4_transactionAt_19 rfl rfl ?_
    refine j_mVi hE hk hl0 hF (mc_code hls hE (A := A) (F := (iup F 4 (jB (!(isOpB g.1.1 ((s : Nat) : Int) ((p : Nat) : Int)))))) (s := s) (i := p) (S := g.1.1) (V := g.1.2) (hR.1) (by omega) (hpl)) 2 (lw_V q2821 q2823 qs64 q145 q2824) (by decide +kernel) rfl (by decide) (by decide) rfl (Nat.le_of_ble_eq_true rfl) dX4_transactionAt_20 ?_
    rintro _ _ _ ⟨rfl, rfl, rfl⟩
    refine j_sSi hk hl0 (sc_transactionOf hls (c := opV (opAt (g.1.1 s) p)) (by omega)) 1 (lw_S q2787 q2788 q145 q2789) (by decide +kernel) rfl (by decide) (by decide) rfl (Nat.le_of_ble_eq_true rfl) dX4_transactionAt_23 ?_
    refine j_top (z2 := ((oT (opAt (g.1.1 s) p) : Nat) : Int)) (by rw [opV_t hok]) ?_
    refine j_miret hk he rfl dX4_transactionAt_26 (Nat.le_refl _) (Nat.le_refl _) ?_
    have e : sp_transactionAt g (s : Int) (p : Int) = (0, ((oT (opAt (g.1.1 s) p) : Nat) : Int), g) := by simp [sp_transactionAt, (show isOpB g.1.1 (s : Int) (p : Int) = true by simpa using h10)]
    rw [mP, e]
    exact ⟨rfl, ht, hR.up4⟩
  · refine j_iconst (n := 0) hk dX4_transactionAt_13 ?_
    refine j_goto (tgt := 26) hk dX4_transactionAt_14 rfl ?_
    refine j_miret hk he rfl dX4_transactionAt_26 (Nat.le_refl _) (Nat.le_refl _) ?_
    have e : sp_transactionAt g si pi = (1, 0, g) := by simp [sp_transactionAt, (show isOpB g.1.1 si pi = false by simpa using h10)]
    rw [mP, e]
    exact ⟨rfl, by rw [iup_s, h10]; rfl, hR.up4⟩
set_option maxHeartbeats 1500000 in
/-- itemAt(II)C -/
theorem mc_itemAt {l : Launch} {E : jE} {m : Nat} {ad : Nat → Nat} {A : Nat → Nat → Int} {F : Nat → Int} (hls : l.stackTraces = false) (hE : jSt E) {si : Int} {pi : Int} {g : SS} (hR : mR A F g) (hr : jr si ∧ jr pi) : mC l E yX4_itemAt cX4_itemAt 3 (some .char) 4 76 [.ref m, .int (jI si), .int (jI pi)] m ad A F (mQi E m ad (fun r A2 F2 => mP (sp_itemAt g si pi) r A2 F2)) := by
  refine m_start (own := "ScheduleAnalyzerModel") (vs := [some (.ref m), some (.int (jI si)), some (.int (jI pi))]) hls (by decide +kernel) rfl rfl rfl (Nat.le_of_ble_eq_true rfl) ?_
  intro K hk he hl0 hF hG0
  refine j_ald4 hk dX4_itemAt_0 rfl rfl ?_
  refine j_ald4 hk dX4_itemAt_1 rfl rfl ?_
  refine j_ild4 hk dX4_itemAt_2 rfl rfl ?_
  refine j_ild4 hk dX4_itemAt_3 rfl rfl ?_
  refine j_mVi hE hk hl0 hF (mc_isOperation hls hE (A := A) (F := F) (s := si) (p := pi) (S := g.1.1) (V := g.1.2) (hR.1) (hr)) 2 (lw_V q2833 q2835 qs65 q145 q2836) (by decide +kernel) rfl (by decide) (by decide) rfl (Nat.le_of_ble_eq_true rfl) dX4_itemAt_4 ?_
  rintro _ _ _ ⟨rfl, rfl, rfl⟩
  refine j_ifneB hk dX4_itemAt_7 rfl (tgt := 14) (fun h7 => ?_) (fun h7 => ?_)
  · have q1 := h7
    simp only [isOpB, Bool.and_eq_true, decide_eq_true_eq, Bool.not_eq_true', Bool.not_eq_false', Bool.not_eq_eq_eq_not, Bool.not_true, Bool.not_false] at q1
    obtain ⟨s, rfl⟩ : ∃ s : Nat, si = ((s : Nat) : Int) := ⟨si.toNat, by omega⟩
    obtain ⟨p, rfl⟩ : ∃ p : Nat, pi = ((p : Nat) : Int) := ⟨pi.toNat, by omega⟩
    simp only [Int.toNat_natCast] at q1
    have hpl : p < (g.1.1 s).length := by omega
    have hok := hR.1.ok (s := s) (by omega) hpl
    obtain ⟨o1, o2, o3, o4, o5⟩ := hok
    have hok := hR.1.ok (s := s) (by omega) hpl
    have hv := opV_lt hok
    refine j_ald4 hk dX4_itemAt_14 rfl rfl ?_
    refine j_ild4 hk dX4_itemAt_15 rfl rfl ?_
    refine j_ild4 hk dX4_itemAt_16 rfl rfl ?_
    refine j_mVi hE hk hl0 hF (mc_code hls hE (A := A) (F := F) (s := s) (i := p) (S := g.1.1) (V := g.1.2) (hR.1) (by omega) (hpl)) 2 (lw_V q2821 q2823 qs64 q145 q2824) (by decide +kernel) rfl (by decide) (by decide) rfl (Nat.le_of_ble_eq_true rfl) dX4_itemAt_17 ?_
    rintro _ _ _ ⟨rfl, rfl, rfl⟩
    refine j_sSi hk hl0 (sc_kindOf hls (c := opV (opAt (g.1.1 s) p)) (by omega)) 1 (lw_S q2790 q2791 q145 q2792) (by decide +kernel) rfl (by decide) (by decide) rfl (Nat.le_of_ble_eq_true rfl) dX4_itemAt_20 ?_
    refine j_top (z2 := ((oK (opAt (g.1.1 s) p) : Nat) : Int)) (by rw [opV_k hok]) ?_
    refine j_iconst (n := 2) hk dX4_itemAt_23 ?_
    refine j_icmp_lt hk (by omega) (by omega) dX4_itemAt_24 rfl (tgt := 31) (fun h24 => ?_) (fun h24 => ?_)
    · refine j_iconst (n := 0) hk dX4_itemAt_31 ?_
      refine j_mput hE hk hF 4 (by decide) rfl q2618 rfl rfl rfl rfl dX4_itemAt_32 ?_
      refine j_ald4 hk dX4_itemAt_35 rfl rfl ?_
      refine j_mget hE hk 4 (by decide) rfl q2618 dX4_itemAt_36 ?_
      refine j_top (z2 := 0) (iup_s _ _ _) ?_
      refine j_if_le hk (by omega) dX4_itemAt_39 rfl (tgt := 47) (fun _ => ?_) (fun h => absurd h (by omega))
      refine j_bipush (n := 97) hk rfl dX4_itemAt_47 ?_
      refine j_ald4 hk dX4_itemAt_49 rfl rfl ?_
      refine j_ild4 hk dX4_itemAt_50 rfl rfl ?_
      refine j_ild4 hk dX4_itemAt_51 rfl rfl ?_
      refine j_mVi hE hk hl0 hF (mc_code hls hE (A := A) (F := (iup F 4 0)) (s := s) (i := p) (S := g.1.1) (V := g.1.2) (hR.1) (by omega) (hpl)) 2 (lw_V q2821 q2823 qs64 q145 q2824) (by decide +kernel) rfl (by decide) (by decide) rfl (Nat.le_of_ble_eq_true rfl) dX4_itemAt_52 ?_
      rintro _ _ _ ⟨rfl, rfl, rfl⟩
      refine j_bipush (n := 10) hk rfl dX4_itemAt_55 ?_
      refine j_irem hk (by omega) dX4_itemAt_57 ?_
      refine j_top (z2 := ((oI (opAt (g.1.1 s) p) : Nat) : Int)) (by rw [← opV_i hok]; rfl) ?_
      refine j_iadd hk dX4_itemAt_58 ?_
      refine j_i2c hk dX4_itemAt_59 ?_
      refine j_top (z2 := ((97 + oI (opAt (g.1.1 s) p) : Nat) : Int)) (by omega) ?_
      refine j_miret hk he (jn_charI (by omega) (by omega)) dX4_itemAt_60 (Nat.le_refl _) (Nat.le_refl _) ?_
      have e : sp_itemAt g (s : Int) (p : Int) = (0, ((97 + oI (opAt (g.1.1 s) p) : Nat) : Int), g) := by simp [sp_itemAt, h7]; omega
      rw [mP, e]
      exact ⟨rfl, iup_s _ _ _, hR.up4⟩
    · refine j_iconst (n := 2) hk dX4_itemAt_27 ?_
      refine j_goto (tgt := 32) hk dX4_itemAt_28 rfl ?_
      refine j_mput hE hk hF 4 (by decide) rfl q2618 rfl rfl rfl rfl dX4_itemAt_32 ?_
      refine j_ald4 hk dX4_itemAt_35 rfl rfl ?_
      refine j_mget hE hk 4 (by decide) rfl q2618 dX4_itemAt_36 ?_
      refine j_top (z2 := 2) (iup_s _ _ _) ?_
      refine j_if_le hk (by omega) dX4_itemAt_39 rfl (tgt := 47) (fun h => absurd h (by omega)) (fun _ => ?_)
      refine j_bipush (n := 32) hk rfl dX4_itemAt_42 ?_
      refine j_goto (tgt := 60) hk dX4_itemAt_44 rfl ?_
      refine j_miret hk he (jn_charI (by omega) (by omega)) dX4_itemAt_60 (Nat.le_refl _) (Nat.le_refl _) ?_
      have e : sp_itemAt g (s : Int) (p : Int) = (2, 32, g) := by simp [sp_itemAt, h7]; omega
      rw [mP, e]
      exact ⟨rfl, iup_s _ _ _, hR.up4⟩
  · refine j_iconst (n := 1) hk dX4_itemAt_10 ?_
    refine j_goto (tgt := 32) hk dX4_itemAt_11 rfl ?_
    refine j_mput hE hk hF 4 (by decide) rfl q2618 rfl rfl rfl rfl dX4_itemAt_32 ?_
    refine j_ald4 hk dX4_itemAt_35 rfl rfl ?_
    refine j_mget hE hk 4 (by decide) rfl q2618 dX4_itemAt_36 ?_
    refine j_top (z2 := 1) (iup_s _ _ _) ?_
    refine j_if_le hk (by omega) dX4_itemAt_39 rfl (tgt := 47) (fun h => absurd h (by omega)) (fun _ => ?_)
    refine j_bipush (n := 32) hk rfl dX4_itemAt_42 ?_
    refine j_goto (tgt := 60) hk dX4_itemAt_44 rfl ?_
    refine j_miret hk he (jn_charI (by omega) (by omega)) dX4_itemAt_60 (Nat.le_refl _) (Nat.le_refl _) ?_
    have e : sp_itemAt g si pi = (1, 32, g) := by simp [sp_itemAt, h7]
    rw [mP, e]
    exact ⟨rfl, iup_s _ _ _, hR.up4⟩
set_option maxHeartbeats 1500000 in
/-- stateOf(II)C -/
theorem mc_stateOf {l : Launch} {E : jE} {m : Nat} {ad : Nat → Nat} {A : Nat → Nat → Int} {F : Nat → Int} (hls : l.stackTraces = false) (hE : jSt E) {si : Int} {ti : Int} {g : SS} (hR : mR A F g) (hr : jr si ∧ jr ti) : mC l E yX4_stateOf cX4_stateOf 3 (some .char) 4 81 [.ref m, .int (jI si), .int (jI ti)] m ad A F (mQi E m ad (fun r A2 F2 => mP (sp_stateOf g si ti) r A2 F2)) := by
  refine m_start (own := "ScheduleAnalyzerModel") (vs := [some (.ref m), some (.int (jI si)), some (.int (jI ti))]) hls (by decide +kernel) rfl rfl rfl (Nat.le_of_ble_eq_true rfl) ?_
  intro K hk he hl0 hF hG0
  refine j_ald4 hk dX4_stateOf_0 rfl rfl ?_
  refine j_ild4 hk dX4_stateOf_1 rfl rfl ?_
  refine j_sSi hk hl0 (sc_isSlot hls (v := si) (hr.1)) 1 (lw_S q2752 q2753 q145 q2754) (by decide +kernel) rfl (by decide) (by decide) rfl (Nat.le_of_ble_eq_true rfl) dX4_stateOf_2 ?_
  refine j_ifneB hk dX4_stateOf_5 rfl (tgt := 12) (fun h5 => ?_) (fun h5 => ?_)
  · refine j_ild4 hk dX4_stateOf_12 rfl rfl ?_
    refine j_sSi hk hl0 (sc_isTransaction hls (v := ti) (hr.2)) 1 (lw_S q2774 q2775 q145 q2776) (by decide +kernel) rfl (by decide) (by decide) rfl (Nat.le_of_ble_eq_true rfl) dX4_stateOf_13 ?_
    refine j_ifneB hk dX4_stateOf_16 rfl (tgt := 23) (fun h16 => ?_) (fun h16 => ?_)
    · refine j_iconst (n := 0) hk dX4_stateOf_23 ?_
      refine j_mput hE hk hF 4 (by decide) rfl q2618 rfl rfl rfl rfl dX4_stateOf_24 ?_
      refine j_ald4 hk dX4_stateOf_27 rfl rfl ?_
      refine j_mget hE hk 4 (by decide) rfl q2618 dX4_stateOf_28 ?_
      refine j_top (z2 := 0) (iup_s _ _ _) ?_
      refine j_if_le hk (by omega) dX4_stateOf_31 rfl (tgt := 37) (fun _ => ?_) (fun h => absurd h (by omega))
      have q1 := of_decide_eq_true h5
      have q2 := of_decide_eq_true h16
      obtain ⟨s, rfl⟩ : ∃ s : Nat, si = ((s : Nat) : Int) := ⟨si.toNat, by omega⟩
      obtain ⟨t, rfl⟩ : ∃ t : Nat, ti = ((t : Nat) : Int) := ⟨ti.toNat, by omega⟩
      have e1 : isSl (s : Int) = true := by simp [isSl]; omega
      have e2 : isTr (t : Int) = true := by simp [isTr]; omega
      refine j_ald4 hk dX4_stateOf_37 rfl rfl ?_
      refine j_ild4 hk dX4_stateOf_38 rfl rfl ?_
      refine j_ild4 hk dX4_stateOf_39 rfl rfl ?_
      refine j_iconst (n := 2) hk dX4_stateOf_40 ?_
      refine j_iconst (n := 2) hk dX4_stateOf_41 ?_
      refine j_mVi hE hk hl0 hF (mc_has hls hE (A := A) (F := (iup F 4 0)) (s := s) (t := t) (lo := 2) (hi := 2) (S := g.1.1) (V := g.1.2) (hR.1) (by omega) (by omega)) 4 (lw_V q2817 q2819 qs63 q145 q2820) (by decide +kernel) rfl (by decide) (by decide) rfl (Nat.le_of_ble_eq_true rfl) dX4_stateOf_42 ?_
      rintro _ _ _ ⟨rfl, rfl, rfl⟩
      refine j_ifeqB hk dX4_stateOf_45 rfl (tgt := 53) (fun h45 => ?_) (fun h45 => ?_)
      · refine j_ald4 hk dX4_stateOf_53 rfl rfl ?_
        refine j_ild4 hk dX4_stateOf_54 rfl rfl ?_
        refine j_ild4 hk dX4_stateOf_55 rfl rfl ?_
        refine j_mVi hE hk hl0 hF (mc_isAborted hls hE (A := A) (F := (iup F 4 0)) (s := s) (t := t) (S := g.1.1) (V := g.1.2) (hR.1) (by omega) (by omega)) 2 (lw_V q2893 q2895 qs75 q145 q2896) (by decide +kernel) rfl (by decide) (by decide) rfl (Nat.le_of_ble_eq_true rfl) dX4_stateOf_56 ?_
        rintro _ _ _ ⟨rfl, rfl, rfl⟩
        refine j_ifeqB hk dX4_stateOf_59 rfl (tgt := 67) (fun h59 => ?_) (fun h59 => ?_)
        · refine j_ald4 hk dX4_stateOf_67 rfl rfl ?_
          refine j_ild4 hk dX4_stateOf_68 rfl rfl ?_
          refine j_ild4 hk dX4_stateOf_69 rfl rfl ?_
          refine j_mVi hE hk hl0 hF (mc_isPresent hls hE (A := A) (F := (iup F 4 0)) (s := s) (t := t) (S := g.1.1) (V := g.1.2) (hR.1) (by omega) (by omega)) 2 (lw_V q3007 q3009 qs93 q145 q3010) (by decide +kernel) rfl (by decide) (by decide) rfl (Nat.le_of_ble_eq_true rfl) dX4_stateOf_70 ?_
          rintro _ _ _ ⟨rfl, rfl, rfl⟩
          refine j_ifeqB hk dX4_stateOf_73 rfl (tgt := 81) (fun h73 => ?_) (fun h73 => ?_)
          · refine j_bipush (n := 45) hk rfl dX4_stateOf_81 ?_
            refine j_miret hk he (jn_charI (by omega) (by omega)) dX4_stateOf_83 (Nat.le_refl _) (Nat.le_refl _) ?_
            have e : sp_stateOf g (s : Int) (t : Int) = (0, 45, g) := by simp [sp_stateOf, e1, e2, h45, h59, h73]
            rw [mP, e]
            exact ⟨rfl, iup_s _ _ _, hR.up4⟩
          · refine j_bipush (n := 97) hk rfl dX4_stateOf_76 ?_
            refine j_goto (tgt := 83) hk dX4_stateOf_78 rfl ?_
            refine j_miret hk he (jn_charI (by omega) (by omega)) dX4_stateOf_83 (Nat.le_refl _) (Nat.le_refl _) ?_
            have e : sp_stateOf g (s : Int) (t : Int) = (0, 97, g) := by simp [sp_stateOf, e1, e2, h45, h59, h73]
            rw [mP, e]
            exact ⟨rfl, iup_s _ _ _, hR.up4⟩
        · refine j_bipush (n := 120) hk rfl dX4_stateOf_62 ?_
          refine j_goto (tgt := 83) hk dX4_stateOf_64 rfl ?_
          refine j_miret hk he (jn_charI (by omega) (by omega)) dX4_stateOf_83 (Nat.le_refl _) (Nat.le_refl _) ?_
          have e : sp_stateOf g (s : Int) (t : Int) = (0, 120, g) := by simp [sp_stateOf, e1, e2, h45, h59]
          rw [mP, e]
          exact ⟨rfl, iup_s _ _ _, hR.up4⟩
      · refine j_bipush (n := 99) hk rfl dX4_stateOf_48 ?_
        refine j_goto (tgt := 83) hk dX4_stateOf_50 rfl ?_
        refine j_miret hk he (jn_charI (by omega) (by omega)) dX4_stateOf_83 (Nat.le_refl _) (Nat.le_refl _) ?_
        have e : sp_stateOf g (s : Int) (t : Int) = (0, 99, g) := by simp [sp_stateOf, e1, e2, h45]
        rw [mP, e]
        exact ⟨rfl, iup_s _ _ _, hR.up4⟩
    · refine j_iconst (n := 2) hk dX4_stateOf_19 ?_
      refine j_goto (tgt := 24) hk dX4_stateOf_20 rfl ?_
      refine j_mput hE hk hF 4 (by decide) rfl q2618 rfl rfl rfl rfl dX4_stateOf_24 ?_
      refine j_ald4 hk dX4_stateOf_27 rfl rfl ?_
      refine j_mget hE hk 4 (by decide) rfl q2618 dX4_stateOf_28 ?_
      refine j_top (z2 := 2) (iup_s _ _ _) ?_
      refine j_if_le hk (by omega) dX4_stateOf_31 rfl (tgt := 37) (fun h => absurd h (by omega)) (fun _ => ?_)
      refine j_bipush (n := 32) hk rfl dX4_stateOf_34 ?_
      refine j_miret hk he (jn_charI (by omega) (by omega)) dX4_stateOf_36 (Nat.le_refl _) (Nat.le_refl _) ?_
      have e : sp_stateOf g si ti = (2, 32, g) := by simp [sp_stateOf, isSl, isTr, h5, h16]
      rw [mP, e]
      exact ⟨rfl, iup_s _ _ _, hR.up4⟩
  · refine j_iconst (n := 1) hk dX4_stateOf_8 ?_
    refine j_goto (tgt := 24) hk dX4_stateOf_9 rfl ?_
    refine j_mput hE hk hF 4 (by decide) rfl q2618 rfl rfl rfl rfl dX4_stateOf_24 ?_
    refine j_ald4 hk dX4_stateOf_27 rfl rfl ?_
    refine j_mget hE hk 4 (by decide) rfl q2618 dX4_stateOf_28 ?_
    refine j_top (z2 := 1) (iup_s _ _ _) ?_
    refine j_if_le hk (by omega) dX4_stateOf_31 rfl (tgt := 37) (fun h => absurd h (by omega)) (fun _ => ?_)
    refine j_bipush (n := 32) hk rfl dX4_stateOf_34 ?_
    refine j_miret hk he (jn_charI (by omega) (by omega)) dX4_stateOf_36 (Nat.le_refl _) (Nat.le_refl _) ?_
    have e : sp_stateOf g si ti = (1, 32, g) := by simp [sp_stateOf, isSl, h5]
    rw [mP, e]
    exact ⟨rfl, iup_s _ _ _, hR.up4⟩
set_option maxHeartbeats 1500000 in
/-- valueOf(C)I -/
theorem mc_valueOf {l : Launch} {E : jE} {m : Nat} {ad : Nat → Nat} {A : Nat → Nat → Int} {F : Nat → Int} (hls : l.stackTraces = false) (hE : jSt E) {ci : Int} {g : SS} (hR : mR A F g) (hr : jr ci) : mC l E yX4_valueOf cX4_valueOf 2 (some .int) 3 54 [.ref m, .int (jI ci)] m ad A F (mQi E m ad (fun r A2 F2 => mP (sp_valueOf g ci) r A2 F2)) := by
  refine m_start (own := "ScheduleAnalyzerModel") (vs := [some (.ref m), some (.int (jI ci))]) hls (by decide +kernel) rfl rfl rfl (Nat.le_of_ble_eq_true rfl) ?_
  intro K hk he hl0 hF hG0
  refine j_ald4 hk dX4_valueOf_0 rfl rfl ?_
  refine j_ild4 hk dX4_valueOf_1 rfl rfl ?_
  refine j_sSi hk hl0 (sc_isItem hls (v := ci) (hr)) 1 (lw_S q2777 q2778 q145 q2779) (by decide +kernel) rfl (by decide) (by decide) rfl (Nat.le_of_ble_eq_true rfl) dX4_valueOf_2 ?_
  refine j_mVi hE hk hl0 hF (mc_checked hls hE (A := A) (F := F) (b := decide (97 ≤ ci ∧ ci ≤ 100)) ) 1 (lw_V q2972 q2974 qs92 q145 q2975) (by decide +kernel) rfl (by decide) (by decide) rfl (Nat.le_of_ble_eq_true rfl) dX4_valueOf_5 ?_
  rintro _ _ _ ⟨rfl, rfl, rfl⟩
  refine j_ifleB hk dX4_valueOf_8 rfl (tgt := 15) (fun h8 => ?_) (fun h8 => ?_)
  · have q1 : 97 ≤ ci ∧ ci ≤ 100 := by simpa using h8
    obtain ⟨c, rfl⟩ : ∃ c : Nat, ci = ((c + 97 : Nat) : Int) := ⟨(ci - 97).toNat, by omega⟩
    refine j_ald4 hk dX4_valueOf_15 rfl rfl ?_
    refine j_mgetA hE hk 0 (by decide) rfl q2614 dX4_valueOf_16 ?_
    refine j_bipush (n := 84) hk rfl dX4_valueOf_19 ?_
    refine j_ild4 hk dX4_valueOf_21 rfl rfl ?_
    refine j_iadd hk dX4_valueOf_22 ?_
    refine j_bipush (n := 97) hk rfl dX4_valueOf_23 ?_
    refine j_isub hk dX4_valueOf_25 ?_
    refine j_top (z2 := ((84 + c : Nat) : Int)) (by omega) ?_
    refine j_mald hE hk 0 0 rfl (84 + c) (by omega) (by simp only [mLen]; omega) dX4_valueOf_26 ?_
    refine j_top (z2 := ((g.1.2 c : Nat) : Int)) ((hR.1.2 c (by omega)).1) ?_
    refine j_miret hk he rfl dX4_valueOf_27 (Nat.le_refl _) (Nat.le_refl _) ?_
    have e : sp_valueOf g ((c + 97 : Nat) : Int) = (0, ((g.1.2 c : Nat) : Int), g) := by
      have e3 : isIt ((c : Int) + 97) = true := by simp [isIt]; omega
      have e4 : ((c : Int) + 97 - 97).toNat = c := by omega
      simp [sp_valueOf, e3, e4]
    rw [mP, e]
    exact ⟨rfl, by rw [iup_s, h8]; rfl, hR.up4⟩
  · refine j_iconst (n := 0) hk dX4_valueOf_11 ?_
    refine j_goto (tgt := 27) hk dX4_valueOf_12 rfl ?_
    refine j_miret hk he rfl dX4_valueOf_27 (Nat.le_refl _) (Nat.le_refl _) ?_
    have e : sp_valueOf g ci = (1, 0, g) := by
      have : isIt ci = false := by have h := h8; rw [Bool.not_eq_true'] at h; exact h
      simp [sp_valueOf, this]
    rw [mP, e]
    exact ⟨rfl, by rw [iup_s, h8]; rfl, hR.up4⟩
set_option maxHeartbeats 1500000 in
/-- undoableCount()I -/
theorem mc_undoableCount {l : Launch} {E : jE} {m : Nat} {ad : Nat → Nat} {A : Nat → Nat → Int} {F : Nat → Int} (hls : l.stackTraces = false) (hE : jSt E) {g : SS} (hR : mR A F g) : mC l E yX4_undoableCount cX4_undoableCount 1 (some .int) 2 33 [.ref m] m ad A F (mQi E m ad (fun r A2 F2 => mP (sp_undoableCount g) r A2 F2)) := by
  refine m_start (own := "ScheduleAnalyzerModel") (vs := [some (.ref m)]) hls (by decide +kernel) rfl rfl rfl (Nat.le_of_ble_eq_true rfl) ?_
  intro K hk he hl0 hF hG0
  refine j_ald4 hk dX4_undoableCount_0 rfl rfl ?_
  refine j_ald4 hk dX4_undoableCount_1 rfl rfl ?_
  refine j_mget hE hk 5 (by decide) rfl q2619 dX4_undoableCount_2 ?_
  refine j_top (z2 := ((g.2.1.length : Nat) : Int)) (hR.2.1.2) ?_
  refine j_mVi hE hk hl0 hF (mc_plain hls hE (A := A) (F := F) (v := ((g.2.1.length : Nat) : Int)) ) 1 (lw_V q3171 q3173 qs111 q145 q3174) (by decide +kernel) rfl (by decide) (by decide) rfl (Nat.le_of_ble_eq_true rfl) dX4_undoableCount_5 ?_
  rintro _ _ _ ⟨rfl, rfl, rfl⟩
  refine j_miret hk he rfl dX4_undoableCount_8 (Nat.le_refl _) (Nat.le_refl _) ?_
  exact ⟨rfl, iup_s _ _ _, hR.up4⟩
set_option maxHeartbeats 1500000 in
/-- operations()I -/
theorem mc_operations {l : Launch} {E : jE} {m : Nat} {ad : Nat → Nat} {A : Nat → Nat → Int} {F : Nat → Int} (hls : l.stackTraces = false) (hE : jSt E) {S : Nat → List Op} {V : Nat → Nat} (hN : nowIs (A 0) S V) : mC l E yX4_operations cX4_operations 1 (some .int) 2 33 [.ref m] m ad A F (mQi E m ad (fun r A2 F2 => ((totN S : Nat) : Int) = r ∧ A = A2 ∧ F = F2)) := by
  refine m_start (own := "ScheduleAnalyzerModel") (vs := [some (.ref m)]) hls (by decide +kernel) rfl rfl rfl (Nat.le_of_ble_eq_true rfl) ?_
  intro K hk he hl0 hF hG0
  refine j_ald4 hk dX4_operations_0 rfl rfl ?_
  refine j_iconst (n := 0) hk dX4_operations_1 ?_
  refine j_mVi hE hk hl0 hF (mc_count hls hE (A := A) (F := F) (s := 0) (hN) (by decide)) 1 (lw_V q2801 q2803 qs60 q145 q2804) (by decide +kernel) rfl (by decide) (by decide) rfl (Nat.le_of_ble_eq_true rfl) dX4_operations_2 ?_
  rintro _ _ _ ⟨rfl, rfl, rfl⟩
  refine j_ald4 hk dX4_operations_5 rfl rfl ?_
  refine j_iconst (n := 1) hk dX4_operations_6 ?_
  refine j_mVi hE hk hl0 hF (mc_count hls hE (A := A) (F := F) (s := 1) (hN) (by decide)) 1 (lw_V q2801 q2803 qs60 q145 q2804) (by decide +kernel) rfl (by decide) (by decide) rfl (Nat.le_of_ble_eq_true rfl) dX4_operations_7 ?_
  rintro _ _ _ ⟨rfl, rfl, rfl⟩
  refine j_iadd hk dX4_operations_10 ?_
  refine j_ald4 hk dX4_operations_11 rfl rfl ?_
  refine j_iconst (n := 2) hk dX4_operations_12 ?_
  refine j_mVi hE hk hl0 hF (mc_count hls hE (A := A) (F := F) (s := 2) (hN) (by decide)) 1 (lw_V q2801 q2803 qs60 q145 q2804) (by decide +kernel) rfl (by decide) (by decide) rfl (Nat.le_of_ble_eq_true rfl) dX4_operations_13 ?_
  rintro _ _ _ ⟨rfl, rfl, rfl⟩
  refine j_iadd hk dX4_operations_16 ?_
  refine j_ald4 hk dX4_operations_17 rfl rfl ?_
  refine j_iconst (n := 3) hk dX4_operations_18 ?_
  refine j_mVi hE hk hl0 hF (mc_count hls hE (A := A) (F := F) (s := 3) (hN) (by decide)) 1 (lw_V q2801 q2803 qs60 q145 q2804) (by decide +kernel) rfl (by decide) (by decide) rfl (Nat.le_of_ble_eq_true rfl) dX4_operations_19 ?_
  rintro _ _ _ ⟨rfl, rfl, rfl⟩
  refine j_iadd hk dX4_operations_22 ?_
  refine j_miret hk he rfl dX4_operations_23 (Nat.le_refl _) (Nat.le_refl _) ?_
  exact ⟨rfl, rfl, rfl⟩
set_option maxHeartbeats 1500000 in
/-- isConsistent()Z -/
theorem mc_isConsistent {l : Launch} {E : jE} {m : Nat} {ad : Nat → Nat} {A : Nat → Nat → Int} {F : Nat → Int} (hls : l.stackTraces = false) (hE : jSt E) {g : SS} (hR : mR A F g) : mC l E yX4_isConsistent cX4_isConsistent 1 (some .boolean) 2 33 [.ref m] m ad A F (mQi E m ad (fun r A2 F2 => mP (((0, 1, g) : SR)) r A2 F2)) := by
  refine m_start (own := "ScheduleAnalyzerModel") (vs := [some (.ref m)]) hls (by decide +kernel) rfl rfl rfl (Nat.le_of_ble_eq_true rfl) ?_
  intro K hk he hl0 hF hG0
  refine j_ald4 hk dX4_isConsistent_0 rfl rfl ?_
  refine j_iconst (n := 1) hk dX4_isConsistent_1 ?_
  refine j_mVi hE hk hl0 hF (mc_plain hls hE (A := A) (F := F) (v := 1) ) 1 (lw_V q3171 q3173 qs111 q145 q3174) (by decide +kernel) rfl (by decide) (by decide) rfl (Nat.le_of_ble_eq_true rfl) dX4_isConsistent_2 ?_
  rintro _ _ _ ⟨rfl, rfl, rfl⟩
  refine j_iconst (n := 1) hk dX4_isConsistent_5 ?_
  refine j_icmp_ne hk (by omega) (by omega) dX4_isConsistent_6 rfl (tgt := 13) (fun h6 => by exfalso; omega) (fun h6 => ?_)
  refine j_iconst (n := 1) hk dX4_isConsistent_9 ?_
  refine j_goto (tgt := 14) hk dX4_isConsistent_10 rfl ?_
  refine j_miret hk he rfl dX4_isConsistent_14 (Nat.le_refl _) (Nat.le_refl _) ?_
  exact ⟨rfl, iup_s _ _ _, hR.up4⟩
set_option maxHeartbeats 1500000 in
/-- errorPosition()I -/
theorem mc_errorPosition {l : Launch} {E : jE} {m : Nat} {ad : Nat → Nat} {A : Nat → Nat → Int} {F : Nat → Int} (hls : l.stackTraces = false) (hE : jSt E) {g : SS} (hR : mR A F g) : mC l E yX4_errorPosition cX4_errorPosition 1 (some .int) 2 33 [.ref m] m ad A F (mQi E m ad (fun r A2 F2 => mP (sp_errorPosition g) r A2 F2)) := by
  refine m_start (own := "ScheduleAnalyzerModel") (vs := [some (.ref m)]) hls (by decide +kernel) rfl rfl rfl (Nat.le_of_ble_eq_true rfl) ?_
  intro K hk he hl0 hF hG0
  have he1 := hR.2.2.2.2.2.1
  have he2 := hR.2.2.2.2.2.2
  refine j_ald4 hk dX4_errorPosition_0 rfl rfl ?_
  refine j_ald4 hk dX4_errorPosition_1 rfl rfl ?_
  refine j_mget hE hk 6 (by decide) rfl q2620 dX4_errorPosition_2 ?_
  refine j_top (z2 := g.2.2.2.2.2) (he1) ?_
  refine j_if_lt hk (by omega) dX4_errorPosition_5 rfl (tgt := 12) (fun h5 => ?_) (fun h5 => ?_)
  · refine j_iconst (n := 0) hk dX4_errorPosition_12 ?_
    refine j_mVi hE hk hl0 hF (mc_checked hls hE (A := A) (F := F) (b := false) ) 1 (lw_V q2972 q2974 qs92 q145 q2975) (by decide +kernel) rfl (by decide) (by decide) rfl (Nat.le_of_ble_eq_true rfl) dX4_errorPosition_13 ?_
    rintro _ _ _ ⟨rfl, rfl, rfl⟩
    refine j_top (z2 := 1) rfl ?_
    refine j_if_le hk (by omega) dX4_errorPosition_16 rfl (tgt := 23) (fun h => absurd h (by omega)) (fun _ => ?_)
    refine j_iconst (n := 0) hk dX4_errorPosition_19 ?_
    refine j_goto (tgt := 27) hk dX4_errorPosition_20 rfl ?_
    refine j_miret hk he rfl dX4_errorPosition_27 (Nat.le_refl _) (Nat.le_refl _) ?_
    have e : sp_errorPosition g = (1, 0, g) := by simp [sp_errorPosition]; omega
    rw [mP, e]
    exact ⟨rfl, by rw [iup_s]; rfl, hR.up4⟩
  · refine j_iconst (n := 1) hk dX4_errorPosition_8 ?_
    refine j_goto (tgt := 13) hk dX4_errorPosition_9 rfl ?_
    refine j_mVi hE hk hl0 hF (mc_checked hls hE (A := A) (F := F) (b := true) ) 1 (lw_V q2972 q2974 qs92 q145 q2975) (by decide +kernel) rfl (by decide) (by decide) rfl (Nat.le_of_ble_eq_true rfl) dX4_errorPosition_13 ?_
    rintro _ _ _ ⟨rfl, rfl, rfl⟩
    refine j_top (z2 := 0) rfl ?_
    refine j_if_le hk (by omega) dX4_errorPosition_16 rfl (tgt := 23) (fun _ => ?_) (fun h => absurd h (by omega))
    refine j_ald4 hk dX4_errorPosition_23 rfl rfl ?_
    refine j_mget hE hk 6 (by decide) rfl q2620 dX4_errorPosition_24 ?_
    refine j_top (z2 := g.2.2.2.2.2) (by rw [iup_n (by decide)]; exact he1) ?_
    refine j_miret hk he rfl dX4_errorPosition_27 (Nat.le_refl _) (Nat.le_refl _) ?_
    have e : sp_errorPosition g = (0, g.2.2.2.2.2, g) := by simp [sp_errorPosition]; omega
    rw [mP, e]
    exact ⟨rfl, by rw [iup_s]; rfl, hR.up4⟩
set_option maxHeartbeats 1500000 in
/-- slotByLength(I)I -/
theorem mc_slotByLength {l : Launch} {E : jE} {m : Nat} {ad : Nat → Nat} {A : Nat → Nat → Int} {F : Nat → Int} (hls : l.stackTraces = false) (hE : jSt E) {ri : Int} {g : SS} (hR : mR A F g) (hr : jr ri) : mC l E yX4_slotByLength cX4_slotByLength 5 (some .int) 2 33 [.ref m, .int (jI ri)] m ad A F (mQi E m ad (fun r A2 F2 => mP (sp_slotByLength g ri) r A2 F2)) := by
  refine m_start (own := "ScheduleAnalyzerModel") (vs := [some (.ref m), some (.int (jI ri)), none, none, none]) hls (by decide +kernel) rfl rfl rfl (Nat.le_of_ble_eq_true rfl) ?_
  intro K hk he hl0 hF hG0
  refine j_ald4 hk dX4_slotByLength_0 rfl rfl ?_
  refine j_iconst (n := 0) hk dX4_slotByLength_1 ?_
  refine j_mput hE hk hF 4 (by decide) rfl q2618 rfl rfl rfl rfl dX4_slotByLength_2 ?_
  refine j_iconst (n := 0) hk dX4_slotByLength_5 ?_
  refine j_ist2 hk dX4_slotByLength_6 rfl ?_
  have loop7 : ∀ (fuel7 : Nat) (s : Nat), 4 - s < fuel7 → s ≤ 4 → (∀ u, u < s → ((befN g.1.1 u 4 : Nat) : Int) ≠ ri) → jW K (mAs E m ad A (iup F 4 0)) 0 0 7 [some (.ref m), some (.int (jI ri)), some (.int (jI ((s : Nat) : Int))), none, none] [] := by
    intro fuel7
    induction fuel7 with
    | zero => intro s hm; exact absurd hm (Nat.not_lt_zero _)
    | succ fuel7 ih7 =>
      intro s hm7 hs hn
      refine j_ild4 hk dX4_slotByLength_7 rfl rfl ?_
      refine j_iconst (n := 4) hk dX4_slotByLength_8 ?_
      refine j_icmp_ge hk (by omega) (by omega) dX4_slotByLength_9 rfl (tgt := 84) (fun h9 => ?_) (fun h9 => ?_)
      · refine j_ald4 hk dX4_slotByLength_84 rfl rfl ?_
        refine j_iconst (n := 1) hk dX4_slotByLength_85 ?_
        refine j_mVi hE hk hl0 hF (mc_fail hls hE (A := A) (F := (iup F 4 0)) (n := 1) ) 1 (lw_V q2755 q2757 qs53 q145 q2758) (by decide +kernel) rfl (by decide) (by decide) rfl (Nat.le_of_ble_eq_true rfl) dX4_slotByLength_86 ?_
        rintro _ _ _ ⟨rfl, rfl, rfl⟩
        refine j_miret hk he rfl dX4_slotByLength_89 (Nat.le_refl _) (Nat.le_refl _) ?_
        have e : sp_slotByLength g ri = (1, 0, g) := by rw [sp_slotByLength, slotBy_none (fun u h => hn u (by omega))]
        rw [mP, e]
        exact ⟨rfl, iup_s _ _ _, hR.up4.up4⟩
      · have l1 := hR.1.len (s := s) (by omega)
        refine j_iconst (n := 0) hk dX4_slotByLength_12 ?_
        refine j_ist3 hk dX4_slotByLength_13 rfl ?_
        refine j_iconst (n := 0) hk dX4_slotByLength_14 ?_
        refine j_ist4 hk dX4_slotByLength_15 rfl ?_
        have loop17 : ∀ (fuel17 : Nat) (o : Nat), 4 - o < fuel17 → o ≤ 4 → jW K (mAs E m ad A (iup F 4 0)) 0 0 17 [some (.ref m), some (.int (jI ri)), some (.int (jI ((s : Nat) : Int))), some (.int (jI ((befN g.1.1 s o : Nat) : Int))), some (.int (jI ((o : Nat) : Int)))] [] := by
          intro fuel17
          induction fuel17 with
          | zero => intro o hm; exact absurd hm (Nat.not_lt_zero _)
          | succ fuel17 ih17 =>
            intro o hm17 ho
            refine j_ild hk dX4_slotByLength_17 rfl ?_
            refine j_iconst (n := 4) hk dX4_slotByLength_19 ?_
            refine j_icmp_ge hk (by omega) (by omega) dX4_slotByLength_20 rfl (tgt := 71) (fun h20 => ?_) (fun h20 => ?_)
            · have hbl := befN_le g.1.1 s o
              refine j_ild4 hk dX4_slotByLength_71 rfl rfl ?_
              refine j_ild4 hk dX4_slotByLength_72 rfl rfl ?_
              refine j_icmp_ne hk (by omega) (by omega) dX4_slotByLength_73 rfl (tgt := 78) (fun h73 => ?_) (fun h73 => ?_)
              · refine j_iinc2 hk dX4_slotByLength_78 rfl ?_
                refine j_goto (tgt := 7) hk dX4_slotByLength_81 rfl ?_
                refine j_forget (i := 3) ?_
                refine j_forget (i := 4) ?_
                exact ih7 (s + 1) (by omega) (by omega) (fun u h => by
  by_cases e : u < s
  · exact hn u e
  · have e : u = s := by omega
    have eo : o = 4 := by omega
    rw [e, ← eo]; exact h73)
              · refine j_ild4 hk dX4_slotByLength_76 rfl rfl ?_
                refine j_miret hk he rfl dX4_slotByLength_77 (Nat.le_refl _) (Nat.le_refl _) ?_
                have eo : o = 4 := by omega
                subst eo
                have e : sp_slotByLength g ri = (0, ((s : Nat) : Int), g) := by rw [sp_slotByLength, slotBy_some (by omega) h73 hn]
                rw [mP, e]
                exact ⟨rfl, iup_s _ _ _, hR.up4⟩
            · have l2 := hR.1.len (s := o) (by omega)
              refine j_ild4 hk dX4_slotByLength_23 rfl rfl ?_
              refine j_ald4 hk dX4_slotByLength_24 rfl rfl ?_
              refine j_ild hk dX4_slotByLength_25 rfl ?_
              refine j_mVi hE hk hl0 hF (mc_count hls hE (A := A) (F := (iup F 4 0)) (s := o) (S := g.1.1) (V := g.1.2) (hR.1) (by omega)) 1 (lw_V q2801 q2803 qs60 q145 q2804) (by decide +kernel) rfl (by decide) (by decide) rfl (Nat.le_of_ble_eq_true rfl) dX4_slotByLength_27 ?_
              rintro _ _ _ ⟨rfl, rfl, rfl⟩
              refine j_ald4 hk dX4_slotByLength_30 rfl rfl ?_
              refine j_ild4 hk dX4_slotByLength_31 rfl rfl ?_
              refine j_mVi hE hk hl0 hF (mc_count hls hE (A := A) (F := (iup F 4 0)) (s := s) (S := g.1.1) (V := g.1.2) (hR.1) (by omega)) 1 (lw_V q2801 q2803 qs60 q145 q2804) (by decide +kernel) rfl (by decide) (by decide) rfl (Nat.le_of_ble_eq_true rfl) dX4_slotByLength_32 ?_
              rintro _ _ _ ⟨rfl, rfl, rfl⟩
              refine j_icmp_gt hk (by omega) (by omega) dX4_slotByLength_35 rfl (tgt := 58) (fun h35 => ?_) (fun h35 => ?_)
              · refine j_iconst (n := 1) hk dX4_slotByLength_58 ?_
                refine j_goto (tgt := 63) hk dX4_slotByLength_59 rfl ?_
                refine j_iadd hk dX4_slotByLength_63 ?_
                refine j_top (z2 := ((befN g.1.1 s (o + 1) : Nat) : Int)) (by rw [befN_s, if_pos (by omega)]; rfl) ?_
                refine j_ist3 hk dX4_slotByLength_64 rfl ?_
                refine j_iinc4 hk dX4_slotByLength_65 rfl ?_
                refine j_goto (tgt := 17) hk dX4_slotByLength_68 rfl ?_
                exact ih17 (o + 1) (by omega) (by omega)
              · refine j_ald4 hk dX4_slotByLength_38 rfl rfl ?_
                refine j_ild hk dX4_slotByLength_39 rfl ?_
                refine j_mVi hE hk hl0 hF (mc_count hls hE (A := A) (F := (iup F 4 0)) (s := o) (S := g.1.1) (V := g.1.2) (hR.1) (by omega)) 1 (lw_V q2801 q2803 qs60 q145 q2804) (by decide +kernel) rfl (by decide) (by decide) rfl (Nat.le_of_ble_eq_true rfl) dX4_slotByLength_41 ?_
                rintro _ _ _ ⟨rfl, rfl, rfl⟩
                refine j_ald4 hk dX4_slotByLength_44 rfl rfl ?_
                refine j_ild4 hk dX4_slotByLength_45 rfl rfl ?_
                refine j_mVi hE hk hl0 hF (mc_count hls hE (A := A) (F := (iup F 4 0)) (s := s) (S := g.1.1) (V := g.1.2) (hR.1) (by omega)) 1 (lw_V q2801 q2803 qs60 q145 q2804) (by decide +kernel) rfl (by decide) (by decide) rfl (Nat.le_of_ble_eq_true rfl) dX4_slotByLength_46 ?_
                rintro _ _ _ ⟨rfl, rfl, rfl⟩
                refine j_icmp_ne hk (by omega) (by omega) dX4_slotByLength_49 rfl (tgt := 62) (fun h49 => ?_) (fun h49 => ?_)
                · refine j_iconst (n := 0) hk dX4_slotByLength_62 ?_
                  refine j_iadd hk dX4_slotByLength_63 ?_
                  refine j_top (z2 := ((befN g.1.1 s (o + 1) : Nat) : Int)) (by rw [befN_s, if_neg (by omega)]; rfl) ?_
                  refine j_ist3 hk dX4_slotByLength_64 rfl ?_
                  refine j_iinc4 hk dX4_slotByLength_65 rfl ?_
                  refine j_goto (tgt := 17) hk dX4_slotByLength_68 rfl ?_
                  exact ih17 (o + 1) (by omega) (by omega)
                · refine j_ild hk dX4_slotByLength_52 rfl ?_
                  refine j_ild4 hk dX4_slotByLength_54 rfl rfl ?_
                  refine j_icmp_ge hk (by omega) (by omega) dX4_slotByLength_55 rfl (tgt := 62) (fun h55 => ?_) (fun h55 => ?_)
                  · refine j_iconst (n := 0) hk dX4_slotByLength_62 ?_
                    refine j_iadd hk dX4_slotByLength_63 ?_
                    refine j_top (z2 := ((befN g.1.1 s (o + 1) : Nat) : Int)) (by rw [befN_s, if_neg (by omega)]; rfl) ?_
                    refine j_ist3 hk dX4_slotByLength_64 rfl ?_
                    refine j_iinc4 hk dX4_slotByLength_65 rfl ?_
                    refine j_goto (tgt := 17) hk dX4_slotByLength_68 rfl ?_
                    exact ih17 (o + 1) (by omega) (by omega)
                  · refine j_iconst (n := 1) hk dX4_slotByLength_58 ?_
                    refine j_goto (tgt := 63) hk dX4_slotByLength_59 rfl ?_
                    refine j_iadd hk dX4_slotByLength_63 ?_
                    refine j_top (z2 := ((befN g.1.1 s (o + 1) : Nat) : Int)) (by rw [befN_s, if_pos (by omega)]; rfl) ?_
                    refine j_ist3 hk dX4_slotByLength_64 rfl ?_
                    refine j_iinc4 hk dX4_slotByLength_65 rfl ?_
                    refine j_goto (tgt := 17) hk dX4_slotByLength_68 rfl ?_
                    exact ih17 (o + 1) (by omega) (by omega)
        exact loop17 _ 0 (Nat.lt_succ_self _) (by omega)
  exact loop7 _ 0 (Nat.lt_succ_self _) (by omega) (fun u h => by omega)
