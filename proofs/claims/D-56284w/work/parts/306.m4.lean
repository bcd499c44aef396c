set_option maxHeartbeats 1500000 in
/-- isOperation(II)Z -/
theorem mc_isOperation {l : Launch} {E : jE} {m : Nat} {ad : Nat → Nat} {A : Nat → Nat → Int} {F : Nat → Int} (hls : l.stackTraces = false) (hE : jSt E) {s : Int} {p : Int} {S : Nat → List Op} {V : Nat → Nat} (hN : nowIs (A 0) S V) (h : jr s ∧ jr p) : mC l E yX4_isOperation cX4_isOperation 3 (some .boolean) 3 54 [.ref m, .int (jI s), .int (jI p)] m ad A F (mQi E m ad (fun r A2 F2 => jB (isOpB S s p) = r ∧ A = A2 ∧ F = F2)) := by
  refine m_start (own := "ScheduleAnalyzerModel") (vs := [some (.ref m), some (.int (jI s)), some (.int (jI p))]) hls (by decide +kernel) rfl rfl rfl (Nat.le_of_ble_eq_true rfl) ?_
  intro K hk he hl0 hF hG0
  refine j_ild4 hk dX4_isOperation_0 rfl rfl ?_
  refine j_sSi hk hl0 (sc_isSlot hls (v := s) (h.1)) 1 (lw_S q2752 q2753 q145 q2754) (by decide +kernel) rfl (by decide) (by decide) rfl (Nat.le_of_ble_eq_true rfl) dX4_isOperation_1 ?_
  refine j_ifeqB hk dX4_isOperation_4 rfl (tgt := 26) (fun h4 => ?_) (fun h4 => ?_)
  · refine j_iconst (n := 0) hk dX4_isOperation_26 ?_
    refine j_miret hk he rfl dX4_isOperation_27 (Nat.le_refl _) (Nat.le_refl _) ?_
    exact ⟨by simp_all [isOpB, jB]; try omega, rfl, rfl⟩
  · have h4b := of_decide_eq_true h4
    obtain ⟨k, rfl⟩ : ∃ k : Nat, s = ((k : Nat) : Int) := ⟨s.toNat, by omega⟩
    have hk4 : k < 4 := by omega
    have hL := hN.len hk4
    refine j_ild4 hk dX4_isOperation_7 rfl rfl ?_
    refine j_iconst (n := 0) hk dX4_isOperation_8 ?_
    refine j_ald4 hk dX4_isOperation_9 rfl rfl ?_
    refine j_ild4 hk dX4_isOperation_10 rfl rfl ?_
    refine j_mVi hE hk hl0 hF (mc_count hls hE (A := A) (F := F) (s := k) (by first | assumption | omega) (by first | assumption | omega)) 1 (lw_V q2801 q2803 qs60 q145 q2804) (by decide +kernel) rfl (by decide) (by decide) rfl (Nat.le_of_ble_eq_true rfl) dX4_isOperation_11 ?_
    rintro _ _ _ ⟨rfl, rfl, rfl⟩
    refine j_iconst (n := 1) hk dX4_isOperation_14 ?_
    refine j_isub hk dX4_isOperation_15 ?_
    refine j_sSi hk hl0 (sc_in hls (v := p) (a := 0) (b := (((S k).length : Nat) : Int) - 1) (by omega)) 3 (lw_S q2734 q2735 q145 q2736) (by decide +kernel) rfl (by decide) (by decide) rfl (Nat.le_of_ble_eq_true rfl) dX4_isOperation_16 ?_
    refine j_ifeqB hk dX4_isOperation_19 rfl (tgt := 26) (fun h19 => ?_) (fun h19 => ?_)
    · refine j_iconst (n := 0) hk dX4_isOperation_26 ?_
      refine j_miret hk he rfl dX4_isOperation_27 (Nat.le_refl _) (Nat.le_refl _) ?_
      exact ⟨by simp_all [isOpB, jB]; try omega, rfl, rfl⟩
    · refine j_iconst (n := 1) hk dX4_isOperation_22 ?_
      refine j_goto (tgt := 27) hk dX4_isOperation_23 rfl ?_
      refine j_miret hk he rfl dX4_isOperation_27 (Nat.le_refl _) (Nat.le_refl _) ?_
      exact ⟨by simp_all [isOpB, jB]; try omega, rfl, rfl⟩
set_option maxHeartbeats 1500000 in
/-- adds(II)I -/
theorem mc_adds {l : Launch} {E : jE} {m : Nat} {ad : Nat → Nat} {A : Nat → Nat → Int} {F : Nat → Int} (hls : l.stackTraces = false) (hE : jSt E) {s : Nat} {o : Op} {S : Nat → List Op} {V : Nat → Nat} (hN : nowIs (A 0) S V) (hs : s < 4) (hl : (S s).length < 20) (ho : opOK o) : mC l E yX4_adds cX4_adds 3 (some .int) 2 33 [.ref m, .int (jI ((s : Nat) : Int)), .int (jI ((opV o : Nat) : Int))] m ad A F (mQi E m ad (fun r A2 F2 => (((S s).length + 1 : Nat) : Int) = r ∧ nowIs (A2 0) (sset S s (S s ++ [o])) V ∧ kA [0] A A2 ∧ F = F2)) := by
  refine m_start (own := "ScheduleAnalyzerModel") (vs := [some (.ref m), some (.int (jI ((s : Nat) : Int))), some (.int (jI ((opV o : Nat) : Int)))]) hls (by decide +kernel) rfl rfl rfl (Nat.le_of_ble_eq_true rfl) ?_
  intro K hk he hl0 hF hG0
  have hL := hN.len hs
  refine j_ald4 hk dX4_adds_0 rfl rfl ?_
  refine j_mgetA hE hk 0 (by decide) rfl q2614 dX4_adds_1 ?_
  refine j_bipush (n := 21) hk rfl dX4_adds_4 ?_
  refine j_ild4 hk dX4_adds_6 rfl rfl ?_
  refine j_imul hk dX4_adds_7 ?_
  refine j_iconst (n := 1) hk dX4_adds_8 ?_
  refine j_iadd hk dX4_adds_9 ?_
  refine j_ald4 hk dX4_adds_10 rfl rfl ?_
  refine j_ild4 hk dX4_adds_11 rfl rfl ?_
  refine j_mVi hE hk hl0 hF (mc_count hls hE (A := A) (F := F) (s := s) (by first | assumption | omega) (by first | assumption | omega)) 1 (lw_V q2801 q2803 qs60 q145 q2804) (by decide +kernel) rfl (by decide) (by decide) rfl (Nat.le_of_ble_eq_true rfl) dX4_adds_12 ?_
  rintro _ _ _ ⟨rfl, rfl, rfl⟩
  refine j_iadd hk dX4_adds_15 ?_
  refine j_ild4 hk dX4_adds_16 rfl rfl ?_
  refine j_mast hE hk hF 0 0 rfl (((21 * s) + 1) + ((S s).length)) (by omega) (by simp only [mLen]; omega) dX4_adds_17 ?_
  refine j_ald4 hk dX4_adds_18 rfl rfl ?_
  refine j_mgetA hE hk 0 (by decide) rfl q2614 dX4_adds_19 ?_
  refine j_bipush (n := 21) hk rfl dX4_adds_22 ?_
  refine j_ild4 hk dX4_adds_24 rfl rfl ?_
  refine j_imul hk dX4_adds_25 ?_
  refine j_dup2 hk rfl rfl dX4_adds_26 ?_
  refine j_mald hE hk 0 0 rfl (21 * s) (by omega) (by simp only [mLen]; omega) dX4_adds_27 ?_
  refine j_top (z2 := (((S s).length : Nat) : Int)) (by rw [mup_s, iup_n (by omega)]; exact hN.cnt hs) ?_
  refine j_iconst (n := 1) hk dX4_adds_28 ?_
  refine j_iadd hk dX4_adds_29 ?_
  refine j_mast hE hk hF 0 0 rfl (21 * s) (by omega) (by simp only [mLen]; omega) dX4_adds_30 ?_
  have hN2 : nowIs ((mup (mup A 0 (((21 * s) + 1) + ((S s).length)) ((opV o : Nat) : Int)) 0 (21 * s) ((((S s).length : Nat) : Int) + 1)) 0) (sset S s (S s ++ [o])) V := by rw [mup_s, mup_s]; exact hN.add hs hl ho
  refine j_ald4 hk dX4_adds_31 rfl rfl ?_
  refine j_ild4 hk dX4_adds_32 rfl rfl ?_
  refine j_mVi hE hk hl0 hF (mc_count hls hE (A := (mup (mup A 0 (((21 * s) + 1) + ((S s).length)) ((opV o : Nat) : Int)) 0 (21 * s) ((((S s).length : Nat) : Int) + 1))) (F := F) (s := s) (S := sset S s (S s ++ [o])) (V := V) (hN2) (hs)) 1 (lw_V q2801 q2803 qs60 q145 q2804) (by decide +kernel) rfl (by decide) (by decide) rfl (Nat.le_of_ble_eq_true rfl) dX4_adds_33 ?_
  rintro _ _ _ ⟨rfl, rfl, rfl⟩
  refine j_top (z2 := (((S s).length + 1 : Nat) : Int)) (by rw [sset_s, List.length_append]; rfl) ?_
  refine j_miret hk he rfl dX4_adds_36 (Nat.le_refl _) (Nat.le_refl _) ?_
  exact ⟨rfl, hN2, kA.up1.up (by decide), rfl⟩
set_option maxHeartbeats 1500000 in
/-- isFull(II)Z -/
theorem mc_isFull {l : Launch} {E : jE} {m : Nat} {ad : Nat → Nat} {A : Nat → Nat → Int} {F : Nat → Int} (hls : l.stackTraces = false) (hE : jSt E) {s : Nat} {t : Nat} {S : Nat → List Op} {V : Nat → Nat} (hN : nowIs (A 0) S V) (hs : s < 4) (h9 : t < 100) : mC l E yX4_isFull cX4_isFull 3 (some .boolean) 3 59 [.ref m, .int (jI ((s : Nat) : Int)), .int (jI ((t : Nat) : Int))] m ad A F (mQi E m ad (fun r A2 F2 => jB (isFullB (S s) t) = r ∧ A = A2 ∧ F = F2)) := by
  refine m_start (own := "ScheduleAnalyzerModel") (vs := [some (.ref m), some (.int (jI ((s : Nat) : Int))), some (.int (jI ((t : Nat) : Int)))]) hls (by decide +kernel) rfl rfl rfl (Nat.le_of_ble_eq_true rfl) ?_
  intro K hk he hl0 hF hG0
  have hL := hN.len hs
  refine j_ald4 hk dX4_isFull_0 rfl rfl ?_
  refine j_ild4 hk dX4_isFull_1 rfl rfl ?_
  refine j_mVi hE hk hl0 hF (mc_count hls hE (A := A) (F := F) (s := s) (by first | assumption | omega) (by first | assumption | omega)) 1 (lw_V q2801 q2803 qs60 q145 q2804) (by decide +kernel) rfl (by decide) (by decide) rfl (Nat.le_of_ble_eq_true rfl) dX4_isFull_2 ?_
  rintro _ _ _ ⟨rfl, rfl, rfl⟩
  refine j_bipush (n := 20) hk rfl dX4_isFull_5 ?_
  refine j_icmp_eq hk (by omega) (by omega) dX4_isFull_7 rfl (tgt := 21) (fun h7 => ?_) (fun h7 => ?_)
  · refine j_iconst (n := 1) hk dX4_isFull_21 ?_
    refine j_goto (tgt := 26) hk dX4_isFull_22 rfl ?_
    refine j_miret hk he rfl dX4_isFull_26 (Nat.le_refl _) (Nat.le_refl _) ?_
    exact ⟨by simp_all [isFullB, jB]; try omega, rfl, rfl⟩
  · refine j_ald4 hk dX4_isFull_10 rfl rfl ?_
    refine j_ild4 hk dX4_isFull_11 rfl rfl ?_
    refine j_ild4 hk dX4_isFull_12 rfl rfl ?_
    refine j_iconst (n := 2) hk dX4_isFull_13 ?_
    refine j_iconst (n := 3) hk dX4_isFull_14 ?_
    refine j_mVi hE hk hl0 hF (mc_has hls hE (A := A) (F := F) (s := s) (t := t) (lo := 2) (hi := 3) (by first | assumption | omega) (by first | assumption | omega) (by first | assumption | omega)) 4 (lw_V q2817 q2819 qs63 q145 q2820) (by decide +kernel) rfl (by decide) (by decide) rfl (Nat.le_of_ble_eq_true rfl) dX4_isFull_15 ?_
    rintro _ _ _ ⟨rfl, rfl, rfl⟩
    refine j_ifeqB hk dX4_isFull_18 rfl (tgt := 25) (fun h18 => ?_) (fun h18 => ?_)
    · refine j_iconst (n := 0) hk dX4_isFull_25 ?_
      refine j_miret hk he rfl dX4_isFull_26 (Nat.le_refl _) (Nat.le_refl _) ?_
      exact ⟨by simp_all [isFullB, jB]; try omega, rfl, rfl⟩
    · refine j_iconst (n := 1) hk dX4_isFull_21 ?_
      refine j_goto (tgt := 26) hk dX4_isFull_22 rfl ?_
      refine j_miret hk he rfl dX4_isFull_26 (Nat.le_refl _) (Nat.le_refl _) ?_
      exact ⟨by simp_all [isFullB, jB]; try omega, rfl, rfl⟩
set_option maxHeartbeats 1500000 in
/-- removes(II)I -/
theorem mc_removes {l : Launch} {E : jE} {m : Nat} {ad : Nat → Nat} {A : Nat → Nat → Int} {F : Nat → Int} (hls : l.stackTraces = false) (hE : jSt E) {s : Nat} {p : Nat} {S : Nat → List Op} {V : Nat → Nat} (hN : nowIs (A 0) S V) (hs : s < 4) (hp : p < (S s).length) : mC l E yX4_removes cX4_removes 4 (some .int) 2 34 [.ref m, .int (jI ((s : Nat) : Int)), .int (jI ((p : Nat) : Int))] m ad A F (mQi E m ad (fun r A2 F2 => (((S s).length - 1 : Nat) : Int) = r ∧ nowIs (A2 0) (sset S s ((S s).eraseIdx p)) V ∧ kA [0] A A2 ∧ F = F2)) := by
  refine m_start (own := "ScheduleAnalyzerModel") (vs := [some (.ref m), some (.int (jI ((s : Nat) : Int))), some (.int (jI ((p : Nat) : Int))), none]) hls (by decide +kernel) rfl rfl rfl (Nat.le_of_ble_eq_true rfl) ?_
  intro K hk he hl0 hF hG0
  have hL := hN.len hs
  refine j_ald4 hk dX4_removes_0 rfl rfl ?_
  refine j_mgetA hE hk 0 (by decide) rfl q2614 dX4_removes_1 ?_
  refine j_bipush (n := 21) hk rfl dX4_removes_4 ?_
  refine j_ild4 hk dX4_removes_6 rfl rfl ?_
  refine j_imul hk dX4_removes_7 ?_
  refine j_dup2 hk rfl rfl dX4_removes_8 ?_
  refine j_mald hE hk 0 0 rfl (21 * s) (by omega) (by simp only [mLen]; omega) dX4_removes_9 ?_
  refine j_top (z2 := (((S s).length : Nat) : Int)) (hN.cnt hs) ?_
  refine j_iconst (n := 1) hk dX4_removes_10 ?_
  refine j_isub hk dX4_removes_11 ?_
  refine j_mast hE hk hF 0 0 rfl (21 * s) (by omega) (by simp only [mLen]; omega) dX4_removes_12 ?_
  refine j_ild4 hk dX4_removes_13 rfl rfl ?_
  refine j_ist3 hk dX4_removes_14 rfl ?_
  have loop15 : ∀ (fuel15 : Nat) (A1 : Nat → Nat → Int) (k : Nat), (S s).length - k < fuel15 → p ≤ k → k ≤ (S s).length - 1 → kA [0] A A1 → A1 0 (21 * s) = (((S s).length : Nat) : Int) - 1 → (∀ x, 21 * s + 1 + p ≤ x → x < 21 * s + 1 + k → A1 0 x = A 0 (x + 1)) → (∀ x, x ≠ 21 * s → (x < 21 * s + 1 + p ∨ 21 * s + 1 + k ≤ x) → A1 0 x = A 0 x) → jW K (mAs E m ad A1 F) 0 0 15 [some (.ref m), some (.int (jI ((s : Nat) : Int))), some (.int (jI ((p : Nat) : Int))), some (.int (jI ((k : Nat) : Int)))] [] := by
    intro fuel15
    induction fuel15 with
    | zero => intro A1 k hm; exact absurd hm (Nat.not_lt_zero _)
    | succ fuel15 ih15 =>
      intro A1 k hm15 hk1 hk2 hk3 hk4 hk5 hk6
      refine j_ild4 hk dX4_removes_15 rfl rfl ?_
      refine j_ald4 hk dX4_removes_16 rfl rfl ?_
      refine j_ild4 hk dX4_removes_17 rfl rfl ?_
      refine j_mVi hE hk hl0 hF (mc_countR hls hE (A := A1) (F := F) (s := s) (by first | assumption | omega)) 1 (lw_V q2801 q2803 qs60 q145 q2804) (by decide +kernel) rfl (by decide) (by decide) rfl (Nat.le_of_ble_eq_true rfl) dX4_removes_18 ?_
      rintro _ _ _ ⟨rfl, rfl, rfl⟩
      refine j_top (z2 := (((S s).length : Nat) : Int) - 1) (hk4) ?_
      refine j_icmp_ge hk (by omega) (by omega) dX4_removes_21 rfl (tgt := 51) (fun h21 => ?_) (fun h21 => ?_)
      · have hN2 : nowIs (A1 0) (sset S s ((S s).eraseIdx p)) V := hN.erase hs hp hk4 (fun x h1 h2 => hk5 x h1 (by omega)) (fun x h1 h2 => hk6 x h1 (by omega))
        refine j_ald4 hk dX4_removes_51 rfl rfl ?_
        refine j_ild4 hk dX4_removes_52 rfl rfl ?_
        refine j_mVi hE hk hl0 hF (mc_count hls hE (A := A1) (F := F) (s := s) (S := sset S s ((S s).eraseIdx p)) (V := V) (hN2) (hs)) 1 (lw_V q2801 q2803 qs60 q145 q2804) (by decide +kernel) rfl (by decide) (by decide) rfl (Nat.le_of_ble_eq_true rfl) dX4_removes_53 ?_
        rintro _ _ _ ⟨rfl, rfl, rfl⟩
        refine j_top (z2 := (((S s).length - 1 : Nat) : Int)) (by rw [sset_s, List.length_eraseIdx_of_lt hp]) ?_
        refine j_miret hk he rfl dX4_removes_56 (Nat.le_refl _) (Nat.le_refl _) ?_
        exact ⟨rfl, hN2, hk3, rfl⟩
      · refine j_ald4 hk dX4_removes_24 rfl rfl ?_
        refine j_mgetA hE hk 0 (by decide) rfl q2614 dX4_removes_25 ?_
        refine j_bipush (n := 21) hk rfl dX4_removes_28 ?_
        refine j_ild4 hk dX4_removes_30 rfl rfl ?_
        refine j_imul hk dX4_removes_31 ?_
        refine j_iconst (n := 1) hk dX4_removes_32 ?_
        refine j_iadd hk dX4_removes_33 ?_
        refine j_ild4 hk dX4_removes_34 rfl rfl ?_
        refine j_iadd hk dX4_removes_35 ?_
        refine j_ald4 hk dX4_removes_36 rfl rfl ?_
        refine j_ild4 hk dX4_removes_37 rfl rfl ?_
        refine j_ild4 hk dX4_removes_38 rfl rfl ?_
        refine j_iconst (n := 1) hk dX4_removes_39 ?_
        refine j_iadd hk dX4_removes_40 ?_
        refine j_mVi hE hk hl0 hF (mc_codeR hls hE (A := A1) (F := F) (s := s) (i := k + 1) (by first | assumption | omega)) 2 (lw_V q2821 q2823 qs64 q145 q2824) (by decide +kernel) rfl (by decide) (by decide) rfl (Nat.le_of_ble_eq_true rfl) dX4_removes_41 ?_
        rintro _ _ _ ⟨rfl, rfl, rfl⟩
        refine j_mast hE hk hF 0 0 rfl (((21 * s) + 1) + k) (by omega) (by simp only [mLen]; omega) dX4_removes_44 ?_
        refine j_iinc3 hk dX4_removes_45 rfl ?_
        refine j_goto (tgt := 15) hk dX4_removes_48 rfl ?_
        exact ih15 (mup A1 0 (((21 * s) + 1) + k) (A1 0 (21 * s + 1 + (k + 1)))) (k + 1) (by omega) (by omega) (by omega) (hk3.up (by decide)) (by rw [mup_s, iup_n (by omega)]; exact hk4) (fun x h1 h2 => by
  rw [mup_s]
  by_cases e : x = 21 * s + 1 + k
  · subst e; rw [iup_s]; exact hk6 _ (by omega) (by omega)
  · rw [iup_n e]; exact hk5 x h1 (by omega)) (fun x h1 h2 => by rw [mup_s, iup_n (by omega)]; exact hk6 x h1 (by omega))
  exact loop15 _ (mup A 0 (21 * s) ((((S s).length : Nat) : Int) - 1)) p (Nat.lt_succ_self _) (by omega) (by omega) (kA.up1) (by rw [mup_s, iup_s]) (fun x h1 h2 => by omega) (fun x h1 _ => by rw [mup_s, iup_n h1])
set_option maxHeartbeats 1500000 in
/-- swaps(II)I -/
theorem mc_swaps {l : Launch} {E : jE} {m : Nat} {ad : Nat → Nat} {A : Nat → Nat → Int} {F : Nat → Int} (hls : l.stackTraces = false) (hE : jSt E) {s : Nat} {p : Nat} {S : Nat → List Op} {V : Nat → Nat} (hN : nowIs (A 0) S V) (hs : s < 4) (hp : p + 1 < (S s).length) : mC l E yX4_swaps cX4_swaps 4 (some .int) 2 34 [.ref m, .int (jI ((s : Nat) : Int)), .int (jI ((p : Nat) : Int))] m ad A F (mQi E m ad (fun r A2 F2 => ((oT (opAt (S s) (p + 1)) : Nat) : Int) = r ∧ nowIs (A2 0) (sset S s (opSwap (S s) p)) V ∧ kA [0] A A2 ∧ F = F2)) := by
  refine m_start (own := "ScheduleAnalyzerModel") (vs := [some (.ref m), some (.int (jI ((s : Nat) : Int))), some (.int (jI ((p : Nat) : Int))), none]) hls (by decide +kernel) rfl rfl rfl (Nat.le_of_ble_eq_true rfl) ?_
  intro K hk he hl0 hF hG0
  have hL := hN.len hs
  have ho := hN.ok hs (i := p + 1) hp
  have ho6 := opV_lt ho
  have hp1 : p < (S s).length := by omega
  refine j_ald4 hk dX4_swaps_0 rfl rfl ?_
  refine j_ild4 hk dX4_swaps_1 rfl rfl ?_
  refine j_ild4 hk dX4_swaps_2 rfl rfl ?_
  refine j_mVi hE hk hl0 hF (mc_code hls hE (A := A) (F := F) (s := s) (i := p) (by first | assumption | omega) (by first | assumption | omega) (by first | assumption | omega)) 2 (lw_V q2821 q2823 qs64 q145 q2824) (by decide +kernel) rfl (by decide) (by decide) rfl (Nat.le_of_ble_eq_true rfl) dX4_swaps_3 ?_
  rintro _ _ _ ⟨rfl, rfl, rfl⟩
  refine j_ist3 hk dX4_swaps_6 rfl ?_
  refine j_ald4 hk dX4_swaps_7 rfl rfl ?_
  refine j_mgetA hE hk 0 (by decide) rfl q2614 dX4_swaps_8 ?_
  refine j_bipush (n := 21) hk rfl dX4_swaps_11 ?_
  refine j_ild4 hk dX4_swaps_13 rfl rfl ?_
  refine j_imul hk dX4_swaps_14 ?_
  refine j_iconst (n := 1) hk dX4_swaps_15 ?_
  refine j_iadd hk dX4_swaps_16 ?_
  refine j_ild4 hk dX4_swaps_17 rfl rfl ?_
  refine j_iadd hk dX4_swaps_18 ?_
  refine j_ald4 hk dX4_swaps_19 rfl rfl ?_
  refine j_ild4 hk dX4_swaps_20 rfl rfl ?_
  refine j_ild4 hk dX4_swaps_21 rfl rfl ?_
  refine j_iconst (n := 1) hk dX4_swaps_22 ?_
  refine j_iadd hk dX4_swaps_23 ?_
  refine j_mVi hE hk hl0 hF (mc_code hls hE (A := A) (F := F) (s := s) (i := p + 1) (by first | assumption | omega) (by first | assumption | omega) (by first | assumption | omega)) 2 (lw_V q2821 q2823 qs64 q145 q2824) (by decide +kernel) rfl (by decide) (by decide) rfl (Nat.le_of_ble_eq_true rfl) dX4_swaps_24 ?_
  rintro _ _ _ ⟨rfl, rfl, rfl⟩
  refine j_mast hE hk hF 0 0 rfl (((21 * s) + 1) + p) (by omega) (by simp only [mLen]; omega) dX4_swaps_27 ?_
  refine j_ald4 hk dX4_swaps_28 rfl rfl ?_
  refine j_mgetA hE hk 0 (by decide) rfl q2614 dX4_swaps_29 ?_
  refine j_bipush (n := 21) hk rfl dX4_swaps_32 ?_
  refine j_ild4 hk dX4_swaps_34 rfl rfl ?_
  refine j_imul hk dX4_swaps_35 ?_
  refine j_iconst (n := 2) hk dX4_swaps_36 ?_
  refine j_iadd hk dX4_swaps_37 ?_
  refine j_ild4 hk dX4_swaps_38 rfl rfl ?_
  refine j_iadd hk dX4_swaps_39 ?_
  refine j_ild4 hk dX4_swaps_40 rfl rfl ?_
  refine j_mast hE hk hF 0 0 rfl (((21 * s) + 2) + p) (by omega) (by simp only [mLen]; omega) dX4_swaps_41 ?_
  have hN2 : nowIs ((mup (mup A 0 (((21 * s) + 1) + p) ((opV (opAt (S s) (p + 1)) : Nat) : Int)) 0 (((21 * s) + 2) + p) ((opV (opAt (S s) p) : Nat) : Int)) 0) (sset S s (opSwap (S s) p)) V := by rw [mup_s, mup_s]; exact hN.swap hs hp
  refine j_ald4 hk dX4_swaps_42 rfl rfl ?_
  refine j_ild4 hk dX4_swaps_43 rfl rfl ?_
  refine j_ild4 hk dX4_swaps_44 rfl rfl ?_
  refine j_mVi hE hk hl0 hF (mc_code hls hE (A := (mup (mup A 0 (((21 * s) + 1) + p) ((opV (opAt (S s) (p + 1)) : Nat) : Int)) 0 (((21 * s) + 2) + p) ((opV (opAt (S s) p) : Nat) : Int))) (F := F) (s := s) (i := p) (S := sset S s (opSwap (S s) p)) (V := V) (hN2) (hs) (by rw [sset_s, opSwap_len]; omega)) 2 (lw_V q2821 q2823 qs64 q145 q2824) (by decide +kernel) rfl (by decide) (by decide) rfl (Nat.le_of_ble_eq_true rfl) dX4_swaps_45 ?_
  rintro _ _ _ ⟨rfl, rfl, rfl⟩
  refine j_top (z2 := ((opV (opAt (S s) (p + 1)) : Nat) : Int)) (by rw [sset_s, opAt_swap hp, if_pos rfl]) ?_
  refine j_sSi hk hl0 (sc_transactionOf hls (c := opV (opAt (S s) (p + 1))) (by first | assumption | omega)) 1 (lw_S q2787 q2788 q145 q2789) (by decide +kernel) rfl (by decide) (by decide) rfl (Nat.le_of_ble_eq_true rfl) dX4_swaps_48 ?_
  refine j_top (z2 := ((oT (opAt (S s) (p + 1)) : Nat) : Int)) (by rw [opV_t ho]) ?_
  refine j_miret hk he rfl dX4_swaps_51 (Nat.le_refl _) (Nat.le_refl _) ?_
  exact ⟨rfl, hN2, kA.up1.up (by decide), rfl⟩
set_option maxHeartbeats 1500000 in
/-- copies(II)I -/
theorem mc_copies {l : Launch} {E : jE} {m : Nat} {ad : Nat → Nat} {A : Nat → Nat → Int} {F : Nat → Int} (hls : l.stackTraces = false) (hE : jSt E) {t : Nat} {s : Nat} {S : Nat → List Op} {V : Nat → Nat} (hN : nowIs (A 0) S V) (ht : t < 4) (hs : s < 4) : mC l E yX4_copies cX4_copies 4 (some .int) 2 33 [.ref m, .int (jI ((t : Nat) : Int)), .int (jI ((s : Nat) : Int))] m ad A F (mQi E m ad (fun r A2 F2 => (((S s).length : Nat) : Int) = r ∧ nowIs (A2 0) (sset S t (S s)) V ∧ kA [0] A A2 ∧ F = F2)) := by
  refine m_start (own := "ScheduleAnalyzerModel") (vs := [some (.ref m), some (.int (jI ((t : Nat) : Int))), some (.int (jI ((s : Nat) : Int))), none]) hls (by decide +kernel) rfl rfl rfl (Nat.le_of_ble_eq_true rfl) ?_
  intro K hk he hl0 hF hG0
  refine j_iconst (n := 0) hk dX4_copies_0 ?_
  refine j_ist3 hk dX4_copies_1 rfl ?_
  have loop2 : ∀ (fuel2 : Nat) (A1 : Nat → Nat → Int) (k : Nat), 21 - k < fuel2 → k ≤ 21 → kA [0] A A1 → (∀ i, i < k → A1 0 (21 * t + i) = A 0 (21 * s + i)) → (∀ x, x < 21 * t ∨ 21 * t + k ≤ x → A1 0 x = A 0 x) → jW K (mAs E m ad A1 F) 0 0 2 [some (.ref m), some (.int (jI ((t : Nat) : Int))), some (.int (jI ((s : Nat) : Int))), some (.int (jI ((k : Nat) : Int)))] [] := by
    intro fuel2
    induction fuel2 with
    | zero => intro A1 k hm; exact absurd hm (Nat.not_lt_zero _)
    | succ fuel2 ih2 =>
      intro A1 k hm2 hk1 hk2 hk3 hk4
      refine j_ild4 hk dX4_copies_2 rfl rfl ?_
      refine j_bipush (n := 21) hk rfl dX4_copies_3 ?_
      refine j_icmp_ge hk (by omega) (by omega) dX4_copies_5 rfl (tgt := 36) (fun h5 => ?_) (fun h5 => ?_)
      · have hN2 : nowIs (A1 0) (sset S t (S s)) V := hN.copy hs ht (fun i h => hk3 i (by omega)) (fun x h => hk4 x (by omega))
        refine j_ald4 hk dX4_copies_36 rfl rfl ?_
        refine j_ild4 hk dX4_copies_37 rfl rfl ?_
        refine j_mVi hE hk hl0 hF (mc_count hls hE (A := A1) (F := F) (s := t) (S := sset S t (S s)) (V := V) (hN2) (ht)) 1 (lw_V q2801 q2803 qs60 q145 q2804) (by decide +kernel) rfl (by decide) (by decide) rfl (Nat.le_of_ble_eq_true rfl) dX4_copies_38 ?_
        rintro _ _ _ ⟨rfl, rfl, rfl⟩
        refine j_top (z2 := (((S s).length : Nat) : Int)) (by rw [sset_s]) ?_
        refine j_miret hk he rfl dX4_copies_41 (Nat.le_refl _) (Nat.le_refl _) ?_
        exact ⟨rfl, hN2, hk2, rfl⟩
      · refine j_ald4 hk dX4_copies_8 rfl rfl ?_
        refine j_mgetA hE hk 0 (by decide) rfl q2614 dX4_copies_9 ?_
        refine j_bipush (n := 21) hk rfl dX4_copies_12 ?_
        refine j_ild4 hk dX4_copies_14 rfl rfl ?_
        refine j_imul hk dX4_copies_15 ?_
        refine j_ild4 hk dX4_copies_16 rfl rfl ?_
        refine j_iadd hk dX4_copies_17 ?_
        refine j_ald4 hk dX4_copies_18 rfl rfl ?_
        refine j_mgetA hE hk 0 (by decide) rfl q2614 dX4_copies_19 ?_
        refine j_bipush (n := 21) hk rfl dX4_copies_22 ?_
        refine j_ild4 hk dX4_copies_24 rfl rfl ?_
        refine j_imul hk dX4_copies_25 ?_
        refine j_ild4 hk dX4_copies_26 rfl rfl ?_
        refine j_iadd hk dX4_copies_27 ?_
        refine j_mald hE hk 0 0 rfl ((21 * s) + k) (by omega) (by simp only [mLen]; omega) dX4_copies_28 ?_
        refine j_mast hE hk hF 0 0 rfl ((21 * t) + k) (by omega) (by simp only [mLen]; omega) dX4_copies_29 ?_
        refine j_iinc3 hk dX4_copies_30 rfl ?_
        refine j_goto (tgt := 2) hk dX4_copies_33 rfl ?_
        exact ih2 (mup A1 0 ((21 * t) + k) (A1 0 ((21 * s) + k))) (k + 1) (by omega) (by omega) (hk2.up (by decide)) (fun i h => by
  rw [mup_s]
  by_cases e : i = k
  · subst e; rw [iup_s]
    by_cases e2 : t = s
    · subst e2; exact hk4 _ (by omega)
    · exact hk4 _ (by omega)
  · rw [iup_n (by omega)]; exact hk3 i (by omega)) (fun x h => by rw [mup_s, iup_n (by omega)]; exact hk4 x (by omega))
  exact loop2 _ A 0 (Nat.lt_succ_self _) (by omega) (kA.rf) (fun i h => by omega) (fun x _ => rfl)
set_option maxHeartbeats 1500000 in
/-- clears(I)I -/
theorem mc_clears {l : Launch} {E : jE} {m : Nat} {ad : Nat → Nat} {A : Nat → Nat → Int} {F : Nat → Int} (hls : l.stackTraces = false) (hE : jSt E) {s : Nat} {S : Nat → List Op} {V : Nat → Nat} (hN : nowIs (A 0) S V) (hs : s < 4) : mC l E yX4_clears cX4_clears 3 (some .int) 2 33 [.ref m, .int (jI ((s : Nat) : Int))] m ad A F (mQi E m ad (fun r A2 F2 => (((S s).length : Nat) : Int) = r ∧ nowIs (A2 0) (sset S s []) V ∧ kA [0] A A2 ∧ F = F2)) := by
  refine m_start (own := "ScheduleAnalyzerModel") (vs := [some (.ref m), some (.int (jI ((s : Nat) : Int))), none]) hls (by decide +kernel) rfl rfl rfl (Nat.le_of_ble_eq_true rfl) ?_
  intro K hk he hl0 hF hG0
  refine j_ald4 hk dX4_clears_0 rfl rfl ?_
  refine j_ild4 hk dX4_clears_1 rfl rfl ?_
  refine j_mVi hE hk hl0 hF (mc_count hls hE (A := A) (F := F) (s := s) (by first | assumption | omega) (by first | assumption | omega)) 1 (lw_V q2801 q2803 qs60 q145 q2804) (by decide +kernel) rfl (by decide) (by decide) rfl (Nat.le_of_ble_eq_true rfl) dX4_clears_2 ?_
  rintro _ _ _ ⟨rfl, rfl, rfl⟩
  refine j_ist2 hk dX4_clears_5 rfl ?_
  refine j_ald4 hk dX4_clears_6 rfl rfl ?_
  refine j_mgetA hE hk 0 (by decide) rfl q2614 dX4_clears_7 ?_
  refine j_bipush (n := 21) hk rfl dX4_clears_10 ?_
  refine j_ild4 hk dX4_clears_12 rfl rfl ?_
  refine j_imul hk dX4_clears_13 ?_
  refine j_iconst (n := 0) hk dX4_clears_14 ?_
  refine j_mast hE hk hF 0 0 rfl (21 * s) (by omega) (by simp only [mLen]; omega) dX4_clears_15 ?_
  refine j_ild4 hk dX4_clears_16 rfl rfl ?_
  refine j_miret hk he rfl dX4_clears_17 (Nat.le_refl _) (Nat.le_refl _) ?_
  exact ⟨rfl, by rw [mup_s]; exact hN.clear hs, kA.up1, rfl⟩
set_option maxHeartbeats 1500000 in
/-- setsValue(II)I -/
theorem mc_setsValue {l : Launch} {E : jE} {m : Nat} {ad : Nat → Nat} {A : Nat → Nat → Int} {F : Nat → Int} (hls : l.stackTraces = false) (hE : jSt E) {i : Nat} {v : Nat} {S : Nat → List Op} {V : Nat → Nat} (hN : nowIs (A 0) S V) (hi : i < 4) (hv : v < 1000) : mC l E yX4_setsValue cX4_setsValue 4 (some .int) 1 12 [.ref m, .int (jI ((i : Nat) : Int)), .int (jI ((v : Nat) : Int))] m ad A F (mQi E m ad (fun r A2 F2 => ((V i : Nat) : Int) = r ∧ nowIs (A2 0) S (fun j => if j = i then v else V j) ∧ kA [0] A A2 ∧ F = F2)) := by
  refine m_start (own := "ScheduleAnalyzerModel") (vs := [some (.ref m), some (.int (jI ((i : Nat) : Int))), some (.int (jI ((v : Nat) : Int))), none]) hls (by decide +kernel) rfl rfl rfl (Nat.le_of_ble_eq_true rfl) ?_
  intro K hk he hl0 hF hG0
  refine j_ald4 hk dX4_setsValue_0 rfl rfl ?_
  refine j_mgetA hE hk 0 (by decide) rfl q2614 dX4_setsValue_1 ?_
  refine j_bipush (n := 84) hk rfl dX4_setsValue_4 ?_
  refine j_ild4 hk dX4_setsValue_6 rfl rfl ?_
  refine j_iadd hk dX4_setsValue_7 ?_
  refine j_mald hE hk 0 0 rfl (84 + i) (by omega) (by simp only [mLen]; omega) dX4_setsValue_8 ?_
  refine j_top (z2 := ((V i : Nat) : Int)) ((hN.2 i hi).1) ?_
  refine j_ist3 hk dX4_setsValue_9 rfl ?_
  refine j_ald4 hk dX4_setsValue_10 rfl rfl ?_
  refine j_mgetA hE hk 0 (by decide) rfl q2614 dX4_setsValue_11 ?_
  refine j_bipush (n := 84) hk rfl dX4_setsValue_14 ?_
  refine j_ild4 hk dX4_setsValue_16 rfl rfl ?_
  refine j_iadd hk dX4_setsValue_17 ?_
  refine j_ild4 hk dX4_setsValue_18 rfl rfl ?_
  refine j_mast hE hk hF 0 0 rfl (84 + i) (by omega) (by simp only [mLen]; omega) dX4_setsValue_19 ?_
  refine j_ild4 hk dX4_setsValue_20 rfl rfl ?_
  refine j_miret hk he rfl dX4_setsValue_21 (Nat.le_refl _) (Nat.le_refl _) ?_
  exact ⟨rfl, by rw [mup_s]; exact hN.value hi hv, kA.up1, rfl⟩
