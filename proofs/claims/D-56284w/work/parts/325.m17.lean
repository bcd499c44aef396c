set_option maxHeartbeats 1500000 in
/-- layPlaces()V -/
theorem mc_layPlaces {l : Launch} {E : jE} {m : Nat} {ad : Nat → Nat} {A : Nat → Nat → Int} {F : Nat → Int} (hls : l.stackTraces = false) (hE : jSt E) {L : List Op} {q : Nat → Nat} (hL : laid A F L) (hq : ∀ k, k < L.length → A 29 k = ((q k : Nat) : Int) ∧ q k < L.length) (hi : ∀ j k, j < L.length → k < L.length → q j = q k → j = k) : mC l E yX4_layPlaces cX4_layPlaces 2 (none) 1 12 [.ref m] m ad A F (mQv E m ad (fun A2 F2 => (∀ k, k < L.length → A2 30 (q k) = ((k : Nat) : Int)) ∧ kA [30] A A2 ∧ F = F2)) := by
  refine m_start (own := "ScheduleAnalyzerModel") (vs := [some (.ref m), none]) hls (by decide +kernel) rfl rfl rfl (Nat.le_of_ble_eq_true rfl) ?_
  intro K hk he hl0 hF hG0
  have hlen := hL.len
  refine j_iconst (n := 0) hk dX4_layPlaces_0 ?_
  refine j_ist1 hk dX4_layPlaces_1 rfl ?_
  have loop2 : ∀ (fuel2 : Nat) (A1 : Nat → Nat → Int) (k : Nat), L.length - k < fuel2 → k ≤ L.length → (∀ j, j < k → A1 30 (q j) = ((j : Nat) : Int)) → kA [30] A A1 → jW K (mAs E m ad A1 F) 0 0 2 [some (.ref m), some (.int (jI ((k : Nat) : Int)))] [] := by
    intro fuel2
    induction fuel2 with
    | zero => intro A1 k hm; exact absurd hm (Nat.not_lt_zero _)
    | succ fuel2 ih2 =>
      intro A1 k hm2 hk1 hp ka1
      refine j_ild4 hk dX4_layPlaces_2 rfl rfl ?_
      refine j_ald4 hk dX4_layPlaces_3 rfl rfl ?_
      refine j_mget hE hk 19 (by decide) rfl q2633 dX4_layPlaces_4 ?_
      refine j_top (z2 := ((L.length : Nat) : Int)) (hL.1) ?_
      refine j_icmp_ge hk (by omega) (by omega) dX4_layPlaces_7 rfl (tgt := 28) (fun h7 => ?_) (fun h7 => ?_)
      · refine j_mvret hk he dX4_layPlaces_28 (Nat.le_refl _) (Nat.le_refl _) ?_
        exact ⟨fun j hj => hp j (by omega), ka1, rfl⟩
      · obtain ⟨q1, q2⟩ := hq k (by omega)
        refine j_ald4 hk dX4_layPlaces_10 rfl rfl ?_
        refine j_mgetA hE hk 30 (by decide) rfl q2644 dX4_layPlaces_11 ?_
        refine j_ald4 hk dX4_layPlaces_14 rfl rfl ?_
        refine j_mgetA hE hk 29 (by decide) rfl q2643 dX4_layPlaces_15 ?_
        refine j_ild4 hk dX4_layPlaces_18 rfl rfl ?_
        refine j_mald hE hk 29 17 rfl (k) (by omega) (by simp only [mLen]; omega) dX4_layPlaces_19 ?_
        refine j_top (z2 := ((q k : Nat) : Int)) (by rw [ka1 29 (by decide)]; exact q1) ?_
        refine j_ild4 hk dX4_layPlaces_20 rfl rfl ?_
        refine j_mast hE hk hF 30 18 rfl (q k) (by omega) (by simp only [mLen]; omega) dX4_layPlaces_21 ?_
        refine j_iinc1 hk dX4_layPlaces_22 rfl ?_
        refine j_goto (tgt := 2) hk dX4_layPlaces_25 rfl ?_
        exact ih2 (mup A1 30 (q k) ((k : Nat) : Int)) (k + 1) (by omega) (by omega) (fun j hj => by
  rw [mup_s]
  by_cases e : j = k
  · subst e; rw [iup_s]
  · rw [iup_n (fun e2 => e (hi j k (by omega) (by omega) e2))]; exact hp j (by omega)) (ka1.up (by decide))
  exact loop2 _ A 0 (Nat.lt_succ_self _) (Nat.zero_le _) (fun j h => absurd h (Nat.not_lt_zero _)) (kA.rf)
set_option maxHeartbeats 1500000 in
/-- latestWrite(II)I -/
theorem mc_latestWrite {l : Launch} {E : jE} {m : Nat} {ad : Nat → Nat} {A : Nat → Nat → Int} {F : Nat → Int} (hls : l.stackTraces = false) (hE : jSt E) {x : Nat} {b : Nat} {L : List Op} {q : Nat → Nat} (hL : laid A F L) (hq : ∀ k, k < L.length → A 29 k = ((q k : Nat) : Int) ∧ q k < L.length) (hb : b ≤ L.length) (hx : x < 4) : mC l E yX4_latestWrite cX4_latestWrite 4 (some .int) 1 12 [.ref m, .int (jI ((x : Nat) : Int)), .int (jI ((b : Nat) : Int))] m ad A F (mQi E m ad (fun r A2 F2 => lwTo L q x b = r ∧ A = A2 ∧ F = F2)) := by
  refine m_start (own := "ScheduleAnalyzerModel") (vs := [some (.ref m), some (.int (jI ((x : Nat) : Int))), some (.int (jI ((b : Nat) : Int))), none]) hls (by decide +kernel) rfl rfl rfl (Nat.le_of_ble_eq_true rfl) ?_
  intro K hk he hl0 hF hG0
  have hlen := hL.len
  refine j_ild4 hk dX4_latestWrite_0 rfl rfl ?_
  refine j_iconst (n := 1) hk dX4_latestWrite_1 ?_
  refine j_isub hk dX4_latestWrite_2 ?_
  refine j_ist3 hk dX4_latestWrite_3 rfl ?_
  have loop4 : ∀ (fuel4 : Nat) (n : Nat), n < fuel4 → n ≤ b → lwTo L q x n = lwTo L q x b → jW K (mAs E m ad A F) 0 0 4 [some (.ref m), some (.int (jI ((x : Nat) : Int))), some (.int (jI ((b : Nat) : Int))), some (.int (jI (((n : Nat) : Int) - 1)))] [] := by
    intro fuel4
    induction fuel4 with
    | zero => intro n hm; exact absurd hm (Nat.not_lt_zero _)
    | succ fuel4 ih4 =>
      intro n hm4 hn hs
      refine j_ild4 hk dX4_latestWrite_4 rfl rfl ?_
      refine j_if_lt hk (by omega) dX4_latestWrite_5 rfl (tgt := 51) (fun h5 => ?_) (fun h5 => ?_)
      · refine j_iconst (n := -1) hk dX4_latestWrite_51 ?_
        refine j_miret hk he rfl dX4_latestWrite_52 (Nat.le_refl _) (Nat.le_refl _) ?_
        have e : n = 0 := by omega
        subst e
        exact ⟨hs.symm, rfl, rfl⟩
      · obtain ⟨j, rfl⟩ : ∃ j, n = j + 1 := ⟨n - 1, by omega⟩
        refine j_loc (i := 3) (z2 := ((j : Nat) : Int)) rfl (by omega) ?_
        obtain ⟨q1, q2⟩ := hq j (by omega)
        have lr := hL.2.2 (q j) (by omega)
        obtain ⟨l1, l2, l3⟩ := lr
        obtain ⟨l4, l5, l6, l7, l8⟩ := hL.ok (i := q j) (by omega)
        refine j_ald4 hk dX4_latestWrite_8 rfl rfl ?_
        refine j_mgetA hE hk 13 (by decide) rfl q2627 dX4_latestWrite_9 ?_
        refine j_ald4 hk dX4_latestWrite_12 rfl rfl ?_
        refine j_mgetA hE hk 29 (by decide) rfl q2643 dX4_latestWrite_13 ?_
        refine j_ild4 hk dX4_latestWrite_16 rfl rfl ?_
        refine j_mald hE hk 29 17 rfl (j) (by omega) (by simp only [mLen]; omega) dX4_latestWrite_17 ?_
        refine j_top (z2 := ((q j : Nat) : Int)) (q1) ?_
        refine j_mald hE hk 13 6 rfl (q j) (by omega) (by simp only [mLen]; omega) dX4_latestWrite_18 ?_
        refine j_top (z2 := ((oK (opAt L (q j)) : Nat) : Int)) (l1) ?_
        refine j_iconst (n := 1) hk dX4_latestWrite_19 ?_
        refine j_icmp_ne hk (by omega) (by omega) dX4_latestWrite_20 rfl (tgt := 45) (fun h20 => ?_) (fun h20 => ?_)
        · refine j_iinc3 hk dX4_latestWrite_45 rfl ?_
          refine j_goto (tgt := 4) hk dX4_latestWrite_48 rfl ?_
          exact ih4 j (by omega) (by omega) (by rw [← hs, lwTo_s, if_neg (fun z => absurd z.1 (by omega))])
        · refine j_ald4 hk dX4_latestWrite_23 rfl rfl ?_
          refine j_mgetA hE hk 15 (by decide) rfl q2629 dX4_latestWrite_24 ?_
          refine j_ald4 hk dX4_latestWrite_27 rfl rfl ?_
          refine j_mgetA hE hk 29 (by decide) rfl q2643 dX4_latestWrite_28 ?_
          refine j_ild4 hk dX4_latestWrite_31 rfl rfl ?_
          refine j_mald hE hk 29 17 rfl (j) (by omega) (by simp only [mLen]; omega) dX4_latestWrite_32 ?_
          refine j_top (z2 := ((q j : Nat) : Int)) (q1) ?_
          refine j_mald hE hk 15 8 rfl (q j) (by omega) (by simp only [mLen]; omega) dX4_latestWrite_33 ?_
          refine j_top (z2 := ((oI (opAt L (q j)) : Nat) : Int)) (l3) ?_
          refine j_ild4 hk dX4_latestWrite_34 rfl rfl ?_
          refine j_icmp_ne hk (by omega) (by omega) dX4_latestWrite_35 rfl (tgt := 45) (fun h35 => ?_) (fun h35 => ?_)
          · refine j_iinc3 hk dX4_latestWrite_45 rfl ?_
            refine j_goto (tgt := 4) hk dX4_latestWrite_48 rfl ?_
            exact ih4 j (by omega) (by omega) (by rw [← hs, lwTo_s, if_neg (fun z => absurd z.2 (by omega))])
          · refine j_ald4 hk dX4_latestWrite_38 rfl rfl ?_
            refine j_mgetA hE hk 29 (by decide) rfl q2643 dX4_latestWrite_39 ?_
            refine j_ild4 hk dX4_latestWrite_42 rfl rfl ?_
            refine j_mald hE hk 29 17 rfl (j) (by omega) (by simp only [mLen]; omega) dX4_latestWrite_43 ?_
            refine j_top (z2 := ((q j : Nat) : Int)) (q1) ?_
            refine j_miret hk he rfl dX4_latestWrite_44 (Nat.le_refl _) (Nat.le_refl _) ?_
            exact ⟨by rw [← hs, lwTo_s, if_pos ⟨by omega, by omega⟩], rfl, rfl⟩
  exact loop4 _ b (Nat.lt_succ_self _) (Nat.le_refl _) (rfl)
set_option maxHeartbeats 1500000 in
/-- latestInRest(II)I -/
theorem mc_latestInRest {l : Launch} {E : jE} {m : Nat} {ad : Nat → Nat} {A : Nat → Nat → Int} {F : Nat → Int} (hls : l.stackTraces = false) (hE : jSt E) {x : Nat} {b : Nat} {L : List Op} (hL : laid A F L) (hb : b ≤ L.length) (hx : x < 4) : mC l E yX4_latestInRest cX4_latestInRest 4 (some .int) 1 12 [.ref m, .int (jI ((x : Nat) : Int)), .int (jI ((b : Nat) : Int))] m ad A F (mQi E m ad (fun r A2 F2 => lwTo L (fun j => j) x b = r ∧ A = A2 ∧ F = F2)) := by
  refine m_start (own := "ScheduleAnalyzerModel") (vs := [some (.ref m), some (.int (jI ((x : Nat) : Int))), some (.int (jI ((b : Nat) : Int))), none]) hls (by decide +kernel) rfl rfl rfl (Nat.le_of_ble_eq_true rfl) ?_
  intro K hk he hl0 hF hG0
  have hlen := hL.len
  refine j_ild4 hk dX4_latestInRest_0 rfl rfl ?_
  refine j_iconst (n := 1) hk dX4_latestInRest_1 ?_
  refine j_isub hk dX4_latestInRest_2 ?_
  refine j_ist3 hk dX4_latestInRest_3 rfl ?_
  have loop4 : ∀ (fuel4 : Nat) (n : Nat), n < fuel4 → n ≤ b → lwTo L (fun j => j) x n = lwTo L (fun j => j) x b → jW K (mAs E m ad A F) 0 0 4 [some (.ref m), some (.int (jI ((x : Nat) : Int))), some (.int (jI ((b : Nat) : Int))), some (.int (jI (((n : Nat) : Int) - 1)))] [] := by
    intro fuel4
    induction fuel4 with
    | zero => intro n hm; exact absurd hm (Nat.not_lt_zero _)
    | succ fuel4 ih4 =>
      intro n hm4 hn hs
      refine j_ild4 hk dX4_latestInRest_4 rfl rfl ?_
      refine j_if_lt hk (by omega) dX4_latestInRest_5 rfl (tgt := 36) (fun h5 => ?_) (fun h5 => ?_)
      · refine j_iconst (n := -1) hk dX4_latestInRest_36 ?_
        refine j_miret hk he rfl dX4_latestInRest_37 (Nat.le_refl _) (Nat.le_refl _) ?_
        have e : n = 0 := by omega
        subst e
        exact ⟨hs.symm, rfl, rfl⟩
      · obtain ⟨j, rfl⟩ : ∃ j, n = j + 1 := ⟨n - 1, by omega⟩
        refine j_loc (i := 3) (z2 := ((j : Nat) : Int)) rfl (by omega) ?_
        have lr := hL.2.2 (j) (by omega)
        obtain ⟨l1, l2, l3⟩ := lr
        obtain ⟨l4, l5, l6, l7, l8⟩ := hL.ok (i := j) (by omega)
        refine j_ald4 hk dX4_latestInRest_8 rfl rfl ?_
        refine j_mgetA hE hk 13 (by decide) rfl q2627 dX4_latestInRest_9 ?_
        refine j_ild4 hk dX4_latestInRest_12 rfl rfl ?_
        refine j_mald hE hk 13 6 rfl (j) (by omega) (by simp only [mLen]; omega) dX4_latestInRest_13 ?_
        refine j_top (z2 := ((oK (opAt L j) : Nat) : Int)) (l1) ?_
        refine j_iconst (n := 1) hk dX4_latestInRest_14 ?_
        refine j_icmp_ne hk (by omega) (by omega) dX4_latestInRest_15 rfl (tgt := 30) (fun h15 => ?_) (fun h15 => ?_)
        · refine j_iinc3 hk dX4_latestInRest_30 rfl ?_
          refine j_goto (tgt := 4) hk dX4_latestInRest_33 rfl ?_
          exact ih4 j (by omega) (by omega) (by rw [← hs, lwTo_s, if_neg (fun z => absurd z.1 (by show ¬ oK (opAt L j) = 1; omega))])
        · refine j_ald4 hk dX4_latestInRest_18 rfl rfl ?_
          refine j_mgetA hE hk 15 (by decide) rfl q2629 dX4_latestInRest_19 ?_
          refine j_ild4 hk dX4_latestInRest_22 rfl rfl ?_
          refine j_mald hE hk 15 8 rfl (j) (by omega) (by simp only [mLen]; omega) dX4_latestInRest_23 ?_
          refine j_top (z2 := ((oI (opAt L j) : Nat) : Int)) (l3) ?_
          refine j_ild4 hk dX4_latestInRest_24 rfl rfl ?_
          refine j_icmp_ne hk (by omega) (by omega) dX4_latestInRest_25 rfl (tgt := 30) (fun h25 => ?_) (fun h25 => ?_)
          · refine j_iinc3 hk dX4_latestInRest_30 rfl ?_
            refine j_goto (tgt := 4) hk dX4_latestInRest_33 rfl ?_
            exact ih4 j (by omega) (by omega) (by rw [← hs, lwTo_s, if_neg (fun z => absurd z.2 (by show ¬ oI (opAt L j) = x; omega))])
          · refine j_ild4 hk dX4_latestInRest_28 rfl rfl ?_
            refine j_miret hk he rfl dX4_latestInRest_29 (Nat.le_refl _) (Nat.le_refl _) ?_
            exact ⟨by rw [← hs, lwTo_s, if_pos ⟨by show oK (opAt L j) = 1; omega, by show oI (opAt L j) = x; omega⟩], rfl, rfl⟩
  exact loop4 _ b (Nat.lt_succ_self _) (Nat.le_refl _) (rfl)
set_option maxHeartbeats 1500000 in
/-- isSameView()Z -/
theorem mc_isSameView {l : Launch} {E : jE} {m : Nat} {ad : Nat → Nat} {A : Nat → Nat → Int} {F : Nat → Int} (hls : l.stackTraces = false) (hE : jSt E) {L : List Op} {q : Nat → Nat} {pl : Nat → Nat} (hL : laid A F L) (hsq : sqIs A L q pl) : mC l E yX4_isSameView cX4_isSameView 2 (some .boolean) 2 35 [.ref m] m ad A F (mQi E m ad (fun r A2 F2 => jB (vwB L q pl) = r ∧ A = A2 ∧ F = F2)) := by
  refine m_start (own := "ScheduleAnalyzerModel") (vs := [some (.ref m), none]) hls (by decide +kernel) rfl rfl rfl (Nat.le_of_ble_eq_true rfl) ?_
  intro K hk he hl0 hF hG0
  have hlen := hL.len
  refine j_iconst (n := 0) hk dX4_isSameView_0 ?_
  refine j_ist1 hk dX4_isSameView_1 rfl ?_
  have loop2 : ∀ (fuel2 : Nat) (k : Nat), L.length - k < fuel2 → k ≤ L.length → (∀ j, j < k → vwP L q pl j = false) → jW K (mAs E m ad A F) 0 0 2 [some (.ref m), some (.int (jI ((k : Nat) : Int)))] [] := by
    intro fuel2
    induction fuel2 with
    | zero => intro k hm; exact absurd hm (Nat.not_lt_zero _)
    | succ fuel2 ih2 =>
      intro k hm2 hk1 hk2
      refine j_ild4 hk dX4_isSameView_2 rfl rfl ?_
      refine j_ald4 hk dX4_isSameView_3 rfl rfl ?_
      refine j_mget hE hk 19 (by decide) rfl q2633 dX4_isSameView_4 ?_
      refine j_top (z2 := ((L.length : Nat) : Int)) (hL.1) ?_
      refine j_icmp_ge hk (by omega) (by omega) dX4_isSameView_7 rfl (tgt := 57) (fun h7 => ?_) (fun h7 => ?_)
      · refine j_iconst (n := 0) hk dX4_isSameView_57 ?_
        refine j_ist1 hk dX4_isSameView_58 rfl ?_
        have loop59 : ∀ (fuel59 : Nat) (x : Nat), 4 - x < fuel59 → x ≤ 4 → (∀ j, j < x → vwQ L q j = false) → jW K (mAs E m ad A F) 0 0 59 [some (.ref m), some (.int (jI ((x : Nat) : Int)))] [] := by
          intro fuel59
          induction fuel59 with
          | zero => intro x hm; exact absurd hm (Nat.not_lt_zero _)
          | succ fuel59 ih59 =>
            intro x hm59 hx1 hx2
            refine j_ild4 hk dX4_isSameView_59 rfl rfl ?_
            refine j_iconst (n := 4) hk dX4_isSameView_60 ?_
            refine j_icmp_ge hk (by omega) (by omega) dX4_isSameView_61 rfl (tgt := 93) (fun h61 => ?_) (fun h61 => ?_)
            · refine j_iconst (n := 1) hk dX4_isSameView_93 ?_
              refine j_miret hk he rfl dX4_isSameView_94 (Nat.le_refl _) (Nat.le_refl _) ?_
              exact ⟨by rw [vwB, any_range (fun j hj => hk2 j (by omega)), any_range (fun j hj => hx2 j (by omega))]; rfl, rfl, rfl⟩
            · have lr1 := lwTo_r (L := L) (q := q) (x := x) (n := L.length) (fun j hj => (hsq.1 j (by omega)).2)
              have lr2 := lwTo_r (L := L) (q := fun j => j) (x := x) (n := L.length) (fun j hj => show j < L.length by omega)
              refine j_ald4 hk dX4_isSameView_64 rfl rfl ?_
              refine j_ild4 hk dX4_isSameView_65 rfl rfl ?_
              refine j_ald4 hk dX4_isSameView_66 rfl rfl ?_
              refine j_mget hE hk 19 (by decide) rfl q2633 dX4_isSameView_67 ?_
              refine j_top (z2 := ((L.length : Nat) : Int)) (hL.1) ?_
              refine j_mVi hE hk hl0 hF (mc_latestWrite hls hE (A := A) (F := F) (x := x) (b := L.length) (L := L) (q := q) (hL) (hsq.1) (by omega) (by omega)) 2 (lw_V q3079 q3081 qs101 q145 q3082) (by decide +kernel) rfl (by decide) (by decide) rfl (Nat.le_of_ble_eq_true rfl) dX4_isSameView_70 ?_
              rintro _ _ _ ⟨rfl, rfl, rfl⟩
              refine j_ald4 hk dX4_isSameView_73 rfl rfl ?_
              refine j_ild4 hk dX4_isSameView_74 rfl rfl ?_
              refine j_ald4 hk dX4_isSameView_75 rfl rfl ?_
              refine j_mget hE hk 19 (by decide) rfl q2633 dX4_isSameView_76 ?_
              refine j_top (z2 := ((L.length : Nat) : Int)) (hL.1) ?_
              refine j_mVi hE hk hl0 hF (mc_latestInRest hls hE (A := A) (F := F) (x := x) (b := L.length) (L := L) (hL) (by omega) (by omega)) 2 (lw_V q3083 q3085 qs102 q145 q3086) (by decide +kernel) rfl (by decide) (by decide) rfl (Nat.le_of_ble_eq_true rfl) dX4_isSameView_79 ?_
              rintro _ _ _ ⟨rfl, rfl, rfl⟩
              refine j_icmp_eq hk (by omega) (by omega) dX4_isSameView_82 rfl (tgt := 87) (fun h82 => ?_) (fun h82 => ?_)
              · refine j_iinc1 hk dX4_isSameView_87 rfl ?_
                refine j_goto (tgt := 59) hk dX4_isSameView_90 rfl ?_
                exact ih59 (x + 1) (by omega) (by omega) (all_s hx2 (by unfold vwQ; simp; omega))
              · refine j_iconst (n := 0) hk dX4_isSameView_85 ?_
                refine j_miret hk he rfl dX4_isSameView_86 (Nat.le_refl _) (Nat.le_refl _) ?_
                exact ⟨by rw [vwB, any_range_t (n := 4) (j := x) (by omega) (by unfold vwQ; simp; omega), Bool.and_comm]; rfl, rfl, rfl⟩
        exact loop59 _ 0 (Nat.lt_succ_self _) (Nat.zero_le _) (fun j h => absurd h (Nat.not_lt_zero _))
      · have lr := hL.2.2 (k) (by omega)
        obtain ⟨l1, l2, l3⟩ := lr
        obtain ⟨l4, l5, l6, l7, l8⟩ := hL.ok (i := k) (by omega)
        obtain ⟨p1, p2⟩ := hsq.2 k (by omega)
        refine j_ald4 hk dX4_isSameView_10 rfl rfl ?_
        refine j_mgetA hE hk 13 (by decide) rfl q2627 dX4_isSameView_11 ?_
        refine j_ild4 hk dX4_isSameView_14 rfl rfl ?_
        refine j_mald hE hk 13 6 rfl (k) (by omega) (by simp only [mLen]; omega) dX4_isSameView_15 ?_
        refine j_top (z2 := ((oK (opAt L k) : Nat) : Int)) (l1) ?_
        refine j_if_ne hk (by omega) dX4_isSameView_16 rfl (tgt := 51) (fun h16 => ?_) (fun h16 => ?_)
        · refine j_iinc1 hk dX4_isSameView_51 rfl ?_
          refine j_goto (tgt := 2) hk dX4_isSameView_54 rfl ?_
          exact ih2 (k + 1) (by omega) (by omega) (all_s hk2 (by unfold vwP; simp; omega))
        · refine j_ald4 hk dX4_isSameView_19 rfl rfl ?_
          refine j_ald4 hk dX4_isSameView_20 rfl rfl ?_
          refine j_mgetA hE hk 15 (by decide) rfl q2629 dX4_isSameView_21 ?_
          refine j_ild4 hk dX4_isSameView_24 rfl rfl ?_
          refine j_mald hE hk 15 8 rfl (k) (by omega) (by simp only [mLen]; omega) dX4_isSameView_25 ?_
          refine j_top (z2 := ((oI (opAt L k) : Nat) : Int)) (l3) ?_
          have lr1 := lwTo_r (L := L) (q := q) (x := oI (opAt L k)) (n := pl k) (fun j hj => (hsq.1 j (by omega)).2)
          have lr2 := lwTo_r (L := L) (q := fun j => j) (x := oI (opAt L k)) (n := k) (fun j hj => show j < L.length by omega)
          refine j_ald4 hk dX4_isSameView_26 rfl rfl ?_
          refine j_mgetA hE hk 30 (by decide) rfl q2644 dX4_isSameView_27 ?_
          refine j_ild4 hk dX4_isSameView_30 rfl rfl ?_
          refine j_mald hE hk 30 18 rfl (k) (by omega) (by simp only [mLen]; omega) dX4_isSameView_31 ?_
          refine j_top (z2 := ((pl k : Nat) : Int)) (p1) ?_
          refine j_mVi hE hk hl0 hF (mc_latestWrite hls hE (A := A) (F := F) (x := oI (opAt L k)) (b := pl k) (L := L) (q := q) (hL) (hsq.1) (by omega) (by omega)) 2 (lw_V q3079 q3081 qs101 q145 q3082) (by decide +kernel) rfl (by decide) (by decide) rfl (Nat.le_of_ble_eq_true rfl) dX4_isSameView_32 ?_
          rintro _ _ _ ⟨rfl, rfl, rfl⟩
          refine j_ald4 hk dX4_isSameView_35 rfl rfl ?_
          refine j_ald4 hk dX4_isSameView_36 rfl rfl ?_
          refine j_mgetA hE hk 15 (by decide) rfl q2629 dX4_isSameView_37 ?_
          refine j_ild4 hk dX4_isSameView_40 rfl rfl ?_
          refine j_mald hE hk 15 8 rfl (k) (by omega) (by simp only [mLen]; omega) dX4_isSameView_41 ?_
          refine j_top (z2 := ((oI (opAt L k) : Nat) : Int)) (l3) ?_
          refine j_ild4 hk dX4_isSameView_42 rfl rfl ?_
          refine j_mVi hE hk hl0 hF (mc_latestInRest hls hE (A := A) (F := F) (x := oI (opAt L k)) (b := k) (L := L) (hL) (by omega) (by omega)) 2 (lw_V q3083 q3085 qs102 q145 q3086) (by decide +kernel) rfl (by decide) (by decide) rfl (Nat.le_of_ble_eq_true rfl) dX4_isSameView_43 ?_
          rintro _ _ _ ⟨rfl, rfl, rfl⟩
          refine j_icmp_eq hk (by omega) (by omega) dX4_isSameView_46 rfl (tgt := 51) (fun h46 => ?_) (fun h46 => ?_)
          · refine j_iinc1 hk dX4_isSameView_51 rfl ?_
            refine j_goto (tgt := 2) hk dX4_isSameView_54 rfl ?_
            exact ih2 (k + 1) (by omega) (by omega) (all_s hk2 (by unfold vwP; simp; omega))
          · refine j_iconst (n := 0) hk dX4_isSameView_49 ?_
            refine j_miret hk he rfl dX4_isSameView_50 (Nat.le_refl _) (Nat.le_refl _) ?_
            exact ⟨by rw [vwB, any_range_t (j := k) (by omega) (by unfold vwP; simp; omega)]; rfl, rfl, rfl⟩
  exact loop2 _ 0 (Nat.lt_succ_self _) (Nat.zero_le _) (fun j h => absurd h (Nat.not_lt_zero _))
