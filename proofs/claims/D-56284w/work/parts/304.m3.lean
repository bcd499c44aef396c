set_option maxHeartbeats 1500000 in
/-- count(I)I -/
theorem mc_countR {l : Launch} {E : jE} {m : Nat} {ad : Nat → Nat} {A : Nat → Nat → Int} {F : Nat → Int} (hls : l.stackTraces = false) (hE : jSt E) {s : Nat} (hs : s < 4) : mC l E yX4_count cX4_count 2 (some .int) 1 12 [.ref m, .int (jI ((s : Nat) : Int))] m ad A F (mQi E m ad (fun r A2 F2 => A 0 (21 * s) = r ∧ A = A2 ∧ F = F2)) := by
  refine m_start (own := "ScheduleAnalyzerModel") (vs := [some (.ref m), some (.int (jI ((s : Nat) : Int)))]) hls (by decide +kernel) rfl rfl rfl (Nat.le_of_ble_eq_true rfl) ?_
  intro K hk he hl0 hF hG0
  refine j_ald4 hk dX4_count_0 rfl rfl ?_
  refine j_mgetA hE hk 0 (by decide) rfl q2614 dX4_count_1 ?_
  refine j_bipush (n := 21) hk rfl dX4_count_4 ?_
  refine j_ild4 hk dX4_count_6 rfl rfl ?_
  refine j_imul hk dX4_count_7 ?_
  refine j_mald hE hk 0 0 rfl (21 * s) (by omega) (by simp only [mLen]; omega) dX4_count_8 ?_
  refine j_miret hk he rfl dX4_count_9 (Nat.le_refl _) (Nat.le_refl _) ?_
  exact ⟨rfl, rfl, rfl⟩
set_option maxHeartbeats 1500000 in
/-- code(II)I -/
theorem mc_codeR {l : Launch} {E : jE} {m : Nat} {ad : Nat → Nat} {A : Nat → Nat → Int} {F : Nat → Int} (hls : l.stackTraces = false) (hE : jSt E) {s : Nat} {i : Nat} (hs : 21 * s + 1 + i < 88) : mC l E yX4_code cX4_code 3 (some .int) 1 12 [.ref m, .int (jI ((s : Nat) : Int)), .int (jI ((i : Nat) : Int))] m ad A F (mQi E m ad (fun r A2 F2 => A 0 (21 * s + 1 + i) = r ∧ A = A2 ∧ F = F2)) := by
  refine m_start (own := "ScheduleAnalyzerModel") (vs := [some (.ref m), some (.int (jI ((s : Nat) : Int))), some (.int (jI ((i : Nat) : Int)))]) hls (by decide +kernel) rfl rfl rfl (Nat.le_of_ble_eq_true rfl) ?_
  intro K hk he hl0 hF hG0
  refine j_ald4 hk dX4_code_0 rfl rfl ?_
  refine j_mgetA hE hk 0 (by decide) rfl q2614 dX4_code_1 ?_
  refine j_bipush (n := 21) hk rfl dX4_code_4 ?_
  refine j_ild4 hk dX4_code_6 rfl rfl ?_
  refine j_imul hk dX4_code_7 ?_
  refine j_iconst (n := 1) hk dX4_code_8 ?_
  refine j_iadd hk dX4_code_9 ?_
  refine j_ild4 hk dX4_code_10 rfl rfl ?_
  refine j_iadd hk dX4_code_11 ?_
  refine j_mald hE hk 0 0 rfl (((21 * s) + 1) + i) (by omega) (by simp only [mLen]; omega) dX4_code_12 ?_
  refine j_miret hk he rfl dX4_code_13 (Nat.le_refl _) (Nat.le_refl _) ?_
  exact ⟨rfl, rfl, rfl⟩
set_option maxHeartbeats 1500000 in
/-- copyAll([II[II)V -/
theorem mc_copyAll {l : Launch} {E : jE} {m : Nat} {ad : Nat → Nat} {A : Nat → Nat → Int} {F : Nat → Int} (hls : l.stackTraces = false) (hE : jSt E) {k1 i_k1 : Nat} {f : Nat} {k2 i_k2 : Nat} {t : Nat} (h_k1 : mArr[i_k1]? = some k1) (h_k2 : mArr[i_k2]? = some k2) (h1 : f + 88 ≤ mLen k1) (h2 : t + 88 ≤ mLen k2) (h3 : k1 ≠ k2 ∨ t + 88 ≤ f ∨ f + 88 ≤ t) (h4 : mLen k1 ≤ 704 ∧ mLen k2 ≤ 704) : mC l E yX4_copyAll cX4_copyAll 5 (none) 1 12 [.ref (ad k1), .int (jI ((f : Nat) : Int)), .ref (ad k2), .int (jI ((t : Nat) : Int))] m ad A F (mQv E m ad (fun A2 F2 => cpyN A k1 f k2 t 88 = A2 ∧ F = F2)) := by
  refine m_start (own := "ScheduleAnalyzerModel") (vs := [some (.ref (ad k1)), some (.int (jI ((f : Nat) : Int))), some (.ref (ad k2)), some (.int (jI ((t : Nat) : Int))), none]) hls (by decide +kernel) rfl rfl rfl (Nat.le_of_ble_eq_true rfl) ?_
  intro K hk he hl0 hF hG0
  refine j_iconst (n := 0) hk dX4_copyAll_0 ?_
  refine j_ist4 hk dX4_copyAll_1 rfl ?_
  have loop3 : ∀ (fuel3 : Nat) (A1 : Nat → Nat → Int) (n : Nat), 88 - n < fuel3 → n ≤ 88 → A1 = cpyN A k1 f k2 t n → jW K (mAs E m ad A1 F) 0 0 3 [some (.ref (ad k1)), some (.int (jI ((f : Nat) : Int))), some (.ref (ad k2)), some (.int (jI ((t : Nat) : Int))), some (.int (jI ((n : Nat) : Int)))] [] := by
    intro fuel3
    induction fuel3 with
    | zero => intro A1 n hm; exact absurd hm (Nat.not_lt_zero _)
    | succ fuel3 ih3 =>
      intro A1 n hm3 hn1 hn2
      refine j_ild hk dX4_copyAll_3 rfl ?_
      refine j_bipush (n := 88) hk rfl dX4_copyAll_5 ?_
      refine j_icmp_ge hk (by omega) (by omega) dX4_copyAll_7 rfl (tgt := 28) (fun h7 => ?_) (fun h7 => ?_)
      · refine j_mvret hk he dX4_copyAll_28 (Nat.le_refl _) (Nat.le_refl _) ?_
        exact ⟨by rw [hn2, show n = 88 by omega], rfl⟩
      · refine j_ald4 hk dX4_copyAll_10 rfl rfl ?_
        refine j_ild4 hk dX4_copyAll_11 rfl rfl ?_
        refine j_ild hk dX4_copyAll_12 rfl ?_
        refine j_iadd hk dX4_copyAll_14 ?_
        refine j_ald4 hk dX4_copyAll_15 rfl rfl ?_
        refine j_ild4 hk dX4_copyAll_16 rfl rfl ?_
        refine j_ild hk dX4_copyAll_17 rfl ?_
        refine j_iadd hk dX4_copyAll_19 ?_
        refine j_mald hE hk k1 i_k1 h_k1 (f + n) (by omega) (by omega) dX4_copyAll_20 ?_
        refine j_top (z2 := A k1 (f + n)) (by rw [hn2]; exact cpyN_rd h3 (by omega)) ?_
        refine j_mast hE hk hF k2 i_k2 h_k2 (t + n) (by omega) (by omega) dX4_copyAll_21 ?_
        refine j_iinc4 hk dX4_copyAll_22 rfl ?_
        refine j_goto (tgt := 3) hk dX4_copyAll_25 rfl ?_
        exact ih3 (mup A1 k2 (t + n) (A k1 (f + n))) (n + 1) (by omega) (by omega) (by rw [hn2]; exact cpyN_s)
  exact loop3 _ A 0 (Nat.lt_succ_self _) (by omega) ((cpyN_0 A k1 f k2 t).symm)
set_option maxHeartbeats 1500000 in
/-- begin()V -/
theorem mc_begin {l : Launch} {E : jE} {m : Nat} {ad : Nat → Nat} {A : Nat → Nat → Int} {F : Nat → Int} (hls : l.stackTraces = false) (hE : jSt E) {g : SS} (hR : mR A F g) : mC l E yX4_begin cX4_begin 1 (none) 2 36 [.ref m] m ad A F (mQv E m ad (fun A2 F2 => mR A2 F2 g ∧ nowIs (A2 1) g.1.1 g.1.2 ∧ F2 4 = 0 ∧ kA [1] A A2 ∧ kF [4] F F2)) := by
  refine m_start (own := "ScheduleAnalyzerModel") (vs := [some (.ref m)]) hls (by decide +kernel) rfl rfl rfl (Nat.le_of_ble_eq_true rfl) ?_
  intro K hk he hl0 hF hG0
  refine j_ald4 hk dX4_begin_0 rfl rfl ?_
  refine j_iconst (n := 0) hk dX4_begin_1 ?_
  refine j_mput hE hk hF 4 (by decide) rfl q2618 rfl rfl rfl rfl dX4_begin_2 ?_
  refine j_ald4 hk dX4_begin_5 rfl rfl ?_
  refine j_mgetA hE hk 0 (by decide) rfl q2614 dX4_begin_6 ?_
  refine j_iconst (n := 0) hk dX4_begin_9 ?_
  refine j_ald4 hk dX4_begin_10 rfl rfl ?_
  refine j_mgetA hE hk 1 (by decide) rfl q2615 dX4_begin_11 ?_
  refine j_iconst (n := 0) hk dX4_begin_14 ?_
  refine j_mSv hE hk hl0 hF (mc_copyAll hls hE (A := A) (F := (iup F 4 0)) (k1 := 0) (i_k1 := 0) (f := 0) (k2 := 1) (i_k2 := 1) (t := 0) (rfl) (rfl) (by decide) (by decide) (by decide) (by decide)) 4 (lw_S q2749 q2750 q145 q2751) (by decide +kernel) rfl (by decide) (by decide) rfl (Nat.le_of_ble_eq_true rfl) dX4_begin_15 ?_
  rintro _ _ ⟨rfl, rfl⟩
  refine j_mvret hk he dX4_begin_18 (Nat.le_refl _) (Nat.le_refl _) ?_
  exact ⟨hR.keep kA.cpy kF.up1 (by decide) (by decide), hR.1.cong (fun x hx => (cpyN_in (by omega) (by omega)).trans (by simp)), iup_s _ _ _, kA.cpy, kF.up1⟩
set_option maxHeartbeats 1500000 in
/-- commit(I)I -/
theorem mc_commit {l : Launch} {E : jE} {m : Nat} {ad : Nat → Nat} {A : Nat → Nat → Int} {F : Nat → Int} (hls : l.stackTraces = false) (hE : jSt E) {rv : Int} {g : SS} {S1 : Nat → List Op} {V1 : Nat → Nat} (hO : mRo A F g) (hb : nowIs (A 1) g.1.1 g.1.2) (hN : nowIs (A 0) S1 V1) : mC l E yX4_commit cX4_commit 3 (some .int) 2 36 [.ref m, .int (jI rv)] m ad A F (mQi E m ad (fun r A2 F2 => rv = r ∧ mR A2 F2 (gpush g (S1, V1)) ∧ kA [3] A A2 ∧ kF [5] F F2)) := by
  refine m_start (own := "ScheduleAnalyzerModel") (vs := [some (.ref m), some (.int (jI rv)), none]) hls (by decide +kernel) rfl rfl rfl (Nat.le_of_ble_eq_true rfl) ?_
  intro K hk he hl0 hF hG0
  have h8 := hO.1.1.1
  have hd := hO.1.2
  refine j_ald4 hk dX4_commit_0 rfl rfl ?_
  refine j_mget hE hk 5 (by decide) rfl q2619 dX4_commit_1 ?_
  refine j_top (z2 := ((g.2.1.length : Nat) : Int)) (hd) ?_
  refine j_bipush (n := 8) hk rfl dX4_commit_4 ?_
  refine j_icmp_ne hk (by omega) (by omega) dX4_commit_6 rfl (tgt := 54) (fun h6 => ?_) (fun h6 => ?_)
  · refine j_ald4 hk dX4_commit_54 rfl rfl ?_
    refine j_mgetA hE hk 1 (by decide) rfl q2615 dX4_commit_55 ?_
    refine j_iconst (n := 0) hk dX4_commit_58 ?_
    refine j_ald4 hk dX4_commit_59 rfl rfl ?_
    refine j_mgetA hE hk 3 (by decide) rfl q2617 dX4_commit_60 ?_
    refine j_bipush (n := 88) hk rfl dX4_commit_63 ?_
    refine j_ald4 hk dX4_commit_65 rfl rfl ?_
    refine j_mget hE hk 5 (by decide) rfl q2619 dX4_commit_66 ?_
    refine j_top (z2 := ((g.2.1.length : Nat) : Int)) (hd) ?_
    refine j_imul hk dX4_commit_69 ?_
    refine j_mSv hE hk hl0 hF (mc_copyAll hls hE (A := A) (F := F) (k1 := 1) (i_k1 := 1) (f := 0) (k2 := 3) (i_k2 := 3) (t := 88 * g.2.1.length) (rfl) (rfl) (by simp only [mLen]; omega) (by simp only [mLen]; omega) (by omega) (by decide)) 4 (lw_S q2749 q2750 q145 q2751) (by decide +kernel) rfl (by decide) (by decide) rfl (Nat.le_of_ble_eq_true rfl) dX4_commit_70 ?_
    rintro _ _ ⟨rfl, rfl⟩
    refine j_ald4 hk dX4_commit_73 rfl rfl ?_
    refine j_dup hk rfl dX4_commit_74 ?_
    refine j_mget hE hk 5 (by decide) rfl q2619 dX4_commit_75 ?_
    refine j_top (z2 := ((g.2.1.length : Nat) : Int)) (hd) ?_
    refine j_iconst (n := 1) hk dX4_commit_78 ?_
    refine j_iadd hk dX4_commit_79 ?_
    refine j_mput hE hk hF 5 (by decide) rfl q2619 rfl rfl rfl rfl dX4_commit_80 ?_
    refine j_ild4 hk dX4_commit_83 rfl rfl ?_
    refine j_miret hk he rfl dX4_commit_84 (Nat.le_refl _) (Nat.le_refl _) ?_
    have e8 : g.2.1.length ≠ 8 := by omega
    refine ⟨rfl, ⟨by rw [cpyN_o (by decide)]; exact hN, hO.hist kA.cpy kF.up1 (hist_commit hO.1.1 e8 (hb.cong (fun x hx => cpyN_at0 hx)) (fun j hj => cpyN_out (by omega))) ?_⟩, kA.cpy, kF.up1⟩
    rw [iup_s, hpush_len _ _ h8, if_neg e8]; rfl
  · refine j_iconst (n := 1) hk dX4_commit_9 ?_
    refine j_ist2 hk dX4_commit_10 rfl ?_
    have loop11 : ∀ (fuel11 : Nat) (A1 : Nat → Nat → Int) (k : Nat), 8 - k < fuel11 → 1 ≤ k → k ≤ 8 → kA [3] A A1 → (∀ x, x < 88 * (k - 1) → A1 3 x = A 3 (88 + x)) → (∀ x, 88 * (k - 1) ≤ x → A1 3 x = A 3 x) → jW K (mAs E m ad A1 F) 0 0 11 [some (.ref m), some (.int (jI rv)), some (.int (jI ((k : Nat) : Int)))] [] := by
      intro fuel11
      induction fuel11 with
      | zero => intro A1 k hm; exact absurd hm (Nat.not_lt_zero _)
      | succ fuel11 ih11 =>
        intro A1 k hm11 hk1 hk2 hk3 hk4 hk5
        refine j_ild4 hk dX4_commit_11 rfl rfl ?_
        refine j_bipush (n := 8) hk rfl dX4_commit_12 ?_
        refine j_icmp_ge hk (by omega) (by omega) dX4_commit_14 rfl (tgt := 44) (fun h14 => ?_) (fun h14 => ?_)
        · refine j_ald4 hk dX4_commit_44 rfl rfl ?_
          refine j_dup hk rfl dX4_commit_45 ?_
          refine j_mget hE hk 5 (by decide) rfl q2619 dX4_commit_46 ?_
          refine j_top (z2 := ((g.2.1.length : Nat) : Int)) (hd) ?_
          refine j_iconst (n := 1) hk dX4_commit_49 ?_
          refine j_isub hk dX4_commit_50 ?_
          refine j_mput hE hk hF 5 (by decide) rfl q2619 rfl rfl rfl rfl dX4_commit_51 ?_
          refine j_ald4 hk dX4_commit_54 rfl rfl ?_
          refine j_mgetA hE hk 1 (by decide) rfl q2615 dX4_commit_55 ?_
          refine j_iconst (n := 0) hk dX4_commit_58 ?_
          refine j_ald4 hk dX4_commit_59 rfl rfl ?_
          refine j_mgetA hE hk 3 (by decide) rfl q2617 dX4_commit_60 ?_
          refine j_bipush (n := 88) hk rfl dX4_commit_63 ?_
          refine j_ald4 hk dX4_commit_65 rfl rfl ?_
          refine j_mget hE hk 5 (by decide) rfl q2619 dX4_commit_66 ?_
          refine j_top (z2 := ((7 : Nat) : Int)) (by rw [iup_s]; omega) ?_
          refine j_imul hk dX4_commit_69 ?_
          refine j_top (z2 := ((616 : Nat) : Int)) (by decide) ?_
          refine j_mSv hE hk hl0 hF (mc_copyAll hls hE (A := A1) (F := (iup F 5 (((g.2.1.length : Nat) : Int) - 1))) (k1 := 1) (i_k1 := 1) (f := 0) (k2 := 3) (i_k2 := 3) (t := 616) (rfl) (rfl) (by simp only [mLen]; omega) (by simp only [mLen]; omega) (by omega) (by decide)) 4 (lw_S q2749 q2750 q145 q2751) (by decide +kernel) rfl (by decide) (by decide) rfl (Nat.le_of_ble_eq_true rfl) dX4_commit_70 ?_
          rintro _ _ ⟨rfl, rfl⟩
          refine j_ald4 hk dX4_commit_73 rfl rfl ?_
          refine j_dup hk rfl dX4_commit_74 ?_
          refine j_mget hE hk 5 (by decide) rfl q2619 dX4_commit_75 ?_
          refine j_top (z2 := 7) (by rw [iup_s]; omega) ?_
          refine j_iconst (n := 1) hk dX4_commit_78 ?_
          refine j_iadd hk dX4_commit_79 ?_
          refine j_mput hE hk hF 5 (by decide) rfl q2619 rfl rfl rfl rfl dX4_commit_80 ?_
          refine j_ild4 hk dX4_commit_83 rfl rfl ?_
          refine j_miret hk he rfl dX4_commit_84 (Nat.le_refl _) (Nat.le_refl _) ?_
          have e8 : g.2.1.length = 8 := by omega
          refine ⟨rfl, ⟨by rw [cpyN_o (by decide), hk3 0 (by decide)]; exact hN, hO.hist (hk3.tr kA.cpy (by decide)) (kF.up1.up (by decide)) (hist_shift hO.1.1 e8 (hb.cong (fun x hx => (cpyN_at0 hx).trans (by rw [hk3 1 (by decide)]))) (fun j hj => (cpyN_out (by omega)).trans (hk4 j (by omega)))) ?_⟩, hk3.tr kA.cpy (by decide), kF.up1.up (by decide)⟩
          rw [iup_s, hpush_len _ _ h8, if_pos e8]; rfl
        · refine j_ald4 hk dX4_commit_17 rfl rfl ?_
          refine j_mgetA hE hk 3 (by decide) rfl q2617 dX4_commit_18 ?_
          refine j_bipush (n := 88) hk rfl dX4_commit_21 ?_
          refine j_ild4 hk dX4_commit_23 rfl rfl ?_
          refine j_imul hk dX4_commit_24 ?_
          refine j_ald4 hk dX4_commit_25 rfl rfl ?_
          refine j_mgetA hE hk 3 (by decide) rfl q2617 dX4_commit_26 ?_
          refine j_bipush (n := 88) hk rfl dX4_commit_29 ?_
          refine j_ild4 hk dX4_commit_31 rfl rfl ?_
          refine j_iconst (n := 1) hk dX4_commit_32 ?_
          refine j_isub hk dX4_commit_33 ?_
          refine j_top (z2 := ((k - 1 : Nat) : Int)) (by omega) ?_
          refine j_imul hk dX4_commit_34 ?_
          refine j_mSv hE hk hl0 hF (mc_copyAll hls hE (A := A1) (F := F) (k1 := 3) (i_k1 := 3) (f := 88 * k) (k2 := 3) (i_k2 := 3) (t := 88 * (k - 1)) (rfl) (rfl) (by simp only [mLen]; omega) (by simp only [mLen]; omega) (by omega) (by decide)) 4 (lw_S q2749 q2750 q145 q2751) (by decide +kernel) rfl (by decide) (by decide) rfl (Nat.le_of_ble_eq_true rfl) dX4_commit_35 ?_
          rintro _ _ ⟨rfl, rfl⟩
          refine j_iinc2 hk dX4_commit_38 rfl ?_
          refine j_goto (tgt := 11) hk dX4_commit_41 rfl ?_
          exact ih11 (cpyN A1 3 (88 * k) 3 (88 * (k - 1)) 88) (k + 1) (by omega) (by omega) (by omega) (hk3.tr (ks2 := [3]) kA.cpy (by decide)) (fun x hx => by
  by_cases e : 88 * (k - 1) ≤ x
  · rw [cpyN_in e (by omega), hk5 _ (by omega)]; congr 1; omega
  · rw [cpyN_out (by omega)]; exact hk4 x (by omega)) (fun x hx => by rw [cpyN_out (by omega)]; exact hk5 x (by omega))
    exact loop11 _ A 1 (Nat.lt_succ_self _) (by omega) (by omega) (kA.rf) (fun x hx => by omega) (fun x _ => rfl)
