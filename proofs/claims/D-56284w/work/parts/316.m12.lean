set_option maxHeartbeats 1500000 in
/-- undo()I -/
theorem mc_undo {l : Launch} {E : jE} {m : Nat} {ad : Nat → Nat} {A : Nat → Nat → Int} {F : Nat → Int} (hls : l.stackTraces = false) (hE : jSt E) {g : SS} (hR : mR A F g) : mC l E yX4_undo cX4_undo 1 (some .int) 2 36 [.ref m] m ad A F (mQi E m ad (fun r A2 F2 => mP (sp_undo g) r A2 F2)) := by
  refine m_start (own := "ScheduleAnalyzerModel") (vs := [some (.ref m)]) hls (by decide +kernel) rfl rfl rfl (Nat.le_of_ble_eq_true rfl) ?_
  intro K hk he hl0 hF hG0
  have hd := hR.2.1.2
  have hH := hR.2.1.1
  have h8 := hH.1
  refine j_ald4 hk dX4_undo_0 rfl rfl ?_
  refine j_ald4 hk dX4_undo_1 rfl rfl ?_
  refine j_mget hE hk 5 (by decide) rfl q2619 dX4_undo_2 ?_
  refine j_top (z2 := ((g.2.1.length : Nat) : Int)) (hd) ?_
  refine j_if_le hk (by omega) dX4_undo_5 rfl (tgt := 12) (fun h5 => ?_) (fun h5 => ?_)
  · refine j_iconst (n := 0) hk dX4_undo_12 ?_
    refine j_mVi hE hk hl0 hF (mc_checked hls hE (A := A) (F := F) (b := false) ) 1 (lw_V q2972 q2974 qs92 q145 q2975) (by decide +kernel) rfl (by decide) (by decide) rfl (Nat.le_of_ble_eq_true rfl) dX4_undo_13 ?_
    rintro _ _ _ ⟨rfl, rfl, rfl⟩
    refine j_top (z2 := 1) rfl ?_
    refine j_if_le hk (by omega) dX4_undo_16 rfl (tgt := 21) (fun h => absurd h (by omega)) (fun _ => ?_)
    refine j_iconst (n := 0) hk dX4_undo_19 ?_
    refine j_miret hk he rfl dX4_undo_20 (Nat.le_refl _) (Nat.le_refl _) ?_
    have e : sp_undo g = (1, 0, g) := by simp [sp_undo, (show g.2.1.length = 0 by omega)]
    rw [mP, e]
    exact ⟨rfl, by rw [iup_s]; rfl, hR.up4⟩
  · refine j_iconst (n := 1) hk dX4_undo_8 ?_
    refine j_goto (tgt := 13) hk dX4_undo_9 rfl ?_
    refine j_mVi hE hk hl0 hF (mc_checked hls hE (A := A) (F := F) (b := true) ) 1 (lw_V q2972 q2974 qs92 q145 q2975) (by decide +kernel) rfl (by decide) (by decide) rfl (Nat.le_of_ble_eq_true rfl) dX4_undo_13 ?_
    rintro _ _ _ ⟨rfl, rfl, rfl⟩
    refine j_top (z2 := 0) rfl ?_
    refine j_if_le hk (by omega) dX4_undo_16 rfl (tgt := 21) (fun _ => ?_) (fun h => absurd h (by omega))
    have hl := hH.last (by omega)
    refine j_ald4 hk dX4_undo_21 rfl rfl ?_
    refine j_dup hk rfl dX4_undo_22 ?_
    refine j_mget hE hk 5 (by decide) rfl q2619 dX4_undo_23 ?_
    refine j_top (z2 := ((g.2.1.length : Nat) : Int)) (by rw [iup_n (by decide)]; exact hd) ?_
    refine j_iconst (n := 1) hk dX4_undo_26 ?_
    refine j_isub hk dX4_undo_27 ?_
    refine j_top (z2 := ((g.2.1.length - 1 : Nat) : Int)) (by omega) ?_
    refine j_mput hE hk hF 5 (by decide) rfl q2619 rfl rfl rfl rfl dX4_undo_28 ?_
    refine j_ald4 hk dX4_undo_31 rfl rfl ?_
    refine j_mgetA hE hk 3 (by decide) rfl q2617 dX4_undo_32 ?_
    refine j_bipush (n := 88) hk rfl dX4_undo_35 ?_
    refine j_ald4 hk dX4_undo_37 rfl rfl ?_
    refine j_mget hE hk 5 (by decide) rfl q2619 dX4_undo_38 ?_
    refine j_top (z2 := ((g.2.1.length - 1 : Nat) : Int)) (iup_s _ _ _) ?_
    refine j_imul hk dX4_undo_41 ?_
    refine j_ald4 hk dX4_undo_42 rfl rfl ?_
    refine j_mgetA hE hk 0 (by decide) rfl q2614 dX4_undo_43 ?_
    refine j_iconst (n := 0) hk dX4_undo_46 ?_
    refine j_mSv hE hk hl0 hF (mc_copyAll hls hE (A := A) (F := (iup (iup F 4 (jB (!true))) 5 ((g.2.1.length - 1 : Nat) : Int))) (k1 := 3) (i_k1 := 3) (f := 88 * (g.2.1.length - 1)) (k2 := 0) (i_k2 := 0) (t := 0) (rfl) (rfl) (by simp only [mLen]; omega) (by simp only [mLen]; omega) (by omega) (by decide)) 4 (lw_S q2749 q2750 q145 q2751) (by decide +kernel) rfl (by decide) (by decide) rfl (Nat.le_of_ble_eq_true rfl) dX4_undo_47 ?_
    rintro _ _ ⟨rfl, rfl⟩
    refine j_ald4 hk dX4_undo_50 rfl rfl ?_
    refine j_mget hE hk 5 (by decide) rfl q2619 dX4_undo_51 ?_
    refine j_top (z2 := ((g.2.1.length - 1 : Nat) : Int)) (iup_s _ _ _) ?_
    refine j_miret hk he rfl dX4_undo_54 (Nat.le_refl _) (Nat.le_refl _) ?_
    have e : sp_undo g = (0, ((g.2.1.length - 1 : Nat) : Int), (snAt g.2.1 (g.2.1.length - 1), g.2.1.dropLast, g.2.2)) := by rw [sp_undo, if_neg (by omega)]
    rw [mP, e]
    exact ⟨rfl, by rw [iup_n (by decide), iup_s]; rfl, hR.back kA.cpy ((kF.rf.up (by decide)).up (by decide)) (by rw [iup_s, List.length_dropLast]) hl.1 (hl.2.cong (fun x hx => (cpyN_in (by omega) (by omega)).trans (by congr 1)))⟩
set_option maxHeartbeats 1500000 in
/-- save()I -/
theorem mc_save {l : Launch} {E : jE} {m : Nat} {ad : Nat → Nat} {A : Nat → Nat → Int} {F : Nat → Int} (hls : l.stackTraces = false) (hE : jSt E) {g : SS} (hR : mR A F g) : mC l E yX4_save cX4_save 1 (some .int) 3 53 [.ref m] m ad A F (mQi E m ad (fun r A2 F2 => mP (sp_save g) r A2 F2)) := by
  refine m_start (own := "ScheduleAnalyzerModel") (vs := [some (.ref m)]) hls (by decide +kernel) rfl rfl rfl (Nat.le_of_ble_eq_true rfl) ?_
  intro K hk he hl0 hF hG0
  refine j_ald4 hk dX4_save_0 rfl rfl ?_
  refine j_iconst (n := 0) hk dX4_save_1 ?_
  refine j_mput hE hk hF 4 (by decide) rfl q2618 rfl rfl rfl rfl dX4_save_2 ?_
  refine j_ald4 hk dX4_save_5 rfl rfl ?_
  refine j_mgetA hE hk 0 (by decide) rfl q2614 dX4_save_6 ?_
  refine j_iconst (n := 0) hk dX4_save_9 ?_
  refine j_ald4 hk dX4_save_10 rfl rfl ?_
  refine j_mgetA hE hk 2 (by decide) rfl q2616 dX4_save_11 ?_
  refine j_iconst (n := 0) hk dX4_save_14 ?_
  refine j_mSv hE hk hl0 hF (mc_copyAll hls hE (A := A) (F := (iup F 4 0)) (k1 := 0) (i_k1 := 0) (f := 0) (k2 := 2) (i_k2 := 2) (t := 0) (rfl) (rfl) (by simp only [mLen]; omega) (by simp only [mLen]; omega) (by omega) (by decide)) 4 (lw_S q2749 q2750 q145 q2751) (by decide +kernel) rfl (by decide) (by decide) rfl (Nat.le_of_ble_eq_true rfl) dX4_save_15 ?_
  rintro _ _ ⟨rfl, rfl⟩
  refine j_ald4 hk dX4_save_18 rfl rfl ?_
  refine j_iconst (n := 1) hk dX4_save_19 ?_
  refine j_mput hE hk hF 7 (by decide) rfl q2621 rfl rfl rfl rfl dX4_save_20 ?_
  refine j_ald4 hk dX4_save_23 rfl rfl ?_
  refine j_mVi hE hk hl0 hF (mc_operations hls hE (A := (cpyN A 0 0 2 0 88)) (F := (iup (iup F 4 0) 7 1)) (S := g.1.1) (V := g.1.2) (hR.1.keep (cpyN_o (by decide)))) 0 (lw_V q3207 q3209 qs113 q145 q3210) (by decide +kernel) rfl (by decide) (by decide) rfl (Nat.le_of_ble_eq_true rfl) dX4_save_24 ?_
  rintro _ _ _ ⟨rfl, rfl, rfl⟩
  refine j_miret hk he rfl dX4_save_27 (Nat.le_refl _) (Nat.le_refl _) ?_
  exact ⟨rfl, by rw [iup_n (by decide), iup_s]; rfl, hR.saved kA.cpy ((kF.rf.up (by decide)).up (by decide)) (iup_s _ _ _) (hR.1.cong (fun x hx => (cpyN_in (by omega) (by omega)).trans (by congr 1; omega)))⟩
set_option maxHeartbeats 1500000 in
/-- restore()I -/
theorem mc_restore {l : Launch} {E : jE} {m : Nat} {ad : Nat → Nat} {A : Nat → Nat → Int} {F : Nat → Int} (hls : l.stackTraces = false) (hE : jSt E) {g : SS} (hR : mR A F g) : mC l E yX4_restore cX4_restore 1 (some .int) 3 53 [.ref m] m ad A F (mQi E m ad (fun r A2 F2 => mP (sp_restore g) r A2 F2)) := by
  refine m_start (own := "ScheduleAnalyzerModel") (vs := [some (.ref m)]) hls (by decide +kernel) rfl rfl rfl (Nat.le_of_ble_eq_true rfl) ?_
  intro K hk he hl0 hF hG0
  have hv := hR.2.2.1
  refine j_ald4 hk dX4_restore_0 rfl rfl ?_
  refine j_ald4 hk dX4_restore_1 rfl rfl ?_
  refine j_mget hE hk 7 (by decide) rfl q2621 dX4_restore_2 ?_
  refine j_top (z2 := jB g.2.2.1.isSome) (hv.1) ?_
  refine j_mVi hE hk hl0 hF (mc_checked hls hE (A := A) (F := F) (b := g.2.2.1.isSome) ) 1 (lw_V q2972 q2974 qs92 q145 q2975) (by decide +kernel) rfl (by decide) (by decide) rfl (Nat.le_of_ble_eq_true rfl) dX4_restore_5 ?_
  rintro _ _ _ ⟨rfl, rfl, rfl⟩
  refine j_ifleB hk dX4_restore_8 rfl (tgt := 13) (fun h8 => ?_) (fun h8 => ?_)
  · have q1 : g.2.2.1.isSome = true := by simpa using h8
    obtain ⟨x, hx⟩ := isSome_ex q1
    have hn2 := hv.2 x hx
    refine j_ald4 hk dX4_restore_13 rfl rfl ?_
    refine j_mgetA hE hk 2 (by decide) rfl q2616 dX4_restore_14 ?_
    refine j_iconst (n := 0) hk dX4_restore_17 ?_
    refine j_ald4 hk dX4_restore_18 rfl rfl ?_
    refine j_mgetA hE hk 0 (by decide) rfl q2614 dX4_restore_19 ?_
    refine j_iconst (n := 0) hk dX4_restore_22 ?_
    refine j_mSv hE hk hl0 hF (mc_copyAll hls hE (A := A) (F := (iup F 4 (jB (!g.2.2.1.isSome)))) (k1 := 2) (i_k1 := 2) (f := 0) (k2 := 0) (i_k2 := 0) (t := 0) (rfl) (rfl) (by simp only [mLen]; omega) (by simp only [mLen]; omega) (by omega) (by decide)) 4 (lw_S q2749 q2750 q145 q2751) (by decide +kernel) rfl (by decide) (by decide) rfl (Nat.le_of_ble_eq_true rfl) dX4_restore_23 ?_
    rintro _ _ ⟨rfl, rfl⟩
    refine j_ald4 hk dX4_restore_26 rfl rfl ?_
    refine j_iconst (n := 0) hk dX4_restore_27 ?_
    refine j_mput hE hk hF 5 (by decide) rfl q2619 rfl rfl rfl rfl dX4_restore_28 ?_
    refine j_ald4 hk dX4_restore_31 rfl rfl ?_
    refine j_mVi hE hk hl0 hF (mc_operations hls hE (A := (cpyN A 2 0 0 0 88)) (F := (iup (iup F 4 (jB (!g.2.2.1.isSome))) 5 0)) (S := x.1) (V := x.2) (hn2.cong (fun y hy => (cpyN_in (by omega) (by omega)).trans (by congr 1; omega)))) 0 (lw_V q3207 q3209 qs113 q145 q3210) (by decide +kernel) rfl (by decide) (by decide) rfl (Nat.le_of_ble_eq_true rfl) dX4_restore_32 ?_
    rintro _ _ _ ⟨rfl, rfl, rfl⟩
    refine j_miret hk he rfl dX4_restore_35 (Nat.le_refl _) (Nat.le_refl _) ?_
    have e : sp_restore g = (0, ((totN x.1 : Nat) : Int), (x, [], g.2.2)) := by simp [sp_restore, hx]
    rw [mP, e]
    exact ⟨rfl, by rw [iup_n (by decide), iup_s, h8]; rfl, hR.back kA.cpy ((kF.rf.up (by decide)).up (by decide)) (iup_s _ _ _) ⟨by simp, fun i hi => by simp at hi⟩ (hn2.cong (fun y hy => (cpyN_in (by omega) (by omega)).trans (by congr 1; omega)))⟩
  · refine j_iconst (n := 0) hk dX4_restore_11 ?_
    refine j_miret hk he rfl dX4_restore_12 (Nat.le_refl _) (Nat.le_refl _) ?_
    have q1 : g.2.2.1 = none := isSome_no (by simpa using h8)
    have e : sp_restore g = (1, 0, g) := by simp [sp_restore, q1]
    rw [mP, e]
    exact ⟨rfl, by rw [iup_s, h8]; rfl, hR.up4⟩
set_option maxHeartbeats 1500000 in
/-- lineChar(I)C -/
theorem mc_lineChar {l : Launch} {E : jE} {m : Nat} {ad : Nat → Nat} {A : Nat → Nat → Int} {F : Nat → Int} (hls : l.stackTraces = false) (hE : jSt E) {i : Int} {g : SS} (hR : mR A F g) (hr : jr i) : mC l E yX4_lineChar cX4_lineChar 2 (some .char) 2 34 [.ref m, .int (jI i)] m ad A F (mQi E m ad (fun r A2 F2 => mP (sp_lineChar g i) r A2 F2)) := by
  refine m_start (own := "ScheduleAnalyzerModel") (vs := [some (.ref m), some (.int (jI i))]) hls (by decide +kernel) rfl rfl rfl (Nat.le_of_ble_eq_true rfl) ?_
  intro K hk he hl0 hF hG0
  have hl := hR.2.2.2.2.1
  have hl2 := hl.2.1
  refine j_ald4 hk dX4_lineChar_0 rfl rfl ?_
  refine j_ild4 hk dX4_lineChar_1 rfl rfl ?_
  refine j_iconst (n := 0) hk dX4_lineChar_2 ?_
  refine j_ald4 hk dX4_lineChar_3 rfl rfl ?_
  refine j_mget hE hk 36 (by decide) rfl q2650 dX4_lineChar_4 ?_
  refine j_top (z2 := ((g.2.2.2.2.1.length : Nat) : Int)) (hl.1) ?_
  refine j_iconst (n := 1) hk dX4_lineChar_7 ?_
  refine j_isub hk dX4_lineChar_8 ?_
  refine j_sSi hk hl0 (sc_in hls (v := i) (a := 0) (b := ((g.2.2.2.2.1.length : Nat) : Int) - 1) (by omega)) 3 (lw_S q2734 q2735 q145 q2736) (by decide +kernel) rfl (by decide) (by decide) rfl (Nat.le_of_ble_eq_true rfl) dX4_lineChar_9 ?_
  refine j_mVi hE hk hl0 hF (mc_checked hls hE (A := A) (F := F) (b := decide (0 ≤ i ∧ i ≤ (((g.2.2.2.2.1.length : Nat) : Int) - 1))) ) 1 (lw_V q2972 q2974 qs92 q145 q2975) (by decide +kernel) rfl (by decide) (by decide) rfl (Nat.le_of_ble_eq_true rfl) dX4_lineChar_12 ?_
  rintro _ _ _ ⟨rfl, rfl, rfl⟩
  refine j_ifleB hk dX4_lineChar_15 rfl (tgt := 23) (fun h15 => ?_) (fun h15 => ?_)
  · have q1 : 0 ≤ i ∧ i ≤ ((g.2.2.2.2.1.length : Nat) : Int) - 1 := by simpa using h15
    obtain ⟨j, rfl⟩ : ∃ j : Nat, i = ((j : Nat) : Int) := ⟨i.toNat, by omega⟩
    refine j_ald4 hk dX4_lineChar_23 rfl rfl ?_
    refine j_mgetA hE hk 35 (by decide) rfl q2649 dX4_lineChar_24 ?_
    refine j_ild4 hk dX4_lineChar_27 rfl rfl ?_
    refine j_mald hE hk 35 23 rfl (j) (by omega) (by simp only [mLen]; omega) dX4_lineChar_28 ?_
    have hc := hl.2.2 j (by omega)
    refine j_top (z2 := ((g.2.2.2.2.1.getD j 0 : Nat) : Int)) (hc.1) ?_
    refine j_i2c hk dX4_lineChar_29 ?_
    refine j_top (z2 := ((g.2.2.2.2.1.getD j 0 : Nat) : Int)) (by have := hc.2; omega) ?_
    refine j_miret hk he (jn_charI (by omega) (by have := hc.2; omega)) dX4_lineChar_30 (Nat.le_refl _) (Nat.le_refl _) ?_
    have e : sp_lineChar g (j : Int) = (0, ((g.2.2.2.2.1.getD j 0 : Nat) : Int), g) := by rw [sp_lineChar, if_pos (by simp only [decide_eq_true_eq]; omega)]; rfl
    rw [mP, e]
    exact ⟨rfl, by rw [iup_s, h15]; rfl, hR.up4⟩
  · refine j_bipush (n := 32) hk rfl dX4_lineChar_18 ?_
    refine j_goto (tgt := 30) hk dX4_lineChar_20 rfl ?_
    refine j_miret hk he (jn_charI (by omega) (by omega)) dX4_lineChar_30 (Nat.le_refl _) (Nat.le_refl _) ?_
    have e : sp_lineChar g i = (1, 32, g) := by
      have h := h15
      simp only [Bool.not_eq_true', decide_eq_false_iff_not] at h
      rw [sp_lineChar, if_neg (by simp only [decide_eq_true_eq]; omega)]
    rw [mP, e]
    exact ⟨rfl, by rw [iup_s, h15]; rfl, hR.up4⟩
set_option maxHeartbeats 1500000 in
/-- put(I)V -/
theorem mc_put {l : Launch} {E : jE} {m : Nat} {ad : Nat → Nat} {A : Nat → Nat → Int} {F : Nat → Int} (hls : l.stackTraces = false) (hE : jSt E) {c : Nat} {tx : List Nat} (hl : lnIs A F tx) (hlt : tx.length < 80) (hc : c < 65536) : mC l E yX4_put cX4_put 2 (none) 1 12 [.ref m, .int (jI ((c : Nat) : Int))] m ad A F (mQv E m ad (fun A2 F2 => lnIs A2 F2 (tx ++ [c]) ∧ kA [35] A A2 ∧ kF [36] F F2)) := by
  refine m_start (own := "ScheduleAnalyzerModel") (vs := [some (.ref m), some (.int (jI ((c : Nat) : Int)))]) hls (by decide +kernel) rfl rfl rfl (Nat.le_of_ble_eq_true rfl) ?_
  intro K hk he hl0 hF hG0
  refine j_ald4 hk dX4_put_0 rfl rfl ?_
  refine j_mgetA hE hk 35 (by decide) rfl q2649 dX4_put_1 ?_
  refine j_ald4 hk dX4_put_4 rfl rfl ?_
  refine j_mget hE hk 36 (by decide) rfl q2650 dX4_put_5 ?_
  refine j_top (z2 := ((tx.length : Nat) : Int)) (hl.1) ?_
  refine j_ild4 hk dX4_put_8 rfl rfl ?_
  refine j_mast hE hk hF 35 23 rfl (tx.length) (by omega) (by simp only [mLen]; omega) dX4_put_9 ?_
  refine j_ald4 hk dX4_put_10 rfl rfl ?_
  refine j_dup hk rfl dX4_put_11 ?_
  refine j_mget hE hk 36 (by decide) rfl q2650 dX4_put_12 ?_
  refine j_top (z2 := ((tx.length : Nat) : Int)) (hl.1) ?_
  refine j_iconst (n := 1) hk dX4_put_15 ?_
  refine j_iadd hk dX4_put_16 ?_
  refine j_mput hE hk hF 36 (by decide) rfl q2650 rfl rfl rfl rfl dX4_put_17 ?_
  refine j_mvret hk he dX4_put_20 (Nat.le_refl _) (Nat.le_refl _) ?_
  exact ⟨⟨by rw [iup_s, List.length_append]; rfl, by rw [mup_s]; exact hl.2.push hlt hc⟩, kA.up1, kF.up1⟩
set_option maxHeartbeats 1500000 in
/-- format(I)I -/
theorem mc_format {l : Launch} {E : jE} {m : Nat} {ad : Nat → Nat} {A : Nat → Nat → Int} {F : Nat → Int} (hls : l.stackTraces = false) (hE : jSt E) {si : Int} {g : SS} (hR : mR A F g) (hr : jr si) : mC l E yX4_format cX4_format 4 (some .int) 3 54 [.ref m, .int (jI si)] m ad A F (mQi E m ad (fun r A2 F2 => mP (sp_format g si) r A2 F2)) := by
  refine m_start (own := "ScheduleAnalyzerModel") (vs := [some (.ref m), some (.int (jI si)), none, none]) hls (by decide +kernel) rfl rfl rfl (Nat.le_of_ble_eq_true rfl) ?_
  intro K hk he hl0 hF hG0
  refine j_ald4 hk dX4_format_0 rfl rfl ?_
  refine j_ild4 hk dX4_format_1 rfl rfl ?_
  refine j_sSi hk hl0 (sc_isSlot hls (v := si) (hr)) 1 (lw_S q2752 q2753 q145 q2754) (by decide +kernel) rfl (by decide) (by decide) rfl (Nat.le_of_ble_eq_true rfl) dX4_format_2 ?_
  refine j_mVi hE hk hl0 hF (mc_checked hls hE (A := A) (F := F) (b := decide (0 ≤ si ∧ si ≤ 3)) ) 1 (lw_V q2972 q2974 qs92 q145 q2975) (by decide +kernel) rfl (by decide) (by decide) rfl (Nat.le_of_ble_eq_true rfl) dX4_format_5 ?_
  rintro _ _ _ ⟨rfl, rfl, rfl⟩
  refine j_ifleB hk dX4_format_8 rfl (tgt := 13) (fun h8 => ?_) (fun h8 => ?_)
  · have q1 : 0 ≤ si ∧ si ≤ 3 := by simpa using h8
    obtain ⟨s, rfl⟩ : ∃ s : Nat, si = ((s : Nat) : Int) := ⟨si.toNat, by omega⟩
    have e1 : isSl (s : Int) = true := by simp [isSl]; omega
    have hm : mR A (iup F 4 (jB (!decide (0 ≤ (s : Int) ∧ (s : Int) ≤ 3)))) g := hR.up4
    have ht : (iup F 4 (jB (!decide (0 ≤ (s : Int) ∧ (s : Int) ≤ 3)))) 4 = 0 := by rw [iup_s, h8]; rfl
    have hL := hR.1.len (s := s) (by omega)
    refine j_ald4 hk dX4_format_13 rfl rfl ?_
    refine j_iconst (n := 0) hk dX4_format_14 ?_
    refine j_mput hE hk hF 36 (by decide) rfl q2650 rfl rfl rfl rfl dX4_format_15 ?_
    refine j_iconst (n := 0) hk dX4_format_18 ?_
    refine j_ist2 hk dX4_format_19 rfl ?_
    have loop20 : ∀ (fuel20 : Nat) (A1 : Nat → Nat → Int) (F1 : Nat → Int) (k : Nat), (g.1.1 s).length - k < fuel20 → k ≤ (g.1.1 s).length → lnIs A1 F1 (txN (g.1.1 s) k) → kA [35] A A1 → kF [4, 36] F F1 → F1 4 = 0 → jW K (mAs E m ad A1 F1) 0 0 20 [some (.ref m), some (.int (jI ((s : Nat) : Int))), some (.int (jI ((k : Nat) : Int))), none] [] := by
      intro fuel20
      induction fuel20 with
      | zero => intro A1 F1 k hm; exact absurd hm (Nat.not_lt_zero _)
      | succ fuel20 ih20 =>
        intro A1 F1 k hm20 hkk hl hk1 hk2 ht4
        refine j_ild4 hk dX4_format_20 rfl rfl ?_
        have hN1 : nowIs (A1 0) g.1.1 g.1.2 := hR.1.keep (hk1 0 (by decide))
        refine j_ald4 hk dX4_format_21 rfl rfl ?_
        refine j_ild4 hk dX4_format_22 rfl rfl ?_
        refine j_mVi hE hk hl0 hF (mc_count hls hE (A := A1) (F := F1) (s := s) (S := g.1.1) (V := g.1.2) (hN1) (by omega)) 1 (lw_V q2801 q2803 qs60 q145 q2804) (by decide +kernel) rfl (by decide) (by decide) rfl (Nat.le_of_ble_eq_true rfl) dX4_format_23 ?_
        rintro _ _ _ ⟨rfl, rfl, rfl⟩
        refine j_icmp_ge hk (by omega) (by omega) dX4_format_26 rfl (tgt := 93) (fun h26 => ?_) (fun h26 => ?_)
        · refine j_ald4 hk dX4_format_93 rfl rfl ?_
          refine j_mget hE hk 36 (by decide) rfl q2650 dX4_format_94 ?_
          have ek : k = (g.1.1 s).length := by omega
          rw [ek] at hl
          refine j_top (z2 := (((txN (g.1.1 s) (g.1.1 s).length).length : Nat) : Int)) (hl.1) ?_
          refine j_miret hk he rfl dX4_format_97 (Nat.le_refl _) (Nat.le_refl _) ?_
          have e : sp_format g (s : Int) = (0, (((txN (g.1.1 s) (g.1.1 s).length).length : Nat) : Int), gLn g (txN (g.1.1 s) (g.1.1 s).length)) := by simp [sp_format, e1]
          rw [mP, e]
          exact ⟨rfl, ht4, hR.lin hk1 hk2 (by decide) (by decide) hl⟩
        · have hlt : k < (g.1.1 s).length := by omega
          obtain ⟨o1, o2, o3, o4, o5⟩ := hN1.ok (s := s) (by omega) hlt
          have hok := hN1.ok (s := s) (by omega) hlt
          have hv := opV_lt hok
          refine j_ald4 hk dX4_format_29 rfl rfl ?_
          refine j_ild4 hk dX4_format_30 rfl rfl ?_
          refine j_ild4 hk dX4_format_31 rfl rfl ?_
          refine j_mVi hE hk hl0 hF (mc_code hls hE (A := A1) (F := F1) (s := s) (i := k) (S := g.1.1) (V := g.1.2) (hN1) (by omega) (hlt)) 2 (lw_V q2821 q2823 qs64 q145 q2824) (by decide +kernel) rfl (by decide) (by decide) rfl (Nat.le_of_ble_eq_true rfl) dX4_format_32 ?_
          rintro _ _ _ ⟨rfl, rfl, rfl⟩
          refine j_ist3 hk dX4_format_35 rfl ?_
          refine j_ild4 hk dX4_format_36 rfl rfl ?_
          refine j_if_le hk (by omega) dX4_format_37 rfl (tgt := 46) (fun h37 => ?_) (fun h37 => ?_)
          · refine j_ald4 hk dX4_format_46 rfl rfl ?_
            refine j_ild4 hk dX4_format_47 rfl rfl ?_
            refine j_sSi hk hl0 (sc_kindOf hls (c := opV (opAt (g.1.1 s) k)) (by omega)) 1 (lw_S q2790 q2791 q145 q2792) (by decide +kernel) rfl (by decide) (by decide) rfl (Nat.le_of_ble_eq_true rfl) dX4_format_48 ?_
            refine j_top (z2 := ((oK (opAt (g.1.1 s) k) : Nat) : Int)) (by rw [opV_k hok]) ?_
            refine j_sSi hk hl0 (sc_letterOfKind hls (k := oK (opAt (g.1.1 s) k)) (by omega)) 1 (lw_S q2992 q2993 q145 q2994) (by decide +kernel) rfl (by decide) (by decide) rfl (Nat.le_of_ble_eq_true rfl) dX4_format_51 ?_
            refine j_mVv hE hk hl0 hF (mc_put hls hE (A := A1) (F := F1) (c := letK (oK (opAt (g.1.1 s) k))) (tx := txN (g.1.1 s) k) (hl) (by have := txN_len (g.1.1 s) k; (try simp only [List.length_append, List.length_singleton]); omega) (by have := letK_lt (oK (opAt (g.1.1 s) k)); omega)) 1 (lw_V q3179 q3181 qs112 q145 q3182) (by decide +kernel) rfl (by decide) (by decide) rfl (Nat.le_of_ble_eq_true rfl) dX4_format_54 ?_
            intro Az4 Fz5 hc54
            obtain ⟨hl_54, hka_54, hkf_54⟩ := hc54
            refine j_ald4 hk dX4_format_57 rfl rfl ?_
            refine j_bipush (n := 48) hk rfl dX4_format_58 ?_
            refine j_ild4 hk dX4_format_60 rfl rfl ?_
            refine j_sSi hk hl0 (sc_transactionOf hls (c := opV (opAt (g.1.1 s) k)) (by omega)) 1 (lw_S q2787 q2788 q145 q2789) (by decide +kernel) rfl (by decide) (by decide) rfl (Nat.le_of_ble_eq_true rfl) dX4_format_61 ?_
            refine j_top (z2 := ((oT (opAt (g.1.1 s) k) : Nat) : Int)) (by rw [opV_t hok]) ?_
            refine j_iadd hk dX4_format_64 ?_
            refine j_mVv hE hk hl0 hF (mc_put hls hE (A := Az4) (F := Fz5) (c := 48 + (oT (opAt (g.1.1 s) k))) (tx := txN (g.1.1 s) k ++ [letK (oK (opAt (g.1.1 s) k))]) (hl_54) (by have := txN_len (g.1.1 s) k; (try simp only [List.length_append, List.length_singleton]); omega) (by omega)) 1 (lw_V q3179 q3181 qs112 q145 q3182) (by decide +kernel) rfl (by decide) (by decide) rfl (Nat.le_of_ble_eq_true rfl) dX4_format_65 ?_
            intro Az6 Fz7 hc65
            obtain ⟨hl_65, hka_65, hkf_65⟩ := hc65
            refine j_ild4 hk dX4_format_68 rfl rfl ?_
            refine j_sSi hk hl0 (sc_kindOf hls (c := opV (opAt (g.1.1 s) k)) (by omega)) 1 (lw_S q2790 q2791 q145 q2792) (by decide +kernel) rfl (by decide) (by decide) rfl (Nat.le_of_ble_eq_true rfl) dX4_format_69 ?_
            refine j_top (z2 := ((oK (opAt (g.1.1 s) k) : Nat) : Int)) (by rw [opV_k hok]) ?_
            refine j_iconst (n := 2) hk dX4_format_72 ?_
            refine j_icmp_ge hk (by omega) (by omega) dX4_format_73 rfl (tgt := 87) (fun h73 => ?_) (fun h73 => ?_)
            · refine j_iinc2 hk dX4_format_87 rfl ?_
              refine j_goto (tgt := 20) hk dX4_format_90 rfl ?_
              refine j_forget (i := 3) ?_
              exact ih20 Az6 Fz7 (k + 1) (by omega) (by omega) (by rw [txN_s, if_neg (by omega), txO, if_neg (by omega)]; simpa using hl_65) (((hk1).tr hka_54 (by decide)).tr hka_65 (by decide)) (((hk2).tr hkf_54 (by decide)).tr hkf_65 (by decide)) (by rw [hkf_65 4 (by decide), hkf_54 4 (by decide)]; exact ht4)
            · refine j_ald4 hk dX4_format_76 rfl rfl ?_
              refine j_bipush (n := 97) hk rfl dX4_format_77 ?_
              refine j_ild4 hk dX4_format_79 rfl rfl ?_
              refine j_bipush (n := 10) hk rfl dX4_format_80 ?_
              refine j_irem hk (by omega) dX4_format_82 ?_
              refine j_top (z2 := ((oI (opAt (g.1.1 s) k) : Nat) : Int)) (by rw [← opV_i hok]; rfl) ?_
              refine j_iadd hk dX4_format_83 ?_
              refine j_mVv hE hk hl0 hF (mc_put hls hE (A := Az6) (F := Fz7) (c := 97 + (oI (opAt (g.1.1 s) k))) (tx := txN (g.1.1 s) k ++ [letK (oK (opAt (g.1.1 s) k))] ++ [48 + oT (opAt (g.1.1 s) k)]) (hl_65) (by have := txN_len (g.1.1 s) k; (try simp only [List.length_append, List.length_singleton]); omega) (by omega)) 1 (lw_V q3179 q3181 qs112 q145 q3182) (by decide +kernel) rfl (by decide) (by decide) rfl (Nat.le_of_ble_eq_true rfl) dX4_format_84 ?_
              intro Az8 Fz9 hc84
              obtain ⟨hl_84, hka_84, hkf_84⟩ := hc84
              refine j_iinc2 hk dX4_format_87 rfl ?_
              refine j_goto (tgt := 20) hk dX4_format_90 rfl ?_
              refine j_forget (i := 3) ?_
              exact ih20 Az8 Fz9 (k + 1) (by omega) (by omega) (by rw [txN_s, if_neg (by omega), txO, if_pos (by omega)]; simpa using hl_84) ((((hk1).tr hka_54 (by decide)).tr hka_65 (by decide)).tr hka_84 (by decide)) ((((hk2).tr hkf_54 (by decide)).tr hkf_65 (by decide)).tr hkf_84 (by decide)) (by rw [hkf_84 4 (by decide), hkf_65 4 (by decide), hkf_54 4 (by decide)]; exact ht4)
          · refine j_ald4 hk dX4_format_40 rfl rfl ?_
            refine j_bipush (n := 32) hk rfl dX4_format_41 ?_
            refine j_mVv hE hk hl0 hF (mc_put hls hE (A := A1) (F := F1) (c := 32) (tx := txN (g.1.1 s) k) (hl) (by have := txN_len (g.1.1 s) k; omega) (by decide)) 1 (lw_V q3179 q3181 qs112 q145 q3182) (by decide +kernel) rfl (by decide) (by decide) rfl (Nat.le_of_ble_eq_true rfl) dX4_format_43 ?_
            intro Az10 Fz11 hc43
            obtain ⟨hl_43, hka_43, hkf_43⟩ := hc43
            refine j_ald4 hk dX4_format_46 rfl rfl ?_
            refine j_ild4 hk dX4_format_47 rfl rfl ?_
            refine j_sSi hk hl0 (sc_kindOf hls (c := opV (opAt (g.1.1 s) k)) (by omega)) 1 (lw_S q2790 q2791 q145 q2792) (by decide +kernel) rfl (by decide) (by decide) rfl (Nat.le_of_ble_eq_true rfl) dX4_format_48 ?_
            refine j_top (z2 := ((oK (opAt (g.1.1 s) k) : Nat) : Int)) (by rw [opV_k hok]) ?_
            refine j_sSi hk hl0 (sc_letterOfKind hls (k := oK (opAt (g.1.1 s) k)) (by omega)) 1 (lw_S q2992 q2993 q145 q2994) (by decide +kernel) rfl (by decide) (by decide) rfl (Nat.le_of_ble_eq_true rfl) dX4_format_51 ?_
            refine j_mVv hE hk hl0 hF (mc_put hls hE (A := Az10) (F := Fz11) (c := letK (oK (opAt (g.1.1 s) k))) (tx := txN (g.1.1 s) k ++ [32]) (hl_43) (by have := txN_len (g.1.1 s) k; (try simp only [List.length_append, List.length_singleton]); omega) (by have := letK_lt (oK (opAt (g.1.1 s) k)); omega)) 1 (lw_V q3179 q3181 qs112 q145 q3182) (by decide +kernel) rfl (by decide) (by decide) rfl (Nat.le_of_ble_eq_true rfl) dX4_format_54 ?_
            intro Az12 Fz13 hc54
            obtain ⟨hl_54, hka_54, hkf_54⟩ := hc54
            refine j_ald4 hk dX4_format_57 rfl rfl ?_
            refine j_bipush (n := 48) hk rfl dX4_format_58 ?_
            refine j_ild4 hk dX4_format_60 rfl rfl ?_
            refine j_sSi hk hl0 (sc_transactionOf hls (c := opV (opAt (g.1.1 s) k)) (by omega)) 1 (lw_S q2787 q2788 q145 q2789) (by decide +kernel) rfl (by decide) (by decide) rfl (Nat.le_of_ble_eq_true rfl) dX4_format_61 ?_
            refine j_top (z2 := ((oT (opAt (g.1.1 s) k) : Nat) : Int)) (by rw [opV_t hok]) ?_
            refine j_iadd hk dX4_format_64 ?_
            refine j_mVv hE hk hl0 hF (mc_put hls hE (A := Az12) (F := Fz13) (c := 48 + (oT (opAt (g.1.1 s) k))) (tx := txN (g.1.1 s) k ++ [32] ++ [letK (oK (opAt (g.1.1 s) k))]) (hl_54) (by have := txN_len (g.1.1 s) k; (try simp only [List.length_append, List.length_singleton]); omega) (by omega)) 1 (lw_V q3179 q3181 qs112 q145 q3182) (by decide +kernel) rfl (by decide) (by decide) rfl (Nat.le_of_ble_eq_true rfl) dX4_format_65 ?_
            intro Az14 Fz15 hc65
            obtain ⟨hl_65, hka_65, hkf_65⟩ := hc65
            refine j_ild4 hk dX4_format_68 rfl rfl ?_
            refine j_sSi hk hl0 (sc_kindOf hls (c := opV (opAt (g.1.1 s) k)) (by omega)) 1 (lw_S q2790 q2791 q145 q2792) (by decide +kernel) rfl (by decide) (by decide) rfl (Nat.le_of_ble_eq_true rfl) dX4_format_69 ?_
            refine j_top (z2 := ((oK (opAt (g.1.1 s) k) : Nat) : Int)) (by rw [opV_k hok]) ?_
            refine j_iconst (n := 2) hk dX4_format_72 ?_
            refine j_icmp_ge hk (by omega) (by omega) dX4_format_73 rfl (tgt := 87) (fun h73 => ?_) (fun h73 => ?_)
            · refine j_iinc2 hk dX4_format_87 rfl ?_
              refine j_goto (tgt := 20) hk dX4_format_90 rfl ?_
              refine j_forget (i := 3) ?_
              exact ih20 Az14 Fz15 (k + 1) (by omega) (by omega) (by rw [txN_s, if_pos (by omega), txO, if_neg (by omega)]; simpa using hl_65) (((hk1.tr hka_43 (by decide)).tr hka_54 (by decide)).tr hka_65 (by decide)) (((hk2.tr hkf_43 (by decide)).tr hkf_54 (by decide)).tr hkf_65 (by decide)) (by rw [hkf_65 4 (by decide), hkf_54 4 (by decide), hkf_43 4 (by decide)]; exact ht4)
            · refine j_ald4 hk dX4_format_76 rfl rfl ?_
              refine j_bipush (n := 97) hk rfl dX4_format_77 ?_
              refine j_ild4 hk dX4_format_79 rfl rfl ?_
              refine j_bipush (n := 10) hk rfl dX4_format_80 ?_
              refine j_irem hk (by omega) dX4_format_82 ?_
              refine j_top (z2 := ((oI (opAt (g.1.1 s) k) : Nat) : Int)) (by rw [← opV_i hok]; rfl) ?_
              refine j_iadd hk dX4_format_83 ?_
              refine j_mVv hE hk hl0 hF (mc_put hls hE (A := Az14) (F := Fz15) (c := 97 + (oI (opAt (g.1.1 s) k))) (tx := txN (g.1.1 s) k ++ [32] ++ [letK (oK (opAt (g.1.1 s) k))] ++ [48 + oT (opAt (g.1.1 s) k)]) (hl_65) (by have := txN_len (g.1.1 s) k; (try simp only [List.length_append, List.length_singleton]); omega) (by omega)) 1 (lw_V q3179 q3181 qs112 q145 q3182) (by decide +kernel) rfl (by decide) (by decide) rfl (Nat.le_of_ble_eq_true rfl) dX4_format_84 ?_
              intro Az16 Fz17 hc84
              obtain ⟨hl_84, hka_84, hkf_84⟩ := hc84
              refine j_iinc2 hk dX4_format_87 rfl ?_
              refine j_goto (tgt := 20) hk dX4_format_90 rfl ?_
              refine j_forget (i := 3) ?_
              exact ih20 Az16 Fz17 (k + 1) (by omega) (by omega) (by rw [txN_s, if_pos (by omega), txO, if_pos (by omega)]; simpa using hl_84) ((((hk1.tr hka_43 (by decide)).tr hka_54 (by decide)).tr hka_65 (by decide)).tr hka_84 (by decide)) ((((hk2.tr hkf_43 (by decide)).tr hkf_54 (by decide)).tr hkf_65 (by decide)).tr hkf_84 (by decide)) (by rw [hkf_84 4 (by decide), hkf_65 4 (by decide), hkf_54 4 (by decide), hkf_43 4 (by decide)]; exact ht4)
    exact loop20 _ A (iup (iup F 4 (jB (!(decide (0 ≤ ((s : Nat) : Int) ∧ ((s : Nat) : Int) ≤ 3))))) 36 0) 0 (Nat.lt_succ_self _) (by omega) (⟨iup_s _ _ _, txIs.nil _ _⟩) (kA.rf) ((kF.rf.up (by decide)).up (by decide)) (by rw [iup_n (by decide)]; exact ht)
  · refine j_iconst (n := 0) hk dX4_format_11 ?_
    refine j_miret hk he rfl dX4_format_12 (Nat.le_refl _) (Nat.le_refl _) ?_
    have e : sp_format g si = (1, 0, g) := by
      have : isSl si = false := by have h := h8; rw [Bool.not_eq_true'] at h; exact h
      simp [sp_format, this]
    rw [mP, e]
    exact ⟨rfl, by rw [iup_s, h8]; rfl, hR.up4⟩
set_option maxHeartbeats 1500000 in
/-- formatOrder(I)I -/
theorem mc_formatOrder {l : Launch} {E : jE} {m : Nat} {ad : Nat → Nat} {A : Nat → Nat → Int} {F : Nat → Int} (hls : l.stackTraces = false) (hE : jSt E) {si : Int} {g : SS} (hR : mR A F g) (hr : jr si) : mC l E yX4_formatOrder cX4_formatOrder 3 (some .int) 8 174 [.ref m, .int (jI si)] m ad A F (mQi E m ad (fun r A2 F2 => mP (sp_formatOrder g si) r A2 F2)) := by
  refine m_start (own := "ScheduleAnalyzerModel") (vs := [some (.ref m), some (.int (jI si)), none]) hls (by decide +kernel) rfl rfl rfl (Nat.le_of_ble_eq_true rfl) ?_
  intro K hk he hl0 hF hG0
  refine j_ald4 hk dX4_formatOrder_0 rfl rfl ?_
  refine j_ild4 hk dX4_formatOrder_1 rfl rfl ?_
  refine j_sSi hk hl0 (sc_isSlot hls (v := si) (hr)) 1 (lw_S q2752 q2753 q145 q2754) (by decide +kernel) rfl (by decide) (by decide) rfl (Nat.le_of_ble_eq_true rfl) dX4_formatOrder_2 ?_
  refine j_ifneB hk dX4_formatOrder_5 rfl (tgt := 12) (fun h5 => ?_) (fun h5 => ?_)
  · have q1 := of_decide_eq_true h5
    obtain ⟨s, rfl⟩ : ∃ s : Nat, si = ((s : Nat) : Int) := ⟨si.toNat, by omega⟩
    have e1 : isSl (s : Int) = true := by simp [isSl]; omega
    refine j_ald4 hk dX4_formatOrder_12 rfl rfl ?_
    refine j_ild4 hk dX4_formatOrder_13 rfl rfl ?_
    refine j_mVi hE hk hl0 hF (mc_isSerial hls hE (A := A) (F := F) (s := s) (S := g.1.1) (V := g.1.2) (hR.1) (by omega)) 1 (lw_V q2877 q2879 qs71 q145 q2880) (by decide +kernel) rfl (by decide) (by decide) rfl (Nat.le_of_ble_eq_true rfl) dX4_formatOrder_14 ?_
    intro rz1 Az2 Fz3 hc14
    obtain ⟨rfl, hc14⟩ := hc14
    obtain ⟨hL_14, hP_14, hO_14, hka_14, hkf_14⟩ := hc14
    refine j_ifneB hk dX4_formatOrder_17 rfl (tgt := 24) (fun h17 => ?_) (fun h17 => ?_)
    · refine j_iconst (n := 0) hk dX4_formatOrder_24 ?_
      refine j_mput hE hk hF 4 (by decide) rfl q2618 rfl rfl rfl rfl dX4_formatOrder_25 ?_
      refine j_ald4 hk dX4_formatOrder_28 rfl rfl ?_
      refine j_mget hE hk 4 (by decide) rfl q2618 dX4_formatOrder_29 ?_
      refine j_top (z2 := 0) (iup_s _ _ _) ?_
      refine j_if_le hk (by omega) dX4_formatOrder_32 rfl (tgt := 37) (fun _ => ?_) (fun h => absurd h (by omega))
      have hsl := isSerB_spec h17
      have hb6 := cnt_le5 _ (pmask_lt hL_14.2.1.2) (pmask_even hL_14.2.1.2)
      refine j_ald4 hk dX4_formatOrder_37 rfl rfl ?_
      refine j_iconst (n := 0) hk dX4_formatOrder_38 ?_
      refine j_mput hE hk hF 36 (by decide) rfl q2650 rfl rfl rfl rfl dX4_formatOrder_39 ?_
      refine j_iconst (n := 0) hk dX4_formatOrder_42 ?_
      refine j_ist2 hk dX4_formatOrder_43 rfl ?_
      have loop44 : ∀ (fuel44 : Nat) (A1 : Nat → Nat → Int) (F1 : Nat → Int) (k : Nat), (serL (restOf (g.1.1 s))).length - k < fuel44 → k ≤ (serL (restOf (g.1.1 s))).length → lnIs A1 F1 (txR (serL (restOf (g.1.1 s))) k) → kA [35] Az2 A1 → kF [4, 36] Fz3 F1 → F1 4 = 0 → jW K (mAs E m ad A1 F1) 0 0 44 [some (.ref m), some (.int (jI ((s : Nat) : Int))), some (.int (jI ((k : Nat) : Int)))] [] := by
        intro fuel44
        induction fuel44 with
        | zero => intro A1 F1 k hm; exact absurd hm (Nat.not_lt_zero _)
        | succ fuel44 ih44 =>
          intro A1 F1 k hm44 hkk hl hk1 hk2 ht4
          refine j_ild4 hk dX4_formatOrder_44 rfl rfl ?_
          refine j_ald4 hk dX4_formatOrder_45 rfl rfl ?_
          refine j_mget hE hk 20 (by decide) rfl q2634 dX4_formatOrder_46 ?_
          refine j_top (z2 := ((pmask (restOf (g.1.1 s)) : Nat) : Int)) (by rw [hk2 20 (by decide)]; exact hP_14) ?_
          refine j_sSi hk hl0 (sc_bits hls (p := pmask (restOf (g.1.1 s))) (pmask_lt hL_14.2.1.2)) 1 (lw_S q2909 q2910 q145 q2911) (by decide +kernel) rfl (by decide) (by decide) rfl (Nat.le_of_ble_eq_true rfl) dX4_formatOrder_49 ?_
          refine j_icmp_ge hk (by omega) (by omega) dX4_formatOrder_52 rfl (tgt := 84) (fun h52 => ?_) (fun h52 => ?_)
          · refine j_ald4 hk dX4_formatOrder_84 rfl rfl ?_
            refine j_mget hE hk 36 (by decide) rfl q2650 dX4_formatOrder_85 ?_
            have ek : k = (serL (restOf (g.1.1 s))).length := by omega
            rw [ek] at hl
            refine j_top (z2 := (((txR (serL (restOf (g.1.1 s))) (serL (restOf (g.1.1 s))).length).length : Nat) : Int)) (hl.1) ?_
            refine j_miret hk he rfl dX4_formatOrder_88 (Nat.le_refl _) (Nat.le_refl _) ?_
            have e : sp_formatOrder g (s : Int) = (0, (((txR (serL (restOf (g.1.1 s))) (serL (restOf (g.1.1 s))).length).length : Nat) : Int), gLn g (txR (serL (restOf (g.1.1 s))) (serL (restOf (g.1.1 s))).length)) := by simp [sp_formatOrder, e1, gRest, h17]
            rw [mP, e]
            exact ⟨rfl, ht4, (hR.keep hka_14 hkf_14 (by decide) (by decide)).lin hk1 hk2 (by decide) (by decide) hl⟩
          · have hlt : k < (serL (restOf (g.1.1 s))).length := by omega
            have hx5 : (serL (restOf (g.1.1 s))).getD k 0 ≤ 5 := (serL_in (by rw [List.getD_eq_getElem?_getD, List.getElem?_eq_getElem hlt]; exact List.getElem_mem hlt)).2
            refine j_ild4 hk dX4_formatOrder_55 rfl rfl ?_
            refine j_if_le hk (by omega) dX4_formatOrder_56 rfl (tgt := 65) (fun h56 => ?_) (fun h56 => ?_)
            · refine j_ald4 hk dX4_formatOrder_65 rfl rfl ?_
              refine j_bipush (n := 48) hk rfl dX4_formatOrder_66 ?_
              refine j_ald4 hk dX4_formatOrder_68 rfl rfl ?_
              refine j_mgetA hE hk 17 (by decide) rfl q2631 dX4_formatOrder_69 ?_
              refine j_ild4 hk dX4_formatOrder_72 rfl rfl ?_
              refine j_mald hE hk 17 10 rfl (k) (by omega) (by simp only [mLen]; omega) dX4_formatOrder_73 ?_
              refine j_top (z2 := (((serL (restOf (g.1.1 s))).getD k 0 : Nat) : Int)) (by rw [hk1 17 (by decide)]; exact hO_14 k hlt) ?_
              refine j_iadd hk dX4_formatOrder_74 ?_
              refine j_mVv hE hk hl0 hF (mc_put hls hE (A := A1) (F := F1) (c := 48 + ((serL (restOf (g.1.1 s))).getD k 0)) (tx := txR (serL (restOf (g.1.1 s))) k) (hl) (by have := txR_len (serL (restOf (g.1.1 s))) k; (try simp only [List.length_append, List.length_singleton]); omega) (by omega)) 1 (lw_V q3179 q3181 qs112 q145 q3182) (by decide +kernel) rfl (by decide) (by decide) rfl (Nat.le_of_ble_eq_true rfl) dX4_formatOrder_75 ?_
              intro Az4 Fz5 hc75
              obtain ⟨hl_75, hka_75, hkf_75⟩ := hc75
              refine j_iinc2 hk dX4_formatOrder_78 rfl ?_
              refine j_goto (tgt := 44) hk dX4_formatOrder_81 rfl ?_
              exact ih44 Az4 Fz5 (k + 1) (by omega) (by omega) (by rw [txR_s, if_neg (by omega)]; simpa using hl_75) ((hk1).tr hka_75 (by decide)) ((hk2).tr hkf_75 (by decide)) (by rw [hkf_75 4 (by decide)]; exact ht4)
            · refine j_ald4 hk dX4_formatOrder_59 rfl rfl ?_
              refine j_bipush (n := 60) hk rfl dX4_formatOrder_60 ?_
              refine j_mVv hE hk hl0 hF (mc_put hls hE (A := A1) (F := F1) (c := 60) (tx := txR (serL (restOf (g.1.1 s))) k) (hl) (by have := txR_len (serL (restOf (g.1.1 s))) k; omega) (by decide)) 1 (lw_V q3179 q3181 qs112 q145 q3182) (by decide +kernel) rfl (by decide) (by decide) rfl (Nat.le_of_ble_eq_true rfl) dX4_formatOrder_62 ?_
              intro Az6 Fz7 hc62
              obtain ⟨hl_62, hka_62, hkf_62⟩ := hc62
              refine j_ald4 hk dX4_formatOrder_65 rfl rfl ?_
              refine j_bipush (n := 48) hk rfl dX4_formatOrder_66 ?_
              refine j_ald4 hk dX4_formatOrder_68 rfl rfl ?_
              refine j_mgetA hE hk 17 (by decide) rfl q2631 dX4_formatOrder_69 ?_
              refine j_ild4 hk dX4_formatOrder_72 rfl rfl ?_
              refine j_mald hE hk 17 10 rfl (k) (by omega) (by simp only [mLen]; omega) dX4_formatOrder_73 ?_
              refine j_top (z2 := (((serL (restOf (g.1.1 s))).getD k 0 : Nat) : Int)) (by rw [hka_62 17 (by decide), hk1 17 (by decide)]; exact hO_14 k hlt) ?_
              refine j_iadd hk dX4_formatOrder_74 ?_
              refine j_mVv hE hk hl0 hF (mc_put hls hE (A := Az6) (F := Fz7) (c := 48 + ((serL (restOf (g.1.1 s))).getD k 0)) (tx := txR (serL (restOf (g.1.1 s))) k ++ [60]) (hl_62) (by have := txR_len (serL (restOf (g.1.1 s))) k; (try simp only [List.length_append, List.length_singleton]); omega) (by omega)) 1 (lw_V q3179 q3181 qs112 q145 q3182) (by decide +kernel) rfl (by decide) (by decide) rfl (Nat.le_of_ble_eq_true rfl) dX4_formatOrder_75 ?_
              intro Az8 Fz9 hc75
              obtain ⟨hl_75, hka_75, hkf_75⟩ := hc75
              refine j_iinc2 hk dX4_formatOrder_78 rfl ?_
              refine j_goto (tgt := 44) hk dX4_formatOrder_81 rfl ?_
              exact ih44 Az8 Fz9 (k + 1) (by omega) (by omega) (by rw [txR_s, if_pos (by omega)]; simpa using hl_75) ((hk1.tr hka_62 (by decide)).tr hka_75 (by decide)) ((hk2.tr hkf_62 (by decide)).tr hkf_75 (by decide)) (by rw [hkf_75 4 (by decide), hkf_62 4 (by decide)]; exact ht4)
      exact loop44 _ Az2 (iup (iup Fz3 4 0) 36 0) 0 (Nat.lt_succ_self _) (by omega) (⟨iup_s _ _ _, txIs.nil _ _⟩) (kA.rf) ((kF.rf.up (by decide)).up (by decide)) (by rw [iup_n (by decide), iup_s])
    · refine j_iconst (n := 2) hk dX4_formatOrder_20 ?_
      refine j_goto (tgt := 25) hk dX4_formatOrder_21 rfl ?_
      refine j_mput hE hk hF 4 (by decide) rfl q2618 rfl rfl rfl rfl dX4_formatOrder_25 ?_
      refine j_ald4 hk dX4_formatOrder_28 rfl rfl ?_
      refine j_mget hE hk 4 (by decide) rfl q2618 dX4_formatOrder_29 ?_
      refine j_top (z2 := 2) (iup_s _ _ _) ?_
      refine j_if_le hk (by omega) dX4_formatOrder_32 rfl (tgt := 37) (fun h => absurd h (by omega)) (fun _ => ?_)
      refine j_iconst (n := 0) hk dX4_formatOrder_35 ?_
      refine j_miret hk he rfl dX4_formatOrder_36 (Nat.le_refl _) (Nat.le_refl _) ?_
      have e : sp_formatOrder g (s : Int) = (2, 0, g) := by simp [sp_formatOrder, e1, gRest, h17]
      rw [mP, e]
      exact ⟨rfl, iup_s _ _ _, (hR.keep hka_14 hkf_14 (by decide) (by decide)).up4⟩
  · refine j_iconst (n := 1) hk dX4_formatOrder_8 ?_
    refine j_goto (tgt := 25) hk dX4_formatOrder_9 rfl ?_
    refine j_mput hE hk hF 4 (by decide) rfl q2618 rfl rfl rfl rfl dX4_formatOrder_25 ?_
    refine j_ald4 hk dX4_formatOrder_28 rfl rfl ?_
    refine j_mget hE hk 4 (by decide) rfl q2618 dX4_formatOrder_29 ?_
    refine j_top (z2 := 1) (iup_s _ _ _) ?_
    refine j_if_le hk (by omega) dX4_formatOrder_32 rfl (tgt := 37) (fun h => absurd h (by omega)) (fun _ => ?_)
    refine j_iconst (n := 0) hk dX4_formatOrder_35 ?_
    refine j_miret hk he rfl dX4_formatOrder_36 (Nat.le_refl _) (Nat.le_refl _) ?_
    have e : sp_formatOrder g si = (1, 0, g) := by simp [sp_formatOrder, isSl, h5]
    rw [mP, e]
    exact ⟨rfl, iup_s _ _ _, hR.up4⟩
set_option maxHeartbeats 1500000 in
/-- serialAt(II)I -/
theorem mc_serialAt {l : Launch} {E : jE} {m : Nat} {ad : Nat → Nat} {A : Nat → Nat → Int} {F : Nat → Int} (hls : l.stackTraces = false) (hE : jSt E) {si : Int} {ri : Int} {g : SS} (hR : mR A F g) (hr : jr si ∧ jr ri) : mC l E yX4_serialAt cX4_serialAt 3 (some .int) 8 174 [.ref m, .int (jI si), .int (jI ri)] m ad A F (mQi E m ad (fun r A2 F2 => mP (sp_serialAt g si ri) r A2 F2)) := by
  refine m_start (own := "ScheduleAnalyzerModel") (vs := [some (.ref m), some (.int (jI si)), some (.int (jI ri))]) hls (by decide +kernel) rfl rfl rfl (Nat.le_of_ble_eq_true rfl) ?_
  intro K hk he hl0 hF hG0
  refine j_ald4 hk dX4_serialAt_0 rfl rfl ?_
  refine j_ild4 hk dX4_serialAt_1 rfl rfl ?_
  refine j_sSi hk hl0 (sc_isSlot hls (v := si) (hr.1)) 1 (lw_S q2752 q2753 q145 q2754) (by decide +kernel) rfl (by decide) (by decide) rfl (Nat.le_of_ble_eq_true rfl) dX4_serialAt_2 ?_
  refine j_ifneB hk dX4_serialAt_5 rfl (tgt := 12) (fun h5 => ?_) (fun h5 => ?_)
  · have q1 := of_decide_eq_true h5
    obtain ⟨s, rfl⟩ : ∃ s : Nat, si = ((s : Nat) : Int) := ⟨si.toNat, by omega⟩
    have e1 : isSl (s : Int) = true := by simp [isSl]; omega
    refine j_ald4 hk dX4_serialAt_12 rfl rfl ?_
    refine j_ild4 hk dX4_serialAt_13 rfl rfl ?_
    refine j_mVi hE hk hl0 hF (mc_isSerial hls hE (A := A) (F := F) (s := s) (S := g.1.1) (V := g.1.2) (hR.1) (by omega)) 1 (lw_V q2877 q2879 qs71 q145 q2880) (by decide +kernel) rfl (by decide) (by decide) rfl (Nat.le_of_ble_eq_true rfl) dX4_serialAt_14 ?_
    intro rz1 Az2 Fz3 hc14
    obtain ⟨rfl, hc14⟩ := hc14
    obtain ⟨hL_14, hP_14, hO_14, hka_14, hkf_14⟩ := hc14
    refine j_ifneB hk dX4_serialAt_17 rfl (tgt := 24) (fun h17 => ?_) (fun h17 => ?_)
    · refine j_iconst (n := 0) hk dX4_serialAt_24 ?_
      refine j_mput hE hk hF 4 (by decide) rfl q2618 rfl rfl rfl rfl dX4_serialAt_25 ?_
      refine j_ald4 hk dX4_serialAt_28 rfl rfl ?_
      refine j_mget hE hk 4 (by decide) rfl q2618 dX4_serialAt_29 ?_
      refine j_top (z2 := 0) (iup_s _ _ _) ?_
      refine j_if_le hk (by omega) dX4_serialAt_32 rfl (tgt := 37) (fun _ => ?_) (fun h => absurd h (by omega))
      have hsl := isSerB_spec h17
      have hb6 := cnt_le5 _ (pmask_lt hL_14.2.1.2) (pmask_even hL_14.2.1.2)
      refine j_ald4 hk dX4_serialAt_37 rfl rfl ?_
      refine j_ild4 hk dX4_serialAt_38 rfl rfl ?_
      refine j_iconst (n := 0) hk dX4_serialAt_39 ?_
      refine j_ald4 hk dX4_serialAt_40 rfl rfl ?_
      refine j_mget hE hk 20 (by decide) rfl q2634 dX4_serialAt_41 ?_
      refine j_top (z2 := ((pmask (restOf (g.1.1 s)) : Nat) : Int)) (by rw [iup_n (by decide)]; exact hP_14) ?_
      refine j_sSi hk hl0 (sc_bits hls (p := pmask (restOf (g.1.1 s))) (pmask_lt hL_14.2.1.2)) 1 (lw_S q2909 q2910 q145 q2911) (by decide +kernel) rfl (by decide) (by decide) rfl (Nat.le_of_ble_eq_true rfl) dX4_serialAt_44 ?_
      refine j_iconst (n := 1) hk dX4_serialAt_47 ?_
      refine j_isub hk dX4_serialAt_48 ?_
      refine j_sSi hk hl0 (sc_in hls (v := ri) (a := 0) (b := ((bitsN (pmask (restOf (g.1.1 s))) : Nat) : Int) - 1) (by omega)) 3 (lw_S q2734 q2735 q145 q2736) (by decide +kernel) rfl (by decide) (by decide) rfl (Nat.le_of_ble_eq_true rfl) dX4_serialAt_49 ?_
      refine j_ifeqB hk dX4_serialAt_52 rfl (tgt := 59) (fun h52 => ?_) (fun h52 => ?_)
      · refine j_iconst (n := 3) hk dX4_serialAt_59 ?_
        refine j_mput hE hk hF 4 (by decide) rfl q2618 rfl rfl rfl rfl dX4_serialAt_60 ?_
        refine j_ald4 hk dX4_serialAt_63 rfl rfl ?_
        refine j_mget hE hk 4 (by decide) rfl q2618 dX4_serialAt_64 ?_
        refine j_top (z2 := 3) (iup_s _ _ _) ?_
        refine j_if_le hk (by omega) dX4_serialAt_67 rfl (tgt := 74) (fun h => absurd h (by omega)) (fun _ => ?_)
        refine j_iconst (n := 0) hk dX4_serialAt_70 ?_
        refine j_goto (tgt := 80) hk dX4_serialAt_71 rfl ?_
        refine j_miret hk he rfl dX4_serialAt_80 (Nat.le_refl _) (Nat.le_refl _) ?_
        have e : sp_serialAt g (s : Int) ri = (3, 0, g) := by
          have q := of_decide_eq_false h52
          have q2 : decide (0 ≤ ri ∧ ri < ((bitsN (pmask (gRest g (s : Int))) : Nat) : Int)) = false := by
            apply decide_eq_false
            show ¬ (0 ≤ ri ∧ ri < ((bitsN (pmask (restOf (g.1.1 s))) : Nat) : Int))
            omega
          rw [sp_serialAt, q2]
          simp [e1, gRest, h17]
        rw [mP, e]
        exact ⟨rfl, iup_s _ _ _, (hR.keep hka_14 hkf_14 (by decide) (by decide)).up4.up4⟩
      · refine j_iconst (n := 0) hk dX4_serialAt_55 ?_
        refine j_goto (tgt := 60) hk dX4_serialAt_56 rfl ?_
        refine j_mput hE hk hF 4 (by decide) rfl q2618 rfl rfl rfl rfl dX4_serialAt_60 ?_
        refine j_ald4 hk dX4_serialAt_63 rfl rfl ?_
        refine j_mget hE hk 4 (by decide) rfl q2618 dX4_serialAt_64 ?_
        refine j_top (z2 := 0) (iup_s _ _ _) ?_
        refine j_if_le hk (by omega) dX4_serialAt_67 rfl (tgt := 74) (fun _ => ?_) (fun h => absurd h (by omega))
        have q2 := of_decide_eq_true h52
        obtain ⟨r2, rfl⟩ : ∃ r2 : Nat, ri = ((r2 : Nat) : Int) := ⟨ri.toNat, by omega⟩
        have hlt : r2 < (serL (restOf (g.1.1 s))).length := by omega
        refine j_ald4 hk dX4_serialAt_74 rfl rfl ?_
        refine j_mgetA hE hk 17 (by decide) rfl q2631 dX4_serialAt_75 ?_
        refine j_ild4 hk dX4_serialAt_78 rfl rfl ?_
        refine j_mald hE hk 17 10 rfl (r2) (by omega) (by simp only [mLen]; omega) dX4_serialAt_79 ?_
        refine j_top (z2 := (((serL (restOf (g.1.1 s))).getD r2 0 : Nat) : Int)) (hO_14 r2 hlt) ?_
        refine j_miret hk he rfl dX4_serialAt_80 (Nat.le_refl _) (Nat.le_refl _) ?_
        have e : sp_serialAt g (s : Int) (r2 : Int) = (0, (((serL (restOf (g.1.1 s))).getD r2 0 : Nat) : Int), g) := by
          have q3 : decide (0 ≤ (r2 : Int) ∧ (r2 : Int) < ((bitsN (pmask (gRest g (s : Int))) : Nat) : Int)) = true := by
            apply decide_eq_true
            show 0 ≤ (r2 : Int) ∧ (r2 : Int) < ((bitsN (pmask (restOf (g.1.1 s))) : Nat) : Int)
            omega
          rw [sp_serialAt, q3]
          simp [e1, gRest, h17]
        rw [mP, e]
        exact ⟨rfl, iup_s _ _ _, (hR.keep hka_14 hkf_14 (by decide) (by decide)).up4.up4⟩
    · refine j_iconst (n := 2) hk dX4_serialAt_20 ?_
      refine j_goto (tgt := 25) hk dX4_serialAt_21 rfl ?_
      refine j_mput hE hk hF 4 (by decide) rfl q2618 rfl rfl rfl rfl dX4_serialAt_25 ?_
      refine j_ald4 hk dX4_serialAt_28 rfl rfl ?_
      refine j_mget hE hk 4 (by decide) rfl q2618 dX4_serialAt_29 ?_
      refine j_top (z2 := 2) (iup_s _ _ _) ?_
      refine j_if_le hk (by omega) dX4_serialAt_32 rfl (tgt := 37) (fun h => absurd h (by omega)) (fun _ => ?_)
      refine j_iconst (n := 0) hk dX4_serialAt_35 ?_
      refine j_miret hk he rfl dX4_serialAt_36 (Nat.le_refl _) (Nat.le_refl _) ?_
      have e : sp_serialAt g (s : Int) ri = (2, 0, g) := by simp [sp_serialAt, e1, gRest, h17]
      rw [mP, e]
      exact ⟨rfl, iup_s _ _ _, (hR.keep hka_14 hkf_14 (by decide) (by decide)).up4⟩
  · refine j_iconst (n := 1) hk dX4_serialAt_8 ?_
    refine j_goto (tgt := 25) hk dX4_serialAt_9 rfl ?_
    refine j_mput hE hk hF 4 (by decide) rfl q2618 rfl rfl rfl rfl dX4_serialAt_25 ?_
    refine j_ald4 hk dX4_serialAt_28 rfl rfl ?_
    refine j_mget hE hk 4 (by decide) rfl q2618 dX4_serialAt_29 ?_
    refine j_top (z2 := 1) (iup_s _ _ _) ?_
    refine j_if_le hk (by omega) dX4_serialAt_32 rfl (tgt := 37) (fun h => absurd h (by omega)) (fun _ => ?_)
    refine j_iconst (n := 0) hk dX4_serialAt_35 ?_
    refine j_miret hk he rfl dX4_serialAt_36 (Nat.le_refl _) (Nat.le_refl _) ?_
    have e : sp_serialAt g si ri = (1, 0, g) := by simp [sp_serialAt, isSl, h5]
    rw [mP, e]
    exact ⟨rfl, iup_s _ _ _, hR.up4⟩
