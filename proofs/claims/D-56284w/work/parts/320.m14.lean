set_option maxHeartbeats 1500000 in
/-- preventers(I)I -/
theorem mc_preventers {l : Launch} {E : jE} {m : Nat} {ad : Nat → Nat} {A : Nat → Nat → Int} {F : Nat → Int} (hls : l.stackTraces = false) (hE : jSt E) {k : Nat} {L : List Op} {w : LkS} (hw : lkIs A F L w) (hkl : k < L.length) : mC l E yX4_preventers cX4_preventers 3 (some .int) 2 33 [.ref m, .int (jI ((k : Nat) : Int))] m ad A F (mQi E m ad (fun r A2 F2 => ((prevS L w k : Nat) : Int) = r ∧ A = A2 ∧ F = F2)) := by
  refine m_start (own := "ScheduleAnalyzerModel") (vs := [some (.ref m), some (.int (jI ((k : Nat) : Int))), none]) hls (by decide +kernel) rfl rfl rfl (Nat.le_of_ble_eq_true rfl) ?_
  intro K hk he hl0 hF hG0
  have hL := hw.1
  have hlen := hL.len
  have kr := hL.2.2 (k) (hkl)
  obtain ⟨k1, k2, k3⟩ := kr
  obtain ⟨k4, k5, k6, k7, k8⟩ := hL.ok (i := k) (hkl)
  refine j_ald4 hk dX4_preventers_0 rfl rfl ?_
  refine j_ild4 hk dX4_preventers_1 rfl rfl ?_
  refine j_mVi hE hk hl0 hF (mc_isAccess hls hE (A := A) (F := F) (k := k) (L := L) (hL) (hkl)) 1 (lw_V q2905 q2907 qs78 q145 q2908) (by decide +kernel) rfl (by decide) (by decide) rfl (Nat.le_of_ble_eq_true rfl) dX4_preventers_2 ?_
  rintro _ _ _ ⟨rfl, rfl, rfl⟩
  refine j_ifneB hk dX4_preventers_5 rfl (tgt := 10) (fun h5 => ?_) (fun h5 => ?_)
  · have hk2b : oK (opAt L k) < 2 := by simpa using h5
    have hi4 : oI (opAt L k) < 4 := by omega
    obtain ⟨r1, r2⟩ := hw.2.2.1 _ hi4
    obtain ⟨v1, v2⟩ := hw.2.2.2.1 _ hi4
    refine j_ald4 hk dX4_preventers_10 rfl rfl ?_
    refine j_mgetA hE hk 23 (by decide) rfl q2637 dX4_preventers_11 ?_
    refine j_ald4 hk dX4_preventers_14 rfl rfl ?_
    refine j_mgetA hE hk 15 (by decide) rfl q2629 dX4_preventers_15 ?_
    refine j_ild4 hk dX4_preventers_18 rfl rfl ?_
    refine j_mald hE hk 15 8 rfl (k) (by omega) (by simp only [mLen]; omega) dX4_preventers_19 ?_
    refine j_top (z2 := ((oI (opAt L k) : Nat) : Int)) (k3) ?_
    refine j_mald hE hk 23 14 rfl (oI (opAt L k)) (by omega) (by simp only [mLen]; omega) dX4_preventers_20 ?_
    refine j_top (z2 := ((w.wr (oI (opAt L k)) : Nat) : Int)) (v1) ?_
    refine j_ald4 hk dX4_preventers_21 rfl rfl ?_
    refine j_mgetA hE hk 13 (by decide) rfl q2627 dX4_preventers_22 ?_
    refine j_ild4 hk dX4_preventers_25 rfl rfl ?_
    refine j_mald hE hk 13 6 rfl (k) (by omega) (by simp only [mLen]; omega) dX4_preventers_26 ?_
    refine j_top (z2 := ((oK (opAt L k) : Nat) : Int)) (k1) ?_
    refine j_iconst (n := 1) hk dX4_preventers_27 ?_
    refine j_icmp_ne hk (by omega) (by omega) dX4_preventers_28 rfl (tgt := 45) (fun h28 => ?_) (fun h28 => ?_)
    · refine j_iconst (n := 0) hk dX4_preventers_45 ?_
      refine j_ior (a := w.wr (oI (opAt L k))) (b := 0) hk dX4_preventers_46 ?_
      refine j_ist2 hk dX4_preventers_47 rfl ?_
      refine j_ild4 hk dX4_preventers_48 rfl rfl ?_
      refine j_iconst (n := 1) hk dX4_preventers_49 ?_
      refine j_ald4 hk dX4_preventers_50 rfl rfl ?_
      refine j_mgetA hE hk 14 (by decide) rfl q2628 dX4_preventers_51 ?_
      refine j_ild4 hk dX4_preventers_54 rfl rfl ?_
      refine j_mald hE hk 14 7 rfl (k) (by omega) (by simp only [mLen]; omega) dX4_preventers_55 ?_
      refine j_top (z2 := ((oT (opAt L k) : Nat) : Int)) (k2) ?_
      refine j_ishl (a := 1) (b := oT (opAt L k)) hk (by omega) dX4_preventers_56 ?_
      refine j_iconst (n := -1) hk dX4_preventers_57 ?_
      refine j_inot hk dX4_preventers_58 ?_
      refine j_iandn (a := (w.wr (oI (opAt L k))) ||| 0) (b := 1 * 2 ^ (oT (opAt L k))) hk dX4_preventers_59 ?_
      refine j_miret hk he rfl dX4_preventers_60 (Nat.le_refl _) (Nat.le_refl _) ?_
      exact ⟨by rw [prevS, if_pos hk2b, if_neg (by omega)], rfl, rfl⟩
    · refine j_ald4 hk dX4_preventers_31 rfl rfl ?_
      refine j_mgetA hE hk 22 (by decide) rfl q2636 dX4_preventers_32 ?_
      refine j_ald4 hk dX4_preventers_35 rfl rfl ?_
      refine j_mgetA hE hk 15 (by decide) rfl q2629 dX4_preventers_36 ?_
      refine j_ild4 hk dX4_preventers_39 rfl rfl ?_
      refine j_mald hE hk 15 8 rfl (k) (by omega) (by simp only [mLen]; omega) dX4_preventers_40 ?_
      refine j_top (z2 := ((oI (opAt L k) : Nat) : Int)) (k3) ?_
      refine j_mald hE hk 22 13 rfl (oI (opAt L k)) (by omega) (by simp only [mLen]; omega) dX4_preventers_41 ?_
      refine j_top (z2 := ((w.rd (oI (opAt L k)) : Nat) : Int)) (r1) ?_
      refine j_goto (tgt := 46) hk dX4_preventers_42 rfl ?_
      refine j_ior (a := w.wr (oI (opAt L k))) (b := w.rd (oI (opAt L k))) hk dX4_preventers_46 ?_
      refine j_ist2 hk dX4_preventers_47 rfl ?_
      refine j_ild4 hk dX4_preventers_48 rfl rfl ?_
      refine j_iconst (n := 1) hk dX4_preventers_49 ?_
      refine j_ald4 hk dX4_preventers_50 rfl rfl ?_
      refine j_mgetA hE hk 14 (by decide) rfl q2628 dX4_preventers_51 ?_
      refine j_ild4 hk dX4_preventers_54 rfl rfl ?_
      refine j_mald hE hk 14 7 rfl (k) (by omega) (by simp only [mLen]; omega) dX4_preventers_55 ?_
      refine j_top (z2 := ((oT (opAt L k) : Nat) : Int)) (k2) ?_
      refine j_ishl (a := 1) (b := oT (opAt L k)) hk (by omega) dX4_preventers_56 ?_
      refine j_iconst (n := -1) hk dX4_preventers_57 ?_
      refine j_inot hk dX4_preventers_58 ?_
      refine j_iandn (a := (w.wr (oI (opAt L k))) ||| (w.rd (oI (opAt L k)))) (b := 1 * 2 ^ (oT (opAt L k))) hk dX4_preventers_59 ?_
      refine j_miret hk he rfl dX4_preventers_60 (Nat.le_refl _) (Nat.le_refl _) ?_
      exact ⟨by rw [prevS, if_pos hk2b, if_pos (by omega)], rfl, rfl⟩
  · refine j_iconst (n := 0) hk dX4_preventers_8 ?_
    refine j_miret hk he rfl dX4_preventers_9 (Nat.le_refl _) (Nat.le_refl _) ?_
    exact ⟨by rw [prevS, if_neg (by simpa using h5)]; rfl, rfl, rfl⟩
set_option maxHeartbeats 1500000 in
/-- firstWaiting(I)I -/
theorem mc_firstWaiting {l : Launch} {E : jE} {m : Nat} {ad : Nat → Nat} {A : Nat → Nat → Int} {F : Nat → Int} (hls : l.stackTraces = false) (hE : jSt E) {t : Nat} {L : List Op} {w : LkS} (hw : lkIs A F L w) (ht : t ≤ 5) : mC l E yX4_firstWaiting cX4_firstWaiting 3 (some .int) 1 12 [.ref m, .int (jI ((t : Nat) : Int))] m ad A F (mQi E m ad (fun r A2 F2 => fwS L w t = r ∧ A = A2 ∧ F = F2)) := by
  refine m_start (own := "ScheduleAnalyzerModel") (vs := [some (.ref m), some (.int (jI ((t : Nat) : Int))), none]) hls (by decide +kernel) rfl rfl rfl (Nat.le_of_ble_eq_true rfl) ?_
  intro K hk he hl0 hF hG0
  have hL := hw.1
  have hlen := hL.len
  refine j_iconst (n := 0) hk dX4_firstWaiting_0 ?_
  refine j_ist2 hk dX4_firstWaiting_1 rfl ?_
  have loop2 : ∀ (fuel2 : Nat) (k : Nat), L.length - k < fuel2 → k ≤ L.length → (∀ j, j < k → fwP L w.st t j = false) → jW K (mAs E m ad A F) 0 0 2 [some (.ref m), some (.int (jI ((t : Nat) : Int))), some (.int (jI ((k : Nat) : Int)))] [] := by
    intro fuel2
    induction fuel2 with
    | zero => intro k hm; exact absurd hm (Nat.not_lt_zero _)
    | succ fuel2 ih2 =>
      intro k hm2 hk1 hk2
      refine j_ild4 hk dX4_firstWaiting_2 rfl rfl ?_
      refine j_ald4 hk dX4_firstWaiting_3 rfl rfl ?_
      refine j_mget hE hk 19 (by decide) rfl q2633 dX4_firstWaiting_4 ?_
      refine j_top (z2 := ((L.length : Nat) : Int)) (hL.1) ?_
      refine j_icmp_ge hk (by omega) (by omega) dX4_firstWaiting_7 rfl (tgt := 38) (fun h7 => ?_) (fun h7 => ?_)
      · refine j_iconst (n := -1) hk dX4_firstWaiting_38 ?_
        refine j_miret hk he rfl dX4_firstWaiting_39 (Nat.le_refl _) (Nat.le_refl _) ?_
        exact ⟨findR_none (fun j hj => hk2 j (by omega)), rfl, rfl⟩
      · have lr := hL.2.2 (k) (by omega)
        obtain ⟨l1, l2, l3⟩ := lr
        obtain ⟨l4, l5, l6, l7, l8⟩ := hL.ok (i := k) (by omega)
        obtain ⟨s1, s2⟩ := hw.2.1 k (by omega)
        refine j_ald4 hk dX4_firstWaiting_10 rfl rfl ?_
        refine j_mgetA hE hk 14 (by decide) rfl q2628 dX4_firstWaiting_11 ?_
        refine j_ild4 hk dX4_firstWaiting_14 rfl rfl ?_
        refine j_mald hE hk 14 7 rfl (k) (by omega) (by simp only [mLen]; omega) dX4_firstWaiting_15 ?_
        refine j_top (z2 := ((oT (opAt L k) : Nat) : Int)) (l2) ?_
        refine j_ild4 hk dX4_firstWaiting_16 rfl rfl ?_
        refine j_icmp_ne hk (by omega) (by omega) dX4_firstWaiting_17 rfl (tgt := 32) (fun h17 => ?_) (fun h17 => ?_)
        · refine j_iinc2 hk dX4_firstWaiting_32 rfl ?_
          refine j_goto (tgt := 2) hk dX4_firstWaiting_35 rfl ?_
          exact ih2 (k + 1) (by omega) (by omega) (all_s hk2 (by unfold fwP; simp; omega))
        · refine j_ald4 hk dX4_firstWaiting_20 rfl rfl ?_
          refine j_mgetA hE hk 21 (by decide) rfl q2635 dX4_firstWaiting_21 ?_
          refine j_ild4 hk dX4_firstWaiting_24 rfl rfl ?_
          refine j_mald hE hk 21 12 rfl (k) (by omega) (by simp only [mLen]; omega) dX4_firstWaiting_25 ?_
          refine j_top (z2 := ((w.st k : Nat) : Int)) (s1) ?_
          refine j_iconst (n := 1) hk dX4_firstWaiting_26 ?_
          refine j_icmp_ne hk (by omega) (by omega) dX4_firstWaiting_27 rfl (tgt := 32) (fun h27 => ?_) (fun h27 => ?_)
          · refine j_iinc2 hk dX4_firstWaiting_32 rfl ?_
            refine j_goto (tgt := 2) hk dX4_firstWaiting_35 rfl ?_
            exact ih2 (k + 1) (by omega) (by omega) (all_s hk2 (by unfold fwP; simp; omega))
          · refine j_ild4 hk dX4_firstWaiting_30 rfl rfl ?_
            refine j_miret hk he rfl dX4_firstWaiting_31 (Nat.le_refl _) (Nat.le_refl _) ?_
            exact ⟨findR_some (by omega) (by unfold fwP; simp; omega) hk2, rfl, rfl⟩
  exact loop2 _ 0 (Nat.lt_succ_self _) (Nat.zero_le _) (fun j h => absurd h (Nat.not_lt_zero _))
set_option maxHeartbeats 1500000 in
/-- ends(I)V -/
theorem mc_ends {l : Launch} {E : jE} {m : Nat} {ad : Nat → Nat} {A : Nat → Nat → Int} {F : Nat → Int} (hls : l.stackTraces = false) (hE : jSt E) {t : Nat} {L : List Op} {w : LkS} (hw : lkIs A F L w) (ht : t ≤ 5) : mC l E yX4_ends cX4_ends 3 (none) 1 12 [.ref m, .int (jI ((t : Nat) : Int))] m ad A F (mQv E m ad (fun A2 F2 => lkIs A2 F2 L (endS w t) ∧ kA [22, 23] A A2 ∧ F = F2)) := by
  refine m_start (own := "ScheduleAnalyzerModel") (vs := [some (.ref m), some (.int (jI ((t : Nat) : Int))), none]) hls (by decide +kernel) rfl rfl rfl (Nat.le_of_ble_eq_true rfl) ?_
  intro K hk he hl0 hF hG0
  refine j_iconst (n := 0) hk dX4_ends_0 ?_
  refine j_ist2 hk dX4_ends_1 rfl ?_
  have loop2 : ∀ (fuel2 : Nat) (A1 : Nat → Nat → Int) (i : Nat), 4 - i < fuel2 → i ≤ 4 → (∀ j, j < 4 → A1 22 j = (((if j < i then jandn (w.rd j) (1 * 2 ^ t) else w.rd j : Nat)) : Int)) → (∀ j, j < 4 → A1 23 j = (((if j < i then jandn (w.wr j) (1 * 2 ^ t) else w.wr j : Nat)) : Int)) → kA [22, 23] A A1 → jW K (mAs E m ad A1 F) 0 0 2 [some (.ref m), some (.int (jI ((t : Nat) : Int))), some (.int (jI ((i : Nat) : Int)))] [] := by
    intro fuel2
    induction fuel2 with
    | zero => intro A1 i hm; exact absurd hm (Nat.not_lt_zero _)
    | succ fuel2 ih2 =>
      intro A1 i hm2 hi hr hv hk1
      refine j_ild4 hk dX4_ends_2 rfl rfl ?_
      refine j_iconst (n := 4) hk dX4_ends_3 ?_
      refine j_icmp_ge hk (by omega) (by omega) dX4_ends_4 rfl (tgt := 41) (fun h4 => ?_) (fun h4 => ?_)
      · refine j_mvret hk he dX4_ends_41 (Nat.le_refl _) (Nat.le_refl _) ?_
        have e : i = 4 := by omega
        subst e
        exact ⟨hw.fin hk1 (fun j hj => (hr j hj).trans (by rw [if_pos hj])) (fun j hj => (hv j hj).trans (by rw [if_pos hj])), hk1, rfl⟩
      · refine j_ald4 hk dX4_ends_7 rfl rfl ?_
        refine j_mgetA hE hk 22 (by decide) rfl q2636 dX4_ends_8 ?_
        refine j_ild4 hk dX4_ends_11 rfl rfl ?_
        refine j_dup2 hk rfl rfl dX4_ends_12 ?_
        refine j_mald hE hk 22 13 rfl (i) (by omega) (by simp only [mLen]; omega) dX4_ends_13 ?_
        refine j_top (z2 := ((w.rd i : Nat) : Int)) (by rw [hr i (by omega), if_neg (by omega)]) ?_
        refine j_iconst (n := 1) hk dX4_ends_14 ?_
        refine j_ild4 hk dX4_ends_15 rfl rfl ?_
        refine j_ishl (a := 1) (b := t) hk (by omega) dX4_ends_16 ?_
        refine j_iconst (n := -1) hk dX4_ends_17 ?_
        refine j_inot hk dX4_ends_18 ?_
        refine j_iandn (a := w.rd i) (b := 1 * 2 ^ t) hk dX4_ends_19 ?_
        refine j_mast hE hk hF 22 13 rfl (i) (by omega) (by simp only [mLen]; omega) dX4_ends_20 ?_
        refine j_ald4 hk dX4_ends_21 rfl rfl ?_
        refine j_mgetA hE hk 23 (by decide) rfl q2637 dX4_ends_22 ?_
        refine j_ild4 hk dX4_ends_25 rfl rfl ?_
        refine j_dup2 hk rfl rfl dX4_ends_26 ?_
        refine j_mald hE hk 23 14 rfl (i) (by omega) (by simp only [mLen]; omega) dX4_ends_27 ?_
        refine j_top (z2 := ((w.wr i : Nat) : Int)) ((hv i (by omega)).trans (by rw [if_neg (by omega)])) ?_
        refine j_iconst (n := 1) hk dX4_ends_28 ?_
        refine j_ild4 hk dX4_ends_29 rfl rfl ?_
        refine j_ishl (a := 1) (b := t) hk (by omega) dX4_ends_30 ?_
        refine j_iconst (n := -1) hk dX4_ends_31 ?_
        refine j_inot hk dX4_ends_32 ?_
        refine j_iandn (a := w.wr i) (b := 1 * 2 ^ t) hk dX4_ends_33 ?_
        refine j_mast hE hk hF 23 14 rfl (i) (by omega) (by simp only [mLen]; omega) dX4_ends_34 ?_
        refine j_iinc2 hk dX4_ends_35 rfl ?_
        refine j_goto (tgt := 2) hk dX4_ends_38 rfl ?_
        exact ih2 (mup (mup A1 22 i ((jandn (w.rd i) (1 * 2 ^ t) : Nat) : Int)) 23 i ((jandn (w.wr i) (1 * 2 ^ t) : Nat) : Int)) (i + 1) (by omega) (by omega) (endLoop (f := w.rd) (g := fun j => jandn (w.rd j) (1 * 2 ^ t)) hr) (endLoop (f := w.wr) (g := fun j => jandn (w.wr j) (1 * 2 ^ t)) hv) ((hk1.up (by decide)).up (by decide))
  exact loop2 _ A 0 (Nat.lt_succ_self _) (Nat.zero_le _) (fun j hj => (hw.2.2.1 j hj).1) (fun j hj => (hw.2.2.2.1 j hj).1) (kA.rf)
set_option maxHeartbeats 1500000 in
/-- puts(I)V -/
theorem mc_puts {l : Launch} {E : jE} {m : Nat} {ad : Nat → Nat} {A : Nat → Nat → Int} {F : Nat → Int} (hls : l.stackTraces = false) (hE : jSt E) {o : Op} {L : List Op} {w : LkS} (hw : lkIs A F L w) (ho : opOK o) (hol : w.out.length < 32) : mC l E yX4_puts cX4_puts 2 (none) 1 12 [.ref m, .int (jI ((opV o : Nat) : Int))] m ad A F (mQv E m ad (fun A2 F2 => lkIs A2 F2 L (putO w o) ∧ kA [24] A A2 ∧ kF [26] F F2)) := by
  refine m_start (own := "ScheduleAnalyzerModel") (vs := [some (.ref m), some (.int (jI ((opV o : Nat) : Int)))]) hls (by decide +kernel) rfl rfl rfl (Nat.le_of_ble_eq_true rfl) ?_
  intro K hk he hl0 hF hG0
  refine j_ald4 hk dX4_puts_0 rfl rfl ?_
  refine j_mgetA hE hk 24 (by decide) rfl q2638 dX4_puts_1 ?_
  refine j_ald4 hk dX4_puts_4 rfl rfl ?_
  refine j_mget hE hk 26 (by decide) rfl q2640 dX4_puts_5 ?_
  refine j_top (z2 := ((w.out.length : Nat) : Int)) (hw.2.2.2.2.1.1) ?_
  refine j_ild4 hk dX4_puts_8 rfl rfl ?_
  refine j_mast hE hk hF 24 15 rfl (w.out.length) (by omega) (by simp only [mLen]; omega) dX4_puts_9 ?_
  refine j_ald4 hk dX4_puts_10 rfl rfl ?_
  refine j_dup hk rfl dX4_puts_11 ?_
  refine j_mget hE hk 26 (by decide) rfl q2640 dX4_puts_12 ?_
  refine j_top (z2 := ((w.out.length : Nat) : Int)) (hw.2.2.2.2.1.1) ?_
  refine j_iconst (n := 1) hk dX4_puts_15 ?_
  refine j_iadd hk dX4_puts_16 ?_
  refine j_top (z2 := ((w.out.length + 1 : Nat) : Int)) (rfl) ?_
  refine j_mput hE hk hF 26 (by decide) rfl q2640 rfl rfl rfl rfl dX4_puts_17 ?_
  refine j_mvret hk he dX4_puts_20 (Nat.le_refl _) (Nat.le_refl _) ?_
  exact ⟨hw.put ho hol, kA.rf.up (by decide), kF.rf.up (by decide)⟩
set_option maxHeartbeats 1500000 in
/-- executes(I)V -/
theorem mc_executes {l : Launch} {E : jE} {m : Nat} {ad : Nat → Nat} {A : Nat → Nat → Int} {F : Nat → Int} (hls : l.stackTraces = false) (hE : jSt E) {k : Nat} {L : List Op} {w : LkS} (hw : lkIs A F L w) (hkl : k < L.length) (hol : w.out.length < 32) : mC l E yX4_executes cX4_executes 2 (none) 2 34 [.ref m, .int (jI ((k : Nat) : Int))] m ad A F (mQv E m ad (fun A2 F2 => lkIs A2 F2 L (execS L w k) ∧ kA [21, 22, 23, 24] A A2 ∧ kF [26] F F2)) := by
  refine m_start (own := "ScheduleAnalyzerModel") (vs := [some (.ref m), some (.int (jI ((k : Nat) : Int)))]) hls (by decide +kernel) rfl rfl rfl (Nat.le_of_ble_eq_true rfl) ?_
  intro K hk he hl0 hF hG0
  have hL := hw.1
  have hlen := hL.len
  have kr := hL.2.2 (k) (hkl)
  obtain ⟨k1, k2, k3⟩ := kr
  obtain ⟨k4, k5, k6, k7, k8⟩ := hL.ok (i := k) (hkl)
  refine j_ald4 hk dX4_executes_0 rfl rfl ?_
  refine j_mgetA hE hk 21 (by decide) rfl q2635 dX4_executes_1 ?_
  refine j_ild4 hk dX4_executes_4 rfl rfl ?_
  refine j_iconst (n := 3) hk dX4_executes_5 ?_
  refine j_mast hE hk hF 21 12 rfl (k) (by omega) (by simp only [mLen]; omega) dX4_executes_6 ?_
  have hw1 : lkIs (mup A 21 k 3) F L (setSt w (nup w.st k 3)) := hw.stat (k := k) (v := 3) (by decide)
  refine j_ald4 hk dX4_executes_7 rfl rfl ?_
  refine j_ald4 hk dX4_executes_8 rfl rfl ?_
  refine j_mgetA hE hk 13 (by decide) rfl q2627 dX4_executes_9 ?_
  refine j_ild4 hk dX4_executes_12 rfl rfl ?_
  refine j_mald hE hk 13 6 rfl (k) (by omega) (by simp only [mLen]; omega) dX4_executes_13 ?_
  refine j_top (z2 := ((oK (opAt L k) : Nat) : Int)) (k1) ?_
  refine j_ald4 hk dX4_executes_14 rfl rfl ?_
  refine j_mgetA hE hk 14 (by decide) rfl q2628 dX4_executes_15 ?_
  refine j_ild4 hk dX4_executes_18 rfl rfl ?_
  refine j_mald hE hk 14 7 rfl (k) (by omega) (by simp only [mLen]; omega) dX4_executes_19 ?_
  refine j_top (z2 := ((oT (opAt L k) : Nat) : Int)) (k2) ?_
  refine j_ald4 hk dX4_executes_20 rfl rfl ?_
  refine j_mgetA hE hk 15 (by decide) rfl q2629 dX4_executes_21 ?_
  refine j_ild4 hk dX4_executes_24 rfl rfl ?_
  refine j_mald hE hk 15 8 rfl (k) (by omega) (by simp only [mLen]; omega) dX4_executes_25 ?_
  refine j_top (z2 := ((oI (opAt L k) : Nat) : Int)) (k3) ?_
  refine j_sSi hk hl0 (sc_coded hls (k := oK (opAt L k)) (t := oT (opAt L k)) (i := oI (opAt L k)) ) 3 (lw_S q2780 q2781 q145 q2782) (by decide +kernel) rfl (by decide) (by decide) rfl (Nat.le_of_ble_eq_true rfl) dX4_executes_26 ?_
  refine j_top (z2 := ((opV (opAt L k) : Nat) : Int)) (rfl) ?_
  refine j_mVv hE hk hl0 hF (mc_puts hls hE (A := (mup A 21 k 3)) (F := F) (o := (opAt L k)) (L := L) (w := (setSt w (nup w.st k 3))) (hw1) (hL.ok hkl) (hol)) 1 (lw_V q2944 q2946 qs86 q145 q2947) (by decide +kernel) rfl (by decide) (by decide) rfl (Nat.le_of_ble_eq_true rfl) dX4_executes_29 ?_
  intro Az1 Fz2 hc29
  obtain ⟨hw_29, ka_29, kf_29⟩ := hc29
  obtain ⟨n1, n2, n3⟩ := hw_29.1.2.2 k hkl
  have hi4 : oI (opAt L k) < 4 := by omega
  obtain ⟨r1, r2⟩ := hw_29.2.2.1 _ hi4
  obtain ⟨v1, v2⟩ := hw_29.2.2.2.1 _ hi4
  have hp64 := jpow_lt (t := oT (opAt L k)) (by omega)
  refine j_ald4 hk dX4_executes_32 rfl rfl ?_
  refine j_mgetA hE hk 13 (by decide) rfl q2627 dX4_executes_33 ?_
  refine j_ild4 hk dX4_executes_36 rfl rfl ?_
  refine j_mald hE hk 13 6 rfl (k) (by omega) (by simp only [mLen]; omega) dX4_executes_37 ?_
  refine j_top (z2 := ((oK (opAt L k) : Nat) : Int)) (n1) ?_
  refine j_if_ne hk (by omega) dX4_executes_38 rfl (tgt := 63) (fun h38 => ?_) (fun h38 => ?_)
  · refine j_ald4 hk dX4_executes_63 rfl rfl ?_
    refine j_mgetA hE hk 13 (by decide) rfl q2627 dX4_executes_64 ?_
    refine j_ild4 hk dX4_executes_67 rfl rfl ?_
    refine j_mald hE hk 13 6 rfl (k) (by omega) (by simp only [mLen]; omega) dX4_executes_68 ?_
    refine j_top (z2 := ((oK (opAt L k) : Nat) : Int)) (n1) ?_
    refine j_iconst (n := 1) hk dX4_executes_69 ?_
    refine j_icmp_ne hk (by omega) (by omega) dX4_executes_70 rfl (tgt := 95) (fun h70 => ?_) (fun h70 => ?_)
    · refine j_ald4 hk dX4_executes_95 rfl rfl ?_
      refine j_ild4 hk dX4_executes_96 rfl rfl ?_
      refine j_mVi hE hk hl0 hF (mc_isAccess hls hE (A := Az1) (F := Fz2) (k := k) (L := L) (hw_29.1) (hkl)) 1 (lw_V q2905 q2907 qs78 q145 q2908) (by decide +kernel) rfl (by decide) (by decide) rfl (Nat.le_of_ble_eq_true rfl) dX4_executes_97 ?_
      rintro _ _ _ ⟨rfl, rfl, rfl⟩
      refine j_ifneB hk dX4_executes_100 rfl (tgt := 113) (fun h100 => by exfalso; simp at h100; omega) (fun h100 => ?_)
      refine j_ald4 hk dX4_executes_103 rfl rfl ?_
      refine j_ald4 hk dX4_executes_104 rfl rfl ?_
      refine j_mgetA hE hk 14 (by decide) rfl q2628 dX4_executes_105 ?_
      refine j_ild4 hk dX4_executes_108 rfl rfl ?_
      refine j_mald hE hk 14 7 rfl (k) (by omega) (by simp only [mLen]; omega) dX4_executes_109 ?_
      refine j_top (z2 := ((oT (opAt L k) : Nat) : Int)) (n2) ?_
      refine j_mVv hE hk hl0 hF (mc_ends hls hE (A := Az1) (F := Fz2) (t := oT (opAt L k)) (L := L) (w := (putO (setSt w (nup w.st k 3)) (opAt L k))) (hw_29) (by omega)) 1 (lw_V q2948 q2950 qs87 q145 q2951) (by decide +kernel) rfl (by decide) (by decide) rfl (Nat.le_of_ble_eq_true rfl) dX4_executes_110 ?_
      intro Az3 Fz4 hc110
      obtain ⟨hw_110, ka_110, rfl⟩ := hc110
      refine j_mvret hk he dX4_executes_113 (Nat.le_refl _) (Nat.le_refl _) ?_
      exact ⟨by rw [execS, if_neg (by omega), if_neg (by omega)]; exact hw_110, ((kA.rf.up (by decide)).tr ka_29 (by decide)).tr ka_110 (by decide), kf_29⟩
    · refine j_ald4 hk dX4_executes_73 rfl rfl ?_
      refine j_mgetA hE hk 23 (by decide) rfl q2637 dX4_executes_74 ?_
      refine j_ald4 hk dX4_executes_77 rfl rfl ?_
      refine j_mgetA hE hk 15 (by decide) rfl q2629 dX4_executes_78 ?_
      refine j_ild4 hk dX4_executes_81 rfl rfl ?_
      refine j_mald hE hk 15 8 rfl (k) (by omega) (by simp only [mLen]; omega) dX4_executes_82 ?_
      refine j_top (z2 := ((oI (opAt L k) : Nat) : Int)) (n3) ?_
      refine j_dup2 hk rfl rfl dX4_executes_83 ?_
      refine j_mald hE hk 23 14 rfl (oI (opAt L k)) (by omega) (by simp only [mLen]; omega) dX4_executes_84 ?_
      refine j_top (z2 := ((w.wr (oI (opAt L k)) : Nat) : Int)) (v1) ?_
      refine j_iconst (n := 1) hk dX4_executes_85 ?_
      refine j_ald4 hk dX4_executes_86 rfl rfl ?_
      refine j_mgetA hE hk 14 (by decide) rfl q2628 dX4_executes_87 ?_
      refine j_ild4 hk dX4_executes_90 rfl rfl ?_
      refine j_mald hE hk 14 7 rfl (k) (by omega) (by simp only [mLen]; omega) dX4_executes_91 ?_
      refine j_top (z2 := ((oT (opAt L k) : Nat) : Int)) (n2) ?_
      refine j_ishl (a := 1) (b := oT (opAt L k)) hk (by omega) dX4_executes_92 ?_
      refine j_ior (a := w.wr (oI (opAt L k))) (b := 1 * 2 ^ (oT (opAt L k))) hk dX4_executes_93 ?_
      refine j_mast hE hk hF 23 14 rfl (oI (opAt L k)) (by omega) (by simp only [mLen]; omega) dX4_executes_94 ?_
      have hw4 := hw_29.wrr (i := oI (opAt L k)) (jor_lt v2 hp64)
      refine j_ald4 hk dX4_executes_95 rfl rfl ?_
      refine j_ild4 hk dX4_executes_96 rfl rfl ?_
      refine j_mVi hE hk hl0 hF (mc_isAccess hls hE (A := (mup Az1 23 (oI (opAt L k)) (((w.wr (oI (opAt L k))) ||| (1 * 2 ^ (oT (opAt L k))) : Nat) : Int))) (F := Fz2) (k := k) (L := L) (hw4.1) (hkl)) 1 (lw_V q2905 q2907 qs78 q145 q2908) (by decide +kernel) rfl (by decide) (by decide) rfl (Nat.le_of_ble_eq_true rfl) dX4_executes_97 ?_
      rintro _ _ _ ⟨rfl, rfl, rfl⟩
      refine j_ifneB hk dX4_executes_100 rfl (tgt := 113) (fun h100 => ?_) (fun h100 => by exfalso; simp at h100; omega)
      refine j_mvret hk he dX4_executes_113 (Nat.le_refl _) (Nat.le_refl _) ?_
      exact ⟨by rw [execS, if_neg (by omega), if_pos (by omega)]; exact hw4, ((kA.rf.up (by decide)).tr ka_29 (by decide)).up (by decide), kf_29⟩
  · refine j_ald4 hk dX4_executes_41 rfl rfl ?_
    refine j_mgetA hE hk 22 (by decide) rfl q2636 dX4_executes_42 ?_
    refine j_ald4 hk dX4_executes_45 rfl rfl ?_
    refine j_mgetA hE hk 15 (by decide) rfl q2629 dX4_executes_46 ?_
    refine j_ild4 hk dX4_executes_49 rfl rfl ?_
    refine j_mald hE hk 15 8 rfl (k) (by omega) (by simp only [mLen]; omega) dX4_executes_50 ?_
    refine j_top (z2 := ((oI (opAt L k) : Nat) : Int)) (n3) ?_
    refine j_dup2 hk rfl rfl dX4_executes_51 ?_
    refine j_mald hE hk 22 13 rfl (oI (opAt L k)) (by omega) (by simp only [mLen]; omega) dX4_executes_52 ?_
    refine j_top (z2 := ((w.rd (oI (opAt L k)) : Nat) : Int)) (r1) ?_
    refine j_iconst (n := 1) hk dX4_executes_53 ?_
    refine j_ald4 hk dX4_executes_54 rfl rfl ?_
    refine j_mgetA hE hk 14 (by decide) rfl q2628 dX4_executes_55 ?_
    refine j_ild4 hk dX4_executes_58 rfl rfl ?_
    refine j_mald hE hk 14 7 rfl (k) (by omega) (by simp only [mLen]; omega) dX4_executes_59 ?_
    refine j_top (z2 := ((oT (opAt L k) : Nat) : Int)) (n2) ?_
    refine j_ishl (a := 1) (b := oT (opAt L k)) hk (by omega) dX4_executes_60 ?_
    refine j_ior (a := w.rd (oI (opAt L k))) (b := 1 * 2 ^ (oT (opAt L k))) hk dX4_executes_61 ?_
    refine j_mast hE hk hF 22 13 rfl (oI (opAt L k)) (by omega) (by simp only [mLen]; omega) dX4_executes_62 ?_
    have hw3 := hw_29.rdr (i := oI (opAt L k)) (jor_lt r2 hp64)
    refine j_ald4 hk dX4_executes_63 rfl rfl ?_
    refine j_mgetA hE hk 13 (by decide) rfl q2627 dX4_executes_64 ?_
    refine j_ild4 hk dX4_executes_67 rfl rfl ?_
    refine j_mald hE hk 13 6 rfl (k) (by omega) (by simp only [mLen]; omega) dX4_executes_68 ?_
    refine j_top (z2 := ((oK (opAt L k) : Nat) : Int)) (n1) ?_
    refine j_iconst (n := 1) hk dX4_executes_69 ?_
    refine j_icmp_ne hk (by omega) (by omega) dX4_executes_70 rfl (tgt := 95) (fun h70 => ?_) (fun h70 => by exfalso; omega)
    refine j_ald4 hk dX4_executes_95 rfl rfl ?_
    refine j_ild4 hk dX4_executes_96 rfl rfl ?_
    refine j_mVi hE hk hl0 hF (mc_isAccess hls hE (A := (mup Az1 22 (oI (opAt L k)) (((w.rd (oI (opAt L k))) ||| (1 * 2 ^ (oT (opAt L k))) : Nat) : Int))) (F := Fz2) (k := k) (L := L) (hw3.1) (hkl)) 1 (lw_V q2905 q2907 qs78 q145 q2908) (by decide +kernel) rfl (by decide) (by decide) rfl (Nat.le_of_ble_eq_true rfl) dX4_executes_97 ?_
    rintro _ _ _ ⟨rfl, rfl, rfl⟩
    refine j_ifneB hk dX4_executes_100 rfl (tgt := 113) (fun h100 => ?_) (fun h100 => by exfalso; simp at h100; omega)
    refine j_mvret hk he dX4_executes_113 (Nat.le_refl _) (Nat.le_refl _) ?_
    exact ⟨by rw [execS, if_pos (by omega)]; exact hw3, ((kA.rf.up (by decide)).tr ka_29 (by decide)).up (by decide), kf_29⟩
set_option maxHeartbeats 1500000 in
/-- nextPossible()I -/
theorem mc_nextPossible {l : Launch} {E : jE} {m : Nat} {ad : Nat → Nat} {A : Nat → Nat → Int} {F : Nat → Int} (hls : l.stackTraces = false) (hE : jSt E) {L : List Op} {w : LkS} (hw : lkIs A F L w) : mC l E yX4_nextPossible cX4_nextPossible 2 (some .int) 3 55 [.ref m] m ad A F (mQi E m ad (fun r A2 F2 => nextS L w = r ∧ A = A2 ∧ F = F2)) := by
  refine m_start (own := "ScheduleAnalyzerModel") (vs := [some (.ref m), none]) hls (by decide +kernel) rfl rfl rfl (Nat.le_of_ble_eq_true rfl) ?_
  intro K hk he hl0 hF hG0
  have hL := hw.1
  have hlen := hL.len
  refine j_iconst (n := 1) hk dX4_nextPossible_0 ?_
  refine j_ist1 hk dX4_nextPossible_1 rfl ?_
  have loop2 : ∀ (fuel2 : Nat) (t : Nat), 6 - t < fuel2 → 1 ≤ t ∧ t ≤ 6 → (∀ u, u < t → okT L w u = false) → jW K (mAs E m ad A F) 0 0 2 [some (.ref m), some (.int (jI ((t : Nat) : Int)))] [] := by
    intro fuel2
    induction fuel2 with
    | zero => intro t hm; exact absurd hm (Nat.not_lt_zero _)
    | succ fuel2 ih2 =>
      intro t hm2 ht hn
      refine j_ild4 hk dX4_nextPossible_2 rfl rfl ?_
      refine j_iconst (n := 5) hk dX4_nextPossible_3 ?_
      refine j_icmp_gt hk (by omega) (by omega) dX4_nextPossible_4 rfl (tgt := 39) (fun h4 => ?_) (fun h4 => ?_)
      · refine j_iconst (n := -1) hk dX4_nextPossible_39 ?_
        refine j_miret hk he rfl dX4_nextPossible_40 (Nat.le_refl _) (Nat.le_refl _) ?_
        exact ⟨nextS_none (fun u h => hn u (by omega)), rfl, rfl⟩
      · have hfr := fwS_r L w t
        refine j_ald4 hk dX4_nextPossible_7 rfl rfl ?_
        refine j_ild4 hk dX4_nextPossible_8 rfl rfl ?_
        refine j_mVi hE hk hl0 hF (mc_firstWaiting hls hE (A := A) (F := F) (t := t) (L := L) (w := w) (hw) (by omega)) 1 (lw_V q2932 q2934 qs83 q145 q2935) (by decide +kernel) rfl (by decide) (by decide) rfl (Nat.le_of_ble_eq_true rfl) dX4_nextPossible_9 ?_
        rintro _ _ _ ⟨rfl, rfl, rfl⟩
        refine j_if_lt hk (by omega) dX4_nextPossible_12 rfl (tgt := 33) (fun h12 => ?_) (fun h12 => ?_)
        · refine j_iinc1 hk dX4_nextPossible_33 rfl ?_
          refine j_goto (tgt := 2) hk dX4_nextPossible_36 rfl ?_
          exact ih2 (t + 1) (by omega) (by omega) (all_s hn (by unfold okT; simp; intro _ _; omega))
        · obtain ⟨f1, f2, f3, f4⟩ := fwS_at (L := L) (w := w) (t := t) (by omega)
          have hp64 := hw.prev f2
          refine j_ald4 hk dX4_nextPossible_15 rfl rfl ?_
          refine j_ald4 hk dX4_nextPossible_16 rfl rfl ?_
          refine j_ild4 hk dX4_nextPossible_17 rfl rfl ?_
          refine j_mVi hE hk hl0 hF (mc_firstWaiting hls hE (A := A) (F := F) (t := t) (L := L) (w := w) (hw) (by omega)) 1 (lw_V q2932 q2934 qs83 q145 q2935) (by decide +kernel) rfl (by decide) (by decide) rfl (Nat.le_of_ble_eq_true rfl) dX4_nextPossible_18 ?_
          rintro _ _ _ ⟨rfl, rfl, rfl⟩
          refine j_top (z2 := (((fwS L w t).toNat : Nat) : Int)) (f1) ?_
          refine j_mVi hE hk hl0 hF (mc_preventers hls hE (A := A) (F := F) (k := (fwS L w t).toNat) (L := L) (w := w) (hw) (f2)) 1 (lw_V q2936 q2938 qs84 q145 q2939) (by decide +kernel) rfl (by decide) (by decide) rfl (Nat.le_of_ble_eq_true rfl) dX4_nextPossible_21 ?_
          rintro _ _ _ ⟨rfl, rfl, rfl⟩
          refine j_if_ne hk (by omega) dX4_nextPossible_24 rfl (tgt := 33) (fun h24 => ?_) (fun h24 => ?_)
          · refine j_iinc1 hk dX4_nextPossible_33 rfl ?_
            refine j_goto (tgt := 2) hk dX4_nextPossible_36 rfl ?_
            exact ih2 (t + 1) (by omega) (by omega) (all_s hn (by unfold okT; simp; intro _ _; omega))
          · refine j_ald4 hk dX4_nextPossible_27 rfl rfl ?_
            refine j_ild4 hk dX4_nextPossible_28 rfl rfl ?_
            refine j_mVi hE hk hl0 hF (mc_firstWaiting hls hE (A := A) (F := F) (t := t) (L := L) (w := w) (hw) (by omega)) 1 (lw_V q2932 q2934 qs83 q145 q2935) (by decide +kernel) rfl (by decide) (by decide) rfl (Nat.le_of_ble_eq_true rfl) dX4_nextPossible_29 ?_
            rintro _ _ _ ⟨rfl, rfl, rfl⟩
            refine j_miret hk he rfl dX4_nextPossible_32 (Nat.le_refl _) (Nat.le_refl _) ?_
            exact ⟨nextS_some (by omega) (by omega) (by omega) hn, rfl, rfl⟩
  exact loop2 _ 1 (Nat.lt_succ_self _) (by omega) (fun u h => okT_0 h)
set_option maxHeartbeats 1500000 in
/-- tries()V -/
theorem mc_tries {l : Launch} {E : jE} {m : Nat} {ad : Nat → Nat} {A : Nat → Nat → Int} {F : Nat → Int} (hls : l.stackTraces = false) (hE : jSt E) {L : List Op} {w : LkS} {c : Nat} (hw : lkIs A F L w) (hg : lkG L c w) : mC l E yX4_tries cX4_tries 2 (none) 4 76 [.ref m] m ad A F (mQv E m ad (fun A2 F2 => lkIs A2 F2 L (triesS L w) ∧ lkG L c (triesS L w) ∧ kA [21, 22, 23, 24] A A2 ∧ kF [26] F F2)) := by
  refine m_start (own := "ScheduleAnalyzerModel") (vs := [some (.ref m), none]) hls (by decide +kernel) rfl rfl rfl (Nat.le_of_ble_eq_true rfl) ?_
  intro K hk he hl0 hF hG0
  have hL := hw.1
  have hlen := hL.len
  refine j_ald4 hk dX4_tries_0 rfl rfl ?_
  refine j_mVi hE hk hl0 hF (mc_nextPossible hls hE (A := A) (F := F) (L := L) (w := w) (hw)) 0 (lw_V q2956 q2958 qs89 q145 q2959) (by decide +kernel) rfl (by decide) (by decide) rfl (Nat.le_of_ble_eq_true rfl) dX4_tries_1 ?_
  rintro _ _ _ ⟨rfl, rfl, rfl⟩
  refine j_ist1 hk dX4_tries_4 rfl ?_
  have loop5 : ∀ (fuel5 : Nat) (A1 : Nat → Nat → Int) (F1 : Nat → Int) (w1 : LkS) (f : Nat), f < fuel5 → lkIs A1 F1 L w1 → lkG L c w1 → triesF f L w1 = triesS L w → nWt L w1 < f → kA [21, 22, 23, 24] A A1 → kF [26] F F1 → jW K (mAs E m ad A1 F1) 0 0 5 [some (.ref m), some (.int (jI (nextS L w1)))] [] := by
    intro fuel5
    induction fuel5 with
    | zero => intro A1 F1 w1 f hm; exact absurd hm (Nat.not_lt_zero _)
    | succ fuel5 ih5 =>
      intro A1 F1 w1 f hm5 hw1 hg1 hq hf hk1 hk2
      refine j_ild4 hk dX4_tries_5 rfl rfl ?_
      have hnr := nextS_r L w1
      refine j_if_lt hk (by omega) dX4_tries_6 rfl (tgt := 22) (fun h6 => ?_) (fun h6 => ?_)
      · refine j_mvret hk he dX4_tries_22 (Nat.le_refl _) (Nat.le_refl _) ?_
        rw [triesF_end (by omega)] at hq
        rw [← hq]
        exact ⟨hw1, hg1, hk1, hk2⟩
      · obtain ⟨n, n1, n2, n3⟩ := nextS_at (L := L) (w := w1) (by omega)
        obtain ⟨f2, rfl⟩ : ∃ f2, f = f2 + 1 := ⟨f - 1, by omega⟩
        refine j_loc (i := 1) (z2 := ((n : Nat) : Int)) rfl (n1) ?_
        refine j_ald4 hk dX4_tries_9 rfl rfl ?_
        refine j_ild4 hk dX4_tries_10 rfl rfl ?_
        refine j_mVv hE hk hl0 hF (mc_executes hls hE (A := A1) (F := F1) (k := n) (L := L) (w := w1) (hw1) (n2) (by have := hg1.lt n2 (by omega); omega)) 1 (lw_V q2940 q2942 qs85 q145 q2943) (by decide +kernel) rfl (by decide) (by decide) rfl (Nat.le_of_ble_eq_true rfl) dX4_tries_11 ?_
        intro Az1 Fz2 hc11
        obtain ⟨hw_11, ka_11, kf_11⟩ := hc11
        refine j_ald4 hk dX4_tries_14 rfl rfl ?_
        refine j_mVi hE hk hl0 hF (mc_nextPossible hls hE (A := Az1) (F := Fz2) (L := L) (w := (execS L w1 n)) (hw_11)) 0 (lw_V q2956 q2958 qs89 q145 q2959) (by decide +kernel) rfl (by decide) (by decide) rfl (Nat.le_of_ble_eq_true rfl) dX4_tries_15 ?_
        rintro _ _ _ ⟨rfl, rfl, rfl⟩
        refine j_ist1 hk dX4_tries_18 rfl ?_
        refine j_goto (tgt := 5) hk dX4_tries_19 rfl ?_
        exact ih5 Az1 Fz2 (execS L w1 n) f2 (by omega) (hw_11) (execS_G hg1 n2 (hg1.wait n3) (by omega)) (by rw [← hq, triesF_go n1]) (by have := execS_nW (L := L) n2 n3; omega) (hk1.tr ka_11 (by decide)) (hk2.tr kf_11 (by decide))
  exact loop5 _ A F w (nWt L w + 1) (Nat.lt_succ_self _) (hw) (hg) (rfl) (by omega) (kA.rf) (kF.rf)
