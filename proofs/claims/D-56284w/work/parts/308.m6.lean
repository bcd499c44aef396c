set_option maxHeartbeats 1500000 in
/-- append(C)I -/
theorem mc_append {l : Launch} {E : jE} {m : Nat} {ad : Nat → Nat} {A : Nat → Nat → Int} {F : Nat → Int} (hls : l.stackTraces = false) (hE : jSt E) {c : Int} {g : SS} (hR : mR A F g) (hr : 0 ≤ c ∧ c < 65536) : mC l E yX4_append cX4_append 2 (some .int) 2 34 [.ref m, .int (jI c)] m ad A F (mQi E m ad (fun r A2 F2 => mP (sp_append g c) r A2 F2)) := by
  refine m_start (own := "ScheduleAnalyzerModel") (vs := [some (.ref m), some (.int (jI c))]) hls (by decide +kernel) rfl rfl rfl (Nat.le_of_ble_eq_true rfl) ?_
  intro K hk he hl0 hF hG0
  have hi := hR.2.2.2.1
  have hl := hi.2.1
  refine j_ald4 hk dX4_append_0 rfl rfl ?_
  refine j_ild4 hk dX4_append_1 rfl rfl ?_
  refine j_bipush (n := 32) hk rfl dX4_append_2 ?_
  refine j_bipush (n := 126) hk rfl dX4_append_4 ?_
  refine j_sSi hk hl0 (sc_in hls (v := c) (a := 32) (b := 126) (by omega)) 3 (lw_S q2734 q2735 q145 q2736) (by decide +kernel) rfl (by decide) (by decide) rfl (Nat.le_of_ble_eq_true rfl) dX4_append_6 ?_
  refine j_ifneB hk dX4_append_9 rfl (tgt := 16) (fun h9 => ?_) (fun h9 => ?_)
  · refine j_ald4 hk dX4_append_16 rfl rfl ?_
    refine j_mget hE hk 9 (by decide) rfl q2623 dX4_append_17 ?_
    refine j_top (z2 := ((g.2.2.2.1.length : Nat) : Int)) (hi.1) ?_
    refine j_bipush (n := 60) hk rfl dX4_append_20 ?_
    refine j_icmp_ne hk (by omega) (by omega) dX4_append_22 rfl (tgt := 29) (fun h22 => ?_) (fun h22 => ?_)
    · refine j_iconst (n := 0) hk dX4_append_29 ?_
      refine j_mput hE hk hF 4 (by decide) rfl q2618 rfl rfl rfl rfl dX4_append_30 ?_
      refine j_ald4 hk dX4_append_33 rfl rfl ?_
      refine j_mget hE hk 4 (by decide) rfl q2618 dX4_append_34 ?_
      refine j_top (z2 := 0) (iup_s _ _ _) ?_
      refine j_if_le hk (by omega) dX4_append_37 rfl (tgt := 42) (fun _ => ?_) (fun h => absurd h (by omega))
      have q1 := of_decide_eq_true h9
      obtain ⟨d, rfl⟩ : ∃ d : Nat, c = ((d : Nat) : Int) := ⟨c.toNat, by omega⟩
      refine j_ald4 hk dX4_append_42 rfl rfl ?_
      refine j_mgetA hE hk 8 (by decide) rfl q2622 dX4_append_43 ?_
      refine j_ald4 hk dX4_append_46 rfl rfl ?_
      refine j_mget hE hk 9 (by decide) rfl q2623 dX4_append_47 ?_
      refine j_top (z2 := ((g.2.2.2.1.length : Nat) : Int)) (by rw [iup_n (by decide)]; exact hi.1) ?_
      refine j_ild4 hk dX4_append_50 rfl rfl ?_
      refine j_mast hE hk hF 8 4 rfl (g.2.2.2.1.length) (by omega) (by simp only [mLen]; omega) dX4_append_51 ?_
      refine j_ald4 hk dX4_append_52 rfl rfl ?_
      refine j_dup hk rfl dX4_append_53 ?_
      refine j_mget hE hk 9 (by decide) rfl q2623 dX4_append_54 ?_
      refine j_top (z2 := ((g.2.2.2.1.length : Nat) : Int)) (by rw [iup_n (by decide)]; exact hi.1) ?_
      refine j_iconst (n := 1) hk dX4_append_57 ?_
      refine j_iadd hk dX4_append_58 ?_
      refine j_mput hE hk hF 9 (by decide) rfl q2623 rfl rfl rfl rfl dX4_append_59 ?_
      refine j_ald4 hk dX4_append_62 rfl rfl ?_
      refine j_mget hE hk 9 (by decide) rfl q2623 dX4_append_63 ?_
      refine j_top (z2 := ((g.2.2.2.1.length + 1 : Nat) : Int)) (iup_s _ _ _) ?_
      refine j_miret hk he rfl dX4_append_66 (Nat.le_refl _) (Nat.le_refl _) ?_
      have e : sp_append g (d : Int) = (0, ((g.2.2.2.1.length + 1 : Nat) : Int), gIn g (g.2.2.2.1 ++ [d])) := by simp [sp_append, (show g.2.2.2.1.length ≠ 60 by omega)]; omega
      rw [mP, e]
      exact ⟨rfl, by rw [iup_n (by decide), iup_s]; rfl, hR.inp kA.up1 ((kF.rf.up (by decide)).up (by decide)) (by rw [iup_s, List.length_append]; rfl) (by rw [mup_s]; exact hi.2.push (by omega) (by omega))⟩
    · refine j_iconst (n := 2) hk dX4_append_25 ?_
      refine j_goto (tgt := 30) hk dX4_append_26 rfl ?_
      refine j_mput hE hk hF 4 (by decide) rfl q2618 rfl rfl rfl rfl dX4_append_30 ?_
      refine j_ald4 hk dX4_append_33 rfl rfl ?_
      refine j_mget hE hk 4 (by decide) rfl q2618 dX4_append_34 ?_
      refine j_top (z2 := 2) (iup_s _ _ _) ?_
      refine j_if_le hk (by omega) dX4_append_37 rfl (tgt := 42) (fun h => absurd h (by omega)) (fun _ => ?_)
      refine j_iconst (n := 0) hk dX4_append_40 ?_
      refine j_miret hk he rfl dX4_append_41 (Nat.le_refl _) (Nat.le_refl _) ?_
      have e : sp_append g c = (2, 0, g) := by simp [sp_append, h9, (show g.2.2.2.1.length = 60 by omega)]
      rw [mP, e]
      exact ⟨rfl, iup_s _ _ _, hR.up4⟩
  · refine j_iconst (n := 1) hk dX4_append_12 ?_
    refine j_goto (tgt := 30) hk dX4_append_13 rfl ?_
    refine j_mput hE hk hF 4 (by decide) rfl q2618 rfl rfl rfl rfl dX4_append_30 ?_
    refine j_ald4 hk dX4_append_33 rfl rfl ?_
    refine j_mget hE hk 4 (by decide) rfl q2618 dX4_append_34 ?_
    refine j_top (z2 := 1) (iup_s _ _ _) ?_
    refine j_if_le hk (by omega) dX4_append_37 rfl (tgt := 42) (fun h => absurd h (by omega)) (fun _ => ?_)
    refine j_iconst (n := 0) hk dX4_append_40 ?_
    refine j_miret hk he rfl dX4_append_41 (Nat.le_refl _) (Nat.le_refl _) ?_
    have e : sp_append g c = (1, 0, g) := by simp [sp_append, h9]
    rw [mP, e]
    exact ⟨rfl, iup_s _ _ _, hR.up4⟩
set_option maxHeartbeats 1500000 in
/-- clearBuffer()I -/
theorem mc_clearBuffer {l : Launch} {E : jE} {m : Nat} {ad : Nat → Nat} {A : Nat → Nat → Int} {F : Nat → Int} (hls : l.stackTraces = false) (hE : jSt E) {g : SS} (hR : mR A F g) : mC l E yX4_clearBuffer cX4_clearBuffer 2 (some .int) 1 12 [.ref m] m ad A F (mQi E m ad (fun r A2 F2 => mP (sp_clearBuffer g) r A2 F2)) := by
  refine m_start (own := "ScheduleAnalyzerModel") (vs := [some (.ref m), none]) hls (by decide +kernel) rfl rfl rfl (Nat.le_of_ble_eq_true rfl) ?_
  intro K hk he hl0 hF hG0
  have hi := hR.2.2.2.1
  refine j_ald4 hk dX4_clearBuffer_0 rfl rfl ?_
  refine j_iconst (n := 0) hk dX4_clearBuffer_1 ?_
  refine j_mput hE hk hF 4 (by decide) rfl q2618 rfl rfl rfl rfl dX4_clearBuffer_2 ?_
  refine j_ald4 hk dX4_clearBuffer_5 rfl rfl ?_
  refine j_mget hE hk 9 (by decide) rfl q2623 dX4_clearBuffer_6 ?_
  refine j_top (z2 := ((g.2.2.2.1.length : Nat) : Int)) (by rw [iup_n (by decide)]; exact hi.1) ?_
  refine j_ist1 hk dX4_clearBuffer_9 rfl ?_
  refine j_ald4 hk dX4_clearBuffer_10 rfl rfl ?_
  refine j_iconst (n := 0) hk dX4_clearBuffer_11 ?_
  refine j_mput hE hk hF 9 (by decide) rfl q2623 rfl rfl rfl rfl dX4_clearBuffer_12 ?_
  refine j_ild4 hk dX4_clearBuffer_15 rfl rfl ?_
  refine j_miret hk he rfl dX4_clearBuffer_16 (Nat.le_refl _) (Nat.le_refl _) ?_
  exact ⟨rfl, by rw [iup_n (by decide), iup_s]; rfl, hR.up4.inp0⟩
set_option maxHeartbeats 1500000 in
/-- mark()I -/
theorem mc_mark {l : Launch} {E : jE} {m : Nat} {ad : Nat → Nat} {A : Nat → Nat → Int} {F : Nat → Int} (hls : l.stackTraces = false) (hE : jSt E) {inp : List Nat} {i : Nat} (hI : F 9 = ((inp.length : Nat) : Int) ∧ txIs (A 8) inp 60) (hi : F 10 = ((i : Nat) : Int)) (hi2 : i ≤ 100) : mC l E yX4_mark cX4_mark 1 (some .int) 1 12 [.ref m] m ad A F (mQi E m ad (fun r A2 F2 => chI inp i = r ∧ A = A2 ∧ F = F2)) := by
  refine m_start (own := "ScheduleAnalyzerModel") (vs := [some (.ref m)]) hls (by decide +kernel) rfl rfl rfl (Nat.le_of_ble_eq_true rfl) ?_
  intro K hk he hl0 hF hG0
  have hl := hI.2.1
  refine j_ald4 hk dX4_mark_0 rfl rfl ?_
  refine j_mget hE hk 10 (by decide) rfl q2624 dX4_mark_1 ?_
  refine j_top (z2 := ((i : Nat) : Int)) (hi) ?_
  refine j_ald4 hk dX4_mark_4 rfl rfl ?_
  refine j_mget hE hk 9 (by decide) rfl q2623 dX4_mark_5 ?_
  refine j_top (z2 := ((inp.length : Nat) : Int)) (hI.1) ?_
  refine j_icmp_ge hk (by omega) (by omega) dX4_mark_8 rfl (tgt := 23) (fun h8 => ?_) (fun h8 => ?_)
  · refine j_iconst (n := -1) hk dX4_mark_23 ?_
    refine j_miret hk he rfl dX4_mark_24 (Nat.le_refl _) (Nat.le_refl _) ?_
    exact ⟨by rw [chI, if_neg (by omega)], rfl, rfl⟩
  · refine j_ald4 hk dX4_mark_11 rfl rfl ?_
    refine j_mgetA hE hk 8 (by decide) rfl q2622 dX4_mark_12 ?_
    refine j_ald4 hk dX4_mark_15 rfl rfl ?_
    refine j_mget hE hk 10 (by decide) rfl q2624 dX4_mark_16 ?_
    refine j_top (z2 := ((i : Nat) : Int)) (hi) ?_
    refine j_mald hE hk 8 4 rfl (i) (by omega) (by simp only [mLen]; omega) dX4_mark_19 ?_
    have hlt : i < inp.length := by omega
    refine j_top (z2 := ((inp.getD i 0 : Nat) : Int)) ((hI.2.2 i hlt).1) ?_
    refine j_goto (tgt := 24) hk dX4_mark_20 rfl ?_
    refine j_miret hk he rfl dX4_mark_24 (Nat.le_refl _) (Nat.le_refl _) ?_
    exact ⟨by rw [chI, if_pos hlt], rfl, rfl⟩
set_option maxHeartbeats 1500000 in
/-- readsOperation()Z -/
theorem mc_readsOperation {l : Launch} {E : jE} {m : Nat} {ad : Nat → Nat} {A : Nat → Nat → Int} {F : Nat → Int} (hls : l.stackTraces = false) (hE : jSt E) {inp : List Nat} {i : Nat} {acc : List Op} (hI : F 9 = ((inp.length : Nat) : Int) ∧ txIs (A 8) inp 60) (hi : F 10 = ((i : Nat) : Int)) (hi2 : i ≤ 80) (hA : rdIs A F acc) (hlt : acc.length < 32) : mC l E yX4_readsOperation cX4_readsOperation 4 (some .boolean) 3 54 [.ref m] m ad A F (mQi E m ad (fun r A2 F2 => jB ((pOp inp i).1.isSome) = r ∧ F2 10 = (((pOp inp i).2 : Nat) : Int) ∧ rdIs A2 F2 (acc ++ (pOp inp i).1.toList) ∧ kA [11] A A2 ∧ kF [10, 12] F F2)) := by
  refine m_start (own := "ScheduleAnalyzerModel") (vs := [some (.ref m), none, none, none]) hls (by decide +kernel) rfl rfl rfl (Nat.le_of_ble_eq_true rfl) ?_
  intro K hk he hl0 hF hG0
  have hl := hI.2.1
  have hkr := kdL_r (chI inp i)
  have hcr : ∀ j, -1 ≤ chI inp j ∧ chI inp j < 65536 := by
    intro j
    unfold chI
    split
    · have := (hI.2.2 j (by assumption)).2; omega
    · omega
  refine j_ald4 hk dX4_readsOperation_0 rfl rfl ?_
  refine j_mVi hE hk hl0 hF (mc_mark hls hE (A := A) (F := F) (inp := inp) (i := i) (hI) (hi) (by omega)) 0 (lw_V q2767 q2769 qs56 q145 q2770) (by decide +kernel) rfl (by decide) (by decide) rfl (Nat.le_of_ble_eq_true rfl) dX4_readsOperation_1 ?_
  rintro _ _ _ ⟨rfl, rfl, rfl⟩
  refine j_sSi hk hl0 (sc_kindOfLetter hls (c := chI inp i) (by have := hcr i; omega)) 1 (lw_S q2771 q2772 q145 q2773) (by decide +kernel) rfl (by decide) (by decide) rfl (Nat.le_of_ble_eq_true rfl) dX4_readsOperation_4 ?_
  refine j_top (z2 := kdL (chI inp i)) (rfl) ?_
  refine j_ist1 hk dX4_readsOperation_7 rfl ?_
  refine j_ild4 hk dX4_readsOperation_8 rfl rfl ?_
  refine j_if_ge hk (by omega) dX4_readsOperation_9 rfl (tgt := 14) (fun h9 => ?_) (fun h9 => ?_)
  · obtain ⟨kd, hkd⟩ : ∃ kd : Nat, kdL (chI inp i) = ((kd : Nat) : Int) := ⟨(kdL (chI inp i)).toNat, by omega⟩
    refine j_ald4 hk dX4_readsOperation_14 rfl rfl ?_
    refine j_dup hk rfl dX4_readsOperation_15 ?_
    refine j_mget hE hk 10 (by decide) rfl q2624 dX4_readsOperation_16 ?_
    refine j_top (z2 := ((i : Nat) : Int)) (hi) ?_
    refine j_iconst (n := 1) hk dX4_readsOperation_19 ?_
    refine j_iadd hk dX4_readsOperation_20 ?_
    refine j_mput hE hk hF 10 (by decide) rfl q2624 rfl rfl rfl rfl dX4_readsOperation_21 ?_
    refine j_ald4 hk dX4_readsOperation_24 rfl rfl ?_
    refine j_mVi hE hk hl0 hF (mc_mark hls hE (A := A) (F := (iup F 10 (((i : Nat) : Int) + 1))) (inp := inp) (i := i + 1) (by rw [iup_n (by decide)]; exact hI) (iup_s _ _ _) (by omega)) 0 (lw_V q2767 q2769 qs56 q145 q2770) (by decide +kernel) rfl (by decide) (by decide) rfl (Nat.le_of_ble_eq_true rfl) dX4_readsOperation_25 ?_
    rintro _ _ _ ⟨rfl, rfl, rfl⟩
    refine j_bipush (n := 48) hk rfl dX4_readsOperation_28 ?_
    refine j_isub hk dX4_readsOperation_30 ?_
    refine j_ist2 hk dX4_readsOperation_31 rfl ?_
    refine j_ild4 hk dX4_readsOperation_32 rfl rfl ?_
    refine j_sSi hk hl0 (sc_isTransaction hls (v := (chI inp (i + 1)) - 48) (by have := hcr (i + 1); omega)) 1 (lw_S q2774 q2775 q145 q2776) (by decide +kernel) rfl (by decide) (by decide) rfl (Nat.le_of_ble_eq_true rfl) dX4_readsOperation_33 ?_
    refine j_ifneB hk dX4_readsOperation_36 rfl (tgt := 41) (fun h36 => ?_) (fun h36 => ?_)
    · have q2 := of_decide_eq_true h36
      obtain ⟨t, ht⟩ : ∃ t : Nat, chI inp (i + 1) - 48 = ((t : Nat) : Int) := ⟨(chI inp (i + 1) - 48).toNat, by omega⟩
      refine j_ald4 hk dX4_readsOperation_41 rfl rfl ?_
      refine j_dup hk rfl dX4_readsOperation_42 ?_
      refine j_mget hE hk 10 (by decide) rfl q2624 dX4_readsOperation_43 ?_
      refine j_top (z2 := ((i + 1 : Nat) : Int)) (by rw [iup_s]; rfl) ?_
      refine j_iconst (n := 1) hk dX4_readsOperation_46 ?_
      refine j_iadd hk dX4_readsOperation_47 ?_
      refine j_mput hE hk hF 10 (by decide) rfl q2624 rfl rfl rfl rfl dX4_readsOperation_48 ?_
      refine j_iconst (n := 0) hk dX4_readsOperation_51 ?_
      refine j_ist3 hk dX4_readsOperation_52 rfl ?_
      refine j_ild4 hk dX4_readsOperation_53 rfl rfl ?_
      refine j_iconst (n := 2) hk dX4_readsOperation_54 ?_
      refine j_icmp_ge hk (by omega) (by omega) dX4_readsOperation_55 rfl (tgt := 88) (fun h55 => ?_) (fun h55 => ?_)
      · refine j_ald4 hk dX4_readsOperation_88 rfl rfl ?_
        refine j_mgetA hE hk 11 (by decide) rfl q2625 dX4_readsOperation_89 ?_
        refine j_ald4 hk dX4_readsOperation_92 rfl rfl ?_
        refine j_mget hE hk 12 (by decide) rfl q2626 dX4_readsOperation_93 ?_
        refine j_top (z2 := ((acc.length : Nat) : Int)) (by rw [iup_n (by decide), iup_n (by decide)]; exact hA.1) ?_
        refine j_ild4 hk dX4_readsOperation_96 rfl rfl ?_
        refine j_top (z2 := ((kd : Nat) : Int)) (hkd) ?_
        refine j_ild4 hk dX4_readsOperation_97 rfl rfl ?_
        refine j_top (z2 := ((t : Nat) : Int)) (ht) ?_
        refine j_ild4 hk dX4_readsOperation_98 rfl rfl ?_
        refine j_top (z2 := ((0 : Nat) : Int)) (rfl) ?_
        refine j_sSi hk hl0 (sc_coded hls (k := kd) (t := t) (i := 0) ) 3 (lw_S q2780 q2781 q145 q2782) (by decide +kernel) rfl (by decide) (by decide) rfl (Nat.le_of_ble_eq_true rfl) dX4_readsOperation_99 ?_
        refine j_top (z2 := ((opV (kd, t, 0) : Nat) : Int)) (rfl) ?_
        refine j_mast hE hk hF 11 5 rfl (acc.length) (by omega) (by simp only [mLen]; omega) dX4_readsOperation_102 ?_
        refine j_ald4 hk dX4_readsOperation_103 rfl rfl ?_
        refine j_dup hk rfl dX4_readsOperation_104 ?_
        refine j_mget hE hk 12 (by decide) rfl q2626 dX4_readsOperation_105 ?_
        refine j_top (z2 := ((acc.length : Nat) : Int)) (by rw [iup_n (by decide), iup_n (by decide)]; exact hA.1) ?_
        refine j_iconst (n := 1) hk dX4_readsOperation_108 ?_
        refine j_iadd hk dX4_readsOperation_109 ?_
        refine j_mput hE hk hF 12 (by decide) rfl q2626 rfl rfl rfl rfl dX4_readsOperation_110 ?_
        refine j_iconst (n := 1) hk dX4_readsOperation_113 ?_
        refine j_miret hk he rfl dX4_readsOperation_114 (Nat.le_refl _) (Nat.le_refl _) ?_
        have e : pOp inp i = (some (kd, t, 0), i + 2) := by rw [pOp, if_neg (by omega), if_neg (by simpa [isTr] using h36), if_neg (by omega), hkd, ht]; rfl
        have ho := (pOp_some (l := inp) (i := i) (by rw [e])).1
        rw [e]
        exact ⟨rfl, by rw [iup_n (by decide), iup_s]; rfl, ((hA.keep rfl (iup_n (by decide))).keep rfl (iup_n (by decide))).push ho, kA.up1, ((kF.rf.up (by decide)).up (by decide)).up (by decide)⟩
      · refine j_ald4 hk dX4_readsOperation_58 rfl rfl ?_
        refine j_mVi hE hk hl0 hF (mc_mark hls hE (A := A) (F := (iup (iup F 10 (((i : Nat) : Int) + 1)) 10 (((i + 1 : Nat) : Int) + 1))) (inp := inp) (i := i + 2) (by rw [iup_n (by decide), iup_n (by decide)]; exact hI) (iup_s _ _ _) (by omega)) 0 (lw_V q2767 q2769 qs56 q145 q2770) (by decide +kernel) rfl (by decide) (by decide) rfl (Nat.le_of_ble_eq_true rfl) dX4_readsOperation_59 ?_
        rintro _ _ _ ⟨rfl, rfl, rfl⟩
        refine j_sSi hk hl0 (sc_isItem hls (v := chI inp (i + 2)) (by have := hcr (i + 2); omega)) 1 (lw_S q2777 q2778 q145 q2779) (by decide +kernel) rfl (by decide) (by decide) rfl (Nat.le_of_ble_eq_true rfl) dX4_readsOperation_62 ?_
        refine j_ifneB hk dX4_readsOperation_65 rfl (tgt := 70) (fun h65 => ?_) (fun h65 => ?_)
        · have q3 := of_decide_eq_true h65
          obtain ⟨c, hc⟩ : ∃ c : Nat, chI inp (i + 2) - 97 = ((c : Nat) : Int) := ⟨(chI inp (i + 2) - 97).toNat, by omega⟩
          refine j_ald4 hk dX4_readsOperation_70 rfl rfl ?_
          refine j_mVi hE hk hl0 hF (mc_mark hls hE (A := A) (F := (iup (iup F 10 (((i : Nat) : Int) + 1)) 10 (((i + 1 : Nat) : Int) + 1))) (inp := inp) (i := i + 2) (by rw [iup_n (by decide), iup_n (by decide)]; exact hI) (iup_s _ _ _) (by omega)) 0 (lw_V q2767 q2769 qs56 q145 q2770) (by decide +kernel) rfl (by decide) (by decide) rfl (Nat.le_of_ble_eq_true rfl) dX4_readsOperation_71 ?_
          rintro _ _ _ ⟨rfl, rfl, rfl⟩
          refine j_bipush (n := 97) hk rfl dX4_readsOperation_74 ?_
          refine j_isub hk dX4_readsOperation_76 ?_
          refine j_ist3 hk dX4_readsOperation_77 rfl ?_
          refine j_ald4 hk dX4_readsOperation_78 rfl rfl ?_
          refine j_dup hk rfl dX4_readsOperation_79 ?_
          refine j_mget hE hk 10 (by decide) rfl q2624 dX4_readsOperation_80 ?_
          refine j_top (z2 := ((i + 2 : Nat) : Int)) (by rw [iup_s]; rfl) ?_
          refine j_iconst (n := 1) hk dX4_readsOperation_83 ?_
          refine j_iadd hk dX4_readsOperation_84 ?_
          refine j_mput hE hk hF 10 (by decide) rfl q2624 rfl rfl rfl rfl dX4_readsOperation_85 ?_
          refine j_ald4 hk dX4_readsOperation_88 rfl rfl ?_
          refine j_mgetA hE hk 11 (by decide) rfl q2625 dX4_readsOperation_89 ?_
          refine j_ald4 hk dX4_readsOperation_92 rfl rfl ?_
          refine j_mget hE hk 12 (by decide) rfl q2626 dX4_readsOperation_93 ?_
          refine j_top (z2 := ((acc.length : Nat) : Int)) (by rw [iup_n (by decide), iup_n (by decide), iup_n (by decide)]; exact hA.1) ?_
          refine j_ild4 hk dX4_readsOperation_96 rfl rfl ?_
          refine j_top (z2 := ((kd : Nat) : Int)) (hkd) ?_
          refine j_ild4 hk dX4_readsOperation_97 rfl rfl ?_
          refine j_top (z2 := ((t : Nat) : Int)) (ht) ?_
          refine j_ild4 hk dX4_readsOperation_98 rfl rfl ?_
          refine j_top (z2 := ((c : Nat) : Int)) (hc) ?_
          refine j_sSi hk hl0 (sc_coded hls (k := kd) (t := t) (i := c) ) 3 (lw_S q2780 q2781 q145 q2782) (by decide +kernel) rfl (by decide) (by decide) rfl (Nat.le_of_ble_eq_true rfl) dX4_readsOperation_99 ?_
          refine j_top (z2 := ((opV (kd, t, c) : Nat) : Int)) (rfl) ?_
          refine j_mast hE hk hF 11 5 rfl (acc.length) (by omega) (by simp only [mLen]; omega) dX4_readsOperation_102 ?_
          refine j_ald4 hk dX4_readsOperation_103 rfl rfl ?_
          refine j_dup hk rfl dX4_readsOperation_104 ?_
          refine j_mget hE hk 12 (by decide) rfl q2626 dX4_readsOperation_105 ?_
          refine j_top (z2 := ((acc.length : Nat) : Int)) (by rw [iup_n (by decide), iup_n (by decide), iup_n (by decide)]; exact hA.1) ?_
          refine j_iconst (n := 1) hk dX4_readsOperation_108 ?_
          refine j_iadd hk dX4_readsOperation_109 ?_
          refine j_mput hE hk hF 12 (by decide) rfl q2626 rfl rfl rfl rfl dX4_readsOperation_110 ?_
          refine j_iconst (n := 1) hk dX4_readsOperation_113 ?_
          refine j_miret hk he rfl dX4_readsOperation_114 (Nat.le_refl _) (Nat.le_refl _) ?_
          have e : pOp inp i = (some (kd, t, c), i + 3) := by rw [pOp, if_neg (by omega), if_neg (by simpa [isTr] using h36), if_pos (by omega), if_neg (by simpa [isIt] using h65), hkd, ht, hc]; rfl
          have ho := (pOp_some (l := inp) (i := i) (by rw [e])).1
          rw [e]
          exact ⟨rfl, by rw [iup_n (by decide), iup_s]; rfl, (((hA.keep rfl (iup_n (by decide))).keep rfl (iup_n (by decide))).keep rfl (iup_n (by decide))).push ho, kA.up1, (((kF.rf.up (by decide)).up (by decide)).up (by decide)).up (by decide)⟩
        · refine j_iconst (n := 0) hk dX4_readsOperation_68 ?_
          refine j_miret hk he rfl dX4_readsOperation_69 (Nat.le_refl _) (Nat.le_refl _) ?_
          have e : pOp inp i = (none, i + 2) := by rw [pOp, if_neg (by omega), if_neg (by simpa [isTr] using h36), if_pos (by omega), if_pos (by simp [isIt, h65])]
          rw [e]
          exact ⟨rfl, iup_s _ _ _, by simpa using (hA.keep rfl (iup_n (by decide))).keep rfl (iup_n (by decide)), kA.rf, (kF.rf.up (by decide)).up (by decide)⟩
    · refine j_iconst (n := 0) hk dX4_readsOperation_39 ?_
      refine j_miret hk he rfl dX4_readsOperation_40 (Nat.le_refl _) (Nat.le_refl _) ?_
      have e : pOp inp i = (none, i + 1) := by rw [pOp, if_neg (by omega), if_pos (by simp [isTr, h36])]
      rw [e]
      exact ⟨rfl, iup_s _ _ _, by simpa using hA.keep rfl (iup_n (by decide)), kA.rf, kF.rf.up (by decide)⟩
  · refine j_iconst (n := 0) hk dX4_readsOperation_12 ?_
    refine j_miret hk he rfl dX4_readsOperation_13 (Nat.le_refl _) (Nat.le_refl _) ?_
    have e : pOp inp i = (none, i) := by rw [pOp, if_pos h9]
    rw [e]
    exact ⟨rfl, hi, by simpa using hA, kA.rf, kF.rf⟩
