set_option maxHeartbeats 1500000 in
/-- removeAt(II)I -/
theorem mc_removeAt {l : Launch} {E : jE} {m : Nat} {ad : Nat → Nat} {A : Nat → Nat → Int} {F : Nat → Int} (hls : l.stackTraces = false) (hE : jSt E) {si : Int} {pi : Int} {g : SS} (hR : mR A F g) (hr : jr si ∧ jr pi) : mC l E yX4_removeAt cX4_removeAt 3 (some .int) 4 76 [.ref m, .int (jI si), .int (jI pi)] m ad A F (mQi E m ad (fun r A2 F2 => mP (sp_removeAt g si pi) r A2 F2)) := by
  refine m_start (own := "ScheduleAnalyzerModel") (vs := [some (.ref m), some (.int (jI si)), some (.int (jI pi))]) hls (by decide +kernel) rfl rfl rfl (Nat.le_of_ble_eq_true rfl) ?_
  intro K hk he hl0 hF hG0
  refine j_ald4 hk dX4_removeAt_0 rfl rfl ?_
  refine j_mVv hE hk hl0 hF (mc_begin hls hE (A := A) (F := F)  (by first | assumption | omega)) 0 (lw_V q2745 q2747 qs52 q145 q2748) (by decide +kernel) rfl (by decide) (by decide) rfl (Nat.le_of_ble_eq_true rfl) dX4_removeAt_1 ?_
  intro Az1 Fz2 hc1
  obtain ⟨hm, hb, ht, hka, hkf⟩ := hc1
  refine j_ald4 hk dX4_removeAt_4 rfl rfl ?_
  refine j_ild4 hk dX4_removeAt_5 rfl rfl ?_
  refine j_ild4 hk dX4_removeAt_6 rfl rfl ?_
  refine j_mVi hE hk hl0 hF (mc_isOperation hls hE (A := Az1) (F := Fz2) (s := si) (p := pi) (S := g.1.1) (V := g.1.2) (hm.1) (hr)) 2 (lw_V q2833 q2835 qs65 q145 q2836) (by decide +kernel) rfl (by decide) (by decide) rfl (Nat.le_of_ble_eq_true rfl) dX4_removeAt_7 ?_
  rintro _ _ _ ⟨rfl, rfl, rfl⟩
  refine j_ifeqB hk dX4_removeAt_10 rfl (tgt := 26) (fun h10 => ?_) (fun h10 => ?_)
  · refine j_ald4 hk dX4_removeAt_26 rfl rfl ?_
    refine j_iconst (n := 1) hk dX4_removeAt_27 ?_
    refine j_mVi hE hk hl0 hF (mc_fail hls hE (A := Az1) (F := Fz2) (n := 1) ) 1 (lw_V q2755 q2757 qs53 q145 q2758) (by decide +kernel) rfl (by decide) (by decide) rfl (Nat.le_of_ble_eq_true rfl) dX4_removeAt_28 ?_
    rintro _ _ _ ⟨rfl, rfl, rfl⟩
    refine j_miret hk he rfl dX4_removeAt_31 (Nat.le_refl _) (Nat.le_refl _) ?_
    have e : sp_removeAt g si pi = (1, 0, g) := by simp [sp_removeAt, h10]
    rw [mP, e]
    exact ⟨rfl, iup_s _ _ _, hm.up4⟩
  · have hq := h10
    simp only [isOpB, Bool.and_eq_true, decide_eq_true_eq] at hq
    obtain ⟨s, rfl⟩ : ∃ s : Nat, si = ((s : Nat) : Int) := ⟨si.toNat, by omega⟩
    obtain ⟨p, rfl⟩ : ∃ p : Nat, pi = ((p : Nat) : Int) := ⟨pi.toNat, by omega⟩
    simp only [Int.toNat_natCast] at hq
    refine j_ald4 hk dX4_removeAt_13 rfl rfl ?_
    refine j_ald4 hk dX4_removeAt_14 rfl rfl ?_
    refine j_ild4 hk dX4_removeAt_15 rfl rfl ?_
    refine j_ild4 hk dX4_removeAt_16 rfl rfl ?_
    refine j_mVi hE hk hl0 hF (mc_removes hls hE (A := Az1) (F := Fz2) (s := s) (p := p) (S := g.1.1) (V := g.1.2) (hm.1) (by omega) (by omega)) 2 (lw_V q2837 q2839 qs66 q145 q2840) (by decide +kernel) rfl (by decide) (by decide) rfl (Nat.le_of_ble_eq_true rfl) dX4_removeAt_17 ?_
    intro rz6 Az7 Fz8 hc17
    obtain ⟨rfl, hc17⟩ := hc17
    obtain ⟨hN17, hk17, rfl⟩ := hc17
    refine j_mVi hE hk hl0 hF (mc_commit hls hE (A := Az7) (F := Fz2) (rv := (((g.1.1 s).length - 1 : Nat) : Int)) (hm.2.keep (js := []) hk17 kF.rf (by decide) (by decide)) (by rw [hk17 1 (by decide)]; exact hb) (hN17)) 1 (lw_V q2805 q2807 qs61 q145 q2808) (by decide +kernel) rfl (by decide) (by decide) rfl (Nat.le_of_ble_eq_true rfl) dX4_removeAt_20 ?_
    intro rz9 Az10 Fz11 hc20
    obtain ⟨rfl, hc20⟩ := hc20
    obtain ⟨hp, hp3, hp5⟩ := hc20
    refine j_goto (tgt := 31) hk dX4_removeAt_23 rfl ?_
    refine j_miret hk he rfl dX4_removeAt_31 (Nat.le_refl _) (Nat.le_refl _) ?_
    have e : sp_removeAt g (s : Int) (p : Int) = (0, (((g.1.1 s).length - 1 : Nat) : Int), gpush g (sset g.1.1 s ((g.1.1 s).eraseIdx p), g.1.2)) := by simp [sp_removeAt, h10]
    rw [mP, e]
    exact ⟨rfl, by rw [hp5 4 (by decide)]; exact ht, hp⟩
set_option maxHeartbeats 1500000 in
/-- exchange(II)I -/
theorem mc_exchange {l : Launch} {E : jE} {m : Nat} {ad : Nat → Nat} {A : Nat → Nat → Int} {F : Nat → Int} (hls : l.stackTraces = false) (hE : jSt E) {si : Int} {pi : Int} {g : SS} (hR : mR A F g) (hr : jr si ∧ jr pi) : mC l E yX4_exchange cX4_exchange 3 (some .int) 4 76 [.ref m, .int (jI si), .int (jI pi)] m ad A F (mQi E m ad (fun r A2 F2 => mP (sp_exchange g si pi) r A2 F2)) := by
  refine m_start (own := "ScheduleAnalyzerModel") (vs := [some (.ref m), some (.int (jI si)), some (.int (jI pi))]) hls (by decide +kernel) rfl rfl rfl (Nat.le_of_ble_eq_true rfl) ?_
  intro K hk he hl0 hF hG0
  refine j_ald4 hk dX4_exchange_0 rfl rfl ?_
  refine j_mVv hE hk hl0 hF (mc_begin hls hE (A := A) (F := F)  (by first | assumption | omega)) 0 (lw_V q2745 q2747 qs52 q145 q2748) (by decide +kernel) rfl (by decide) (by decide) rfl (Nat.le_of_ble_eq_true rfl) dX4_exchange_1 ?_
  intro Az1 Fz2 hc1
  obtain ⟨hm, hb, ht, hka, hkf⟩ := hc1
  refine j_ald4 hk dX4_exchange_4 rfl rfl ?_
  refine j_ild4 hk dX4_exchange_5 rfl rfl ?_
  refine j_ild4 hk dX4_exchange_6 rfl rfl ?_
  refine j_mVi hE hk hl0 hF (mc_isOperation hls hE (A := Az1) (F := Fz2) (s := si) (p := pi) (S := g.1.1) (V := g.1.2) (hm.1) (hr)) 2 (lw_V q2833 q2835 qs65 q145 q2836) (by decide +kernel) rfl (by decide) (by decide) rfl (Nat.le_of_ble_eq_true rfl) dX4_exchange_7 ?_
  rintro _ _ _ ⟨rfl, rfl, rfl⟩
  refine j_ifeqB hk dX4_exchange_10 rfl (tgt := 24) (fun h10 => ?_) (fun h10 => ?_)
  · refine j_ald4 hk dX4_exchange_24 rfl rfl ?_
    refine j_iconst (n := 1) hk dX4_exchange_25 ?_
    refine j_mVi hE hk hl0 hF (mc_fail hls hE (A := Az1) (F := Fz2) (n := 1) ) 1 (lw_V q2755 q2757 qs53 q145 q2758) (by decide +kernel) rfl (by decide) (by decide) rfl (Nat.le_of_ble_eq_true rfl) dX4_exchange_26 ?_
    rintro _ _ _ ⟨rfl, rfl, rfl⟩
    refine j_miret hk he rfl dX4_exchange_29 (Nat.le_refl _) (Nat.le_refl _) ?_
    have e : sp_exchange g si pi = (1, 0, g) := by simp [sp_exchange, h10]
    rw [mP, e]
    exact ⟨rfl, iup_s _ _ _, hm.up4⟩
  · refine j_ald4 hk dX4_exchange_13 rfl rfl ?_
    refine j_ild4 hk dX4_exchange_14 rfl rfl ?_
    refine j_ild4 hk dX4_exchange_15 rfl rfl ?_
    refine j_iconst (n := 1) hk dX4_exchange_16 ?_
    refine j_iadd hk dX4_exchange_17 ?_
    refine j_mVi hE hk hl0 hF (mc_isOperation hls hE (A := Az1) (F := Fz2) (s := si) (p := pi + 1) (S := g.1.1) (V := g.1.2) (hm.1) (by have hq := h10; simp only [isOpB, Bool.and_eq_true, decide_eq_true_eq] at hq; have := hm.1.len (s := si.toNat) (by omega); omega)) 2 (lw_V q2833 q2835 qs65 q145 q2836) (by decide +kernel) rfl (by decide) (by decide) rfl (Nat.le_of_ble_eq_true rfl) dX4_exchange_18 ?_
    rintro _ _ _ ⟨rfl, rfl, rfl⟩
    refine j_ifneB hk dX4_exchange_21 rfl (tgt := 30) (fun h21 => ?_) (fun h21 => ?_)
    · have hq := h10
      simp only [isOpB, Bool.and_eq_true, decide_eq_true_eq] at hq
      have hq2 := h21
      simp only [isOpB, Bool.and_eq_true, decide_eq_true_eq] at hq2
      obtain ⟨s, rfl⟩ : ∃ s : Nat, si = ((s : Nat) : Int) := ⟨si.toNat, by omega⟩
      obtain ⟨p, rfl⟩ : ∃ p : Nat, pi = ((p : Nat) : Int) := ⟨pi.toNat, by omega⟩
      simp only [Int.toNat_natCast] at hq hq2
      have ho1 := hm.1.ok (s := s) (i := p) (by omega) (by omega)
      have ho2 := hm.1.ok (s := s) (i := p + 1) (by omega) (by omega)
      have hv1 := opV_lt ho1
      have hv2 := opV_lt ho2
      have ho1b := ho1.2.2.1
      have ho2b := ho2.2.2.1
      refine j_ald4 hk dX4_exchange_30 rfl rfl ?_
      refine j_ild4 hk dX4_exchange_31 rfl rfl ?_
      refine j_ild4 hk dX4_exchange_32 rfl rfl ?_
      refine j_mVi hE hk hl0 hF (mc_code hls hE (A := Az1) (F := Fz2) (s := s) (i := p) (S := g.1.1) (V := g.1.2) (hm.1) (by omega) (by omega)) 2 (lw_V q2821 q2823 qs64 q145 q2824) (by decide +kernel) rfl (by decide) (by decide) rfl (Nat.le_of_ble_eq_true rfl) dX4_exchange_33 ?_
      rintro _ _ _ ⟨rfl, rfl, rfl⟩
      refine j_sSi hk hl0 (sc_transactionOf hls (c := opV (opAt (g.1.1 s) p)) (by omega)) 1 (lw_S q2787 q2788 q145 q2789) (by decide +kernel) rfl (by decide) (by decide) rfl (Nat.le_of_ble_eq_true rfl) dX4_exchange_36 ?_
      refine j_top (z2 := ((oT (opAt (g.1.1 s) p) : Nat) : Int)) (by rw [opV_t ho1]) ?_
      refine j_ald4 hk dX4_exchange_39 rfl rfl ?_
      refine j_ild4 hk dX4_exchange_40 rfl rfl ?_
      refine j_ild4 hk dX4_exchange_41 rfl rfl ?_
      refine j_iconst (n := 1) hk dX4_exchange_42 ?_
      refine j_iadd hk dX4_exchange_43 ?_
      refine j_mVi hE hk hl0 hF (mc_code hls hE (A := Az1) (F := Fz2) (s := s) (i := p + 1) (S := g.1.1) (V := g.1.2) (hm.1) (by omega) (by omega)) 2 (lw_V q2821 q2823 qs64 q145 q2824) (by decide +kernel) rfl (by decide) (by decide) rfl (Nat.le_of_ble_eq_true rfl) dX4_exchange_44 ?_
      rintro _ _ _ ⟨rfl, rfl, rfl⟩
      refine j_sSi hk hl0 (sc_transactionOf hls (c := opV (opAt (g.1.1 s) (p + 1))) (by omega)) 1 (lw_S q2787 q2788 q145 q2789) (by decide +kernel) rfl (by decide) (by decide) rfl (Nat.le_of_ble_eq_true rfl) dX4_exchange_47 ?_
      refine j_top (z2 := ((oT (opAt (g.1.1 s) (p + 1)) : Nat) : Int)) (by rw [opV_t ho2]) ?_
      refine j_icmp_ne hk (by omega) (by omega) dX4_exchange_50 rfl (tgt := 61) (fun h50 => ?_) (fun h50 => ?_)
      · refine j_ald4 hk dX4_exchange_61 rfl rfl ?_
        refine j_ald4 hk dX4_exchange_62 rfl rfl ?_
        refine j_ild4 hk dX4_exchange_63 rfl rfl ?_
        refine j_ild4 hk dX4_exchange_64 rfl rfl ?_
        refine j_mVi hE hk hl0 hF (mc_swaps hls hE (A := Az1) (F := Fz2) (s := s) (p := p) (S := g.1.1) (V := g.1.2) (hm.1) (by omega) (by omega)) 2 (lw_V q2845 q2847 qs67 q145 q2848) (by decide +kernel) rfl (by decide) (by decide) rfl (Nat.le_of_ble_eq_true rfl) dX4_exchange_65 ?_
        intro rz6 Az7 Fz8 hc65
        obtain ⟨rfl, hc65⟩ := hc65
        obtain ⟨hN65, hk65, rfl⟩ := hc65
        refine j_mVi hE hk hl0 hF (mc_commit hls hE (A := Az7) (F := Fz2) (rv := ((oT (opAt (g.1.1 s) (p + 1)) : Nat) : Int)) (hm.2.keep (js := []) hk65 kF.rf (by decide) (by decide)) (by rw [hk65 1 (by decide)]; exact hb) (hN65)) 1 (lw_V q2805 q2807 qs61 q145 q2808) (by decide +kernel) rfl (by decide) (by decide) rfl (Nat.le_of_ble_eq_true rfl) dX4_exchange_68 ?_
        intro rz9 Az10 Fz11 hc68
        obtain ⟨rfl, hc68⟩ := hc68
        obtain ⟨hp, hp3, hp5⟩ := hc68
        refine j_miret hk he rfl dX4_exchange_71 (Nat.le_refl _) (Nat.le_refl _) ?_
        have e : sp_exchange g (s : Int) (p : Int) = (0, ((oT (opAt (g.1.1 s) (p + 1)) : Nat) : Int), gpush g (sset g.1.1 s (opSwap (g.1.1 s) p), g.1.2)) := by simp [sp_exchange, h10, h21]; omega
        rw [mP, e]
        exact ⟨rfl, by rw [hp5 4 (by decide)]; exact ht, hp⟩
      · refine j_ald4 hk dX4_exchange_53 rfl rfl ?_
        refine j_iconst (n := 2) hk dX4_exchange_54 ?_
        refine j_mVi hE hk hl0 hF (mc_fail hls hE (A := Az1) (F := Fz2) (n := 2) ) 1 (lw_V q2755 q2757 qs53 q145 q2758) (by decide +kernel) rfl (by decide) (by decide) rfl (Nat.le_of_ble_eq_true rfl) dX4_exchange_55 ?_
        rintro _ _ _ ⟨rfl, rfl, rfl⟩
        refine j_goto (tgt := 71) hk dX4_exchange_58 rfl ?_
        refine j_miret hk he rfl dX4_exchange_71 (Nat.le_refl _) (Nat.le_refl _) ?_
        have e : sp_exchange g (s : Int) (p : Int) = (2, 0, g) := by simp [sp_exchange, h10, h21]; omega
        rw [mP, e]
        exact ⟨rfl, iup_s _ _ _, hm.up4⟩
    · refine j_ald4 hk dX4_exchange_24 rfl rfl ?_
      refine j_iconst (n := 1) hk dX4_exchange_25 ?_
      refine j_mVi hE hk hl0 hF (mc_fail hls hE (A := Az1) (F := Fz2) (n := 1) ) 1 (lw_V q2755 q2757 qs53 q145 q2758) (by decide +kernel) rfl (by decide) (by decide) rfl (Nat.le_of_ble_eq_true rfl) dX4_exchange_26 ?_
      rintro _ _ _ ⟨rfl, rfl, rfl⟩
      refine j_miret hk he rfl dX4_exchange_29 (Nat.le_refl _) (Nat.le_refl _) ?_
      have e : sp_exchange g si pi = (1, 0, g) := by simp [sp_exchange, h10, h21]
      rw [mP, e]
      exact ⟨rfl, iup_s _ _ _, hm.up4⟩
set_option maxHeartbeats 1500000 in
/-- copy(II)I -/
theorem mc_copy {l : Launch} {E : jE} {m : Nat} {ad : Nat → Nat} {A : Nat → Nat → Int} {F : Nat → Int} (hls : l.stackTraces = false) (hE : jSt E) {ti : Int} {si : Int} {g : SS} (hR : mR A F g) (hr : jr ti ∧ jr si) : mC l E yX4_copy cX4_copy 3 (some .int) 3 58 [.ref m, .int (jI ti), .int (jI si)] m ad A F (mQi E m ad (fun r A2 F2 => mP (sp_copy g ti si) r A2 F2)) := by
  refine m_start (own := "ScheduleAnalyzerModel") (vs := [some (.ref m), some (.int (jI ti)), some (.int (jI si))]) hls (by decide +kernel) rfl rfl rfl (Nat.le_of_ble_eq_true rfl) ?_
  intro K hk he hl0 hF hG0
  refine j_ald4 hk dX4_copy_0 rfl rfl ?_
  refine j_mVv hE hk hl0 hF (mc_begin hls hE (A := A) (F := F)  (by first | assumption | omega)) 0 (lw_V q2745 q2747 qs52 q145 q2748) (by decide +kernel) rfl (by decide) (by decide) rfl (Nat.le_of_ble_eq_true rfl) dX4_copy_1 ?_
  intro Az1 Fz2 hc1
  obtain ⟨hm, hb, ht, hka, hkf⟩ := hc1
  refine j_ild4 hk dX4_copy_4 rfl rfl ?_
  refine j_sSi hk hl0 (sc_isSlot hls (v := ti) (hr.1)) 1 (lw_S q2752 q2753 q145 q2754) (by decide +kernel) rfl (by decide) (by decide) rfl (Nat.le_of_ble_eq_true rfl) dX4_copy_5 ?_
  refine j_ifeqB hk dX4_copy_8 rfl (tgt := 31) (fun h8 => ?_) (fun h8 => ?_)
  · refine j_ald4 hk dX4_copy_31 rfl rfl ?_
    refine j_iconst (n := 1) hk dX4_copy_32 ?_
    refine j_mVi hE hk hl0 hF (mc_fail hls hE (A := Az1) (F := Fz2) (n := 1) ) 1 (lw_V q2755 q2757 qs53 q145 q2758) (by decide +kernel) rfl (by decide) (by decide) rfl (Nat.le_of_ble_eq_true rfl) dX4_copy_33 ?_
    rintro _ _ _ ⟨rfl, rfl, rfl⟩
    refine j_miret hk he rfl dX4_copy_36 (Nat.le_refl _) (Nat.le_refl _) ?_
    have e : sp_copy g ti si = (1, 0, g) := by simp [sp_copy, isSl, h8]
    rw [mP, e]
    exact ⟨rfl, iup_s _ _ _, hm.up4⟩
  · refine j_ild4 hk dX4_copy_11 rfl rfl ?_
    refine j_sSi hk hl0 (sc_isSlot hls (v := si) (hr.2)) 1 (lw_S q2752 q2753 q145 q2754) (by decide +kernel) rfl (by decide) (by decide) rfl (Nat.le_of_ble_eq_true rfl) dX4_copy_12 ?_
    refine j_ifeqB hk dX4_copy_15 rfl (tgt := 31) (fun h15 => ?_) (fun h15 => ?_)
    · refine j_ald4 hk dX4_copy_31 rfl rfl ?_
      refine j_iconst (n := 1) hk dX4_copy_32 ?_
      refine j_mVi hE hk hl0 hF (mc_fail hls hE (A := Az1) (F := Fz2) (n := 1) ) 1 (lw_V q2755 q2757 qs53 q145 q2758) (by decide +kernel) rfl (by decide) (by decide) rfl (Nat.le_of_ble_eq_true rfl) dX4_copy_33 ?_
      rintro _ _ _ ⟨rfl, rfl, rfl⟩
      refine j_miret hk he rfl dX4_copy_36 (Nat.le_refl _) (Nat.le_refl _) ?_
      have e : sp_copy g ti si = (1, 0, g) := by simp [sp_copy, isSl, h8, h15]
      rw [mP, e]
      exact ⟨rfl, iup_s _ _ _, hm.up4⟩
    · have q1 := of_decide_eq_true h8
      have q2 := of_decide_eq_true h15
      obtain ⟨t, rfl⟩ : ∃ t : Nat, ti = ((t : Nat) : Int) := ⟨ti.toNat, by omega⟩
      obtain ⟨s, rfl⟩ : ∃ s : Nat, si = ((s : Nat) : Int) := ⟨si.toNat, by omega⟩
      refine j_ald4 hk dX4_copy_18 rfl rfl ?_
      refine j_ald4 hk dX4_copy_19 rfl rfl ?_
      refine j_ild4 hk dX4_copy_20 rfl rfl ?_
      refine j_ild4 hk dX4_copy_21 rfl rfl ?_
      refine j_mVi hE hk hl0 hF (mc_copies hls hE (A := Az1) (F := Fz2) (t := t) (s := s) (S := g.1.1) (V := g.1.2) (hm.1) (by omega) (by omega)) 2 (lw_V q2853 q2855 qs68 q145 q2856) (by decide +kernel) rfl (by decide) (by decide) rfl (Nat.le_of_ble_eq_true rfl) dX4_copy_22 ?_
      intro rz9 Az10 Fz11 hc22
      obtain ⟨rfl, hc22⟩ := hc22
      obtain ⟨hN22, hk22, rfl⟩ := hc22
      refine j_mVi hE hk hl0 hF (mc_commit hls hE (A := Az10) (F := Fz2) (rv := (((g.1.1 s).length : Nat) : Int)) (hm.2.keep (js := []) hk22 kF.rf (by decide) (by decide)) (by rw [hk22 1 (by decide)]; exact hb) (hN22)) 1 (lw_V q2805 q2807 qs61 q145 q2808) (by decide +kernel) rfl (by decide) (by decide) rfl (Nat.le_of_ble_eq_true rfl) dX4_copy_25 ?_
      intro rz12 Az13 Fz14 hc25
      obtain ⟨rfl, hc25⟩ := hc25
      obtain ⟨hp, hp3, hp5⟩ := hc25
      refine j_goto (tgt := 36) hk dX4_copy_28 rfl ?_
      refine j_miret hk he rfl dX4_copy_36 (Nat.le_refl _) (Nat.le_refl _) ?_
      have e : sp_copy g (t : Int) (s : Int) = (0, (((g.1.1 s).length : Nat) : Int), gpush g (sset g.1.1 t (g.1.1 s), g.1.2)) := by simp [sp_copy, isSl]; omega
      rw [mP, e]
      exact ⟨rfl, by rw [hp5 4 (by decide)]; exact ht, hp⟩
set_option maxHeartbeats 1500000 in
/-- clear(I)I -/
theorem mc_clear {l : Launch} {E : jE} {m : Nat} {ad : Nat → Nat} {A : Nat → Nat → Int} {F : Nat → Int} (hls : l.stackTraces = false) (hE : jSt E) {si : Int} {g : SS} (hR : mR A F g) (hr : jr si) : mC l E yX4_clear cX4_clear 2 (some .int) 3 58 [.ref m, .int (jI si)] m ad A F (mQi E m ad (fun r A2 F2 => mP (sp_clear g si) r A2 F2)) := by
  refine m_start (own := "ScheduleAnalyzerModel") (vs := [some (.ref m), some (.int (jI si))]) hls (by decide +kernel) rfl rfl rfl (Nat.le_of_ble_eq_true rfl) ?_
  intro K hk he hl0 hF hG0
  refine j_ald4 hk dX4_clear_0 rfl rfl ?_
  refine j_mVv hE hk hl0 hF (mc_begin hls hE (A := A) (F := F)  (by first | assumption | omega)) 0 (lw_V q2745 q2747 qs52 q145 q2748) (by decide +kernel) rfl (by decide) (by decide) rfl (Nat.le_of_ble_eq_true rfl) dX4_clear_1 ?_
  intro Az1 Fz2 hc1
  obtain ⟨hm, hb, ht, hka, hkf⟩ := hc1
  refine j_ild4 hk dX4_clear_4 rfl rfl ?_
  refine j_sSi hk hl0 (sc_isSlot hls (v := si) (hr)) 1 (lw_S q2752 q2753 q145 q2754) (by decide +kernel) rfl (by decide) (by decide) rfl (Nat.le_of_ble_eq_true rfl) dX4_clear_5 ?_
  refine j_ifeqB hk dX4_clear_8 rfl (tgt := 23) (fun h8 => ?_) (fun h8 => ?_)
  · refine j_ald4 hk dX4_clear_23 rfl rfl ?_
    refine j_iconst (n := 1) hk dX4_clear_24 ?_
    refine j_mVi hE hk hl0 hF (mc_fail hls hE (A := Az1) (F := Fz2) (n := 1) ) 1 (lw_V q2755 q2757 qs53 q145 q2758) (by decide +kernel) rfl (by decide) (by decide) rfl (Nat.le_of_ble_eq_true rfl) dX4_clear_25 ?_
    rintro _ _ _ ⟨rfl, rfl, rfl⟩
    refine j_miret hk he rfl dX4_clear_28 (Nat.le_refl _) (Nat.le_refl _) ?_
    have e : sp_clear g si = (1, 0, g) := by simp [sp_clear, isSl, h8]
    rw [mP, e]
    exact ⟨rfl, iup_s _ _ _, hm.up4⟩
  · have q1 := of_decide_eq_true h8
    obtain ⟨s, rfl⟩ : ∃ s : Nat, si = ((s : Nat) : Int) := ⟨si.toNat, by omega⟩
    refine j_ald4 hk dX4_clear_11 rfl rfl ?_
    refine j_ald4 hk dX4_clear_12 rfl rfl ?_
    refine j_ild4 hk dX4_clear_13 rfl rfl ?_
    refine j_mVi hE hk hl0 hF (mc_clears hls hE (A := Az1) (F := Fz2) (s := s) (S := g.1.1) (V := g.1.2) (hm.1) (by omega)) 1 (lw_V q2861 q2863 qs69 q145 q2864) (by decide +kernel) rfl (by decide) (by decide) rfl (Nat.le_of_ble_eq_true rfl) dX4_clear_14 ?_
    intro rz6 Az7 Fz8 hc14
    obtain ⟨rfl, hc14⟩ := hc14
    obtain ⟨hN14, hk14, rfl⟩ := hc14
    refine j_mVi hE hk hl0 hF (mc_commit hls hE (A := Az7) (F := Fz2) (rv := (((g.1.1 s).length : Nat) : Int)) (hm.2.keep (js := []) hk14 kF.rf (by decide) (by decide)) (by rw [hk14 1 (by decide)]; exact hb) (hN14)) 1 (lw_V q2805 q2807 qs61 q145 q2808) (by decide +kernel) rfl (by decide) (by decide) rfl (Nat.le_of_ble_eq_true rfl) dX4_clear_17 ?_
    intro rz9 Az10 Fz11 hc17
    obtain ⟨rfl, hc17⟩ := hc17
    obtain ⟨hp, hp3, hp5⟩ := hc17
    refine j_goto (tgt := 28) hk dX4_clear_20 rfl ?_
    refine j_miret hk he rfl dX4_clear_28 (Nat.le_refl _) (Nat.le_refl _) ?_
    have e : sp_clear g (s : Int) = (0, (((g.1.1 s).length : Nat) : Int), gpush g (sset g.1.1 s [], g.1.2)) := by simp [sp_clear, isSl]; omega
    rw [mP, e]
    exact ⟨rfl, by rw [hp5 4 (by decide)]; exact ht, hp⟩
set_option maxHeartbeats 1500000 in
/-- setValue(CI)I -/
theorem mc_setValue {l : Launch} {E : jE} {m : Nat} {ad : Nat → Nat} {A : Nat → Nat → Int} {F : Nat → Int} (hls : l.stackTraces = false) (hE : jSt E) {ci : Int} {vi : Int} {g : SS} (hR : mR A F g) (hr : jr ci ∧ jr vi) : mC l E yX4_setValue cX4_setValue 3 (some .int) 3 58 [.ref m, .int (jI ci), .int (jI vi)] m ad A F (mQi E m ad (fun r A2 F2 => mP (sp_setValue g ci vi) r A2 F2)) := by
  refine m_start (own := "ScheduleAnalyzerModel") (vs := [some (.ref m), some (.int (jI ci)), some (.int (jI vi))]) hls (by decide +kernel) rfl rfl rfl (Nat.le_of_ble_eq_true rfl) ?_
  intro K hk he hl0 hF hG0
  refine j_ald4 hk dX4_setValue_0 rfl rfl ?_
  refine j_mVv hE hk hl0 hF (mc_begin hls hE (A := A) (F := F)  (by first | assumption | omega)) 0 (lw_V q2745 q2747 qs52 q145 q2748) (by decide +kernel) rfl (by decide) (by decide) rfl (Nat.le_of_ble_eq_true rfl) dX4_setValue_1 ?_
  intro Az1 Fz2 hc1
  obtain ⟨hm, hb, ht, hka, hkf⟩ := hc1
  refine j_ild4 hk dX4_setValue_4 rfl rfl ?_
  refine j_sSi hk hl0 (sc_isItem hls (v := ci) (hr.1)) 1 (lw_S q2777 q2778 q145 q2779) (by decide +kernel) rfl (by decide) (by decide) rfl (Nat.le_of_ble_eq_true rfl) dX4_setValue_5 ?_
  refine j_ifeqB hk dX4_setValue_8 rfl (tgt := 38) (fun h8 => ?_) (fun h8 => ?_)
  · refine j_ald4 hk dX4_setValue_38 rfl rfl ?_
    refine j_iconst (n := 1) hk dX4_setValue_39 ?_
    refine j_mVi hE hk hl0 hF (mc_fail hls hE (A := Az1) (F := Fz2) (n := 1) ) 1 (lw_V q2755 q2757 qs53 q145 q2758) (by decide +kernel) rfl (by decide) (by decide) rfl (Nat.le_of_ble_eq_true rfl) dX4_setValue_40 ?_
    rintro _ _ _ ⟨rfl, rfl, rfl⟩
    refine j_miret hk he rfl dX4_setValue_43 (Nat.le_refl _) (Nat.le_refl _) ?_
    have e : sp_setValue g ci vi = (1, 0, g) := by simp [sp_setValue, isIt, h8]
    rw [mP, e]
    exact ⟨rfl, iup_s _ _ _, hm.up4⟩
  · refine j_ild4 hk dX4_setValue_11 rfl rfl ?_
    refine j_iconst (n := 0) hk dX4_setValue_12 ?_
    refine j_sipush (n := 999) hk rfl dX4_setValue_13 ?_
    refine j_sSi hk hl0 (sc_in hls (v := vi) (a := 0) (b := 999) (by omega)) 3 (lw_S q2734 q2735 q145 q2736) (by decide +kernel) rfl (by decide) (by decide) rfl (Nat.le_of_ble_eq_true rfl) dX4_setValue_16 ?_
    refine j_ifeqB hk dX4_setValue_19 rfl (tgt := 38) (fun h19 => ?_) (fun h19 => ?_)
    · refine j_ald4 hk dX4_setValue_38 rfl rfl ?_
      refine j_iconst (n := 1) hk dX4_setValue_39 ?_
      refine j_mVi hE hk hl0 hF (mc_fail hls hE (A := Az1) (F := Fz2) (n := 1) ) 1 (lw_V q2755 q2757 qs53 q145 q2758) (by decide +kernel) rfl (by decide) (by decide) rfl (Nat.le_of_ble_eq_true rfl) dX4_setValue_40 ?_
      rintro _ _ _ ⟨rfl, rfl, rfl⟩
      refine j_miret hk he rfl dX4_setValue_43 (Nat.le_refl _) (Nat.le_refl _) ?_
      have e : sp_setValue g ci vi = (1, 0, g) := by simp [sp_setValue, isIt, h8, h19]
      rw [mP, e]
      exact ⟨rfl, iup_s _ _ _, hm.up4⟩
    · have q1 := of_decide_eq_true h8
      have q2 := of_decide_eq_true h19
      obtain ⟨v, rfl⟩ : ∃ v : Nat, vi = ((v : Nat) : Int) := ⟨vi.toNat, by omega⟩
      obtain ⟨c, rfl⟩ : ∃ c : Nat, ci = ((c + 97 : Nat) : Int) := ⟨(ci - 97).toNat, by omega⟩
      refine j_ald4 hk dX4_setValue_22 rfl rfl ?_
      refine j_ald4 hk dX4_setValue_23 rfl rfl ?_
      refine j_ild4 hk dX4_setValue_24 rfl rfl ?_
      refine j_bipush (n := 97) hk rfl dX4_setValue_25 ?_
      refine j_isub hk dX4_setValue_27 ?_
      refine j_top (z2 := ((c : Nat) : Int)) (by omega) ?_
      refine j_ild4 hk dX4_setValue_28 rfl rfl ?_
      refine j_mVi hE hk hl0 hF (mc_setsValue hls hE (A := Az1) (F := Fz2) (i := c) (v := v) (S := g.1.1) (V := g.1.2) (hm.1) (by omega) (by omega)) 2 (lw_V q2869 q2871 qs70 q145 q2872) (by decide +kernel) rfl (by decide) (by decide) rfl (Nat.le_of_ble_eq_true rfl) dX4_setValue_29 ?_
      intro rz9 Az10 Fz11 hc29
      obtain ⟨rfl, hc29⟩ := hc29
      obtain ⟨hN29, hk29, rfl⟩ := hc29
      refine j_mVi hE hk hl0 hF (mc_commit hls hE (A := Az10) (F := Fz2) (rv := ((g.1.2 c : Nat) : Int)) (hm.2.keep (js := []) hk29 kF.rf (by decide) (by decide)) (by rw [hk29 1 (by decide)]; exact hb) (hN29)) 1 (lw_V q2805 q2807 qs61 q145 q2808) (by decide +kernel) rfl (by decide) (by decide) rfl (Nat.le_of_ble_eq_true rfl) dX4_setValue_32 ?_
      intro rz12 Az13 Fz14 hc32
      obtain ⟨rfl, hc32⟩ := hc32
      obtain ⟨hp, hp3, hp5⟩ := hc32
      refine j_goto (tgt := 43) hk dX4_setValue_35 rfl ?_
      refine j_miret hk he rfl dX4_setValue_43 (Nat.le_refl _) (Nat.le_refl _) ?_
      have e : sp_setValue g ((c + 97 : Nat) : Int) (v : Int) = (0, ((g.1.2 c : Nat) : Int), gpush g (g.1.1, fun j => if j = c then v else g.1.2 j)) := by simp [sp_setValue, isIt, show (((c : Nat) : Int) + 97 - 97).toNat = c by omega]; omega
      rw [mP, e]
      exact ⟨rfl, by rw [hp5 4 (by decide)]; exact ht, hp⟩
set_option maxHeartbeats 1500000 in
/-- addEnd(IIZ)I -/
theorem mc_addEnd {l : Launch} {E : jE} {m : Nat} {ad : Nat → Nat} {A : Nat → Nat → Int} {F : Nat → Int} (hls : l.stackTraces = false) (hE : jSt E) {si : Int} {ti : Int} {c : Bool} {g : SS} (hR : mR A F g) (hr : jr si ∧ jr ti) : mC l E yX4_addEnd cX4_addEnd 4 (some .int) 4 81 [.ref m, .int (jI si), .int (jI ti), .int (jI (jB c))] m ad A F (mQi E m ad (fun r A2 F2 => mP (sp_addEnd g si ti c) r A2 F2)) := by
  refine m_start (own := "ScheduleAnalyzerModel") (vs := [some (.ref m), some (.int (jI si)), some (.int (jI ti)), some (.int (jI (jB c)))]) hls (by decide +kernel) rfl rfl rfl (Nat.le_of_ble_eq_true rfl) ?_
  intro K hk he hl0 hF hG0
  refine j_ald4 hk dX4_addEnd_0 rfl rfl ?_
  refine j_mVv hE hk hl0 hF (mc_begin hls hE (A := A) (F := F)  (by first | assumption | omega)) 0 (lw_V q2745 q2747 qs52 q145 q2748) (by decide +kernel) rfl (by decide) (by decide) rfl (Nat.le_of_ble_eq_true rfl) dX4_addEnd_1 ?_
  intro Az1 Fz2 hc1
  obtain ⟨hm, hb, ht, hka, hkf⟩ := hc1
  refine j_ild4 hk dX4_addEnd_4 rfl rfl ?_
  refine j_sSi hk hl0 (sc_isSlot hls (v := si) (hr.1)) 1 (lw_S q2752 q2753 q145 q2754) (by decide +kernel) rfl (by decide) (by decide) rfl (Nat.le_of_ble_eq_true rfl) dX4_addEnd_5 ?_
  refine j_ifneB hk dX4_addEnd_8 rfl (tgt := 17) (fun h8 => ?_) (fun h8 => ?_)
  · refine j_ild4 hk dX4_addEnd_17 rfl rfl ?_
    refine j_sSi hk hl0 (sc_isTransaction hls (v := ti) (hr.2)) 1 (lw_S q2774 q2775 q145 q2776) (by decide +kernel) rfl (by decide) (by decide) rfl (Nat.le_of_ble_eq_true rfl) dX4_addEnd_18 ?_
    refine j_ifneB hk dX4_addEnd_21 rfl (tgt := 30) (fun h21 => ?_) (fun h21 => ?_)
    · have q1 := of_decide_eq_true h8
      have q2 := of_decide_eq_true h21
      obtain ⟨s, rfl⟩ : ∃ s : Nat, si = ((s : Nat) : Int) := ⟨si.toNat, by omega⟩
      obtain ⟨t, rfl⟩ : ∃ t : Nat, ti = ((t : Nat) : Int) := ⟨ti.toNat, by omega⟩
      have e1 : isSl (s : Int) = true := by simp [isSl]; omega
      have e2 : isTr (t : Int) = true := by simp [isTr]; omega
      refine j_ald4 hk dX4_addEnd_30 rfl rfl ?_
      refine j_ild4 hk dX4_addEnd_31 rfl rfl ?_
      refine j_ild4 hk dX4_addEnd_32 rfl rfl ?_
      refine j_mVi hE hk hl0 hF (mc_isFull hls hE (A := Az1) (F := Fz2) (s := s) (t := t) (S := g.1.1) (V := g.1.2) (hm.1) (by omega) (by omega)) 2 (lw_V q2813 q2815 qs62 q145 q2816) (by decide +kernel) rfl (by decide) (by decide) rfl (Nat.le_of_ble_eq_true rfl) dX4_addEnd_33 ?_
      rintro _ _ _ ⟨rfl, rfl, rfl⟩
      refine j_ifeqB hk dX4_addEnd_36 rfl (tgt := 47) (fun h36 => ?_) (fun h36 => ?_)
      · refine j_ald4 hk dX4_addEnd_47 rfl rfl ?_
        refine j_ald4 hk dX4_addEnd_48 rfl rfl ?_
        refine j_ild4 hk dX4_addEnd_49 rfl rfl ?_
        refine j_ild4 hk dX4_addEnd_50 rfl rfl ?_
        refine j_ifeqB hk dX4_addEnd_51 rfl (tgt := 58) (fun h51 => ?_) (fun h51 => ?_)
        · refine j_iconst (n := 3) hk dX4_addEnd_58 ?_
          refine j_ild4 hk dX4_addEnd_59 rfl rfl ?_
          refine j_iconst (n := 0) hk dX4_addEnd_60 ?_
          refine j_sSi hk hl0 (sc_coded hls (k := 3) (t := t) (i := 0) ) 3 (lw_S q2780 q2781 q145 q2782) (by decide +kernel) rfl (by decide) (by decide) rfl (Nat.le_of_ble_eq_true rfl) dX4_addEnd_61 ?_
          refine j_top (z2 := ((opV (3, t, 0) : Nat) : Int)) (rfl) ?_
          refine j_mVi hE hk hl0 hF (mc_adds hls hE (A := Az1) (F := Fz2) (s := s) (o := (3, t, 0)) (S := g.1.1) (V := g.1.2) (hm.1) (by omega) (by have := hm.1.len (s := s) (by omega); simp [isFullB] at h36; omega) (by simp [opOK, oK, oT, oI]; omega)) 2 (lw_V q2797 q2799 qs59 q145 q2800) (by decide +kernel) rfl (by decide) (by decide) rfl (Nat.le_of_ble_eq_true rfl) dX4_addEnd_64 ?_
          intro rz3 Az4 Fz5 hc64
          obtain ⟨rfl, hc64⟩ := hc64
          obtain ⟨hN64, hk64, rfl⟩ := hc64
          refine j_mVi hE hk hl0 hF (mc_commit hls hE (A := Az4) (F := Fz2) (rv := (((g.1.1 s).length + 1 : Nat) : Int)) (hm.2.keep (js := []) hk64 kF.rf (by decide) (by decide)) (by rw [hk64 1 (by decide)]; exact hb) (hN64)) 1 (lw_V q2805 q2807 qs61 q145 q2808) (by decide +kernel) rfl (by decide) (by decide) rfl (Nat.le_of_ble_eq_true rfl) dX4_addEnd_67 ?_
          intro rz6 Az7 Fz8 hc67
          obtain ⟨rfl, hc67⟩ := hc67
          obtain ⟨hp, hp3, hp5⟩ := hc67
          refine j_miret hk he rfl dX4_addEnd_70 (Nat.le_refl _) (Nat.le_refl _) ?_
          have e : sp_addEnd g (s : Int) (t : Int) c = (0, (((g.1.1 s).length + 1 : Nat) : Int), gpush g (sset g.1.1 s (g.1.1 s ++ [(3, t, 0)]), g.1.2)) := by simp [sp_addEnd, e1, e2, sp_add, oT, h36, h51]
          rw [mP, e]
          exact ⟨rfl, by rw [hp5 4 (by decide)]; exact ht, hp⟩
        · refine j_iconst (n := 2) hk dX4_addEnd_54 ?_
          refine j_goto (tgt := 59) hk dX4_addEnd_55 rfl ?_
          refine j_ild4 hk dX4_addEnd_59 rfl rfl ?_
          refine j_iconst (n := 0) hk dX4_addEnd_60 ?_
          refine j_sSi hk hl0 (sc_coded hls (k := 2) (t := t) (i := 0) ) 3 (lw_S q2780 q2781 q145 q2782) (by decide +kernel) rfl (by decide) (by decide) rfl (Nat.le_of_ble_eq_true rfl) dX4_addEnd_61 ?_
          refine j_top (z2 := ((opV (2, t, 0) : Nat) : Int)) (rfl) ?_
          refine j_mVi hE hk hl0 hF (mc_adds hls hE (A := Az1) (F := Fz2) (s := s) (o := (2, t, 0)) (S := g.1.1) (V := g.1.2) (hm.1) (by omega) (by have := hm.1.len (s := s) (by omega); simp [isFullB] at h36; omega) (by simp [opOK, oK, oT, oI]; omega)) 2 (lw_V q2797 q2799 qs59 q145 q2800) (by decide +kernel) rfl (by decide) (by decide) rfl (Nat.le_of_ble_eq_true rfl) dX4_addEnd_64 ?_
          intro rz9 Az10 Fz11 hc64
          obtain ⟨rfl, hc64⟩ := hc64
          obtain ⟨hN64, hk64, rfl⟩ := hc64
          refine j_mVi hE hk hl0 hF (mc_commit hls hE (A := Az10) (F := Fz2) (rv := (((g.1.1 s).length + 1 : Nat) : Int)) (hm.2.keep (js := []) hk64 kF.rf (by decide) (by decide)) (by rw [hk64 1 (by decide)]; exact hb) (hN64)) 1 (lw_V q2805 q2807 qs61 q145 q2808) (by decide +kernel) rfl (by decide) (by decide) rfl (Nat.le_of_ble_eq_true rfl) dX4_addEnd_67 ?_
          intro rz12 Az13 Fz14 hc67
          obtain ⟨rfl, hc67⟩ := hc67
          obtain ⟨hp, hp3, hp5⟩ := hc67
          refine j_miret hk he rfl dX4_addEnd_70 (Nat.le_refl _) (Nat.le_refl _) ?_
          have e : sp_addEnd g (s : Int) (t : Int) c = (0, (((g.1.1 s).length + 1 : Nat) : Int), gpush g (sset g.1.1 s (g.1.1 s ++ [(2, t, 0)]), g.1.2)) := by simp [sp_addEnd, e1, e2, sp_add, oT, h36, h51]
          rw [mP, e]
          exact ⟨rfl, by rw [hp5 4 (by decide)]; exact ht, hp⟩
      · refine j_ald4 hk dX4_addEnd_39 rfl rfl ?_
        refine j_iconst (n := 3) hk dX4_addEnd_40 ?_
        refine j_mVi hE hk hl0 hF (mc_fail hls hE (A := Az1) (F := Fz2) (n := 3) ) 1 (lw_V q2755 q2757 qs53 q145 q2758) (by decide +kernel) rfl (by decide) (by decide) rfl (Nat.le_of_ble_eq_true rfl) dX4_addEnd_41 ?_
        rintro _ _ _ ⟨rfl, rfl, rfl⟩
        refine j_goto (tgt := 70) hk dX4_addEnd_44 rfl ?_
        refine j_miret hk he rfl dX4_addEnd_70 (Nat.le_refl _) (Nat.le_refl _) ?_
        have e : sp_addEnd g (s : Int) (t : Int) c = (3, 0, g) := by simp [sp_addEnd, e1, e2, sp_add, oT, h36]
        rw [mP, e]
        exact ⟨rfl, iup_s _ _ _, hm.up4⟩
    · refine j_ald4 hk dX4_addEnd_24 rfl rfl ?_
      refine j_iconst (n := 2) hk dX4_addEnd_25 ?_
      refine j_mVi hE hk hl0 hF (mc_fail hls hE (A := Az1) (F := Fz2) (n := 2) ) 1 (lw_V q2755 q2757 qs53 q145 q2758) (by decide +kernel) rfl (by decide) (by decide) rfl (Nat.le_of_ble_eq_true rfl) dX4_addEnd_26 ?_
      rintro _ _ _ ⟨rfl, rfl, rfl⟩
      refine j_miret hk he rfl dX4_addEnd_29 (Nat.le_refl _) (Nat.le_refl _) ?_
      have e : sp_addEnd g si ti c = (2, 0, g) := by simp [sp_addEnd, isSl, isTr, h8, h21]
      rw [mP, e]
      exact ⟨rfl, iup_s _ _ _, hm.up4⟩
  · refine j_ald4 hk dX4_addEnd_11 rfl rfl ?_
    refine j_iconst (n := 1) hk dX4_addEnd_12 ?_
    refine j_mVi hE hk hl0 hF (mc_fail hls hE (A := Az1) (F := Fz2) (n := 1) ) 1 (lw_V q2755 q2757 qs53 q145 q2758) (by decide +kernel) rfl (by decide) (by decide) rfl (Nat.le_of_ble_eq_true rfl) dX4_addEnd_13 ?_
    rintro _ _ _ ⟨rfl, rfl, rfl⟩
    refine j_miret hk he rfl dX4_addEnd_16 (Nat.le_refl _) (Nat.le_refl _) ?_
    have e : sp_addEnd g si ti c = (1, 0, g) := by simp [sp_addEnd, isSl, h8]
    rw [mP, e]
    exact ⟨rfl, iup_s _ _ _, hm.up4⟩
set_option maxHeartbeats 1500000 in
/-- addAccess(ICIC)I -/
theorem mc_addAccess {l : Launch} {E : jE} {m : Nat} {ad : Nat → Nat} {A : Nat → Nat → Int} {F : Nat → Int} (hls : l.stackTraces = false) (hE : jSt E) {si : Int} {a : Int} {ti : Int} {ci : Int} {g : SS} (hR : mR A F g) (hr : jr si ∧ jr a ∧ jr ti ∧ jr ci) : mC l E yX4_addAccess cX4_addAccess 5 (some .int) 4 81 [.ref m, .int (jI si), .int (jI a), .int (jI ti), .int (jI ci)] m ad A F (mQi E m ad (fun r A2 F2 => mP (sp_addAccess g si a ti ci) r A2 F2)) := by
  refine m_start (own := "ScheduleAnalyzerModel") (vs := [some (.ref m), some (.int (jI si)), some (.int (jI a)), some (.int (jI ti)), some (.int (jI ci))]) hls (by decide +kernel) rfl rfl rfl (Nat.le_of_ble_eq_true rfl) ?_
  intro K hk he hl0 hF hG0
  refine j_ald4 hk dX4_addAccess_0 rfl rfl ?_
  refine j_mVv hE hk hl0 hF (mc_begin hls hE (A := A) (F := F)  (by first | assumption | omega)) 0 (lw_V q2745 q2747 qs52 q145 q2748) (by decide +kernel) rfl (by decide) (by decide) rfl (Nat.le_of_ble_eq_true rfl) dX4_addAccess_1 ?_
  intro Az1 Fz2 hc1
  obtain ⟨hm, hb, ht, hka, hkf⟩ := hc1
  refine j_ild4 hk dX4_addAccess_4 rfl rfl ?_
  refine j_sSi hk hl0 (sc_isSlot hls (v := si) (hr.1)) 1 (lw_S q2752 q2753 q145 q2754) (by decide +kernel) rfl (by decide) (by decide) rfl (Nat.le_of_ble_eq_true rfl) dX4_addAccess_5 ?_
  refine j_ifneB hk dX4_addAccess_8 rfl (tgt := 17) (fun h8 => ?_) (fun h8 => ?_)
  · refine j_ild4 hk dX4_addAccess_17 rfl rfl ?_
    refine j_bipush (n := 114) hk rfl dX4_addAccess_18 ?_
    refine j_icmp_eq hk (by omega) (by omega) dX4_addAccess_20 rfl (tgt := 29) (fun h20 => ?_) (fun h20 => ?_)
    · refine j_ild4 hk dX4_addAccess_29 rfl rfl ?_
      refine j_sSi hk hl0 (sc_isTransaction hls (v := ti) (by omega)) 1 (lw_S q2774 q2775 q145 q2776) (by decide +kernel) rfl (by decide) (by decide) rfl (Nat.le_of_ble_eq_true rfl) dX4_addAccess_30 ?_
      refine j_ifeqB hk dX4_addAccess_33 rfl (tgt := 44) (fun h33 => ?_) (fun h33 => ?_)
      · refine j_ald4 hk dX4_addAccess_44 rfl rfl ?_
        refine j_iconst (n := 2) hk dX4_addAccess_45 ?_
        refine j_mVi hE hk hl0 hF (mc_fail hls hE (A := Az1) (F := Fz2) (n := 2) ) 1 (lw_V q2755 q2757 qs53 q145 q2758) (by decide +kernel) rfl (by decide) (by decide) rfl (Nat.le_of_ble_eq_true rfl) dX4_addAccess_46 ?_
        rintro _ _ _ ⟨rfl, rfl, rfl⟩
        refine j_miret hk he rfl dX4_addAccess_49 (Nat.le_refl _) (Nat.le_refl _) ?_
        have e : sp_addAccess g si a ti ci = (2, 0, g) := by simp [sp_addAccess, isSl, isTr, isIt, h8, h33]
        rw [mP, e]
        exact ⟨rfl, iup_s _ _ _, hm.up4⟩
      · refine j_ild hk dX4_addAccess_36 rfl ?_
        refine j_sSi hk hl0 (sc_isItem hls (v := ci) (by omega)) 1 (lw_S q2777 q2778 q145 q2779) (by decide +kernel) rfl (by decide) (by decide) rfl (Nat.le_of_ble_eq_true rfl) dX4_addAccess_38 ?_
        refine j_ifneB hk dX4_addAccess_41 rfl (tgt := 50) (fun h41 => ?_) (fun h41 => ?_)
        · have q1 := of_decide_eq_true h8
          have q2 := of_decide_eq_true h33
          have q3 := of_decide_eq_true h41
          obtain ⟨s, rfl⟩ : ∃ s : Nat, si = ((s : Nat) : Int) := ⟨si.toNat, by omega⟩
          obtain ⟨t, rfl⟩ : ∃ t : Nat, ti = ((t : Nat) : Int) := ⟨ti.toNat, by omega⟩
          obtain ⟨c, rfl⟩ : ∃ c : Nat, ci = ((c + 97 : Nat) : Int) := ⟨(ci - 97).toNat, by omega⟩
          have e1 : isSl (s : Int) = true := by simp [isSl]; omega
          have e2 : isTr (t : Int) = true := by simp [isTr]; omega
          have e3 : isIt ((c : Int) + 97) = true := by simp [isIt]; omega
          have e4 : ((c : Int) + 97 - 97).toNat = c := by omega
          refine j_ald4 hk dX4_addAccess_50 rfl rfl ?_
          refine j_ild4 hk dX4_addAccess_51 rfl rfl ?_
          refine j_ild4 hk dX4_addAccess_52 rfl rfl ?_
          refine j_mVi hE hk hl0 hF (mc_isFull hls hE (A := Az1) (F := Fz2) (s := s) (t := t) (S := g.1.1) (V := g.1.2) (hm.1) (by omega) (by omega)) 2 (lw_V q2813 q2815 qs62 q145 q2816) (by decide +kernel) rfl (by decide) (by decide) rfl (Nat.le_of_ble_eq_true rfl) dX4_addAccess_53 ?_
          rintro _ _ _ ⟨rfl, rfl, rfl⟩
          refine j_ifeqB hk dX4_addAccess_56 rfl (tgt := 67) (fun h56 => ?_) (fun h56 => ?_)
          · refine j_ald4 hk dX4_addAccess_67 rfl rfl ?_
            refine j_ald4 hk dX4_addAccess_68 rfl rfl ?_
            refine j_ild4 hk dX4_addAccess_69 rfl rfl ?_
            refine j_ild4 hk dX4_addAccess_70 rfl rfl ?_
            refine j_sSi hk hl0 (sc_kindOfLetter hls (c := a) (by omega)) 1 (lw_S q2771 q2772 q145 q2773) (by decide +kernel) rfl (by decide) (by decide) rfl (Nat.le_of_ble_eq_true rfl) dX4_addAccess_71 ?_
            refine j_top (z2 := ((0 : Nat) : Int)) (by simp [h20]) ?_
            refine j_ild4 hk dX4_addAccess_74 rfl rfl ?_
            refine j_ild hk dX4_addAccess_75 rfl ?_
            refine j_bipush (n := 97) hk rfl dX4_addAccess_77 ?_
            refine j_isub hk dX4_addAccess_79 ?_
            refine j_top (z2 := ((c : Nat) : Int)) (by omega) ?_
            refine j_sSi hk hl0 (sc_coded hls (k := 0) (t := t) (i := c) ) 3 (lw_S q2780 q2781 q145 q2782) (by decide +kernel) rfl (by decide) (by decide) rfl (Nat.le_of_ble_eq_true rfl) dX4_addAccess_80 ?_
            refine j_top (z2 := ((opV (0, t, c) : Nat) : Int)) (rfl) ?_
            refine j_mVi hE hk hl0 hF (mc_adds hls hE (A := Az1) (F := Fz2) (s := s) (o := (0, t, c)) (S := g.1.1) (V := g.1.2) (hm.1) (by omega) (by have := hm.1.len (s := s) (by omega); simp [isFullB] at h56; omega) (by simp [opOK, oK, oT, oI]; omega)) 2 (lw_V q2797 q2799 qs59 q145 q2800) (by decide +kernel) rfl (by decide) (by decide) rfl (Nat.le_of_ble_eq_true rfl) dX4_addAccess_83 ?_
            intro rz6 Az7 Fz8 hc83
            obtain ⟨rfl, hc83⟩ := hc83
            obtain ⟨hN83, hk83, rfl⟩ := hc83
            refine j_mVi hE hk hl0 hF (mc_commit hls hE (A := Az7) (F := Fz2) (rv := (((g.1.1 s).length + 1 : Nat) : Int)) (hm.2.keep (js := []) hk83 kF.rf (by decide) (by decide)) (by rw [hk83 1 (by decide)]; exact hb) (hN83)) 1 (lw_V q2805 q2807 qs61 q145 q2808) (by decide +kernel) rfl (by decide) (by decide) rfl (Nat.le_of_ble_eq_true rfl) dX4_addAccess_86 ?_
            intro rz9 Az10 Fz11 hc86
            obtain ⟨rfl, hc86⟩ := hc86
            obtain ⟨hp, hp3, hp5⟩ := hc86
            refine j_miret hk he rfl dX4_addAccess_89 (Nat.le_refl _) (Nat.le_refl _) ?_
            have e : sp_addAccess g (s : Int) a (t : Int) ((c + 97 : Nat) : Int) = (0, (((g.1.1 s).length + 1 : Nat) : Int), gpush g (sset g.1.1 s (g.1.1 s ++ [(0, t, c)]), g.1.2)) := by simp [sp_addAccess, e1, e2, e3, e4, sp_add, oT, h56, h20]
            rw [mP, e]
            exact ⟨rfl, by rw [hp5 4 (by decide)]; exact ht, hp⟩
          · refine j_ald4 hk dX4_addAccess_59 rfl rfl ?_
            refine j_iconst (n := 3) hk dX4_addAccess_60 ?_
            refine j_mVi hE hk hl0 hF (mc_fail hls hE (A := Az1) (F := Fz2) (n := 3) ) 1 (lw_V q2755 q2757 qs53 q145 q2758) (by decide +kernel) rfl (by decide) (by decide) rfl (Nat.le_of_ble_eq_true rfl) dX4_addAccess_61 ?_
            rintro _ _ _ ⟨rfl, rfl, rfl⟩
            refine j_goto (tgt := 89) hk dX4_addAccess_64 rfl ?_
            refine j_miret hk he rfl dX4_addAccess_89 (Nat.le_refl _) (Nat.le_refl _) ?_
            have e : sp_addAccess g (s : Int) a (t : Int) ((c + 97 : Nat) : Int) = (3, 0, g) := by simp [sp_addAccess, e1, e2, e3, sp_add, oT, h56, h20]
            rw [mP, e]
            exact ⟨rfl, iup_s _ _ _, hm.up4⟩
        · refine j_ald4 hk dX4_addAccess_44 rfl rfl ?_
          refine j_iconst (n := 2) hk dX4_addAccess_45 ?_
          refine j_mVi hE hk hl0 hF (mc_fail hls hE (A := Az1) (F := Fz2) (n := 2) ) 1 (lw_V q2755 q2757 qs53 q145 q2758) (by decide +kernel) rfl (by decide) (by decide) rfl (Nat.le_of_ble_eq_true rfl) dX4_addAccess_46 ?_
          rintro _ _ _ ⟨rfl, rfl, rfl⟩
          refine j_miret hk he rfl dX4_addAccess_49 (Nat.le_refl _) (Nat.le_refl _) ?_
          have e : sp_addAccess g si a ti ci = (2, 0, g) := by simp [sp_addAccess, isSl, isTr, isIt, h8, h33, h41]
          rw [mP, e]
          exact ⟨rfl, iup_s _ _ _, hm.up4⟩
    · refine j_ild4 hk dX4_addAccess_23 rfl rfl ?_
      refine j_bipush (n := 119) hk rfl dX4_addAccess_24 ?_
      refine j_icmp_ne hk (by omega) (by omega) dX4_addAccess_26 rfl (tgt := 44) (fun h26 => ?_) (fun h26 => ?_)
      · refine j_ald4 hk dX4_addAccess_44 rfl rfl ?_
        refine j_iconst (n := 2) hk dX4_addAccess_45 ?_
        refine j_mVi hE hk hl0 hF (mc_fail hls hE (A := Az1) (F := Fz2) (n := 2) ) 1 (lw_V q2755 q2757 qs53 q145 q2758) (by decide +kernel) rfl (by decide) (by decide) rfl (Nat.le_of_ble_eq_true rfl) dX4_addAccess_46 ?_
        rintro _ _ _ ⟨rfl, rfl, rfl⟩
        refine j_miret hk he rfl dX4_addAccess_49 (Nat.le_refl _) (Nat.le_refl _) ?_
        have e : sp_addAccess g si a ti ci = (2, 0, g) := by simp [sp_addAccess, isSl, isTr, isIt, h8, h20, h26]
        rw [mP, e]
        exact ⟨rfl, iup_s _ _ _, hm.up4⟩
      · refine j_ild4 hk dX4_addAccess_29 rfl rfl ?_
        refine j_sSi hk hl0 (sc_isTransaction hls (v := ti) (by omega)) 1 (lw_S q2774 q2775 q145 q2776) (by decide +kernel) rfl (by decide) (by decide) rfl (Nat.le_of_ble_eq_true rfl) dX4_addAccess_30 ?_
        refine j_ifeqB hk dX4_addAccess_33 rfl (tgt := 44) (fun h33 => ?_) (fun h33 => ?_)
        · refine j_ald4 hk dX4_addAccess_44 rfl rfl ?_
          refine j_iconst (n := 2) hk dX4_addAccess_45 ?_
          refine j_mVi hE hk hl0 hF (mc_fail hls hE (A := Az1) (F := Fz2) (n := 2) ) 1 (lw_V q2755 q2757 qs53 q145 q2758) (by decide +kernel) rfl (by decide) (by decide) rfl (Nat.le_of_ble_eq_true rfl) dX4_addAccess_46 ?_
          rintro _ _ _ ⟨rfl, rfl, rfl⟩
          refine j_miret hk he rfl dX4_addAccess_49 (Nat.le_refl _) (Nat.le_refl _) ?_
          have e : sp_addAccess g si a ti ci = (2, 0, g) := by simp [sp_addAccess, isSl, isTr, isIt, h8, h33]
          rw [mP, e]
          exact ⟨rfl, iup_s _ _ _, hm.up4⟩
        · refine j_ild hk dX4_addAccess_36 rfl ?_
          refine j_sSi hk hl0 (sc_isItem hls (v := ci) (by omega)) 1 (lw_S q2777 q2778 q145 q2779) (by decide +kernel) rfl (by decide) (by decide) rfl (Nat.le_of_ble_eq_true rfl) dX4_addAccess_38 ?_
          refine j_ifneB hk dX4_addAccess_41 rfl (tgt := 50) (fun h41 => ?_) (fun h41 => ?_)
          · have q1 := of_decide_eq_true h8
            have q2 := of_decide_eq_true h33
            have q3 := of_decide_eq_true h41
            obtain ⟨s, rfl⟩ : ∃ s : Nat, si = ((s : Nat) : Int) := ⟨si.toNat, by omega⟩
            obtain ⟨t, rfl⟩ : ∃ t : Nat, ti = ((t : Nat) : Int) := ⟨ti.toNat, by omega⟩
            obtain ⟨c, rfl⟩ : ∃ c : Nat, ci = ((c + 97 : Nat) : Int) := ⟨(ci - 97).toNat, by omega⟩
            have e1 : isSl (s : Int) = true := by simp [isSl]; omega
            have e2 : isTr (t : Int) = true := by simp [isTr]; omega
            have e3 : isIt ((c : Int) + 97) = true := by simp [isIt]; omega
            have e4 : ((c : Int) + 97 - 97).toNat = c := by omega
            refine j_ald4 hk dX4_addAccess_50 rfl rfl ?_
            refine j_ild4 hk dX4_addAccess_51 rfl rfl ?_
            refine j_ild4 hk dX4_addAccess_52 rfl rfl ?_
            refine j_mVi hE hk hl0 hF (mc_isFull hls hE (A := Az1) (F := Fz2) (s := s) (t := t) (S := g.1.1) (V := g.1.2) (hm.1) (by omega) (by omega)) 2 (lw_V q2813 q2815 qs62 q145 q2816) (by decide +kernel) rfl (by decide) (by decide) rfl (Nat.le_of_ble_eq_true rfl) dX4_addAccess_53 ?_
            rintro _ _ _ ⟨rfl, rfl, rfl⟩
            refine j_ifeqB hk dX4_addAccess_56 rfl (tgt := 67) (fun h56 => ?_) (fun h56 => ?_)
            · refine j_ald4 hk dX4_addAccess_67 rfl rfl ?_
              refine j_ald4 hk dX4_addAccess_68 rfl rfl ?_
              refine j_ild4 hk dX4_addAccess_69 rfl rfl ?_
              refine j_ild4 hk dX4_addAccess_70 rfl rfl ?_
              refine j_sSi hk hl0 (sc_kindOfLetter hls (c := a) (by omega)) 1 (lw_S q2771 q2772 q145 q2773) (by decide +kernel) rfl (by decide) (by decide) rfl (Nat.le_of_ble_eq_true rfl) dX4_addAccess_71 ?_
              refine j_top (z2 := ((1 : Nat) : Int)) (by rw [if_neg (by omega), if_pos (by omega)]; rfl) ?_
              refine j_ild4 hk dX4_addAccess_74 rfl rfl ?_
              refine j_ild hk dX4_addAccess_75 rfl ?_
              refine j_bipush (n := 97) hk rfl dX4_addAccess_77 ?_
              refine j_isub hk dX4_addAccess_79 ?_
              refine j_top (z2 := ((c : Nat) : Int)) (by omega) ?_
              refine j_sSi hk hl0 (sc_coded hls (k := 1) (t := t) (i := c) ) 3 (lw_S q2780 q2781 q145 q2782) (by decide +kernel) rfl (by decide) (by decide) rfl (Nat.le_of_ble_eq_true rfl) dX4_addAccess_80 ?_
              refine j_top (z2 := ((opV (1, t, c) : Nat) : Int)) (rfl) ?_
              refine j_mVi hE hk hl0 hF (mc_adds hls hE (A := Az1) (F := Fz2) (s := s) (o := (1, t, c)) (S := g.1.1) (V := g.1.2) (hm.1) (by omega) (by have := hm.1.len (s := s) (by omega); simp [isFullB] at h56; omega) (by simp [opOK, oK, oT, oI]; omega)) 2 (lw_V q2797 q2799 qs59 q145 q2800) (by decide +kernel) rfl (by decide) (by decide) rfl (Nat.le_of_ble_eq_true rfl) dX4_addAccess_83 ?_
              intro rz24 Az25 Fz26 hc83
              obtain ⟨rfl, hc83⟩ := hc83
              obtain ⟨hN83, hk83, rfl⟩ := hc83
              refine j_mVi hE hk hl0 hF (mc_commit hls hE (A := Az25) (F := Fz2) (rv := (((g.1.1 s).length + 1 : Nat) : Int)) (hm.2.keep (js := []) hk83 kF.rf (by decide) (by decide)) (by rw [hk83 1 (by decide)]; exact hb) (hN83)) 1 (lw_V q2805 q2807 qs61 q145 q2808) (by decide +kernel) rfl (by decide) (by decide) rfl (Nat.le_of_ble_eq_true rfl) dX4_addAccess_86 ?_
              intro rz27 Az28 Fz29 hc86
              obtain ⟨rfl, hc86⟩ := hc86
              obtain ⟨hp, hp3, hp5⟩ := hc86
              refine j_miret hk he rfl dX4_addAccess_89 (Nat.le_refl _) (Nat.le_refl _) ?_
              have e : sp_addAccess g (s : Int) a (t : Int) ((c + 97 : Nat) : Int) = (0, (((g.1.1 s).length + 1 : Nat) : Int), gpush g (sset g.1.1 s (g.1.1 s ++ [(1, t, c)]), g.1.2)) := by simp [sp_addAccess, e1, e2, e3, e4, sp_add, oT, h56, h20, h26]
              rw [mP, e]
              exact ⟨rfl, by rw [hp5 4 (by decide)]; exact ht, hp⟩
            · refine j_ald4 hk dX4_addAccess_59 rfl rfl ?_
              refine j_iconst (n := 3) hk dX4_addAccess_60 ?_
              refine j_mVi hE hk hl0 hF (mc_fail hls hE (A := Az1) (F := Fz2) (n := 3) ) 1 (lw_V q2755 q2757 qs53 q145 q2758) (by decide +kernel) rfl (by decide) (by decide) rfl (Nat.le_of_ble_eq_true rfl) dX4_addAccess_61 ?_
              rintro _ _ _ ⟨rfl, rfl, rfl⟩
              refine j_goto (tgt := 89) hk dX4_addAccess_64 rfl ?_
              refine j_miret hk he rfl dX4_addAccess_89 (Nat.le_refl _) (Nat.le_refl _) ?_
              have e : sp_addAccess g (s : Int) a (t : Int) ((c + 97 : Nat) : Int) = (3, 0, g) := by simp [sp_addAccess, e1, e2, e3, sp_add, oT, h56, h20, h26]
              rw [mP, e]
              exact ⟨rfl, iup_s _ _ _, hm.up4⟩
          · refine j_ald4 hk dX4_addAccess_44 rfl rfl ?_
            refine j_iconst (n := 2) hk dX4_addAccess_45 ?_
            refine j_mVi hE hk hl0 hF (mc_fail hls hE (A := Az1) (F := Fz2) (n := 2) ) 1 (lw_V q2755 q2757 qs53 q145 q2758) (by decide +kernel) rfl (by decide) (by decide) rfl (Nat.le_of_ble_eq_true rfl) dX4_addAccess_46 ?_
            rintro _ _ _ ⟨rfl, rfl, rfl⟩
            refine j_miret hk he rfl dX4_addAccess_49 (Nat.le_refl _) (Nat.le_refl _) ?_
            have e : sp_addAccess g si a ti ci = (2, 0, g) := by simp [sp_addAccess, isSl, isTr, isIt, h8, h33, h41]
            rw [mP, e]
            exact ⟨rfl, iup_s _ _ _, hm.up4⟩
  · refine j_ald4 hk dX4_addAccess_11 rfl rfl ?_
    refine j_iconst (n := 1) hk dX4_addAccess_12 ?_
    refine j_mVi hE hk hl0 hF (mc_fail hls hE (A := Az1) (F := Fz2) (n := 1) ) 1 (lw_V q2755 q2757 qs53 q145 q2758) (by decide +kernel) rfl (by decide) (by decide) rfl (Nat.le_of_ble_eq_true rfl) dX4_addAccess_13 ?_
    rintro _ _ _ ⟨rfl, rfl, rfl⟩
    refine j_miret hk he rfl dX4_addAccess_16 (Nat.le_refl _) (Nat.le_refl _) ?_
    have e : sp_addAccess g si a ti ci = (1, 0, g) := by simp [sp_addAccess, isSl, h8]
    rw [mP, e]
    exact ⟨rfl, iup_s _ _ _, hm.up4⟩
