set_option maxHeartbeats 1500000 in
/-- meanLength(I)D -/
theorem mc_meanLength {l : Launch} {E : jE} {m : Nat} {ad : Nat → Nat} {A : Nat → Nat → Int} {F : Nat → Int} (hls : l.stackTraces = false) (hE : jSt E) {si : Int} {g : SS} (hR : mR A F g) (hr : jr si) : mC l E yX4_meanLength cX4_meanLength 2 (some .double) 5 105 [.ref m, .int (jI si)] m ad A F (mQd E m ad (fun r A2 F2 => mPd (sp_meanLength g si) r A2 F2)) := by
  refine m_start (own := "ScheduleAnalyzerModel") (vs := [some (.ref m), some (.int (jI si))]) hls (by decide +kernel) rfl rfl rfl (Nat.le_of_ble_eq_true rfl) ?_
  intro K hk he hl0 hF hG0
  refine j_ald4 hk dX4_meanLength_0 rfl rfl ?_
  refine j_ild4 hk dX4_meanLength_1 rfl rfl ?_
  refine j_sSi hk hl0 (sc_isSlot hls (v := si) (hr)) 1 (lw_S q2752 q2753 q145 q2754) (by decide +kernel) rfl (by decide) (by decide) rfl (Nat.le_of_ble_eq_true rfl) dX4_meanLength_2 ?_
  refine j_ifneB hk dX4_meanLength_5 rfl (tgt := 12) (fun h5 => ?_) (fun h5 => ?_)
  · have q1 := of_decide_eq_true h5
    obtain ⟨s, rfl⟩ : ∃ s : Nat, si = ((s : Nat) : Int) := ⟨si.toNat, by omega⟩
    have e1 : isSl (s : Int) = true := by simp [isSl]; omega
    have hls2 := hR.1.len (s := s) (by omega)
    refine j_ald4 hk dX4_meanLength_12 rfl rfl ?_
    refine j_ild4 hk dX4_meanLength_13 rfl rfl ?_
    refine j_mVi hE hk hl0 hF (mc_count hls hE (A := A) (F := F) (s := s) (S := g.1.1) (V := g.1.2) (hR.1) (by omega)) 1 (lw_V q2801 q2803 qs60 q145 q2804) (by decide +kernel) rfl (by decide) (by decide) rfl (Nat.le_of_ble_eq_true rfl) dX4_meanLength_14 ?_
    rintro _ _ _ ⟨rfl, rfl, rfl⟩
    refine j_if_ne hk (by omega) dX4_meanLength_17 rfl (tgt := 24) (fun h17 => ?_) (fun h17 => ?_)
    · refine j_iconst (n := 0) hk dX4_meanLength_24 ?_
      refine j_mput hE hk hF 4 (by decide) rfl q2618 rfl rfl rfl rfl dX4_meanLength_25 ?_
      refine j_ald4 hk dX4_meanLength_28 rfl rfl ?_
      refine j_mget hE hk 4 (by decide) rfl q2618 dX4_meanLength_29 ?_
      refine j_top (z2 := 0) (iup_s _ _ _) ?_
      refine j_if_le hk (by omega) dX4_meanLength_32 rfl (tgt := 37) (fun _ => ?_) (fun h => absurd h (by omega))
      refine j_ald4 hk dX4_meanLength_37 rfl rfl ?_
      refine j_ild4 hk dX4_meanLength_38 rfl rfl ?_
      refine j_iconst (n := 0) hk dX4_meanLength_39 ?_
      refine j_mVv hE hk hl0 hF (mc_lay hls hE (A := A) (F := (iup F 4 0)) (s := s) (b := false) (S := g.1.1) (V := g.1.2) (hR.1) (by omega)) 2 (lw_V q2889 q2891 qs74 q145 q2892) (by decide +kernel) rfl (by decide) (by decide) rfl (Nat.le_of_ble_eq_true rfl) dX4_meanLength_40 ?_
      intro Az1 Fz2 hc40
      obtain ⟨hL, hP0, hka0, hkf0⟩ := hc40
      rw [layL_f] at hL hP0
      have hlen := hL.len
      have hPl := pmask_lt hL.2.1.2
      have hb0 := bits_pos hL.2.1 (by omega)
      have hb5 := cnt_le5 _ hPl (pmask_even hL.2.1.2)
      refine j_ald4 hk dX4_meanLength_43 rfl rfl ?_
      refine j_mget hE hk 19 (by decide) rfl q2633 dX4_meanLength_44 ?_
      refine j_top (z2 := (((g.1.1 s).length : Nat) : Int)) (hL.1) ?_
      refine j_i2d hk dX4_meanLength_47 ?_
      refine j_ald4 hk dX4_meanLength_48 rfl rfl ?_
      refine j_mget hE hk 20 (by decide) rfl q2634 dX4_meanLength_49 ?_
      refine j_top (z2 := ((pmask (g.1.1 s) : Nat) : Int)) (hP0) ?_
      refine j_sSi hk hl0 (sc_bits hls (p := pmask (g.1.1 s)) (hPl)) 1 (lw_S q2909 q2910 q145 q2911) (by decide +kernel) rfl (by decide) (by decide) rfl (Nat.le_of_ble_eq_true rfl) dX4_meanLength_52 ?_
      refine j_i2d hk dX4_meanLength_55 ?_
      refine j_ddiv hk (dvD_n _ (by omega) _ (by omega) hb0) dX4_meanLength_56 ?_
      refine j_mdret hk he dX4_meanLength_57 (Nat.le_refl _) (Nat.le_refl _) ?_
      have e : sp_meanLength g (s : Int) = (0, dvD (g.1.1 s).length (bitsN (pmask (g.1.1 s))), g) := by
        have e2 : ¬ (g.1.1 s).length = 0 := by omega
        simp only [sp_meanLength, e1, Int.toNat_natCast, e2, Bool.not_true, Bool.false_eq_true, if_false]
      rw [mPd, e]
      exact ⟨rfl, by rw [hkf0 4 (by decide)]; exact iup_s _ _ _, hR.up4.keep hka0 hkf0 (by decide) (by decide)⟩
    · refine j_iconst (n := 2) hk dX4_meanLength_20 ?_
      refine j_goto (tgt := 25) hk dX4_meanLength_21 rfl ?_
      refine j_mput hE hk hF 4 (by decide) rfl q2618 rfl rfl rfl rfl dX4_meanLength_25 ?_
      refine j_ald4 hk dX4_meanLength_28 rfl rfl ?_
      refine j_mget hE hk 4 (by decide) rfl q2618 dX4_meanLength_29 ?_
      refine j_top (z2 := 2) (iup_s _ _ _) ?_
      refine j_if_le hk (by omega) dX4_meanLength_32 rfl (tgt := 37) (fun h => absurd h (by omega)) (fun _ => ?_)
      refine j_dconst0 hk dX4_meanLength_35 ?_
      refine j_mdret hk he dX4_meanLength_36 (Nat.le_refl _) (Nat.le_refl _) ?_
      have e : sp_meanLength g (s : Int) = (2, FP.dconst0, g) := by
        have e2 : (g.1.1 s).length = 0 := by omega
        simp only [sp_meanLength, e1, Int.toNat_natCast, e2, Bool.not_true, Bool.false_eq_true, if_false, if_true]
      rw [mPd, e]
      exact ⟨rfl, iup_s _ _ _, hR.up4⟩
  · refine j_iconst (n := 1) hk dX4_meanLength_8 ?_
    refine j_goto (tgt := 25) hk dX4_meanLength_9 rfl ?_
    refine j_mput hE hk hF 4 (by decide) rfl q2618 rfl rfl rfl rfl dX4_meanLength_25 ?_
    refine j_ald4 hk dX4_meanLength_28 rfl rfl ?_
    refine j_mget hE hk 4 (by decide) rfl q2618 dX4_meanLength_29 ?_
    refine j_top (z2 := 1) (iup_s _ _ _) ?_
    refine j_if_le hk (by omega) dX4_meanLength_32 rfl (tgt := 37) (fun h => absurd h (by omega)) (fun _ => ?_)
    refine j_dconst0 hk dX4_meanLength_35 ?_
    refine j_mdret hk he dX4_meanLength_36 (Nat.le_refl _) (Nat.le_refl _) ?_
    have e : sp_meanLength g si = (1, FP.dconst0, g) := by simp [sp_meanLength, isSl, h5]
    rw [mPd, e]
    exact ⟨rfl, iup_s _ _ _, hR.up4⟩
set_option maxHeartbeats 1500000 in
/-- readShare(I)F -/
theorem mc_readShare {l : Launch} {E : jE} {m : Nat} {ad : Nat → Nat} {A : Nat → Nat → Int} {F : Nat → Int} (hls : l.stackTraces = false) (hE : jSt E) {si : Int} {g : SS} (hR : mR A F g) (hr : jr si) : mC l E yX4_readShare cX4_readShare 5 (some .float) 5 105 [.ref m, .int (jI si)] m ad A F (mQf E m ad (fun r A2 F2 => mPf (sp_readShare g si) r A2 F2)) := by
  refine m_start (own := "ScheduleAnalyzerModel") (vs := [some (.ref m), some (.int (jI si)), none, none, none]) hls (by decide +kernel) rfl rfl rfl (Nat.le_of_ble_eq_true rfl) ?_
  intro K hk he hl0 hF hG0
  refine j_ald4 hk dX4_readShare_0 rfl rfl ?_
  refine j_ild4 hk dX4_readShare_1 rfl rfl ?_
  refine j_sSi hk hl0 (sc_isSlot hls (v := si) (hr)) 1 (lw_S q2752 q2753 q145 q2754) (by decide +kernel) rfl (by decide) (by decide) rfl (Nat.le_of_ble_eq_true rfl) dX4_readShare_2 ?_
  refine j_ifneB hk dX4_readShare_5 rfl (tgt := 12) (fun h5 => ?_) (fun h5 => ?_)
  · refine j_iconst (n := 0) hk dX4_readShare_12 ?_
    refine j_mput hE hk hF 4 (by decide) rfl q2618 rfl rfl rfl rfl dX4_readShare_13 ?_
    refine j_ald4 hk dX4_readShare_16 rfl rfl ?_
    refine j_mget hE hk 4 (by decide) rfl q2618 dX4_readShare_17 ?_
    refine j_top (z2 := 0) (iup_s _ _ _) ?_
    refine j_if_le hk (by omega) dX4_readShare_20 rfl (tgt := 25) (fun _ => ?_) (fun h => absurd h (by omega))
    have q1 := of_decide_eq_true h5
    obtain ⟨s, rfl⟩ : ∃ s : Nat, si = ((s : Nat) : Int) := ⟨si.toNat, by omega⟩
    have e1 : isSl (s : Int) = true := by simp [isSl]; omega
    refine j_ald4 hk dX4_readShare_25 rfl rfl ?_
    refine j_ild4 hk dX4_readShare_26 rfl rfl ?_
    refine j_iconst (n := 0) hk dX4_readShare_27 ?_
    refine j_mVv hE hk hl0 hF (mc_lay hls hE (A := A) (F := (iup F 4 0)) (s := s) (b := false) (S := g.1.1) (V := g.1.2) (hR.1) (by omega)) 2 (lw_V q2889 q2891 qs74 q145 q2892) (by decide +kernel) rfl (by decide) (by decide) rfl (Nat.le_of_ble_eq_true rfl) dX4_readShare_28 ?_
    intro Az1 Fz2 hc28
    obtain ⟨hL, hP0, hka0, hkf0⟩ := hc28
    rw [layL_f] at hL hP0
    have hlen := hL.len
    refine j_iconst (n := 0) hk dX4_readShare_31 ?_
    refine j_ist2 hk dX4_readShare_32 rfl ?_
    refine j_iconst (n := 0) hk dX4_readShare_33 ?_
    refine j_ist3 hk dX4_readShare_34 rfl ?_
    refine j_iconst (n := 0) hk dX4_readShare_35 ?_
    refine j_ist4 hk dX4_readShare_36 rfl ?_
    have loop38 : ∀ (fuel38 : Nat) (k : Nat), (g.1.1 s).length - k < fuel38 → k ≤ (g.1.1 s).length → jW K (mAs E m ad Az1 Fz2) 0 0 38 [some (.ref m), some (.int (jI ((s : Nat) : Int))), some (.int (jI ((cN (rdC (g.1.1 s)) k : Nat) : Int))), some (.int (jI ((cN (acC (g.1.1 s)) k : Nat) : Int))), some (.int (jI ((k : Nat) : Int)))] [] := by
      intro fuel38
      induction fuel38 with
      | zero => intro k hm; exact absurd hm (Nat.not_lt_zero _)
      | succ fuel38 ih38 =>
        intro k hm38 hk1
        refine j_ild hk dX4_readShare_38 rfl ?_
        refine j_ald4 hk dX4_readShare_40 rfl rfl ?_
        refine j_mget hE hk 19 (by decide) rfl q2633 dX4_readShare_41 ?_
        refine j_top (z2 := (((g.1.1 s).length : Nat) : Int)) (hL.1) ?_
        refine j_icmp_ge hk (by omega) (by omega) dX4_readShare_44 rfl (tgt := 88) (fun h44 => ?_) (fun h44 => ?_)
        · have ek : k = (g.1.1 s).length := by omega
          have hc1 := cN_le (rdC (g.1.1 s)) k
          have hc2 := cN_le (acC (g.1.1 s)) k
          refine j_ald4 hk dX4_readShare_88 rfl rfl ?_
          refine j_ild4 hk dX4_readShare_89 rfl rfl ?_
          refine j_if_ne hk (by omega) dX4_readShare_90 rfl (tgt := 97) (fun h90 => ?_) (fun h90 => ?_)
          · refine j_iconst (n := 0) hk dX4_readShare_97 ?_
            refine j_mput hE hk hF 4 (by decide) rfl q2618 rfl rfl rfl rfl dX4_readShare_98 ?_
            refine j_ald4 hk dX4_readShare_101 rfl rfl ?_
            refine j_mget hE hk 4 (by decide) rfl q2618 dX4_readShare_102 ?_
            refine j_top (z2 := 0) (iup_s _ _ _) ?_
            refine j_if_le hk (by omega) dX4_readShare_105 rfl (tgt := 112) (fun _ => ?_) (fun h => absurd h (by omega))
            refine j_ild4 hk dX4_readShare_112 rfl rfl ?_
            refine j_i2f hk dX4_readShare_113 ?_
            refine j_ild4 hk dX4_readShare_114 rfl rfl ?_
            refine j_i2f hk dX4_readShare_115 ?_
            refine j_fdiv hk (dvF_n _ (by omega) _ (by omega) (by omega)) dX4_readShare_116 ?_
            refine j_mfret hk he dX4_readShare_117 (Nat.le_refl _) (Nat.le_refl _) ?_
            have e : sp_readShare g (s : Int) = (0, dvF (cN (rdC (g.1.1 s)) k) (cN (acC (g.1.1 s)) k), g) := by
              have e2 : ¬ cN (acC (g.1.1 s)) (g.1.1 s).length = 0 := by rw [← ek]; omega
              simp only [sp_readShare, e1, Int.toNat_natCast, e2, Bool.not_true, Bool.false_eq_true, if_false, ek]
            rw [mPf, e]
            exact ⟨rfl, iup_s _ _ _, (hR.up4.keep hka0 hkf0 (by decide) (by decide)).up4⟩
          · refine j_iconst (n := 2) hk dX4_readShare_93 ?_
            refine j_goto (tgt := 98) hk dX4_readShare_94 rfl ?_
            refine j_mput hE hk hF 4 (by decide) rfl q2618 rfl rfl rfl rfl dX4_readShare_98 ?_
            refine j_ald4 hk dX4_readShare_101 rfl rfl ?_
            refine j_mget hE hk 4 (by decide) rfl q2618 dX4_readShare_102 ?_
            refine j_top (z2 := 2) (iup_s _ _ _) ?_
            refine j_if_le hk (by omega) dX4_readShare_105 rfl (tgt := 112) (fun h => absurd h (by omega)) (fun _ => ?_)
            refine j_fconst0 hk dX4_readShare_108 ?_
            refine j_goto (tgt := 117) hk dX4_readShare_109 rfl ?_
            refine j_mfret hk he dX4_readShare_117 (Nat.le_refl _) (Nat.le_refl _) ?_
            have e : sp_readShare g (s : Int) = (2, FP.fconst0, g) := by
              have e2 : cN (acC (g.1.1 s)) (g.1.1 s).length = 0 := by rw [← ek]; omega
              simp only [sp_readShare, e1, Int.toNat_natCast, e2, Bool.not_true, Bool.false_eq_true, if_false, if_true]
            rw [mPf, e]
            exact ⟨rfl, iup_s _ _ _, (hR.up4.keep hka0 hkf0 (by decide) (by decide)).up4⟩
        · have lr := hL.2.2 (k) (by omega)
          obtain ⟨l1, l2, l3⟩ := lr
          obtain ⟨l4, l5, l6, l7, l8⟩ := hL.ok (i := k) (by omega)
          refine j_ild4 hk dX4_readShare_47 rfl rfl ?_
          refine j_ald4 hk dX4_readShare_48 rfl rfl ?_
          refine j_mgetA hE hk 13 (by decide) rfl q2627 dX4_readShare_49 ?_
          refine j_ild hk dX4_readShare_52 rfl ?_
          refine j_mald hE hk 13 6 rfl (k) (by omega) (by simp only [mLen]; omega) dX4_readShare_54 ?_
          refine j_top (z2 := ((oK (opAt (g.1.1 s) k) : Nat) : Int)) (l1) ?_
          refine j_if_ne hk (by omega) dX4_readShare_55 rfl (tgt := 62) (fun h55 => ?_) (fun h55 => ?_)
          · refine j_iconst (n := 0) hk dX4_readShare_62 ?_
            refine j_iadd hk dX4_readShare_63 ?_
            refine j_top (z2 := ((cN (rdC (g.1.1 s)) (k + 1) : Nat) : Int)) (by rw [cN_s, show rdC (g.1.1 s) k = false by unfold rdC; simp; omega]; rfl) ?_
            refine j_ist2 hk dX4_readShare_64 rfl ?_
            refine j_ild4 hk dX4_readShare_65 rfl rfl ?_
            refine j_ald4 hk dX4_readShare_66 rfl rfl ?_
            refine j_ild hk dX4_readShare_67 rfl ?_
            refine j_mVi hE hk hl0 hF (mc_isAccess hls hE (A := Az1) (F := Fz2) (k := k) (L := g.1.1 s) (hL) (by omega)) 1 (lw_V q2905 q2907 qs78 q145 q2908) (by decide +kernel) rfl (by decide) (by decide) rfl (Nat.le_of_ble_eq_true rfl) dX4_readShare_69 ?_
            rintro _ _ _ ⟨rfl, rfl, rfl⟩
            refine j_ifeqB hk dX4_readShare_72 rfl (tgt := 79) (fun h72 => ?_) (fun h72 => ?_)
            · refine j_iconst (n := 0) hk dX4_readShare_79 ?_
              refine j_iadd hk dX4_readShare_80 ?_
              refine j_top (z2 := ((cN (acC (g.1.1 s)) (k + 1) : Nat) : Int)) (by rw [cN_s, show acC (g.1.1 s) k = false from h72]; rfl) ?_
              refine j_ist3 hk dX4_readShare_81 rfl ?_
              refine j_iinc4 hk dX4_readShare_82 rfl ?_
              refine j_goto (tgt := 38) hk dX4_readShare_85 rfl ?_
              exact ih38 (k + 1) (by omega) (by omega)
            · refine j_iconst (n := 1) hk dX4_readShare_75 ?_
              refine j_goto (tgt := 80) hk dX4_readShare_76 rfl ?_
              refine j_iadd hk dX4_readShare_80 ?_
              refine j_top (z2 := ((cN (acC (g.1.1 s)) (k + 1) : Nat) : Int)) (by rw [cN_s, show acC (g.1.1 s) k = true from h72]; rfl) ?_
              refine j_ist3 hk dX4_readShare_81 rfl ?_
              refine j_iinc4 hk dX4_readShare_82 rfl ?_
              refine j_goto (tgt := 38) hk dX4_readShare_85 rfl ?_
              exact ih38 (k + 1) (by omega) (by omega)
          · refine j_iconst (n := 1) hk dX4_readShare_58 ?_
            refine j_goto (tgt := 63) hk dX4_readShare_59 rfl ?_
            refine j_iadd hk dX4_readShare_63 ?_
            refine j_top (z2 := ((cN (rdC (g.1.1 s)) (k + 1) : Nat) : Int)) (by rw [cN_s, show rdC (g.1.1 s) k = true by unfold rdC; simp; omega]; rfl) ?_
            refine j_ist2 hk dX4_readShare_64 rfl ?_
            refine j_ild4 hk dX4_readShare_65 rfl rfl ?_
            refine j_ald4 hk dX4_readShare_66 rfl rfl ?_
            refine j_ild hk dX4_readShare_67 rfl ?_
            refine j_mVi hE hk hl0 hF (mc_isAccess hls hE (A := Az1) (F := Fz2) (k := k) (L := g.1.1 s) (hL) (by omega)) 1 (lw_V q2905 q2907 qs78 q145 q2908) (by decide +kernel) rfl (by decide) (by decide) rfl (Nat.le_of_ble_eq_true rfl) dX4_readShare_69 ?_
            rintro _ _ _ ⟨rfl, rfl, rfl⟩
            refine j_ifeqB hk dX4_readShare_72 rfl (tgt := 79) (fun h72 => ?_) (fun h72 => ?_)
            · refine j_iconst (n := 0) hk dX4_readShare_79 ?_
              refine j_iadd hk dX4_readShare_80 ?_
              refine j_top (z2 := ((cN (acC (g.1.1 s)) (k + 1) : Nat) : Int)) (by rw [cN_s, show acC (g.1.1 s) k = false from h72]; rfl) ?_
              refine j_ist3 hk dX4_readShare_81 rfl ?_
              refine j_iinc4 hk dX4_readShare_82 rfl ?_
              refine j_goto (tgt := 38) hk dX4_readShare_85 rfl ?_
              exact ih38 (k + 1) (by omega) (by omega)
            · refine j_iconst (n := 1) hk dX4_readShare_75 ?_
              refine j_goto (tgt := 80) hk dX4_readShare_76 rfl ?_
              refine j_iadd hk dX4_readShare_80 ?_
              refine j_top (z2 := ((cN (acC (g.1.1 s)) (k + 1) : Nat) : Int)) (by rw [cN_s, show acC (g.1.1 s) k = true from h72]; rfl) ?_
              refine j_ist3 hk dX4_readShare_81 rfl ?_
              refine j_iinc4 hk dX4_readShare_82 rfl ?_
              refine j_goto (tgt := 38) hk dX4_readShare_85 rfl ?_
              exact ih38 (k + 1) (by omega) (by omega)
    exact loop38 _ 0 (Nat.lt_succ_self _) (Nat.zero_le _)
  · refine j_iconst (n := 1) hk dX4_readShare_8 ?_
    refine j_goto (tgt := 13) hk dX4_readShare_9 rfl ?_
    refine j_mput hE hk hF 4 (by decide) rfl q2618 rfl rfl rfl rfl dX4_readShare_13 ?_
    refine j_ald4 hk dX4_readShare_16 rfl rfl ?_
    refine j_mget hE hk 4 (by decide) rfl q2618 dX4_readShare_17 ?_
    refine j_top (z2 := 1) (iup_s _ _ _) ?_
    refine j_if_le hk (by omega) dX4_readShare_20 rfl (tgt := 25) (fun h => absurd h (by omega)) (fun _ => ?_)
    refine j_fconst0 hk dX4_readShare_23 ?_
    refine j_mfret hk he dX4_readShare_24 (Nat.le_refl _) (Nat.le_refl _) ?_
    have e : sp_readShare g si = (1, FP.fconst0, g) := by simp [sp_readShare, isSl, h5]
    rw [mPf, e]
    exact ⟨rfl, iup_s _ _ _, hR.up4⟩
