set_option maxHeartbeats 1500000 in
/-- greatestInRing()I -/
theorem mc_greatestInRing {l : Launch} {E : jE} {m : Nat} {ad : Nat → Nat} {A : Nat → Nat → Int} {F : Nat → Int} (hls : l.stackTraces = false) (hE : jSt E) {L : List Op} {w : LkS} (hw : lkIs A F L w) : mC l E yX4_greatestInRing cX4_greatestInRing 3 (some .int) 3 55 [.ref m] m ad A F (mQi E m ad (fun r A2 F2 => ((ringG L w : Nat) : Int) = r ∧ kA [25] A A2 ∧ F = F2)) := by
  refine m_start (own := "ScheduleAnalyzerModel") (vs := [some (.ref m), none, none]) hls (by decide +kernel) rfl rfl rfl (Nat.le_of_ble_eq_true rfl) ?_
  intro K hk he hl0 hF hG0
  have hL := hw.1
  have hlen := hL.len
  refine j_iconst (n := 1) hk dX4_greatestInRing_0 ?_
  refine j_ist1 hk dX4_greatestInRing_1 rfl ?_
  have loop2 : ∀ (fuel2 : Nat) (A1 : Nat → Nat → Int) (t : Nat), 6 - t < fuel2 → 1 ≤ t ∧ t ≤ 6 → (∀ u, 1 ≤ u → u < t → A1 25 u = ((wai L w u : Nat) : Int) ∧ wai L w u < 64) → kA [25] A A1 → jW K (mAs E m ad A1 F) 0 0 2 [some (.ref m), some (.int (jI ((t : Nat) : Int))), none] [] := by
    intro fuel2
    induction fuel2 with
    | zero => intro A1 t hm; exact absurd hm (Nat.not_lt_zero _)
    | succ fuel2 ih2 =>
      intro A1 t hm2 ht hn hk1
      refine j_ild4 hk dX4_greatestInRing_2 rfl rfl ?_
      refine j_iconst (n := 5) hk dX4_greatestInRing_3 ?_
      refine j_icmp_gt hk (by omega) (by omega) dX4_greatestInRing_4 rfl (tgt := 40) (fun h4 => ?_) (fun h4 => ?_)
      · refine j_iconst (n := 1) hk dX4_greatestInRing_40 ?_
        refine j_ist1 hk dX4_greatestInRing_41 rfl ?_
        have loop42 : ∀ (fuel42 : Nat) (A2 : Nat → Nat → Int) (o : Nat), 6 - o < fuel42 → 1 ≤ o ∧ o ≤ 6 → wIs (A2 25) (wAll (wai L w) o) → kA [25] A A2 → jW K (mAs E m ad A2 F) 0 0 42 [some (.ref m), some (.int (jI ((o : Nat) : Int))), none] [] := by
          intro fuel42
          induction fuel42 with
          | zero => intro A2 o hm; exact absurd hm (Nat.not_lt_zero _)
          | succ fuel42 ih42 =>
            intro A2 o hm42 ho hW hk2
            refine j_ild4 hk dX4_greatestInRing_42 rfl rfl ?_
            refine j_iconst (n := 5) hk dX4_greatestInRing_43 ?_
            refine j_icmp_gt hk (by omega) (by omega) dX4_greatestInRing_44 rfl (tgt := 99) (fun h44 => ?_) (fun h44 => ?_)
            · have eo : o = 6 := by omega
              subst eo
              refine j_iconst (n := 0) hk dX4_greatestInRing_99 ?_
              refine j_ist1 hk dX4_greatestInRing_100 rfl ?_
              refine j_iconst (n := 1) hk dX4_greatestInRing_101 ?_
              refine j_ist2 hk dX4_greatestInRing_102 rfl ?_
              have loop103 : ∀ (fuel103 : Nat) (t : Nat), 6 - t < fuel103 → 1 ≤ t ∧ t ≤ 6 → jW K (mAs E m ad A2 F) 0 0 103 [some (.ref m), some (.int (jI ((grN (wAll (wai L w) 6) t : Nat) : Int))), some (.int (jI ((t : Nat) : Int)))] [] := by
                intro fuel103
                induction fuel103 with
                | zero => intro t hm; exact absurd hm (Nat.not_lt_zero _)
                | succ fuel103 ih103 =>
                  intro t hm103 ht4
                  refine j_ild4 hk dX4_greatestInRing_103 rfl rfl ?_
                  refine j_iconst (n := 5) hk dX4_greatestInRing_104 ?_
                  refine j_icmp_gt hk (by omega) (by omega) dX4_greatestInRing_105 rfl (tgt := 134) (fun h105 => ?_) (fun h105 => ?_)
                  · refine j_ild4 hk dX4_greatestInRing_134 rfl rfl ?_
                    refine j_miret hk he rfl dX4_greatestInRing_135 (Nat.le_refl _) (Nat.le_refl _) ?_
                    have e : t = 6 := by omega
                    subst e
                    exact ⟨rfl, hk2, rfl⟩
                  · obtain ⟨w1, w2⟩ := hW t (by omega) (by omega)
                    refine j_ald4 hk dX4_greatestInRing_108 rfl rfl ?_
                    refine j_mgetA hE hk 25 (by decide) rfl q2639 dX4_greatestInRing_109 ?_
                    refine j_ild4 hk dX4_greatestInRing_112 rfl rfl ?_
                    refine j_mald hE hk 25 16 rfl (t) (by omega) (by simp only [mLen]; omega) dX4_greatestInRing_113 ?_
                    refine j_top (z2 := ((wAll (wai L w) 6 t : Nat) : Int)) (w1) ?_
                    refine j_ild4 hk dX4_greatestInRing_114 rfl rfl ?_
                    refine j_ishr (a := wAll (wai L w) 6 t) (b := t) hk (by omega) (by omega) dX4_greatestInRing_115 ?_
                    refine j_iconst (n := 1) hk dX4_greatestInRing_116 ?_
                    refine j_ibit (a := wAll (wai L w) 6 t) (b := t) hk dX4_greatestInRing_117 ?_
                    refine j_iconst (n := 1) hk dX4_greatestInRing_118 ?_
                    refine j_icmpB_ne hk dX4_greatestInRing_119 rfl (tgt := 126) (fun h119 => ?_) (fun h119 => ?_)
                    · refine j_ild4 hk dX4_greatestInRing_126 rfl rfl ?_
                      refine j_top (z2 := ((grN (wAll (wai L w) 6) (t + 1) : Nat) : Int)) (by rw [grN_s, if_neg (fun q => by have := q.2; rw [h119] at this; cases this)]) ?_
                      refine j_ist1 hk dX4_greatestInRing_127 rfl ?_
                      refine j_iinc2 hk dX4_greatestInRing_128 rfl ?_
                      refine j_goto (tgt := 103) hk dX4_greatestInRing_131 rfl ?_
                      exact ih103 (t + 1) (by omega) (by omega)
                    · refine j_ild4 hk dX4_greatestInRing_122 rfl rfl ?_
                      refine j_goto (tgt := 127) hk dX4_greatestInRing_123 rfl ?_
                      refine j_top (z2 := ((grN (wAll (wai L w) 6) (t + 1) : Nat) : Int)) (by rw [grN_s, if_pos ⟨by omega, h119⟩]) ?_
                      refine j_ist1 hk dX4_greatestInRing_127 rfl ?_
                      refine j_iinc2 hk dX4_greatestInRing_128 rfl ?_
                      refine j_goto (tgt := 103) hk dX4_greatestInRing_131 rfl ?_
                      exact ih103 (t + 1) (by omega) (by omega)
              exact loop103 _ 1 (Nat.lt_succ_self _) (by omega)
            · refine j_iconst (n := 1) hk dX4_greatestInRing_47 ?_
              refine j_ist2 hk dX4_greatestInRing_48 rfl ?_
              have loop49 : ∀ (fuel49 : Nat) (A3 : Nat → Nat → Int) (t : Nat), 6 - t < fuel49 → 1 ≤ t ∧ t ≤ 6 → wIs (A3 25) (wIn o (wAll (wai L w) o) t) → kA [25] A A3 → jW K (mAs E m ad A3 F) 0 0 49 [some (.ref m), some (.int (jI ((o : Nat) : Int))), some (.int (jI ((t : Nat) : Int)))] [] := by
                intro fuel49
                induction fuel49 with
                | zero => intro A3 t hm; exact absurd hm (Nat.not_lt_zero _)
                | succ fuel49 ih49 =>
                  intro A3 t hm49 ht3 hW3 hk3
                  refine j_ild4 hk dX4_greatestInRing_49 rfl rfl ?_
                  refine j_iconst (n := 5) hk dX4_greatestInRing_50 ?_
                  refine j_icmp_gt hk (by omega) (by omega) dX4_greatestInRing_51 rfl (tgt := 93) (fun h51 => ?_) (fun h51 => ?_)
                  · refine j_iinc1 hk dX4_greatestInRing_93 rfl ?_
                    refine j_goto (tgt := 42) hk dX4_greatestInRing_96 rfl ?_
                    refine j_forget (i := 2) ?_
                    exact ih42 A3 (o + 1) (by omega) (by omega) (by rw [wAll_s (by omega)]; have e : t = 6 := (by omega); subst e; exact hW3) (hk3)
                  · obtain ⟨w1, w2⟩ := hW3 t (by omega) (by omega)
                    obtain ⟨w3, w4⟩ := hW3 o (by omega) (by omega)
                    refine j_ald4 hk dX4_greatestInRing_54 rfl rfl ?_
                    refine j_mgetA hE hk 25 (by decide) rfl q2639 dX4_greatestInRing_55 ?_
                    refine j_ild4 hk dX4_greatestInRing_58 rfl rfl ?_
                    refine j_dup2 hk rfl rfl dX4_greatestInRing_59 ?_
                    refine j_mald hE hk 25 16 rfl (t) (by omega) (by simp only [mLen]; omega) dX4_greatestInRing_60 ?_
                    refine j_top (z2 := ((wIn o (wAll (wai L w) o) t t : Nat) : Int)) (w1) ?_
                    refine j_ald4 hk dX4_greatestInRing_61 rfl rfl ?_
                    refine j_mgetA hE hk 25 (by decide) rfl q2639 dX4_greatestInRing_62 ?_
                    refine j_ild4 hk dX4_greatestInRing_65 rfl rfl ?_
                    refine j_mald hE hk 25 16 rfl (t) (by omega) (by simp only [mLen]; omega) dX4_greatestInRing_66 ?_
                    refine j_top (z2 := ((wIn o (wAll (wai L w) o) t t : Nat) : Int)) (w1) ?_
                    refine j_ild4 hk dX4_greatestInRing_67 rfl rfl ?_
                    refine j_ishr (a := wIn o (wAll (wai L w) o) t t) (b := o) hk (by omega) (by omega) dX4_greatestInRing_68 ?_
                    refine j_iconst (n := 1) hk dX4_greatestInRing_69 ?_
                    refine j_ibit (a := wIn o (wAll (wai L w) o) t t) (b := o) hk dX4_greatestInRing_70 ?_
                    refine j_iconst (n := 1) hk dX4_greatestInRing_71 ?_
                    refine j_icmpB_ne hk dX4_greatestInRing_72 rfl (tgt := 84) (fun h72 => ?_) (fun h72 => ?_)
                    · refine j_iconst (n := 0) hk dX4_greatestInRing_84 ?_
                      refine j_ior (a := wIn o (wAll (wai L w) o) t t) (b := 0) hk dX4_greatestInRing_85 ?_
                      refine j_mast hE hk hF 25 16 rfl (t) (by omega) (by simp only [mLen]; omega) dX4_greatestInRing_86 ?_
                      refine j_iinc2 hk dX4_greatestInRing_87 rfl ?_
                      refine j_goto (tgt := 49) hk dX4_greatestInRing_90 rfl ?_
                      exact ih49 (mup A3 25 t (((wIn o (wAll (wai L w) o) t t) ||| 0 : Nat) : Int)) (t + 1) (by omega) (by omega) (by rw [wIn_s (by omega), mup_s]; exact hW3.step (by omega) (by omega) (by rw [h72]; rfl)) (hk3.up (by decide))
                    · refine j_ald4 hk dX4_greatestInRing_75 rfl rfl ?_
                      refine j_mgetA hE hk 25 (by decide) rfl q2639 dX4_greatestInRing_76 ?_
                      refine j_ild4 hk dX4_greatestInRing_79 rfl rfl ?_
                      refine j_mald hE hk 25 16 rfl (o) (by omega) (by simp only [mLen]; omega) dX4_greatestInRing_80 ?_
                      refine j_top (z2 := ((wIn o (wAll (wai L w) o) t o : Nat) : Int)) (w3) ?_
                      refine j_goto (tgt := 85) hk dX4_greatestInRing_81 rfl ?_
                      refine j_ior (a := wIn o (wAll (wai L w) o) t t) (b := wIn o (wAll (wai L w) o) t o) hk dX4_greatestInRing_85 ?_
                      refine j_mast hE hk hF 25 16 rfl (t) (by omega) (by simp only [mLen]; omega) dX4_greatestInRing_86 ?_
                      refine j_iinc2 hk dX4_greatestInRing_87 rfl ?_
                      refine j_goto (tgt := 49) hk dX4_greatestInRing_90 rfl ?_
                      exact ih49 (mup A3 25 t (((wIn o (wAll (wai L w) o) t t) ||| (wIn o (wAll (wai L w) o) t o) : Nat) : Int)) (t + 1) (by omega) (by omega) (by rw [wIn_s (by omega), mup_s]; exact hW3.step (by omega) (by omega) (by rw [h72]; rfl)) (hk3.up (by decide))
              exact loop49 _ A2 1 (Nat.lt_succ_self _) (by omega) (hW) (hk2)
        exact loop42 _ A1 1 (Nat.lt_succ_self _) (by omega) (fun u h1 h2 => hn u h1 (by omega)) (hk1)
      · have hw1 : lkIs A1 F L w := hw.keep (js := []) hk1 kF.rf (by decide) (by decide)
        have hfr := fwS_r L w t
        refine j_ald4 hk dX4_greatestInRing_7 rfl rfl ?_
        refine j_mgetA hE hk 25 (by decide) rfl q2639 dX4_greatestInRing_8 ?_
        refine j_ild4 hk dX4_greatestInRing_11 rfl rfl ?_
        refine j_ald4 hk dX4_greatestInRing_12 rfl rfl ?_
        refine j_ild4 hk dX4_greatestInRing_13 rfl rfl ?_
        refine j_mVi hE hk hl0 hF (mc_firstWaiting hls hE (A := A1) (F := F) (t := t) (L := L) (w := w) (hw1) (by omega)) 1 (lw_V q2932 q2934 qs83 q145 q2935) (by decide +kernel) rfl (by decide) (by decide) rfl (Nat.le_of_ble_eq_true rfl) dX4_greatestInRing_14 ?_
        rintro _ _ _ ⟨rfl, rfl, rfl⟩
        refine j_if_ge hk (by omega) dX4_greatestInRing_17 rfl (tgt := 24) (fun h17 => ?_) (fun h17 => ?_)
        · obtain ⟨f1, f2, f3, f4⟩ := fwS_at (L := L) (w := w) (t := t) (by omega)
          have hp64 := hw.prev f2
          refine j_ald4 hk dX4_greatestInRing_24 rfl rfl ?_
          refine j_ald4 hk dX4_greatestInRing_25 rfl rfl ?_
          refine j_ild4 hk dX4_greatestInRing_26 rfl rfl ?_
          refine j_mVi hE hk hl0 hF (mc_firstWaiting hls hE (A := A1) (F := F) (t := t) (L := L) (w := w) (hw1) (by omega)) 1 (lw_V q2932 q2934 qs83 q145 q2935) (by decide +kernel) rfl (by decide) (by decide) rfl (Nat.le_of_ble_eq_true rfl) dX4_greatestInRing_27 ?_
          rintro _ _ _ ⟨rfl, rfl, rfl⟩
          refine j_top (z2 := (((fwS L w t).toNat : Nat) : Int)) (f1) ?_
          refine j_mVi hE hk hl0 hF (mc_preventers hls hE (A := A1) (F := F) (k := (fwS L w t).toNat) (L := L) (w := w) (hw1) (f2)) 1 (lw_V q2936 q2938 qs84 q145 q2939) (by decide +kernel) rfl (by decide) (by decide) rfl (Nat.le_of_ble_eq_true rfl) dX4_greatestInRing_30 ?_
          rintro _ _ _ ⟨rfl, rfl, rfl⟩
          refine j_top (z2 := ((wai L w t : Nat) : Int)) (by rw [wai, if_neg (by omega)]) ?_
          have hv : wai L w t < 64 := by rw [wai, if_neg (by omega)]; omega
          refine j_mast hE hk hF 25 16 rfl (t) (by omega) (by simp only [mLen]; omega) dX4_greatestInRing_33 ?_
          refine j_iinc1 hk dX4_greatestInRing_34 rfl ?_
          refine j_goto (tgt := 2) hk dX4_greatestInRing_37 rfl ?_
          exact ih2 (mup A1 25 t ((wai L w t : Nat) : Int)) (t + 1) (by omega) (by omega) (fun u h1 h2 => by
  rw [mup_s]
  by_cases e : u = t
  · subst e; rw [iup_s]; exact ⟨rfl, hv⟩
  · rw [iup_n e]; exact hn u h1 (by omega)) (hk1.up (by decide))
        · refine j_iconst (n := 0) hk dX4_greatestInRing_20 ?_
          refine j_goto (tgt := 33) hk dX4_greatestInRing_21 rfl ?_
          refine j_top (z2 := ((wai L w t : Nat) : Int)) (by rw [wai, if_pos (by omega)]; rfl) ?_
          have hv : wai L w t < 64 := by rw [wai, if_pos (by omega)]; omega
          refine j_mast hE hk hF 25 16 rfl (t) (by omega) (by simp only [mLen]; omega) dX4_greatestInRing_33 ?_
          refine j_iinc1 hk dX4_greatestInRing_34 rfl ?_
          refine j_goto (tgt := 2) hk dX4_greatestInRing_37 rfl ?_
          exact ih2 (mup A1 25 t ((wai L w t : Nat) : Int)) (t + 1) (by omega) (by omega) (fun u h1 h2 => by
  rw [mup_s]
  by_cases e : u = t
  · subst e; rw [iup_s]; exact ⟨rfl, hv⟩
  · rw [iup_n e]; exact hn u h1 (by omega)) (hk1.up (by decide))
  exact loop2 _ A 1 (Nat.lt_succ_self _) (by omega) (fun u h1 h2 => by omega) (kA.rf)
set_option maxHeartbeats 1500000 in
/-- sacrifices(I)V -/
theorem mc_sacrifices {l : Launch} {E : jE} {m : Nat} {ad : Nat → Nat} {A : Nat → Nat → Int} {F : Nat → Int} (hls : l.stackTraces = false) (hE : jSt E) {t : Nat} {L : List Op} {w : LkS} {c : Nat} (hw : lkIs A F L w) (hg : lkG L c w) (ht : 1 ≤ t ∧ t ≤ 5) (hf0 : 0 ≤ fwS L w t) : mC l E yX4_sacrifices cX4_sacrifices 3 (none) 5 97 [.ref m, .int (jI ((t : Nat) : Int))] m ad A F (mQv E m ad (fun A2 F2 => lkIs A2 F2 L (sacS L w t) ∧ lkG L c (sacS L w t) ∧ kA [21, 22, 23, 24] A A2 ∧ kF [26, 27] F F2)) := by
  refine m_start (own := "ScheduleAnalyzerModel") (vs := [some (.ref m), some (.int (jI ((t : Nat) : Int))), none]) hls (by decide +kernel) rfl rfl rfl (Nat.le_of_ble_eq_true rfl) ?_
  intro K hk he hl0 hF hG0
  have hL := hw.1
  have hlen := hL.len
  refine j_ald4 hk dX4_sacrifices_0 rfl rfl ?_
  refine j_dup hk rfl dX4_sacrifices_1 ?_
  refine j_mget hE hk 27 (by decide) rfl q2641 dX4_sacrifices_2 ?_
  refine j_top (z2 := ((w.vic : Nat) : Int)) (hw.2.2.2.2.2.1.1) ?_
  refine j_iconst (n := 1) hk dX4_sacrifices_5 ?_
  refine j_ild4 hk dX4_sacrifices_6 rfl rfl ?_
  refine j_ishl (a := 1) (b := t) hk (by omega) dX4_sacrifices_7 ?_
  refine j_ior (a := w.vic) (b := 1 * 2 ^ t) hk dX4_sacrifices_8 ?_
  refine j_mput hE hk hF 27 (by decide) rfl q2641 rfl rfl rfl rfl dX4_sacrifices_9 ?_
  refine j_iconst (n := 0) hk dX4_sacrifices_12 ?_
  refine j_ist2 hk dX4_sacrifices_13 rfl ?_
  have loop14 : ∀ (fuel14 : Nat) (A1 : Nat → Nat → Int) (k : Nat), L.length - k < fuel14 → k ≤ L.length → (∀ j, j < 20 → A1 21 j = (((if j < k ∧ fwP L w.st t j = true then 2 else w.st j : Nat)) : Int)) → kA [21] A A1 → jW K (mAs E m ad A1 (iup F 27 ((w.vic ||| (1 * 2 ^ t) : Nat) : Int))) 0 0 14 [some (.ref m), some (.int (jI ((t : Nat) : Int))), some (.int (jI ((k : Nat) : Int)))] [] := by
    intro fuel14
    induction fuel14 with
    | zero => intro A1 k hm; exact absurd hm (Nat.not_lt_zero _)
    | succ fuel14 ih14 =>
      intro A1 k hm14 hkl hn hk1
      refine j_ild4 hk dX4_sacrifices_14 rfl rfl ?_
      refine j_ald4 hk dX4_sacrifices_15 rfl rfl ?_
      refine j_mget hE hk 19 (by decide) rfl q2633 dX4_sacrifices_16 ?_
      refine j_top (z2 := ((L.length : Nat) : Int)) (hL.1) ?_
      refine j_icmp_ge hk (by omega) (by omega) dX4_sacrifices_19 rfl (tgt := 55) (fun h19 => ?_) (fun h19 => ?_)
      · have e : k = L.length := by omega
        subst e
        have hw1 := hw.gone (t := t) (by omega) hk1 hn
        refine j_ald4 hk dX4_sacrifices_55 rfl rfl ?_
        refine j_iconst (n := 3) hk dX4_sacrifices_56 ?_
        refine j_ild4 hk dX4_sacrifices_57 rfl rfl ?_
        refine j_iconst (n := 0) hk dX4_sacrifices_58 ?_
        refine j_sSi hk hl0 (sc_coded hls (k := 3) (t := t) (i := 0) ) 3 (lw_S q2780 q2781 q145 q2782) (by decide +kernel) rfl (by decide) (by decide) rfl (Nat.le_of_ble_eq_true rfl) dX4_sacrifices_59 ?_
        refine j_top (z2 := ((opV (3, t, 0) : Nat) : Int)) (rfl) ?_
        refine j_mVv hE hk hl0 hF (mc_puts hls hE (A := A1) (F := (iup F 27 ((w.vic ||| (1 * 2 ^ t) : Nat) : Int))) (o := (3, t, 0)) (L := L) (w := (goneS L w t)) (hw1) (by simp [opOK, oK, oT, oI]; omega) (by have := sacR_lt hg hf0; show w.out.length < 32; omega)) 1 (lw_V q2944 q2946 qs86 q145 q2947) (by decide +kernel) rfl (by decide) (by decide) rfl (Nat.le_of_ble_eq_true rfl) dX4_sacrifices_62 ?_
        intro Az1 Fz2 hc62
        obtain ⟨hw_62, ka_62, kf_62⟩ := hc62
        refine j_ald4 hk dX4_sacrifices_65 rfl rfl ?_
        refine j_ild4 hk dX4_sacrifices_66 rfl rfl ?_
        refine j_mVv hE hk hl0 hF (mc_ends hls hE (A := Az1) (F := Fz2) (t := t) (L := L) (w := (putO (goneS L w t) (3, t, 0))) (hw_62) (by omega)) 1 (lw_V q2948 q2950 qs87 q145 q2951) (by decide +kernel) rfl (by decide) (by decide) rfl (Nat.le_of_ble_eq_true rfl) dX4_sacrifices_67 ?_
        intro Az3 Fz4 hc67
        obtain ⟨hw_67, ka_67, rfl⟩ := hc67
        refine j_ald4 hk dX4_sacrifices_70 rfl rfl ?_
        refine j_mVv hE hk hl0 hF (mc_tries hls hE (A := Az3) (F := Fz2) (L := L) (w := (sacR L w t)) (c := c) (hw_67) (sacR_G hg hf0)) 0 (lw_V q2952 q2954 qs88 q145 q2955) (by decide +kernel) rfl (by decide) (by decide) rfl (Nat.le_of_ble_eq_true rfl) dX4_sacrifices_71 ?_
        intro Az5 Fz6 hc71
        obtain ⟨hw_71, hg_71, ka_71, kf_71⟩ := hc71
        refine j_mvret hk he dX4_sacrifices_74 (Nat.le_refl _) (Nat.le_refl _) ?_
        exact ⟨hw_71, hg_71, ((((hk1.wk (by decide)).tr ka_62 (by decide)).tr ka_67 (by decide)).tr ka_71 (by decide)), (((kF.rf.up (by decide)).tr kf_62 (by decide)).tr kf_71 (by decide))⟩
      · obtain ⟨l1, l2, l3⟩ := hL.2.2 k (by omega)
        have l5 := (hL.ok (i := k) (by omega)).2.2.1
        have l6 := (hL.ok (i := k) (by omega)).2.1
        obtain ⟨s1, s2⟩ := hw.2.1 k (by omega)
        refine j_ald4 hk dX4_sacrifices_22 rfl rfl ?_
        refine j_mgetA hE hk 14 (by decide) rfl q2628 dX4_sacrifices_23 ?_
        refine j_ild4 hk dX4_sacrifices_26 rfl rfl ?_
        refine j_mald hE hk 14 7 rfl (k) (by omega) (by simp only [mLen]; omega) dX4_sacrifices_27 ?_
        refine j_top (z2 := ((oT (opAt L k) : Nat) : Int)) (by rw [hk1 14 (by decide)]; exact l2) ?_
        refine j_ild4 hk dX4_sacrifices_28 rfl rfl ?_
        refine j_icmp_ne hk (by omega) (by omega) dX4_sacrifices_29 rfl (tgt := 49) (fun h29 => ?_) (fun h29 => ?_)
        · refine j_iinc2 hk dX4_sacrifices_49 rfl ?_
          refine j_goto (tgt := 14) hk dX4_sacrifices_52 rfl ?_
          exact ih14 A1 (k + 1) (by omega) (by omega) (gone_n hn (by unfold fwP; simp; omega)) (hk1)
        · refine j_ald4 hk dX4_sacrifices_32 rfl rfl ?_
          refine j_mgetA hE hk 21 (by decide) rfl q2635 dX4_sacrifices_33 ?_
          refine j_ild4 hk dX4_sacrifices_36 rfl rfl ?_
          refine j_mald hE hk 21 12 rfl (k) (by omega) (by simp only [mLen]; omega) dX4_sacrifices_37 ?_
          refine j_top (z2 := ((w.st k : Nat) : Int)) (by rw [hn k (by omega), if_neg (fun q => by omega)]) ?_
          refine j_iconst (n := 1) hk dX4_sacrifices_38 ?_
          refine j_icmp_ne hk (by omega) (by omega) dX4_sacrifices_39 rfl (tgt := 49) (fun h39 => ?_) (fun h39 => ?_)
          · refine j_iinc2 hk dX4_sacrifices_49 rfl ?_
            refine j_goto (tgt := 14) hk dX4_sacrifices_52 rfl ?_
            exact ih14 A1 (k + 1) (by omega) (by omega) (gone_n hn (by unfold fwP; simp; omega)) (hk1)
          · refine j_ald4 hk dX4_sacrifices_42 rfl rfl ?_
            refine j_mgetA hE hk 21 (by decide) rfl q2635 dX4_sacrifices_43 ?_
            refine j_ild4 hk dX4_sacrifices_46 rfl rfl ?_
            refine j_iconst (n := 2) hk dX4_sacrifices_47 ?_
            refine j_mast hE hk hF 21 12 rfl (k) (by omega) (by simp only [mLen]; omega) dX4_sacrifices_48 ?_
            refine j_iinc2 hk dX4_sacrifices_49 rfl ?_
            refine j_goto (tgt := 14) hk dX4_sacrifices_52 rfl ?_
            exact ih14 (mup A1 21 k 2) (k + 1) (by omega) (by omega) (by rw [mup_s]; exact gone_s hn (by unfold fwP; simp; omega)) (hk1.up (by decide))
  exact loop14 _ A 0 (Nat.lt_succ_self _) (Nat.zero_le _) (fun j hj => by rw [if_neg (fun q => by omega)]; exact (hw.2.1 j hj).1) (kA.rf)
set_option maxHeartbeats 1500000 in
/-- comes(I)V -/
theorem mc_comes {l : Launch} {E : jE} {m : Nat} {ad : Nat → Nat} {A : Nat → Nat → Int} {F : Nat → Int} (hls : l.stackTraces = false) (hE : jSt E) {k : Nat} {L : List Op} {w : LkS} (hw : lkIs A F L w) (hg : lkG L k w) (hkl : k < L.length) : mC l E yX4_comes cX4_comes 2 (none) 6 119 [.ref m, .int (jI ((k : Nat) : Int))] m ad A F (mQv E m ad (fun A2 F2 => lkIs A2 F2 L (comeS L w k) ∧ lkG L (k + 1) (comeS L w k) ∧ kA [21, 22, 23, 24, 25] A A2 ∧ kF [26, 27, 28] F F2)) := by
  refine m_start (own := "ScheduleAnalyzerModel") (vs := [some (.ref m), some (.int (jI ((k : Nat) : Int)))]) hls (by decide +kernel) rfl rfl rfl (Nat.le_of_ble_eq_true rfl) ?_
  intro K hk he hl0 hF hG0
  have hL := hw.1
  have hlen := hL.len
  have kr := hL.2.2 (k) (hkl)
  obtain ⟨k1, k2, k3⟩ := kr
  obtain ⟨k4, k5, k6, k7, k8⟩ := hL.ok (i := k) (hkl)
  have hfr := fwS_r L w (oT (opAt L k))
  have hp64 := hw.prev hkl
  have hv64 := hw.2.2.2.2.2.1.2
  have hs0 := hg.2.1 k (Nat.le_refl _)
  have hwt := hg.2.2
  refine j_ald4 hk dX4_comes_0 rfl rfl ?_
  refine j_mget hE hk 27 (by decide) rfl q2641 dX4_comes_1 ?_
  refine j_top (z2 := ((w.vic : Nat) : Int)) (hw.2.2.2.2.2.1.1) ?_
  refine j_ald4 hk dX4_comes_4 rfl rfl ?_
  refine j_mgetA hE hk 14 (by decide) rfl q2628 dX4_comes_5 ?_
  refine j_ild4 hk dX4_comes_8 rfl rfl ?_
  refine j_mald hE hk 14 7 rfl (k) (by omega) (by simp only [mLen]; omega) dX4_comes_9 ?_
  refine j_top (z2 := ((oT (opAt L k) : Nat) : Int)) (k2) ?_
  refine j_ishr (a := w.vic) (b := oT (opAt L k)) hk (by omega) (by omega) dX4_comes_10 ?_
  refine j_iconst (n := 1) hk dX4_comes_11 ?_
  refine j_ibit (a := w.vic) (b := oT (opAt L k)) hk dX4_comes_12 ?_
  refine j_iconst (n := 1) hk dX4_comes_13 ?_
  refine j_icmpB_ne hk dX4_comes_14 rfl (tgt := 27) (fun h14 => ?_) (fun h14 => ?_)
  · refine j_ald4 hk dX4_comes_27 rfl rfl ?_
    refine j_ald4 hk dX4_comes_28 rfl rfl ?_
    refine j_mgetA hE hk 14 (by decide) rfl q2628 dX4_comes_29 ?_
    refine j_ild4 hk dX4_comes_32 rfl rfl ?_
    refine j_mald hE hk 14 7 rfl (k) (by omega) (by simp only [mLen]; omega) dX4_comes_33 ?_
    refine j_top (z2 := ((oT (opAt L k) : Nat) : Int)) (k2) ?_
    refine j_mVi hE hk hl0 hF (mc_firstWaiting hls hE (A := A) (F := F) (t := oT (opAt L k)) (L := L) (w := w) (hw) (by omega)) 1 (lw_V q2932 q2934 qs83 q145 q2935) (by decide +kernel) rfl (by decide) (by decide) rfl (Nat.le_of_ble_eq_true rfl) dX4_comes_34 ?_
    rintro _ _ _ ⟨rfl, rfl, rfl⟩
    refine j_if_ge hk (by omega) dX4_comes_37 rfl (tgt := 68) (fun h37 => ?_) (fun h37 => ?_)
    · refine j_ald4 hk dX4_comes_68 rfl rfl ?_
      refine j_mgetA hE hk 21 (by decide) rfl q2635 dX4_comes_69 ?_
      refine j_ild4 hk dX4_comes_72 rfl rfl ?_
      refine j_iconst (n := 1) hk dX4_comes_73 ?_
      refine j_mast hE hk hF 21 12 rfl (k) (by omega) (by simp only [mLen]; omega) dX4_comes_74 ?_
      refine j_ald4 hk dX4_comes_75 rfl rfl ?_
      refine j_dup hk rfl dX4_comes_76 ?_
      refine j_mget hE hk 28 (by decide) rfl q2642 dX4_comes_77 ?_
      refine j_top (z2 := ((w.wtd : Nat) : Int)) (hw.2.2.2.2.2.2.1) ?_
      refine j_iconst (n := 1) hk dX4_comes_80 ?_
      refine j_iadd hk dX4_comes_81 ?_
      refine j_top (z2 := ((w.wtd + 1 : Nat) : Int)) (rfl) ?_
      refine j_mput hE hk hF 28 (by decide) rfl q2642 rfl rfl rfl rfl dX4_comes_82 ?_
      have loop85 : ∀ (fuel85 : Nat) (A1 : Nat → Nat → Int) (F1 : Nat → Int) (w1 : LkS) (f : Nat), f < fuel85 → lkIs A1 F1 L w1 → lkG L (k + 1) w1 → ringF f L w1 = ringS L (waitS w k) → nWt L w1 < f → kA [21, 22, 23, 24, 25] A A1 → kF [26, 27, 28] F F1 → jW K (mAs E m ad A1 F1) 0 0 85 [some (.ref m), some (.int (jI ((k : Nat) : Int)))] [] := by
        intro fuel85
        induction fuel85 with
        | zero => intro A1 F1 w1 f hm; exact absurd hm (Nat.not_lt_zero _)
        | succ fuel85 ih85 =>
          intro A1 F1 w1 f hm85 hw1 hg1 hq hf hk1 hk2
          refine j_ald4 hk dX4_comes_85 rfl rfl ?_
          refine j_mVi hE hk hl0 hF (mc_greatestInRing hls hE (A := A1) (F := F1) (L := L) (w := w1) (hw1)) 0 (lw_V q2960 q2962 qs90 q145 q2963) (by decide +kernel) rfl (by decide) (by decide) rfl (Nat.le_of_ble_eq_true rfl) dX4_comes_86 ?_
          intro rz1 Az2 Fz3 hc86
          obtain ⟨rfl, hc86⟩ := hc86
          obtain ⟨ka_86, rfl⟩ := hc86
          have hrl := grN_le (wAll (wai L w1) 6) 6
          have hrl : ringG L w1 ≤ 6 := hrl
          refine j_if_le hk (by omega) dX4_comes_89 rfl (tgt := 103) (fun h89 => ?_) (fun h89 => ?_)
          · refine j_mvret hk he dX4_comes_103 (Nat.le_refl _) (Nat.le_refl _) ?_
            rw [ringF_end (by omega)] at hq
            have e : comeS L w k = ringS L (waitS w k) := by rw [comeS, if_neg (by rw [h14]; decide), if_neg (fun q => absurd q.1 (by omega))]
            rw [e, ← hq]
            exact ⟨hw1.keep (js := []) ka_86 kF.rf (by decide) (by decide), hg1, hk1.tr ka_86 (by decide), hk2⟩
          · have h89 : 0 < ringG L w1 := by omega
            have hr5 := (ringG_at h89).1
            obtain ⟨f2, rfl⟩ : ∃ f2, f = f2 + 1 := ⟨f - 1, by omega⟩
            refine j_ald4 hk dX4_comes_92 rfl rfl ?_
            refine j_ald4 hk dX4_comes_93 rfl rfl ?_
            refine j_mVi hE hk hl0 hF (mc_greatestInRing hls hE (A := Az2) (F := F1) (L := L) (w := w1) (hw1.keep (js := []) ka_86 kF.rf (by decide) (by decide))) 0 (lw_V q2960 q2962 qs90 q145 q2963) (by decide +kernel) rfl (by decide) (by decide) rfl (Nat.le_of_ble_eq_true rfl) dX4_comes_94 ?_
            intro rz4 Az5 Fz6 hc94
            obtain ⟨rfl, hc94⟩ := hc94
            obtain ⟨ka_94, rfl⟩ := hc94
            refine j_mVv hE hk hl0 hF (mc_sacrifices hls hE (A := Az5) (F := F1) (t := ringG L w1) (L := L) (w := w1) (c := k + 1) ((hw1.keep (js := []) ka_86 kF.rf (by decide) (by decide)).keep (js := []) ka_94 kF.rf (by decide) (by decide)) (hg1) (by omega) ((ringG_at h89).2)) 1 (lw_V q2964 q2966 qs91 q145 q2967) (by decide +kernel) rfl (by decide) (by decide) rfl (Nat.le_of_ble_eq_true rfl) dX4_comes_97 ?_
            intro Az7 Fz8 hc97
            obtain ⟨hw_97, hg_97, ka_97, kf_97⟩ := hc97
            refine j_goto (tgt := 85) hk dX4_comes_100 rfl ?_
            exact ih85 Az7 Fz8 (sacS L w1 (ringG L w1)) f2 (by omega) (hw_97) (hg_97) (by rw [← hq, ringF_s, if_pos h89]) (by have := sacS_nW (L := L) (w := w1) (ringG_at h89).2; omega) (((hk1.tr ka_86 (by decide)).tr ka_94 (by decide)).tr ka_97 (by decide)) (hk2.tr kf_97 (by decide))
      exact loop85 _ (mup A 21 k 1) (iup F 28 ((w.wtd + 1 : Nat) : Int)) (waitS w k) (nWt L (waitS w k) + 1) (Nat.lt_succ_self _) (hw.wait (by omega)) (hg.waits) (rfl) (by omega) (kA.rf.up (by decide)) (kF.rf.up (by decide))
    · refine j_ald4 hk dX4_comes_40 rfl rfl ?_
      refine j_ild4 hk dX4_comes_41 rfl rfl ?_
      refine j_mVi hE hk hl0 hF (mc_preventers hls hE (A := A) (F := F) (k := k) (L := L) (w := w) (hw) (hkl)) 1 (lw_V q2936 q2938 qs84 q145 q2939) (by decide +kernel) rfl (by decide) (by decide) rfl (Nat.le_of_ble_eq_true rfl) dX4_comes_42 ?_
      rintro _ _ _ ⟨rfl, rfl, rfl⟩
      refine j_if_ne hk (by omega) dX4_comes_45 rfl (tgt := 68) (fun h45 => ?_) (fun h45 => ?_)
      · refine j_ald4 hk dX4_comes_68 rfl rfl ?_
        refine j_mgetA hE hk 21 (by decide) rfl q2635 dX4_comes_69 ?_
        refine j_ild4 hk dX4_comes_72 rfl rfl ?_
        refine j_iconst (n := 1) hk dX4_comes_73 ?_
        refine j_mast hE hk hF 21 12 rfl (k) (by omega) (by simp only [mLen]; omega) dX4_comes_74 ?_
        refine j_ald4 hk dX4_comes_75 rfl rfl ?_
        refine j_dup hk rfl dX4_comes_76 ?_
        refine j_mget hE hk 28 (by decide) rfl q2642 dX4_comes_77 ?_
        refine j_top (z2 := ((w.wtd : Nat) : Int)) (hw.2.2.2.2.2.2.1) ?_
        refine j_iconst (n := 1) hk dX4_comes_80 ?_
        refine j_iadd hk dX4_comes_81 ?_
        refine j_top (z2 := ((w.wtd + 1 : Nat) : Int)) (rfl) ?_
        refine j_mput hE hk hF 28 (by decide) rfl q2642 rfl rfl rfl rfl dX4_comes_82 ?_
        have loop85 : ∀ (fuel85 : Nat) (A1 : Nat → Nat → Int) (F1 : Nat → Int) (w1 : LkS) (f : Nat), f < fuel85 → lkIs A1 F1 L w1 → lkG L (k + 1) w1 → ringF f L w1 = ringS L (waitS w k) → nWt L w1 < f → kA [21, 22, 23, 24, 25] A A1 → kF [26, 27, 28] F F1 → jW K (mAs E m ad A1 F1) 0 0 85 [some (.ref m), some (.int (jI ((k : Nat) : Int)))] [] := by
          intro fuel85
          induction fuel85 with
          | zero => intro A1 F1 w1 f hm; exact absurd hm (Nat.not_lt_zero _)
          | succ fuel85 ih85 =>
            intro A1 F1 w1 f hm85 hw1 hg1 hq hf hk1 hk2
            refine j_ald4 hk dX4_comes_85 rfl rfl ?_
            refine j_mVi hE hk hl0 hF (mc_greatestInRing hls hE (A := A1) (F := F1) (L := L) (w := w1) (hw1)) 0 (lw_V q2960 q2962 qs90 q145 q2963) (by decide +kernel) rfl (by decide) (by decide) rfl (Nat.le_of_ble_eq_true rfl) dX4_comes_86 ?_
            intro rz9 Az10 Fz11 hc86
            obtain ⟨rfl, hc86⟩ := hc86
            obtain ⟨ka_86, rfl⟩ := hc86
            have hrl := grN_le (wAll (wai L w1) 6) 6
            have hrl : ringG L w1 ≤ 6 := hrl
            refine j_if_le hk (by omega) dX4_comes_89 rfl (tgt := 103) (fun h89 => ?_) (fun h89 => ?_)
            · refine j_mvret hk he dX4_comes_103 (Nat.le_refl _) (Nat.le_refl _) ?_
              rw [ringF_end (by omega)] at hq
              have e : comeS L w k = ringS L (waitS w k) := by rw [comeS, if_neg (by rw [h14]; decide), if_neg (fun q => absurd q.2 (by omega))]
              rw [e, ← hq]
              exact ⟨hw1.keep (js := []) ka_86 kF.rf (by decide) (by decide), hg1, hk1.tr ka_86 (by decide), hk2⟩
            · have h89 : 0 < ringG L w1 := by omega
              have hr5 := (ringG_at h89).1
              obtain ⟨f2, rfl⟩ : ∃ f2, f = f2 + 1 := ⟨f - 1, by omega⟩
              refine j_ald4 hk dX4_comes_92 rfl rfl ?_
              refine j_ald4 hk dX4_comes_93 rfl rfl ?_
              refine j_mVi hE hk hl0 hF (mc_greatestInRing hls hE (A := Az10) (F := F1) (L := L) (w := w1) (hw1.keep (js := []) ka_86 kF.rf (by decide) (by decide))) 0 (lw_V q2960 q2962 qs90 q145 q2963) (by decide +kernel) rfl (by decide) (by decide) rfl (Nat.le_of_ble_eq_true rfl) dX4_comes_94 ?_
              intro rz12 Az13 Fz14 hc94
              obtain ⟨rfl, hc94⟩ := hc94
              obtain ⟨ka_94, rfl⟩ := hc94
              refine j_mVv hE hk hl0 hF (mc_sacrifices hls hE (A := Az13) (F := F1) (t := ringG L w1) (L := L) (w := w1) (c := k + 1) ((hw1.keep (js := []) ka_86 kF.rf (by decide) (by decide)).keep (js := []) ka_94 kF.rf (by decide) (by decide)) (hg1) (by omega) ((ringG_at h89).2)) 1 (lw_V q2964 q2966 qs91 q145 q2967) (by decide +kernel) rfl (by decide) (by decide) rfl (Nat.le_of_ble_eq_true rfl) dX4_comes_97 ?_
              intro Az15 Fz16 hc97
              obtain ⟨hw_97, hg_97, ka_97, kf_97⟩ := hc97
              refine j_goto (tgt := 85) hk dX4_comes_100 rfl ?_
              exact ih85 Az15 Fz16 (sacS L w1 (ringG L w1)) f2 (by omega) (hw_97) (hg_97) (by rw [← hq, ringF_s, if_pos h89]) (by have := sacS_nW (L := L) (w := w1) (ringG_at h89).2; omega) (((hk1.tr ka_86 (by decide)).tr ka_94 (by decide)).tr ka_97 (by decide)) (hk2.tr kf_97 (by decide))
        exact loop85 _ (mup A 21 k 1) (iup F 28 ((w.wtd + 1 : Nat) : Int)) (waitS w k) (nWt L (waitS w k) + 1) (Nat.lt_succ_self _) (hw.wait (by omega)) (hg.waits) (rfl) (by omega) (kA.rf.up (by decide)) (kF.rf.up (by decide))
      · refine j_ald4 hk dX4_comes_48 rfl rfl ?_
        refine j_ild4 hk dX4_comes_49 rfl rfl ?_
        refine j_mVv hE hk hl0 hF (mc_executes hls hE (A := A) (F := F) (k := k) (L := L) (w := w) (hw) (hkl) (by have := hg.len; omega)) 1 (lw_V q2940 q2942 qs85 q145 q2943) (by decide +kernel) rfl (by decide) (by decide) rfl (Nat.le_of_ble_eq_true rfl) dX4_comes_50 ?_
        intro Az17 Fz18 hc50
        obtain ⟨hw_50, ka_50, kf_50⟩ := hc50
        refine j_ald4 hk dX4_comes_53 rfl rfl ?_
        refine j_ild4 hk dX4_comes_54 rfl rfl ?_
        refine j_mVi hE hk hl0 hF (mc_isAccess hls hE (A := Az17) (F := Fz18) (k := k) (L := L) (hw_50.1) (hkl)) 1 (lw_V q2905 q2907 qs78 q145 q2908) (by decide +kernel) rfl (by decide) (by decide) rfl (Nat.le_of_ble_eq_true rfl) dX4_comes_55 ?_
        rintro _ _ _ ⟨rfl, rfl, rfl⟩
        refine j_ifneB hk dX4_comes_58 rfl (tgt := 103) (fun h58 => ?_) (fun h58 => ?_)
        · refine j_mvret hk he dX4_comes_103 (Nat.le_refl _) (Nat.le_refl _) ?_
          have e : comeS L w k = execS L w k := by rw [comeS, if_neg (by rw [h14]; decide), if_pos ⟨by omega, by omega⟩, if_pos (by simpa using h58)]
          rw [e]
          exact ⟨hw_50, execS_G hg.wk hkl (by omega) (by omega), ka_50.wk (by decide), kf_50.wk (by decide)⟩
        · refine j_ald4 hk dX4_comes_61 rfl rfl ?_
          refine j_mVv hE hk hl0 hF (mc_tries hls hE (A := Az17) (F := Fz18) (L := L) (w := (execS L w k)) (c := k + 1) (hw_50) (execS_G hg.wk hkl (by omega) (by omega))) 0 (lw_V q2952 q2954 qs88 q145 q2955) (by decide +kernel) rfl (by decide) (by decide) rfl (Nat.le_of_ble_eq_true rfl) dX4_comes_62 ?_
          intro Az19 Fz20 hc62
          obtain ⟨hw_62, hg_62, ka_62, kf_62⟩ := hc62
          refine j_goto (tgt := 103) hk dX4_comes_65 rfl ?_
          refine j_mvret hk he dX4_comes_103 (Nat.le_refl _) (Nat.le_refl _) ?_
          have e : comeS L w k = triesS L (execS L w k) := by rw [comeS, if_neg (by rw [h14]; decide), if_pos ⟨by omega, by omega⟩, if_neg (by simpa using h58)]
          rw [e]
          exact ⟨hw_62, hg_62, (ka_50.wk (by decide)).tr ka_62 (by decide), (kf_50.wk (by decide)).tr kf_62 (by decide)⟩
  · refine j_ald4 hk dX4_comes_17 rfl rfl ?_
    refine j_mgetA hE hk 21 (by decide) rfl q2635 dX4_comes_18 ?_
    refine j_ild4 hk dX4_comes_21 rfl rfl ?_
    refine j_iconst (n := 2) hk dX4_comes_22 ?_
    refine j_mast hE hk hF 21 12 rfl (k) (by omega) (by simp only [mLen]; omega) dX4_comes_23 ?_
    refine j_goto (tgt := 103) hk dX4_comes_24 rfl ?_
    refine j_mvret hk he dX4_comes_103 (Nat.le_refl _) (Nat.le_refl _) ?_
    have e : comeS L w k = setSt w (nup w.st k 2) := by rw [comeS, if_pos h14]
    rw [e]
    exact ⟨hw.stat (v := 2) (by decide), hg.gone, kA.rf.up (by decide), kF.rf⟩
set_option maxHeartbeats 1500000 in
/-- executesUnderLocks(I)V -/
theorem mc_executesUnderLocks {l : Launch} {E : jE} {m : Nat} {ad : Nat → Nat} {A : Nat → Nat → Int} {F : Nat → Int} (hls : l.stackTraces = false) (hE : jSt E) {s : Nat} {S : Nat → List Op} {V : Nat → Nat} (hN : nowIs (A 0) S V) (hs : s < 4) : mC l E yX4_executesUnderLocks cX4_executesUnderLocks 3 (none) 7 140 [.ref m, .int (jI ((s : Nat) : Int))] m ad A F (mQv E m ad (fun A2 F2 => lkIs A2 F2 (S s) (lockS (S s)) ∧ lkG (S s) (S s).length (lockS (S s)) ∧ kA [13, 14, 15, 21, 22, 23, 24, 25] A A2 ∧ kF [19, 20, 26, 27, 28] F F2)) := by
  refine m_start (own := "ScheduleAnalyzerModel") (vs := [some (.ref m), some (.int (jI ((s : Nat) : Int))), none]) hls (by decide +kernel) rfl rfl rfl (Nat.le_of_ble_eq_true rfl) ?_
  intro K hk he hl0 hF hG0
  refine j_ald4 hk dX4_executesUnderLocks_0 rfl rfl ?_
  refine j_ild4 hk dX4_executesUnderLocks_1 rfl rfl ?_
  refine j_iconst (n := 0) hk dX4_executesUnderLocks_2 ?_
  refine j_mVv hE hk hl0 hF (mc_lay hls hE (A := A) (F := F) (s := s) (b := false) (by first | assumption | omega) (by first | assumption | omega)) 2 (lw_V q2889 q2891 qs74 q145 q2892) (by decide +kernel) rfl (by decide) (by decide) rfl (Nat.le_of_ble_eq_true rfl) dX4_executesUnderLocks_3 ?_
  intro Az1 Fz2 hc3
  obtain ⟨hL, hP0, ka0, kf0⟩ := hc3
  rw [layL_f] at hL
  have hlen := hL.len
  refine j_ald4 hk dX4_executesUnderLocks_6 rfl rfl ?_
  refine j_iconst (n := 0) hk dX4_executesUnderLocks_7 ?_
  refine j_mput hE hk hF 26 (by decide) rfl q2640 rfl rfl rfl rfl dX4_executesUnderLocks_8 ?_
  refine j_ald4 hk dX4_executesUnderLocks_11 rfl rfl ?_
  refine j_iconst (n := 0) hk dX4_executesUnderLocks_12 ?_
  refine j_mput hE hk hF 27 (by decide) rfl q2641 rfl rfl rfl rfl dX4_executesUnderLocks_13 ?_
  refine j_ald4 hk dX4_executesUnderLocks_16 rfl rfl ?_
  refine j_iconst (n := 0) hk dX4_executesUnderLocks_17 ?_
  refine j_mput hE hk hF 28 (by decide) rfl q2642 rfl rfl rfl rfl dX4_executesUnderLocks_18 ?_
  refine j_iconst (n := 0) hk dX4_executesUnderLocks_21 ?_
  refine j_ist2 hk dX4_executesUnderLocks_22 rfl ?_
  have loop23 : ∀ (fuel23 : Nat) (A1 : Nat → Nat → Int) (k : Nat), 20 - k < fuel23 → k ≤ 20 → (∀ j, j < k → A1 21 j = 0) → laid A1 (iup (iup (iup Fz2 26 0) 27 0) 28 0) (S s) → kA [13, 14, 15, 21, 22, 23, 24, 25] A A1 → jW K (mAs E m ad A1 (iup (iup (iup Fz2 26 0) 27 0) 28 0)) 0 0 23 [some (.ref m), some (.int (jI ((s : Nat) : Int))), some (.int (jI ((k : Nat) : Int)))] [] := by
    intro fuel23
    induction fuel23 with
    | zero => intro A1 k hm; exact absurd hm (Nat.not_lt_zero _)
    | succ fuel23 ih23 =>
      intro A1 k hm23 hk1 hz1 hL1 ka1
      refine j_ild4 hk dX4_executesUnderLocks_23 rfl rfl ?_
      refine j_bipush (n := 20) hk rfl dX4_executesUnderLocks_24 ?_
      refine j_icmp_ge hk (by omega) (by omega) dX4_executesUnderLocks_26 rfl (tgt := 42) (fun h26 => ?_) (fun h26 => ?_)
      · refine j_iconst (n := 0) hk dX4_executesUnderLocks_42 ?_
        refine j_ist2 hk dX4_executesUnderLocks_43 rfl ?_
        have loop44 : ∀ (fuel44 : Nat) (A2 : Nat → Nat → Int) (i : Nat), 4 - i < fuel44 → i ≤ 4 → (∀ j, j < 20 → A2 21 j = 0) → (∀ j, j < i → A2 22 j = 0) → (∀ j, j < i → A2 23 j = 0) → laid A2 (iup (iup (iup Fz2 26 0) 27 0) 28 0) (S s) → kA [13, 14, 15, 21, 22, 23, 24, 25] A A2 → jW K (mAs E m ad A2 (iup (iup (iup Fz2 26 0) 27 0) 28 0)) 0 0 44 [some (.ref m), some (.int (jI ((s : Nat) : Int))), some (.int (jI ((i : Nat) : Int)))] [] := by
          intro fuel44
          induction fuel44 with
          | zero => intro A2 i hm; exact absurd hm (Nat.not_lt_zero _)
          | succ fuel44 ih44 =>
            intro A2 i hm44 hi hz2 hz3 hz4 hL2 ka2
            refine j_ild4 hk dX4_executesUnderLocks_44 rfl rfl ?_
            refine j_iconst (n := 4) hk dX4_executesUnderLocks_45 ?_
            refine j_icmp_ge hk (by omega) (by omega) dX4_executesUnderLocks_46 rfl (tgt := 69) (fun h46 => ?_) (fun h46 => ?_)
            · refine j_iconst (n := 0) hk dX4_executesUnderLocks_69 ?_
              refine j_ist2 hk dX4_executesUnderLocks_70 rfl ?_
              have loop71 : ∀ (fuel71 : Nat) (A3 : Nat → Nat → Int) (F3 : Nat → Int) (k : Nat), (S s).length - k < fuel71 → k ≤ (S s).length → lkIs A3 F3 (S s) (lockTo (S s) k) → lkG (S s) k (lockTo (S s) k) → kA [13, 14, 15, 21, 22, 23, 24, 25] A A3 → kF [19, 20, 26, 27, 28] F F3 → jW K (mAs E m ad A3 F3) 0 0 71 [some (.ref m), some (.int (jI ((s : Nat) : Int))), some (.int (jI ((k : Nat) : Int)))] [] := by
                intro fuel71
                induction fuel71 with
                | zero => intro A3 F3 k hm; exact absurd hm (Nat.not_lt_zero _)
                | succ fuel71 ih71 =>
                  intro A3 F3 k hm71 hk3 hw3 hg3 ka3 kf3
                  refine j_ild4 hk dX4_executesUnderLocks_71 rfl rfl ?_
                  refine j_ald4 hk dX4_executesUnderLocks_72 rfl rfl ?_
                  refine j_mget hE hk 19 (by decide) rfl q2633 dX4_executesUnderLocks_73 ?_
                  refine j_top (z2 := (((S s).length : Nat) : Int)) (hw3.1.1) ?_
                  refine j_icmp_ge hk (by omega) (by omega) dX4_executesUnderLocks_76 rfl (tgt := 90) (fun h76 => ?_) (fun h76 => ?_)
                  · refine j_mvret hk he dX4_executesUnderLocks_90 (Nat.le_refl _) (Nat.le_refl _) ?_
                    have e : k = (S s).length := by omega
                    subst e
                    exact ⟨hw3, hg3, ka3, kf3⟩
                  · refine j_ald4 hk dX4_executesUnderLocks_79 rfl rfl ?_
                    refine j_ild4 hk dX4_executesUnderLocks_80 rfl rfl ?_
                    refine j_mVv hE hk hl0 hF (mc_comes hls hE (A := A3) (F := F3) (k := k) (L := S s) (w := (lockTo (S s) k)) (hw3) (hg3) (by omega)) 1 (lw_V q2928 q2930 qs82 q145 q2931) (by decide +kernel) rfl (by decide) (by decide) rfl (Nat.le_of_ble_eq_true rfl) dX4_executesUnderLocks_81 ?_
                    intro Az3 Fz4 hc81
                    obtain ⟨hw_81, hg_81, ka_81, kf_81⟩ := hc81
                    refine j_iinc2 hk dX4_executesUnderLocks_84 rfl ?_
                    refine j_goto (tgt := 71) hk dX4_executesUnderLocks_87 rfl ?_
                    exact ih71 Az3 Fz4 (k + 1) (by omega) (by omega) (hw_81) (hg_81) (ka3.tr ka_81 (by decide)) (kf3.tr kf_81 (by decide))
              exact loop71 _ A2 (iup (iup (iup Fz2 26 0) 27 0) 28 0) 0 (Nat.lt_succ_self _) (by omega) (⟨hL2, fun j hj => ⟨hz2 j hj, Nat.zero_le _⟩, fun j hj => ⟨hz3 j (by omega), Nat.zero_lt_succ _⟩, fun j hj => ⟨hz4 j (by omega), Nat.zero_lt_succ _⟩, ⟨rfl, Nat.zero_le _, fun j hj => absurd hj (Nat.not_lt_zero _)⟩, ⟨rfl, Nat.zero_lt_succ _⟩, rfl, Nat.zero_le _⟩) (⟨Nat.zero_le _, fun j _ => rfl, Nat.le_refl 0⟩) (ka2) ((((kf0.wk (by decide)).up (by decide)).up (by decide)).up (by decide))
            · refine j_ald4 hk dX4_executesUnderLocks_49 rfl rfl ?_
              refine j_mgetA hE hk 22 (by decide) rfl q2636 dX4_executesUnderLocks_50 ?_
              refine j_ild4 hk dX4_executesUnderLocks_53 rfl rfl ?_
              refine j_iconst (n := 0) hk dX4_executesUnderLocks_54 ?_
              refine j_mast hE hk hF 22 13 rfl (i) (by omega) (by simp only [mLen]; omega) dX4_executesUnderLocks_55 ?_
              refine j_ald4 hk dX4_executesUnderLocks_56 rfl rfl ?_
              refine j_mgetA hE hk 23 (by decide) rfl q2637 dX4_executesUnderLocks_57 ?_
              refine j_ild4 hk dX4_executesUnderLocks_60 rfl rfl ?_
              refine j_iconst (n := 0) hk dX4_executesUnderLocks_61 ?_
              refine j_mast hE hk hF 23 14 rfl (i) (by omega) (by simp only [mLen]; omega) dX4_executesUnderLocks_62 ?_
              refine j_iinc2 hk dX4_executesUnderLocks_63 rfl ?_
              refine j_goto (tgt := 44) hk dX4_executesUnderLocks_66 rfl ?_
              exact ih44 (mup (mup A2 22 i 0) 23 i 0) (i + 1) (by omega) (by omega) (hz2) (zero_s hz3) (zero_s hz4) (hL2.keep rfl rfl rfl rfl) ((ka2.up (by decide)).up (by decide))
        exact loop44 _ A1 0 (Nat.lt_succ_self _) (by omega) (fun j h => hz1 j (by omega)) (fun j h => absurd h (Nat.not_lt_zero _)) (fun j h => absurd h (Nat.not_lt_zero _)) (hL1) (ka1)
      · refine j_ald4 hk dX4_executesUnderLocks_29 rfl rfl ?_
        refine j_mgetA hE hk 21 (by decide) rfl q2635 dX4_executesUnderLocks_30 ?_
        refine j_ild4 hk dX4_executesUnderLocks_33 rfl rfl ?_
        refine j_iconst (n := 0) hk dX4_executesUnderLocks_34 ?_
        refine j_mast hE hk hF 21 12 rfl (k) (by omega) (by simp only [mLen]; omega) dX4_executesUnderLocks_35 ?_
        refine j_iinc2 hk dX4_executesUnderLocks_36 rfl ?_
        refine j_goto (tgt := 23) hk dX4_executesUnderLocks_39 rfl ?_
        exact ih23 (mup A1 21 k 0) (k + 1) (by omega) (by omega) (zero_s hz1) (hL1.keep rfl rfl rfl rfl) (ka1.up (by decide))
  exact loop23 _ Az1 0 (Nat.lt_succ_self _) (by omega) (fun j h => absurd h (Nat.not_lt_zero _)) (hL.keep rfl rfl rfl rfl) (ka0.wk (by decide))
set_option maxHeartbeats 1500000 in
/-- locks(II)I -/
theorem mc_locks {l : Launch} {E : jE} {m : Nat} {ad : Nat → Nat} {A : Nat → Nat → Int} {F : Nat → Int} (hls : l.stackTraces = false) (hE : jSt E) {t : Nat} {s : Nat} {S : Nat → List Op} {V : Nat → Nat} (hN : nowIs (A 0) S V) (ht : t < 4) (hs : s < 4) : mC l E yX4_locks cX4_locks 5 (some .int) 8 162 [.ref m, .int (jI ((t : Nat) : Int)), .int (jI ((s : Nat) : Int))] m ad A F (mQi E m ad (fun r A2 F2 => (((lockS (S s)).out.length : Nat) : Int) = r ∧ nowIs (A2 0) (sset S t (lockS (S s)).out) V ∧ kA [0, 13, 14, 15, 21, 22, 23, 24, 25] A A2 ∧ kF [19, 20, 26, 27, 28] F F2)) := by
  refine m_start (own := "ScheduleAnalyzerModel") (vs := [some (.ref m), some (.int (jI ((t : Nat) : Int))), some (.int (jI ((s : Nat) : Int))), none, none]) hls (by decide +kernel) rfl rfl rfl (Nat.le_of_ble_eq_true rfl) ?_
  intro K hk he hl0 hF hG0
  refine j_ald4 hk dX4_locks_0 rfl rfl ?_
  refine j_ild4 hk dX4_locks_1 rfl rfl ?_
  refine j_mVv hE hk hl0 hF (mc_executesUnderLocks hls hE (A := A) (F := F) (s := s) (by first | assumption | omega) (by first | assumption | omega)) 1 (lw_V q2924 q2926 qs81 q145 q2927) (by decide +kernel) rfl (by decide) (by decide) rfl (Nat.le_of_ble_eq_true rfl) dX4_locks_2 ?_
  intro Az1 Fz2 hc2
  obtain ⟨hw_2, hg_2, ka_2, kf_2⟩ := hc2
  have hN2 : nowIs (Az1 0) S V := hN.keep (ka_2 0 (by decide))
  have hlen := hw_2.1.len
  have hol := hg_2.len
  refine j_ald4 hk dX4_locks_5 rfl rfl ?_
  refine j_mgetA hE hk 0 (by decide) rfl q2614 dX4_locks_6 ?_
  refine j_bipush (n := 21) hk rfl dX4_locks_9 ?_
  refine j_ild4 hk dX4_locks_11 rfl rfl ?_
  refine j_imul hk dX4_locks_12 ?_
  refine j_iconst (n := 0) hk dX4_locks_13 ?_
  refine j_mast hE hk hF 0 0 rfl (21 * t) (by omega) (by simp only [mLen]; omega) dX4_locks_14 ?_
  refine j_iconst (n := 0) hk dX4_locks_15 ?_
  refine j_ist3 hk dX4_locks_16 rfl ?_
  refine j_iconst (n := 0) hk dX4_locks_17 ?_
  refine j_ist4 hk dX4_locks_18 rfl ?_
  refine j_forget (i := 3) ?_
  have loop20 : ∀ (fuel20 : Nat) (A1 : Nat → Nat → Int) (k : Nat), (lockS (S s)).out.length - k < fuel20 → k ≤ (lockS (S s)).out.length → nowIs (A1 0) (sset S t ((lockS (S s)).out.take k)) V → lkIs A1 Fz2 (S s) (lockS (S s)) → kA [0, 13, 14, 15, 21, 22, 23, 24, 25] A A1 → jW K (mAs E m ad A1 Fz2) 0 0 20 [some (.ref m), some (.int (jI ((t : Nat) : Int))), some (.int (jI ((s : Nat) : Int))), none, some (.int (jI ((k : Nat) : Int)))] [] := by
    intro fuel20
    induction fuel20 with
    | zero => intro A1 k hm; exact absurd hm (Nat.not_lt_zero _)
    | succ fuel20 ih20 =>
      intro A1 k hm20 hk1 hN3 hw3 ka3
      refine j_ild hk dX4_locks_20 rfl ?_
      refine j_ald4 hk dX4_locks_22 rfl rfl ?_
      refine j_mget hE hk 26 (by decide) rfl q2640 dX4_locks_23 ?_
      refine j_top (z2 := (((lockS (S s)).out.length : Nat) : Int)) (hw3.2.2.2.2.1.1) ?_
      refine j_icmp_ge hk (by omega) (by omega) dX4_locks_26 rfl (tgt := 48) (fun h26 => ?_) (fun h26 => ?_)
      · have e : k = (lockS (S s)).out.length := by omega
        rw [e, List.take_length] at hN3
        refine j_ald4 hk dX4_locks_48 rfl rfl ?_
        refine j_ild4 hk dX4_locks_49 rfl rfl ?_
        refine j_mVi hE hk hl0 hF (mc_count hls hE (A := A1) (F := Fz2) (s := t) (S := sset S t (lockS (S s)).out) (V := V) (hN3) (ht)) 1 (lw_V q2801 q2803 qs60 q145 q2804) (by decide +kernel) rfl (by decide) (by decide) rfl (Nat.le_of_ble_eq_true rfl) dX4_locks_50 ?_
        rintro _ _ _ ⟨rfl, rfl, rfl⟩
        refine j_top (z2 := (((lockS (S s)).out.length : Nat) : Int)) (by rw [sset_s]) ?_
        refine j_miret hk he rfl dX4_locks_53 (Nat.le_refl _) (Nat.le_refl _) ?_
        exact ⟨rfl, hN3, ka3, kf_2⟩
      · obtain ⟨ho1, ho2⟩ := hw3.2.2.2.2.1.2.2 k (by omega)
        refine j_ald4 hk dX4_locks_29 rfl rfl ?_
        refine j_ild4 hk dX4_locks_30 rfl rfl ?_
        refine j_ald4 hk dX4_locks_31 rfl rfl ?_
        refine j_mgetA hE hk 24 (by decide) rfl q2638 dX4_locks_32 ?_
        refine j_ild hk dX4_locks_35 rfl ?_
        refine j_mald hE hk 24 15 rfl (k) (by omega) (by simp only [mLen]; omega) dX4_locks_37 ?_
        refine j_top (z2 := ((opV (opAt (lockS (S s)).out k) : Nat) : Int)) (ho1) ?_
        refine j_mVi hE hk hl0 hF (mc_adds hls hE (A := A1) (F := Fz2) (s := t) (o := (opAt (lockS (S s)).out k)) (S := sset S t ((lockS (S s)).out.take k)) (V := V) (hN3) (ht) (by rw [sset_s, List.length_take]; omega) (ho2)) 2 (lw_V q2797 q2799 qs59 q145 q2800) (by decide +kernel) rfl (by decide) (by decide) rfl (Nat.le_of_ble_eq_true rfl) dX4_locks_38 ?_
        intro rz3 Az4 Fz5 hc38
        obtain ⟨rfl, hc38⟩ := hc38
        obtain ⟨hN38, hk38, rfl⟩ := hc38
        refine j_ist3 hk dX4_locks_41 rfl ?_
        refine j_iinc4 hk dX4_locks_42 rfl ?_
        refine j_goto (tgt := 20) hk dX4_locks_45 rfl ?_
        refine j_forget (i := 3) ?_
        rw [sset_s, sset_sset] at hN38
        exact ih20 Az4 (k + 1) (by omega) (by omega) (by rw [take_s (by omega)]; exact hN38) (hw3.keep (js := []) hk38 kF.rf (by decide) (by decide)) (ka3.tr hk38 (by decide))
  exact loop20 _ (mup Az1 0 (21 * t) 0) 0 (Nat.lt_succ_self _) (Nat.zero_le _) (by rw [mup_s]; exact hN2.clear ht) (hw_2.keep (ks := [0]) (js := []) (kA.rf.up (by decide)) kF.rf (by decide) (by decide)) ((ka_2.wk (by decide)).up (by decide))
set_option maxHeartbeats 1500000 in
/-- lock(II)I -/
theorem mc_lock {l : Launch} {E : jE} {m : Nat} {ad : Nat → Nat} {A : Nat → Nat → Int} {F : Nat → Int} (hls : l.stackTraces = false) (hE : jSt E) {ti : Int} {si : Int} {g : SS} (hR : mR A F g) (hr : jr ti ∧ jr si) : mC l E yX4_lock cX4_lock 3 (some .int) 9 186 [.ref m, .int (jI ti), .int (jI si)] m ad A F (mQi E m ad (fun r A2 F2 => mP (sp_lock g ti si) r A2 F2)) := by
  refine m_start (own := "ScheduleAnalyzerModel") (vs := [some (.ref m), some (.int (jI ti)), some (.int (jI si))]) hls (by decide +kernel) rfl rfl rfl (Nat.le_of_ble_eq_true rfl) ?_
  intro K hk he hl0 hF hG0
  refine j_ald4 hk dX4_lock_0 rfl rfl ?_
  refine j_mVv hE hk hl0 hF (mc_begin hls hE (A := A) (F := F)  (by first | assumption | omega)) 0 (lw_V q2745 q2747 qs52 q145 q2748) (by decide +kernel) rfl (by decide) (by decide) rfl (Nat.le_of_ble_eq_true rfl) dX4_lock_1 ?_
  intro Az1 Fz2 hc1
  obtain ⟨hm, hb, ht, hka, hkf⟩ := hc1
  refine j_ild4 hk dX4_lock_4 rfl rfl ?_
  refine j_sSi hk hl0 (sc_isSlot hls (v := ti) (hr.1)) 1 (lw_S q2752 q2753 q145 q2754) (by decide +kernel) rfl (by decide) (by decide) rfl (Nat.le_of_ble_eq_true rfl) dX4_lock_5 ?_
  refine j_ifeqB hk dX4_lock_8 rfl (tgt := 31) (fun h8 => ?_) (fun h8 => ?_)
  · refine j_ald4 hk dX4_lock_31 rfl rfl ?_
    refine j_iconst (n := 1) hk dX4_lock_32 ?_
    refine j_mVi hE hk hl0 hF (mc_fail hls hE (A := Az1) (F := Fz2) (n := 1) ) 1 (lw_V q2755 q2757 qs53 q145 q2758) (by decide +kernel) rfl (by decide) (by decide) rfl (Nat.le_of_ble_eq_true rfl) dX4_lock_33 ?_
    rintro _ _ _ ⟨rfl, rfl, rfl⟩
    refine j_miret hk he rfl dX4_lock_36 (Nat.le_refl _) (Nat.le_refl _) ?_
    have e : sp_lock g ti si = (1, 0, g) := by simp [sp_lock, isSl, h8]
    rw [mP, e]
    exact ⟨rfl, iup_s _ _ _, hm.up4⟩
  · refine j_ild4 hk dX4_lock_11 rfl rfl ?_
    refine j_sSi hk hl0 (sc_isSlot hls (v := si) (hr.2)) 1 (lw_S q2752 q2753 q145 q2754) (by decide +kernel) rfl (by decide) (by decide) rfl (Nat.le_of_ble_eq_true rfl) dX4_lock_12 ?_
    refine j_ifeqB hk dX4_lock_15 rfl (tgt := 31) (fun h15 => ?_) (fun h15 => ?_)
    · refine j_ald4 hk dX4_lock_31 rfl rfl ?_
      refine j_iconst (n := 1) hk dX4_lock_32 ?_
      refine j_mVi hE hk hl0 hF (mc_fail hls hE (A := Az1) (F := Fz2) (n := 1) ) 1 (lw_V q2755 q2757 qs53 q145 q2758) (by decide +kernel) rfl (by decide) (by decide) rfl (Nat.le_of_ble_eq_true rfl) dX4_lock_33 ?_
      rintro _ _ _ ⟨rfl, rfl, rfl⟩
      refine j_miret hk he rfl dX4_lock_36 (Nat.le_refl _) (Nat.le_refl _) ?_
      have e : sp_lock g ti si = (1, 0, g) := by simp [sp_lock, isSl, h8, h15]
      rw [mP, e]
      exact ⟨rfl, iup_s _ _ _, hm.up4⟩
    · have q1 := of_decide_eq_true h8
      have q2 := of_decide_eq_true h15
      obtain ⟨t, rfl⟩ : ∃ t : Nat, ti = ((t : Nat) : Int) := ⟨ti.toNat, by omega⟩
      obtain ⟨s, rfl⟩ : ∃ s : Nat, si = ((s : Nat) : Int) := ⟨si.toNat, by omega⟩
      refine j_ald4 hk dX4_lock_18 rfl rfl ?_
      refine j_ald4 hk dX4_lock_19 rfl rfl ?_
      refine j_ild4 hk dX4_lock_20 rfl rfl ?_
      refine j_ild4 hk dX4_lock_21 rfl rfl ?_
      refine j_mVi hE hk hl0 hF (mc_locks hls hE (A := Az1) (F := Fz2) (t := t) (s := s) (S := g.1.1) (V := g.1.2) (hm.1) (by omega) (by omega)) 2 (lw_V q2920 q2922 qs80 q145 q2923) (by decide +kernel) rfl (by decide) (by decide) rfl (Nat.le_of_ble_eq_true rfl) dX4_lock_22 ?_
      intro rz9 Az10 Fz11 hc22
      obtain ⟨rfl, hc22⟩ := hc22
      obtain ⟨hN22, ka_22, kf_22⟩ := hc22
      refine j_mVi hE hk hl0 hF (mc_commit hls hE (A := Az10) (F := Fz11) (rv := (((lockS (g.1.1 s)).out.length : Nat) : Int)) (hm.2.keep ka_22 kf_22 (by decide) (by decide)) (by rw [ka_22 1 (by decide)]; exact hb) (hN22)) 1 (lw_V q2805 q2807 qs61 q145 q2808) (by decide +kernel) rfl (by decide) (by decide) rfl (Nat.le_of_ble_eq_true rfl) dX4_lock_25 ?_
      intro rz12 Az13 Fz14 hc25
      obtain ⟨rfl, hc25⟩ := hc25
      obtain ⟨hp, hp3, hp5⟩ := hc25
      refine j_goto (tgt := 36) hk dX4_lock_28 rfl ?_
      refine j_miret hk he rfl dX4_lock_36 (Nat.le_refl _) (Nat.le_refl _) ?_
      have e : sp_lock g (t : Int) (s : Int) = (0, (((lockS (g.1.1 s)).out.length : Nat) : Int), gpush g (sset g.1.1 t (lockS (g.1.1 s)).out, g.1.2)) := by simp [sp_lock, isSl]; omega
      rw [mP, e]
      exact ⟨rfl, by rw [hp5 4 (by decide), kf_22 4 (by decide)]; exact ht, hp⟩
set_option maxHeartbeats 1500000 in
/-- waitingCount(I)I -/
theorem mc_waitingCount {l : Launch} {E : jE} {m : Nat} {ad : Nat → Nat} {A : Nat → Nat → Int} {F : Nat → Int} (hls : l.stackTraces = false) (hE : jSt E) {si : Int} {g : SS} (hR : mR A F g) (hr : jr si) : mC l E yX4_waitingCount cX4_waitingCount 2 (some .int) 8 162 [.ref m, .int (jI si)] m ad A F (mQi E m ad (fun r A2 F2 => mP (sp_waitingCount g si) r A2 F2)) := by
  refine m_start (own := "ScheduleAnalyzerModel") (vs := [some (.ref m), some (.int (jI si))]) hls (by decide +kernel) rfl rfl rfl (Nat.le_of_ble_eq_true rfl) ?_
  intro K hk he hl0 hF hG0
  refine j_ald4 hk dX4_waitingCount_0 rfl rfl ?_
  refine j_ild4 hk dX4_waitingCount_1 rfl rfl ?_
  refine j_sSi hk hl0 (sc_isSlot hls (v := si) (hr)) 1 (lw_S q2752 q2753 q145 q2754) (by decide +kernel) rfl (by decide) (by decide) rfl (Nat.le_of_ble_eq_true rfl) dX4_waitingCount_2 ?_
  refine j_mVi hE hk hl0 hF (mc_checked hls hE (A := A) (F := F) (b := decide (0 ≤ si ∧ si ≤ 3)) ) 1 (lw_V q2972 q2974 qs92 q145 q2975) (by decide +kernel) rfl (by decide) (by decide) rfl (Nat.le_of_ble_eq_true rfl) dX4_waitingCount_5 ?_
  rintro _ _ _ ⟨rfl, rfl, rfl⟩
  refine j_ifleB hk dX4_waitingCount_8 rfl (tgt := 13) (fun h8 => ?_) (fun h8 => ?_)
  · have q1 : 0 ≤ si ∧ si ≤ 3 := by simpa using h8
    obtain ⟨s, rfl⟩ : ∃ s : Nat, si = ((s : Nat) : Int) := ⟨si.toNat, by omega⟩
    have e1 : isSl (s : Int) = true := by simp [isSl]; omega
    have hm : mR A (iup F 4 (jB (!decide (0 ≤ (s : Int) ∧ (s : Int) ≤ 3)))) g := hR.up4
    have ht : (iup F 4 (jB (!decide (0 ≤ (s : Int) ∧ (s : Int) ≤ 3)))) 4 = 0 := by rw [iup_s, h8]; rfl
    refine j_ald4 hk dX4_waitingCount_13 rfl rfl ?_
    refine j_ild4 hk dX4_waitingCount_14 rfl rfl ?_
    refine j_mVv hE hk hl0 hF (mc_executesUnderLocks hls hE (A := A) (F := (iup F 4 (jB (!(decide (0 ≤ ((s : Nat) : Int) ∧ ((s : Nat) : Int) ≤ 3)))))) (s := s) (S := g.1.1) (V := g.1.2) (hm.1) (by omega)) 1 (lw_V q2924 q2926 qs81 q145 q2927) (by decide +kernel) rfl (by decide) (by decide) rfl (Nat.le_of_ble_eq_true rfl) dX4_waitingCount_15 ?_
    intro Az4 Fz5 hc15
    obtain ⟨hw_15, hg_15, ka_15, kf_15⟩ := hc15
    refine j_ald4 hk dX4_waitingCount_18 rfl rfl ?_
    refine j_mget hE hk 28 (by decide) rfl q2642 dX4_waitingCount_19 ?_
    refine j_top (z2 := (((lockS (g.1.1 s)).wtd : Nat) : Int)) (hw_15.2.2.2.2.2.2.1) ?_
    refine j_miret hk he rfl dX4_waitingCount_22 (Nat.le_refl _) (Nat.le_refl _) ?_
    have e : sp_waitingCount g (s : Int) = (0, (((lockS (g.1.1 s)).wtd : Nat) : Int), g) := by simp only [sp_waitingCount, e1, Int.toNat_natCast, Bool.not_true, Bool.false_eq_true, if_false]
    rw [mP, e]
    exact ⟨rfl, by rw [kf_15 4 (by decide)]; exact ht, hm.keep ka_15 kf_15 (by decide) (by decide)⟩
  · refine j_iconst (n := 0) hk dX4_waitingCount_11 ?_
    refine j_miret hk he rfl dX4_waitingCount_12 (Nat.le_refl _) (Nat.le_refl _) ?_
    have e : sp_waitingCount g si = (1, 0, g) := by
      have : isSl si = false := by have h := h8; rw [Bool.not_eq_true'] at h; exact h
      simp [sp_waitingCount, this]
    rw [mP, e]
    exact ⟨rfl, by rw [iup_s, h8]; rfl, hR.up4⟩
set_option maxHeartbeats 1500000 in
/-- victimCount(I)I -/
theorem mc_victimCount {l : Launch} {E : jE} {m : Nat} {ad : Nat → Nat} {A : Nat → Nat → Int} {F : Nat → Int} (hls : l.stackTraces = false) (hE : jSt E) {si : Int} {g : SS} (hR : mR A F g) (hr : jr si) : mC l E yX4_victimCount cX4_victimCount 2 (some .int) 8 162 [.ref m, .int (jI si)] m ad A F (mQi E m ad (fun r A2 F2 => mP (sp_victimCount g si) r A2 F2)) := by
  refine m_start (own := "ScheduleAnalyzerModel") (vs := [some (.ref m), some (.int (jI si))]) hls (by decide +kernel) rfl rfl rfl (Nat.le_of_ble_eq_true rfl) ?_
  intro K hk he hl0 hF hG0
  refine j_ald4 hk dX4_victimCount_0 rfl rfl ?_
  refine j_ild4 hk dX4_victimCount_1 rfl rfl ?_
  refine j_sSi hk hl0 (sc_isSlot hls (v := si) (hr)) 1 (lw_S q2752 q2753 q145 q2754) (by decide +kernel) rfl (by decide) (by decide) rfl (Nat.le_of_ble_eq_true rfl) dX4_victimCount_2 ?_
  refine j_mVi hE hk hl0 hF (mc_checked hls hE (A := A) (F := F) (b := decide (0 ≤ si ∧ si ≤ 3)) ) 1 (lw_V q2972 q2974 qs92 q145 q2975) (by decide +kernel) rfl (by decide) (by decide) rfl (Nat.le_of_ble_eq_true rfl) dX4_victimCount_5 ?_
  rintro _ _ _ ⟨rfl, rfl, rfl⟩
  refine j_ifleB hk dX4_victimCount_8 rfl (tgt := 13) (fun h8 => ?_) (fun h8 => ?_)
  · have q1 : 0 ≤ si ∧ si ≤ 3 := by simpa using h8
    obtain ⟨s, rfl⟩ : ∃ s : Nat, si = ((s : Nat) : Int) := ⟨si.toNat, by omega⟩
    have e1 : isSl (s : Int) = true := by simp [isSl]; omega
    have hm : mR A (iup F 4 (jB (!decide (0 ≤ (s : Int) ∧ (s : Int) ≤ 3)))) g := hR.up4
    have ht : (iup F 4 (jB (!decide (0 ≤ (s : Int) ∧ (s : Int) ≤ 3)))) 4 = 0 := by rw [iup_s, h8]; rfl
    refine j_ald4 hk dX4_victimCount_13 rfl rfl ?_
    refine j_ild4 hk dX4_victimCount_14 rfl rfl ?_
    refine j_mVv hE hk hl0 hF (mc_executesUnderLocks hls hE (A := A) (F := (iup F 4 (jB (!(decide (0 ≤ ((s : Nat) : Int) ∧ ((s : Nat) : Int) ≤ 3)))))) (s := s) (S := g.1.1) (V := g.1.2) (hm.1) (by omega)) 1 (lw_V q2924 q2926 qs81 q145 q2927) (by decide +kernel) rfl (by decide) (by decide) rfl (Nat.le_of_ble_eq_true rfl) dX4_victimCount_15 ?_
    intro Az4 Fz5 hc15
    obtain ⟨hw_15, hg_15, ka_15, kf_15⟩ := hc15
    refine j_ald4 hk dX4_victimCount_18 rfl rfl ?_
    refine j_mget hE hk 27 (by decide) rfl q2641 dX4_victimCount_19 ?_
    refine j_top (z2 := (((lockS (g.1.1 s)).vic : Nat) : Int)) (hw_15.2.2.2.2.2.1.1) ?_
    refine j_sSi hk hl0 (sc_bits hls (p := (lockS (g.1.1 s)).vic) (hw_15.2.2.2.2.2.1.2)) 1 (lw_S q2909 q2910 q145 q2911) (by decide +kernel) rfl (by decide) (by decide) rfl (Nat.le_of_ble_eq_true rfl) dX4_victimCount_22 ?_
    refine j_miret hk he rfl dX4_victimCount_25 (Nat.le_refl _) (Nat.le_refl _) ?_
    have e : sp_victimCount g (s : Int) = (0, ((bitsN (lockS (g.1.1 s)).vic : Nat) : Int), g) := by simp only [sp_victimCount, e1, Int.toNat_natCast, Bool.not_true, Bool.false_eq_true, if_false]
    rw [mP, e]
    exact ⟨rfl, by rw [kf_15 4 (by decide)]; exact ht, hm.keep ka_15 kf_15 (by decide) (by decide)⟩
  · refine j_iconst (n := 0) hk dX4_victimCount_11 ?_
    refine j_miret hk he rfl dX4_victimCount_12 (Nat.le_refl _) (Nat.le_refl _) ?_
    have e : sp_victimCount g si = (1, 0, g) := by
      have : isSl si = false := by have h := h8; rw [Bool.not_eq_true'] at h; exact h
      simp [sp_victimCount, this]
    rw [mP, e]
    exact ⟨rfl, by rw [iup_s, h8]; rfl, hR.up4⟩
set_option maxHeartbeats 1500000 in
/-- isVictim(II)Z -/
theorem mc_isVictim {l : Launch} {E : jE} {m : Nat} {ad : Nat → Nat} {A : Nat → Nat → Int} {F : Nat → Int} (hls : l.stackTraces = false) (hE : jSt E) {si : Int} {ti : Int} {g : SS} (hR : mR A F g) (hr : jr si ∧ jr ti) : mC l E yX4_isVictim cX4_isVictim 3 (some .boolean) 8 162 [.ref m, .int (jI si), .int (jI ti)] m ad A F (mQi E m ad (fun r A2 F2 => mP (sp_isVictim g si ti) r A2 F2)) := by
  refine m_start (own := "ScheduleAnalyzerModel") (vs := [some (.ref m), some (.int (jI si)), some (.int (jI ti))]) hls (by decide +kernel) rfl rfl rfl (Nat.le_of_ble_eq_true rfl) ?_
  intro K hk he hl0 hF hG0
  refine j_ald4 hk dX4_isVictim_0 rfl rfl ?_
  refine j_ild4 hk dX4_isVictim_1 rfl rfl ?_
  refine j_sSi hk hl0 (sc_isSlot hls (v := si) (hr.1)) 1 (lw_S q2752 q2753 q145 q2754) (by decide +kernel) rfl (by decide) (by decide) rfl (Nat.le_of_ble_eq_true rfl) dX4_isVictim_2 ?_
  refine j_ifneB hk dX4_isVictim_5 rfl (tgt := 12) (fun h5 => ?_) (fun h5 => ?_)
  · refine j_ild4 hk dX4_isVictim_12 rfl rfl ?_
    refine j_sSi hk hl0 (sc_isTransaction hls (v := ti) (hr.2)) 1 (lw_S q2774 q2775 q145 q2776) (by decide +kernel) rfl (by decide) (by decide) rfl (Nat.le_of_ble_eq_true rfl) dX4_isVictim_13 ?_
    refine j_ifneB hk dX4_isVictim_16 rfl (tgt := 23) (fun h16 => ?_) (fun h16 => ?_)
    · refine j_iconst (n := 0) hk dX4_isVictim_23 ?_
      refine j_mput hE hk hF 4 (by decide) rfl q2618 rfl rfl rfl rfl dX4_isVictim_24 ?_
      refine j_ald4 hk dX4_isVictim_27 rfl rfl ?_
      refine j_mget hE hk 4 (by decide) rfl q2618 dX4_isVictim_28 ?_
      refine j_top (z2 := 0) (iup_s _ _ _) ?_
      refine j_if_le hk (by omega) dX4_isVictim_31 rfl (tgt := 36) (fun _ => ?_) (fun h => absurd h (by omega))
      have q1 := of_decide_eq_true h5
      have q2 := of_decide_eq_true h16
      obtain ⟨s, rfl⟩ : ∃ s : Nat, si = ((s : Nat) : Int) := ⟨si.toNat, by omega⟩
      obtain ⟨t, rfl⟩ : ∃ t : Nat, ti = ((t : Nat) : Int) := ⟨ti.toNat, by omega⟩
      have e1 : isSl (s : Int) = true := by simp [isSl]; omega
      have e2 : isTr (t : Int) = true := by simp [isTr]; omega
      refine j_ald4 hk dX4_isVictim_36 rfl rfl ?_
      refine j_ild4 hk dX4_isVictim_37 rfl rfl ?_
      refine j_mVv hE hk hl0 hF (mc_executesUnderLocks hls hE (A := A) (F := (iup F 4 0)) (s := s) (S := g.1.1) (V := g.1.2) (hR.1) (by omega)) 1 (lw_V q2924 q2926 qs81 q145 q2927) (by decide +kernel) rfl (by decide) (by decide) rfl (Nat.le_of_ble_eq_true rfl) dX4_isVictim_38 ?_
      intro Az1 Fz2 hc38
      obtain ⟨hw_38, hg_38, ka_38, kf_38⟩ := hc38
      refine j_ald4 hk dX4_isVictim_41 rfl rfl ?_
      refine j_mget hE hk 27 (by decide) rfl q2641 dX4_isVictim_42 ?_
      refine j_top (z2 := (((lockS (g.1.1 s)).vic : Nat) : Int)) (hw_38.2.2.2.2.2.1.1) ?_
      have hv64 := hw_38.2.2.2.2.2.1.2
      refine j_ild4 hk dX4_isVictim_45 rfl rfl ?_
      refine j_ishr (a := (lockS (g.1.1 s)).vic) (b := t) hk (by omega) (by omega) dX4_isVictim_46 ?_
      refine j_iconst (n := 1) hk dX4_isVictim_47 ?_
      refine j_ibit (a := (lockS (g.1.1 s)).vic) (b := t) hk dX4_isVictim_48 ?_
      refine j_iconst (n := 1) hk dX4_isVictim_49 ?_
      refine j_icmpB_ne hk dX4_isVictim_50 rfl (tgt := 57) (fun h50 => ?_) (fun h50 => ?_)
      · refine j_iconst (n := 0) hk dX4_isVictim_57 ?_
        refine j_miret hk he rfl dX4_isVictim_58 (Nat.le_refl _) (Nat.le_refl _) ?_
        have e : sp_isVictim g (s : Int) (t : Int) = (0, jB ((lockS (g.1.1 s)).vic.testBit t), g) := by simp only [sp_isVictim, e1, e2, Int.toNat_natCast, Bool.not_true, Bool.false_eq_true, if_false]
        rw [mP, e, h50]
        exact ⟨rfl, by rw [kf_38 4 (by decide)]; exact iup_s _ _ _, hR.up4.keep ka_38 kf_38 (by decide) (by decide)⟩
      · refine j_iconst (n := 1) hk dX4_isVictim_53 ?_
        refine j_goto (tgt := 58) hk dX4_isVictim_54 rfl ?_
        refine j_miret hk he rfl dX4_isVictim_58 (Nat.le_refl _) (Nat.le_refl _) ?_
        have e : sp_isVictim g (s : Int) (t : Int) = (0, jB ((lockS (g.1.1 s)).vic.testBit t), g) := by simp only [sp_isVictim, e1, e2, Int.toNat_natCast, Bool.not_true, Bool.false_eq_true, if_false]
        rw [mP, e, h50]
        exact ⟨rfl, by rw [kf_38 4 (by decide)]; exact iup_s _ _ _, hR.up4.keep ka_38 kf_38 (by decide) (by decide)⟩
    · refine j_iconst (n := 2) hk dX4_isVictim_19 ?_
      refine j_goto (tgt := 24) hk dX4_isVictim_20 rfl ?_
      refine j_mput hE hk hF 4 (by decide) rfl q2618 rfl rfl rfl rfl dX4_isVictim_24 ?_
      refine j_ald4 hk dX4_isVictim_27 rfl rfl ?_
      refine j_mget hE hk 4 (by decide) rfl q2618 dX4_isVictim_28 ?_
      refine j_top (z2 := 2) (iup_s _ _ _) ?_
      refine j_if_le hk (by omega) dX4_isVictim_31 rfl (tgt := 36) (fun h => absurd h (by omega)) (fun _ => ?_)
      refine j_iconst (n := 0) hk dX4_isVictim_34 ?_
      refine j_miret hk he rfl dX4_isVictim_35 (Nat.le_refl _) (Nat.le_refl _) ?_
      have e : sp_isVictim g si ti = (2, 0, g) := by simp [sp_isVictim, isSl, isTr, h5, h16]
      rw [mP, e]
      exact ⟨rfl, iup_s _ _ _, hR.up4⟩
  · refine j_iconst (n := 1) hk dX4_isVictim_8 ?_
    refine j_goto (tgt := 24) hk dX4_isVictim_9 rfl ?_
    refine j_mput hE hk hF 4 (by decide) rfl q2618 rfl rfl rfl rfl dX4_isVictim_24 ?_
    refine j_ald4 hk dX4_isVictim_27 rfl rfl ?_
    refine j_mget hE hk 4 (by decide) rfl q2618 dX4_isVictim_28 ?_
    refine j_top (z2 := 1) (iup_s _ _ _) ?_
    refine j_if_le hk (by omega) dX4_isVictim_31 rfl (tgt := 36) (fun h => absurd h (by omega)) (fun _ => ?_)
    refine j_iconst (n := 0) hk dX4_isVictim_34 ?_
    refine j_miret hk he rfl dX4_isVictim_35 (Nat.le_refl _) (Nat.le_refl _) ?_
    have e : sp_isVictim g si ti = (1, 0, g) := by simp [sp_isVictim, isSl, h5]
    rw [mP, e]
    exact ⟨rfl, iup_s _ _ _, hR.up4⟩
