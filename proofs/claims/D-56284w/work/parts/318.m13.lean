set_option maxHeartbeats 1500000 in
/-- hasBefore(III)Z -/
theorem mc_hasBefore {l : Launch} {E : jE} {m : Nat} {ad : Nat → Nat} {A : Nat → Nat → Int} {F : Nat → Int} (hls : l.stackTraces = false) (hE : jSt E) {t : Nat} {c : Nat} {b : Nat} {L : List Op} (hL : laid A F L) (hb : b ≤ L.length) (h9 : t < 100 ∧ c < 100) : mC l E yX4_hasBefore cX4_hasBefore 5 (some .boolean) 1 12 [.ref m, .int (jI ((t : Nat) : Int)), .int (jI ((c : Nat) : Int)), .int (jI ((b : Nat) : Int))] m ad A F (mQi E m ad (fun r A2 F2 => jB (hasBf L t c b) = r ∧ A = A2 ∧ F = F2)) := by
  refine m_start (own := "ScheduleAnalyzerModel") (vs := [some (.ref m), some (.int (jI ((t : Nat) : Int))), some (.int (jI ((c : Nat) : Int))), some (.int (jI ((b : Nat) : Int))), none]) hls (by decide +kernel) rfl rfl rfl (Nat.le_of_ble_eq_true rfl) ?_
  intro K hk he hl0 hF hG0
  have hlen := hL.len
  refine j_iconst (n := 0) hk dX4_hasBefore_0 ?_
  refine j_ist4 hk dX4_hasBefore_1 rfl ?_
  have loop3 : ∀ (fuel3 : Nat) (k : Nat), b - k < fuel3 → k ≤ b → (∀ j, j < k → ¬ (oT (opAt L j) = t ∧ oK (opAt L j) = c)) → jW K (mAs E m ad A F) 0 0 3 [some (.ref m), some (.int (jI ((t : Nat) : Int))), some (.int (jI ((c : Nat) : Int))), some (.int (jI ((b : Nat) : Int))), some (.int (jI ((k : Nat) : Int)))] [] := by
    intro fuel3
    induction fuel3 with
    | zero => intro k hm; exact absurd hm (Nat.not_lt_zero _)
    | succ fuel3 ih3 =>
      intro k hm3 hk1 hk2
      refine j_ild hk dX4_hasBefore_3 rfl ?_
      refine j_ild4 hk dX4_hasBefore_5 rfl rfl ?_
      refine j_icmp_ge hk (by omega) (by omega) dX4_hasBefore_6 rfl (tgt := 39) (fun h6 => ?_) (fun h6 => ?_)
      · refine j_iconst (n := 0) hk dX4_hasBefore_39 ?_
        refine j_miret hk he rfl dX4_hasBefore_40 (Nat.le_refl _) (Nat.le_refl _) ?_
        exact ⟨by rw [hasBf_f (fun j hj => hk2 j (by omega))]; rfl, rfl, rfl⟩
      · have lr := hL.2.2 (k) (by omega)
        obtain ⟨l1, l2, l3⟩ := lr
        obtain ⟨l4, l5, l6, l7, l8⟩ := hL.ok (i := k) (by omega)
        refine j_ald4 hk dX4_hasBefore_9 rfl rfl ?_
        refine j_mgetA hE hk 14 (by decide) rfl q2628 dX4_hasBefore_10 ?_
        refine j_ild hk dX4_hasBefore_13 rfl ?_
        refine j_mald hE hk 14 7 rfl (k) (by omega) (by simp only [mLen]; omega) dX4_hasBefore_15 ?_
        refine j_top (z2 := ((oT (opAt L k) : Nat) : Int)) (l2) ?_
        refine j_ild4 hk dX4_hasBefore_16 rfl rfl ?_
        refine j_icmp_ne hk (by omega) (by omega) dX4_hasBefore_17 rfl (tgt := 33) (fun h17 => ?_) (fun h17 => ?_)
        · refine j_iinc4 hk dX4_hasBefore_33 rfl ?_
          refine j_goto (tgt := 3) hk dX4_hasBefore_36 rfl ?_
          exact ih3 (k + 1) (by omega) (by omega) (all_s hk2 (by omega))
        · refine j_ald4 hk dX4_hasBefore_20 rfl rfl ?_
          refine j_mgetA hE hk 13 (by decide) rfl q2627 dX4_hasBefore_21 ?_
          refine j_ild hk dX4_hasBefore_24 rfl ?_
          refine j_mald hE hk 13 6 rfl (k) (by omega) (by simp only [mLen]; omega) dX4_hasBefore_26 ?_
          refine j_top (z2 := ((oK (opAt L k) : Nat) : Int)) (l1) ?_
          refine j_ild4 hk dX4_hasBefore_27 rfl rfl ?_
          refine j_icmp_ne hk (by omega) (by omega) dX4_hasBefore_28 rfl (tgt := 33) (fun h28 => ?_) (fun h28 => ?_)
          · refine j_iinc4 hk dX4_hasBefore_33 rfl ?_
            refine j_goto (tgt := 3) hk dX4_hasBefore_36 rfl ?_
            exact ih3 (k + 1) (by omega) (by omega) (all_s hk2 (by omega))
          · refine j_iconst (n := 1) hk dX4_hasBefore_31 ?_
            refine j_miret hk he rfl dX4_hasBefore_32 (Nat.le_refl _) (Nat.le_refl _) ?_
            exact ⟨by rw [hasBf_t (j := k) (by omega) (by omega) (by omega)]; rfl, rfl, rfl⟩
  exact loop3 _ 0 (Nat.lt_succ_self _) (Nat.zero_le _) (fun j h => absurd h (Nat.not_lt_zero _))
set_option maxHeartbeats 1500000 in
/-- source(I)I -/
theorem mc_source {l : Launch} {E : jE} {m : Nat} {ad : Nat → Nat} {A : Nat → Nat → Int} {F : Nat → Int} (hls : l.stackTraces = false) (hE : jSt E) {k : Nat} {L : List Op} (hL : laid A F L) (hkl : k < L.length) : mC l E yX4_source cX4_source 3 (some .int) 2 36 [.ref m, .int (jI ((k : Nat) : Int))] m ad A F (mQi E m ad (fun r A2 F2 => src L k = r ∧ A = A2 ∧ F = F2)) := by
  refine m_start (own := "ScheduleAnalyzerModel") (vs := [some (.ref m), some (.int (jI ((k : Nat) : Int))), none]) hls (by decide +kernel) rfl rfl rfl (Nat.le_of_ble_eq_true rfl) ?_
  intro K hk he hl0 hF hG0
  have hlen := hL.len
  have kr := hL.2.2 (k) (hkl)
  obtain ⟨k1, k2, k3⟩ := kr
  obtain ⟨k4, k5, k6, k7, k8⟩ := hL.ok (i := k) (hkl)
  refine j_ild4 hk dX4_source_0 rfl rfl ?_
  refine j_iconst (n := 1) hk dX4_source_1 ?_
  refine j_isub hk dX4_source_2 ?_
  refine j_ist2 hk dX4_source_3 rfl ?_
  have loop4 : ∀ (fuel4 : Nat) (n : Nat), n < fuel4 → n ≤ k → srcTo L k n = src L k → jW K (mAs E m ad A F) 0 0 4 [some (.ref m), some (.int (jI ((k : Nat) : Int))), some (.int (jI (((n : Nat) : Int) - 1)))] [] := by
    intro fuel4
    induction fuel4 with
    | zero => intro n hm; exact absurd hm (Nat.not_lt_zero _)
    | succ fuel4 ih4 =>
      intro n hm4 hn hs
      refine j_ild4 hk dX4_source_4 rfl rfl ?_
      refine j_if_lt hk (by omega) dX4_source_5 rfl (tgt := 56) (fun h5 => ?_) (fun h5 => ?_)
      · refine j_iconst (n := -1) hk dX4_source_56 ?_
        refine j_miret hk he rfl dX4_source_57 (Nat.le_refl _) (Nat.le_refl _) ?_
        have e : n = 0 := by omega
        subst e
        exact ⟨hs.symm, rfl, rfl⟩
      · obtain ⟨j, rfl⟩ : ∃ j, n = j + 1 := ⟨n - 1, by omega⟩
        refine j_loc (i := 2) (z2 := ((j : Nat) : Int)) rfl (by omega) ?_
        have lr := hL.2.2 (j) (by omega)
        obtain ⟨l1, l2, l3⟩ := lr
        obtain ⟨l4, l5, l6, l7, l8⟩ := hL.ok (i := j) (by omega)
        refine j_ald4 hk dX4_source_8 rfl rfl ?_
        refine j_mgetA hE hk 13 (by decide) rfl q2627 dX4_source_9 ?_
        refine j_ild4 hk dX4_source_12 rfl rfl ?_
        refine j_mald hE hk 13 6 rfl (j) (by omega) (by simp only [mLen]; omega) dX4_source_13 ?_
        refine j_top (z2 := ((oK (opAt L j) : Nat) : Int)) (l1) ?_
        refine j_iconst (n := 1) hk dX4_source_14 ?_
        refine j_icmp_ne hk (by omega) (by omega) dX4_source_15 rfl (tgt := 50) (fun h15 => ?_) (fun h15 => ?_)
        · refine j_iinc2 hk dX4_source_50 rfl ?_
          refine j_goto (tgt := 4) hk dX4_source_53 rfl ?_
          exact ih4 j (by omega) (by omega) (by rw [← hs, srcTo_s, if_neg (fun q => absurd q.1.1 (by omega))])
        · refine j_ald4 hk dX4_source_18 rfl rfl ?_
          refine j_mgetA hE hk 15 (by decide) rfl q2629 dX4_source_19 ?_
          refine j_ild4 hk dX4_source_22 rfl rfl ?_
          refine j_mald hE hk 15 8 rfl (j) (by omega) (by simp only [mLen]; omega) dX4_source_23 ?_
          refine j_top (z2 := ((oI (opAt L j) : Nat) : Int)) (l3) ?_
          refine j_ald4 hk dX4_source_24 rfl rfl ?_
          refine j_mgetA hE hk 15 (by decide) rfl q2629 dX4_source_25 ?_
          refine j_ild4 hk dX4_source_28 rfl rfl ?_
          refine j_mald hE hk 15 8 rfl (k) (by omega) (by simp only [mLen]; omega) dX4_source_29 ?_
          refine j_top (z2 := ((oI (opAt L k) : Nat) : Int)) (k3) ?_
          refine j_icmp_ne hk (by omega) (by omega) dX4_source_30 rfl (tgt := 50) (fun h30 => ?_) (fun h30 => ?_)
          · refine j_iinc2 hk dX4_source_50 rfl ?_
            refine j_goto (tgt := 4) hk dX4_source_53 rfl ?_
            exact ih4 j (by omega) (by omega) (by rw [← hs, srcTo_s, if_neg (fun q => absurd q.1.2 (by omega))])
          · refine j_ald4 hk dX4_source_33 rfl rfl ?_
            refine j_ald4 hk dX4_source_34 rfl rfl ?_
            refine j_mgetA hE hk 14 (by decide) rfl q2628 dX4_source_35 ?_
            refine j_ild4 hk dX4_source_38 rfl rfl ?_
            refine j_mald hE hk 14 7 rfl (j) (by omega) (by simp only [mLen]; omega) dX4_source_39 ?_
            refine j_top (z2 := ((oT (opAt L j) : Nat) : Int)) (l2) ?_
            refine j_iconst (n := 3) hk dX4_source_40 ?_
            refine j_ild4 hk dX4_source_41 rfl rfl ?_
            refine j_mVi hE hk hl0 hF (mc_hasBefore hls hE (A := A) (F := F) (t := oT (opAt L j)) (c := 3) (b := k) (hL) (by omega) (by omega)) 3 (lw_V q3095 q3097 qs104 q145 q3098) (by decide +kernel) rfl (by decide) (by decide) rfl (Nat.le_of_ble_eq_true rfl) dX4_source_42 ?_
            rintro _ _ _ ⟨rfl, rfl, rfl⟩
            refine j_ifneB hk dX4_source_45 rfl (tgt := 50) (fun h45 => ?_) (fun h45 => ?_)
            · refine j_iinc2 hk dX4_source_50 rfl ?_
              refine j_goto (tgt := 4) hk dX4_source_53 rfl ?_
              exact ih4 j (by omega) (by omega) (by rw [← hs, srcTo_s, if_neg (fun q => absurd q.2 (by rw [h45]; decide))])
            · refine j_ild4 hk dX4_source_48 rfl rfl ?_
              refine j_miret hk he rfl dX4_source_49 (Nat.le_refl _) (Nat.le_refl _) ?_
              exact ⟨by rw [← hs, srcTo_s, if_pos ⟨⟨by omega, by omega⟩, h45⟩], rfl, rfl⟩
  exact loop4 _ k (Nat.lt_succ_self _) (Nat.le_refl _) (rfl)
set_option maxHeartbeats 1500000 in
/-- sourceOf(II)I -/
theorem mc_sourceOf {l : Launch} {E : jE} {m : Nat} {ad : Nat → Nat} {A : Nat → Nat → Int} {F : Nat → Int} (hls : l.stackTraces = false) (hE : jSt E) {si : Int} {pi : Int} {g : SS} (hR : mR A F g) (hr : jr si ∧ jr pi) : mC l E yX4_sourceOf cX4_sourceOf 3 (some .int) 5 105 [.ref m, .int (jI si), .int (jI pi)] m ad A F (mQi E m ad (fun r A2 F2 => mP (sp_sourceOf g si pi) r A2 F2)) := by
  refine m_start (own := "ScheduleAnalyzerModel") (vs := [some (.ref m), some (.int (jI si)), some (.int (jI pi))]) hls (by decide +kernel) rfl rfl rfl (Nat.le_of_ble_eq_true rfl) ?_
  intro K hk he hl0 hF hG0
  refine j_ald4 hk dX4_sourceOf_0 rfl rfl ?_
  refine j_ald4 hk dX4_sourceOf_1 rfl rfl ?_
  refine j_ild4 hk dX4_sourceOf_2 rfl rfl ?_
  refine j_ild4 hk dX4_sourceOf_3 rfl rfl ?_
  refine j_mVi hE hk hl0 hF (mc_isOperation hls hE (A := A) (F := F) (s := si) (p := pi) (S := g.1.1) (V := g.1.2) (hR.1) (hr)) 2 (lw_V q2833 q2835 qs65 q145 q2836) (by decide +kernel) rfl (by decide) (by decide) rfl (Nat.le_of_ble_eq_true rfl) dX4_sourceOf_4 ?_
  rintro _ _ _ ⟨rfl, rfl, rfl⟩
  refine j_ifneB hk dX4_sourceOf_7 rfl (tgt := 14) (fun h7 => ?_) (fun h7 => ?_)
  · have q1 := h7
    simp only [isOpB, Bool.and_eq_true, decide_eq_true_eq, Bool.not_eq_true', Bool.not_eq_false', Bool.not_eq_eq_eq_not, Bool.not_true, Bool.not_false] at q1
    obtain ⟨s, rfl⟩ : ∃ s : Nat, si = ((s : Nat) : Int) := ⟨si.toNat, by omega⟩
    obtain ⟨p, rfl⟩ : ∃ p : Nat, pi = ((p : Nat) : Int) := ⟨pi.toNat, by omega⟩
    simp only [Int.toNat_natCast] at q1
    have hpl : p < (g.1.1 s).length := by omega
    have hok := hR.1.ok (s := s) (by omega) hpl
    obtain ⟨o1, o2, o3, o4, o5⟩ := hok
    have hok := hR.1.ok (s := s) (by omega) hpl
    have hv := opV_lt hok
    refine j_ald4 hk dX4_sourceOf_14 rfl rfl ?_
    refine j_ild4 hk dX4_sourceOf_15 rfl rfl ?_
    refine j_ild4 hk dX4_sourceOf_16 rfl rfl ?_
    refine j_mVi hE hk hl0 hF (mc_code hls hE (A := A) (F := F) (s := s) (i := p) (S := g.1.1) (V := g.1.2) (hR.1) (by omega) (hpl)) 2 (lw_V q2821 q2823 qs64 q145 q2824) (by decide +kernel) rfl (by decide) (by decide) rfl (Nat.le_of_ble_eq_true rfl) dX4_sourceOf_17 ?_
    rintro _ _ _ ⟨rfl, rfl, rfl⟩
    refine j_sSi hk hl0 (sc_kindOf hls (c := opV (opAt (g.1.1 s) p)) (by omega)) 1 (lw_S q2790 q2791 q145 q2792) (by decide +kernel) rfl (by decide) (by decide) rfl (Nat.le_of_ble_eq_true rfl) dX4_sourceOf_20 ?_
    refine j_top (z2 := ((oK (opAt (g.1.1 s) p) : Nat) : Int)) (by rw [opV_k hok]) ?_
    refine j_if_eq hk (by omega) dX4_sourceOf_23 rfl (tgt := 30) (fun h23 => ?_) (fun h23 => ?_)
    · refine j_iconst (n := 0) hk dX4_sourceOf_30 ?_
      refine j_mput hE hk hF 4 (by decide) rfl q2618 rfl rfl rfl rfl dX4_sourceOf_31 ?_
      refine j_ald4 hk dX4_sourceOf_34 rfl rfl ?_
      refine j_mget hE hk 4 (by decide) rfl q2618 dX4_sourceOf_35 ?_
      refine j_top (z2 := 0) (iup_s _ _ _) ?_
      refine j_if_le hk (by omega) dX4_sourceOf_38 rfl (tgt := 43) (fun _ => ?_) (fun h => absurd h (by omega))
      refine j_ald4 hk dX4_sourceOf_43 rfl rfl ?_
      refine j_ild4 hk dX4_sourceOf_44 rfl rfl ?_
      refine j_iconst (n := 0) hk dX4_sourceOf_45 ?_
      refine j_mVv hE hk hl0 hF (mc_lay hls hE (A := A) (F := (iup F 4 0)) (s := s) (b := false) (S := g.1.1) (V := g.1.2) (hR.1) (by omega)) 2 (lw_V q2889 q2891 qs74 q145 q2892) (by decide +kernel) rfl (by decide) (by decide) rfl (Nat.le_of_ble_eq_true rfl) dX4_sourceOf_46 ?_
      intro Az1 Fz2 hc46
      obtain ⟨hL0, hP0, hka0, hkf0⟩ := hc46
      rw [layL_f] at hL0
      have hsr := src_r (g.1.1 s) p
      have hm : mR Az1 Fz2 g := hR.up4.keep hka0 hkf0 (by decide) (by decide)
      refine j_ald4 hk dX4_sourceOf_49 rfl rfl ?_
      refine j_ald4 hk dX4_sourceOf_50 rfl rfl ?_
      refine j_ild4 hk dX4_sourceOf_51 rfl rfl ?_
      refine j_mVi hE hk hl0 hF (mc_source hls hE (A := Az1) (F := Fz2) (k := p) (L := g.1.1 s) (hL0) (hpl)) 1 (lw_V q3091 q3093 qs103 q145 q3094) (by decide +kernel) rfl (by decide) (by decide) rfl (Nat.le_of_ble_eq_true rfl) dX4_sourceOf_52 ?_
      rintro _ _ _ ⟨rfl, rfl, rfl⟩
      refine j_if_ge hk (by omega) dX4_sourceOf_55 rfl (tgt := 62) (fun h55 => ?_) (fun h55 => ?_)
      · refine j_iconst (n := 0) hk dX4_sourceOf_62 ?_
        refine j_mput hE hk hF 4 (by decide) rfl q2618 rfl rfl rfl rfl dX4_sourceOf_63 ?_
        refine j_ald4 hk dX4_sourceOf_66 rfl rfl ?_
        refine j_mget hE hk 4 (by decide) rfl q2618 dX4_sourceOf_67 ?_
        refine j_top (z2 := 0) (iup_s _ _ _) ?_
        refine j_if_le hk (by omega) dX4_sourceOf_70 rfl (tgt := 77) (fun _ => ?_) (fun h => absurd h (by omega))
        refine j_ald4 hk dX4_sourceOf_77 rfl rfl ?_
        refine j_ild4 hk dX4_sourceOf_78 rfl rfl ?_
        refine j_mVi hE hk hl0 hF (mc_source hls hE (A := Az1) (F := (iup Fz2 4 0)) (k := p) (L := g.1.1 s) (hL0.keep rfl rfl rfl (iup_n (by decide))) (hpl)) 1 (lw_V q3091 q3093 qs103 q145 q3094) (by decide +kernel) rfl (by decide) (by decide) rfl (Nat.le_of_ble_eq_true rfl) dX4_sourceOf_79 ?_
        rintro _ _ _ ⟨rfl, rfl, rfl⟩
        refine j_miret hk he rfl dX4_sourceOf_82 (Nat.le_refl _) (Nat.le_refl _) ?_
        have e : sp_sourceOf g (s : Int) (p : Int) = (0, src (g.1.1 s) p, g) := by
          have e1 : oK (opAt (g.1.1 s) p) = 0 := by omega
          have e2 : ¬ src (g.1.1 s) p < 0 := by omega
          simp [sp_sourceOf, h7, e1, e2]
        rw [mP, e]
        exact ⟨rfl, iup_s _ _ _, hm.up4⟩
      · refine j_iconst (n := 3) hk dX4_sourceOf_58 ?_
        refine j_goto (tgt := 63) hk dX4_sourceOf_59 rfl ?_
        refine j_mput hE hk hF 4 (by decide) rfl q2618 rfl rfl rfl rfl dX4_sourceOf_63 ?_
        refine j_ald4 hk dX4_sourceOf_66 rfl rfl ?_
        refine j_mget hE hk 4 (by decide) rfl q2618 dX4_sourceOf_67 ?_
        refine j_top (z2 := 3) (iup_s _ _ _) ?_
        refine j_if_le hk (by omega) dX4_sourceOf_70 rfl (tgt := 77) (fun h => absurd h (by omega)) (fun _ => ?_)
        refine j_iconst (n := 0) hk dX4_sourceOf_73 ?_
        refine j_goto (tgt := 82) hk dX4_sourceOf_74 rfl ?_
        refine j_miret hk he rfl dX4_sourceOf_82 (Nat.le_refl _) (Nat.le_refl _) ?_
        have e : sp_sourceOf g (s : Int) (p : Int) = (3, 0, g) := by
          have e1 : oK (opAt (g.1.1 s) p) = 0 := by omega
          have e2 : src (g.1.1 s) p < 0 := by omega
          simp [sp_sourceOf, h7, e1, e2]
        rw [mP, e]
        exact ⟨rfl, iup_s _ _ _, hm.up4⟩
    · refine j_iconst (n := 2) hk dX4_sourceOf_26 ?_
      refine j_goto (tgt := 31) hk dX4_sourceOf_27 rfl ?_
      refine j_mput hE hk hF 4 (by decide) rfl q2618 rfl rfl rfl rfl dX4_sourceOf_31 ?_
      refine j_ald4 hk dX4_sourceOf_34 rfl rfl ?_
      refine j_mget hE hk 4 (by decide) rfl q2618 dX4_sourceOf_35 ?_
      refine j_top (z2 := 2) (iup_s _ _ _) ?_
      refine j_if_le hk (by omega) dX4_sourceOf_38 rfl (tgt := 43) (fun h => absurd h (by omega)) (fun _ => ?_)
      refine j_iconst (n := 0) hk dX4_sourceOf_41 ?_
      refine j_miret hk he rfl dX4_sourceOf_42 (Nat.le_refl _) (Nat.le_refl _) ?_
      have e : sp_sourceOf g (s : Int) (p : Int) = (2, 0, g) := by simp [sp_sourceOf, h7]; omega
      rw [mP, e]
      exact ⟨rfl, iup_s _ _ _, hR.up4⟩
  · refine j_iconst (n := 1) hk dX4_sourceOf_10 ?_
    refine j_goto (tgt := 31) hk dX4_sourceOf_11 rfl ?_
    refine j_mput hE hk hF 4 (by decide) rfl q2618 rfl rfl rfl rfl dX4_sourceOf_31 ?_
    refine j_ald4 hk dX4_sourceOf_34 rfl rfl ?_
    refine j_mget hE hk 4 (by decide) rfl q2618 dX4_sourceOf_35 ?_
    refine j_top (z2 := 1) (iup_s _ _ _) ?_
    refine j_if_le hk (by omega) dX4_sourceOf_38 rfl (tgt := 43) (fun h => absurd h (by omega)) (fun _ => ?_)
    refine j_iconst (n := 0) hk dX4_sourceOf_41 ?_
    refine j_miret hk he rfl dX4_sourceOf_42 (Nat.le_refl _) (Nat.le_refl _) ?_
    have e : sp_sourceOf g si pi = (1, 0, g) := by simp [sp_sourceOf, h7]
    rw [mP, e]
    exact ⟨rfl, iup_s _ _ _, hR.up4⟩
set_option maxHeartbeats 1500000 in
/-- isForeign(I)Z -/
theorem mc_isForeign {l : Launch} {E : jE} {m : Nat} {ad : Nat → Nat} {A : Nat → Nat → Int} {F : Nat → Int} (hls : l.stackTraces = false) (hE : jSt E) {k : Nat} {L : List Op} (hL : laid A F L) (hkl : k < L.length) : mC l E yX4_isForeign cX4_isForeign 2 (some .boolean) 3 58 [.ref m, .int (jI ((k : Nat) : Int))] m ad A F (mQi E m ad (fun r A2 F2 => jB (frgB L k) = r ∧ A = A2 ∧ F = F2)) := by
  refine m_start (own := "ScheduleAnalyzerModel") (vs := [some (.ref m), some (.int (jI ((k : Nat) : Int)))]) hls (by decide +kernel) rfl rfl rfl (Nat.le_of_ble_eq_true rfl) ?_
  intro K hk he hl0 hF hG0
  have hlen := hL.len
  have hsr := src_r L k
  have kr := hL.2.2 (k) (hkl)
  obtain ⟨k1, k2, k3⟩ := kr
  obtain ⟨k4, k5, k6, k7, k8⟩ := hL.ok (i := k) (hkl)
  refine j_ald4 hk dX4_isForeign_0 rfl rfl ?_
  refine j_mgetA hE hk 13 (by decide) rfl q2627 dX4_isForeign_1 ?_
  refine j_ild4 hk dX4_isForeign_4 rfl rfl ?_
  refine j_mald hE hk 13 6 rfl (k) (by omega) (by simp only [mLen]; omega) dX4_isForeign_5 ?_
  refine j_top (z2 := ((oK (opAt L k) : Nat) : Int)) (k1) ?_
  refine j_if_ne hk (by omega) dX4_isForeign_6 rfl (tgt := 40) (fun h6 => ?_) (fun h6 => ?_)
  · refine j_iconst (n := 0) hk dX4_isForeign_40 ?_
    refine j_miret hk he rfl dX4_isForeign_41 (Nat.le_refl _) (Nat.le_refl _) ?_
    exact ⟨by rw [show frgB L k = false by unfold frgB; simp; omega]; rfl, rfl, rfl⟩
  · refine j_ald4 hk dX4_isForeign_9 rfl rfl ?_
    refine j_ild4 hk dX4_isForeign_10 rfl rfl ?_
    refine j_mVi hE hk hl0 hF (mc_source hls hE (A := A) (F := F) (k := k) (hL) (hkl)) 1 (lw_V q3091 q3093 qs103 q145 q3094) (by decide +kernel) rfl (by decide) (by decide) rfl (Nat.le_of_ble_eq_true rfl) dX4_isForeign_11 ?_
    rintro _ _ _ ⟨rfl, rfl, rfl⟩
    refine j_if_lt hk (by omega) dX4_isForeign_14 rfl (tgt := 40) (fun h14 => ?_) (fun h14 => ?_)
    · refine j_iconst (n := 0) hk dX4_isForeign_40 ?_
      refine j_miret hk he rfl dX4_isForeign_41 (Nat.le_refl _) (Nat.le_refl _) ?_
      exact ⟨by rw [show frgB L k = false by unfold frgB; simp; omega]; rfl, rfl, rfl⟩
    · obtain ⟨hs1, hs2⟩ := srcN_e (l := L) (k := k) (by omega)
      have lr := hL.2.2 (srcN L k) (by omega)
      obtain ⟨l1, l2, l3⟩ := lr
      obtain ⟨l4, l5, l6, l7, l8⟩ := hL.ok (i := srcN L k) (by omega)
      refine j_ald4 hk dX4_isForeign_17 rfl rfl ?_
      refine j_mgetA hE hk 14 (by decide) rfl q2628 dX4_isForeign_18 ?_
      refine j_ald4 hk dX4_isForeign_21 rfl rfl ?_
      refine j_ild4 hk dX4_isForeign_22 rfl rfl ?_
      refine j_mVi hE hk hl0 hF (mc_source hls hE (A := A) (F := F) (k := k) (hL) (hkl)) 1 (lw_V q3091 q3093 qs103 q145 q3094) (by decide +kernel) rfl (by decide) (by decide) rfl (Nat.le_of_ble_eq_true rfl) dX4_isForeign_23 ?_
      rintro _ _ _ ⟨rfl, rfl, rfl⟩
      refine j_top (z2 := ((srcN L k : Nat) : Int)) (hs1) ?_
      refine j_mald hE hk 14 7 rfl (srcN L k) (by omega) (by simp only [mLen]; omega) dX4_isForeign_26 ?_
      refine j_top (z2 := ((oT (opAt L (srcN L k)) : Nat) : Int)) (l2) ?_
      refine j_ald4 hk dX4_isForeign_27 rfl rfl ?_
      refine j_mgetA hE hk 14 (by decide) rfl q2628 dX4_isForeign_28 ?_
      refine j_ild4 hk dX4_isForeign_31 rfl rfl ?_
      refine j_mald hE hk 14 7 rfl (k) (by omega) (by simp only [mLen]; omega) dX4_isForeign_32 ?_
      refine j_top (z2 := ((oT (opAt L k) : Nat) : Int)) (k2) ?_
      refine j_icmp_eq hk (by omega) (by omega) dX4_isForeign_33 rfl (tgt := 40) (fun h33 => ?_) (fun h33 => ?_)
      · refine j_iconst (n := 0) hk dX4_isForeign_40 ?_
        refine j_miret hk he rfl dX4_isForeign_41 (Nat.le_refl _) (Nat.le_refl _) ?_
        exact ⟨by rw [show frgB L k = false by unfold frgB; simp; omega]; rfl, rfl, rfl⟩
      · refine j_iconst (n := 1) hk dX4_isForeign_36 ?_
        refine j_goto (tgt := 41) hk dX4_isForeign_37 rfl ?_
        refine j_miret hk he rfl dX4_isForeign_41 (Nat.le_refl _) (Nat.le_refl _) ?_
        exact ⟨by rw [show frgB L k = true by unfold frgB; simp; omega]; rfl, rfl, rfl⟩
set_option maxHeartbeats 1500000 in
/-- dirt(I)I -/
theorem mc_dirt {l : Launch} {E : jE} {m : Nat} {ad : Nat → Nat} {A : Nat → Nat → Int} {F : Nat → Int} (hls : l.stackTraces = false) (hE : jSt E) {s : Nat} {S : Nat → List Op} {V : Nat → Nat} (hN : nowIs (A 0) S V) (hs : s < 4) : mC l E yX4_dirt cX4_dirt 4 (some .int) 5 105 [.ref m, .int (jI ((s : Nat) : Int))] m ad A F (mQi E m ad (fun r A2 F2 => ((dirtT (S s) : Nat) : Int) = r ∧ laid A2 F2 (S s) ∧ kA [13, 14, 15] A A2 ∧ kF [19, 20] F F2)) := by
  refine m_start (own := "ScheduleAnalyzerModel") (vs := [some (.ref m), some (.int (jI ((s : Nat) : Int))), none, none]) hls (by decide +kernel) rfl rfl rfl (Nat.le_of_ble_eq_true rfl) ?_
  intro K hk he hl0 hF hG0
  refine j_ald4 hk dX4_dirt_0 rfl rfl ?_
  refine j_ild4 hk dX4_dirt_1 rfl rfl ?_
  refine j_iconst (n := 0) hk dX4_dirt_2 ?_
  refine j_mVv hE hk hl0 hF (mc_lay hls hE (A := A) (F := F) (s := s) (b := false) (by first | assumption | omega) (by first | assumption | omega)) 2 (lw_V q2889 q2891 qs74 q145 q2892) (by decide +kernel) rfl (by decide) (by decide) rfl (Nat.le_of_ble_eq_true rfl) dX4_dirt_3 ?_
  intro Az1 Fz2 hc3
  obtain ⟨hL, hP0, hka0, hkf0⟩ := hc3
  rw [layL_f] at hL
  have hlen := hL.len
  refine j_iconst (n := 0) hk dX4_dirt_6 ?_
  refine j_ist2 hk dX4_dirt_7 rfl ?_
  refine j_iconst (n := 0) hk dX4_dirt_8 ?_
  refine j_ist3 hk dX4_dirt_9 rfl ?_
  have loop10 : ∀ (fuel10 : Nat) (k : Nat), (S s).length - k < fuel10 → k ≤ (S s).length → jW K (mAs E m ad Az1 Fz2) 0 0 10 [some (.ref m), some (.int (jI ((s : Nat) : Int))), some (.int (jI ((dirtN (S s) k : Nat) : Int))), some (.int (jI ((k : Nat) : Int)))] [] := by
    intro fuel10
    induction fuel10 with
    | zero => intro k hm; exact absurd hm (Nat.not_lt_zero _)
    | succ fuel10 ih10 =>
      intro k hm10 hk1
      refine j_ild4 hk dX4_dirt_10 rfl rfl ?_
      refine j_ald4 hk dX4_dirt_11 rfl rfl ?_
      refine j_mget hE hk 19 (by decide) rfl q2633 dX4_dirt_12 ?_
      refine j_top (z2 := (((S s).length : Nat) : Int)) (hL.1) ?_
      refine j_icmp_ge hk (by omega) (by omega) dX4_dirt_15 rfl (tgt := 59) (fun h15 => ?_) (fun h15 => ?_)
      · refine j_ild4 hk dX4_dirt_59 rfl rfl ?_
        refine j_miret hk he rfl dX4_dirt_60 (Nat.le_refl _) (Nat.le_refl _) ?_
        have e : k = (S s).length := by omega
        subst e
        exact ⟨rfl, hL, hka0, hkf0⟩
      · have hdl := dirtN_le (S s) k
        refine j_ild4 hk dX4_dirt_18 rfl rfl ?_
        refine j_ald4 hk dX4_dirt_19 rfl rfl ?_
        refine j_ild4 hk dX4_dirt_20 rfl rfl ?_
        refine j_mVi hE hk hl0 hF (mc_isForeign hls hE (A := Az1) (F := Fz2) (k := k) (L := S s) (hL) (by omega)) 1 (lw_V q3107 q3109 qs106 q145 q3110) (by decide +kernel) rfl (by decide) (by decide) rfl (Nat.le_of_ble_eq_true rfl) dX4_dirt_21 ?_
        rintro _ _ _ ⟨rfl, rfl, rfl⟩
        refine j_ifeqB hk dX4_dirt_24 rfl (tgt := 50) (fun h24 => ?_) (fun h24 => ?_)
        · refine j_iconst (n := 0) hk dX4_dirt_50 ?_
          refine j_iadd hk dX4_dirt_51 ?_
          refine j_top (z2 := ((dirtN (S s) (k + 1) : Nat) : Int)) (by rw [dirtN_s, show drtB (S s) k = false by unfold drtB; simp [h24]]; rfl) ?_
          refine j_ist2 hk dX4_dirt_52 rfl ?_
          refine j_iinc3 hk dX4_dirt_53 rfl ?_
          refine j_goto (tgt := 10) hk dX4_dirt_56 rfl ?_
          exact ih10 (k + 1) (by omega) (by omega)
        · obtain ⟨hs1, hs2⟩ := frgB_src h24
          have hsr := src_r (S s) k
          have lr := hL.2.2 (srcN (S s) k) (by omega)
          obtain ⟨l1, l2, l3⟩ := lr
          obtain ⟨l4, l5, l6, l7, l8⟩ := hL.ok (i := srcN (S s) k) (by omega)
          refine j_ald4 hk dX4_dirt_27 rfl rfl ?_
          refine j_ald4 hk dX4_dirt_28 rfl rfl ?_
          refine j_mgetA hE hk 14 (by decide) rfl q2628 dX4_dirt_29 ?_
          refine j_ald4 hk dX4_dirt_32 rfl rfl ?_
          refine j_ild4 hk dX4_dirt_33 rfl rfl ?_
          refine j_mVi hE hk hl0 hF (mc_source hls hE (A := Az1) (F := Fz2) (k := k) (L := S s) (hL) (by omega)) 1 (lw_V q3091 q3093 qs103 q145 q3094) (by decide +kernel) rfl (by decide) (by decide) rfl (Nat.le_of_ble_eq_true rfl) dX4_dirt_34 ?_
          rintro _ _ _ ⟨rfl, rfl, rfl⟩
          refine j_top (z2 := ((srcN (S s) k : Nat) : Int)) (hs1) ?_
          refine j_mald hE hk 14 7 rfl (srcN (S s) k) (by omega) (by simp only [mLen]; omega) dX4_dirt_37 ?_
          refine j_top (z2 := ((oT (opAt (S s) (srcN (S s) k)) : Nat) : Int)) (l2) ?_
          refine j_iconst (n := 2) hk dX4_dirt_38 ?_
          refine j_ild4 hk dX4_dirt_39 rfl rfl ?_
          refine j_mVi hE hk hl0 hF (mc_hasBefore hls hE (A := Az1) (F := Fz2) (t := oT (opAt (S s) (srcN (S s) k))) (c := 2) (b := k) (L := S s) (hL) (by omega) (by omega)) 3 (lw_V q3095 q3097 qs104 q145 q3098) (by decide +kernel) rfl (by decide) (by decide) rfl (Nat.le_of_ble_eq_true rfl) dX4_dirt_40 ?_
          rintro _ _ _ ⟨rfl, rfl, rfl⟩
          refine j_ifneB hk dX4_dirt_43 rfl (tgt := 50) (fun h43 => ?_) (fun h43 => ?_)
          · refine j_iconst (n := 0) hk dX4_dirt_50 ?_
            refine j_iadd hk dX4_dirt_51 ?_
            refine j_top (z2 := ((dirtN (S s) (k + 1) : Nat) : Int)) (by rw [dirtN_s, show drtB (S s) k = false by unfold drtB; simp [h24, h43]]; rfl) ?_
            refine j_ist2 hk dX4_dirt_52 rfl ?_
            refine j_iinc3 hk dX4_dirt_53 rfl ?_
            refine j_goto (tgt := 10) hk dX4_dirt_56 rfl ?_
            exact ih10 (k + 1) (by omega) (by omega)
          · refine j_iconst (n := 1) hk dX4_dirt_46 ?_
            refine j_goto (tgt := 51) hk dX4_dirt_47 rfl ?_
            refine j_iadd hk dX4_dirt_51 ?_
            refine j_top (z2 := ((dirtN (S s) (k + 1) : Nat) : Int)) (by rw [dirtN_s, show drtB (S s) k = true by unfold drtB; simp [h24, h43]]; rfl) ?_
            refine j_ist2 hk dX4_dirt_52 rfl ?_
            refine j_iinc3 hk dX4_dirt_53 rfl ?_
            refine j_goto (tgt := 10) hk dX4_dirt_56 rfl ?_
            exact ih10 (k + 1) (by omega) (by omega)
  exact loop10 _ 0 (Nat.lt_succ_self _) (Nat.zero_le _)
set_option maxHeartbeats 1500000 in
/-- dirtyReads(I)I -/
theorem mc_dirtyReads {l : Launch} {E : jE} {m : Nat} {ad : Nat → Nat} {A : Nat → Nat → Int} {F : Nat → Int} (hls : l.stackTraces = false) (hE : jSt E) {si : Int} {g : SS} (hR : mR A F g) (hr : jr si) : mC l E yX4_dirtyReads cX4_dirtyReads 2 (some .int) 6 128 [.ref m, .int (jI si)] m ad A F (mQi E m ad (fun r A2 F2 => mP (sp_dirtyReads g si) r A2 F2)) := by
  refine m_start (own := "ScheduleAnalyzerModel") (vs := [some (.ref m), some (.int (jI si))]) hls (by decide +kernel) rfl rfl rfl (Nat.le_of_ble_eq_true rfl) ?_
  intro K hk he hl0 hF hG0
  refine j_ald4 hk dX4_dirtyReads_0 rfl rfl ?_
  refine j_ild4 hk dX4_dirtyReads_1 rfl rfl ?_
  refine j_sSi hk hl0 (sc_isSlot hls (v := si) (hr)) 1 (lw_S q2752 q2753 q145 q2754) (by decide +kernel) rfl (by decide) (by decide) rfl (Nat.le_of_ble_eq_true rfl) dX4_dirtyReads_2 ?_
  refine j_mVi hE hk hl0 hF (mc_checked hls hE (A := A) (F := F) (b := decide (0 ≤ si ∧ si ≤ 3)) ) 1 (lw_V q2972 q2974 qs92 q145 q2975) (by decide +kernel) rfl (by decide) (by decide) rfl (Nat.le_of_ble_eq_true rfl) dX4_dirtyReads_5 ?_
  rintro _ _ _ ⟨rfl, rfl, rfl⟩
  refine j_ifleB hk dX4_dirtyReads_8 rfl (tgt := 15) (fun h8 => ?_) (fun h8 => ?_)
  · have q1 : 0 ≤ si ∧ si ≤ 3 := by simpa using h8
    obtain ⟨s, rfl⟩ : ∃ s : Nat, si = ((s : Nat) : Int) := ⟨si.toNat, by omega⟩
    have e1 : isSl (s : Int) = true := by simp [isSl]; omega
    have hm : mR A (iup F 4 (jB (!decide (0 ≤ (s : Int) ∧ (s : Int) ≤ 3)))) g := hR.up4
    have ht : (iup F 4 (jB (!decide (0 ≤ (s : Int) ∧ (s : Int) ≤ 3)))) 4 = 0 := by rw [iup_s, h8]; rfl
    refine j_ald4 hk dX4_dirtyReads_15 rfl rfl ?_
    refine j_ild4 hk dX4_dirtyReads_16 rfl rfl ?_
    refine j_mVi hE hk hl0 hF (mc_dirt hls hE (A := A) (F := (iup F 4 (jB (!(decide (0 ≤ ((s : Nat) : Int) ∧ ((s : Nat) : Int) ≤ 3)))))) (s := s) (S := g.1.1) (V := g.1.2) (hm.1) (by omega)) 1 (lw_V q3103 q3105 qs105 q145 q3106) (by decide +kernel) rfl (by decide) (by decide) rfl (Nat.le_of_ble_eq_true rfl) dX4_dirtyReads_17 ?_
    intro rz4 Az5 Fz6 hc17
    obtain ⟨rfl, hc17⟩ := hc17
    obtain ⟨hL_17, hka_17, hkf_17⟩ := hc17
    refine j_miret hk he rfl dX4_dirtyReads_20 (Nat.le_refl _) (Nat.le_refl _) ?_
    have e : sp_dirtyReads g (s : Int) = (0, ((dirtT (g.1.1 s) : Nat) : Int), g) := by simp [sp_dirtyReads, e1]
    rw [mP, e]
    exact ⟨rfl, by rw [hkf_17 4 (by decide)]; exact ht, hm.keep hka_17 hkf_17 (by decide) (by decide)⟩
  · refine j_iconst (n := 0) hk dX4_dirtyReads_11 ?_
    refine j_goto (tgt := 20) hk dX4_dirtyReads_12 rfl ?_
    refine j_miret hk he rfl dX4_dirtyReads_20 (Nat.le_refl _) (Nat.le_refl _) ?_
    have e : sp_dirtyReads g si = (1, 0, g) := by
      have : isSl si = false := by have h := h8; rw [Bool.not_eq_true'] at h; exact h
      simp [sp_dirtyReads, this]
    rw [mP, e]
    exact ⟨rfl, by rw [iup_s, h8]; rfl, hR.up4⟩
set_option maxHeartbeats 1500000 in
/-- avoidsCascades(I)Z -/
theorem mc_avoidsCascades {l : Launch} {E : jE} {m : Nat} {ad : Nat → Nat} {A : Nat → Nat → Int} {F : Nat → Int} (hls : l.stackTraces = false) (hE : jSt E) {si : Int} {g : SS} (hR : mR A F g) (hr : jr si) : mC l E yX4_avoidsCascades cX4_avoidsCascades 2 (some .boolean) 6 128 [.ref m, .int (jI si)] m ad A F (mQi E m ad (fun r A2 F2 => mP (sp_avoidsCascades g si) r A2 F2)) := by
  refine m_start (own := "ScheduleAnalyzerModel") (vs := [some (.ref m), some (.int (jI si))]) hls (by decide +kernel) rfl rfl rfl (Nat.le_of_ble_eq_true rfl) ?_
  intro K hk he hl0 hF hG0
  refine j_ald4 hk dX4_avoidsCascades_0 rfl rfl ?_
  refine j_ild4 hk dX4_avoidsCascades_1 rfl rfl ?_
  refine j_sSi hk hl0 (sc_isSlot hls (v := si) (hr)) 1 (lw_S q2752 q2753 q145 q2754) (by decide +kernel) rfl (by decide) (by decide) rfl (Nat.le_of_ble_eq_true rfl) dX4_avoidsCascades_2 ?_
  refine j_mVi hE hk hl0 hF (mc_checked hls hE (A := A) (F := F) (b := decide (0 ≤ si ∧ si ≤ 3)) ) 1 (lw_V q2972 q2974 qs92 q145 q2975) (by decide +kernel) rfl (by decide) (by decide) rfl (Nat.le_of_ble_eq_true rfl) dX4_avoidsCascades_5 ?_
  rintro _ _ _ ⟨rfl, rfl, rfl⟩
  refine j_ifneB hk dX4_avoidsCascades_8 rfl (tgt := 23) (fun h8 => ?_) (fun h8 => ?_)
  · refine j_iconst (n := 0) hk dX4_avoidsCascades_23 ?_
    refine j_miret hk he rfl dX4_avoidsCascades_24 (Nat.le_refl _) (Nat.le_refl _) ?_
    have e : sp_avoidsCascades g si = (1, 0, g) := by
      have : isSl si = false := by have h := h8; rw [Bool.not_eq_true'] at h; exact h
      simp [sp_avoidsCascades, this]
    rw [mP, e]
    exact ⟨rfl, by rw [iup_s, h8]; rfl, hR.up4⟩
  · have q1 : 0 ≤ si ∧ si ≤ 3 := by simpa using h8
    obtain ⟨s, rfl⟩ : ∃ s : Nat, si = ((s : Nat) : Int) := ⟨si.toNat, by omega⟩
    have e1 : isSl (s : Int) = true := by simp [isSl]; omega
    have hm : mR A (iup F 4 (jB (!decide (0 ≤ (s : Int) ∧ (s : Int) ≤ 3)))) g := hR.up4
    have ht : (iup F 4 (jB (!decide (0 ≤ (s : Int) ∧ (s : Int) ≤ 3)))) 4 = 0 := by rw [iup_s, h8]; rfl
    refine j_ald4 hk dX4_avoidsCascades_11 rfl rfl ?_
    refine j_ild4 hk dX4_avoidsCascades_12 rfl rfl ?_
    refine j_mVi hE hk hl0 hF (mc_dirt hls hE (A := A) (F := (iup F 4 (jB (!(decide (0 ≤ ((s : Nat) : Int) ∧ ((s : Nat) : Int) ≤ 3)))))) (s := s) (S := g.1.1) (V := g.1.2) (hm.1) (by omega)) 1 (lw_V q3103 q3105 qs105 q145 q3106) (by decide +kernel) rfl (by decide) (by decide) rfl (Nat.le_of_ble_eq_true rfl) dX4_avoidsCascades_13 ?_
    intro rz4 Az5 Fz6 hc13
    obtain ⟨rfl, hc13⟩ := hc13
    obtain ⟨hL_13, hka_13, hkf_13⟩ := hc13
    have hdl := dirtN_le (g.1.1 s) (g.1.1 s).length
    have hlen := hL_13.len
    unfold dirtT at *
    refine j_if_ne hk (by omega) dX4_avoidsCascades_16 rfl (tgt := 23) (fun h16 => ?_) (fun h16 => ?_)
    · refine j_iconst (n := 0) hk dX4_avoidsCascades_23 ?_
      refine j_miret hk he rfl dX4_avoidsCascades_24 (Nat.le_refl _) (Nat.le_refl _) ?_
      have e : sp_avoidsCascades g (s : Int) = (0, jB (decide (dirtN (g.1.1 s) (g.1.1 s).length = 0)), g) := by simp only [sp_avoidsCascades, e1, Int.toNat_natCast, Bool.not_true, Bool.false_eq_true, if_false]; rfl
      rw [mP, e, show decide (dirtN (g.1.1 s) (g.1.1 s).length = 0) = false by simp; omega]
      exact ⟨rfl, by rw [hkf_13 4 (by decide)]; exact ht, hm.keep hka_13 hkf_13 (by decide) (by decide)⟩
    · refine j_iconst (n := 1) hk dX4_avoidsCascades_19 ?_
      refine j_goto (tgt := 24) hk dX4_avoidsCascades_20 rfl ?_
      refine j_miret hk he rfl dX4_avoidsCascades_24 (Nat.le_refl _) (Nat.le_refl _) ?_
      have e : sp_avoidsCascades g (s : Int) = (0, jB (decide (dirtN (g.1.1 s) (g.1.1 s).length = 0)), g) := by simp only [sp_avoidsCascades, e1, Int.toNat_natCast, Bool.not_true, Bool.false_eq_true, if_false]; rfl
      rw [mP, e, show decide (dirtN (g.1.1 s) (g.1.1 s).length = 0) = true by simp; omega]
      exact ⟨rfl, by rw [hkf_13 4 (by decide)]; exact ht, hm.keep hka_13 hkf_13 (by decide) (by decide)⟩
set_option maxHeartbeats 1500000 in
/-- isRecoverable(I)Z -/
theorem mc_isRecoverable {l : Launch} {E : jE} {m : Nat} {ad : Nat → Nat} {A : Nat → Nat → Int} {F : Nat → Int} (hls : l.stackTraces = false) (hE : jSt E) {si : Int} {g : SS} (hR : mR A F g) (hr : jr si) : mC l E yX4_isRecoverable cX4_isRecoverable 4 (some .boolean) 5 105 [.ref m, .int (jI si)] m ad A F (mQi E m ad (fun r A2 F2 => mP (sp_isRecoverable g si) r A2 F2)) := by
  refine m_start (own := "ScheduleAnalyzerModel") (vs := [some (.ref m), some (.int (jI si)), none, none]) hls (by decide +kernel) rfl rfl rfl (Nat.le_of_ble_eq_true rfl) ?_
  intro K hk he hl0 hF hG0
  refine j_ald4 hk dX4_isRecoverable_0 rfl rfl ?_
  refine j_ild4 hk dX4_isRecoverable_1 rfl rfl ?_
  refine j_sSi hk hl0 (sc_isSlot hls (v := si) (hr)) 1 (lw_S q2752 q2753 q145 q2754) (by decide +kernel) rfl (by decide) (by decide) rfl (Nat.le_of_ble_eq_true rfl) dX4_isRecoverable_2 ?_
  refine j_mVi hE hk hl0 hF (mc_checked hls hE (A := A) (F := F) (b := decide (0 ≤ si ∧ si ≤ 3)) ) 1 (lw_V q2972 q2974 qs92 q145 q2975) (by decide +kernel) rfl (by decide) (by decide) rfl (Nat.le_of_ble_eq_true rfl) dX4_isRecoverable_5 ?_
  rintro _ _ _ ⟨rfl, rfl, rfl⟩
  refine j_ifleB hk dX4_isRecoverable_8 rfl (tgt := 13) (fun h8 => ?_) (fun h8 => ?_)
  · have q1 : 0 ≤ si ∧ si ≤ 3 := by simpa using h8
    obtain ⟨s, rfl⟩ : ∃ s : Nat, si = ((s : Nat) : Int) := ⟨si.toNat, by omega⟩
    have e1 : isSl (s : Int) = true := by simp [isSl]; omega
    have hm : mR A (iup F 4 (jB (!decide (0 ≤ (s : Int) ∧ (s : Int) ≤ 3)))) g := hR.up4
    have ht : (iup F 4 (jB (!decide (0 ≤ (s : Int) ∧ (s : Int) ≤ 3)))) 4 = 0 := by rw [iup_s, h8]; rfl
    refine j_ald4 hk dX4_isRecoverable_13 rfl rfl ?_
    refine j_ild4 hk dX4_isRecoverable_14 rfl rfl ?_
    refine j_iconst (n := 0) hk dX4_isRecoverable_15 ?_
    refine j_mVv hE hk hl0 hF (mc_lay hls hE (A := A) (F := (iup F 4 (jB (!(decide (0 ≤ ((s : Nat) : Int) ∧ ((s : Nat) : Int) ≤ 3)))))) (s := s) (b := false) (S := g.1.1) (V := g.1.2) (hm.1) (by omega)) 2 (lw_V q2889 q2891 qs74 q145 q2892) (by decide +kernel) rfl (by decide) (by decide) rfl (Nat.le_of_ble_eq_true rfl) dX4_isRecoverable_16 ?_
    intro Az4 Fz5 hc16
    obtain ⟨hL, hP0, hka0, hkf0⟩ := hc16
    rw [layL_f] at hL
    have hlen := hL.len
    refine j_iconst (n := 0) hk dX4_isRecoverable_19 ?_
    refine j_ist2 hk dX4_isRecoverable_20 rfl ?_
    have loop21 : ∀ (fuel21 : Nat) (k : Nat), (g.1.1 s).length - k < fuel21 → k ≤ (g.1.1 s).length → (∀ q, q < k → ∀ j, j < q → recP (g.1.1 s) q j = false) → jW K (mAs E m ad Az4 Fz5) 0 0 21 [some (.ref m), some (.int (jI ((s : Nat) : Int))), some (.int (jI ((k : Nat) : Int))), none] [] := by
      intro fuel21
      induction fuel21 with
      | zero => intro k hm; exact absurd hm (Nat.not_lt_zero _)
      | succ fuel21 ih21 =>
        intro k hm21 hk1 hk2
        refine j_ild4 hk dX4_isRecoverable_21 rfl rfl ?_
        refine j_ald4 hk dX4_isRecoverable_22 rfl rfl ?_
        refine j_mget hE hk 19 (by decide) rfl q2633 dX4_isRecoverable_23 ?_
        refine j_top (z2 := (((g.1.1 s).length : Nat) : Int)) (hL.1) ?_
        refine j_icmp_ge hk (by omega) (by omega) dX4_isRecoverable_26 rfl (tgt := 102) (fun h26 => ?_) (fun h26 => ?_)
        · refine j_iconst (n := 1) hk dX4_isRecoverable_102 ?_
          refine j_miret hk he rfl dX4_isRecoverable_103 (Nat.le_refl _) (Nat.le_refl _) ?_
          have e : sp_isRecoverable g (s : Int) = (0, jB true, g) := by simp only [sp_isRecoverable, e1, Int.toNat_natCast, Bool.not_true, Bool.false_eq_true, if_false]; rw [show recB (g.1.1 s) = true from any2_f (fun q h => hk2 q (by omega))]
          rw [mP, e]
          exact ⟨rfl, by rw [hkf0 4 (by decide)]; exact ht, hm.keep hka0 hkf0 (by decide) (by decide)⟩
        · have kr := hL.2.2 (k) (by omega)
          obtain ⟨k1, k2, k3⟩ := kr
          obtain ⟨k4, k5, k6, k7, k8⟩ := hL.ok (i := k) (by omega)
          refine j_iconst (n := 0) hk dX4_isRecoverable_29 ?_
          refine j_ist3 hk dX4_isRecoverable_30 rfl ?_
          have loop31 : ∀ (fuel31 : Nat) (j : Nat), k - j < fuel31 → j ≤ k → (∀ q, q < j → recP (g.1.1 s) k q = false) → jW K (mAs E m ad Az4 Fz5) 0 0 31 [some (.ref m), some (.int (jI ((s : Nat) : Int))), some (.int (jI ((k : Nat) : Int))), some (.int (jI ((j : Nat) : Int)))] [] := by
            intro fuel31
            induction fuel31 with
            | zero => intro j hm; exact absurd hm (Nat.not_lt_zero _)
            | succ fuel31 ih31 =>
              intro j hm31 hj1 hj2
              refine j_ild4 hk dX4_isRecoverable_31 rfl rfl ?_
              refine j_ild4 hk dX4_isRecoverable_32 rfl rfl ?_
              refine j_icmp_ge hk (by omega) (by omega) dX4_isRecoverable_33 rfl (tgt := 96) (fun h33 => ?_) (fun h33 => ?_)
              · refine j_iinc2 hk dX4_isRecoverable_96 rfl ?_
                refine j_goto (tgt := 21) hk dX4_isRecoverable_99 rfl ?_
                refine j_forget (i := 3) ?_
                exact ih21 (k + 1) (by omega) (by omega) (all_s hk2 (fun j hj => hj2 j (by omega)))
              · have lr := hL.2.2 (j) (by omega)
                obtain ⟨l1, l2, l3⟩ := lr
                obtain ⟨l4, l5, l6, l7, l8⟩ := hL.ok (i := j) (by omega)
                refine j_ald4 hk dX4_isRecoverable_36 rfl rfl ?_
                refine j_mgetA hE hk 13 (by decide) rfl q2627 dX4_isRecoverable_37 ?_
                refine j_ild4 hk dX4_isRecoverable_40 rfl rfl ?_
                refine j_mald hE hk 13 6 rfl (k) (by omega) (by simp only [mLen]; omega) dX4_isRecoverable_41 ?_
                refine j_top (z2 := ((oK (opAt (g.1.1 s) k) : Nat) : Int)) (k1) ?_
                refine j_iconst (n := 2) hk dX4_isRecoverable_42 ?_
                refine j_icmp_ne hk (by omega) (by omega) dX4_isRecoverable_43 rfl (tgt := 90) (fun h43 => ?_) (fun h43 => ?_)
                · refine j_iinc3 hk dX4_isRecoverable_90 rfl ?_
                  refine j_goto (tgt := 31) hk dX4_isRecoverable_93 rfl ?_
                  exact ih31 (j + 1) (by omega) (by omega) (all_s hj2 (by unfold recP; simp [(show oK (opAt (g.1.1 s) k) ≠ 2 by omega)]))
                · refine j_ald4 hk dX4_isRecoverable_46 rfl rfl ?_
                  refine j_mgetA hE hk 14 (by decide) rfl q2628 dX4_isRecoverable_47 ?_
                  refine j_ild4 hk dX4_isRecoverable_50 rfl rfl ?_
                  refine j_mald hE hk 14 7 rfl (j) (by omega) (by simp only [mLen]; omega) dX4_isRecoverable_51 ?_
                  refine j_top (z2 := ((oT (opAt (g.1.1 s) j) : Nat) : Int)) (l2) ?_
                  refine j_ald4 hk dX4_isRecoverable_52 rfl rfl ?_
                  refine j_mgetA hE hk 14 (by decide) rfl q2628 dX4_isRecoverable_53 ?_
                  refine j_ild4 hk dX4_isRecoverable_56 rfl rfl ?_
                  refine j_mald hE hk 14 7 rfl (k) (by omega) (by simp only [mLen]; omega) dX4_isRecoverable_57 ?_
                  refine j_top (z2 := ((oT (opAt (g.1.1 s) k) : Nat) : Int)) (k2) ?_
                  refine j_icmp_ne hk (by omega) (by omega) dX4_isRecoverable_58 rfl (tgt := 90) (fun h58 => ?_) (fun h58 => ?_)
                  · refine j_iinc3 hk dX4_isRecoverable_90 rfl ?_
                    refine j_goto (tgt := 31) hk dX4_isRecoverable_93 rfl ?_
                    exact ih31 (j + 1) (by omega) (by omega) (all_s hj2 (by unfold recP; simp [(show oT (opAt (g.1.1 s) j) ≠ oT (opAt (g.1.1 s) k) by omega)]))
                  · refine j_ald4 hk dX4_isRecoverable_61 rfl rfl ?_
                    refine j_ild4 hk dX4_isRecoverable_62 rfl rfl ?_
                    refine j_mVi hE hk hl0 hF (mc_isForeign hls hE (A := Az4) (F := Fz5) (k := j) (L := g.1.1 s) (hL) (by omega)) 1 (lw_V q3107 q3109 qs106 q145 q3110) (by decide +kernel) rfl (by decide) (by decide) rfl (Nat.le_of_ble_eq_true rfl) dX4_isRecoverable_63 ?_
                    rintro _ _ _ ⟨rfl, rfl, rfl⟩
                    refine j_ifeqB hk dX4_isRecoverable_66 rfl (tgt := 90) (fun h66 => ?_) (fun h66 => ?_)
                    · refine j_iinc3 hk dX4_isRecoverable_90 rfl ?_
                      refine j_goto (tgt := 31) hk dX4_isRecoverable_93 rfl ?_
                      exact ih31 (j + 1) (by omega) (by omega) (all_s hj2 (by unfold recP; simp [h66]))
                    · obtain ⟨hs1, hs2⟩ := frgB_src h66
                      have hsr := src_r (g.1.1 s) j
                      have mr := hL.2.2 (srcN (g.1.1 s) j) (by omega)
                      obtain ⟨m1, m2, m3⟩ := mr
                      obtain ⟨m4, m5, m6, m7, m8⟩ := hL.ok (i := srcN (g.1.1 s) j) (by omega)
                      refine j_ald4 hk dX4_isRecoverable_69 rfl rfl ?_
                      refine j_ald4 hk dX4_isRecoverable_70 rfl rfl ?_
                      refine j_mgetA hE hk 14 (by decide) rfl q2628 dX4_isRecoverable_71 ?_
                      refine j_ald4 hk dX4_isRecoverable_74 rfl rfl ?_
                      refine j_ild4 hk dX4_isRecoverable_75 rfl rfl ?_
                      refine j_mVi hE hk hl0 hF (mc_source hls hE (A := Az4) (F := Fz5) (k := j) (L := g.1.1 s) (hL) (by omega)) 1 (lw_V q3091 q3093 qs103 q145 q3094) (by decide +kernel) rfl (by decide) (by decide) rfl (Nat.le_of_ble_eq_true rfl) dX4_isRecoverable_76 ?_
                      rintro _ _ _ ⟨rfl, rfl, rfl⟩
                      refine j_top (z2 := ((srcN (g.1.1 s) j : Nat) : Int)) (hs1) ?_
                      refine j_mald hE hk 14 7 rfl (srcN (g.1.1 s) j) (by omega) (by simp only [mLen]; omega) dX4_isRecoverable_79 ?_
                      refine j_top (z2 := ((oT (opAt (g.1.1 s) (srcN (g.1.1 s) j)) : Nat) : Int)) (m2) ?_
                      refine j_iconst (n := 2) hk dX4_isRecoverable_80 ?_
                      refine j_ild4 hk dX4_isRecoverable_81 rfl rfl ?_
                      refine j_mVi hE hk hl0 hF (mc_hasBefore hls hE (A := Az4) (F := Fz5) (t := oT (opAt (g.1.1 s) (srcN (g.1.1 s) j))) (c := 2) (b := k) (L := g.1.1 s) (hL) (by omega) (by omega)) 3 (lw_V q3095 q3097 qs104 q145 q3098) (by decide +kernel) rfl (by decide) (by decide) rfl (Nat.le_of_ble_eq_true rfl) dX4_isRecoverable_82 ?_
                      rintro _ _ _ ⟨rfl, rfl, rfl⟩
                      refine j_ifneB hk dX4_isRecoverable_85 rfl (tgt := 90) (fun h85 => ?_) (fun h85 => ?_)
                      · refine j_iinc3 hk dX4_isRecoverable_90 rfl ?_
                        refine j_goto (tgt := 31) hk dX4_isRecoverable_93 rfl ?_
                        exact ih31 (j + 1) (by omega) (by omega) (all_s hj2 (by unfold recP; simp [h66, h85]))
                      · refine j_iconst (n := 0) hk dX4_isRecoverable_88 ?_
                        refine j_miret hk he rfl dX4_isRecoverable_89 (Nat.le_refl _) (Nat.le_refl _) ?_
                        have e : sp_isRecoverable g (s : Int) = (0, jB false, g) := by simp only [sp_isRecoverable, e1, Int.toNat_natCast, Bool.not_true, Bool.false_eq_true, if_false]; rw [show recB (g.1.1 s) = false from any2_t (k := k) (j := j) (by omega) (by omega) (by unfold recP; simp [h66, h85]; omega)]
                        rw [mP, e]
                        exact ⟨rfl, by rw [hkf0 4 (by decide)]; exact ht, hm.keep hka0 hkf0 (by decide) (by decide)⟩
          exact loop31 _ 0 (Nat.lt_succ_self _) (Nat.zero_le _) (fun q h => absurd h (Nat.not_lt_zero _))
    exact loop21 _ 0 (Nat.lt_succ_self _) (Nat.zero_le _) (fun q h => absurd h (Nat.not_lt_zero _))
  · refine j_iconst (n := 0) hk dX4_isRecoverable_11 ?_
    refine j_miret hk he rfl dX4_isRecoverable_12 (Nat.le_refl _) (Nat.le_refl _) ?_
    have e : sp_isRecoverable g si = (1, 0, g) := by
      have : isSl si = false := by have h := h8; rw [Bool.not_eq_true'] at h; exact h
      simp [sp_isRecoverable, this]
    rw [mP, e]
    exact ⟨rfl, by rw [iup_s, h8]; rfl, hR.up4⟩
set_option maxHeartbeats 1500000 in
/-- endsBetween(III)Z -/
theorem mc_endsBetween {l : Launch} {E : jE} {m : Nat} {ad : Nat → Nat} {A : Nat → Nat → Int} {F : Nat → Int} (hls : l.stackTraces = false) (hE : jSt E) {t : Nat} {a : Nat} {b : Nat} {L : List Op} (hL : laid A F L) (hb : b ≤ L.length) (h9 : t < 100 ∧ a < 100) : mC l E yX4_endsBetween cX4_endsBetween 5 (some .boolean) 2 33 [.ref m, .int (jI ((t : Nat) : Int)), .int (jI ((a : Nat) : Int)), .int (jI ((b : Nat) : Int))] m ad A F (mQi E m ad (fun r A2 F2 => jB (endB L t a b) = r ∧ A = A2 ∧ F = F2)) := by
  refine m_start (own := "ScheduleAnalyzerModel") (vs := [some (.ref m), some (.int (jI ((t : Nat) : Int))), some (.int (jI ((a : Nat) : Int))), some (.int (jI ((b : Nat) : Int))), none]) hls (by decide +kernel) rfl rfl rfl (Nat.le_of_ble_eq_true rfl) ?_
  intro K hk he hl0 hF hG0
  have hlen := hL.len
  refine j_ild4 hk dX4_endsBetween_0 rfl rfl ?_
  refine j_iconst (n := 1) hk dX4_endsBetween_1 ?_
  refine j_iadd hk dX4_endsBetween_2 ?_
  refine j_ist4 hk dX4_endsBetween_3 rfl ?_
  have loop5 : ∀ (fuel5 : Nat) (k : Nat), b - k < fuel5 → a < k ∧ (k ≤ a + 1 ∨ k ≤ b) → (∀ j, j < k → j < b → endP L t a j = false) → jW K (mAs E m ad A F) 0 0 5 [some (.ref m), some (.int (jI ((t : Nat) : Int))), some (.int (jI ((a : Nat) : Int))), some (.int (jI ((b : Nat) : Int))), some (.int (jI ((k : Nat) : Int)))] [] := by
    intro fuel5
    induction fuel5 with
    | zero => intro k hm; exact absurd hm (Nat.not_lt_zero _)
    | succ fuel5 ih5 =>
      intro k hm5 hk1 hk2
      refine j_ild hk dX4_endsBetween_5 rfl ?_
      refine j_ild4 hk dX4_endsBetween_7 rfl rfl ?_
      refine j_icmp_ge hk (by omega) (by omega) dX4_endsBetween_8 rfl (tgt := 39) (fun h8 => ?_) (fun h8 => ?_)
      · refine j_iconst (n := 0) hk dX4_endsBetween_39 ?_
        refine j_miret hk he rfl dX4_endsBetween_40 (Nat.le_refl _) (Nat.le_refl _) ?_
        exact ⟨by rw [show endB L t a b = false from any_range (fun j hj => hk2 j (by omega) hj)]; rfl, rfl, rfl⟩
      · have lr := hL.2.2 (k) (by omega)
        obtain ⟨l1, l2, l3⟩ := lr
        obtain ⟨l4, l5, l6, l7, l8⟩ := hL.ok (i := k) (by omega)
        refine j_ald4 hk dX4_endsBetween_11 rfl rfl ?_
        refine j_mgetA hE hk 14 (by decide) rfl q2628 dX4_endsBetween_12 ?_
        refine j_ild hk dX4_endsBetween_15 rfl ?_
        refine j_mald hE hk 14 7 rfl (k) (by omega) (by simp only [mLen]; omega) dX4_endsBetween_17 ?_
        refine j_top (z2 := ((oT (opAt L k) : Nat) : Int)) (l2) ?_
        refine j_ild4 hk dX4_endsBetween_18 rfl rfl ?_
        refine j_icmp_ne hk (by omega) (by omega) dX4_endsBetween_19 rfl (tgt := 33) (fun h19 => ?_) (fun h19 => ?_)
        · refine j_iinc4 hk dX4_endsBetween_33 rfl ?_
          refine j_goto (tgt := 5) hk dX4_endsBetween_36 rfl ?_
          exact ih5 (k + 1) (by omega) (by omega) (all_s hk2 (fun _ => by unfold endP; simp ; omega))
        · refine j_ald4 hk dX4_endsBetween_22 rfl rfl ?_
          refine j_ild hk dX4_endsBetween_23 rfl ?_
          refine j_mVi hE hk hl0 hF (mc_isAccess hls hE (A := A) (F := F) (k := k) (L := L) (hL) (by omega)) 1 (lw_V q2905 q2907 qs78 q145 q2908) (by decide +kernel) rfl (by decide) (by decide) rfl (Nat.le_of_ble_eq_true rfl) dX4_endsBetween_25 ?_
          rintro _ _ _ ⟨rfl, rfl, rfl⟩
          refine j_ifneB hk dX4_endsBetween_28 rfl (tgt := 33) (fun h28 => ?_) (fun h28 => ?_)
          · refine j_iinc4 hk dX4_endsBetween_33 rfl ?_
            refine j_goto (tgt := 5) hk dX4_endsBetween_36 rfl ?_
            exact ih5 (k + 1) (by omega) (by omega) (all_s hk2 (fun _ => by unfold endP; simp at h28 ⊢; omega))
          · refine j_iconst (n := 1) hk dX4_endsBetween_31 ?_
            refine j_miret hk he rfl dX4_endsBetween_32 (Nat.le_refl _) (Nat.le_refl _) ?_
            exact ⟨by rw [show endB L t a b = true from any_range_t (j := k) (by omega) (by unfold endP; simp at h28 ⊢; omega)]; rfl, rfl, rfl⟩
  exact loop5 _ (a + 1) (Nat.lt_succ_self _) (by omega) (fun j h _ => by unfold endP; simp; omega)
set_option maxHeartbeats 1500000 in
/-- isStrict(I)Z -/
theorem mc_isStrict {l : Launch} {E : jE} {m : Nat} {ad : Nat → Nat} {A : Nat → Nat → Int} {F : Nat → Int} (hls : l.stackTraces = false) (hE : jSt E) {si : Int} {g : SS} (hR : mR A F g) (hr : jr si) : mC l E yX4_isStrict cX4_isStrict 4 (some .boolean) 5 105 [.ref m, .int (jI si)] m ad A F (mQi E m ad (fun r A2 F2 => mP (sp_isStrict g si) r A2 F2)) := by
  refine m_start (own := "ScheduleAnalyzerModel") (vs := [some (.ref m), some (.int (jI si)), none, none]) hls (by decide +kernel) rfl rfl rfl (Nat.le_of_ble_eq_true rfl) ?_
  intro K hk he hl0 hF hG0
  refine j_ald4 hk dX4_isStrict_0 rfl rfl ?_
  refine j_ild4 hk dX4_isStrict_1 rfl rfl ?_
  refine j_sSi hk hl0 (sc_isSlot hls (v := si) (hr)) 1 (lw_S q2752 q2753 q145 q2754) (by decide +kernel) rfl (by decide) (by decide) rfl (Nat.le_of_ble_eq_true rfl) dX4_isStrict_2 ?_
  refine j_mVi hE hk hl0 hF (mc_checked hls hE (A := A) (F := F) (b := decide (0 ≤ si ∧ si ≤ 3)) ) 1 (lw_V q2972 q2974 qs92 q145 q2975) (by decide +kernel) rfl (by decide) (by decide) rfl (Nat.le_of_ble_eq_true rfl) dX4_isStrict_5 ?_
  rintro _ _ _ ⟨rfl, rfl, rfl⟩
  refine j_ifleB hk dX4_isStrict_8 rfl (tgt := 13) (fun h8 => ?_) (fun h8 => ?_)
  · have q1 : 0 ≤ si ∧ si ≤ 3 := by simpa using h8
    obtain ⟨s, rfl⟩ : ∃ s : Nat, si = ((s : Nat) : Int) := ⟨si.toNat, by omega⟩
    have e1 : isSl (s : Int) = true := by simp [isSl]; omega
    have hm : mR A (iup F 4 (jB (!decide (0 ≤ (s : Int) ∧ (s : Int) ≤ 3)))) g := hR.up4
    have ht : (iup F 4 (jB (!decide (0 ≤ (s : Int) ∧ (s : Int) ≤ 3)))) 4 = 0 := by rw [iup_s, h8]; rfl
    refine j_ald4 hk dX4_isStrict_13 rfl rfl ?_
    refine j_ild4 hk dX4_isStrict_14 rfl rfl ?_
    refine j_iconst (n := 0) hk dX4_isStrict_15 ?_
    refine j_mVv hE hk hl0 hF (mc_lay hls hE (A := A) (F := (iup F 4 (jB (!(decide (0 ≤ ((s : Nat) : Int) ∧ ((s : Nat) : Int) ≤ 3)))))) (s := s) (b := false) (S := g.1.1) (V := g.1.2) (hm.1) (by omega)) 2 (lw_V q2889 q2891 qs74 q145 q2892) (by decide +kernel) rfl (by decide) (by decide) rfl (Nat.le_of_ble_eq_true rfl) dX4_isStrict_16 ?_
    intro Az4 Fz5 hc16
    obtain ⟨hL, hP0, hka0, hkf0⟩ := hc16
    rw [layL_f] at hL
    have hlen := hL.len
    refine j_iconst (n := 0) hk dX4_isStrict_19 ?_
    refine j_ist2 hk dX4_isStrict_20 rfl ?_
    have loop21 : ∀ (fuel21 : Nat) (k : Nat), (g.1.1 s).length - k < fuel21 → k ≤ (g.1.1 s).length → (∀ q, q < k → ∀ j, j < (g.1.1 s).length → strP (g.1.1 s) q j = false) → jW K (mAs E m ad Az4 Fz5) 0 0 21 [some (.ref m), some (.int (jI ((s : Nat) : Int))), some (.int (jI ((k : Nat) : Int))), none] [] := by
      intro fuel21
      induction fuel21 with
      | zero => intro k hm; exact absurd hm (Nat.not_lt_zero _)
      | succ fuel21 ih21 =>
        intro k hm21 hk1 hk2
        refine j_ild4 hk dX4_isStrict_21 rfl rfl ?_
        refine j_ald4 hk dX4_isStrict_22 rfl rfl ?_
        refine j_mget hE hk 19 (by decide) rfl q2633 dX4_isStrict_23 ?_
        refine j_top (z2 := (((g.1.1 s).length : Nat) : Int)) (hL.1) ?_
        refine j_icmp_ge hk (by omega) (by omega) dX4_isStrict_26 rfl (tgt := 89) (fun h26 => ?_) (fun h26 => ?_)
        · refine j_iconst (n := 1) hk dX4_isStrict_89 ?_
          refine j_miret hk he rfl dX4_isStrict_90 (Nat.le_refl _) (Nat.le_refl _) ?_
          have e : sp_isStrict g (s : Int) = (0, jB true, g) := by simp only [sp_isStrict, e1, Int.toNat_natCast, Bool.not_true, Bool.false_eq_true, if_false]; rw [show strB (g.1.1 s) = true from any2_f (m := fun _ => (g.1.1 s).length) (fun q h => hk2 q (by omega))]
          rw [mP, e]
          exact ⟨rfl, by rw [hkf0 4 (by decide)]; exact ht, hm.keep hka0 hkf0 (by decide) (by decide)⟩
        · have kr := hL.2.2 (k) (by omega)
          obtain ⟨k1, k2, k3⟩ := kr
          obtain ⟨k4, k5, k6, k7, k8⟩ := hL.ok (i := k) (by omega)
          refine j_ild4 hk dX4_isStrict_29 rfl rfl ?_
          refine j_iconst (n := 1) hk dX4_isStrict_30 ?_
          refine j_iadd hk dX4_isStrict_31 ?_
          refine j_ist3 hk dX4_isStrict_32 rfl ?_
          have loop33 : ∀ (fuel33 : Nat) (j : Nat), (g.1.1 s).length - j < fuel33 → k < j ∧ j ≤ (g.1.1 s).length → (∀ q, q < j → q < (g.1.1 s).length → strP (g.1.1 s) k q = false) → jW K (mAs E m ad Az4 Fz5) 0 0 33 [some (.ref m), some (.int (jI ((s : Nat) : Int))), some (.int (jI ((k : Nat) : Int))), some (.int (jI ((j : Nat) : Int)))] [] := by
            intro fuel33
            induction fuel33 with
            | zero => intro j hm; exact absurd hm (Nat.not_lt_zero _)
            | succ fuel33 ih33 =>
              intro j hm33 hj1 hj2
              refine j_ild4 hk dX4_isStrict_33 rfl rfl ?_
              refine j_ald4 hk dX4_isStrict_34 rfl rfl ?_
              refine j_mget hE hk 19 (by decide) rfl q2633 dX4_isStrict_35 ?_
              refine j_top (z2 := (((g.1.1 s).length : Nat) : Int)) (hL.1) ?_
              refine j_icmp_ge hk (by omega) (by omega) dX4_isStrict_38 rfl (tgt := 83) (fun h38 => ?_) (fun h38 => ?_)
              · refine j_iinc2 hk dX4_isStrict_83 rfl ?_
                refine j_goto (tgt := 21) hk dX4_isStrict_86 rfl ?_
                refine j_forget (i := 3) ?_
                exact ih21 (k + 1) (by omega) (by omega) (all_s hk2 (fun j hj => hj2 j (by omega) hj))
              · refine j_ald4 hk dX4_isStrict_41 rfl rfl ?_
                refine j_mgetA hE hk 13 (by decide) rfl q2627 dX4_isStrict_42 ?_
                refine j_ild4 hk dX4_isStrict_45 rfl rfl ?_
                refine j_mald hE hk 13 6 rfl (k) (by omega) (by simp only [mLen]; omega) dX4_isStrict_46 ?_
                refine j_top (z2 := ((oK (opAt (g.1.1 s) k) : Nat) : Int)) (k1) ?_
                refine j_iconst (n := 1) hk dX4_isStrict_47 ?_
                refine j_icmp_ne hk (by omega) (by omega) dX4_isStrict_48 rfl (tgt := 77) (fun h48 => ?_) (fun h48 => ?_)
                · refine j_iinc3 hk dX4_isStrict_77 rfl ?_
                  refine j_goto (tgt := 33) hk dX4_isStrict_80 rfl ?_
                  exact ih33 (j + 1) (by omega) (by omega) (all_s hj2 (fun _ => by unfold strP; simp [(show oK (opAt (g.1.1 s) k) ≠ 1 by omega)]))
                · refine j_ald4 hk dX4_isStrict_51 rfl rfl ?_
                  refine j_ild4 hk dX4_isStrict_52 rfl rfl ?_
                  refine j_ild4 hk dX4_isStrict_53 rfl rfl ?_
                  refine j_mVi hE hk hl0 hF (mc_conflict hls hE (A := Az4) (F := Fz5) (i := k) (j := j) (L := g.1.1 s) (hL) (by omega) (by omega)) 2 (lw_V q2901 q2903 qs77 q145 q2904) (by decide +kernel) rfl (by decide) (by decide) rfl (Nat.le_of_ble_eq_true rfl) dX4_isStrict_54 ?_
                  rintro _ _ _ ⟨rfl, rfl, rfl⟩
                  refine j_ifeqB hk dX4_isStrict_57 rfl (tgt := 77) (fun h57 => ?_) (fun h57 => ?_)
                  · refine j_iinc3 hk dX4_isStrict_77 rfl ?_
                    refine j_goto (tgt := 33) hk dX4_isStrict_80 rfl ?_
                    exact ih33 (j + 1) (by omega) (by omega) (all_s hj2 (fun _ => by unfold strP; simp [h57]))
                  · refine j_ald4 hk dX4_isStrict_60 rfl rfl ?_
                    refine j_ald4 hk dX4_isStrict_61 rfl rfl ?_
                    refine j_mgetA hE hk 14 (by decide) rfl q2628 dX4_isStrict_62 ?_
                    refine j_ild4 hk dX4_isStrict_65 rfl rfl ?_
                    refine j_mald hE hk 14 7 rfl (k) (by omega) (by simp only [mLen]; omega) dX4_isStrict_66 ?_
                    refine j_top (z2 := ((oT (opAt (g.1.1 s) k) : Nat) : Int)) (k2) ?_
                    refine j_ild4 hk dX4_isStrict_67 rfl rfl ?_
                    refine j_ild4 hk dX4_isStrict_68 rfl rfl ?_
                    refine j_mVi hE hk hl0 hF (mc_endsBetween hls hE (A := Az4) (F := Fz5) (t := oT (opAt (g.1.1 s) k)) (a := k) (b := j) (L := g.1.1 s) (hL) (by omega) (by omega)) 3 (lw_V q3123 q3125 qs107 q145 q3126) (by decide +kernel) rfl (by decide) (by decide) rfl (Nat.le_of_ble_eq_true rfl) dX4_isStrict_69 ?_
                    rintro _ _ _ ⟨rfl, rfl, rfl⟩
                    refine j_ifneB hk dX4_isStrict_72 rfl (tgt := 77) (fun h72 => ?_) (fun h72 => ?_)
                    · refine j_iinc3 hk dX4_isStrict_77 rfl ?_
                      refine j_goto (tgt := 33) hk dX4_isStrict_80 rfl ?_
                      exact ih33 (j + 1) (by omega) (by omega) (all_s hj2 (fun _ => by unfold strP; simp [h72]))
                    · refine j_iconst (n := 0) hk dX4_isStrict_75 ?_
                      refine j_miret hk he rfl dX4_isStrict_76 (Nat.le_refl _) (Nat.le_refl _) ?_
                      have e : sp_isStrict g (s : Int) = (0, jB false, g) := by simp only [sp_isStrict, e1, Int.toNat_natCast, Bool.not_true, Bool.false_eq_true, if_false]; rw [show strB (g.1.1 s) = false from any2_t (m := fun _ => (g.1.1 s).length) (k := k) (j := j) (by omega) (by omega) (by unfold strP; simp [h57, h72]; omega)]
                      rw [mP, e]
                      exact ⟨rfl, by rw [hkf0 4 (by decide)]; exact ht, hm.keep hka0 hkf0 (by decide) (by decide)⟩
          exact loop33 _ (k + 1) (Nat.lt_succ_self _) (by omega) (fun q h _ => by unfold strP; simp; omega)
    exact loop21 _ 0 (Nat.lt_succ_self _) (Nat.zero_le _) (fun q h => absurd h (Nat.not_lt_zero _))
  · refine j_iconst (n := 0) hk dX4_isStrict_11 ?_
    refine j_miret hk he rfl dX4_isStrict_12 (Nat.le_refl _) (Nat.le_refl _) ?_
    have e : sp_isStrict g si = (1, 0, g) := by
      have : isSl si = false := by have h := h8; rw [Bool.not_eq_true'] at h; exact h
      simp [sp_isStrict, this]
    rw [mP, e]
    exact ⟨rfl, by rw [iup_s, h8]; rfl, hR.up4⟩
