set_option maxHeartbeats 1500000 in
/-- twin(II)I -/
theorem mc_twin {l : Launch} {E : jE} {m : Nat} {ad : Nat → Nat} {A : Nat → Nat → Int} {F : Nat → Int} (hls : l.stackTraces = false) (hE : jSt E) {s : Nat} {k : Nat} {S : Nat → List Op} {V : Nat → Nat} {L : List Op} (hN : nowIs (A 0) S V) (hs : s < 4) (hL : laid A F L) (hkl : k < L.length) : mC l E yX4_twin cX4_twin 5 (some .int) 2 34 [.ref m, .int (jI ((s : Nat) : Int)), .int (jI ((k : Nat) : Int))] m ad A F (mQi E m ad (fun r A2 F2 => twI L (S s) k = r ∧ A = A2 ∧ F = F2)) := by
  refine m_start (own := "ScheduleAnalyzerModel") (vs := [some (.ref m), some (.int (jI ((s : Nat) : Int))), some (.int (jI ((k : Nat) : Int))), none, none]) hls (by decide +kernel) rfl rfl rfl (Nat.le_of_ble_eq_true rfl) ?_
  intro K hk he hl0 hF hG0
  have hlen := hL.len
  have hM := hN.len hs
  have kr := hL.2.2 (k) (hkl)
  obtain ⟨k1, k2, k3⟩ := kr
  obtain ⟨k4, k5, k6, k7, k8⟩ := hL.ok (i := k) (hkl)
  refine j_iconst (n := 0) hk dX4_twin_0 ?_
  refine j_ist3 hk dX4_twin_1 rfl ?_
  refine j_iconst (n := 0) hk dX4_twin_2 ?_
  refine j_ist4 hk dX4_twin_3 rfl ?_
  have loop5 : ∀ (fuel5 : Nat) (i : Nat), k - i < fuel5 → i ≤ k → jW K (mAs E m ad A F) 0 0 5 [some (.ref m), some (.int (jI ((s : Nat) : Int))), some (.int (jI ((k : Nat) : Int))), some (.int (jI ((cN (twP L k) i : Nat) : Int))), some (.int (jI ((i : Nat) : Int)))] [] := by
    intro fuel5
    induction fuel5 with
    | zero => intro i hm; exact absurd hm (Nat.not_lt_zero _)
    | succ fuel5 ih5 =>
      intro i hm5 hi
      refine j_ild hk dX4_twin_5 rfl ?_
      refine j_ild4 hk dX4_twin_7 rfl rfl ?_
      refine j_icmp_ge hk (by omega) (by omega) dX4_twin_8 rfl (tgt := 41) (fun h8 => ?_) (fun h8 => ?_)
      · refine j_iconst (n := 0) hk dX4_twin_41 ?_
        refine j_ist4 hk dX4_twin_42 rfl ?_
        have loop44 : ∀ (fuel44 : Nat) (f : Nat) (p : Nat) (c : Nat), f < fuel44 → f + p = (S s).length → twF f (S s) (opAt L k) p c = twI L (S s) k → c ≤ 20 → jW K (mAs E m ad A F) 0 0 44 [some (.ref m), some (.int (jI ((s : Nat) : Int))), some (.int (jI ((k : Nat) : Int))), some (.int (jI ((c : Nat) : Int))), some (.int (jI ((p : Nat) : Int)))] [] := by
          intro fuel44
          induction fuel44 with
          | zero => intro f p c hm; exact absurd hm (Nat.not_lt_zero _)
          | succ fuel44 ih44 =>
            intro f p c hm44 hf hq hc
            refine j_ild hk dX4_twin_44 rfl ?_
            refine j_ald4 hk dX4_twin_46 rfl rfl ?_
            refine j_ild4 hk dX4_twin_47 rfl rfl ?_
            refine j_mVi hE hk hl0 hF (mc_count hls hE (A := A) (F := F) (s := s) (hN) (hs)) 1 (lw_V q2801 q2803 qs60 q145 q2804) (by decide +kernel) rfl (by decide) (by decide) rfl (Nat.le_of_ble_eq_true rfl) dX4_twin_48 ?_
            rintro _ _ _ ⟨rfl, rfl, rfl⟩
            refine j_icmp_ge hk (by omega) (by omega) dX4_twin_51 rfl (tgt := 127) (fun h51 => ?_) (fun h51 => ?_)
            · refine j_iconst (n := -1) hk dX4_twin_127 ?_
              refine j_miret hk he rfl dX4_twin_128 (Nat.le_refl _) (Nat.le_refl _) ?_
              have e : f = 0 := by omega
              subst e
              exact ⟨hq.symm, rfl, rfl⟩
            · obtain ⟨f2, rfl⟩ : ∃ f2, f = f2 + 1 := ⟨f - 1, by omega⟩
              have hok := hN.ok hs (i := p) (by omega)
              have hv := opV_lt hok
              have o5 := hok.2.2.1
              refine j_ald4 hk dX4_twin_54 rfl rfl ?_
              refine j_ild4 hk dX4_twin_55 rfl rfl ?_
              refine j_ild hk dX4_twin_56 rfl ?_
              refine j_mVi hE hk hl0 hF (mc_code hls hE (A := A) (F := F) (s := s) (i := p) (hN) (hs) (by omega)) 2 (lw_V q2821 q2823 qs64 q145 q2824) (by decide +kernel) rfl (by decide) (by decide) rfl (Nat.le_of_ble_eq_true rfl) dX4_twin_58 ?_
              rintro _ _ _ ⟨rfl, rfl, rfl⟩
              refine j_sSi hk hl0 (sc_transactionOf hls (c := opV (opAt (S s) p)) (by omega)) 1 (lw_S q2787 q2788 q145 q2789) (by decide +kernel) rfl (by decide) (by decide) rfl (Nat.le_of_ble_eq_true rfl) dX4_twin_61 ?_
              refine j_top (z2 := ((oT (opAt (S s) p) : Nat) : Int)) (by rw [opV_t hok]) ?_
              refine j_ald4 hk dX4_twin_64 rfl rfl ?_
              refine j_mgetA hE hk 14 (by decide) rfl q2628 dX4_twin_65 ?_
              refine j_ild4 hk dX4_twin_68 rfl rfl ?_
              refine j_mald hE hk 14 7 rfl (k) (by omega) (by simp only [mLen]; omega) dX4_twin_69 ?_
              refine j_top (z2 := ((oT (opAt L k) : Nat) : Int)) (k2) ?_
              refine j_icmp_eq hk (by omega) (by omega) dX4_twin_70 rfl (tgt := 76) (fun h70 => ?_) (fun h70 => ?_)
              · refine j_ild4 hk dX4_twin_76 rfl rfl ?_
                refine j_if_ne hk (by omega) dX4_twin_77 rfl (tgt := 118) (fun h77 => ?_) (fun h77 => ?_)
                · obtain ⟨c2, rfl⟩ : ∃ c2, c = c2 + 1 := ⟨c - 1, by omega⟩
                  refine j_iinc3 hk dX4_twin_118 rfl ?_
                  refine j_loc (i := 3) (z2 := ((c2 : Nat) : Int)) rfl (by omega) ?_
                  refine j_iinc4 hk dX4_twin_121 rfl ?_
                  refine j_goto (tgt := 44) hk dX4_twin_124 rfl ?_
                  exact ih44 f2 (p + 1) c2 (by omega) (by omega) (by rw [← hq, twF_s, if_neg (fun q => q (by omega)), if_neg (by omega)]; rfl) (by omega)
                · refine j_ald4 hk dX4_twin_80 rfl rfl ?_
                  refine j_ild4 hk dX4_twin_81 rfl rfl ?_
                  refine j_ild hk dX4_twin_82 rfl ?_
                  refine j_mVi hE hk hl0 hF (mc_code hls hE (A := A) (F := F) (s := s) (i := p) (hN) (hs) (by omega)) 2 (lw_V q2821 q2823 qs64 q145 q2824) (by decide +kernel) rfl (by decide) (by decide) rfl (Nat.le_of_ble_eq_true rfl) dX4_twin_84 ?_
                  rintro _ _ _ ⟨rfl, rfl, rfl⟩
                  refine j_ald4 hk dX4_twin_87 rfl rfl ?_
                  refine j_mgetA hE hk 13 (by decide) rfl q2627 dX4_twin_88 ?_
                  refine j_ild4 hk dX4_twin_91 rfl rfl ?_
                  refine j_mald hE hk 13 6 rfl (k) (by omega) (by simp only [mLen]; omega) dX4_twin_92 ?_
                  refine j_top (z2 := ((oK (opAt L k) : Nat) : Int)) (k1) ?_
                  refine j_ald4 hk dX4_twin_93 rfl rfl ?_
                  refine j_mgetA hE hk 14 (by decide) rfl q2628 dX4_twin_94 ?_
                  refine j_ild4 hk dX4_twin_97 rfl rfl ?_
                  refine j_mald hE hk 14 7 rfl (k) (by omega) (by simp only [mLen]; omega) dX4_twin_98 ?_
                  refine j_top (z2 := ((oT (opAt L k) : Nat) : Int)) (k2) ?_
                  refine j_ald4 hk dX4_twin_99 rfl rfl ?_
                  refine j_mgetA hE hk 15 (by decide) rfl q2629 dX4_twin_100 ?_
                  refine j_ild4 hk dX4_twin_103 rfl rfl ?_
                  refine j_mald hE hk 15 8 rfl (k) (by omega) (by simp only [mLen]; omega) dX4_twin_104 ?_
                  refine j_top (z2 := ((oI (opAt L k) : Nat) : Int)) (k3) ?_
                  refine j_sSi hk hl0 (sc_coded hls (k := oK (opAt L k)) (t := oT (opAt L k)) (i := oI (opAt L k)) ) 3 (lw_S q2780 q2781 q145 q2782) (by decide +kernel) rfl (by decide) (by decide) rfl (Nat.le_of_ble_eq_true rfl) dX4_twin_105 ?_
                  refine j_top (z2 := ((opV (opAt L k) : Nat) : Int)) (rfl) ?_
                  have hvk := opV_lt (hL.ok hkl)
                  refine j_icmp_ne hk (by omega) (by omega) dX4_twin_108 rfl (tgt := 116) (fun h108 => ?_) (fun h108 => ?_)
                  · refine j_iconst (n := -1) hk dX4_twin_116 ?_
                    refine j_miret hk he rfl dX4_twin_117 (Nat.le_refl _) (Nat.le_refl _) ?_
                    have e : c = 0 := by omega
                    subst e
                    exact ⟨by rw [← hq, twF_s, if_neg (fun q => q (by omega)), if_pos rfl, if_neg (by omega)], rfl, rfl⟩
                  · refine j_ild hk dX4_twin_111 rfl ?_
                    refine j_goto (tgt := 117) hk dX4_twin_113 rfl ?_
                    refine j_miret hk he rfl dX4_twin_117 (Nat.le_refl _) (Nat.le_refl _) ?_
                    have e : c = 0 := by omega
                    subst e
                    exact ⟨by rw [← hq, twF_s, if_neg (fun q => q (by omega)), if_pos rfl, if_pos (by omega)], rfl, rfl⟩
              · refine j_goto (tgt := 121) hk dX4_twin_73 rfl ?_
                refine j_iinc4 hk dX4_twin_121 rfl ?_
                refine j_goto (tgt := 44) hk dX4_twin_124 rfl ?_
                exact ih44 f2 (p + 1) c (by omega) (by omega) (by rw [← hq, twF_s, if_pos (fun q => by omega)]) (hc)
        have ei : i = k := by omega
        exact loop44 _ ((S s).length) 0 (cN (twP L k) i) (Nat.lt_succ_self _) (rfl) (by rw [ei]; rfl) (by have := cN_le (twP L k) i; omega)
      · obtain ⟨l1, l2, l3⟩ := hL.2.2 i (by omega)
        have l5 := (hL.ok (i := i) (by omega)).2.2.1
        have hcl := cN_le (twP L k) i
        refine j_ild4 hk dX4_twin_11 rfl rfl ?_
        refine j_ald4 hk dX4_twin_12 rfl rfl ?_
        refine j_mgetA hE hk 14 (by decide) rfl q2628 dX4_twin_13 ?_
        refine j_ild hk dX4_twin_16 rfl ?_
        refine j_mald hE hk 14 7 rfl (i) (by omega) (by simp only [mLen]; omega) dX4_twin_18 ?_
        refine j_top (z2 := ((oT (opAt L i) : Nat) : Int)) (l2) ?_
        refine j_ald4 hk dX4_twin_19 rfl rfl ?_
        refine j_mgetA hE hk 14 (by decide) rfl q2628 dX4_twin_20 ?_
        refine j_ild4 hk dX4_twin_23 rfl rfl ?_
        refine j_mald hE hk 14 7 rfl (k) (by omega) (by simp only [mLen]; omega) dX4_twin_24 ?_
        refine j_top (z2 := ((oT (opAt L k) : Nat) : Int)) (k2) ?_
        refine j_icmp_ne hk (by omega) (by omega) dX4_twin_25 rfl (tgt := 32) (fun h25 => ?_) (fun h25 => ?_)
        · refine j_iconst (n := 0) hk dX4_twin_32 ?_
          refine j_iadd hk dX4_twin_33 ?_
          refine j_top (z2 := ((cN (twP L k) (i + 1) : Nat) : Int)) (by rw [cN_s, show twP L k i = false by unfold twP; simp; omega]; rfl) ?_
          refine j_ist3 hk dX4_twin_34 rfl ?_
          refine j_iinc4 hk dX4_twin_35 rfl ?_
          refine j_goto (tgt := 5) hk dX4_twin_38 rfl ?_
          exact ih5 (i + 1) (by omega) (by omega)
        · refine j_iconst (n := 1) hk dX4_twin_28 ?_
          refine j_goto (tgt := 33) hk dX4_twin_29 rfl ?_
          refine j_iadd hk dX4_twin_33 ?_
          refine j_top (z2 := ((cN (twP L k) (i + 1) : Nat) : Int)) (by rw [cN_s, show twP L k i = true by unfold twP; simp; omega]; rfl) ?_
          refine j_ist3 hk dX4_twin_34 rfl ?_
          refine j_iinc4 hk dX4_twin_35 rfl ?_
          refine j_goto (tgt := 5) hk dX4_twin_38 rfl ?_
          exact ih5 (i + 1) (by omega) (by omega)
  exact loop5 _ 0 (Nat.lt_succ_self _) (Nat.zero_le _)
set_option maxHeartbeats 1500000 in
/-- areEquivalent(II)Z -/
theorem mc_areEquivalent {l : Launch} {E : jE} {m : Nat} {ad : Nat → Nat} {A : Nat → Nat → Int} {F : Nat → Int} (hls : l.stackTraces = false) (hE : jSt E) {ai : Int} {bi : Int} {g : SS} (hR : mR A F g) (hr : jr ai ∧ jr bi) : mC l E yX4_areEquivalent cX4_areEquivalent 5 (some .boolean) 5 105 [.ref m, .int (jI ai), .int (jI bi)] m ad A F (mQi E m ad (fun r A2 F2 => mP (sp_areEquivalent g ai bi) r A2 F2)) := by
  refine m_start (own := "ScheduleAnalyzerModel") (vs := [some (.ref m), some (.int (jI ai)), some (.int (jI bi)), none, none]) hls (by decide +kernel) rfl rfl rfl (Nat.le_of_ble_eq_true rfl) ?_
  intro K hk he hl0 hF hG0
  refine j_ald4 hk dX4_areEquivalent_0 rfl rfl ?_
  refine j_ild4 hk dX4_areEquivalent_1 rfl rfl ?_
  refine j_sSi hk hl0 (sc_isSlot hls (v := ai) (hr.1)) 1 (lw_S q2752 q2753 q145 q2754) (by decide +kernel) rfl (by decide) (by decide) rfl (Nat.le_of_ble_eq_true rfl) dX4_areEquivalent_2 ?_
  refine j_ifeqB hk dX4_areEquivalent_5 rfl (tgt := 19) (fun h5 => ?_) (fun h5 => ?_)
  · refine j_iconst (n := 0) hk dX4_areEquivalent_19 ?_
    refine j_mVi hE hk hl0 hF (mc_checked hls hE (A := A) (F := F) (b := false) ) 1 (lw_V q2972 q2974 qs92 q145 q2975) (by decide +kernel) rfl (by decide) (by decide) rfl (Nat.le_of_ble_eq_true rfl) dX4_areEquivalent_20 ?_
    rintro _ _ _ ⟨rfl, rfl, rfl⟩
    refine j_top (z2 := 1) rfl ?_
    refine j_if_gt hk (by omega) dX4_areEquivalent_23 rfl (tgt := 39) (fun _ => ?_) (fun h => absurd h (by omega))
    refine j_iconst (n := 0) hk dX4_areEquivalent_39 ?_
    refine j_miret hk he rfl dX4_areEquivalent_40 (Nat.le_refl _) (Nat.le_refl _) ?_
    have e : sp_areEquivalent g ai bi = (1, 0, g) := by simp [sp_areEquivalent, isSl, h5]
    rw [mP, e]
    exact ⟨rfl, iup_s _ _ _, hR.up4⟩
  · refine j_ild4 hk dX4_areEquivalent_8 rfl rfl ?_
    refine j_sSi hk hl0 (sc_isSlot hls (v := bi) (hr.2)) 1 (lw_S q2752 q2753 q145 q2754) (by decide +kernel) rfl (by decide) (by decide) rfl (Nat.le_of_ble_eq_true rfl) dX4_areEquivalent_9 ?_
    refine j_ifeqB hk dX4_areEquivalent_12 rfl (tgt := 19) (fun h12 => ?_) (fun h12 => ?_)
    · refine j_iconst (n := 0) hk dX4_areEquivalent_19 ?_
      refine j_mVi hE hk hl0 hF (mc_checked hls hE (A := A) (F := F) (b := false) ) 1 (lw_V q2972 q2974 qs92 q145 q2975) (by decide +kernel) rfl (by decide) (by decide) rfl (Nat.le_of_ble_eq_true rfl) dX4_areEquivalent_20 ?_
      rintro _ _ _ ⟨rfl, rfl, rfl⟩
      refine j_top (z2 := 1) rfl ?_
      refine j_if_gt hk (by omega) dX4_areEquivalent_23 rfl (tgt := 39) (fun _ => ?_) (fun h => absurd h (by omega))
      refine j_iconst (n := 0) hk dX4_areEquivalent_39 ?_
      refine j_miret hk he rfl dX4_areEquivalent_40 (Nat.le_refl _) (Nat.le_refl _) ?_
      have e : sp_areEquivalent g ai bi = (1, 0, g) := by simp [sp_areEquivalent, isSl, h5, h12]
      rw [mP, e]
      exact ⟨rfl, iup_s _ _ _, hR.up4⟩
    · refine j_iconst (n := 1) hk dX4_areEquivalent_15 ?_
      refine j_goto (tgt := 20) hk dX4_areEquivalent_16 rfl ?_
      refine j_mVi hE hk hl0 hF (mc_checked hls hE (A := A) (F := F) (b := true) ) 1 (lw_V q2972 q2974 qs92 q145 q2975) (by decide +kernel) rfl (by decide) (by decide) rfl (Nat.le_of_ble_eq_true rfl) dX4_areEquivalent_20 ?_
      rintro _ _ _ ⟨rfl, rfl, rfl⟩
      refine j_top (z2 := 0) rfl ?_
      refine j_if_gt hk (by omega) dX4_areEquivalent_23 rfl (tgt := 39) (fun h => absurd h (by omega)) (fun _ => ?_)
      have q1 := of_decide_eq_true h5
      have q2 := of_decide_eq_true h12
      obtain ⟨a, rfl⟩ : ∃ a : Nat, ai = ((a : Nat) : Int) := ⟨ai.toNat, by omega⟩
      obtain ⟨b, rfl⟩ : ∃ b : Nat, bi = ((b : Nat) : Int) := ⟨bi.toNat, by omega⟩
      have e1 : isSl (a : Int) = true := by simp [isSl]; omega
      have e2 : isSl (b : Int) = true := by simp [isSl]; omega
      have hla := hR.1.len (s := a) (by omega)
      have hlb := hR.1.len (s := b) (by omega)
      refine j_ald4 hk dX4_areEquivalent_26 rfl rfl ?_
      refine j_ild4 hk dX4_areEquivalent_27 rfl rfl ?_
      refine j_mVi hE hk hl0 hF (mc_count hls hE (A := A) (F := (iup F 4 (jB (!true)))) (s := a) (S := g.1.1) (V := g.1.2) (hR.1) (by omega)) 1 (lw_V q2801 q2803 qs60 q145 q2804) (by decide +kernel) rfl (by decide) (by decide) rfl (Nat.le_of_ble_eq_true rfl) dX4_areEquivalent_28 ?_
      rintro _ _ _ ⟨rfl, rfl, rfl⟩
      refine j_ald4 hk dX4_areEquivalent_31 rfl rfl ?_
      refine j_ild4 hk dX4_areEquivalent_32 rfl rfl ?_
      refine j_mVi hE hk hl0 hF (mc_count hls hE (A := A) (F := (iup F 4 (jB (!true)))) (s := b) (S := g.1.1) (V := g.1.2) (hR.1) (by omega)) 1 (lw_V q2801 q2803 qs60 q145 q2804) (by decide +kernel) rfl (by decide) (by decide) rfl (Nat.le_of_ble_eq_true rfl) dX4_areEquivalent_33 ?_
      rintro _ _ _ ⟨rfl, rfl, rfl⟩
      refine j_icmp_eq hk (by omega) (by omega) dX4_areEquivalent_36 rfl (tgt := 41) (fun h36 => ?_) (fun h36 => ?_)
      · refine j_ald4 hk dX4_areEquivalent_41 rfl rfl ?_
        refine j_ild4 hk dX4_areEquivalent_42 rfl rfl ?_
        refine j_iconst (n := 0) hk dX4_areEquivalent_43 ?_
        refine j_mVv hE hk hl0 hF (mc_lay hls hE (A := A) (F := (iup F 4 (jB (!true)))) (s := a) (b := false) (S := g.1.1) (V := g.1.2) (hR.1) (by omega)) 2 (lw_V q2889 q2891 qs74 q145 q2892) (by decide +kernel) rfl (by decide) (by decide) rfl (Nat.le_of_ble_eq_true rfl) dX4_areEquivalent_44 ?_
        intro Az10 Fz11 hc44
        obtain ⟨hL, hP0, hka0, hkf0⟩ := hc44
        rw [layL_f] at hL
        have hlen := hL.len
        have hM : nowIs (Az10 0) g.1.1 g.1.2 := hR.1.keep (hka0 0 (by decide))
        refine j_iconst (n := 0) hk dX4_areEquivalent_47 ?_
        refine j_ist3 hk dX4_areEquivalent_48 rfl ?_
        have loop49 : ∀ (fuel49 : Nat) (i : Nat), (g.1.1 a).length - i < fuel49 → i ≤ (g.1.1 a).length → (∀ q, q < i → eqP (g.1.1 a) (g.1.1 b) q = false) → jW K (mAs E m ad Az10 Fz11) 0 0 49 [some (.ref m), some (.int (jI ((a : Nat) : Int))), some (.int (jI ((b : Nat) : Int))), some (.int (jI ((i : Nat) : Int))), none] [] := by
          intro fuel49
          induction fuel49 with
          | zero => intro i hm; exact absurd hm (Nat.not_lt_zero _)
          | succ fuel49 ih49 =>
            intro i hm49 hi hi2
            refine j_ild4 hk dX4_areEquivalent_49 rfl rfl ?_
            refine j_ald4 hk dX4_areEquivalent_50 rfl rfl ?_
            refine j_mget hE hk 19 (by decide) rfl q2633 dX4_areEquivalent_51 ?_
            refine j_top (z2 := (((g.1.1 a).length : Nat) : Int)) (hL.1) ?_
            refine j_icmp_ge hk (by omega) (by omega) dX4_areEquivalent_54 rfl (tgt := 122) (fun h54 => ?_) (fun h54 => ?_)
            · refine j_iconst (n := 1) hk dX4_areEquivalent_122 ?_
              refine j_miret hk he rfl dX4_areEquivalent_123 (Nat.le_refl _) (Nat.le_refl _) ?_
              have e : sp_areEquivalent g (a : Int) (b : Int) = (0, jB true, g) := by simp only [sp_areEquivalent, e1, e2, Int.toNat_natCast, Bool.and_self, Bool.not_true, Bool.false_eq_true, if_false]; rw [show eqvB (g.1.1 a) (g.1.1 b) = true from by unfold eqvB; rw [any_range (fun q hq => hi2 q (by omega)), decide_eq_true (by omega)]; rfl]
              rw [mP, e]
              exact ⟨rfl, by rw [hkf0 4 (by decide), iup_s]; rfl, hR.up4.keep hka0 hkf0 (by decide) (by decide)⟩
            · have t1 := twI_r (g.1.1 a) (g.1.1 b) i
              refine j_ald4 hk dX4_areEquivalent_57 rfl rfl ?_
              refine j_ild4 hk dX4_areEquivalent_58 rfl rfl ?_
              refine j_ild4 hk dX4_areEquivalent_59 rfl rfl ?_
              refine j_mVi hE hk hl0 hF (mc_twin hls hE (A := Az10) (F := Fz11) (s := b) (k := i) (S := g.1.1) (V := g.1.2) (L := g.1.1 a) (hM) (by omega) (hL) (by omega)) 2 (lw_V q3055 q3057 qs96 q145 q3058) (by decide +kernel) rfl (by decide) (by decide) rfl (Nat.le_of_ble_eq_true rfl) dX4_areEquivalent_60 ?_
              rintro _ _ _ ⟨rfl, rfl, rfl⟩
              refine j_if_ge hk (by omega) dX4_areEquivalent_63 rfl (tgt := 68) (fun h63 => ?_) (fun h63 => ?_)
              · refine j_ild4 hk dX4_areEquivalent_68 rfl rfl ?_
                refine j_iconst (n := 1) hk dX4_areEquivalent_69 ?_
                refine j_iadd hk dX4_areEquivalent_70 ?_
                refine j_ist4 hk dX4_areEquivalent_71 rfl ?_
                have loop73 : ∀ (fuel73 : Nat) (j : Nat), (g.1.1 a).length - j < fuel73 → i < j ∧ j ≤ (g.1.1 a).length → (∀ q, q < j → q < (g.1.1 a).length → eqQ (g.1.1 a) (g.1.1 b) i q = false) → jW K (mAs E m ad Az10 Fz11) 0 0 73 [some (.ref m), some (.int (jI ((a : Nat) : Int))), some (.int (jI ((b : Nat) : Int))), some (.int (jI ((i : Nat) : Int))), some (.int (jI ((j : Nat) : Int)))] [] := by
                  intro fuel73
                  induction fuel73 with
                  | zero => intro j hm; exact absurd hm (Nat.not_lt_zero _)
                  | succ fuel73 ih73 =>
                    intro j hm73 hj hj2
                    refine j_ild hk dX4_areEquivalent_73 rfl ?_
                    refine j_ald4 hk dX4_areEquivalent_75 rfl rfl ?_
                    refine j_mget hE hk 19 (by decide) rfl q2633 dX4_areEquivalent_76 ?_
                    refine j_top (z2 := (((g.1.1 a).length : Nat) : Int)) (hL.1) ?_
                    refine j_icmp_ge hk (by omega) (by omega) dX4_areEquivalent_79 rfl (tgt := 116) (fun h79 => ?_) (fun h79 => ?_)
                    · refine j_iinc3 hk dX4_areEquivalent_116 rfl ?_
                      refine j_goto (tgt := 49) hk dX4_areEquivalent_119 rfl ?_
                      refine j_forget (i := 4) ?_
                      exact ih49 (i + 1) (by omega) (by omega) (all_s hi2 (by unfold eqP; rw [any_range (fun q hq => hj2 q (by omega) hq)]; simp; omega))
                    · refine j_ald4 hk dX4_areEquivalent_82 rfl rfl ?_
                      refine j_ild4 hk dX4_areEquivalent_83 rfl rfl ?_
                      refine j_ild hk dX4_areEquivalent_84 rfl ?_
                      refine j_mVi hE hk hl0 hF (mc_conflict hls hE (A := Az10) (F := Fz11) (i := i) (j := j) (L := g.1.1 a) (hL) (by omega) (by omega)) 2 (lw_V q2901 q2903 qs77 q145 q2904) (by decide +kernel) rfl (by decide) (by decide) rfl (Nat.le_of_ble_eq_true rfl) dX4_areEquivalent_86 ?_
                      rintro _ _ _ ⟨rfl, rfl, rfl⟩
                      refine j_ifeqB hk dX4_areEquivalent_89 rfl (tgt := 110) (fun h89 => ?_) (fun h89 => ?_)
                      · refine j_iinc4 hk dX4_areEquivalent_110 rfl ?_
                        refine j_goto (tgt := 73) hk dX4_areEquivalent_113 rfl ?_
                        exact ih73 (j + 1) (by omega) (by omega) (all_s hj2 (fun _ => by unfold eqQ; simp [h89]))
                      · have t2 := twI_r (g.1.1 a) (g.1.1 b) j
                        refine j_ald4 hk dX4_areEquivalent_92 rfl rfl ?_
                        refine j_ild4 hk dX4_areEquivalent_93 rfl rfl ?_
                        refine j_ild hk dX4_areEquivalent_94 rfl ?_
                        refine j_mVi hE hk hl0 hF (mc_twin hls hE (A := Az10) (F := Fz11) (s := b) (k := j) (S := g.1.1) (V := g.1.2) (L := g.1.1 a) (hM) (by omega) (hL) (by omega)) 2 (lw_V q3055 q3057 qs96 q145 q3058) (by decide +kernel) rfl (by decide) (by decide) rfl (Nat.le_of_ble_eq_true rfl) dX4_areEquivalent_96 ?_
                        rintro _ _ _ ⟨rfl, rfl, rfl⟩
                        refine j_ald4 hk dX4_areEquivalent_99 rfl rfl ?_
                        refine j_ild4 hk dX4_areEquivalent_100 rfl rfl ?_
                        refine j_ild4 hk dX4_areEquivalent_101 rfl rfl ?_
                        refine j_mVi hE hk hl0 hF (mc_twin hls hE (A := Az10) (F := Fz11) (s := b) (k := i) (S := g.1.1) (V := g.1.2) (L := g.1.1 a) (hM) (by omega) (hL) (by omega)) 2 (lw_V q3055 q3057 qs96 q145 q3058) (by decide +kernel) rfl (by decide) (by decide) rfl (Nat.le_of_ble_eq_true rfl) dX4_areEquivalent_102 ?_
                        rintro _ _ _ ⟨rfl, rfl, rfl⟩
                        refine j_icmp_ge hk (by omega) (by omega) dX4_areEquivalent_105 rfl (tgt := 110) (fun h105 => ?_) (fun h105 => ?_)
                        · refine j_iinc4 hk dX4_areEquivalent_110 rfl ?_
                          refine j_goto (tgt := 73) hk dX4_areEquivalent_113 rfl ?_
                          exact ih73 (j + 1) (by omega) (by omega) (all_s hj2 (fun _ => by unfold eqQ; simp [h89, (show ¬ twI (g.1.1 a) (g.1.1 b) j < twI (g.1.1 a) (g.1.1 b) i by omega)]))
                        · refine j_iconst (n := 0) hk dX4_areEquivalent_108 ?_
                          refine j_miret hk he rfl dX4_areEquivalent_109 (Nat.le_refl _) (Nat.le_refl _) ?_
                          have e : sp_areEquivalent g (a : Int) (b : Int) = (0, jB false, g) := by simp only [sp_areEquivalent, e1, e2, Int.toNat_natCast, Bool.and_self, Bool.not_true, Bool.false_eq_true, if_false]; rw [show eqvB (g.1.1 a) (g.1.1 b) = false from by unfold eqvB; rw [any_range_t (j := i) (by omega) (by unfold eqP; rw [any_range_t (j := j) (by omega) (by unfold eqQ; simp [h89]; omega)]; simp)]; simp]
                          rw [mP, e]
                          exact ⟨rfl, by rw [hkf0 4 (by decide), iup_s]; rfl, hR.up4.keep hka0 hkf0 (by decide) (by decide)⟩
                exact loop73 _ (i + 1) (Nat.lt_succ_self _) (by omega) (fun q h _ => by unfold eqQ; simp; omega)
              · refine j_iconst (n := 0) hk dX4_areEquivalent_66 ?_
                refine j_miret hk he rfl dX4_areEquivalent_67 (Nat.le_refl _) (Nat.le_refl _) ?_
                have e : sp_areEquivalent g (a : Int) (b : Int) = (0, jB false, g) := by simp only [sp_areEquivalent, e1, e2, Int.toNat_natCast, Bool.and_self, Bool.not_true, Bool.false_eq_true, if_false]; rw [show eqvB (g.1.1 a) (g.1.1 b) = false from by unfold eqvB; rw [any_range_t (j := i) (by omega) (by unfold eqP; simp; omega)]; simp]
                rw [mP, e]
                exact ⟨rfl, by rw [hkf0 4 (by decide), iup_s]; rfl, hR.up4.keep hka0 hkf0 (by decide) (by decide)⟩
        exact loop49 _ 0 (Nat.lt_succ_self _) (Nat.zero_le _) (fun q h => absurd h (Nat.not_lt_zero _))
      · refine j_iconst (n := 0) hk dX4_areEquivalent_39 ?_
        refine j_miret hk he rfl dX4_areEquivalent_40 (Nat.le_refl _) (Nat.le_refl _) ?_
        have e : sp_areEquivalent g (a : Int) (b : Int) = (0, jB false, g) := by
          have e3 : eqvB (g.1.1 a) (g.1.1 b) = false := by unfold eqvB; rw [decide_eq_false (by omega)]; rfl
          simp [sp_areEquivalent, e1, e2, e3]
        rw [mP, e]
        exact ⟨rfl, iup_s _ _ _, hR.up4⟩
