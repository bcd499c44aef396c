set_option maxHeartbeats 1500000 in
/-- undoes(II)V -/
theorem mc_undoes {l : Launch} {E : jE} {m : Nat} {ad : Nat → Nat} {A : Nat → Nat → Int} {F : Nat → Int} (hls : l.stackTraces = false) (hE : jSt E) {t : Nat} {b : Nat} {L : List Op} {C : Nat → Nat} {rp : Nat → Nat} (hL : laid A F L) (hb : b ≤ L.length) (ht : t ≤ 5) (hC : arIs (A 32) 4 C) (hR : rpIs (A 34) L b rp) : mC l E yX4_undoes cX4_undoes 4 (none) 1 12 [.ref m, .int (jI ((t : Nat) : Int)), .int (jI ((b : Nat) : Int))] m ad A F (mQv E m ad (fun A2 F2 => arIs (A2 32) 4 (undTo L t rp b C) ∧ kA [32] A A2 ∧ F = F2)) := by
  refine m_start (own := "ScheduleAnalyzerModel") (vs := [some (.ref m), some (.int (jI ((t : Nat) : Int))), some (.int (jI ((b : Nat) : Int))), none]) hls (by decide +kernel) rfl rfl rfl (Nat.le_of_ble_eq_true rfl) ?_
  intro K hk he hl0 hF hG0
  have hlen := hL.len
  refine j_ild4 hk dX4_undoes_0 rfl rfl ?_
  refine j_iconst (n := 1) hk dX4_undoes_1 ?_
  refine j_isub hk dX4_undoes_2 ?_
  refine j_ist3 hk dX4_undoes_3 rfl ?_
  have loop4 : ∀ (fuel4 : Nat) (A1 : Nat → Nat → Int) (n : Nat) (C1 : Nat → Nat), n < fuel4 → n ≤ b → undTo L t rp n C1 = undTo L t rp b C → arIs (A1 32) 4 C1 → kA [32] A A1 → jW K (mAs E m ad A1 F) 0 0 4 [some (.ref m), some (.int (jI ((t : Nat) : Int))), some (.int (jI ((b : Nat) : Int))), some (.int (jI (((n : Nat) : Int) - 1)))] [] := by
    intro fuel4
    induction fuel4 with
    | zero => intro A1 n C1 hm; exact absurd hm (Nat.not_lt_zero _)
    | succ fuel4 ih4 =>
      intro A1 n C1 hm4 hn hs hC1 ka1
      refine j_ild4 hk dX4_undoes_4 rfl rfl ?_
      refine j_if_lt hk (by omega) dX4_undoes_5 rfl (tgt := 51) (fun h5 => ?_) (fun h5 => ?_)
      · refine j_mvret hk he dX4_undoes_51 (Nat.le_refl _) (Nat.le_refl _) ?_
        have e : n = 0 := by omega
        subst e
        exact ⟨hs ▸ hC1, ka1, rfl⟩
      · obtain ⟨j, rfl⟩ : ∃ j, n = j + 1 := ⟨n - 1, by omega⟩
        refine j_loc (i := 3) (z2 := ((j : Nat) : Int)) rfl (by omega) ?_
        have lr := hL.2.2 (j) (by omega)
        obtain ⟨l1, l2, l3⟩ := lr
        obtain ⟨l4, l5, l6, l7, l8⟩ := hL.ok (i := j) (by omega)
        refine j_ald4 hk dX4_undoes_8 rfl rfl ?_
        refine j_mgetA hE hk 14 (by decide) rfl q2628 dX4_undoes_9 ?_
        refine j_ild4 hk dX4_undoes_12 rfl rfl ?_
        refine j_mald hE hk 14 7 rfl (j) (by omega) (by simp only [mLen]; omega) dX4_undoes_13 ?_
        refine j_top (z2 := ((oT (opAt L j) : Nat) : Int)) (by rw [ka1 14 (by decide)]; exact l2) ?_
        refine j_ild4 hk dX4_undoes_14 rfl rfl ?_
        refine j_icmp_ne hk (by omega) (by omega) dX4_undoes_15 rfl (tgt := 45) (fun h15 => ?_) (fun h15 => ?_)
        · refine j_iinc3 hk dX4_undoes_45 rfl ?_
          refine j_goto (tgt := 4) hk dX4_undoes_48 rfl ?_
          exact ih4 A1 j C1 (by omega) (by omega) (by rw [← hs, undTo_s, if_neg (fun z => absurd z.1 (by omega))]) (hC1) (ka1)
        · refine j_ald4 hk dX4_undoes_18 rfl rfl ?_
          refine j_mgetA hE hk 13 (by decide) rfl q2627 dX4_undoes_19 ?_
          refine j_ild4 hk dX4_undoes_22 rfl rfl ?_
          refine j_mald hE hk 13 6 rfl (j) (by omega) (by simp only [mLen]; omega) dX4_undoes_23 ?_
          refine j_top (z2 := ((oK (opAt L j) : Nat) : Int)) (by rw [ka1 13 (by decide)]; exact l1) ?_
          refine j_iconst (n := 1) hk dX4_undoes_24 ?_
          refine j_icmp_ne hk (by omega) (by omega) dX4_undoes_25 rfl (tgt := 45) (fun h25 => ?_) (fun h25 => ?_)
          · refine j_iinc3 hk dX4_undoes_45 rfl ?_
            refine j_goto (tgt := 4) hk dX4_undoes_48 rfl ?_
            exact ih4 A1 j C1 (by omega) (by omega) (by rw [← hs, undTo_s, if_neg (fun z => absurd z.2 (by omega))]) (hC1) (ka1)
          · obtain ⟨r1, r2⟩ := hR j (by omega) (by omega)
            refine j_ald4 hk dX4_undoes_28 rfl rfl ?_
            refine j_mgetA hE hk 32 (by decide) rfl q2646 dX4_undoes_29 ?_
            refine j_ald4 hk dX4_undoes_32 rfl rfl ?_
            refine j_mgetA hE hk 15 (by decide) rfl q2629 dX4_undoes_33 ?_
            refine j_ild4 hk dX4_undoes_36 rfl rfl ?_
            refine j_mald hE hk 15 8 rfl (j) (by omega) (by simp only [mLen]; omega) dX4_undoes_37 ?_
            refine j_top (z2 := ((oI (opAt L j) : Nat) : Int)) (by rw [ka1 15 (by decide)]; exact l3) ?_
            refine j_ald4 hk dX4_undoes_38 rfl rfl ?_
            refine j_mgetA hE hk 34 (by decide) rfl q2648 dX4_undoes_39 ?_
            refine j_ild4 hk dX4_undoes_42 rfl rfl ?_
            refine j_mald hE hk 34 22 rfl (j) (by omega) (by simp only [mLen]; omega) dX4_undoes_43 ?_
            refine j_top (z2 := ((rp j : Nat) : Int)) (by rw [ka1 34 (by decide)]; exact r1) ?_
            refine j_mast hE hk hF 32 20 rfl (oI (opAt L j)) (by omega) (by simp only [mLen]; omega) dX4_undoes_44 ?_
            refine j_iinc3 hk dX4_undoes_45 rfl ?_
            refine j_goto (tgt := 4) hk dX4_undoes_48 rfl ?_
            exact ih4 (mup A1 32 (oI (opAt L j)) ((rp j : Nat) : Int)) j (nup C1 (oI (opAt L j)) (rp j)) (by omega) (by omega) (by rw [← hs, undTo_s, if_pos ⟨by omega, by omega⟩]) (hC1.up r2) (ka1.up (by decide))
  exact loop4 _ A b C (Nat.lt_succ_self _) (Nat.le_refl _) (rfl) (hC) (kA.rf)
set_option maxHeartbeats 1500000 in
/-- execute()V -/
theorem mc_execute {l : Launch} {E : jE} {m : Nat} {ad : Nat → Nat} {A : Nat → Nat → Int} {F : Nat → Int} (hls : l.stackTraces = false) (hE : jSt E) {S : Nat → List Op} {V : Nat → Nat} {L : List Op} (hN : nowIs (A 0) S V) (hL : laid A F L) : mC l E yX4_execute cX4_execute 3 (none) 2 35 [.ref m] m ad A F (mQv E m ad (fun A2 F2 => arIs (A2 32) 4 (exS V L).c ∧ arIs (A2 33) 6 (exS V L).g ∧ kA [32, 33, 34] A A2 ∧ F = F2)) := by
  refine m_start (own := "ScheduleAnalyzerModel") (vs := [some (.ref m), none, none]) hls (by decide +kernel) rfl rfl rfl (Nat.le_of_ble_eq_true rfl) ?_
  intro K hk he hl0 hF hG0
  have hlen := hL.len
  refine j_iconst (n := 0) hk dX4_execute_0 ?_
  refine j_ist1 hk dX4_execute_1 rfl ?_
  have loop2 : ∀ (fuel2 : Nat) (A1 : Nat → Nat → Int) (i : Nat), 4 - i < fuel2 → i ≤ 4 → arIs (A1 32) i V → kA [32, 33, 34] A A1 → jW K (mAs E m ad A1 F) 0 0 2 [some (.ref m), some (.int (jI ((i : Nat) : Int))), none] [] := by
    intro fuel2
    induction fuel2 with
    | zero => intro A1 i hm; exact absurd hm (Nat.not_lt_zero _)
    | succ fuel2 ih2 =>
      intro A1 i hm2 hi hC1 ka1
      refine j_ild4 hk dX4_execute_2 rfl rfl ?_
      refine j_iconst (n := 4) hk dX4_execute_3 ?_
      refine j_icmp_ge hk (by omega) (by omega) dX4_execute_4 rfl (tgt := 28) (fun h4 => ?_) (fun h4 => ?_)
      · refine j_iconst (n := 0) hk dX4_execute_28 ?_
        refine j_ist1 hk dX4_execute_29 rfl ?_
        have loop30 : ∀ (fuel30 : Nat) (A2 : Nat → Nat → Int) (t : Nat), 6 - t < fuel30 → t ≤ 6 → arIs (A2 32) 4 V → arIs (A2 33) t (fun j => j) → kA [32, 33, 34] A A2 → jW K (mAs E m ad A2 F) 0 0 30 [some (.ref m), some (.int (jI ((t : Nat) : Int))), none] [] := by
          intro fuel30
          induction fuel30 with
          | zero => intro A2 t hm; exact absurd hm (Nat.not_lt_zero _)
          | succ fuel30 ih30 =>
            intro A2 t hm30 ht hC2 hG2 ka2
            refine j_ild4 hk dX4_execute_30 rfl rfl ?_
            refine j_iconst (n := 5) hk dX4_execute_31 ?_
            refine j_icmp_gt hk (by omega) (by omega) dX4_execute_32 rfl (tgt := 48) (fun h32 => ?_) (fun h32 => ?_)
            · refine j_iconst (n := 0) hk dX4_execute_48 ?_
              refine j_ist1 hk dX4_execute_49 rfl ?_
              have loop50 : ∀ (fuel50 : Nat) (A3 : Nat → Nat → Int) (k : Nat), L.length - k < fuel50 → k ≤ L.length → arIs (A3 32) 4 (exTo V L k).c → arIs (A3 33) 6 (exTo V L k).g → rpIs (A3 34) L k (exTo V L k).p → kA [32, 33, 34] A A3 → jW K (mAs E m ad A3 F) 0 0 50 [some (.ref m), some (.int (jI ((k : Nat) : Int))), none] [] := by
                intro fuel50
                induction fuel50 with
                | zero => intro A3 k hm; exact absurd hm (Nat.not_lt_zero _)
                | succ fuel50 ih50 =>
                  intro A3 k hm50 hk1 hC3 hG3 hP3 ka3
                  refine j_ild4 hk dX4_execute_50 rfl rfl ?_
                  refine j_ald4 hk dX4_execute_51 rfl rfl ?_
                  refine j_mget hE hk 19 (by decide) rfl q2633 dX4_execute_52 ?_
                  refine j_top (z2 := ((L.length : Nat) : Int)) (hL.1) ?_
                  refine j_icmp_ge hk (by omega) (by omega) dX4_execute_55 rfl (tgt := 183) (fun h55 => ?_) (fun h55 => ?_)
                  · refine j_mvret hk he dX4_execute_183 (Nat.le_refl _) (Nat.le_refl _) ?_
                    have e : k = L.length := by omega
                    subst e
                    exact ⟨hC3, hG3, ka3, rfl⟩
                  · have lr := hL.2.2 (k) (by omega)
                    obtain ⟨l1, l2, l3⟩ := lr
                    obtain ⟨l4, l5, l6, l7, l8⟩ := hL.ok (i := k) (by omega)
                    have hL3 : laid A3 F L := hL.keep (ka3 13 (by decide)) (ka3 14 (by decide)) (ka3 15 (by decide)) rfl
                    obtain ⟨m1, m2, m3⟩ := hL3.2.2 k (by omega)
                    refine j_ald4 hk dX4_execute_58 rfl rfl ?_
                    refine j_mgetA hE hk 14 (by decide) rfl q2628 dX4_execute_59 ?_
                    refine j_ild4 hk dX4_execute_62 rfl rfl ?_
                    refine j_mald hE hk 14 7 rfl (k) (by omega) (by simp only [mLen]; omega) dX4_execute_63 ?_
                    refine j_top (z2 := ((oT (opAt L k) : Nat) : Int)) (m2) ?_
                    refine j_ist2 hk dX4_execute_64 rfl ?_
                    refine j_ald4 hk dX4_execute_65 rfl rfl ?_
                    refine j_mgetA hE hk 13 (by decide) rfl q2627 dX4_execute_66 ?_
                    refine j_ild4 hk dX4_execute_69 rfl rfl ?_
                    refine j_mald hE hk 13 6 rfl (k) (by omega) (by simp only [mLen]; omega) dX4_execute_70 ?_
                    refine j_top (z2 := ((oK (opAt L k) : Nat) : Int)) (m1) ?_
                    by_cases h71_0 : oK (opAt L k) = 0
                    · refine j_tableEq hk h71_0 dX4_execute_71 (by omega) rfl (tgt := 100) rfl ?_
                      have hc1 := hC3 (oI (opAt L k)) (by omega)
                      have hg1 := hG3 (oT (opAt L k)) (by omega)
                      obtain ⟨c1, c2⟩ := hc1
                      obtain ⟨g1, g2⟩ := hg1
                      refine j_ald4 hk dX4_execute_100 rfl rfl ?_
                      refine j_mgetA hE hk 33 (by decide) rfl q2647 dX4_execute_101 ?_
                      refine j_ild4 hk dX4_execute_104 rfl rfl ?_
                      refine j_ald4 hk dX4_execute_105 rfl rfl ?_
                      refine j_mgetA hE hk 33 (by decide) rfl q2647 dX4_execute_106 ?_
                      refine j_ild4 hk dX4_execute_109 rfl rfl ?_
                      refine j_mald hE hk 33 21 rfl (oT (opAt L k)) (by omega) (by simp only [mLen]; omega) dX4_execute_110 ?_
                      refine j_top (z2 := (((exTo V L k).g (oT (opAt L k)) : Nat) : Int)) (g1) ?_
                      refine j_ald4 hk dX4_execute_111 rfl rfl ?_
                      refine j_mgetA hE hk 32 (by decide) rfl q2646 dX4_execute_112 ?_
                      refine j_ald4 hk dX4_execute_115 rfl rfl ?_
                      refine j_mgetA hE hk 15 (by decide) rfl q2629 dX4_execute_116 ?_
                      refine j_ild4 hk dX4_execute_119 rfl rfl ?_
                      refine j_mald hE hk 15 8 rfl (k) (by omega) (by simp only [mLen]; omega) dX4_execute_120 ?_
                      refine j_top (z2 := ((oI (opAt L k) : Nat) : Int)) (m3) ?_
                      refine j_mald hE hk 32 20 rfl (oI (opAt L k)) (by omega) (by simp only [mLen]; omega) dX4_execute_121 ?_
                      refine j_top (z2 := (((exTo V L k).c (oI (opAt L k)) : Nat) : Int)) (c1) ?_
                      refine j_iadd hk dX4_execute_122 ?_
                      refine j_sipush (n := 1000) hk rfl dX4_execute_123 ?_
                      refine j_irem hk (by omega) dX4_execute_126 ?_
                      refine j_top (z2 := ((((exTo V L k).g (oT (opAt L k)) + (exTo V L k).c (oI (opAt L k))) % 1000 : Nat) : Int)) ((Int.natCast_emod _ _).symm) ?_
                      have es : exTo V L (k + 1) = ((exTo V L k).c, nup (exTo V L k).g (oT (opAt L k)) (((exTo V L k).g (oT (opAt L k)) + (exTo V L k).c (oI (opAt L k))) % 1000), (exTo V L k).p) := by rw [exTo_s, exStep, if_pos h71_0]
                      refine j_mast hE hk hF 33 21 rfl (oT (opAt L k)) (by omega) (by simp only [mLen]; omega) dX4_execute_127 ?_
                      refine j_goto (tgt := 177) hk dX4_execute_128 rfl ?_
                      refine j_iinc1 hk dX4_execute_177 rfl ?_
                      refine j_goto (tgt := 50) hk dX4_execute_180 rfl ?_
                      refine j_forget (i := 2) ?_
                      exact ih50 (mup A3 33 (oT (opAt L k)) ((((exTo V L k).g (oT (opAt L k)) + (exTo V L k).c (oI (opAt L k))) % 1000 : Nat) : Int)) (k + 1) (by omega) (by omega) (by rw [es]; exact hC3) (by rw [es, mup_s]; exact hG3.up (by omega)) (by rw [es]; exact hP3.no (by omega)) (ka3.up (by decide))
                    by_cases h71_1 : oK (opAt L k) = 1
                    · refine j_tableEq hk h71_1 dX4_execute_71 (by omega) rfl (tgt := 131) rfl ?_
                      have hc1 := hC3 (oI (opAt L k)) (by omega)
                      have hg1 := hG3 (oT (opAt L k)) (by omega)
                      obtain ⟨c1, c2⟩ := hc1
                      obtain ⟨g1, g2⟩ := hg1
                      have es : exTo V L (k + 1) = (nup (exTo V L k).c (oI (opAt L k)) ((exTo V L k).g (oT (opAt L k))), (exTo V L k).g, nup (exTo V L k).p k ((exTo V L k).c (oI (opAt L k)))) := by rw [exTo_s, exStep, if_neg (by omega), if_pos h71_1]
                      refine j_ald4 hk dX4_execute_131 rfl rfl ?_
                      refine j_mgetA hE hk 34 (by decide) rfl q2648 dX4_execute_132 ?_
                      refine j_ild4 hk dX4_execute_135 rfl rfl ?_
                      refine j_ald4 hk dX4_execute_136 rfl rfl ?_
                      refine j_mgetA hE hk 32 (by decide) rfl q2646 dX4_execute_137 ?_
                      refine j_ald4 hk dX4_execute_140 rfl rfl ?_
                      refine j_mgetA hE hk 15 (by decide) rfl q2629 dX4_execute_141 ?_
                      refine j_ild4 hk dX4_execute_144 rfl rfl ?_
                      refine j_mald hE hk 15 8 rfl (k) (by omega) (by simp only [mLen]; omega) dX4_execute_145 ?_
                      refine j_top (z2 := ((oI (opAt L k) : Nat) : Int)) (m3) ?_
                      refine j_mald hE hk 32 20 rfl (oI (opAt L k)) (by omega) (by simp only [mLen]; omega) dX4_execute_146 ?_
                      refine j_top (z2 := (((exTo V L k).c (oI (opAt L k)) : Nat) : Int)) (c1) ?_
                      refine j_mast hE hk hF 34 22 rfl (k) (by omega) (by simp only [mLen]; omega) dX4_execute_147 ?_
                      refine j_ald4 hk dX4_execute_148 rfl rfl ?_
                      refine j_mgetA hE hk 32 (by decide) rfl q2646 dX4_execute_149 ?_
                      refine j_ald4 hk dX4_execute_152 rfl rfl ?_
                      refine j_mgetA hE hk 15 (by decide) rfl q2629 dX4_execute_153 ?_
                      refine j_ild4 hk dX4_execute_156 rfl rfl ?_
                      refine j_mald hE hk 15 8 rfl (k) (by omega) (by simp only [mLen]; omega) dX4_execute_157 ?_
                      refine j_top (z2 := ((oI (opAt L k) : Nat) : Int)) (m3) ?_
                      refine j_ald4 hk dX4_execute_158 rfl rfl ?_
                      refine j_mgetA hE hk 33 (by decide) rfl q2647 dX4_execute_159 ?_
                      refine j_ild4 hk dX4_execute_162 rfl rfl ?_
                      refine j_mald hE hk 33 21 rfl (oT (opAt L k)) (by omega) (by simp only [mLen]; omega) dX4_execute_163 ?_
                      refine j_top (z2 := (((exTo V L k).g (oT (opAt L k)) : Nat) : Int)) (g1) ?_
                      refine j_mast hE hk hF 32 20 rfl (oI (opAt L k)) (by omega) (by simp only [mLen]; omega) dX4_execute_164 ?_
                      refine j_goto (tgt := 177) hk dX4_execute_165 rfl ?_
                      refine j_iinc1 hk dX4_execute_177 rfl ?_
                      refine j_goto (tgt := 50) hk dX4_execute_180 rfl ?_
                      refine j_forget (i := 2) ?_
                      exact ih50 (mup (mup A3 34 k (((exTo V L k).c (oI (opAt L k)) : Nat) : Int)) 32 (oI (opAt L k)) (((exTo V L k).g (oT (opAt L k)) : Nat) : Int)) (k + 1) (by omega) (by omega) (by rw [es]; exact hC3.up g2) (by rw [es]; exact hG3) (by rw [es]; exact hP3.up c2) ((ka3.up (by decide)).up (by decide))
                    by_cases h71_2 : oK (opAt L k) = 2
                    · refine j_tableEq hk h71_2 dX4_execute_71 (by omega) rfl (tgt := 177) rfl ?_
                      have es : exTo V L (k + 1) = exTo V L k := by rw [exTo_s, exStep, if_neg (by omega), if_neg (by omega), if_neg (by omega)]
                      refine j_iinc1 hk dX4_execute_177 rfl ?_
                      refine j_goto (tgt := 50) hk dX4_execute_180 rfl ?_
                      refine j_forget (i := 2) ?_
                      exact ih50 A3 (k + 1) (by omega) (by omega) (by rw [es]; exact hC3) (by rw [es]; exact hG3) (by rw [es]; exact hP3.no (by omega)) (ka3)
                    by_cases h71_3 : oK (opAt L k) = 3
                    · refine j_tableEq hk h71_3 dX4_execute_71 (by omega) rfl (tgt := 168) rfl ?_
                      have es : exTo V L (k + 1) = (undTo L (oT (opAt L k)) (exTo V L k).p k (exTo V L k).c, (exTo V L k).g, (exTo V L k).p) := by rw [exTo_s, exStep, if_neg (by omega), if_neg (by omega), if_pos h71_3]
                      refine j_ald4 hk dX4_execute_168 rfl rfl ?_
                      refine j_ild4 hk dX4_execute_169 rfl rfl ?_
                      refine j_ild4 hk dX4_execute_170 rfl rfl ?_
                      refine j_mVv hE hk hl0 hF (mc_undoes hls hE (A := A3) (F := F) (t := oT (opAt L k)) (b := k) (L := L) (C := (exTo V L k).c) (rp := (exTo V L k).p) (hL3) (by omega) (by omega) (hC3) (hP3)) 2 (lw_V q3143 q3145 qs110 q145 q3146) (by decide +kernel) rfl (by decide) (by decide) rfl (Nat.le_of_ble_eq_true rfl) dX4_execute_171 ?_
                      intro Az1 Fz2 hc171
                      obtain ⟨hC_171, ka_171, rfl⟩ := hc171
                      refine j_goto (tgt := 177) hk dX4_execute_174 rfl ?_
                      refine j_iinc1 hk dX4_execute_177 rfl ?_
                      refine j_goto (tgt := 50) hk dX4_execute_180 rfl ?_
                      refine j_forget (i := 2) ?_
                      exact ih50 Az1 (k + 1) (by omega) (by omega) (by rw [es]; exact hC_171) (by rw [es, ka_171 33 (by decide)]; exact hG3) (by rw [es, ka_171 34 (by decide)]; exact hP3.no (by omega)) (ka3.tr ka_171 (by decide))
                    exfalso; omega
              exact loop50 _ A2 0 (Nat.lt_succ_self _) (by omega) (hC2) (fun j h => hG2 j (by omega)) (fun j h => absurd h (Nat.not_lt_zero _)) (ka2)
            · refine j_ald4 hk dX4_execute_35 rfl rfl ?_
              refine j_mgetA hE hk 33 (by decide) rfl q2647 dX4_execute_36 ?_
              refine j_ild4 hk dX4_execute_39 rfl rfl ?_
              refine j_ild4 hk dX4_execute_40 rfl rfl ?_
              refine j_mast hE hk hF 33 21 rfl (t) (by omega) (by simp only [mLen]; omega) dX4_execute_41 ?_
              refine j_iinc1 hk dX4_execute_42 rfl ?_
              refine j_goto (tgt := 30) hk dX4_execute_45 rfl ?_
              exact ih30 (mup A2 33 t ((t : Nat) : Int)) (t + 1) (by omega) (by omega) (hC2) (fun j hj => by
  rw [mup_s]
  by_cases e : j = t
  · subst e; rw [iup_s]; exact ⟨rfl, show j < 1000 by omega⟩
  · rw [iup_n e]; exact hG2 j (by omega)) (ka2.up (by decide))
        exact loop30 _ A1 0 (Nat.lt_succ_self _) (by omega) (fun j h => hC1 j (by omega)) (fun j h => absurd h (Nat.not_lt_zero _)) (ka1)
      · obtain ⟨v1, v2⟩ := hN.2 i (by omega)
        refine j_ald4 hk dX4_execute_7 rfl rfl ?_
        refine j_mgetA hE hk 32 (by decide) rfl q2646 dX4_execute_8 ?_
        refine j_ild4 hk dX4_execute_11 rfl rfl ?_
        refine j_ald4 hk dX4_execute_12 rfl rfl ?_
        refine j_mgetA hE hk 0 (by decide) rfl q2614 dX4_execute_13 ?_
        refine j_bipush (n := 84) hk rfl dX4_execute_16 ?_
        refine j_ild4 hk dX4_execute_18 rfl rfl ?_
        refine j_iadd hk dX4_execute_19 ?_
        refine j_mald hE hk 0 0 rfl (84 + i) (by omega) (by simp only [mLen]; omega) dX4_execute_20 ?_
        refine j_top (z2 := ((V i : Nat) : Int)) (by rw [ka1 0 (by decide)]; exact v1) ?_
        refine j_mast hE hk hF 32 20 rfl (i) (by omega) (by simp only [mLen]; omega) dX4_execute_21 ?_
        refine j_iinc1 hk dX4_execute_22 rfl ?_
        refine j_goto (tgt := 2) hk dX4_execute_25 rfl ?_
        exact ih2 (mup A1 32 i ((V i : Nat) : Int)) (i + 1) (by omega) (by omega) (fun j hj => by
  rw [mup_s]
  by_cases e : j = i
  · subst e; rw [iup_s]; exact ⟨rfl, v2⟩
  · rw [iup_n e]; exact hC1 j (by omega)) (ka1.up (by decide))
  exact loop2 _ A 0 (Nat.lt_succ_self _) (by omega) (fun j h => absurd h (Nat.not_lt_zero _)) (kA.rf)
set_option maxHeartbeats 1500000 in
/-- value(IIZ)I -/
theorem mc_value {l : Launch} {E : jE} {m : Nat} {ad : Nat → Nat} {A : Nat → Nat → Int} {F : Nat → Int} (hls : l.stackTraces = false) (hE : jSt E) {si : Int} {ci : Int} {b : Bool} {g : SS} (hR : mR A F g) (hr : jr si ∧ jr ci) : mC l E yX4_value cX4_value 4 (some .int) 5 105 [.ref m, .int (jI si), .int (jI ci), .int (jI (jB b))] m ad A F (mQi E m ad (fun r A2 F2 => mP (sp_value g si ci b) r A2 F2)) := by
  refine m_start (own := "ScheduleAnalyzerModel") (vs := [some (.ref m), some (.int (jI si)), some (.int (jI ci)), some (.int (jI (jB b)))]) hls (by decide +kernel) rfl rfl rfl (Nat.le_of_ble_eq_true rfl) ?_
  intro K hk he hl0 hF hG0
  refine j_ald4 hk dX4_value_0 rfl rfl ?_
  refine j_ild4 hk dX4_value_1 rfl rfl ?_
  refine j_sSi hk hl0 (sc_isSlot hls (v := si) (hr.1)) 1 (lw_S q2752 q2753 q145 q2754) (by decide +kernel) rfl (by decide) (by decide) rfl (Nat.le_of_ble_eq_true rfl) dX4_value_2 ?_
  refine j_ifneB hk dX4_value_5 rfl (tgt := 12) (fun h5 => ?_) (fun h5 => ?_)
  · refine j_ild4 hk dX4_value_12 rfl rfl ?_
    refine j_sSi hk hl0 (sc_isItem hls (v := ci) (hr.2)) 1 (lw_S q2777 q2778 q145 q2779) (by decide +kernel) rfl (by decide) (by decide) rfl (Nat.le_of_ble_eq_true rfl) dX4_value_13 ?_
    refine j_ifneB hk dX4_value_16 rfl (tgt := 23) (fun h16 => ?_) (fun h16 => ?_)
    · refine j_iconst (n := 0) hk dX4_value_23 ?_
      refine j_mput hE hk hF 4 (by decide) rfl q2618 rfl rfl rfl rfl dX4_value_24 ?_
      refine j_ald4 hk dX4_value_27 rfl rfl ?_
      refine j_mget hE hk 4 (by decide) rfl q2618 dX4_value_28 ?_
      refine j_top (z2 := 0) (iup_s _ _ _) ?_
      refine j_if_le hk (by omega) dX4_value_31 rfl (tgt := 36) (fun _ => ?_) (fun h => absurd h (by omega))
      have q1 := of_decide_eq_true h5
      have q2 := of_decide_eq_true h16
      obtain ⟨s, rfl⟩ : ∃ s : Nat, si = ((s : Nat) : Int) := ⟨si.toNat, by omega⟩
      obtain ⟨c, rfl⟩ : ∃ c : Nat, ci = ((c + 97 : Nat) : Int) := ⟨(ci - 97).toNat, by omega⟩
      have e1 : isSl (s : Int) = true := by simp [isSl]; omega
      have e2 : isIt ((c + 97 : Nat) : Int) = true := by simp [isIt]; omega
      have e3 : (((c + 97 : Nat) : Int) - 97).toNat = c := by omega
      refine j_ald4 hk dX4_value_36 rfl rfl ?_
      refine j_ild4 hk dX4_value_37 rfl rfl ?_
      refine j_ild4 hk dX4_value_38 rfl rfl ?_
      refine j_mVv hE hk hl0 hF (mc_lay hls hE (A := A) (F := (iup F 4 0)) (s := s) (b := b) (S := g.1.1) (V := g.1.2) (hR.1) (by omega)) 2 (lw_V q2889 q2891 qs74 q145 q2892) (by decide +kernel) rfl (by decide) (by decide) rfl (Nat.le_of_ble_eq_true rfl) dX4_value_39 ?_
      intro Az1 Fz2 hc39
      obtain ⟨hL0, hP0, hka0, hkf0⟩ := hc39
      refine j_ald4 hk dX4_value_42 rfl rfl ?_
      refine j_mVv hE hk hl0 hF (mc_execute hls hE (A := Az1) (F := Fz2) (S := g.1.1) (V := g.1.2) (L := layL (g.1.1 s) b) (hR.1.keep (hka0 0 (by decide))) (hL0)) 0 (lw_V q3139 q3141 qs109 q145 q3142) (by decide +kernel) rfl (by decide) (by decide) rfl (Nat.le_of_ble_eq_true rfl) dX4_value_43 ?_
      intro Az3 Fz4 hc43
      obtain ⟨hC_43, hG_43, ka_43, rfl⟩ := hc43
      refine j_ald4 hk dX4_value_46 rfl rfl ?_
      refine j_mgetA hE hk 32 (by decide) rfl q2646 dX4_value_47 ?_
      refine j_ild4 hk dX4_value_50 rfl rfl ?_
      refine j_bipush (n := 97) hk rfl dX4_value_51 ?_
      refine j_isub hk dX4_value_53 ?_
      refine j_top (z2 := ((c : Nat) : Int)) (by omega) ?_
      refine j_mald hE hk 32 20 rfl (c) (by omega) (by simp only [mLen]; omega) dX4_value_54 ?_
      refine j_top (z2 := (((exS g.1.2 (layL (g.1.1 s) b)).c c : Nat) : Int)) ((hC_43 c (by omega)).1) ?_
      refine j_miret hk he rfl dX4_value_55 (Nat.le_refl _) (Nat.le_refl _) ?_
      have e : sp_value g (s : Int) ((c + 97 : Nat) : Int) b = (0, (((exS g.1.2 (layL (g.1.1 s) b)).c c : Nat) : Int), g) := by simp only [sp_value, e1, e2, e3, Int.toNat_natCast, Bool.not_true, Bool.false_eq_true, if_false]
      rw [mP, e]
      exact ⟨rfl, by rw [hkf0 4 (by decide)]; exact iup_s _ _ _, hR.up4.keep ((hka0.wk (by decide) : kA [13, 14, 15, 32, 33, 34] _ _).tr ka_43 (by decide)) hkf0 (by decide) (by decide)⟩
    · refine j_iconst (n := 2) hk dX4_value_19 ?_
      refine j_goto (tgt := 24) hk dX4_value_20 rfl ?_
      refine j_mput hE hk hF 4 (by decide) rfl q2618 rfl rfl rfl rfl dX4_value_24 ?_
      refine j_ald4 hk dX4_value_27 rfl rfl ?_
      refine j_mget hE hk 4 (by decide) rfl q2618 dX4_value_28 ?_
      refine j_top (z2 := 2) (iup_s _ _ _) ?_
      refine j_if_le hk (by omega) dX4_value_31 rfl (tgt := 36) (fun h => absurd h (by omega)) (fun _ => ?_)
      refine j_iconst (n := 0) hk dX4_value_34 ?_
      refine j_miret hk he rfl dX4_value_35 (Nat.le_refl _) (Nat.le_refl _) ?_
      have e : sp_value g si ci b = (2, 0, g) := by simp [sp_value, isSl, isIt, h5, h16]
      rw [mP, e]
      exact ⟨rfl, iup_s _ _ _, hR.up4⟩
  · refine j_iconst (n := 1) hk dX4_value_8 ?_
    refine j_goto (tgt := 24) hk dX4_value_9 rfl ?_
    refine j_mput hE hk hF 4 (by decide) rfl q2618 rfl rfl rfl rfl dX4_value_24 ?_
    refine j_ald4 hk dX4_value_27 rfl rfl ?_
    refine j_mget hE hk 4 (by decide) rfl q2618 dX4_value_28 ?_
    refine j_top (z2 := 1) (iup_s _ _ _) ?_
    refine j_if_le hk (by omega) dX4_value_31 rfl (tgt := 36) (fun h => absurd h (by omega)) (fun _ => ?_)
    refine j_iconst (n := 0) hk dX4_value_34 ?_
    refine j_miret hk he rfl dX4_value_35 (Nat.le_refl _) (Nat.le_refl _) ?_
    have e : sp_value g si ci b = (1, 0, g) := by simp [sp_value, isSl, h5]
    rw [mP, e]
    exact ⟨rfl, iup_s _ _ _, hR.up4⟩
set_option maxHeartbeats 1500000 in
/-- finalValue(IC)I -/
theorem mc_finalValue {l : Launch} {E : jE} {m : Nat} {ad : Nat → Nat} {A : Nat → Nat → Int} {F : Nat → Int} (hls : l.stackTraces = false) (hE : jSt E) {si : Int} {ci : Int} {g : SS} (hR : mR A F g) (hr : jr si ∧ jr ci) : mC l E yX4_finalValue cX4_finalValue 3 (some .int) 6 128 [.ref m, .int (jI si), .int (jI ci)] m ad A F (mQi E m ad (fun r A2 F2 => mP (sp_value g si ci false) r A2 F2)) := by
  refine m_start (own := "ScheduleAnalyzerModel") (vs := [some (.ref m), some (.int (jI si)), some (.int (jI ci))]) hls (by decide +kernel) rfl rfl rfl (Nat.le_of_ble_eq_true rfl) ?_
  intro K hk he hl0 hF hG0
  refine j_ald4 hk dX4_finalValue_0 rfl rfl ?_
  refine j_ild4 hk dX4_finalValue_1 rfl rfl ?_
  refine j_ild4 hk dX4_finalValue_2 rfl rfl ?_
  refine j_iconst (n := 0) hk dX4_finalValue_3 ?_
  refine j_mVi hE hk hl0 hF (mc_value hls hE (A := A) (F := F) (si := si) (ci := ci) (b := false) (hR) (hr)) 3 (lw_V q3135 q3137 qs108 q145 q3138) (by decide +kernel) rfl (by decide) (by decide) rfl (Nat.le_of_ble_eq_true rfl) dX4_finalValue_4 ?_
  intro rz1 Az2 Fz3 hc4
  refine j_miret hk he rfl dX4_finalValue_7 (Nat.le_refl _) (Nat.le_refl _) ?_
  exact hc4
set_option maxHeartbeats 1500000 in
/-- restValue(IC)I -/
theorem mc_restValue {l : Launch} {E : jE} {m : Nat} {ad : Nat → Nat} {A : Nat → Nat → Int} {F : Nat → Int} (hls : l.stackTraces = false) (hE : jSt E) {si : Int} {ci : Int} {g : SS} (hR : mR A F g) (hr : jr si ∧ jr ci) : mC l E yX4_restValue cX4_restValue 3 (some .int) 6 128 [.ref m, .int (jI si), .int (jI ci)] m ad A F (mQi E m ad (fun r A2 F2 => mP (sp_value g si ci true) r A2 F2)) := by
  refine m_start (own := "ScheduleAnalyzerModel") (vs := [some (.ref m), some (.int (jI si)), some (.int (jI ci))]) hls (by decide +kernel) rfl rfl rfl (Nat.le_of_ble_eq_true rfl) ?_
  intro K hk he hl0 hF hG0
  refine j_ald4 hk dX4_restValue_0 rfl rfl ?_
  refine j_ild4 hk dX4_restValue_1 rfl rfl ?_
  refine j_ild4 hk dX4_restValue_2 rfl rfl ?_
  refine j_iconst (n := 1) hk dX4_restValue_3 ?_
  refine j_mVi hE hk hl0 hF (mc_value hls hE (A := A) (F := F) (si := si) (ci := ci) (b := true) (hR) (hr)) 3 (lw_V q3135 q3137 qs108 q145 q3138) (by decide +kernel) rfl (by decide) (by decide) rfl (Nat.le_of_ble_eq_true rfl) dX4_restValue_4 ?_
  intro rz1 Az2 Fz3 hc4
  refine j_miret hk he rfl dX4_restValue_7 (Nat.le_refl _) (Nat.le_refl _) ?_
  exact hc4
set_option maxHeartbeats 1500000 in
/-- registerOf(II)I -/
theorem mc_registerOf {l : Launch} {E : jE} {m : Nat} {ad : Nat → Nat} {A : Nat → Nat → Int} {F : Nat → Int} (hls : l.stackTraces = false) (hE : jSt E) {si : Int} {ti : Int} {g : SS} (hR : mR A F g) (hr : jr si ∧ jr ti) : mC l E yX4_registerOf cX4_registerOf 3 (some .int) 5 105 [.ref m, .int (jI si), .int (jI ti)] m ad A F (mQi E m ad (fun r A2 F2 => mP (sp_registerOf g si ti) r A2 F2)) := by
  refine m_start (own := "ScheduleAnalyzerModel") (vs := [some (.ref m), some (.int (jI si)), some (.int (jI ti))]) hls (by decide +kernel) rfl rfl rfl (Nat.le_of_ble_eq_true rfl) ?_
  intro K hk he hl0 hF hG0
  refine j_ald4 hk dX4_registerOf_0 rfl rfl ?_
  refine j_ild4 hk dX4_registerOf_1 rfl rfl ?_
  refine j_sSi hk hl0 (sc_isSlot hls (v := si) (hr.1)) 1 (lw_S q2752 q2753 q145 q2754) (by decide +kernel) rfl (by decide) (by decide) rfl (Nat.le_of_ble_eq_true rfl) dX4_registerOf_2 ?_
  refine j_ifneB hk dX4_registerOf_5 rfl (tgt := 12) (fun h5 => ?_) (fun h5 => ?_)
  · refine j_ild4 hk dX4_registerOf_12 rfl rfl ?_
    refine j_sSi hk hl0 (sc_isTransaction hls (v := ti) (hr.2)) 1 (lw_S q2774 q2775 q145 q2776) (by decide +kernel) rfl (by decide) (by decide) rfl (Nat.le_of_ble_eq_true rfl) dX4_registerOf_13 ?_
    refine j_ifneB hk dX4_registerOf_16 rfl (tgt := 23) (fun h16 => ?_) (fun h16 => ?_)
    · have q1 := of_decide_eq_true h5
      have q2 := of_decide_eq_true h16
      obtain ⟨s, rfl⟩ : ∃ s : Nat, si = ((s : Nat) : Int) := ⟨si.toNat, by omega⟩
      obtain ⟨t, rfl⟩ : ∃ t : Nat, ti = ((t : Nat) : Int) := ⟨ti.toNat, by omega⟩
      have e1 : isSl (s : Int) = true := by simp [isSl]; omega
      have e2 : isTr (t : Int) = true := by simp [isTr]; omega
      refine j_ald4 hk dX4_registerOf_23 rfl rfl ?_
      refine j_ild4 hk dX4_registerOf_24 rfl rfl ?_
      refine j_ild4 hk dX4_registerOf_25 rfl rfl ?_
      refine j_mVi hE hk hl0 hF (mc_isPresent hls hE (A := A) (F := F) (s := s) (t := t) (S := g.1.1) (V := g.1.2) (hR.1) (by omega) (by omega)) 2 (lw_V q3007 q3009 qs93 q145 q3010) (by decide +kernel) rfl (by decide) (by decide) rfl (Nat.le_of_ble_eq_true rfl) dX4_registerOf_26 ?_
      rintro _ _ _ ⟨rfl, rfl, rfl⟩
      refine j_ifneB hk dX4_registerOf_29 rfl (tgt := 36) (fun h29 => ?_) (fun h29 => ?_)
      · refine j_iconst (n := 0) hk dX4_registerOf_36 ?_
        refine j_mput hE hk hF 4 (by decide) rfl q2618 rfl rfl rfl rfl dX4_registerOf_37 ?_
        refine j_ald4 hk dX4_registerOf_40 rfl rfl ?_
        refine j_mget hE hk 4 (by decide) rfl q2618 dX4_registerOf_41 ?_
        refine j_top (z2 := 0) (iup_s _ _ _) ?_
        refine j_if_le hk (by omega) dX4_registerOf_44 rfl (tgt := 49) (fun _ => ?_) (fun h => absurd h (by omega))
        refine j_ald4 hk dX4_registerOf_49 rfl rfl ?_
        refine j_ild4 hk dX4_registerOf_50 rfl rfl ?_
        refine j_iconst (n := 0) hk dX4_registerOf_51 ?_
        refine j_mVv hE hk hl0 hF (mc_lay hls hE (A := A) (F := (iup F 4 0)) (s := s) (b := false) (S := g.1.1) (V := g.1.2) (hR.1) (by omega)) 2 (lw_V q2889 q2891 qs74 q145 q2892) (by decide +kernel) rfl (by decide) (by decide) rfl (Nat.le_of_ble_eq_true rfl) dX4_registerOf_52 ?_
        intro Az1 Fz2 hc52
        obtain ⟨hL0, hP0, hka0, hkf0⟩ := hc52
        rw [layL_f] at hL0
        refine j_ald4 hk dX4_registerOf_55 rfl rfl ?_
        refine j_mVv hE hk hl0 hF (mc_execute hls hE (A := Az1) (F := Fz2) (S := g.1.1) (V := g.1.2) (L := g.1.1 s) (hR.1.keep (hka0 0 (by decide))) (hL0)) 0 (lw_V q3139 q3141 qs109 q145 q3142) (by decide +kernel) rfl (by decide) (by decide) rfl (Nat.le_of_ble_eq_true rfl) dX4_registerOf_56 ?_
        intro Az3 Fz4 hc56
        obtain ⟨hC_56, hG_56, ka_56, rfl⟩ := hc56
        refine j_ald4 hk dX4_registerOf_59 rfl rfl ?_
        refine j_mgetA hE hk 33 (by decide) rfl q2647 dX4_registerOf_60 ?_
        refine j_ild4 hk dX4_registerOf_63 rfl rfl ?_
        refine j_mald hE hk 33 21 rfl (t) (by omega) (by simp only [mLen]; omega) dX4_registerOf_64 ?_
        refine j_top (z2 := (((exS g.1.2 (g.1.1 s)).g t : Nat) : Int)) ((hG_56 t (by omega)).1) ?_
        refine j_miret hk he rfl dX4_registerOf_65 (Nat.le_refl _) (Nat.le_refl _) ?_
        have e : sp_registerOf g (s : Int) (t : Int) = (0, (((exS g.1.2 (g.1.1 s)).g t : Nat) : Int), g) := by simp only [sp_registerOf, e1, e2, h29, Int.toNat_natCast, Bool.not_true, Bool.false_eq_true, if_false]
        rw [mP, e]
        exact ⟨rfl, by rw [hkf0 4 (by decide)]; exact iup_s _ _ _, hR.up4.keep ((hka0.wk (by decide) : kA [13, 14, 15, 32, 33, 34] _ _).tr ka_56 (by decide)) hkf0 (by decide) (by decide)⟩
      · refine j_iconst (n := 3) hk dX4_registerOf_32 ?_
        refine j_goto (tgt := 37) hk dX4_registerOf_33 rfl ?_
        refine j_mput hE hk hF 4 (by decide) rfl q2618 rfl rfl rfl rfl dX4_registerOf_37 ?_
        refine j_ald4 hk dX4_registerOf_40 rfl rfl ?_
        refine j_mget hE hk 4 (by decide) rfl q2618 dX4_registerOf_41 ?_
        refine j_top (z2 := 3) (iup_s _ _ _) ?_
        refine j_if_le hk (by omega) dX4_registerOf_44 rfl (tgt := 49) (fun h => absurd h (by omega)) (fun _ => ?_)
        refine j_iconst (n := 0) hk dX4_registerOf_47 ?_
        refine j_miret hk he rfl dX4_registerOf_48 (Nat.le_refl _) (Nat.le_refl _) ?_
        have e : sp_registerOf g (s : Int) (t : Int) = (3, 0, g) := by simp [sp_registerOf, e1, e2, h29]
        rw [mP, e]
        exact ⟨rfl, iup_s _ _ _, hR.up4⟩
    · refine j_iconst (n := 2) hk dX4_registerOf_19 ?_
      refine j_goto (tgt := 37) hk dX4_registerOf_20 rfl ?_
      refine j_mput hE hk hF 4 (by decide) rfl q2618 rfl rfl rfl rfl dX4_registerOf_37 ?_
      refine j_ald4 hk dX4_registerOf_40 rfl rfl ?_
      refine j_mget hE hk 4 (by decide) rfl q2618 dX4_registerOf_41 ?_
      refine j_top (z2 := 2) (iup_s _ _ _) ?_
      refine j_if_le hk (by omega) dX4_registerOf_44 rfl (tgt := 49) (fun h => absurd h (by omega)) (fun _ => ?_)
      refine j_iconst (n := 0) hk dX4_registerOf_47 ?_
      refine j_miret hk he rfl dX4_registerOf_48 (Nat.le_refl _) (Nat.le_refl _) ?_
      have e : sp_registerOf g si ti = (2, 0, g) := by simp [sp_registerOf, isSl, isTr, h5, h16]
      rw [mP, e]
      exact ⟨rfl, iup_s _ _ _, hR.up4⟩
  · refine j_iconst (n := 1) hk dX4_registerOf_8 ?_
    refine j_goto (tgt := 37) hk dX4_registerOf_9 rfl ?_
    refine j_mput hE hk hF 4 (by decide) rfl q2618 rfl rfl rfl rfl dX4_registerOf_37 ?_
    refine j_ald4 hk dX4_registerOf_40 rfl rfl ?_
    refine j_mget hE hk 4 (by decide) rfl q2618 dX4_registerOf_41 ?_
    refine j_top (z2 := 1) (iup_s _ _ _) ?_
    refine j_if_le hk (by omega) dX4_registerOf_44 rfl (tgt := 49) (fun h => absurd h (by omega)) (fun _ => ?_)
    refine j_iconst (n := 0) hk dX4_registerOf_47 ?_
    refine j_miret hk he rfl dX4_registerOf_48 (Nat.le_refl _) (Nat.le_refl _) ?_
    have e : sp_registerOf g si ti = (1, 0, g) := by simp [sp_registerOf, isSl, h5]
    rw [mP, e]
    exact ⟨rfl, iup_s _ _ _, hR.up4⟩
