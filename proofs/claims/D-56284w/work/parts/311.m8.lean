set_option maxHeartbeats 1500000 in
/-- layOrder(I)V -/
theorem mc_layOrder {l : Launch} {E : jE} {m : Nat} {ad : Nat → Nat} {A : Nat → Nat → Int} {F : Nat → Int} (hls : l.stackTraces = false) (hE : jSt E) {s : Nat} {S : Nat → List Op} {V : Nat → Nat} (hN : nowIs (A 0) S V) (hs : s < 4) : mC l E yX4_layOrder cX4_layOrder 4 (none) 5 105 [.ref m, .int (jI ((s : Nat) : Int))] m ad A F (mQv E m ad (fun A2 F2 => laid A2 F2 (restOf (S s)) ∧ F2 20 = ((pmask (restOf (S s)) : Nat) : Int) ∧ (∀ t, t ≤ 5 → A2 16 t = ((aheadM (restOf (S s)) t : Nat) : Int)) ∧ kA [13, 14, 15, 16] A A2 ∧ kF [19, 20] F F2)) := by
  refine m_start (own := "ScheduleAnalyzerModel") (vs := [some (.ref m), some (.int (jI ((s : Nat) : Int))), none, none]) hls (by decide +kernel) rfl rfl rfl (Nat.le_of_ble_eq_true rfl) ?_
  intro K hk he hl0 hF hG0
  refine j_ald4 hk dX4_layOrder_0 rfl rfl ?_
  refine j_ild4 hk dX4_layOrder_1 rfl rfl ?_
  refine j_iconst (n := 1) hk dX4_layOrder_2 ?_
  refine j_mVv hE hk hl0 hF (mc_lay hls hE (A := A) (F := F) (s := s) (b := true) (by first | assumption | omega) (by first | assumption | omega)) 2 (lw_V q2889 q2891 qs74 q145 q2892) (by decide +kernel) rfl (by decide) (by decide) rfl (Nat.le_of_ble_eq_true rfl) dX4_layOrder_3 ?_
  intro Az1 Fz2 hc3
  obtain ⟨hL0, hP0, hka0, hkf0⟩ := hc3
  have hL0 : laid Az1 Fz2 (restOf (S s)) := hL0
  have hP0 : Fz2 20 = ((pmask (restOf (S s)) : Nat) : Int) := hP0
  have hlen := hL0.len
  refine j_iconst (n := 0) hk dX4_layOrder_6 ?_
  refine j_ist2 hk dX4_layOrder_7 rfl ?_
  have loop8 : ∀ (fuel8 : Nat) (A1 : Nat → Nat → Int) (t : Nat), 6 - t < fuel8 → t ≤ 6 → laid A1 Fz2 (restOf (S s)) → kA [13, 14, 15, 16] A A1 → (∀ x, x < t → A1 16 x = 0) → jW K (mAs E m ad A1 Fz2) 0 0 8 [some (.ref m), some (.int (jI ((s : Nat) : Int))), some (.int (jI ((t : Nat) : Int))), none] [] := by
    intro fuel8
    induction fuel8 with
    | zero => intro A1 t hm; exact absurd hm (Nat.not_lt_zero _)
    | succ fuel8 ih8 =>
      intro A1 t hm8 ht hL1 hk1 hz
      refine j_ild4 hk dX4_layOrder_8 rfl rfl ?_
      refine j_iconst (n := 5) hk dX4_layOrder_9 ?_
      refine j_icmp_gt hk (by omega) (by omega) dX4_layOrder_10 rfl (tgt := 26) (fun h10 => ?_) (fun h10 => ?_)
      · refine j_iconst (n := 0) hk dX4_layOrder_26 ?_
        refine j_ist2 hk dX4_layOrder_27 rfl ?_
        have loop28 : ∀ (fuel28 : Nat) (B1 : Nat → Nat → Int) (M1 : Nat → Nat) (i : Nat), (restOf (S s)).length - i < fuel28 → i ≤ (restOf (S s)).length → laid B1 Fz2 (restOf (S s)) → kA [13, 14, 15, 16] A B1 → (∀ x, x ≤ 5 → B1 16 x = ((M1 x : Nat) : Int)) → ahQ (restOf (S s)) i 0 M1 → jW K (mAs E m ad B1 Fz2) 0 0 28 [some (.ref m), some (.int (jI ((s : Nat) : Int))), some (.int (jI ((i : Nat) : Int))), none] [] := by
          intro fuel28
          induction fuel28 with
          | zero => intro B1 M1 i hm; exact absurd hm (Nat.not_lt_zero _)
          | succ fuel28 ih28 =>
            intro B1 M1 i hm28 hi1 hL1b hk1b hM1 hQ1
            refine j_ild4 hk dX4_layOrder_28 rfl rfl ?_
            refine j_ald4 hk dX4_layOrder_29 rfl rfl ?_
            refine j_mget hE hk 19 (by decide) rfl q2633 dX4_layOrder_30 ?_
            refine j_top (z2 := (((restOf (S s)).length : Nat) : Int)) (hL1b.1) ?_
            refine j_icmp_ge hk (by omega) (by omega) dX4_layOrder_33 rfl (tgt := 95) (fun h33 => ?_) (fun h33 => ?_)
            · refine j_mvret hk he dX4_layOrder_95 (Nat.le_refl _) (Nat.le_refl _) ?_
              have e : i = (restOf (S s)).length := by omega
              subst e
              exact ⟨hL1b, hP0, fun t ht => by rw [hM1 t ht, hQ1.fin (fun q hq => (hL1b.ok hq).2.2.1) ht], hk1b, hkf0⟩
            · refine j_ild4 hk dX4_layOrder_36 rfl rfl ?_
              refine j_iconst (n := 1) hk dX4_layOrder_37 ?_
              refine j_iadd hk dX4_layOrder_38 ?_
              refine j_ist3 hk dX4_layOrder_39 rfl ?_
              have loop40 : ∀ (fuel40 : Nat) (B2 : Nat → Nat → Int) (M2 : Nat → Nat) (j : Nat), (restOf (S s)).length - j < fuel40 → i < j → j ≤ (restOf (S s)).length → laid B2 Fz2 (restOf (S s)) → kA [13, 14, 15, 16] A B2 → (∀ x, x ≤ 5 → B2 16 x = ((M2 x : Nat) : Int)) → ahQ (restOf (S s)) i j M2 → jW K (mAs E m ad B2 Fz2) 0 0 40 [some (.ref m), some (.int (jI ((s : Nat) : Int))), some (.int (jI ((i : Nat) : Int))), some (.int (jI ((j : Nat) : Int)))] [] := by
                intro fuel40
                induction fuel40 with
                | zero => intro B2 M2 j hm; exact absurd hm (Nat.not_lt_zero _)
                | succ fuel40 ih40 =>
                  intro B2 M2 j hm40 hij hj1 hL2 hk2b hM2 hQ2
                  refine j_ild4 hk dX4_layOrder_40 rfl rfl ?_
                  refine j_ald4 hk dX4_layOrder_41 rfl rfl ?_
                  refine j_mget hE hk 19 (by decide) rfl q2633 dX4_layOrder_42 ?_
                  refine j_top (z2 := (((restOf (S s)).length : Nat) : Int)) (hL2.1) ?_
                  refine j_icmp_ge hk (by omega) (by omega) dX4_layOrder_45 rfl (tgt := 89) (fun h45 => ?_) (fun h45 => ?_)
                  · refine j_iinc2 hk dX4_layOrder_89 rfl ?_
                    refine j_goto (tgt := 28) hk dX4_layOrder_92 rfl ?_
                    refine j_forget (i := 3) ?_
                    exact ih28 B2 M2 (i + 1) (by omega) (by omega) (hL2) (hk2b) (hM2) (hQ2.cong (fun i2 j2 h1 h2 => by omega))
                  · have hjl : j < (restOf (S s)).length := by omega
                    have hil : i < (restOf (S s)).length := by omega
                    have r1 := hL2.2.2 j hjl
                    have r2 := hL2.2.2 i hil
                    have o1 := (hL2.ok hjl).2.2.1
                    have o2 := (hL2.ok hil).2.2.1
                    refine j_ald4 hk dX4_layOrder_48 rfl rfl ?_
                    refine j_mgetA hE hk 16 (by decide) rfl q2630 dX4_layOrder_49 ?_
                    refine j_ald4 hk dX4_layOrder_52 rfl rfl ?_
                    refine j_mgetA hE hk 14 (by decide) rfl q2628 dX4_layOrder_53 ?_
                    refine j_ild4 hk dX4_layOrder_56 rfl rfl ?_
                    refine j_mald hE hk 14 7 rfl (j) (by omega) (by simp only [mLen]; omega) dX4_layOrder_57 ?_
                    refine j_top (z2 := ((oT (opAt (restOf (S s)) j) : Nat) : Int)) (r1.2.1) ?_
                    refine j_dup2 hk rfl rfl dX4_layOrder_58 ?_
                    refine j_mald hE hk 16 9 rfl (oT (opAt (restOf (S s)) j)) (by omega) (by simp only [mLen]; omega) dX4_layOrder_59 ?_
                    refine j_top (z2 := ((M2 (oT (opAt (restOf (S s)) j)) : Nat) : Int)) (hM2 _ (by omega)) ?_
                    refine j_ald4 hk dX4_layOrder_60 rfl rfl ?_
                    refine j_ild4 hk dX4_layOrder_61 rfl rfl ?_
                    refine j_ild4 hk dX4_layOrder_62 rfl rfl ?_
                    refine j_mVi hE hk hl0 hF (mc_conflict hls hE (A := B2) (F := Fz2) (i := i) (j := j) (L := restOf (S s)) (by first | assumption | omega) (by first | assumption | omega) (by first | assumption | omega)) 2 (lw_V q2901 q2903 qs77 q145 q2904) (by decide +kernel) rfl (by decide) (by decide) rfl (Nat.le_of_ble_eq_true rfl) dX4_layOrder_63 ?_
                    rintro _ _ _ ⟨rfl, rfl, rfl⟩
                    refine j_ifeqB hk dX4_layOrder_66 rfl (tgt := 80) (fun h66 => ?_) (fun h66 => ?_)
                    · refine j_iconst (n := 0) hk dX4_layOrder_80 ?_
                      refine j_ior (a := M2 (oT (opAt (restOf (S s)) j))) (b := 0) hk dX4_layOrder_81 ?_
                      refine j_mast hE hk hF 16 9 rfl (oT (opAt (restOf (S s)) j)) (by omega) (by simp only [mLen]; omega) dX4_layOrder_82 ?_
                      refine j_iinc3 hk dX4_layOrder_83 rfl ?_
                      refine j_goto (tgt := 40) hk dX4_layOrder_86 rfl ?_
                      exact ih40 (mup B2 16 (oT (opAt (restOf (S s)) j)) (((M2 (oT (opAt (restOf (S s)) j))) ||| 0 : Nat) : Int)) _ (j + 1) (by omega) (by omega) (by omega) (hL2.keep rfl rfl rfl rfl) (hk2b.up (by decide)) (fun x hx => by
  rw [mup_s]
  by_cases e : x = oT (opAt (restOf (S s)) j)
  · subst e; rw [iup_s, if_pos rfl, h66]; rfl
  · rw [iup_n e, if_neg e]; exact hM2 x hx) (hQ2.step hij (by omega))
                    · refine j_iconst (n := 1) hk dX4_layOrder_69 ?_
                      refine j_ald4 hk dX4_layOrder_70 rfl rfl ?_
                      refine j_mgetA hE hk 14 (by decide) rfl q2628 dX4_layOrder_71 ?_
                      refine j_ild4 hk dX4_layOrder_74 rfl rfl ?_
                      refine j_mald hE hk 14 7 rfl (i) (by omega) (by simp only [mLen]; omega) dX4_layOrder_75 ?_
                      refine j_top (z2 := ((oT (opAt (restOf (S s)) i) : Nat) : Int)) (r2.2.1) ?_
                      refine j_ishl (a := 1) (b := oT (opAt (restOf (S s)) i)) hk (by omega) dX4_layOrder_76 ?_
                      refine j_goto (tgt := 81) hk dX4_layOrder_77 rfl ?_
                      refine j_ior (a := M2 (oT (opAt (restOf (S s)) j))) (b := 1 * 2 ^ (oT (opAt (restOf (S s)) i))) hk dX4_layOrder_81 ?_
                      refine j_mast hE hk hF 16 9 rfl (oT (opAt (restOf (S s)) j)) (by omega) (by simp only [mLen]; omega) dX4_layOrder_82 ?_
                      refine j_iinc3 hk dX4_layOrder_83 rfl ?_
                      refine j_goto (tgt := 40) hk dX4_layOrder_86 rfl ?_
                      exact ih40 (mup B2 16 (oT (opAt (restOf (S s)) j)) (((M2 (oT (opAt (restOf (S s)) j))) ||| (1 * 2 ^ (oT (opAt (restOf (S s)) i))) : Nat) : Int)) _ (j + 1) (by omega) (by omega) (by omega) (hL2.keep rfl rfl rfl rfl) (hk2b.up (by decide)) (fun x hx => by
  rw [mup_s]
  by_cases e : x = oT (opAt (restOf (S s)) j)
  · subst e; rw [iup_s, if_pos rfl, h66]; rfl
  · rw [iup_n e, if_neg e]; exact hM2 x hx) (hQ2.step hij (by omega))
              exact loop40 _ B1 M1 (i + 1) (Nat.lt_succ_self _) (by omega) (by omega) (hL1b) (hk1b) (hM1) (hQ1.cong (fun i2 j2 h1 h2 => by omega))
        exact loop28 _ A1 (fun _ => 0) 0 (Nat.lt_succ_self _) (by omega) (hL1) (hk1) (fun x h => hz x (by omega)) (ahQ.zero _)
      · refine j_ald4 hk dX4_layOrder_13 rfl rfl ?_
        refine j_mgetA hE hk 16 (by decide) rfl q2630 dX4_layOrder_14 ?_
        refine j_ild4 hk dX4_layOrder_17 rfl rfl ?_
        refine j_iconst (n := 0) hk dX4_layOrder_18 ?_
        refine j_mast hE hk hF 16 9 rfl (t) (by omega) (by simp only [mLen]; omega) dX4_layOrder_19 ?_
        refine j_iinc2 hk dX4_layOrder_20 rfl ?_
        refine j_goto (tgt := 8) hk dX4_layOrder_23 rfl ?_
        exact ih8 (mup A1 16 t 0) (t + 1) (by omega) (by omega) (hL1.keep rfl rfl rfl rfl) (hk1.up (by decide)) (fun x h => by
  rw [mup_s]
  by_cases e : x = t
  · subst e; rw [iup_s]
  · rw [iup_n e]; exact hz x (by omega))
  exact loop8 _ Az1 0 (Nat.lt_succ_self _) (by omega) (hL0) (hka0.wk (by decide)) (fun x h => by omega)
