/-! G, 5 -/
/-- one round of going on from what was reached -/
def abP (b : Nat → Nat) (w : Nat) : Nat → Nat → Nat
  | 0, r => r
  | j + 1, r => abP b w j r ||| (if w.testBit j then b j else 0)
def abF (b : Nat → Nat) (n : Nat) : Nat → Nat → Nat → Nat
  | 0, r, _ => r
  | f + 1, r, w => if r = w then r else abF b n f (abP b r n r) r
def abG (b : Nat → Nat) (n i : Nat) : Nat := abF b n 64 (b i) 0
theorem abP_ge {b : Nat → Nat} {w r : Nat} : ∀ j, r ≤ abP b w j r := by
  intro j
  induction j with
  | zero => exact Nat.le_refl _
  | succ j ih => exact Nat.le_trans ih Nat.left_le_or
theorem abP_lt {b : Nat → Nat} (hb : ∀ j, b j < 32) {w r : Nat} (hr : r < 32) : ∀ j, abP b w j r < 32 := by
  intro j
  induction j with
  | zero => exact hr
  | succ j ih =>
    refine Nat.or_lt_two_pow (n := 5) ih ?_
    split
    · exact hb j
    · decide
theorem ac_m {m v : Nat} {c : Bool} (h : m ≤ v) (hc : c = decide (m < v)) : 2 * m + c.toNat ≤ 2 * v := by
  by_cases q : m < v
  · rw [hc, decide_eq_true q]
    show 2 * m + 1 ≤ _
    omega
  · rw [hc, decide_eq_false q]
    show 2 * m + 0 ≤ _
    omega
theorem abF_e {b : Nat → Nat} {n f r : Nat} : abF b n f r r = r := by
  cases f with
  | zero => rfl
  | succ f => exact if_pos rfl
theorem abF_S {b : Nat → Nat} {n f r w : Nat} (h : ¬ r = w) (hf : 0 < f) : abF b n f r w = abF b n (f - 1) (abP b r n r) r := by
  obtain ⟨g, rfl⟩ : ∃ g, f = g + 1 := ⟨f - 1, by omega⟩
  exact if_neg h
/-- one round of leaving out -/
def acP (b : Nat → Nat) : Nat → Nat → Nat
  | 0, l => l
  | i + 1, l => if (acP b i l).testBit i && decide (b i &&& acP b i l = 0) then acP b i l ^^^ 2 ^ i else acP b i l
def acF (b : Nat → Nat) (n : Nat) : Nat → Nat → Nat
  | 0, l => l
  | f + 1, l => if acP b n l = l then l else acF b n f (acP b n l)
def acG (b : Nat → Nat) (n : Nat) : Bool := decide (acF b n 32 (2 ^ n - 1) = 0)
theorem xor_bit : ∀ m : Nat, m < 32 → ∀ i : Nat, i < 5 → m.testBit i = true → m ^^^ 2 ^ i < m := by decide +kernel
theorem abP_S {b : Nat → Nat} {w j r : Nat} : abP b w (j + 1) r = abP b w j r ||| (if w.testBit j then b j else 0) := rfl
theorem acP_S {b : Nat → Nat} {i l : Nat} : acP b (i + 1) l = if (acP b i l).testBit i && decide (b i &&& acP b i l = 0) then acP b i l ^^^ 2 ^ i else acP b i l := rfl
theorem acF_S {b : Nat → Nat} {n f l : Nat} (h : ¬ acP b n l = l) (hf : 0 < f) : acF b n f l = acF b n (f - 1) (acP b n l) := by
  obtain ⟨g, rfl⟩ : ∃ g, f = g + 1 := ⟨f - 1, by omega⟩
  exact if_neg h
theorem acF_e {b : Nat → Nat} {n f l : Nat} (h : acP b n l = l) : acF b n f l = l := by
  cases f with
  | zero => rfl
  | succ f => exact if_pos h
theorem ac_back {b : Nat → Nat} {n f v m : Nat} {c R : Bool} (hvf : v < f) (hme : acP b n v = m) (hml : m ≤ v) (hc : c = decide (m < v)) (hr : decide (acF b n f v = 0) = R) : (c = true → m < f - 1 ∧ decide (acF b n (f - 1) m = 0) = R) ∧ (c = false → decide (m = 0) = R) := by
  refine ⟨fun q => ?_, fun q => ?_⟩
  · rw [hc] at q
    have q := of_decide_eq_true q
    refine ⟨by omega, ?_⟩
    have e : acF b n f v = acF b n (f - 1) (acP b n v) := acF_S (by rw [hme]; omega) (by omega)
    rw [← hr, e, hme]
  · rw [hc] at q
    have q := of_decide_eq_false q
    have e : acP b n v = v := by omega
    rw [← hr, acF_e e]
    congr 1
    simp
    omega
set_option maxHeartbeats 1500000 in
/-- X7 allBefore(I)I -/
theorem fc_X7_allBefore {l : Launch} {E : jE} (hls : l.stackTraces = false) (hE : jSt E) (hN : jCn E) {z : jZ} (hzc : zLe (zS E) z) {a : Nat} {i : Nat} {ns : List Nat} {b : Nat → Nat} (h : grZ E z a ns b) (hi : i < ns.length) : fC l E yX7_allBefore cX7_allBefore 5 (some .int) 3 52 (0) (0) [.ref a, .int (jI ((i : Nat) : Int))] z [] (fun rr z2 W2 => rr = some (.int (jI ((abG b ns.length i : Nat) : Int))) ∧ W2 = [] ∧ z = z2) := by
  refine f_start (own := "ScheduleAnalyzer$Graph") (vs := [some (.ref a), some (.int (jI ((i : Nat) : Int))), none, none, none]) hls (by decide +kernel) rfl rfl rfl (Nat.le_of_ble_eq_true rfl) ?_
  intro K H0 hk he hl0 hI hA
  have h9 := id h
  obtain ⟨ba, hgn, hba, h32⟩ := h9
  obtain ⟨-, -, -, -, h128, hn5, hnd⟩ := id hgn
  have hbi := h32 i
  refine j_ald4 hk dX7_allBefore_0 rfl rfl ?_
  obtain ⟨bag1, hgng1, hbag1, hb32g1⟩ := id h
  obtain ⟨nln2, mnn2, hgn2, hnln2, hnsn2, hn5n2, hnnn2⟩ := id hgn
  have hkln2 : (kIs E ns).length = ns.length := kIs_len
  refine f_get hE hk in_X7 (.inl hgn2) (show vwCl[6]? = some (RX7, TX7, 2) from rfl) 1 (by decide) q1194 (Or.inl rfl) rfl dX7_allBefore_1 ?_
  refine j_ild4 hk dX7_allBefore_4 rfl rfl ?_
  refine f_iald (n := 5) (f := (fun j => ((b j : Nat) : Int))) hE hk (.inl hba) (i) (by omega) (by omega) (by omega) dX7_allBefore_5 ?_
  refine j_ist2 hk dX7_allBefore_6 rfl ?_
  refine j_iconst (n := 0) hk dX7_allBefore_7 ?_
  refine j_ist3 hk dX7_allBefore_8 rfl ?_
  have loop9 : ∀ (fuel9 : Nat) (r : Nat) (w : Nat) (f : Nat), f < fuel9 → r < 32 → w ≤ r → 64 ≤ f + (r + w) → abF b ns.length f r w = abG b ns.length i → jW K (fO K E z z []) (0) (0) 9 [some (.ref a), some (.int (jI ((i : Nat) : Int))), some (.int (jI ((r : Nat) : Int))), some (.int (jI ((w : Nat) : Int))), none] [] := by
    intro fuel9
    induction fuel9 with
    | zero => intro r w f hm; exact absurd hm (Nat.not_lt_zero _)
    | succ fuel9 ih9 =>
      intro r w f hm9 hr hwr hf hab
      refine j_ild4 hk dX7_allBefore_9 rfl rfl ?_
      refine j_ild4 hk dX7_allBefore_10 rfl rfl ?_
      refine j_icmp_eq hk (by omega) (by omega) dX7_allBefore_11 rfl (tgt := 60) (fun h11 => ?_) (fun h11 => ?_)
      · refine j_ild4 hk dX7_allBefore_60 rfl rfl ?_
        refine f_iret hk he hA rfl dX7_allBefore_61 (by omega) (by omega) ?_
        exact ⟨congrArg (fun z => some (Value.int (jI z))) (by rw [← hab, show r = w by omega, abF_e]), rfl, rfl⟩
      · refine j_ild4 hk dX7_allBefore_14 rfl rfl ?_
        refine j_ist3 hk dX7_allBefore_15 rfl ?_
        refine j_iconst (n := 0) hk dX7_allBefore_16 ?_
        refine j_ist4 hk dX7_allBefore_17 rfl ?_
        have loop19 : ∀ (fuel19 : Nat) (j : Nat), ns.length - j < fuel19 → j ≤ ns.length → jW K (fO K E z z []) (0) (0) 19 [some (.ref a), some (.int (jI ((i : Nat) : Int))), some (.int (jI ((abP b r j r : Nat) : Int))), some (.int (jI ((r : Nat) : Int))), some (.int (jI ((j : Nat) : Int)))] [] := by
          intro fuel19
          induction fuel19 with
          | zero => intro j hm; exact absurd hm (Nat.not_lt_zero _)
          | succ fuel19 ih19 =>
            intro j hm19 hjn
            refine j_ild hk dX7_allBefore_19 rfl ?_
            refine j_ald4 hk dX7_allBefore_21 rfl rfl ?_
            refine f_callV (Wc := []) (Wr := []) hE hk hl0 (.inl hgn2) (show vwCl[6]? = some (RX7, TX7, 2) from rfl) (fc_X7_size hls hE hN (z := z) hzc (a := a) (ba := bag1) (ns := ns) (hgng1)) (fun _ h => Or.inl h) 0 (lw_V q1218 q1219 q1220 q151 q1221) (by decide +kernel) rfl (by decide) (by omega) rfl (Nat.le_of_ble_eq_true rfl) dX7_allBefore_22 ?_
            refine Or.inl ⟨rfl, ?_⟩
            rintro _ _ _ ⟨rfl, rfl, rfl⟩ -
            refine f_W (W2 := []) rfl ?_
            refine j_icmp_ge hk (by omega) (by omega) dX7_allBefore_25 rfl (tgt := 57) (fun h25 => ?_) (fun h25 => ?_)
            · refine j_goto (tgt := 9) hk dX7_allBefore_57 rfl ?_
              refine j_forget (i := 4) ?_
              have hjn : j = ns.length := by omega
              subst hjn
              have h11 : ¬ r = w := by omega
              exact ih9 (abP b r ns.length r) r (f - 1) (by omega) (abP_lt h32 hr _) (abP_ge _) (by have := abP_ge (b := b) (w := r) (r := r) ns.length; omega) (by rw [← hab]; exact (abF_S h11 (by omega)).symm)
            · refine j_ild4 hk dX7_allBefore_28 rfl rfl ?_
              refine j_ild hk dX7_allBefore_29 rfl ?_
              refine j_ild4 hk dX7_allBefore_31 rfl rfl ?_
              refine f_callSN (Wc := []) (Wr := []) hE hk hl0 (fc_X1_isIn hls hE hN (z := z) hzc (i := j) (m := r) (by omega) (by omega)) (fun _ h => Or.inl h) 2 q1291 q115 q1289 q1290 (by decide +kernel) rfl (by decide) (by omega) rfl (Nat.le_of_ble_eq_true rfl) dX7_allBefore_32 ?_
              refine Or.inl ⟨rfl, ?_⟩
              rintro _ _ _ ⟨rfl, rfl, rfl⟩ -
              refine f_W (W2 := []) rfl ?_
              refine j_ifeqB hk dX7_allBefore_35 rfl (tgt := 48) (fun h35 => ?_) (fun h35 => ?_)
              · refine j_iconst (n := 0) hk dX7_allBefore_48 ?_
                refine j_ior (a := abP b r j r) (b := 0) hk dX7_allBefore_49 ?_
                refine j_ist2 hk dX7_allBefore_50 rfl ?_
                refine j_loc (i := 2) (z2 := ((abP b r (j + 1) r : Nat) : Int)) rfl (by rw [abP_S]; first | (rw [if_pos h35]) | (rw [if_neg (by rw [h35]; decide)])) ?_
                refine j_iinc4 hk dX7_allBefore_51 rfl ?_
                refine j_goto (tgt := 19) hk dX7_allBefore_54 rfl ?_
                exact ih19 (j + 1) (by omega) (by omega)
              · refine j_ald4 hk dX7_allBefore_38 rfl rfl ?_
                refine f_get hE hk in_X7 (.inl hgn2) (show vwCl[6]? = some (RX7, TX7, 2) from rfl) 1 (by decide) q1194 (Or.inl rfl) rfl dX7_allBefore_39 ?_
                refine j_ild hk dX7_allBefore_42 rfl ?_
                refine f_iald (n := 5) (f := (fun j => ((b j : Nat) : Int))) hE hk (.inl hba) (j) (by omega) (by omega) (by omega) dX7_allBefore_44 ?_
                refine j_goto (tgt := 49) hk dX7_allBefore_45 rfl ?_
                refine j_ior (a := abP b r j r) (b := b j) hk dX7_allBefore_49 ?_
                refine j_ist2 hk dX7_allBefore_50 rfl ?_
                refine j_loc (i := 2) (z2 := ((abP b r (j + 1) r : Nat) : Int)) rfl (by rw [abP_S]; first | (rw [if_pos h35]) | (rw [if_neg (by rw [h35]; decide)])) ?_
                refine j_iinc4 hk dX7_allBefore_51 rfl ?_
                refine j_goto (tgt := 19) hk dX7_allBefore_54 rfl ?_
                exact ih19 (j + 1) (by omega) (by omega)
        exact loop19 _ 0 (Nat.lt_succ_self _) (Nat.zero_le _)
  exact loop9 _ (b i) 0 64 (Nat.lt_succ_self _) (by omega) (Nat.zero_le _) (by omega) (rfl)
set_option maxHeartbeats 1500000 in
/-- X7 isAcyclic()Z -/
theorem fc_X7_isAcyclic {l : Launch} {E : jE} (hls : l.stackTraces = false) (hE : jSt E) (hN : jCn E) {z : jZ} (hzc : zLe (zS E) z) {a : Nat} {ns : List Nat} {b : Nat → Nat} (h : grZ E z a ns b) : fC l E yX7_isAcyclic cX7_isAcyclic 4 (some .boolean) 4 72 (0) (0) [.ref a] z [] (fun rr z2 W2 => rr = some (.int (jI (jB (acG b ns.length)))) ∧ W2 = [] ∧ z = z2) := by
  refine f_start (own := "ScheduleAnalyzer$Graph") (vs := [some (.ref a), none, none, none]) hls (by decide +kernel) rfl rfl rfl (Nat.le_of_ble_eq_true rfl) ?_
  intro K H0 hk he hl0 hI hA
  have h9 := id h
  obtain ⟨ba, hgn, hba, h32⟩ := h9
  obtain ⟨-, -, -, -, h128, hn5, hnd⟩ := id hgn
  refine j_ald4 hk dX7_isAcyclic_0 rfl rfl ?_
  obtain ⟨bag1, hgng1, hbag1, hb32g1⟩ := id h
  obtain ⟨nln2, mnn2, hgn2, hnln2, hnsn2, hn5n2, hnnn2⟩ := id hgn
  have hkln2 : (kIs E ns).length = ns.length := kIs_len
  refine f_callV (Wc := []) (Wr := []) hE hk hl0 (.inl hgn2) (show vwCl[6]? = some (RX7, TX7, 2) from rfl) (fc_X7_all hls hE hN (z := z) hzc (a := a) (ba := bag1) (ns := ns) (hgng1)) (fun _ h => Or.inl h) 0 (lw_V q1285 q1287 qs12 q151 q1288) (by decide +kernel) rfl (by decide) (by omega) rfl (Nat.le_of_ble_eq_true rfl) dX7_isAcyclic_1 ?_
  refine Or.inl ⟨rfl, ?_⟩
  rintro _ _ _ ⟨rfl, rfl, rfl⟩ -
  refine f_W (W2 := []) rfl ?_
  refine j_ist1 hk dX7_isAcyclic_4 rfl ?_
  have hp5 : 2 ^ ns.length - 1 < 32 := by
    have : 2 ^ ns.length ≤ 2 ^ 5 := Nat.pow_le_pow_right (by decide) hn5
    omega
  refine j_iconst (n := 1) hk dX7_isAcyclic_5 ?_
  refine j_ist2 hk dX7_isAcyclic_6 rfl ?_
  have loop7 : ∀ (fuel7 : Nat) (v : Nat) (c : Bool) (f : Nat), 2 * v + c.toNat < fuel7 → v < 32 → ((c = true → v < f ∧ decide (acF b ns.length f v = 0) = acG b ns.length) ∧ (c = false → decide (v = 0) = acG b ns.length)) → jW K (fO K E z z []) (0) (0) 7 [some (.ref a), some (.int (jI ((v : Nat) : Int))), some (.int (jI (jB c))), none] [] := by
    intro fuel7
    induction fuel7 with
    | zero => intro v c f hm; exact absurd hm (Nat.not_lt_zero _)
    | succ fuel7 ih7 =>
      intro v c f hm7 hl hc
      refine j_ild4 hk dX7_isAcyclic_7 rfl rfl ?_
      refine j_ifeqB hk dX7_isAcyclic_8 rfl (tgt := 59) (fun h8 => ?_) (fun h8 => ?_)
      · refine j_ild4 hk dX7_isAcyclic_59 rfl rfl ?_
        refine j_if_ne hk (by omega) dX7_isAcyclic_60 rfl (tgt := 67) (fun h60 => ?_) (fun h60 => ?_)
        · refine j_iconst (n := 0) hk dX7_isAcyclic_67 ?_
          refine f_iret hk he hA rfl dX7_isAcyclic_68 (by omega) (by omega) ?_
          exact ⟨congrArg (fun z => some (Value.int (jI z))) (by rw [← hc.2 h8, decide_eq_false (show ¬ v = 0 by omega)]; rfl), rfl, rfl⟩
        · refine j_iconst (n := 1) hk dX7_isAcyclic_63 ?_
          refine j_goto (tgt := 68) hk dX7_isAcyclic_64 rfl ?_
          refine f_iret hk he hA rfl dX7_isAcyclic_68 (by omega) (by omega) ?_
          exact ⟨congrArg (fun z => some (Value.int (jI z))) (by rw [← hc.2 h8, decide_eq_true (show v = 0 by omega)]; rfl), rfl, rfl⟩
      · have hc1 := hc.1 h8
        refine j_iconst (n := 0) hk dX7_isAcyclic_11 ?_
        refine j_ist2 hk dX7_isAcyclic_12 rfl ?_
        refine j_iconst (n := 0) hk dX7_isAcyclic_13 ?_
        refine j_ist3 hk dX7_isAcyclic_14 rfl ?_
        have loop15 : ∀ (fuel15 : Nat) (i : Nat) (m : Nat) (c2 : Bool), ns.length - i < fuel15 → i ≤ ns.length → m = acP b i v → m ≤ v → c2 = decide (m < v) → jW K (fO K E z z []) (0) (0) 15 [some (.ref a), some (.int (jI ((m : Nat) : Int))), some (.int (jI (jB c2))), some (.int (jI ((i : Nat) : Int)))] [] := by
          intro fuel15
          induction fuel15 with
          | zero => intro i m c2 hm; exact absurd hm (Nat.not_lt_zero _)
          | succ fuel15 ih15 =>
            intro i m c2 hm15 hin hm hml hc2
            refine j_ild4 hk dX7_isAcyclic_15 rfl rfl ?_
            refine j_ald4 hk dX7_isAcyclic_16 rfl rfl ?_
            refine f_callV (Wc := []) (Wr := []) hE hk hl0 (.inl hgn2) (show vwCl[6]? = some (RX7, TX7, 2) from rfl) (fc_X7_size hls hE hN (z := z) hzc (a := a) (ba := bag1) (ns := ns) (hgng1)) (fun _ h => Or.inl h) 0 (lw_V q1218 q1219 q1220 q151 q1221) (by decide +kernel) rfl (by decide) (by omega) rfl (Nat.le_of_ble_eq_true rfl) dX7_isAcyclic_17 ?_
            refine Or.inl ⟨rfl, ?_⟩
            rintro _ _ _ ⟨rfl, rfl, rfl⟩ -
            refine f_W (W2 := []) rfl ?_
            refine j_icmp_ge hk (by omega) (by omega) dX7_isAcyclic_20 rfl (tgt := 56) (fun h20 => ?_) (fun h20 => ?_)
            · have hin2 : i = ns.length := by omega
              have hme : acP b ns.length v = m := by rw [hm, hin2]
              have hmc : c2 = true ↔ m < v := by rw [hc2]; exact ⟨fun q => of_decide_eq_true q, fun q => decide_eq_true q⟩
              have hmf : c2 = false → m = v := fun q => by rw [hc2] at q; have := of_decide_eq_false q; omega
              refine j_goto (tgt := 7) hk dX7_isAcyclic_56 rfl ?_
              refine j_forget (i := 3) ?_
              exact ih7 m c2 (f - 1) (Nat.lt_of_le_of_lt (ac_m hml hc2) (by have e1 : c.toNat = 1 := (by rw [h8]; rfl); omega)) (by omega) (ac_back hc1.1 hme hml hc2 hc1.2)
            · refine j_ild4 hk dX7_isAcyclic_23 rfl rfl ?_
              refine j_ild4 hk dX7_isAcyclic_24 rfl rfl ?_
              refine f_callSN (Wc := []) (Wr := []) hE hk hl0 (fc_X1_isIn hls hE hN (z := z) hzc (i := i) (m := m) (by omega) (by omega)) (fun _ h => Or.inl h) 2 q1291 q115 q1289 q1290 (by decide +kernel) rfl (by decide) (by omega) rfl (Nat.le_of_ble_eq_true rfl) dX7_isAcyclic_25 ?_
              refine Or.inl ⟨rfl, ?_⟩
              rintro _ _ _ ⟨rfl, rfl, rfl⟩ -
              refine f_W (W2 := []) rfl ?_
              refine j_ifeqB hk dX7_isAcyclic_28 rfl (tgt := 50) (fun h28 => ?_) (fun h28 => ?_)
              · refine j_iinc3 hk dX7_isAcyclic_50 rfl ?_
                refine j_goto (tgt := 15) hk dX7_isAcyclic_53 rfl ?_
                exact ih15 (i + 1) m c2 (by omega) (by omega) (by rw [acP_S, ← hm, h28]; rfl) (hml) (hc2)
              · refine j_ald4 hk dX7_isAcyclic_31 rfl rfl ?_
                refine f_get hE hk in_X7 (.inl hgn2) (show vwCl[6]? = some (RX7, TX7, 2) from rfl) 1 (by decide) q1194 (Or.inl rfl) rfl dX7_isAcyclic_32 ?_
                refine j_ild4 hk dX7_isAcyclic_35 rfl rfl ?_
                refine f_iald (n := 5) (f := (fun j => ((b j : Nat) : Int))) hE hk (.inl hba) (i) (by omega) (by omega) (by omega) dX7_isAcyclic_36 ?_
                refine j_ild4 hk dX7_isAcyclic_37 rfl rfl ?_
                refine j_iand (a := b i) (b := m) hk dX7_isAcyclic_38 ?_
                have hand : b i &&& m < 32 := Nat.lt_of_le_of_lt Nat.and_le_left (h32 i)
                refine j_if_ne hk (by omega) dX7_isAcyclic_39 rfl (tgt := 50) (fun h39 => ?_) (fun h39 => ?_)
                · refine j_iinc3 hk dX7_isAcyclic_50 rfl ?_
                  refine j_goto (tgt := 15) hk dX7_isAcyclic_53 rfl ?_
                  exact ih15 (i + 1) m c2 (by omega) (by omega) (by rw [acP_S, ← hm, decide_eq_false (show ¬ b i &&& m = 0 by omega), Bool.and_false]; rfl) (hml) (hc2)
                · have hxb := xor_bit m (by omega) i (by omega) h28
                  refine j_ild4 hk dX7_isAcyclic_42 rfl rfl ?_
                  refine j_iconst (n := 1) hk dX7_isAcyclic_43 ?_
                  refine j_ild4 hk dX7_isAcyclic_44 rfl rfl ?_
                  refine j_ishl (a := 1) (b := i) hk (by omega) dX7_isAcyclic_45 ?_
                  refine j_ixor (a := m) (b := 1 * 2 ^ i) hk dX7_isAcyclic_46 ?_
                  refine j_top (z2 := (((m ^^^ 2 ^ i) : Nat) : Int)) (by rw [Nat.one_mul]) ?_
                  refine j_ist1 hk dX7_isAcyclic_47 rfl ?_
                  refine j_iconst (n := 1) hk dX7_isAcyclic_48 ?_
                  refine j_ist2 hk dX7_isAcyclic_49 rfl ?_
                  refine j_iinc3 hk dX7_isAcyclic_50 rfl ?_
                  refine j_goto (tgt := 15) hk dX7_isAcyclic_53 rfl ?_
                  exact ih15 (i + 1) (m ^^^ 2 ^ i) true (by omega) (by omega) (by rw [acP_S, ← hm, h28, decide_eq_true (show b i &&& m = 0 by omega)]; rfl) (Nat.le_of_lt (by omega)) ((decide_eq_true (by omega)).symm)
        exact loop15 _ 0 v false (Nat.lt_succ_self _) (Nat.zero_le _) (rfl) (Nat.le_refl _) ((decide_eq_false (Nat.lt_irrefl _)).symm)
  exact loop7 _ (2 ^ ns.length - 1) true 32 (Nat.lt_succ_self _) (hp5) (⟨fun _ => ⟨by omega, rfl⟩, fun h => by cases h⟩)
