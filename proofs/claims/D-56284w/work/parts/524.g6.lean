/-! G, 6 -/
/-- orders of a set's nodes, by the last one's place -/
def coI (b c : Nat → Nat) (s : Nat) : Nat → Nat
  | 0 => 0
  | j + 1 => coI b c s j + (if s.testBit j && decide (jandn (b j) (s ^^^ 2 ^ j) = 0) then c (s ^^^ 2 ^ j) else 0)
def coA (b : Nat → Nat) (n : Nat) : Nat → (Nat → Nat)
  | 0 => nup (fun _ => 0) 0 1
  | k + 1 => nup (coA b n k) (k + 1) (coI b (coA b n k) (k + 1) n)
theorem coI_S {b c : Nat → Nat} {s j : Nat} : coI b c s (j + 1) = coI b c s j + (if s.testBit j && decide (jandn (b j) (s ^^^ 2 ^ j) = 0) then c (s ^^^ 2 ^ j) else 0) := rfl
theorem coA_0 {b : Nat → Nat} {n : Nat} : ∀ k j, k < j → coA b n k j = 0 := by
  intro k
  induction k with
  | zero => intro j hj; exact nup_n (by omega)
  | succ k ih => intro j hj; exact (nup_n (by omega)).trans (ih j (by omega))
theorem nup_id {f : Nat → Nat} {k v : Nat} (h : f k = v) : nup f k v = f := by
  funext j
  unfold nup
  split
  · rename_i e; rw [e, h]
  · rfl
theorem nup_2 {f : Nat → Nat} {k v w : Nat} : nup (nup f k v) k w = nup f k w := by
  funext j
  unfold nup
  split <;> rfl
set_option maxHeartbeats 1500000 in
/-- X7 countOrders()I -/
theorem fc_X7_countOrders {l : Launch} {E : jE} (hls : l.stackTraces = false) (hE : jSt E) (hN : jCn E) {z : jZ} (hzc : zLe (zS E) z) {a : Nat} {ns : List Nat} {b : Nat → Nat} (h : grZ E z a ns b) : fC l E yX7_countOrders cX7_countOrders 5 (some .int) 4 72 (1) (32) [.ref a] z [] (fun rr z2 W2 => rr = some (.int (jI ((coA b ns.length (2 ^ ns.length - 1) (2 ^ ns.length - 1) : Nat) : Int))) ∧ W2 = [] ∧ z = z2) := by
  refine f_start (own := "ScheduleAnalyzer$Graph") (vs := [some (.ref a), none, none, none, none]) hls (by decide +kernel) rfl rfl rfl (Nat.le_of_ble_eq_true rfl) ?_
  intro K H0 hk he hl0 hI hA
  have h9 := id h
  obtain ⟨ba, hgn, hba, h32⟩ := h9
  obtain ⟨-, -, -, -, h128, hn5, hnd⟩ := id hgn
  have hp1 := Nat.one_le_two_pow (n := ns.length)
  have hp5 : 2 ^ ns.length ≤ 32 := Nat.le_trans (Nat.pow_le_pow_right (by decide) hn5) (by decide)
  refine j_ald4 hk dX7_countOrders_0 rfl rfl ?_
  obtain ⟨bag1, hgng1, hbag1, hb32g1⟩ := id h
  obtain ⟨nln2, mnn2, hgn2, hnln2, hnsn2, hn5n2, hnnn2⟩ := id hgn
  have hkln2 : (kIs E ns).length = ns.length := kIs_len
  refine f_callV (Wc := []) (Wr := []) hE hk hl0 (.inl hgn2) (show vwCl[6]? = some (RX7, TX7, 2) from rfl) (fc_X7_all hls hE hN (z := z) hzc (a := a) (ba := bag1) (ns := ns) (hgng1)) (fun _ h => Or.inl h) 0 (lw_V q1285 q1287 qs12 q151 q1288) (by decide +kernel) rfl (by decide) (by omega) rfl (Nat.le_of_ble_eq_true rfl) dX7_countOrders_1 ?_
  refine Or.inl ⟨rfl, ?_⟩
  rintro _ _ _ ⟨rfl, rfl, rfl⟩ -
  refine f_W (W2 := []) rfl ?_
  refine j_iconst (n := 1) hk dX7_countOrders_4 ?_
  refine j_iadd hk dX7_countOrders_5 ?_
  refine f_newI hE hk q211 ((2 ^ ns.length - 1) + 1) (by omega) (by omega) ⟨by omega, by omega⟩ dX7_countOrders_6 ?_
  intro ar1
  refine f_W (W2 := [[(ar1, .inl (E.2.2 0, (2 ^ ns.length - 1) + 1, .inl (fun j => jI ((fun _ => 0) j))))]]) rfl ?_
  refine j_ast1 hk dX7_countOrders_8 rfl ?_
  refine j_ald4 hk dX7_countOrders_9 rfl rfl ?_
  refine j_iconst (n := 0) hk dX7_countOrders_10 ?_
  refine j_iconst (n := 1) hk dX7_countOrders_11 ?_
  refine f_iast (n := (2 ^ ns.length - 1) + 1) (f := (fun _ => 0)) (W2 := [[(ar1, .inl (E.2.2 0, (2 ^ ns.length - 1) + 1, .inl (fun j => jI ((iup (fun _ => 0) 0 1) j))))]]) hE hk 0 0 rfl rfl (0) (by omega) (by omega) (by omega) rfl dX7_countOrders_12 ?_
  refine f_W (W2 := [[(ar1, .inl (E.2.2 0, (2 ^ ns.length - 1) + 1, .inl (fun j => jI ((fun j => ((coA b ns.length 0 j : Nat) : Int)) j))))]]) (congrArg (fun f9 => [[(ar1, (Sum.inl (E.2.2 0, (2 ^ ns.length - 1) + 1, Sum.inl f9) : va_E))]]) (funext fun j9 => congrArg jI (by unfold coA; unfold iup nup; dsimp only; split <;> rfl))) ?_
  refine j_iconst (n := 1) hk dX7_countOrders_13 ?_
  refine j_ist2 hk dX7_countOrders_14 rfl ?_
  have loop15 : ∀ (fuel15 : Nat) (k : Nat), 2 ^ ns.length - 1 - k < fuel15 → k ≤ 2 ^ ns.length - 1 → jW K (fO K E z z [[(ar1, .inl (E.2.2 0, (2 ^ ns.length - 1) + 1, .inl (fun j => jI ((fun j => ((coA b ns.length k j : Nat) : Int)) j))))]]) (0 + 1) (0 + ((2 ^ ns.length - 1) + 1)) 15 [some (.ref a), some (.ref ar1), some (.int (jI ((k + 1 : Nat) : Int))), none, none] [] := by
    intro fuel15
    induction fuel15 with
    | zero => intro k hm; exact absurd hm (Nat.not_lt_zero _)
    | succ fuel15 ih15 =>
      intro k hm15 hk2
      refine j_ild4 hk dX7_countOrders_15 rfl rfl ?_
      refine j_ald4 hk dX7_countOrders_16 rfl rfl ?_
      refine f_callV (Wc := []) (Wr := [[(ar1, .inl (E.2.2 0, (2 ^ ns.length - 1) + 1, .inl (fun j => jI ((fun j => ((coA b ns.length k j : Nat) : Int)) j))))]]) hE hk hl0 (.inl hgn2) (show vwCl[6]? = some (RX7, TX7, 2) from rfl) (fc_X7_all hls hE hN (z := z) hzc (a := a) (ba := bag1) (ns := ns) (hgng1)) (fun _ h => Or.inl h) 0 (lw_V q1285 q1287 qs12 q151 q1288) (by decide +kernel) rfl (by decide) (by omega) rfl (Nat.le_of_ble_eq_true rfl) dX7_countOrders_17 ?_
      refine Or.inl ⟨rfl, ?_⟩
      rintro _ _ _ ⟨rfl, rfl, rfl⟩ -
      refine f_W (W2 := [[(ar1, .inl (E.2.2 0, (2 ^ ns.length - 1) + 1, .inl (fun j => jI ((fun j => ((coA b ns.length k j : Nat) : Int)) j))))]]) rfl ?_
      refine j_icmp_gt hk (by omega) (by omega) dX7_countOrders_20 rfl (tgt := 88) (fun h20 => ?_) (fun h20 => ?_)
      · refine j_ald4 hk dX7_countOrders_88 rfl rfl ?_
        refine j_ald4 hk dX7_countOrders_89 rfl rfl ?_
        refine f_callV (Wc := []) (Wr := [[(ar1, .inl (E.2.2 0, (2 ^ ns.length - 1) + 1, .inl (fun j => jI ((fun j => ((coA b ns.length k j : Nat) : Int)) j))))]]) hE hk hl0 (.inl hgn2) (show vwCl[6]? = some (RX7, TX7, 2) from rfl) (fc_X7_all hls hE hN (z := z) hzc (a := a) (ba := bag1) (ns := ns) (hgng1)) (fun _ h => Or.inl h) 0 (lw_V q1285 q1287 qs12 q151 q1288) (by decide +kernel) rfl (by decide) (by omega) rfl (Nat.le_of_ble_eq_true rfl) dX7_countOrders_90 ?_
        refine Or.inl ⟨rfl, ?_⟩
        rintro _ _ _ ⟨rfl, rfl, rfl⟩ -
        refine f_W (W2 := [[(ar1, .inl (E.2.2 0, (2 ^ ns.length - 1) + 1, .inl (fun j => jI ((fun j => ((coA b ns.length k j : Nat) : Int)) j))))]]) rfl ?_
        refine f_iald (n := (2 ^ ns.length - 1) + 1) (f := (fun j => ((coA b ns.length k j : Nat) : Int))) hE hk (fIn.at 0 0 rfl rfl) (2 ^ ns.length - 1) (by omega) (by omega) (by omega) dX7_countOrders_93 ?_
        refine f_sel (W2 := []) [] rfl rfl ?_
        refine f_iret hk he hA rfl dX7_countOrders_94 (by omega) (by omega) ?_
        exact ⟨congrArg (fun z => some (Value.int (jI z))) (by rw [show k = 2 ^ ns.length - 1 by omega]), rfl, rfl⟩
      · refine f_W (W2 := [[(ar1, .inl (E.2.2 0, (2 ^ ns.length - 1) + 1, .inl (fun j => jI ((fun j => ((nup (coA b ns.length k) (k + 1) (coI b (coA b ns.length k) (k + 1) 0) j : Nat) : Int)) j))))]]) (congrArg (fun f9 => [[(ar1, (Sum.inl (E.2.2 0, (2 ^ ns.length - 1) + 1, Sum.inl f9) : va_E))]]) (funext fun j9 => congrArg jI (congrArg _ (congrFun (nup_id (coA_0 k (k + 1) (by omega))).symm j9)))) ?_
        refine j_iconst (n := 0) hk dX7_countOrders_23 ?_
        refine j_ist3 hk dX7_countOrders_24 rfl ?_
        have loop25 : ∀ (fuel25 : Nat) (x : Nat), ns.length - x < fuel25 → x ≤ ns.length → jW K (fO K E z z [[(ar1, .inl (E.2.2 0, (2 ^ ns.length - 1) + 1, .inl (fun j => jI ((fun j => ((nup (coA b ns.length k) (k + 1) (coI b (coA b ns.length k) (k + 1) x) j : Nat) : Int)) j))))]]) (0 + 1) (0 + ((2 ^ ns.length - 1) + 1)) 25 [some (.ref a), some (.ref ar1), some (.int (jI ((k + 1 : Nat) : Int))), some (.int (jI ((x : Nat) : Int))), none] [] := by
          intro fuel25
          induction fuel25 with
          | zero => intro x hm; exact absurd hm (Nat.not_lt_zero _)
          | succ fuel25 ih25 =>
            intro x hm25 hjn
            refine j_ild4 hk dX7_countOrders_25 rfl rfl ?_
            refine j_ald4 hk dX7_countOrders_26 rfl rfl ?_
            refine f_callV (Wc := []) (Wr := [[(ar1, .inl (E.2.2 0, (2 ^ ns.length - 1) + 1, .inl (fun j => jI ((fun j => ((nup (coA b ns.length k) (k + 1) (coI b (coA b ns.length k) (k + 1) x) j : Nat) : Int)) j))))]]) hE hk hl0 (.inl hgn2) (show vwCl[6]? = some (RX7, TX7, 2) from rfl) (fc_X7_size hls hE hN (z := z) hzc (a := a) (ba := bag1) (ns := ns) (hgng1)) (fun _ h => Or.inl h) 0 (lw_V q1218 q1219 q1220 q151 q1221) (by decide +kernel) rfl (by decide) (by omega) rfl (Nat.le_of_ble_eq_true rfl) dX7_countOrders_27 ?_
            refine Or.inl ⟨rfl, ?_⟩
            rintro _ _ _ ⟨rfl, rfl, rfl⟩ -
            refine f_W (W2 := [[(ar1, .inl (E.2.2 0, (2 ^ ns.length - 1) + 1, .inl (fun j => jI ((fun j => ((nup (coA b ns.length k) (k + 1) (coI b (coA b ns.length k) (k + 1) x) j : Nat) : Int)) j))))]]) rfl ?_
            refine j_icmp_ge hk (by omega) (by omega) dX7_countOrders_30 rfl (tgt := 82) (fun h30 => ?_) (fun h30 => ?_)
            · refine j_iinc2 hk dX7_countOrders_82 rfl ?_
              refine j_goto (tgt := 15) hk dX7_countOrders_85 rfl ?_
              refine j_forget (i := 3) ?_
              refine f_W (W2 := [[(ar1, .inl (E.2.2 0, (2 ^ ns.length - 1) + 1, .inl (fun j => jI ((fun j => ((coA b ns.length (k + 1) j : Nat) : Int)) j))))]]) (by first | rfl | (rw [show x = ns.length by omega]; rfl)) ?_
              exact ih15 (k + 1) (by omega) (by omega)
            · refine j_ild4 hk dX7_countOrders_33 rfl rfl ?_
              refine j_iconst (n := 1) hk dX7_countOrders_34 ?_
              refine j_ild4 hk dX7_countOrders_35 rfl rfl ?_
              refine j_ishl (a := 1) (b := x) hk (by omega) dX7_countOrders_36 ?_
              refine j_ixor (a := k + 1) (b := 1 * 2 ^ x) hk dX7_countOrders_37 ?_
              refine j_top (z2 := (((k + 1) ^^^ 2 ^ x : Nat) : Int)) (by rw [Nat.one_mul]) ?_
              refine j_ist4 hk dX7_countOrders_38 rfl ?_
              refine j_ald4 hk dX7_countOrders_40 rfl rfl ?_
              refine j_ild4 hk dX7_countOrders_41 rfl rfl ?_
              refine j_dup2 hk rfl rfl dX7_countOrders_42 ?_
              refine f_iald (n := (2 ^ ns.length - 1) + 1) (f := (fun j => ((nup (coA b ns.length k) (k + 1) (coI b (coA b ns.length k) (k + 1) x) j : Nat) : Int))) hE hk (fIn.at 0 0 rfl rfl) (k + 1) (by omega) (by omega) (by omega) dX7_countOrders_43 ?_
              refine j_ild4 hk dX7_countOrders_44 rfl rfl ?_
              refine j_ild4 hk dX7_countOrders_45 rfl rfl ?_
              refine f_callSN (Wc := []) (Wr := [[(ar1, .inl (E.2.2 0, (2 ^ ns.length - 1) + 1, .inl (fun j => jI ((fun j => ((nup (coA b ns.length k) (k + 1) (coI b (coA b ns.length k) (k + 1) x) j : Nat) : Int)) j))))]]) hE hk hl0 (fc_X1_isIn hls hE hN (z := z) hzc (i := x) (m := k + 1) (by omega) (by omega)) (fun _ h => Or.inl h) 2 q1291 q115 q1289 q1290 (by decide +kernel) rfl (by decide) (by omega) rfl (Nat.le_of_ble_eq_true rfl) dX7_countOrders_46 ?_
              refine Or.inl ⟨rfl, ?_⟩
              rintro _ _ _ ⟨rfl, rfl, rfl⟩ -
              refine f_W (W2 := [[(ar1, .inl (E.2.2 0, (2 ^ ns.length - 1) + 1, .inl (fun j => jI ((fun j => ((nup (coA b ns.length k) (k + 1) (coI b (coA b ns.length k) (k + 1) x) j : Nat) : Int)) j))))]]) rfl ?_
              refine j_ifeqB hk dX7_countOrders_49 rfl (tgt := 73) (fun h49 => ?_) (fun h49 => ?_)
              · refine j_iconst (n := 0) hk dX7_countOrders_73 ?_
                refine j_iadd hk dX7_countOrders_74 ?_
                refine f_iast (n := (2 ^ ns.length - 1) + 1) (f := (fun j => ((nup (coA b ns.length k) (k + 1) (coI b (coA b ns.length k) (k + 1) x) j : Nat) : Int))) (W2 := [[(ar1, .inl (E.2.2 0, (2 ^ ns.length - 1) + 1, .inl (fun j => jI ((iup (fun j => ((nup (coA b ns.length k) (k + 1) (coI b (coA b ns.length k) (k + 1) x) j : Nat) : Int)) (k + 1) (((nup (coA b ns.length k) (k + 1) (coI b (coA b ns.length k) (k + 1) x) (k + 1) : Nat) : Int) + 0)) j))))]]) hE hk 0 0 rfl rfl (k + 1) (by omega) (by omega) (by omega) rfl dX7_countOrders_75 ?_
                refine f_W (W2 := [[(ar1, .inl (E.2.2 0, (2 ^ ns.length - 1) + 1, .inl (fun j => jI ((fun j => ((nup (coA b ns.length k) (k + 1) (coI b (coA b ns.length k) (k + 1) (x + 1)) j : Nat) : Int)) j))))]]) (congrArg (fun f9 => [[(ar1, (Sum.inl (E.2.2 0, (2 ^ ns.length - 1) + 1, Sum.inl f9) : va_E))]]) (funext fun j9 => congrArg jI (by
                  unfold iup
                  dsimp only
                  by_cases e9 : j9 = k + 1
                  · rw [if_pos e9, e9, nup_s, nup_s, coI_S, if_neg (by rw [h49]; simp)]
                    rfl
                  · rw [if_neg e9, nup_n e9, nup_n e9]))) ?_
                refine j_iinc3 hk dX7_countOrders_76 rfl ?_
                refine j_goto (tgt := 25) hk dX7_countOrders_79 rfl ?_
                refine j_forget (i := 4) ?_
                exact ih25 (x + 1) (by omega) (by omega)
              · refine j_ald4 hk dX7_countOrders_52 rfl rfl ?_
                refine f_get hE hk in_X7 (.inl hgn2) (show vwCl[6]? = some (RX7, TX7, 2) from rfl) 1 (by decide) q1194 (Or.inl rfl) rfl dX7_countOrders_53 ?_
                refine j_ild4 hk dX7_countOrders_56 rfl rfl ?_
                refine f_iald (n := 5) (f := (fun j => ((b j : Nat) : Int))) hE hk (.inl hba) (x) (by omega) (by omega) (by omega) dX7_countOrders_57 ?_
                refine j_ild hk dX7_countOrders_58 rfl ?_
                refine j_iconst (n := -1) hk dX7_countOrders_60 ?_
                refine j_inot hk dX7_countOrders_61 ?_
                have hj9 := jan32 (b := (k + 1) ^^^ 2 ^ x) (h32 x)
                refine j_iandn (a := b x) (b := (k + 1) ^^^ 2 ^ x) hk dX7_countOrders_62 ?_
                refine j_if_ne hk (by omega) dX7_countOrders_63 rfl (tgt := 73) (fun h63 => ?_) (fun h63 => ?_)
                · refine j_iconst (n := 0) hk dX7_countOrders_73 ?_
                  refine j_iadd hk dX7_countOrders_74 ?_
                  refine f_iast (n := (2 ^ ns.length - 1) + 1) (f := (fun j => ((nup (coA b ns.length k) (k + 1) (coI b (coA b ns.length k) (k + 1) x) j : Nat) : Int))) (W2 := [[(ar1, .inl (E.2.2 0, (2 ^ ns.length - 1) + 1, .inl (fun j => jI ((iup (fun j => ((nup (coA b ns.length k) (k + 1) (coI b (coA b ns.length k) (k + 1) x) j : Nat) : Int)) (k + 1) (((nup (coA b ns.length k) (k + 1) (coI b (coA b ns.length k) (k + 1) x) (k + 1) : Nat) : Int) + 0)) j))))]]) hE hk 0 0 rfl rfl (k + 1) (by omega) (by omega) (by omega) rfl dX7_countOrders_75 ?_
                  refine f_W (W2 := [[(ar1, .inl (E.2.2 0, (2 ^ ns.length - 1) + 1, .inl (fun j => jI ((fun j => ((nup (coA b ns.length k) (k + 1) (coI b (coA b ns.length k) (k + 1) (x + 1)) j : Nat) : Int)) j))))]]) (congrArg (fun f9 => [[(ar1, (Sum.inl (E.2.2 0, (2 ^ ns.length - 1) + 1, Sum.inl f9) : va_E))]]) (funext fun j9 => congrArg jI (by
                    unfold iup
                    dsimp only
                    by_cases e9 : j9 = k + 1
                    · rw [if_pos e9, e9, nup_s, nup_s, coI_S, if_neg (by rw [decide_eq_false (show ¬ jandn (b x) ((k + 1) ^^^ 2 ^ x) = 0 by omega), Bool.and_false]; decide)]
                      rfl
                    · rw [if_neg e9, nup_n e9, nup_n e9]))) ?_
                  refine j_iinc3 hk dX7_countOrders_76 rfl ?_
                  refine j_goto (tgt := 25) hk dX7_countOrders_79 rfl ?_
                  refine j_forget (i := 4) ?_
                  exact ih25 (x + 1) (by omega) (by omega)
                · have hxb := xor_bit (k + 1) (by omega) x (by omega) h49
                  refine j_ald4 hk dX7_countOrders_66 rfl rfl ?_
                  refine j_ild hk dX7_countOrders_67 rfl ?_
                  refine f_iald (n := (2 ^ ns.length - 1) + 1) (f := (fun j => ((nup (coA b ns.length k) (k + 1) (coI b (coA b ns.length k) (k + 1) x) j : Nat) : Int))) hE hk (fIn.at 0 0 rfl rfl) ((k + 1) ^^^ 2 ^ x) (by omega) (by omega) (by omega) dX7_countOrders_69 ?_
                  refine j_goto (tgt := 74) hk dX7_countOrders_70 rfl ?_
                  refine j_iadd hk dX7_countOrders_74 ?_
                  refine f_iast (n := (2 ^ ns.length - 1) + 1) (f := (fun j => ((nup (coA b ns.length k) (k + 1) (coI b (coA b ns.length k) (k + 1) x) j : Nat) : Int))) (W2 := [[(ar1, .inl (E.2.2 0, (2 ^ ns.length - 1) + 1, .inl (fun j => jI ((iup (fun j => ((nup (coA b ns.length k) (k + 1) (coI b (coA b ns.length k) (k + 1) x) j : Nat) : Int)) (k + 1) (((nup (coA b ns.length k) (k + 1) (coI b (coA b ns.length k) (k + 1) x) (k + 1) : Nat) : Int) + ((nup (coA b ns.length k) (k + 1) (coI b (coA b ns.length k) (k + 1) x) ((k + 1) ^^^ 2 ^ x) : Nat) : Int))) j))))]]) hE hk 0 0 rfl rfl (k + 1) (by omega) (by omega) (by omega) rfl dX7_countOrders_75 ?_
                  refine f_W (W2 := [[(ar1, .inl (E.2.2 0, (2 ^ ns.length - 1) + 1, .inl (fun j => jI ((fun j => ((nup (coA b ns.length k) (k + 1) (coI b (coA b ns.length k) (k + 1) (x + 1)) j : Nat) : Int)) j))))]]) (congrArg (fun f9 => [[(ar1, (Sum.inl (E.2.2 0, (2 ^ ns.length - 1) + 1, Sum.inl f9) : va_E))]]) (funext fun j9 => congrArg jI (by
                    unfold iup
                    dsimp only
                    by_cases e9 : j9 = k + 1
                    · rw [if_pos e9, e9, nup_s, nup_s, coI_S, if_pos (by rw [h49, decide_eq_true (show jandn (b x) ((k + 1) ^^^ 2 ^ x) = 0 by omega)]; rfl)]
                      (rw [nup_n (show (k + 1) ^^^ 2 ^ x ≠ k + 1 by omega)]; rfl)
                    · rw [if_neg e9, nup_n e9, nup_n e9]))) ?_
                  refine j_iinc3 hk dX7_countOrders_76 rfl ?_
                  refine j_goto (tgt := 25) hk dX7_countOrders_79 rfl ?_
                  refine j_forget (i := 4) ?_
                  exact ih25 (x + 1) (by omega) (by omega)
        exact loop25 _ 0 (Nat.lt_succ_self _) (Nat.zero_le _)
  exact loop15 _ 0 (Nat.lt_succ_self _) (Nat.zero_le _)
