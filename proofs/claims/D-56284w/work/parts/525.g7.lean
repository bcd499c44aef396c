/-! G, 7 -/
/-- a sum -/
def sumN (f : Nat → Nat) : Nat → Nat
  | 0 => 0
  | k + 1 => sumN f k + f k
/-- orders behind some placed nodes -/
def cfF (b : Nat → Nat) (n : Nat) : Nat → Nat → Nat
  | 0, p => if p = 2 ^ n - 1 then 1 else 0
  | d + 1, p => (if p = 2 ^ n - 1 then 1 else 0) + sumN (fun i => if cfG b i p then cfF b n d (p ||| 2 ^ i) else 0) n
theorem sumN_S {f : Nat → Nat} {k : Nat} : sumN f (k + 1) = sumN f k + f k := rfl
theorem sumN_0 {f : Nat → Nat} : ∀ {k}, (∀ i, i < k → f i = 0) → sumN f k = 0 := by
  intro k
  induction k with
  | zero => exact fun _ => rfl
  | succ k ih =>
    intro h
    rw [sumN_S, ih (fun i hi => h i (by omega)), h k (by omega)]
/-- how many are not placed -/
def unN (n p : Nat) : Nat := cN (fun j => !p.testBit j) n
theorem cfG_t {b : Nat → Nat} {i p : Nat} (h : cfG b i p = true) : p.testBit i = false := by
  unfold cfG at h
  have := (Bool.and_eq_true_iff.mp h).1
  cases hq : p.testBit i with
  | false => rfl
  | true => rw [hq] at this; cases this
theorem unN_lt {n p i : Nat} (hi : i < n) (h : p.testBit i = false) : unN n (p ||| 2 ^ i) + 1 ≤ unN n p := by
  unfold unN
  refine cN_lt (k := i) (fun j _ hj => ?_) hi ?_ ?_
  · rw [Nat.testBit_or] at hj
    cases hq : p.testBit j with
    | false => rfl
    | true => rw [hq] at hj; cases hj
  · rw [Nat.testBit_or, Nat.testBit_two_pow]
    simp
  · rw [h]; rfl
theorem cfF_0 {b : Nat → Nat} {n p : Nat} (h : unN n p = 0) : sumN (fun i => if cfG b i p then 1 else 0) n = 0 := by
  refine sumN_0 (fun i hi => ?_)
  rw [if_neg]
  intro hc
  have := unN_lt hi (cfG_t hc)
  omega
/-- one level of trying -/
theorem cfF_e {b : Nat → Nat} {n d p : Nat} (h : unN n p ≤ d) : cfF b n d p = (if p = 2 ^ n - 1 then 1 else 0) + sumN (fun i => if cfG b i p then cfF b n (d - 1) (p ||| 2 ^ i) else 0) n := by
  cases d with
  | zero =>
    rw [sumN_0 (fun i hi => ?_)]
    · rfl
    · rw [if_neg]
      intro hc
      have := unN_lt hi (cfG_t hc)
      omega
  | succ d => rfl
set_option maxHeartbeats 1500000 in
/-- X7 countOrdersFrom(I)I -/
theorem fc_X7_countOrdersFrom {l : Launch} {E : jE} (hls : l.stackTraces = false) (hE : jSt E) (hN : jCn E) : ∀ (d : Nat) {z : jZ} (hzc : zLe (zS E) z) {a : Nat} {p : Nat} {ns : List Nat} {b : Nat → Nat} (h : grZ E z a ns b) (hp : p < 32) (hd : unN ns.length p ≤ d), fC l E yX7_countOrdersFrom cX7_countOrdersFrom 4 (some .int) (4 * d + 8) (60 * d + 200) (0) (0) [.ref a, .int (jI ((p : Nat) : Int))] z [] (fun rr z2 W2 => rr = some (.int (jI ((cfF b ns.length d p : Nat) : Int))) ∧ W2 = [] ∧ z = z2) := by
  intro d
  induction d using Nat.strongRecOn with
  | _ d ih =>
    intro z hzc a p ns b h hp hd
    refine f_start (own := "ScheduleAnalyzer$Graph") (vs := [some (.ref a), some (.int (jI ((p : Nat) : Int))), none, none]) hls (by decide +kernel) rfl rfl rfl (Nat.le_of_ble_eq_true rfl) ?_
    intro K H0 hk he hl0 hI hA
    have h9 := id h
    obtain ⟨ba, hgn, hba, h32⟩ := h9
    obtain ⟨-, -, -, -, h128, hn5, hnd⟩ := id hgn
    have hp1 := Nat.one_le_two_pow (n := ns.length)
    have hp5 : 2 ^ ns.length ≤ 32 := Nat.le_trans (Nat.pow_le_pow_right (by decide) hn5) (by decide)
    refine j_ild4 hk dX7_countOrdersFrom_0 rfl rfl ?_
    refine j_ald4 hk dX7_countOrdersFrom_1 rfl rfl ?_
    obtain ⟨bag1, hgng1, hbag1, hb32g1⟩ := id h
    obtain ⟨nln2, mnn2, hgn2, hnln2, hnsn2, hn5n2, hnnn2⟩ := id hgn
    have hkln2 : (kIs E ns).length = ns.length := kIs_len
    refine f_callV (Wc := []) (Wr := []) hE hk hl0 (.inl hgn2) (show vwCl[6]? = some (RX7, TX7, 2) from rfl) (fc_X7_all hls hE hN (z := z) hzc (a := a) (ba := bag1) (ns := ns) (hgng1)) (fun _ h => Or.inl h) 0 (lw_V q1285 q1287 qs12 q151 q1288) (by decide +kernel) rfl (by omega) (by omega) rfl (Nat.le_of_ble_eq_true rfl) dX7_countOrdersFrom_2 ?_
    refine Or.inl ⟨rfl, ?_⟩
    rintro _ _ _ ⟨rfl, rfl, rfl⟩ -
    refine f_W (W2 := []) rfl ?_
    refine j_icmp_ne hk (by omega) (by omega) dX7_countOrdersFrom_5 rfl (tgt := 12) (fun h5 => ?_) (fun h5 => ?_)
    · refine j_iconst (n := 0) hk dX7_countOrdersFrom_12 ?_
      refine j_ist2 hk dX7_countOrdersFrom_13 rfl ?_
      refine j_loc (i := 2) (z2 := (((if p = 2 ^ ns.length - 1 then 1 else 0) + sumN (fun i => if cfG b i p then cfF b ns.length (d - 1) (p ||| 2 ^ i) else 0) 0 : Nat) : Int)) rfl (by first | (rw [if_pos (show p = 2 ^ ns.length - 1 by omega)]; rfl) | (rw [if_neg (show ¬ p = 2 ^ ns.length - 1 by omega)]; rfl)) ?_
      refine j_iconst (n := 0) hk dX7_countOrdersFrom_14 ?_
      refine j_ist3 hk dX7_countOrdersFrom_15 rfl ?_
      have loop16 : ∀ (fuel16 : Nat) (x : Nat), ns.length - x < fuel16 → x ≤ ns.length → jW K (fO K E z z []) (0) (0) 16 [some (.ref a), some (.int (jI ((p : Nat) : Int))), some (.int (jI (((if p = 2 ^ ns.length - 1 then 1 else 0) + sumN (fun i => if cfG b i p then cfF b ns.length (d - 1) (p ||| 2 ^ i) else 0) x : Nat) : Int))), some (.int (jI ((x : Nat) : Int)))] [] := by
        intro fuel16
        induction fuel16 with
        | zero => intro x hm; exact absurd hm (Nat.not_lt_zero _)
        | succ fuel16 ih16 =>
          intro x hm16 hxn
          refine j_ild4 hk dX7_countOrdersFrom_16 rfl rfl ?_
          refine j_ald4 hk dX7_countOrdersFrom_17 rfl rfl ?_
          refine f_callV (Wc := []) (Wr := []) hE hk hl0 (.inl hgn2) (show vwCl[6]? = some (RX7, TX7, 2) from rfl) (fc_X7_size hls hE hN (z := z) hzc (a := a) (ba := bag1) (ns := ns) (hgng1)) (fun _ h => Or.inl h) 0 (lw_V q1218 q1219 q1220 q151 q1221) (by decide +kernel) rfl (by omega) (by omega) rfl (Nat.le_of_ble_eq_true rfl) dX7_countOrdersFrom_18 ?_
          refine Or.inl ⟨rfl, ?_⟩
          rintro _ _ _ ⟨rfl, rfl, rfl⟩ -
          refine f_W (W2 := []) rfl ?_
          refine j_icmp_ge hk (by omega) (by omega) dX7_countOrdersFrom_21 rfl (tgt := 55) (fun h21 => ?_) (fun h21 => ?_)
          · refine j_ild4 hk dX7_countOrdersFrom_55 rfl rfl ?_
            refine f_iret hk he hA rfl dX7_countOrdersFrom_56 (by omega) (by omega) ?_
            exact ⟨congrArg (fun z => some (Value.int (jI z))) (by rw [cfF_e hd, show ns.length = x by omega]), rfl, rfl⟩
          · refine j_ild4 hk dX7_countOrdersFrom_24 rfl rfl ?_
            refine j_ald4 hk dX7_countOrdersFrom_25 rfl rfl ?_
            refine j_ild4 hk dX7_countOrdersFrom_26 rfl rfl ?_
            refine j_ild4 hk dX7_countOrdersFrom_27 rfl rfl ?_
            refine f_callV (Wc := []) (Wr := []) hE hk hl0 (.inl hgn2) (show vwCl[6]? = some (RX7, TX7, 2) from rfl) (fc_X7_canFollow hls hE hN (z := z) hzc (a := a) (i := x) (p := p) (ns := ns) (b := b) (h) (by omega) (hp)) (fun _ h => Or.inl h) 2 (lw_V q1312 q1314 qs14 q151 q1315) (by decide +kernel) rfl (by omega) (by omega) rfl (Nat.le_of_ble_eq_true rfl) dX7_countOrdersFrom_28 ?_
            refine Or.inl ⟨rfl, ?_⟩
            rintro _ _ _ ⟨rfl, rfl, rfl⟩ -
            refine f_W (W2 := []) rfl ?_
            refine j_ifeqB hk dX7_countOrdersFrom_31 rfl (tgt := 46) (fun h31 => ?_) (fun h31 => ?_)
            · refine j_iconst (n := 0) hk dX7_countOrdersFrom_46 ?_
              refine j_iadd hk dX7_countOrdersFrom_47 ?_
              refine j_ist2 hk dX7_countOrdersFrom_48 rfl ?_
              refine j_loc (i := 2) (z2 := (((if p = 2 ^ ns.length - 1 then 1 else 0) + sumN (fun i => if cfG b i p then cfF b ns.length (d - 1) (p ||| 2 ^ i) else 0) (x + 1) : Nat) : Int)) rfl (by rw [sumN_S, if_neg (show ¬ cfG b x p = true by rw [h31]; decide)]; first | rfl | omega) ?_
              refine j_iinc3 hk dX7_countOrdersFrom_49 rfl ?_
              refine j_goto (tgt := 16) hk dX7_countOrdersFrom_52 rfl ?_
              exact ih16 (x + 1) (by omega) (by omega)
            · refine j_ald4 hk dX7_countOrdersFrom_34 rfl rfl ?_
              refine j_ild4 hk dX7_countOrdersFrom_35 rfl rfl ?_
              refine j_iconst (n := 1) hk dX7_countOrdersFrom_36 ?_
              refine j_ild4 hk dX7_countOrdersFrom_37 rfl rfl ?_
              refine j_ishl (a := 1) (b := x) hk (by omega) dX7_countOrdersFrom_38 ?_
              refine j_ior (a := p) (b := 1 * 2 ^ x) hk dX7_countOrdersFrom_39 ?_
              have hun := unN_lt (n := ns.length) (show x < ns.length by omega) (cfG_t h31)
              refine j_top (z2 := (((p ||| 2 ^ x) : Nat) : Int)) (by rw [Nat.one_mul]) ?_
              have hp2 : p ||| 2 ^ x < 32 := Nat.or_lt_two_pow (n := 5) hp (Nat.pow_lt_pow_right (by decide) (by omega))
              refine f_callV (Wc := []) (Wr := []) hE hk hl0 (.inl hgn2) (show vwCl[6]? = some (RX7, TX7, 2) from rfl) (ih (d - 1) (by omega) (z := z) hzc (a := a) (p := (p ||| 2 ^ x)) (ns := ns) (b := b) (h) (hp2) (by omega)) (fun _ h => Or.inl h) 1 (lw_V q1316 q1309 q1310 q151 q1311) (by decide +kernel) rfl (by omega) (by omega) rfl (Nat.le_of_ble_eq_true rfl) dX7_countOrdersFrom_40 ?_
              refine Or.inl ⟨rfl, ?_⟩
              rintro _ _ _ ⟨rfl, rfl, rfl⟩ -
              refine f_W (W2 := []) rfl ?_
              refine j_goto (tgt := 47) hk dX7_countOrdersFrom_43 rfl ?_
              refine j_iadd hk dX7_countOrdersFrom_47 ?_
              refine j_ist2 hk dX7_countOrdersFrom_48 rfl ?_
              refine j_loc (i := 2) (z2 := (((if p = 2 ^ ns.length - 1 then 1 else 0) + sumN (fun i => if cfG b i p then cfF b ns.length (d - 1) (p ||| 2 ^ i) else 0) (x + 1) : Nat) : Int)) rfl (by rw [sumN_S, if_pos h31]; first | rfl | omega) ?_
              refine j_iinc3 hk dX7_countOrdersFrom_49 rfl ?_
              refine j_goto (tgt := 16) hk dX7_countOrdersFrom_52 rfl ?_
              exact ih16 (x + 1) (by omega) (by omega)
      exact loop16 _ 0 (Nat.lt_succ_self _) (Nat.zero_le _)
    · refine j_iconst (n := 1) hk dX7_countOrdersFrom_8 ?_
      refine j_goto (tgt := 13) hk dX7_countOrdersFrom_9 rfl ?_
      refine j_ist2 hk dX7_countOrdersFrom_13 rfl ?_
      refine j_loc (i := 2) (z2 := (((if p = 2 ^ ns.length - 1 then 1 else 0) + sumN (fun i => if cfG b i p then cfF b ns.length (d - 1) (p ||| 2 ^ i) else 0) 0 : Nat) : Int)) rfl (by first | (rw [if_pos (show p = 2 ^ ns.length - 1 by omega)]; rfl) | (rw [if_neg (show ¬ p = 2 ^ ns.length - 1 by omega)]; rfl)) ?_
      refine j_iconst (n := 0) hk dX7_countOrdersFrom_14 ?_
      refine j_ist3 hk dX7_countOrdersFrom_15 rfl ?_
      have loop16 : ∀ (fuel16 : Nat) (x : Nat), ns.length - x < fuel16 → x ≤ ns.length → jW K (fO K E z z []) (0) (0) 16 [some (.ref a), some (.int (jI ((p : Nat) : Int))), some (.int (jI (((if p = 2 ^ ns.length - 1 then 1 else 0) + sumN (fun i => if cfG b i p then cfF b ns.length (d - 1) (p ||| 2 ^ i) else 0) x : Nat) : Int))), some (.int (jI ((x : Nat) : Int)))] [] := by
        intro fuel16
        induction fuel16 with
        | zero => intro x hm; exact absurd hm (Nat.not_lt_zero _)
        | succ fuel16 ih16 =>
          intro x hm16 hxn
          refine j_ild4 hk dX7_countOrdersFrom_16 rfl rfl ?_
          refine j_ald4 hk dX7_countOrdersFrom_17 rfl rfl ?_
          refine f_callV (Wc := []) (Wr := []) hE hk hl0 (.inl hgn2) (show vwCl[6]? = some (RX7, TX7, 2) from rfl) (fc_X7_size hls hE hN (z := z) hzc (a := a) (ba := bag1) (ns := ns) (hgng1)) (fun _ h => Or.inl h) 0 (lw_V q1218 q1219 q1220 q151 q1221) (by decide +kernel) rfl (by omega) (by omega) rfl (Nat.le_of_ble_eq_true rfl) dX7_countOrdersFrom_18 ?_
          refine Or.inl ⟨rfl, ?_⟩
          rintro _ _ _ ⟨rfl, rfl, rfl⟩ -
          refine f_W (W2 := []) rfl ?_
          refine j_icmp_ge hk (by omega) (by omega) dX7_countOrdersFrom_21 rfl (tgt := 55) (fun h21 => ?_) (fun h21 => ?_)
          · refine j_ild4 hk dX7_countOrdersFrom_55 rfl rfl ?_
            refine f_iret hk he hA rfl dX7_countOrdersFrom_56 (by omega) (by omega) ?_
            exact ⟨congrArg (fun z => some (Value.int (jI z))) (by rw [cfF_e hd, show ns.length = x by omega]), rfl, rfl⟩
          · refine j_ild4 hk dX7_countOrdersFrom_24 rfl rfl ?_
            refine j_ald4 hk dX7_countOrdersFrom_25 rfl rfl ?_
            refine j_ild4 hk dX7_countOrdersFrom_26 rfl rfl ?_
            refine j_ild4 hk dX7_countOrdersFrom_27 rfl rfl ?_
            refine f_callV (Wc := []) (Wr := []) hE hk hl0 (.inl hgn2) (show vwCl[6]? = some (RX7, TX7, 2) from rfl) (fc_X7_canFollow hls hE hN (z := z) hzc (a := a) (i := x) (p := p) (ns := ns) (b := b) (h) (by omega) (hp)) (fun _ h => Or.inl h) 2 (lw_V q1312 q1314 qs14 q151 q1315) (by decide +kernel) rfl (by omega) (by omega) rfl (Nat.le_of_ble_eq_true rfl) dX7_countOrdersFrom_28 ?_
            refine Or.inl ⟨rfl, ?_⟩
            rintro _ _ _ ⟨rfl, rfl, rfl⟩ -
            refine f_W (W2 := []) rfl ?_
            refine j_ifeqB hk dX7_countOrdersFrom_31 rfl (tgt := 46) (fun h31 => ?_) (fun h31 => ?_)
            · refine j_iconst (n := 0) hk dX7_countOrdersFrom_46 ?_
              refine j_iadd hk dX7_countOrdersFrom_47 ?_
              refine j_ist2 hk dX7_countOrdersFrom_48 rfl ?_
              refine j_loc (i := 2) (z2 := (((if p = 2 ^ ns.length - 1 then 1 else 0) + sumN (fun i => if cfG b i p then cfF b ns.length (d - 1) (p ||| 2 ^ i) else 0) (x + 1) : Nat) : Int)) rfl (by rw [sumN_S, if_neg (show ¬ cfG b x p = true by rw [h31]; decide)]; first | rfl | omega) ?_
              refine j_iinc3 hk dX7_countOrdersFrom_49 rfl ?_
              refine j_goto (tgt := 16) hk dX7_countOrdersFrom_52 rfl ?_
              exact ih16 (x + 1) (by omega) (by omega)
            · refine j_ald4 hk dX7_countOrdersFrom_34 rfl rfl ?_
              refine j_ild4 hk dX7_countOrdersFrom_35 rfl rfl ?_
              refine j_iconst (n := 1) hk dX7_countOrdersFrom_36 ?_
              refine j_ild4 hk dX7_countOrdersFrom_37 rfl rfl ?_
              refine j_ishl (a := 1) (b := x) hk (by omega) dX7_countOrdersFrom_38 ?_
              refine j_ior (a := p) (b := 1 * 2 ^ x) hk dX7_countOrdersFrom_39 ?_
              have hun := unN_lt (n := ns.length) (show x < ns.length by omega) (cfG_t h31)
              refine j_top (z2 := (((p ||| 2 ^ x) : Nat) : Int)) (by rw [Nat.one_mul]) ?_
              have hp2 : p ||| 2 ^ x < 32 := Nat.or_lt_two_pow (n := 5) hp (Nat.pow_lt_pow_right (by decide) (by omega))
              refine f_callV (Wc := []) (Wr := []) hE hk hl0 (.inl hgn2) (show vwCl[6]? = some (RX7, TX7, 2) from rfl) (ih (d - 1) (by omega) (z := z) hzc (a := a) (p := (p ||| 2 ^ x)) (ns := ns) (b := b) (h) (hp2) (by omega)) (fun _ h => Or.inl h) 1 (lw_V q1316 q1309 q1310 q151 q1311) (by decide +kernel) rfl (by omega) (by omega) rfl (Nat.le_of_ble_eq_true rfl) dX7_countOrdersFrom_40 ?_
              refine Or.inl ⟨rfl, ?_⟩
              rintro _ _ _ ⟨rfl, rfl, rfl⟩ -
              refine f_W (W2 := []) rfl ?_
              refine j_goto (tgt := 47) hk dX7_countOrdersFrom_43 rfl ?_
              refine j_iadd hk dX7_countOrdersFrom_47 ?_
              refine j_ist2 hk dX7_countOrdersFrom_48 rfl ?_
              refine j_loc (i := 2) (z2 := (((if p = 2 ^ ns.length - 1 then 1 else 0) + sumN (fun i => if cfG b i p then cfF b ns.length (d - 1) (p ||| 2 ^ i) else 0) (x + 1) : Nat) : Int)) rfl (by rw [sumN_S, if_pos h31]; first | rfl | omega) ?_
              refine j_iinc3 hk dX7_countOrdersFrom_49 rfl ?_
              refine j_goto (tgt := 16) hk dX7_countOrdersFrom_52 rfl ?_
              exact ih16 (x + 1) (by omega) (by omega)
      exact loop16 _ 0 (Nat.lt_succ_self _) (Nat.zero_le _)
