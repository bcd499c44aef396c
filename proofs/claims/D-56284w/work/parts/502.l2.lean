/-! L, 2: lists that are written -/
set_option maxHeartbeats 1500000 in
/-- J17 newLength(III)I -/
theorem fc_J17_newLength {l : Launch} {E : jE} (hls : l.stackTraces = false) (hE : jSt E) (hN : jCn E) {z : jZ} (hzc : zLe (zS E) z) {a : Int} {b : Int} {c : Int} (h : 0 < a + max b c ∧ a + max b c ≤ 2147483639) (h2 : jr a ∧ jr b ∧ jr c) : fC l E yJ17_newLength cJ17_newLength 4 (some .int) 1 40 (0) (0) [.int (jI a), .int (jI b), .int (jI c)] z [] (fun rr z2 W2 => rr = some (.int (jI (a + max b c))) ∧ W2 = [] ∧ z = z2) := by
  refine f_start (own := "jdk/internal/util/ArraysSupport") (vs := [some (.int (jI a)), some (.int (jI b)), some (.int (jI c)), none]) hls (by decide +kernel) rfl rfl rfl (Nat.le_of_ble_eq_true rfl) ?_
  intro K H0 hk he hl0 hI hA
  refine j_ild4 hk dJ17_newLength_0 rfl rfl ?_
  refine j_ild4 hk dJ17_newLength_1 rfl rfl ?_
  refine j_ild4 hk dJ17_newLength_2 rfl rfl ?_
  refine f_mmax hk (⟨h2.2.1, h2.2.2⟩) q484 q485 q136 q486 ⟨by decide, Nat.le_of_ble_eq_true rfl⟩ ⟨by omega, by omega⟩ dJ17_newLength_3 ?_
  refine j_iadd hk dJ17_newLength_6 ?_
  refine j_ist3 hk dJ17_newLength_7 rfl ?_
  refine j_iconst (n := 0) hk dJ17_newLength_8 ?_
  refine j_ild4 hk dJ17_newLength_9 rfl rfl ?_
  refine j_icmp_ge hk (by omega) (by omega) dJ17_newLength_10 rfl (tgt := 21) (fun h10 => by exfalso; omega) (fun h10 => ?_)
  refine j_ild4 hk dJ17_newLength_13 rfl rfl ?_
  refine f_ldcI hk (zi := 2147483639) (by decide) q487 dJ17_newLength_14 ?_
  refine j_icmp_gt hk (by omega) (by omega) dJ17_newLength_16 rfl (tgt := 21) (fun h16 => by exfalso; omega) (fun h16 => ?_)
  refine j_ild4 hk dJ17_newLength_19 rfl rfl ?_
  refine f_iret hk he hA rfl dJ17_newLength_20 (by omega) (by omega) ?_
  exact ⟨rfl, rfl, rfl⟩
set_option maxHeartbeats 1500000 in
/-- J19 copyOf_3([Ljava/lang/Object;ILjava/lang/Class;)[Ljava/lang/Object; -/
theorem fc_J19_copyOf_3 {l : Launch} {E : jE} (hls : l.stackTraces = false) (hE : jSt E) (hN : jCn E) {z : jZ} (hzc : zLe (zS E) z) {q : Nat} {c : Nat} {m : Nat} {n : Nat} {f : Nat → Option Nat} (hq : z (arCell E q n f)) (hm : m = kMir E) (hn : n ≤ c ∧ c < 100) (hel : ∀ i, i < n → ∀ y, f i = some y → okO z y) : fC l E yJ19_copyOf_3 cJ19_copyOf_3 4 (some (.array (.object "java/lang/Object"))) 1 60 (1) (c) [.ref q, .int (jI ((c : Nat) : Int)), .ref m] z [] (fun rr z2 W2 => ∃ q2 : Nat, rr = some (.ref q2) ∧ W2 = [[(q2, .inl (E.2.2 4, c, .inr (.inr (.inr (.inr (va_cpy f (fun _ => none) 0 0 n))))))]] ∧ z = z2) := by
  refine f_start (own := "java/util/Arrays") (vs := [some (.ref q), some (.int (jI ((c : Nat) : Int))), some (.ref m), none]) hls (by decide +kernel) rfl rfl rfl (Nat.le_of_ble_eq_true rfl) ?_
  intro K H0 hk he hl0 hI hA
  subst hm
  refine j_ald4 hk dJ19_copyOf_3_0 rfl rfl ?_
  refine f_ldcM hk hN.mir q773 dJ19_copyOf_3_1 ?_
  refine j_acmp_ne (tgt := 13) hk dJ19_copyOf_3_3 rfl (fun h => absurd rfl h) (fun _ => ?_)
  refine j_ild4 hk dJ19_copyOf_3_6 rfl rfl ?_
  refine f_anew (t := 4) hE hk rfl q775 q774 (c) (by omega) (by omega) ⟨by omega, by omega⟩ dJ19_copyOf_3_7 ?_
  intro ar1
  refine j_goto (tgt := 24) hk dJ19_copyOf_3_10 rfl ?_
  refine j_ast3 hk dJ19_copyOf_3_24 rfl ?_
  refine j_ald4 hk dJ19_copyOf_3_25 rfl rfl ?_
  refine j_iconst (n := 0) hk dJ19_copyOf_3_26 ?_
  refine j_ald4 hk dJ19_copyOf_3_27 rfl rfl ?_
  refine j_iconst (n := 0) hk dJ19_copyOf_3_28 ?_
  refine j_ald4 hk dJ19_copyOf_3_29 rfl rfl ?_
  refine f_alen (n := n) (t := 4) (f := .inr (.inr (.inr (.inr f)))) hE hk rfl (.inl hq) dJ19_copyOf_3_30 ?_
  refine j_ild4 hk dJ19_copyOf_3_31 rfl rfl ?_
  refine f_mmin hk (⟨by omega, by omega⟩) q502 q503 q136 q504 ⟨by decide, Nat.le_of_ble_eq_true rfl⟩ ⟨by omega, by omega⟩ dJ19_copyOf_3_32 ?_
  refine j_top (z2 := ((n : Nat) : Int)) (by omega) ?_
  refine f_copyq (n0 := n) (n1 := c) (f := f) (g := (fun _ => none)) (W2 := [[(ar1, .inl (E.2.2 4, c, .inr (.inr (.inr (.inr (va_cpy f (fun _ => none) 0 0 n))))))]]) hE hk q505 q507 q506 q138 (.inl hq) 0 0 rfl rfl (0) (0) (n) (by omega) (by omega) (by omega) (by omega) (by omega) (by omega) (by omega) (fun i hi y hy => hel i (by omega) y (by rw [Nat.zero_add] at hy; exact hy)) ⟨by decide, Nat.le_of_ble_eq_true rfl⟩ rfl dJ19_copyOf_3_35 ?_
  refine j_ald4 hk dJ19_copyOf_3_38 rfl rfl ?_
  refine f_aret hk he hA (Or.inr ⟨_, rfl⟩) (Or.inr ⟨_, rfl⟩) dJ19_copyOf_3_39 (by omega) (by omega) ?_
  exact ⟨ar1, rfl, rfl, rfl⟩
set_option maxHeartbeats 1500000 in
/-- J19 copyOf_2([Ljava/lang/Object;I)[Ljava/lang/Object; -/
theorem fc_J19_copyOf_2 {l : Launch} {E : jE} (hls : l.stackTraces = false) (hE : jSt E) (hN : jCn E) {z : jZ} (hzc : zLe (zS E) z) {q : Nat} {c : Nat} {n : Nat} {f : Nat → Option Nat} (hq : z (arCell E q n f)) (hn : n ≤ c ∧ c < 100) (hel : ∀ i, i < n → ∀ y, f i = some y → okO z y) : fC l E yJ19_copyOf_2 cJ19_copyOf_2 2 (some (.array (.object "java/lang/Object"))) 2 83 (1) (c) [.ref q, .int (jI ((c : Nat) : Int))] z [] (fun rr z2 W2 => ∃ q2 : Nat, rr = some (.ref q2) ∧ W2 = [[(q2, .inl (E.2.2 4, c, .inr (.inr (.inr (.inr (va_cpy f (fun _ => none) 0 0 n))))))]] ∧ z = z2) := by
  refine f_start (own := "java/util/Arrays") (vs := [some (.ref q), some (.int (jI ((c : Nat) : Int)))]) hls (by decide +kernel) rfl rfl rfl (Nat.le_of_ble_eq_true rfl) ?_
  intro K H0 hk he hl0 hI hA
  refine j_ald4 hk dJ19_copyOf_2_0 rfl rfl ?_
  refine j_ild4 hk dJ19_copyOf_2_1 rfl rfl ?_
  refine j_ald4 hk dJ19_copyOf_2_2 rfl rfl ?_
  refine f_getC (n := n) (f := f) hE hk hN.mir (.inl hq) q738 q3265 q3264 q739 q769 ⟨by decide, Nat.le_of_ble_eq_true rfl⟩ dJ19_copyOf_2_3 ?_
  refine f_callS (Wc := []) (Wr := []) hk hl0 (fc_J19_copyOf_3 hls hE hN (z := z) hzc (q := q) (c := c) (m := kMir E) (n := n) (f := f) (hq) (rfl) (hn) (hel)) (fun _ h => Or.inl h) 3 (lw_S q770 q771 q137 q772) (by decide +kernel) rfl (by decide) (by omega) rfl (Nat.le_of_ble_eq_true rfl) dJ19_copyOf_2_6 ?_
  refine Or.inl ⟨rfl, ?_⟩
  rintro _ _ _ ⟨q21, rfl, rfl, rfl⟩ -
  refine f_W (W2 := [[(q21, .inl (E.2.2 4, c, .inr (.inr (.inr (.inr (va_cpy f (fun _ => none) 0 0 n))))))]]) rfl ?_
  refine f_aret hk he hA (Or.inr ⟨_, rfl⟩) (Or.inr ⟨_, rfl⟩) dJ19_copyOf_2_9 (by omega) (by omega) ?_
  exact ⟨q21, rfl, rfl, rfl⟩
set_option maxHeartbeats 1500000 in
/-- J2 grow_2(I)[Ljava/lang/Object; -/
theorem fc_J2_grow_2 {l : Launch} {E : jE} (hls : l.stackTraces = false) (hE : jSt E) (hN : jCn E) {z : jZ} (hzc : zLe (zS E) z) {a : Nat} {n : Nat} {li : List Nat} {mc : Int} {w0 : va_W} (h : alF E a mc li w0) (hn : n = li.length + 1) (hel : elZ z li) : fC l E yJ2_grow_2 cJ2_grow_2 4 (some (.array (.object "java/lang/Object"))) 3 104 (1) (33) [.ref a, .int (jI ((n : Nat) : Int))] z [w0] (fun rr z2 W2 => ∃ q2 : Nat, ∃ cap2 : Nat, ∃ f2 : Nat → Option Nat, rr = some (.ref q2) ∧ W2 = [[(a, .inr (10, [.int (jI mc), .ref q2, .int (jI ((li.length : Nat) : Int))])), (q2, .inl (E.2.2 4, cap2, .inr (.inr (.inr (.inr f2)))))]] ∧ z = z2 ∧ capOK cap2 ∧ li.length < cap2 ∧ (∀ i, i < cap2 → f2 i = li[i]?)) := by
  refine f_start (own := "java/util/ArrayList") (vs := [some (.ref a), some (.int (jI ((n : Nat) : Int))), none, none]) hls (by decide +kernel) rfl rfl rfl (Nat.le_of_ble_eq_true rfl) ?_
  intro K H0 hk he hl0 hI hA
  rcases h with ⟨rfl, rfl⟩ | ⟨q, f, rfl, hcap, hf⟩
  · have hn : n = 1 := hn
    have hkE := hzc _ hN.empC
    refine j_ald4 hk dJ2_grow_2_0 rfl rfl ?_
    refine f_get hE hk in_J2 (fIn.at 0 0 rfl rfl) (show vwCl[10]? = some (RJ2, TJ2, 3) from rfl) 1 (by decide) q196 (Or.inl rfl) rfl dJ2_grow_2_1 ?_
    refine f_alen (n := 0) (t := 4) (f := .inr (.inr (.inr (.inr (fun _ => none))))) hE hk rfl (.inl hkE) dJ2_grow_2_4 ?_
    refine j_ist2 hk dJ2_grow_2_5 rfl ?_
    refine j_ild4 hk dJ2_grow_2_6 rfl rfl ?_
    refine j_if_gt hk (by omega) dJ2_grow_2_7 rfl (tgt := 20) (fun h7 => by exfalso; omega) (fun h7 => ?_)
    refine j_ald4 hk dJ2_grow_2_10 rfl rfl ?_
    refine f_get hE hk in_J2 (fIn.at 0 0 rfl rfl) (show vwCl[10]? = some (RJ2, TJ2, 3) from rfl) 1 (by decide) q196 (Or.inl rfl) rfl dJ2_grow_2_11 ?_
    refine f_gets hk hN.emp q194 dJ2_grow_2_14 ?_
    refine j_acmp_eq (tgt := 45) hk dJ2_grow_2_17 rfl (fun _ => ?_) (fun h => absurd rfl h)
    refine j_ald4 hk dJ2_grow_2_45 rfl rfl ?_
    refine j_bipush (n := 10) hk rfl dJ2_grow_2_46 ?_
    refine j_ild4 hk dJ2_grow_2_48 rfl rfl ?_
    refine f_mmax hk (⟨by omega, by omega⟩) q776 q485 q136 q486 ⟨by decide, Nat.le_of_ble_eq_true rfl⟩ ⟨by omega, by omega⟩ dJ2_grow_2_49 ?_
    refine j_top (z2 := ((10 : Nat) : Int)) (by omega) ?_
    refine f_anew (t := 4) hE hk rfl q777 q774 (10) (by omega) (by omega) ⟨by omega, by omega⟩ dJ2_grow_2_52 ?_
    intro ar1
    refine j_dup_x1 hk rfl rfl dJ2_grow_2_55 ?_
    refine f_put (fs := [.int (jI mc), .ref (kEmpty E), .int (jI 0)]) (ty := (.array (.object "java/lang/Object"))) (W2 := [[(ar1, .inl (E.2.2 4, 10, .inr (.inr (.inr (.inr (fun _ => none))))))], [(a, .inr (10, [.int (jI mc), .ref ar1, .int (jI 0)]))]]) hE hk in_J2 tyJ2_ok nmJ2 1 0 rfl rfl (show vwCl[10]? = some (RJ2, TJ2, 3) from rfl) 1 (by decide) q196 (Or.inl rfl) (Or.inl rfl) (by decide +kernel) rfl rfl (show 1 < 3 by decide) rfl dJ2_grow_2_56 ?_
    refine f_sel (W2 := [[(a, .inr (10, [.int (jI mc), .ref ar1, .int (jI 0)]))], [(ar1, .inl (E.2.2 4, 10, .inr (.inr (.inr (.inr (fun _ => none))))))]]) [1, 0] rfl rfl ?_
    refine f_glue ?_
    refine f_W (W2 := [[(a, .inr (10, [.int (jI mc), .ref ar1, .int (jI 0)])), (ar1, .inl (E.2.2 4, 10, .inr (.inr (.inr (.inr (fun _ => none))))))]]) rfl ?_
    refine f_aret hk he hA (Or.inr ⟨_, rfl⟩) (Or.inr ⟨_, rfl⟩) dJ2_grow_2_59 (by omega) (by omega) ?_
    exact ⟨ar1, 10, fun _ => none, rfl, rfl, rfl, Or.inl rfl, by simp, fun i _ => by simp⟩
  · refine j_ald4 hk dJ2_grow_2_0 rfl rfl ?_
    refine f_get hE hk in_J2 (fIn.at 0 0 rfl rfl) (show vwCl[10]? = some (RJ2, TJ2, 3) from rfl) 1 (by decide) q196 (Or.inl rfl) rfl dJ2_grow_2_1 ?_
    refine f_alen (n := li.length) (t := 4) (f := .inr (.inr (.inr (.inr f)))) hE hk rfl (fIn.at 0 1 rfl rfl) dJ2_grow_2_4 ?_
    refine j_ist2 hk dJ2_grow_2_5 rfl ?_
    refine j_ild4 hk dJ2_grow_2_6 rfl rfl ?_
    refine j_if_gt hk (by omega) dJ2_grow_2_7 rfl (tgt := 20) (fun h7 => ?_) (fun h7 => by exfalso; omega)
    refine j_ild4 hk dJ2_grow_2_20 rfl rfl ?_
    refine j_ild4 hk dJ2_grow_2_21 rfl rfl ?_
    refine j_ild4 hk dJ2_grow_2_22 rfl rfl ?_
    refine j_isub hk dJ2_grow_2_23 ?_
    refine j_ild4 hk dJ2_grow_2_24 rfl rfl ?_
    refine j_iconst (n := 1) hk dJ2_grow_2_25 ?_
    refine j_ishr (a := li.length) (b := 1) hk (by omega) (by omega) dJ2_grow_2_26 ?_
    refine f_callS (Wc := []) (Wr := [[(a, .inr (10, [.int (jI mc), .ref q, .int (jI ((li.length : Nat) : Int))])), (q, .inl (E.2.2 4, li.length, .inr (.inr (.inr (.inr f)))))]]) hk hl0 (fc_J17_newLength hls hE hN (z := z) hzc (a := ((li.length : Nat) : Int)) (b := ((n : Nat) : Int) - ((li.length : Nat) : Int)) (c := ((li.length >>> 1 : Nat) : Int)) (by rw [Nat.shiftRight_eq_div_pow]; omega) (by rw [Nat.shiftRight_eq_div_pow]; exact ⟨by omega, by omega, by omega⟩)) (fun _ h => Or.inl h) 3 (lw_S q734 q482 q135 q483) (by decide +kernel) rfl (by decide) (by omega) rfl (Nat.le_of_ble_eq_true rfl) dJ2_grow_2_27 ?_
    refine Or.inl ⟨rfl, ?_⟩
    rintro _ _ _ ⟨rfl, rfl, rfl⟩ -
    refine f_W (W2 := [[(a, .inr (10, [.int (jI mc), .ref q, .int (jI ((li.length : Nat) : Int))])), (q, .inl (E.2.2 4, li.length, .inr (.inr (.inr (.inr f)))))]]) rfl ?_
    obtain ⟨c2, hc2, hc3, hc4⟩ : ∃ c2 : Nat, capOK c2 ∧ li.length < c2 ∧ ((li.length : Nat) : Int) + max (((n : Nat) : Int) - ((li.length : Nat) : Int)) ((li.length >>> 1 : Nat) : Int) = ((c2 : Nat) : Int) := by
      refine ⟨li.length + li.length / 2, by unfold capOK; omega, by omega, ?_⟩
      rw [Nat.shiftRight_eq_div_pow]
      omega
    refine j_top (z2 := ((c2 : Nat) : Int)) (hc4) ?_
    have hc2b : c2 ≤ 33 := by unfold capOK at hc2; omega
    refine j_ist3 hk dJ2_grow_2_30 rfl ?_
    refine j_ald4 hk dJ2_grow_2_31 rfl rfl ?_
    refine j_ald4 hk dJ2_grow_2_32 rfl rfl ?_
    refine f_get hE hk in_J2 (fIn.at 0 0 rfl rfl) (show vwCl[10]? = some (RJ2, TJ2, 3) from rfl) 1 (by decide) q196 (Or.inl rfl) rfl dJ2_grow_2_33 ?_
    refine j_ild4 hk dJ2_grow_2_36 rfl rfl ?_
    obtain ⟨zL2, hlL2, hmL2, hbL2⟩ := f_lend z [[(a, .inr (10, [.int (jI mc), .ref q, .int (jI ((li.length : Nat) : Int))])), (q, .inl (E.2.2 4, li.length, .inr (.inr (.inr (.inr f)))))]] [[(a, .inr (10, [.int (jI mc), .ref q, .int (jI ((li.length : Nat) : Int))])), (q, .inl (E.2.2 4, li.length, .inr (.inr (.inr (.inr f)))))]] (by simp)
    refine f_callS (Wc := []) (Wr := [[(a, .inr (10, [.int (jI mc), .ref q, .int (jI ((li.length : Nat) : Int))])), (q, .inl (E.2.2 4, li.length, .inr (.inr (.inr (.inr f)))))]]) hk hl0 (fc_J19_copyOf_2 hls hE hN (z := zL2) (hzc.tr hlL2) (q := q) (c := c2) (n := li.length) (f := f) (hmL2 _ (List.mem_cons_self) _ (List.mem_cons_of_mem _ (List.mem_cons_self))) (⟨by omega, by omega⟩) (fun i hi y hy => (hel y (List.mem_of_getElem? (by rw [← hf i hi]; exact hy))).up hlL2)) (hbL2) 2 (lw_S q735 q736 q137 q737) (by decide +kernel) rfl (by decide) (by omega) rfl (Nat.le_of_ble_eq_true rfl) dJ2_grow_2_37 ?_
    refine Or.inr ?_
    rintro _ _ _ ⟨q23, rfl, rfl, -⟩ -
    refine f_W (W2 := [[(q23, .inl (E.2.2 4, c2, .inr (.inr (.inr (.inr (va_cpy f (fun _ => none) 0 0 li.length))))))], [(a, .inr (10, [.int (jI mc), .ref q, .int (jI ((li.length : Nat) : Int))])), (q, .inl (E.2.2 4, li.length, .inr (.inr (.inr (.inr f)))))]]) rfl ?_
    refine j_dup_x1 hk rfl rfl dJ2_grow_2_40 ?_
    refine f_put (fs := [.int (jI mc), .ref q, .int (jI ((li.length : Nat) : Int))]) (ty := (.array (.object "java/lang/Object"))) (W2 := [[(q23, .inl (E.2.2 4, c2, .inr (.inr (.inr (.inr (va_cpy f (fun _ => none) 0 0 li.length))))))], [(a, .inr (10, [.int (jI mc), .ref q23, .int (jI ((li.length : Nat) : Int))])), (q, .inl (E.2.2 4, li.length, .inr (.inr (.inr (.inr f)))))]]) hE hk in_J2 tyJ2_ok nmJ2 1 0 rfl rfl (show vwCl[10]? = some (RJ2, TJ2, 3) from rfl) 1 (by decide) q196 (Or.inl rfl) (Or.inl rfl) (by decide +kernel) rfl rfl (show 1 < 3 by decide) rfl dJ2_grow_2_41 ?_
    refine f_sel (W2 := [[(a, .inr (10, [.int (jI mc), .ref q23, .int (jI ((li.length : Nat) : Int))])), (q, .inl (E.2.2 4, li.length, .inr (.inr (.inr (.inr f)))))], [(q23, .inl (E.2.2 4, c2, .inr (.inr (.inr (.inr (va_cpy f (fun _ => none) 0 0 li.length))))))]]) [1, 0] rfl rfl ?_
    refine f_W (W2 := ([(a, .inr (10, [.int (jI mc), .ref q23, .int (jI ((li.length : Nat) : Int))]))] ++ [(q, .inl (E.2.2 4, li.length, .inr (.inr (.inr (.inr f)))))]) :: [[(q23, .inl (E.2.2 4, c2, .inr (.inr (.inr (.inr (va_cpy f (fun _ => none) 0 0 li.length))))))]]) rfl ?_
    refine f_cut ?_
    refine f_W (W2 := [[(a, .inr (10, [.int (jI mc), .ref q23, .int (jI ((li.length : Nat) : Int))]))], [(q, .inl (E.2.2 4, li.length, .inr (.inr (.inr (.inr f)))))], [(q23, .inl (E.2.2 4, c2, .inr (.inr (.inr (.inr (va_cpy f (fun _ => none) 0 0 li.length))))))]]) rfl ?_
    refine f_sel (W2 := [[(a, .inr (10, [.int (jI mc), .ref q23, .int (jI ((li.length : Nat) : Int))]))], [(q23, .inl (E.2.2 4, c2, .inr (.inr (.inr (.inr (va_cpy f (fun _ => none) 0 0 li.length))))))]]) [0, 2] rfl rfl ?_
    refine f_glue ?_
    refine f_W (W2 := [[(a, .inr (10, [.int (jI mc), .ref q23, .int (jI ((li.length : Nat) : Int))])), (q23, .inl (E.2.2 4, c2, .inr (.inr (.inr (.inr (va_cpy f (fun _ => none) 0 0 li.length))))))]]) rfl ?_
    refine f_aret hk he hA (Or.inr ⟨_, rfl⟩) (Or.inr ⟨_, rfl⟩) dJ2_grow_2_44 (by omega) (by omega) ?_
    exact ⟨q23, c2, va_cpy f (fun _ => none) 0 0 li.length, rfl, rfl, rfl, hc2, hc3, al_cpy rfl hf⟩
set_option maxHeartbeats 1500000 in
/-- J2 grow()[Ljava/lang/Object; -/
theorem fc_J2_grow {l : Launch} {E : jE} (hls : l.stackTraces = false) (hE : jSt E) (hN : jCn E) {z : jZ} (hzc : zLe (zS E) z) {a : Nat} {li : List Nat} {mc : Int} {w0 : va_W} (h : alF E a mc li w0) (hel : elZ z li) : fC l E yJ2_grow cJ2_grow 1 (some (.array (.object "java/lang/Object"))) 4 127 (1) (33) [.ref a] z [w0] (fun rr z2 W2 => ∃ q2 : Nat, ∃ cap2 : Nat, ∃ f2 : Nat → Option Nat, rr = some (.ref q2) ∧ W2 = [[(a, .inr (10, [.int (jI mc), .ref q2, .int (jI ((li.length : Nat) : Int))])), (q2, .inl (E.2.2 4, cap2, .inr (.inr (.inr (.inr f2)))))]] ∧ z = z2 ∧ capOK cap2 ∧ li.length < cap2 ∧ (∀ i, i < cap2 → f2 i = li[i]?)) := by
  refine f_start (own := "java/util/ArrayList") (vs := [some (.ref a)]) hls (by decide +kernel) rfl rfl rfl (Nat.le_of_ble_eq_true rfl) ?_
  intro K H0 hk he hl0 hI hA
  obtain ⟨q, r, rfl⟩ := h.head
  refine j_ald4 hk dJ2_grow_0 rfl rfl ?_
  refine j_ald4 hk dJ2_grow_1 rfl rfl ?_
  refine f_get hE hk in_J2 (fIn.at 0 0 rfl rfl) (show vwCl[10]? = some (RJ2, TJ2, 3) from rfl) 2 (by decide) q199 (Or.inl rfl) rfl dJ2_grow_2 ?_
  refine j_iconst (n := 1) hk dJ2_grow_5 ?_
  refine j_iadd hk dJ2_grow_6 ?_
  refine f_callV (Wc := [((a, .inr (10, [.int (jI mc), .ref q, .int (jI ((li.length : Nat) : Int))])) :: r)]) (Wr := []) hE hk hl0 (fIn.at 0 0 rfl rfl) (show vwCl[10]? = some (RJ2, TJ2, 3) from rfl) (fc_J2_grow_2 hls hE hN (z := z) hzc (a := a) (n := li.length + 1) (mc := mc) (li := li) (h) (rfl) (hel)) (fun _ h => Or.inl h) 1 (lw_V q730 q732 qs3 q120 q733) (by decide +kernel) rfl (by decide) (by omega) rfl (Nat.le_of_ble_eq_true rfl) dJ2_grow_7 ?_
  refine Or.inl ⟨rfl, ?_⟩
  rintro _ _ _ ⟨q21, cap21, f21, rfl, rfl, rfl, hp1_0, hp1_1, hp1_2⟩ -
  refine f_W (W2 := [[(a, .inr (10, [.int (jI mc), .ref q21, .int (jI ((li.length : Nat) : Int))])), (q21, .inl (E.2.2 4, cap21, .inr (.inr (.inr (.inr f21)))))]]) rfl ?_
  refine f_aret hk he hA (Or.inr ⟨_, rfl⟩) (Or.inr ⟨_, rfl⟩) dJ2_grow_10 (by omega) (by omega) ?_
  exact ⟨_, _, _, rfl, rfl, rfl, hp1_0, hp1_1, hp1_2⟩
