/-! G, 8 -/
/-- the places that the first order takes, in its order -/
def foI (b : Nat → Nat) (n : Nat) : Nat → Nat → List Nat
  | 0, _ => []
  | f + 1, p => match (List.range n).find? (fun i => cfG b i p) with
    | none => []
    | some i => i :: foI b n f (p ||| 2 ^ i)
def foN (ns : List Nat) (b : Nat → Nat) : List Nat := (foI b ns.length ns.length 0).map (fun i => ns.getD i 0)
theorem foI_t {b : Nat → Nat} {n f p i : Nat} (hf : 0 < f) (hi : i < n) (h : cfG b i p = true) (h0 : ∀ j, j < i → cfG b j p = false) : foI b n f p = i :: foI b n (f - 1) (p ||| 2 ^ i) := by
  obtain ⟨g, rfl⟩ : ∃ g, f = g + 1 := ⟨f - 1, by omega⟩
  have e1 : (List.range n).find? (fun i => cfG b i p) = some i := List.find?_range_eq_some.mpr ⟨h, List.mem_range.mpr hi, fun j hj => by rw [h0 j hj]; rfl⟩
  have e2 : foI b n (g + 1) p = (match (List.range n).find? (fun i => cfG b i p) with
    | none => []
    | some i => i :: foI b n g (p ||| 2 ^ i)) := rfl
  rw [e2, e1]
  rfl
theorem foI_f {b : Nat → Nat} {n f p : Nat} (h0 : ∀ j, j < n → cfG b j p = false) : foI b n f p = [] := by
  cases f with
  | zero => rfl
  | succ f =>
    unfold foI
    have : (List.range n).find? (fun i => cfG b i p) = none := by
      rw [List.find?_eq_none]
      intro i hi
      rw [h0 i (List.mem_range.mp hi)]
      decide
    rw [this]
theorem unN_0 {n : Nat} : unN n 0 = n := by
  unfold unN
  have : ∀ k, cN (fun j => !(0 : Nat).testBit j) k = k := by
    intro k
    induction k with
    | zero => rfl
    | succ k ih => rw [cN_S, ih]; simp
  exact this n
def mpN (ns l : List Nat) : List Nat := l.map (fun i => ns.getD i 0)
theorem mpN_1 {ns l : List Nat} {i : Nat} : mpN ns (l ++ [i]) = mpN ns l ++ [ns.getD i 0] := List.map_append
set_option maxHeartbeats 1500000 in
/-- X7 firstOrder()Ljava/util/List; -/
theorem fc_X7_firstOrder {l : Launch} {E : jE} (hls : l.stackTraces = false) (hE : jSt E) (hN : jCn E) {z : jZ} (hzc : zLe (zS E) z) {a : Nat} {ns : List Nat} {b : Nat → Nat} (h : grZ E z a ns b) : fC l E yX7_firstOrder cX7_firstOrder 4 (some (.object "java/util/List")) 7 191 (6) (170) [.ref a] z [] (fun rr z2 W2 => ∃ q : Nat, ∃ mq : Int, ∃ w1 : va_W, rr = some (.ref q) ∧ W2 = [w1] ∧ z = z2 ∧ alW E q mq (kIs E (foN ns b)) w1) := by
  refine f_start (own := "ScheduleAnalyzer$Graph") (vs := [some (.ref a), none, none, none]) hls (by decide +kernel) rfl rfl rfl (Nat.le_of_ble_eq_true rfl) ?_
  intro K H0 hk he hl0 hI hA
  have h9 := id h
  obtain ⟨ba, hgn, hba, h32⟩ := h9
  obtain ⟨-, -, -, -, h128, hn5, hnd⟩ := id hgn
  refine f_new (fs := [.int (jI 0), .null, .int (jI 0)]) hE hk in_J2 tyJ2 tyJ2_ok q949 q183 q120 (show vwCl[10]? = some (RJ2, TJ2, 3) from rfl) (fun j hj => match j, hj with | 0, _ => rfl | 1, _ => rfl | 2, _ => rfl | j + 3, h => absurd h (by omega)) ⟨by omega, by omega⟩ dX7_firstOrder_0 ?_
  intro ad1
  refine j_dup hk rfl dX7_firstOrder_3 ?_
  refine f_callI (Wc := [[(ad1, .inr (10, [.int (jI 0), .null, .int (jI 0)]))]]) (Wr := []) hk hl0 (fc_J2_init hls hE hN (z := z) hzc (a := ad1) ) (fun _ h => Or.inl h) 0 q186 q120 q950 q185 rfl (by decide +kernel) rfl (by decide) (by omega) rfl (Nat.le_of_ble_eq_true rfl) dX7_firstOrder_4 ?_
  refine Or.inl ⟨rfl, ?_⟩
  rintro _ _ _ ⟨w11, rfl, rfl, rfl, hp1_0⟩ -
  refine f_W (W2 := [w11]) rfl ?_
  refine j_ast1 hk dX7_firstOrder_7 rfl ?_
  refine j_iconst (n := 0) hk dX7_firstOrder_8 ?_
  refine j_ist2 hk dX7_firstOrder_9 rfl ?_
  refine j_iconst (n := 0) hk dX7_firstOrder_10 ?_
  refine j_ist3 hk dX7_firstOrder_11 rfl ?_
  have loop12 : ∀ (fuel12 : Nat) (x : Nat) (p : Nat) (f : Nat) (mv : Int) (m : List Nat) (w1 : va_W), 6 * f + (ns.length - x) < fuel12 → x ≤ ns.length → p < 32 → alW E ad1 mv (kIs E (mpN ns m)) w1 → m ++ foI b ns.length f p = foI b ns.length ns.length 0 → (∀ j, j < x → cfG b j p = false) → unN ns.length p ≤ f → m.length + f = ns.length → jW K (fO K E z z [w1]) (1 + m.length) (3 + 33 * m.length) 12 [some (.ref a), some (.ref ad1), some (.int (jI ((p : Nat) : Int))), some (.int (jI ((x : Nat) : Int)))] [] := by
    intro fuel12
    induction fuel12 with
    | zero => intro x p f mv m w1 hm; exact absurd hm (Nat.not_lt_zero _)
    | succ fuel12 ih12 =>
      intro x p f mv m w1 hm12 hxn hp hw1 hfo hj0 hun hmf
      refine j_ild4 hk dX7_firstOrder_12 rfl rfl ?_
      refine j_ald4 hk dX7_firstOrder_13 rfl rfl ?_
      obtain ⟨bag2, hgng2, hbag2, hb32g2⟩ := id h
      obtain ⟨nln3, mnn3, hgn3, hnln3, hnsn3, hn5n3, hnnn3⟩ := id hgn
      have hkln3 : (kIs E ns).length = ns.length := kIs_len
      refine f_callV (Wc := []) (Wr := [w1]) hE hk hl0 (.inl hgn3) (show vwCl[6]? = some (RX7, TX7, 2) from rfl) (fc_X7_size hls hE hN (z := z) hzc (a := a) (ba := bag2) (ns := ns) (hgng2)) (fun _ h => Or.inl h) 0 (lw_V q1218 q1219 q1220 q151 q1221) (by decide +kernel) rfl (by decide) (by omega) rfl (Nat.le_of_ble_eq_true rfl) dX7_firstOrder_14 ?_
      refine Or.inl ⟨rfl, ?_⟩
      rintro _ _ _ ⟨rfl, rfl, rfl⟩ -
      refine f_W (W2 := [w1]) rfl ?_
      refine j_icmp_ge hk (by omega) (by omega) dX7_firstOrder_17 rfl (tgt := 63) (fun h17 => ?_) (fun h17 => ?_)
      · refine j_ald4 hk dX7_firstOrder_63 rfl rfl ?_
        refine f_aret hk he hA (Or.inl ⟨_, rfl⟩) (Or.inr ⟨_, rfl⟩) dX7_firstOrder_64 (by omega) (by omega) ?_
        exact ⟨_, _, _, rfl, rfl, rfl, by rw [foI_f (fun j hj => hj0 j (by omega)), List.append_nil] at hfo; unfold foN; rw [← hfo]; exact hw1⟩
      · refine j_ald4 hk dX7_firstOrder_20 rfl rfl ?_
        refine j_ild4 hk dX7_firstOrder_21 rfl rfl ?_
        refine j_ild4 hk dX7_firstOrder_22 rfl rfl ?_
        refine f_callV (Wc := []) (Wr := [w1]) hE hk hl0 (.inl hgn3) (show vwCl[6]? = some (RX7, TX7, 2) from rfl) (fc_X7_canFollow hls hE hN (z := z) hzc (a := a) (i := x) (p := p) (ns := ns) (b := b) (h) (by omega) (hp)) (fun _ h => Or.inl h) 2 (lw_V q1312 q1314 qs14 q151 q1315) (by decide +kernel) rfl (by decide) (by omega) rfl (Nat.le_of_ble_eq_true rfl) dX7_firstOrder_23 ?_
        refine Or.inl ⟨rfl, ?_⟩
        rintro _ _ _ ⟨rfl, rfl, rfl⟩ -
        refine f_W (W2 := [w1]) rfl ?_
        refine j_ifeqB hk dX7_firstOrder_26 rfl (tgt := 57) (fun h26 => ?_) (fun h26 => ?_)
        · refine j_iinc3 hk dX7_firstOrder_57 rfl ?_
          refine j_goto (tgt := 12) hk dX7_firstOrder_60 rfl ?_
          exact ih12 (x + 1) p f mv m w1 (by omega) (by omega) (hp) (hw1) (hfo) (fun j hj => (by rcases Nat.lt_or_ge j x with q | q; exact hj0 j q; rw [show j = x by omega]; exact h26)) (hun) (hmf)
        · refine j_ald4 hk dX7_firstOrder_29 rfl rfl ?_
          refine j_ald4 hk dX7_firstOrder_30 rfl rfl ?_
          refine f_get hE hk in_X7 (.inl hgn3) (show vwCl[6]? = some (RX7, TX7, 2) from rfl) 0 (by decide) q1193 (Or.inl rfl) rfl dX7_firstOrder_31 ?_
          refine j_ild4 hk dX7_firstOrder_34 rfl rfl ?_
          have hko := kIs_at (E := E) (l := ns) (show x < ns.length by omega)
          have htk : ns.getD x 0 < 128 := hnsn3 _ (by rw [List.getD_eq_getElem?_getD, List.getElem?_eq_getElem (show x < ns.length by omega)]; exact List.getElem_mem _)
          have hki := hN.int hzc htk
          obtain ⟨qo6, capo6, fo6, hc1o6, hc2o6, hl1o6, hl2o6, hfo6⟩ := hnln3.cell hN hzc
          refine f_callF (Wc := []) (Wr := [w1]) hE hk hl0 (.inl hc1o6) (show vwCl[10]? = some (RJ2, TJ2, 3) from rfl) (fc_J2_get hls hE hN (z := z) hzc (a := nln3) (i := x) (mc := mnn3) (li := kIs E ns) (b := kInt E (128 + ns.getD x 0)) (hnln3) (hko)) (fun _ h => Or.inl h) 1 (lw_Fg q961 q393 q395 q120 q397) q392 q391 q396 q394 q222 (by decide +kernel) rfl (by decide) (by omega) rfl (Nat.le_of_ble_eq_true rfl) dX7_firstOrder_35 ?_
          refine Or.inl ⟨rfl, ?_⟩
          rintro _ _ _ ⟨rfl, rfl, rfl⟩ -
          refine f_W (W2 := [w1]) rfl ?_
          refine f_castY hE hk (.inl hki) (show vwCl[17]? = some (RJ22, TJ22, 1) from rfl) q957 q966 dX7_firstOrder_40 ?_
          have hux := unN_lt (n := ns.length) (show x < ns.length by omega) (cfG_t h26)
          have hml2 : (kIs E (mpN ns m)).length = m.length := by unfold kIs mpN; rw [List.length_map, List.length_map]
          obtain ⟨rm8, hrm8⟩ := alW.mem hw1
          refine f_callF (Wc := [w1]) (Wr := []) hE hk hl0 (fIn.of 0 rfl hrm8) (show vwCl[10]? = some (RJ2, TJ2, 3) from rfl) (fc_J2_add hls hE hN (z := z) hzc (a := ad1) (e := (kInt E (128 + ns.getD x 0))) (mc := mv) (li := (kIs E (mpN ns m))) (w0 := w1) (hw1) (kIs_el hN hzc (fun t ht => by
                  obtain ⟨i9, -, rfl⟩ := List.mem_map.mp ht
                  rw [List.getD_eq_getElem?_getD]
                  cases h9 : ns[i9]? with
                  | none => show 0 < 128; omega
                  | some t9 => exact h128 _ (List.mem_of_getElem? h9))) (okO.int hki) (by omega)) (fun _ h => Or.inl h) 1 (lw_Fg q1938 q717 q719 q120 q721) q716 q715 q720 q718 q222 (by decide +kernel) rfl (by decide) (by omega) rfl (Nat.le_of_ble_eq_true rfl) dX7_firstOrder_43 ?_
          refine Or.inl ⟨rfl, ?_⟩
          rintro _ _ _ ⟨w19, rfl, rfl, rfl, hp9_0⟩ -
          refine f_W (W2 := [w19]) rfl ?_
          refine j_pop hk rfl dX7_firstOrder_48 ?_
          refine j_ild4 hk dX7_firstOrder_49 rfl rfl ?_
          refine j_iconst (n := 1) hk dX7_firstOrder_50 ?_
          refine j_ild4 hk dX7_firstOrder_51 rfl rfl ?_
          refine j_ishl (a := 1) (b := x) hk (by omega) dX7_firstOrder_52 ?_
          refine j_ior (a := p) (b := 1 * 2 ^ x) hk dX7_firstOrder_53 ?_
          refine j_top (z2 := (((p ||| 2 ^ x) : Nat) : Int)) (by rw [Nat.one_mul]) ?_
          refine j_ist2 hk dX7_firstOrder_54 rfl ?_
          refine j_iconst (n := -1) hk dX7_firstOrder_55 ?_
          refine j_ist3 hk dX7_firstOrder_56 rfl ?_
          refine j_iinc3 hk dX7_firstOrder_57 rfl ?_
          refine j_goto (tgt := 12) hk dX7_firstOrder_60 rfl ?_
          have hml : (m ++ [x]).length = m.length + 1 := by simp
          refine j_wide (k2 := 1 + (m ++ [x]).length) (n2 := 3 + 33 * (m ++ [x]).length) (by first | omega | (simp; done) | (simp; omega)) (by first | omega | (simp; done) | (simp; omega)) ?_
          exact ih12 0 (p ||| 2 ^ x) (f - 1) (mv + 1) (m ++ [x]) w19 (by omega) (Nat.zero_le _) (Nat.or_lt_two_pow (n := 5) hp (Nat.pow_lt_pow_right (by decide) (by omega))) (by rw [mpN_1, kIs_app]; exact hp9_0) (by rw [List.append_assoc, ← hfo, foI_t (by omega) (by omega) h26 hj0]; rfl) (fun j hj => absurd hj (Nat.not_lt_zero _)) (by omega) (by rw [List.length_append]; show m.length + 1 + (f - 1) = _; omega)
  refine j_wide (k2 := 1 + ([] : List Nat).length) (n2 := 3 + 33 * ([] : List Nat).length) (by first | omega | (simp; done) | (simp; omega)) (by first | omega | (simp; done) | (simp; omega)) ?_
  exact loop12 _ 0 0 ns.length 0 ([] : List Nat) w11 (Nat.lt_succ_self _) (Nat.zero_le _) (by omega) (hp1_0) (rfl) (fun j hj => absurd hj (Nat.not_lt_zero _)) (Nat.le_of_eq unN_0) (by simp)
