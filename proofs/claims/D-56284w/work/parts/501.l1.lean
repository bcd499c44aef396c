/-! L, 1: lists that are read -/
set_option maxHeartbeats 1500000 in
/-- J11 checkIndex(IILjava/util/function/BiFunction;)I -/
theorem fc_J11_checkIndex {l : Launch} {E : jE} (hls : l.stackTraces = false) (hE : jSt E) (hN : jCn E) {z : jZ} (hzc : zLe (zS E) z) {i : Nat} {n : Nat} (h : i < n ∧ n < 2147483648) : fC l E yJ11_checkIndex cJ11_checkIndex 3 (some .int) 1 12 (0) (0) [.int (jI ((i : Nat) : Int)), .int (jI ((n : Nat) : Int)), .null] z [] (fun rr z2 W2 => rr = some (.int (jI ((i : Nat) : Int))) ∧ W2 = [] ∧ z = z2) := by
  refine f_start (own := "jdk/internal/util/Preconditions") (vs := [some (.int (jI ((i : Nat) : Int))), some (.int (jI ((n : Nat) : Int))), some (.null)]) hls (by decide +kernel) rfl rfl rfl (Nat.le_of_ble_eq_true rfl) ?_
  intro K H0 hk he hl0 hI hA
  refine j_ild4 hk dJ11_checkIndex_0 rfl rfl ?_
  refine j_if_lt hk (by omega) dJ11_checkIndex_1 rfl (tgt := 9) (fun h1 => by exfalso; omega) (fun h1 => ?_)
  refine j_ild4 hk dJ11_checkIndex_4 rfl rfl ?_
  refine j_ild4 hk dJ11_checkIndex_5 rfl rfl ?_
  refine j_icmp_lt hk (by omega) (by omega) dJ11_checkIndex_6 rfl (tgt := 16) (fun h6 => ?_) (fun h6 => by exfalso; omega)
  refine j_ild4 hk dJ11_checkIndex_16 rfl rfl ?_
  refine f_iret hk he hA rfl dJ11_checkIndex_17 (by omega) (by omega) ?_
  exact ⟨rfl, rfl, rfl⟩
set_option maxHeartbeats 1500000 in
/-- J10 checkIndex(II)I -/
theorem fc_J10_checkIndex {l : Launch} {E : jE} (hls : l.stackTraces = false) (hE : jSt E) (hN : jCn E) {z : jZ} (hzc : zLe (zS E) z) {i : Nat} {n : Nat} (h : i < n ∧ n < 2147483648) : fC l E yJ10_checkIndex cJ10_checkIndex 2 (some .int) 2 34 (0) (0) [.int (jI ((i : Nat) : Int)), .int (jI ((n : Nat) : Int))] z [] (fun rr z2 W2 => rr = some (.int (jI ((i : Nat) : Int))) ∧ W2 = [] ∧ z = z2) := by
  refine f_start (own := "java/util/Objects") (vs := [some (.int (jI ((i : Nat) : Int))), some (.int (jI ((n : Nat) : Int)))]) hls (by decide +kernel) rfl rfl rfl (Nat.le_of_ble_eq_true rfl) ?_
  intro K H0 hk he hl0 hI hA
  refine j_ild4 hk dJ10_checkIndex_0 rfl rfl ?_
  refine j_ild4 hk dJ10_checkIndex_1 rfl rfl ?_
  refine j_null hk dJ10_checkIndex_2 ?_
  refine f_callS (Wc := []) (Wr := []) hk hl0 (fc_J11_checkIndex hls hE hN (z := z) hzc (i := i) (n := n) (h)) (fun _ h => Or.inl h) 3 (lw_S q401 q402 q129 q403) (by decide +kernel) rfl (by decide) (by omega) rfl (Nat.le_of_ble_eq_true rfl) dJ10_checkIndex_3 ?_
  refine Or.inl ⟨rfl, ?_⟩
  rintro _ _ _ ⟨rfl, rfl, rfl⟩ -
  refine f_W (W2 := []) rfl ?_
  refine f_iret hk he hA rfl dJ10_checkIndex_6 (by omega) (by omega) ?_
  exact ⟨rfl, rfl, rfl⟩
set_option maxHeartbeats 1500000 in
/-- J2 size()I -/
theorem fc_J2_size {l : Launch} {E : jE} (hls : l.stackTraces = false) (hE : jSt E) (hN : jCn E) {z : jZ} (hzc : zLe (zS E) z) {a : Nat} {li : List Nat} {mc : Int} (h : alZ E z a mc li) : fC l E yJ2_size cJ2_size 1 (some .int) 1 12 (0) (0) [.ref a] z [] (fun rr z2 W2 => rr = some (.int (jI ((li.length : Nat) : Int))) ∧ W2 = [] ∧ z = z2) := by
  refine f_start (own := "java/util/ArrayList") (vs := [some (.ref a)]) hls (by decide +kernel) rfl rfl rfl (Nat.le_of_ble_eq_true rfl) ?_
  intro K H0 hk he hl0 hI hA
  have hlen_a := h.len
  obtain ⟨q_a, cap_a, f_a, hc1_a, hc2_a, hl1_a, hl2_a, hf_a⟩ := h.cell hN hzc
  refine j_ald4 hk dJ2_size_0 rfl rfl ?_
  refine f_get hE hk in_J2 (.inl hc1_a) (show vwCl[10]? = some (RJ2, TJ2, 3) from rfl) 2 (by decide) q199 (Or.inl rfl) rfl dJ2_size_1 ?_
  refine f_iret hk he hA rfl dJ2_size_4 (by omega) (by omega) ?_
  exact ⟨rfl, rfl, rfl⟩
set_option maxHeartbeats 1500000 in
/-- J2 elementData(I)Ljava/lang/Object; -/
theorem fc_J2_elementData {l : Launch} {E : jE} (hls : l.stackTraces = false) (hE : jSt E) (hN : jCn E) {z : jZ} (hzc : zLe (zS E) z) {a : Nat} {i : Nat} {li : List Nat} {mc : Int} {b : Nat} (h : alZ E z a mc li) (hi : li[i]? = some b) : fC l E yJ2_elementData cJ2_elementData 2 (some (.object "java/lang/Object")) 1 12 (0) (0) [.ref a, .int (jI ((i : Nat) : Int))] z [] (fun rr z2 W2 => rr = some (.ref b) ∧ W2 = [] ∧ z = z2) := by
  refine f_start (own := "java/util/ArrayList") (vs := [some (.ref a), some (.int (jI ((i : Nat) : Int)))]) hls (by decide +kernel) rfl rfl rfl (Nat.le_of_ble_eq_true rfl) ?_
  intro K H0 hk he hl0 hI hA
  have hlen_a := h.len
  obtain ⟨q_a, cap_a, f_a, hc1_a, hc2_a, hl1_a, hl2_a, hf_a⟩ := h.cell hN hzc
  have hil : i < li.length := (List.getElem?_eq_some_iff.mp hi).1
  refine j_ald4 hk dJ2_elementData_0 rfl rfl ?_
  refine f_get hE hk in_J2 (.inl hc1_a) (show vwCl[10]? = some (RJ2, TJ2, 3) from rfl) 1 (by decide) q196 (Or.inl rfl) rfl dJ2_elementData_1 ?_
  refine j_ild4 hk dJ2_elementData_4 rfl rfl ?_
  refine f_aald (n := cap_a) (t := 4) (f := f_a) hE hk rfl (.inl hc2_a) (i) (by omega) (by omega) (by omega) (v := .ref b) (by rw [hf_a _ (by omega), hi]; rfl) dJ2_elementData_5 ?_
  refine f_aret hk he hA (Or.inl ⟨_, rfl⟩) (Or.inr ⟨_, rfl⟩) dJ2_elementData_6 (by omega) (by omega) ?_
  exact ⟨rfl, rfl, rfl⟩
set_option maxHeartbeats 1500000 in
/-- J2 get(I)Ljava/lang/Object; -/
theorem fc_J2_get {l : Launch} {E : jE} (hls : l.stackTraces = false) (hE : jSt E) (hN : jCn E) {z : jZ} (hzc : zLe (zS E) z) {a : Nat} {i : Nat} {li : List Nat} {mc : Int} {b : Nat} (h : alZ E z a mc li) (hi : li[i]? = some b) : fC l E yJ2_get cJ2_get 2 (some (.object "java/lang/Object")) 3 55 (0) (0) [.ref a, .int (jI ((i : Nat) : Int))] z [] (fun rr z2 W2 => rr = some (.ref b) ∧ W2 = [] ∧ z = z2) := by
  refine f_start (own := "java/util/ArrayList") (vs := [some (.ref a), some (.int (jI ((i : Nat) : Int)))]) hls (by decide +kernel) rfl rfl rfl (Nat.le_of_ble_eq_true rfl) ?_
  intro K H0 hk he hl0 hI hA
  have hlen_a := h.len
  obtain ⟨q_a, cap_a, f_a, hc1_a, hc2_a, hl1_a, hl2_a, hf_a⟩ := h.cell hN hzc
  have hil : i < li.length := (List.getElem?_eq_some_iff.mp hi).1
  refine j_ild4 hk dJ2_get_0 rfl rfl ?_
  refine j_ald4 hk dJ2_get_1 rfl rfl ?_
  refine f_get hE hk in_J2 (.inl hc1_a) (show vwCl[10]? = some (RJ2, TJ2, 3) from rfl) 2 (by decide) q199 (Or.inl rfl) rfl dJ2_get_2 ?_
  refine f_callS (Wc := []) (Wr := []) hk hl0 (fc_J10_checkIndex hls hE hN (z := z) hzc (i := i) (n := li.length) (⟨hil, by omega⟩)) (fun _ h => Or.inl h) 2 (lw_S q398 q399 q128 q400) (by decide +kernel) rfl (by decide) (by omega) rfl (Nat.le_of_ble_eq_true rfl) dJ2_get_5 ?_
  refine Or.inl ⟨rfl, ?_⟩
  rintro _ _ _ ⟨rfl, rfl, rfl⟩ -
  refine f_W (W2 := []) rfl ?_
  refine j_pop hk rfl dJ2_get_8 ?_
  refine j_ald4 hk dJ2_get_9 rfl rfl ?_
  refine j_ild4 hk dJ2_get_10 rfl rfl ?_
  refine f_callV (Wc := []) (Wr := []) hE hk hl0 (.inl hc1_a) (show vwCl[10]? = some (RJ2, TJ2, 3) from rfl) (fc_J2_elementData hls hE hN (z := z) hzc (a := a) (i := i) (b := b) (h) (hi)) (fun _ h => Or.inl h) 1 (lw_V q404 q405 q406 q120 q407) (by decide +kernel) rfl (by decide) (by omega) rfl (Nat.le_of_ble_eq_true rfl) dJ2_get_11 ?_
  refine Or.inl ⟨rfl, ?_⟩
  rintro _ _ _ ⟨rfl, rfl, rfl⟩ -
  refine f_W (W2 := []) rfl ?_
  refine f_aret hk he hA (Or.inl ⟨_, rfl⟩) (Or.inr ⟨_, rfl⟩) dJ2_get_14 (by omega) (by omega) ?_
  exact ⟨rfl, rfl, rfl⟩
set_option maxHeartbeats 1500000 in
/-- J0 init()V -/
theorem fc_J0_init {l : Launch} {E : jE} (hls : l.stackTraces = false) (hE : jSt E) (hN : jCn E) {z : jZ} (hzc : zLe (zS E) z) {a : Nat}  : fC l E yJ0_init cJ0_init 1 (none) 1 20 (0) (0) [.ref a] z [] (fun rr z2 W2 => rr = none ∧ W2 = [] ∧ z = z2) := by
  refine f_start (own := "java/util/AbstractCollection") (vs := [some (.ref a)]) hls (by decide +kernel) rfl rfl rfl (Nat.le_of_ble_eq_true rfl) ?_
  intro K H0 hk he hl0 hI hA
  refine j_ald4 hk dJ0_init_0 rfl rfl ?_
  refine j_objInit hk q193 q171 q172 ⟨by decide, by decide⟩ dJ0_init_1 ?_
  refine f_vret hk he hA dJ0_init_4 (by omega) (by omega) ?_
  exact ⟨rfl, rfl, rfl⟩
set_option maxHeartbeats 1500000 in
/-- J1 init()V -/
theorem fc_J1_init {l : Launch} {E : jE} (hls : l.stackTraces = false) (hE : jSt E) (hN : jCn E) {z : jZ} (hzc : zLe (zS E) z) {a : Nat}  : fC l E yJ1_init cJ1_init 1 (none) 2 40 (0) (0) [.ref a] z [[(a, .inr (10, [.int (jI 0), .null, .int (jI 0)]))]] (fun rr z2 W2 => rr = none ∧ W2 = [[(a, .inr (10, [.int (jI 0), .null, .int (jI 0)]))]] ∧ z = z2) := by
  refine f_start (own := "java/util/AbstractList") (vs := [some (.ref a)]) hls (by decide +kernel) rfl rfl rfl (Nat.le_of_ble_eq_true rfl) ?_
  intro K H0 hk he hl0 hI hA
  refine j_ald4 hk dJ1_init_0 rfl rfl ?_
  refine f_callI (Wc := []) (Wr := [[(a, .inr (10, [.int (jI 0), .null, .int (jI 0)]))]]) hk hl0 (fc_J0_init hls hE hN (z := z) hzc (a := a) ) (fun _ h => Or.inl h) 0 q192 q118 q190 q191 rfl (by decide +kernel) rfl (by decide) (by omega) rfl (Nat.le_of_ble_eq_true rfl) dJ1_init_1 ?_
  refine Or.inl ⟨rfl, ?_⟩
  rintro _ _ _ ⟨rfl, rfl, rfl⟩ -
  refine f_W (W2 := [[(a, .inr (10, [.int (jI 0), .null, .int (jI 0)]))]]) rfl ?_
  refine j_ald4 hk dJ1_init_4 rfl rfl ?_
  refine j_iconst (n := 0) hk dJ1_init_5 ?_
  refine f_put (fs := [.int (jI 0), .null, .int (jI 0)]) (ty := .int) (W2 := [[(a, .inr (10, [.int (jI 0), .null, .int (jI 0)]))]]) hE hk in_J2 tyJ2_ok nmJ2 0 0 rfl rfl (show vwCl[10]? = some (RJ2, TJ2, 3) from rfl) 0 (by decide) q200 (Or.inl rfl) (Or.inl rfl) (by decide +kernel) rfl rfl (show 0 < 3 by decide) rfl dJ1_init_6 ?_
  refine f_vret hk he hA dJ1_init_9 (by omega) (by omega) ?_
  exact ⟨rfl, rfl, rfl⟩
set_option maxHeartbeats 1500000 in
/-- J2 init()V -/
theorem fc_J2_init {l : Launch} {E : jE} (hls : l.stackTraces = false) (hE : jSt E) (hN : jCn E) {z : jZ} (hzc : zLe (zS E) z) {a : Nat}  : fC l E yJ2_init cJ2_init 1 (none) 3 60 (0) (0) [.ref a] z [[(a, .inr (10, [.int (jI 0), .null, .int (jI 0)]))]] (fun rr z2 W2 => ∃ w1 : va_W, rr = none ∧ W2 = [w1] ∧ z = z2 ∧ alW E a 0 [] w1) := by
  refine f_start (own := "java/util/ArrayList") (vs := [some (.ref a)]) hls (by decide +kernel) rfl rfl rfl (Nat.le_of_ble_eq_true rfl) ?_
  intro K H0 hk he hl0 hI hA
  refine j_ald4 hk dJ2_init_0 rfl rfl ?_
  refine f_callI (Wc := [[(a, .inr (10, [.int (jI 0), .null, .int (jI 0)]))]]) (Wr := []) hk hl0 (fc_J1_init hls hE hN (z := z) hzc (a := a) ) (fun _ h => Or.inl h) 0 q189 q119 q187 q188 rfl (by decide +kernel) rfl (by decide) (by omega) rfl (Nat.le_of_ble_eq_true rfl) dJ2_init_1 ?_
  refine Or.inl ⟨rfl, ?_⟩
  rintro _ _ _ ⟨rfl, rfl, rfl⟩ -
  refine f_W (W2 := [[(a, .inr (10, [.int (jI 0), .null, .int (jI 0)]))]]) rfl ?_
  refine j_ald4 hk dJ2_init_4 rfl rfl ?_
  refine f_gets hk hN.emp q194 dJ2_init_5 ?_
  refine f_put (fs := [.int (jI 0), .null, .int (jI 0)]) (ty := (.array (.object "java/lang/Object"))) (W2 := [[(a, .inr (10, [.int (jI 0), .ref (kEmpty E), .int (jI 0)]))]]) hE hk in_J2 tyJ2_ok nmJ2 0 0 rfl rfl (show vwCl[10]? = some (RJ2, TJ2, 3) from rfl) 1 (by decide) q196 (Or.inl rfl) (Or.inl rfl) (by decide +kernel) rfl rfl (show 1 < 3 by decide) rfl dJ2_init_8 ?_
  refine f_vret hk he hA dJ2_init_11 (by omega) (by omega) ?_
  exact ⟨_, rfl, rfl, rfl, kEmpty E, Or.inl ⟨rfl, rfl, rfl⟩⟩
set_option maxHeartbeats 1500000 in
/-- J3 init(Ljava/util/ArrayList;)V -/
theorem fc_J3_init {l : Launch} {E : jE} (hls : l.stackTraces = false) (hE : jSt E) (hN : jCn E) {z : jZ} (hzc : zLe (zS E) z) {it : Nat} {a : Nat} {li : List Nat} {mc : Int} (h : alZ E z a mc li) : fC l E yJ3_init cJ3_init 2 (none) 1 20 (0) (0) [.ref it, .ref a] z [[(it, .inr (11, [.int (jI 0), .int (jI 0), .int (jI 0), .null]))]] (fun rr z2 W2 => ∃ w1 : va_W, rr = none ∧ W2 = [w1] ∧ z = z2 ∧ itW it 0 mc a w1) := by
  refine f_start (own := "java/util/ArrayList$Itr") (vs := [some (.ref it), some (.ref a)]) hls (by decide +kernel) rfl rfl rfl (Nat.le_of_ble_eq_true rfl) ?_
  intro K H0 hk he hl0 hI hA
  have hlen_a := h.len
  obtain ⟨q_a, cap_a, f_a, hc1_a, hc2_a, hl1_a, hl2_a, hf_a⟩ := h.cell hN hzc
  refine j_ald4 hk dJ3_init_0 rfl rfl ?_
  refine j_ald4 hk dJ3_init_1 rfl rfl ?_
  refine f_put (fs := [.int (jI 0), .int (jI 0), .int (jI 0), .null]) (ty := (.object "java/util/ArrayList")) (W2 := [[(it, .inr (11, [.int (jI 0), .int (jI 0), .int (jI 0), .ref a]))]]) hE hk in_J3 tyJ3_ok nmJ3 0 0 rfl rfl (show vwCl[11]? = some (RJ3, TJ3, 4) from rfl) 3 (by decide) q237 (Or.inl rfl) (Or.inr ⟨rfl, hI, rfl⟩) (by decide +kernel) rfl rfl (show 3 < 4 by decide) rfl dJ3_init_2 ?_
  refine j_ald4 hk dJ3_init_5 rfl rfl ?_
  refine j_objInit hk q233 q171 q172 ⟨by decide, by decide⟩ dJ3_init_6 ?_
  refine j_ald4 hk dJ3_init_9 rfl rfl ?_
  refine j_iconst (n := -1) hk dJ3_init_10 ?_
  refine f_put (fs := [.int (jI 0), .int (jI 0), .int (jI 0), .ref a]) (ty := .int) (W2 := [[(it, .inr (11, [.int (jI 0), .int (jI (-1)), .int (jI 0), .ref a]))]]) hE hk in_J3 tyJ3_ok nmJ3 0 0 rfl rfl (show vwCl[11]? = some (RJ3, TJ3, 4) from rfl) 1 (by decide) q235 (Or.inl rfl) (Or.inl rfl) (by decide +kernel) rfl rfl (show 1 < 4 by decide) rfl dJ3_init_11 ?_
  refine j_ald4 hk dJ3_init_14 rfl rfl ?_
  refine j_ald4 hk dJ3_init_15 rfl rfl ?_
  refine f_get hE hk in_J3 (fIn.at 0 0 rfl rfl) (show vwCl[11]? = some (RJ3, TJ3, 4) from rfl) 3 (by decide) q237 (Or.inl rfl) rfl dJ3_init_16 ?_
  refine f_get hE hk in_J2 (.inl hc1_a) (show vwCl[10]? = some (RJ2, TJ2, 3) from rfl) 0 (by decide) q201 (Or.inr q202) rfl dJ3_init_19 ?_
  refine f_put (fs := [.int (jI 0), .int (jI (-1)), .int (jI 0), .ref a]) (ty := .int) (W2 := [[(it, .inr (11, [.int (jI 0), .int (jI (-1)), .int (jI mc), .ref a]))]]) hE hk in_J3 tyJ3_ok nmJ3 0 0 rfl rfl (show vwCl[11]? = some (RJ3, TJ3, 4) from rfl) 2 (by decide) q236 (Or.inl rfl) (Or.inl rfl) (by decide +kernel) rfl rfl (show 2 < 4 by decide) rfl dJ3_init_22 ?_
  refine f_vret hk he hA dJ3_init_25 (by omega) (by omega) ?_
  exact ⟨_, rfl, rfl, rfl, -1, rfl⟩
set_option maxHeartbeats 1500000 in
/-- J2 iterator()Ljava/util/Iterator; -/
theorem fc_J2_iterator {l : Launch} {E : jE} (hls : l.stackTraces = false) (hE : jSt E) (hN : jCn E) {z : jZ} (hzc : zLe (zS E) z) {a : Nat} {li : List Nat} {mc : Int} (h : alZ E z a mc li) : fC l E yJ2_iterator cJ2_iterator 1 (some (.object "java/util/Iterator")) 2 41 (1) (4) [.ref a] z [] (fun rr z2 W2 => ∃ it : Nat, ∃ w1 : va_W, rr = some (.ref it) ∧ W2 = [w1] ∧ z = z2 ∧ itW it 0 mc a w1) := by
  refine f_start (own := "java/util/ArrayList") (vs := [some (.ref a)]) hls (by decide +kernel) rfl rfl rfl (Nat.le_of_ble_eq_true rfl) ?_
  intro K H0 hk he hl0 hI hA
  have hlen_a := h.len
  obtain ⟨q_a, cap_a, f_a, hc1_a, hc2_a, hl1_a, hl2_a, hf_a⟩ := h.cell hN hzc
  refine f_new (fs := [.int (jI 0), .int (jI 0), .int (jI 0), .null]) hE hk in_J3 tyJ3 tyJ3_ok q228 q229 q121 (show vwCl[11]? = some (RJ3, TJ3, 4) from rfl) (fun j hj => match j, hj with | 0, _ => rfl | 1, _ => rfl | 2, _ => rfl | 3, _ => rfl | j + 4, h => absurd h (by omega)) ⟨by omega, by omega⟩ dJ2_iterator_0 ?_
  intro ad1
  refine j_dup hk rfl dJ2_iterator_3 ?_
  refine j_ald4 hk dJ2_iterator_4 rfl rfl ?_
  refine f_callI (Wc := [[(ad1, .inr (11, [.int (jI 0), .int (jI 0), .int (jI 0), .null]))]]) (Wr := []) hk hl0 (fc_J3_init hls hE hN (z := z) hzc (it := ad1) (a := a) (h)) (fun _ h => Or.inl h) 1 q232 q121 q230 q231 rfl (by decide +kernel) rfl (by decide) (by omega) rfl (Nat.le_of_ble_eq_true rfl) dJ2_iterator_5 ?_
  refine Or.inl ⟨rfl, ?_⟩
  rintro _ _ _ ⟨w11, rfl, rfl, rfl, hp1_0⟩ -
  refine f_W (W2 := [w11]) rfl ?_
  refine f_aret hk he hA (Or.inl ⟨_, rfl⟩) (Or.inr ⟨_, rfl⟩) dJ2_iterator_8 (by omega) (by omega) ?_
  exact ⟨ad1, _, rfl, rfl, rfl, hp1_0⟩
set_option maxHeartbeats 1500000 in
/-- J3 checkForComodification()V -/
theorem fc_J3_checkForComodification {l : Launch} {E : jE} (hls : l.stackTraces = false) (hE : jSt E) (hN : jCn E) {z : jZ} (hzc : zLe (zS E) z) {it : Nat} {li : List Nat} {mc : Int} {k : Nat} {lr : Int} {a : Nat} (h : alZ E z a mc li) (hit : z (itCell it k lr mc a)) : fC l E yJ3_checkForComodification cJ3_checkForComodification 1 (none) 1 12 (0) (0) [.ref it] z [] (fun rr z2 W2 => rr = none ∧ W2 = [] ∧ z = z2) := by
  refine f_start (own := "java/util/ArrayList$Itr") (vs := [some (.ref it)]) hls (by decide +kernel) rfl rfl rfl (Nat.le_of_ble_eq_true rfl) ?_
  intro K H0 hk he hl0 hI hA
  have hlen_a := h.len
  obtain ⟨q_a, cap_a, f_a, hc1_a, hc2_a, hl1_a, hl2_a, hf_a⟩ := h.cell hN hzc
  refine j_ald4 hk dJ3_checkForComodification_0 rfl rfl ?_
  refine f_get hE hk in_J3 (.inl hit) (show vwCl[11]? = some (RJ3, TJ3, 4) from rfl) 3 (by decide) q237 (Or.inl rfl) rfl dJ3_checkForComodification_1 ?_
  refine f_get hE hk in_J2 (.inl hc1_a) (show vwCl[10]? = some (RJ2, TJ2, 3) from rfl) 0 (by decide) q201 (Or.inr q202) rfl dJ3_checkForComodification_4 ?_
  refine j_ald4 hk dJ3_checkForComodification_7 rfl rfl ?_
  refine f_get hE hk in_J3 (.inl hit) (show vwCl[11]? = some (RJ3, TJ3, 4) from rfl) 2 (by decide) q236 (Or.inl rfl) rfl dJ3_checkForComodification_8 ?_
  refine f_icmp_eqS (tgt := 22) hk dJ3_checkForComodification_11 rfl ?_
  refine f_vret hk he hA dJ3_checkForComodification_22 (by omega) (by omega) ?_
  exact ⟨rfl, rfl, rfl⟩
set_option maxHeartbeats 1500000 in
/-- J3 hasNext()Z -/
theorem fc_J3_hasNext {l : Launch} {E : jE} (hls : l.stackTraces = false) (hE : jSt E) (hN : jCn E) {z : jZ} (hzc : zLe (zS E) z) {it : Nat} {li : List Nat} {mc : Int} {k : Nat} {a : Nat} {wi : va_W} (h : alZ E z a mc li) (hw : itW it k mc a wi) (hki : k ≤ li.length) : fC l E yJ3_hasNext cJ3_hasNext 1 (some .boolean) 1 12 (0) (0) [.ref it] z [wi] (fun rr z2 W2 => rr = some (.int (jI (jB (decide (k < li.length))))) ∧ W2 = [wi] ∧ z = z2) := by
  refine f_start (own := "java/util/ArrayList$Itr") (vs := [some (.ref it)]) hls (by decide +kernel) rfl rfl rfl (Nat.le_of_ble_eq_true rfl) ?_
  intro K H0 hk he hl0 hI hA
  have hlen_a := h.len
  obtain ⟨q_a, cap_a, f_a, hc1_a, hc2_a, hl1_a, hl2_a, hf_a⟩ := h.cell hN hzc
  obtain ⟨lr, rfl⟩ := hw
  refine j_ald4 hk dJ3_hasNext_0 rfl rfl ?_
  refine f_get hE hk in_J3 (fIn.at 0 0 rfl rfl) (show vwCl[11]? = some (RJ3, TJ3, 4) from rfl) 0 (by decide) q234 (Or.inl rfl) rfl dJ3_hasNext_1 ?_
  refine j_ald4 hk dJ3_hasNext_4 rfl rfl ?_
  refine f_get hE hk in_J3 (fIn.at 0 0 rfl rfl) (show vwCl[11]? = some (RJ3, TJ3, 4) from rfl) 3 (by decide) q237 (Or.inl rfl) rfl dJ3_hasNext_5 ?_
  refine f_getN hE hk in_J2 (.inl hc1_a) (show vwCl[10]? = some (RJ2, TJ2, 3) from rfl) 2 (by decide) q198 rfl rfl dJ3_hasNext_8 ?_
  refine j_icmp_eq hk (by omega) (by omega) dJ3_hasNext_11 rfl (tgt := 18) (fun h11 => ?_) (fun h11 => ?_)
  · refine j_iconst (n := 0) hk dJ3_hasNext_18 ?_
    refine f_iret hk he hA rfl dJ3_hasNext_19 (by omega) (by omega) ?_
    exact ⟨congrArg (fun z => some (Value.int (jI z))) (by rw [show decide (k < li.length) = false from decide_eq_false (by omega)]; rfl), rfl, rfl⟩
  · refine j_iconst (n := 1) hk dJ3_hasNext_14 ?_
    refine j_goto (tgt := 19) hk dJ3_hasNext_15 rfl ?_
    refine f_iret hk he hA rfl dJ3_hasNext_19 (by omega) (by omega) ?_
    exact ⟨congrArg (fun z => some (Value.int (jI z))) (by rw [show decide (k < li.length) = true from decide_eq_true (by omega)]; rfl), rfl, rfl⟩
set_option maxHeartbeats 1500000 in
/-- J3 next()Ljava/lang/Object; -/
theorem fc_J3_next {l : Launch} {E : jE} (hls : l.stackTraces = false) (hE : jSt E) (hN : jCn E) {z : jZ} (hzc : zLe (zS E) z) {it : Nat} {li : List Nat} {mc : Int} {k : Nat} {a : Nat} {wi : va_W} {b : Nat} (h : alZ E z a mc li) (hw : itW it k mc a wi) (hki : li[k]? = some b) : fC l E yJ3_next cJ3_next 3 (some (.object "java/lang/Object")) 2 32 (0) (0) [.ref it] z [wi] (fun rr z2 W2 => ∃ w1 : va_W, rr = some (.ref b) ∧ W2 = [w1] ∧ z = z2 ∧ itW it (k + 1) mc a w1) := by
  refine f_start (own := "java/util/ArrayList$Itr") (vs := [some (.ref it), none, none]) hls (by decide +kernel) rfl rfl rfl (Nat.le_of_ble_eq_true rfl) ?_
  intro K H0 hk he hl0 hI hA
  have hlen_a := h.len
  obtain ⟨q_a, cap_a, f_a, hc1_a, hc2_a, hl1_a, hl2_a, hf_a⟩ := h.cell hN hzc
  obtain ⟨lr, rfl⟩ := hw
  have hil : k < li.length := (List.getElem?_eq_some_iff.mp hki).1
  refine j_ald4 hk dJ3_next_0 rfl rfl ?_
  obtain ⟨zL1, hlL1, hmL1, hbL1⟩ := f_lend z [[(it, .inr (11, [.int (jI ((k : Nat) : Int)), .int (jI lr), .int (jI mc), .ref a]))]] [[(it, .inr (11, [.int (jI ((k : Nat) : Int)), .int (jI lr), .int (jI mc), .ref a]))]] (by simp)
  refine f_callV (Wc := []) (Wr := [[(it, .inr (11, [.int (jI ((k : Nat) : Int)), .int (jI lr), .int (jI mc), .ref a]))]]) hE hk hl0 (fIn.at 0 0 rfl rfl) (show vwCl[11]? = some (RJ3, TJ3, 4) from rfl) (fc_J3_checkForComodification hls hE hN (z := zL1) (hzc.tr hlL1) (it := it) (h.up hlL1) (hmL1 _ (List.mem_cons_self) _ (List.mem_cons_self))) (hbL1) 0 (lw_V q311 q312 q313 q121 q314) (by decide +kernel) rfl (by decide) (by omega) rfl (Nat.le_of_ble_eq_true rfl) dJ3_next_1 ?_
  refine Or.inr ?_
  rintro _ _ _ ⟨rfl, rfl, -⟩ -
  refine f_W (W2 := [[(it, .inr (11, [.int (jI ((k : Nat) : Int)), .int (jI lr), .int (jI mc), .ref a]))]]) rfl ?_
  refine j_ald4 hk dJ3_next_4 rfl rfl ?_
  refine f_get hE hk in_J3 (fIn.at 0 0 rfl rfl) (show vwCl[11]? = some (RJ3, TJ3, 4) from rfl) 0 (by decide) q234 (Or.inl rfl) rfl dJ3_next_5 ?_
  refine j_ist1 hk dJ3_next_8 rfl ?_
  refine j_ild4 hk dJ3_next_9 rfl rfl ?_
  refine j_ald4 hk dJ3_next_10 rfl rfl ?_
  refine f_get hE hk in_J3 (fIn.at 0 0 rfl rfl) (show vwCl[11]? = some (RJ3, TJ3, 4) from rfl) 3 (by decide) q237 (Or.inl rfl) rfl dJ3_next_11 ?_
  refine f_getN hE hk in_J2 (.inl hc1_a) (show vwCl[10]? = some (RJ2, TJ2, 3) from rfl) 2 (by decide) q198 rfl rfl dJ3_next_14 ?_
  refine j_icmp_lt hk (by omega) (by omega) dJ3_next_17 rfl (tgt := 28) (fun h17 => ?_) (fun h17 => by exfalso; omega)
  refine j_ald4 hk dJ3_next_28 rfl rfl ?_
  refine f_get hE hk in_J3 (fIn.at 0 0 rfl rfl) (show vwCl[11]? = some (RJ3, TJ3, 4) from rfl) 3 (by decide) q237 (Or.inl rfl) rfl dJ3_next_29 ?_
  refine f_get hE hk in_J2 (.inl hc1_a) (show vwCl[10]? = some (RJ2, TJ2, 3) from rfl) 1 (by decide) q197 (Or.inl rfl) rfl dJ3_next_32 ?_
  refine j_ast2 hk dJ3_next_35 rfl ?_
  refine j_ild4 hk dJ3_next_36 rfl rfl ?_
  refine j_ald4 hk dJ3_next_37 rfl rfl ?_
  refine f_alen (n := cap_a) (t := 4) (f := .inr (.inr (.inr (.inr f_a)))) hE hk rfl (.inl hc2_a) dJ3_next_38 ?_
  refine j_icmp_lt hk (by omega) (by omega) dJ3_next_39 rfl (tgt := 50) (fun h39 => ?_) (fun h39 => by exfalso; omega)
  refine j_ald4 hk dJ3_next_50 rfl rfl ?_
  refine j_ild4 hk dJ3_next_51 rfl rfl ?_
  refine j_iconst (n := 1) hk dJ3_next_52 ?_
  refine j_iadd hk dJ3_next_53 ?_
  refine j_top (z2 := ((k + 1 : Nat) : Int)) (by omega) ?_
  refine f_put (fs := [.int (jI ((k : Nat) : Int)), .int (jI lr), .int (jI mc), .ref a]) (ty := .int) (W2 := [[(it, .inr (11, [.int (jI ((k + 1 : Nat) : Int)), .int (jI lr), .int (jI mc), .ref a]))]]) hE hk in_J3 tyJ3_ok nmJ3 0 0 rfl rfl (show vwCl[11]? = some (RJ3, TJ3, 4) from rfl) 0 (by decide) q234 (Or.inl rfl) (Or.inl rfl) (by decide +kernel) rfl rfl (show 0 < 4 by decide) rfl dJ3_next_54 ?_
  refine j_ald4 hk dJ3_next_57 rfl rfl ?_
  refine j_ald4 hk dJ3_next_58 rfl rfl ?_
  refine j_ild4 hk dJ3_next_59 rfl rfl ?_
  refine j_dup_x1 hk rfl rfl dJ3_next_60 ?_
  refine f_put (fs := [.int (jI ((k + 1 : Nat) : Int)), .int (jI lr), .int (jI mc), .ref a]) (ty := .int) (W2 := [[(it, .inr (11, [.int (jI ((k + 1 : Nat) : Int)), .int (jI ((k : Nat) : Int)), .int (jI mc), .ref a]))]]) hE hk in_J3 tyJ3_ok nmJ3 0 0 rfl rfl (show vwCl[11]? = some (RJ3, TJ3, 4) from rfl) 1 (by decide) q235 (Or.inl rfl) (Or.inl rfl) (by decide +kernel) rfl rfl (show 1 < 4 by decide) rfl dJ3_next_61 ?_
  refine f_aald (n := cap_a) (t := 4) (f := f_a) hE hk rfl (.inl hc2_a) (k) (by omega) (by omega) (by omega) (v := .ref b) (by rw [hf_a _ (by omega), hki]; rfl) dJ3_next_64 ?_
  refine f_aret hk he hA (Or.inl ⟨_, rfl⟩) (Or.inr ⟨_, rfl⟩) dJ3_next_65 (by omega) (by omega) ?_
  exact ⟨_, rfl, rfl, rfl, _, rfl⟩
