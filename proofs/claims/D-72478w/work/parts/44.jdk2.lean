/-! the JDK's methods: Strings that are read -/
set_option maxRecDepth 100000
set_option maxHeartbeats 800000 in
theorem pf_checkIndexN (a n : Int) (h : 0 ≤ a ∧ a < n) (hn : n ≤ 2147483647) : PF yJ11_checkIndex cJ11_checkIndex 3 (some .int) 0 0 [.int (iI a), .int (iI n), .null] (some (.int (iI a))) := by
  intro l X Γ
  refine MG.ofF (by decide +kernel) (Nat.le_of_ble_eq_true rfl) ?_
  intro Z C hX hL hQ
  subst hX; subst hL
  change WW Z 3 Γ 0 0 0 [some (.int (iI a)), some (.int (iI n)), some (.null)] []
  refine r_iload_n (pc := 0) C dJ11_checkIndex_0 rfl rfl ?_
  refine r_if_ltZ (pc := 1) (tgt := 9) C dJ11_checkIndex_1 (by decide) (by unfold i32; omega) (fun h1 => absurd h1 (by omega)) (fun h1 => ?_)
  refine r_iload_n (pc := 4) C dJ11_checkIndex_4 rfl rfl ?_
  refine r_iload_n (pc := 5) C dJ11_checkIndex_5 rfl rfl ?_
  refine r_icmp_ltZ (pc := 6) (tgt := 16) C dJ11_checkIndex_6 (by decide) (by unfold i32; omega) (by unfold i32; omega) (fun h6 => ?_) (fun h6 => absurd h6 (by omega))
  refine r_iload_n (pc := 16) C dJ11_checkIndex_16 rfl rfl ?_
  exact r_iret (pc := 17) C hQ dJ11_checkIndex_17 (Nat.le_of_ble_eq_true rfl) (Nat.le_of_ble_eq_true rfl) (fun G hG => ⟨hG, rfl⟩)
set_option maxHeartbeats 800000 in
theorem pf_checkIndexR (a n : Int) (x : Nat) (h : 0 ≤ a ∧ a < n) (hn : n ≤ 2147483647) : PF yJ11_checkIndex cJ11_checkIndex 3 (some .int) 0 0 [.int (iI a), .int (iI n), .ref x] (some (.int (iI a))) := by
  intro l X Γ
  refine MG.ofF (by decide +kernel) (Nat.le_of_ble_eq_true rfl) ?_
  intro Z C hX hL hQ
  subst hX; subst hL
  change WW Z 3 Γ 0 0 0 [some (.int (iI a)), some (.int (iI n)), some (.ref x)] []
  refine r_iload_n (pc := 0) C dJ11_checkIndex_0 rfl rfl ?_
  refine r_if_ltZ (pc := 1) (tgt := 9) C dJ11_checkIndex_1 (by decide) (by unfold i32; omega) (fun h1 => absurd h1 (by omega)) (fun h1 => ?_)
  refine r_iload_n (pc := 4) C dJ11_checkIndex_4 rfl rfl ?_
  refine r_iload_n (pc := 5) C dJ11_checkIndex_5 rfl rfl ?_
  refine r_icmp_ltZ (pc := 6) (tgt := 16) C dJ11_checkIndex_6 (by decide) (by unfold i32; omega) (by unfold i32; omega) (fun h6 => ?_) (fun h6 => absurd h6 (by omega))
  refine r_iload_n (pc := 16) C dJ11_checkIndex_16 rfl rfl ?_
  exact r_iret (pc := 17) C hQ dJ11_checkIndex_17 (Nat.le_of_ble_eq_true rfl) (Nat.le_of_ble_eq_true rfl) (fun G hG => ⟨hG, rfl⟩)
theorem pf_checkIndexV {v : Value} (hv : v = .null ∨ ∃ t, v = .ref t) (a n : Int) (h : 0 ≤ a ∧ a < n) (hn : n ≤ 2147483647) : PF yJ11_checkIndex cJ11_checkIndex 3 (some .int) 0 0 [.int (iI a), .int (iI n), v] (some (.int (iI a))) := by
  rcases hv with rfl | ⟨t, rfl⟩
  · exact pf_checkIndexN a n h hn
  · exact pf_checkIndexR a n t h hn
set_option maxHeartbeats 800000 in
theorem pf_objCheck (a n : Int) (h : 0 ≤ a ∧ a < n) (hn : n ≤ 2147483647) : PF yJ12_checkIndex cJ12_checkIndex 2 (some .int) 1 22 [.int (iI a), .int (iI n)] (some (.int (iI a))) := by
  intro l X Γ
  refine MG.ofF (by decide +kernel) (Nat.le_of_ble_eq_true rfl) ?_
  intro Z C hX hL hQ
  subst hX; subst hL
  change WW Z 2 Γ 0 0 0 [some (.int (iI a)), some (.int (iI n))] []
  refine r_iload_n (pc := 0) C dJ12_checkIndex_0 rfl rfl ?_
  refine r_iload_n (pc := 1) C dJ12_checkIndex_1 rfl rfl ?_
  refine r_null (pc := 2) C dJ12_checkIndex_2 ?_
  refine r_invP (pc := 3) 3 C dJ12_checkIndex_3 (pf_checkIndexN a n h hn) rfl (lw_S q677 q407 q96 q408) (by decide +kernel) rfl rfl ⟨Nat.le_of_ble_eq_true rfl, Nat.le_of_ble_eq_true rfl⟩ (Nat.le_of_ble_eq_true rfl) ⟨Nat.le_of_ble_eq_true rfl, Nat.le_of_ble_eq_true rfl⟩ ?_
  exact r_iret (pc := 6) C hQ dJ12_checkIndex_6 (Nat.le_of_ble_eq_true rfl) (Nat.le_of_ble_eq_true rfl) (fun G hG => ⟨hG, rfl⟩)
set_option maxHeartbeats 800000 in
theorem pf_strCheck (a n : Int) (h : 0 ≤ a ∧ a < n) (hn : n ≤ 2147483647) : PF yJ0_checkIndex cJ0_checkIndex 2 none 1 22 [.int (iI a), .int (iI n)] (none) := by
  intro l X Γ
  refine MG.ofF (by decide +kernel) (Nat.le_of_ble_eq_true rfl) ?_
  intro Z C hX hL hQ
  subst hX; subst hL
  change WW Z 2 Γ 0 0 0 [some (.int (iI a)), some (.int (iI n))] []
  refine r_iload_n (pc := 0) C dJ0_checkIndex_0 rfl rfl ?_
  refine r_iload_n (pc := 1) C dJ0_checkIndex_1 rfl rfl ?_
  refine r_sioobe (pc := 2) C dJ0_checkIndex_2 q389 (fun vS hS => ?_)
  refine r_invP (pc := 5) 3 C dJ0_checkIndex_5 (pf_checkIndexV hS a n h hn) rfl (lw_S q406 q407 q96 q408) (by decide +kernel) rfl rfl ⟨Nat.le_of_ble_eq_true rfl, Nat.le_of_ble_eq_true rfl⟩ (Nat.le_of_ble_eq_true rfl) ⟨Nat.le_of_ble_eq_true rfl, Nat.le_of_ble_eq_true rfl⟩ ?_
  refine r_pop (pc := 8) C dJ0_checkIndex_8 rfl ?_
  exact r_vret (pc := 9) C hQ dJ0_checkIndex_9 (Nat.le_of_ble_eq_true rfl) (Nat.le_of_ble_eq_true rfl) (fun G hG => ⟨hG, rfl⟩)
set_option maxHeartbeats 800000 in
theorem js_coder {la : Launch} {X : XE} {G0 : Gh} {a : Nat} {w : Tx} (h : STR G0 a w) : MG la X yJ0_coder cJ0_coder 1 (some .byte) (rmk 0 0 0 0) [.ref a] (fun G => G = G0) (fun zv G => zv = some (.int (iI 0)) ∧ G = G0) := by
  refine MG.ofF (by decide +kernel) (Nat.le_of_ble_eq_true rfl) ?_
  intro Z C hX hL hQ
  subst hX; subst hL
  change WW Z 1 (fun G => G = G0) 0 0 0 [some (.ref a)] []
  obtain ⟨hk, hl, b, f, q, z, h1, h2, h3⟩ := h
  refine r_compact (pc := 0) C dJ0_coder_0 q123 ?_
  refine r_if_eqZ (pc := 3) (tgt := 13) C dJ0_coder_3 (by decide) (by unfold i32; omega) (fun h3 => absurd h3 (by omega)) (fun h3 => ?_)
  refine r_aload_n (pc := 6) C dJ0_coder_6 rfl rfl ?_
  refine r_get (pc := 7) (k := 1) (ci := 7) C dJ0_coder_7 (g1 h1) (show vwC[7]? = some (RJ0, TJ0, 4) from rfl) in_J0 (by decide) (C.t _ q563) (fun _ h => h) rfl ?_
  refine r_goto (pc := 10) (tgt := 14) C dJ0_coder_10 (by decide) ?_
  exact r_zret (pc := 14) C hQ dJ0_coder_14 (by decide) (Nat.le_of_ble_eq_true rfl) (Nat.le_of_ble_eq_true rfl) (fun G hG => ⟨rfl, hG⟩)
set_option maxHeartbeats 800000 in
theorem js_latin {la : Launch} {X : XE} {G0 : Gh} {a : Nat} {w : Tx} (h : STR G0 a w) : MG la X yJ0_isLatin1 cJ0_isLatin1 1 (some .boolean) (rmk 0 0 0 0) [.ref a] (fun G => G = G0) (fun zv G => zv = some (.int (iI 1)) ∧ G = G0) := by
  refine MG.ofF (by decide +kernel) (Nat.le_of_ble_eq_true rfl) ?_
  intro Z C hX hL hQ
  subst hX; subst hL
  change WW Z 1 (fun G => G = G0) 0 0 0 [some (.ref a)] []
  obtain ⟨hk, hl, b, f, q, z, h1, h2, h3⟩ := h
  refine r_compact (pc := 0) C dJ0_isLatin1_0 q123 ?_
  refine r_if_eqZ (pc := 3) (tgt := 17) C dJ0_isLatin1_3 (by decide) (by unfold i32; omega) (fun h3 => absurd h3 (by omega)) (fun h3 => ?_)
  refine r_aload_n (pc := 6) C dJ0_isLatin1_6 rfl rfl ?_
  refine r_get (pc := 7) (k := 1) (ci := 7) C dJ0_isLatin1_7 (g1 h1) (show vwC[7]? = some (RJ0, TJ0, 4) from rfl) in_J0 (by decide) (C.t _ q563) (fun _ h => h) rfl ?_
  refine r_if_neZ (pc := 10) (tgt := 17) C dJ0_isLatin1_10 (by decide) (by unfold i32; omega) (fun h10 => absurd h10 (by omega)) (fun h10 => ?_)
  refine r_iconstZ (pc := 13) C dJ0_isLatin1_13 ?_
  refine r_goto (pc := 14) (tgt := 18) C dJ0_isLatin1_14 (by decide) ?_
  exact r_zret (pc := 18) C hQ dJ0_isLatin1_18 (by decide) (Nat.le_of_ble_eq_true rfl) (Nat.le_of_ble_eq_true rfl) (fun G hG => ⟨rfl, hG⟩)
set_option maxHeartbeats 800000 in
theorem js_length {la : Launch} {X : XE} {G0 : Gh} {a : Nat} {w : Tx} (h : STR G0 a w) : MG la X yJ0_length cJ0_length 1 (some .int) (rmk 1 0 0 20) [.ref a] (fun G => G = G0) (fun zv G => zv = some (.int (iI (w.length : Nat))) ∧ G = G0) := by
  refine MG.ofF (by decide +kernel) (Nat.le_of_ble_eq_true rfl) ?_
  intro Z C hX hL hQ
  subst hX; subst hL
  change WW Z 1 (fun G => G = G0) 0 0 0 [some (.ref a)] []
  obtain ⟨hk, hl, b, f, q, z, h1, h2, h3⟩ := id h
  refine r_aload_n (pc := 0) C dJ0_length_0 rfl rfl ?_
  refine r_get (pc := 1) (k := 0) (ci := 7) C dJ0_length_1 (g1 h1) (show vwC[7]? = some (RJ0, TJ0, 4) from rfl) in_J0 (by decide) (C.t _ q562) (fun _ h => h) rfl ?_
  refine r_alenZ (pc := 4) C dJ0_length_4 (g1 h2) ?_
  refine r_aload_n (pc := 5) C dJ0_length_5 rfl rfl ?_
  refine r_invV (pc := 6) (ci := 7) 0 C dJ0_length_6 (js_coder h) (g2 h1) (show vwC[7]? = some (RJ0, TJ0, 4) from rfl) rfl (lw_V q455 q456 q457 q83 q458) (by decide +kernel) rfl rfl ⟨Nat.le_of_ble_eq_true rfl, Nat.le_of_ble_eq_true rfl⟩ (Nat.le_of_ble_eq_true rfl) ⟨Nat.le_of_ble_eq_true rfl, Nat.le_of_ble_eq_true rfl⟩ (rd_k ?_)
  refine r_shr0 (pc := 9) C dJ0_length_9 ?_
  exact r_iret (pc := 10) C hQ dJ0_length_10 (Nat.le_of_ble_eq_true rfl) (Nat.le_of_ble_eq_true rfl) (fun G hG => ⟨rfl, hG⟩)
set_option maxHeartbeats 800000 in
theorem jl_charAt {la : Launch} {X : XE} {G0 : Gh} {b t N : Nat} {f : Nat → Value} (k c : Int) (h : G0 b = some (t, .inr (1, N, f))) (hk : 0 ≤ k ∧ k < N) (hN : N ≤ 100000) (hv : f k.toNat = .int (iI c)) (hc : 0 ≤ c ∧ c < 128) : MG la X yJ1_charAt cJ1_charAt 2 (some .char) (rmk 2 0 0 43) [.ref b, .int (iI k)] (fun G => G = G0) (fun zv G => zv = some (.int (iI c)) ∧ G = G0) := by
  refine MG.ofF (by decide +kernel) (Nat.le_of_ble_eq_true rfl) ?_
  intro Z C hX hL hQ
  subst hX; subst hL
  change WW Z 2 (fun G => G = G0) 0 0 0 [some (.ref b), some (.int (iI k))] []
  refine r_iload_n (pc := 0) C dJ1_charAt_0 rfl rfl ?_
  refine r_aload_n (pc := 1) C dJ1_charAt_1 rfl rfl ?_
  refine r_alenZ (pc := 2) C dJ1_charAt_2 (g1 h) ?_
  refine r_invP (pc := 3) 2 C dJ1_charAt_3 (pf_strCheck k N hk (by omega)) rfl (lw_S q475 q404 q83 q405) (by decide +kernel) rfl rfl ⟨Nat.le_of_ble_eq_true rfl, Nat.le_of_ble_eq_true rfl⟩ (Nat.le_of_ble_eq_true rfl) ⟨Nat.le_of_ble_eq_true rfl, Nat.le_of_ble_eq_true rfl⟩ ?_
  refine r_aload_n (pc := 6) C dJ1_charAt_6 rfl rfl ?_
  refine r_iload_n (pc := 7) C dJ1_charAt_7 rfl rfl ?_
  refine r_baldZ (pc := 8) C dJ1_charAt_8 (g1 h) (by omega) (by omega) (by unfold i32; omega) hv ?_
  refine r_sipushZ (pc := 9) C dJ1_charAt_9 (by decide) ?_
  refine r_andFF (pc := 12) C dJ1_charAt_12 (by omega) (by omega) ?_
  refine r_i2cZ (pc := 13) C dJ1_charAt_13 (by omega) (by omega) ?_
  exact r_zret (pc := 14) C hQ dJ1_charAt_14 (nar_c hc.1 (by omega)) (Nat.le_of_ble_eq_true rfl) (Nat.le_of_ble_eq_true rfl) (fun G hG => ⟨rfl, hG⟩)
set_option maxHeartbeats 800000 in
theorem js_charAt {la : Launch} {X : XE} {G0 : Gh} {a : Nat} {w : Tx} (k : Int) (h : STR G0 a w) (hk : 0 ≤ k ∧ k < w.length) : MG la X yJ0_charAt cJ0_charAt 2 (some .char) (rmk 3 0 0 64) [.ref a, .int (iI k)] (fun G => G = G0) (fun zv G => zv = some (.int (iI (tl w k.toNat : Nat))) ∧ G = G0) := by
  refine MG.ofF (by decide +kernel) (Nat.le_of_ble_eq_true rfl) ?_
  intro Z C hX hL hQ
  subst hX; subst hL
  change WW Z 2 (fun G => G = G0) 0 0 0 [some (.ref a), some (.int (iI k))] []
  obtain ⟨ho, hl, b, f, q, z, h1, h2, h3⟩ := id h
  have hc := ho.at (j := k.toNat) (by omega)
  refine r_aload_n (pc := 0) C dJ0_charAt_0 rfl rfl ?_
  refine r_invV (pc := 1) (ci := 7) 0 C dJ0_charAt_1 (js_latin h) (g2 h1) (show vwC[7]? = some (RJ0, TJ0, 4) from rfl) rfl (lw_V q119 q120 q121 q83 q122) (by decide +kernel) rfl rfl ⟨Nat.le_of_ble_eq_true rfl, Nat.le_of_ble_eq_true rfl⟩ (Nat.le_of_ble_eq_true rfl) ⟨Nat.le_of_ble_eq_true rfl, Nat.le_of_ble_eq_true rfl⟩ (rd_k ?_)
  refine r_if_eqZ (pc := 4) (tgt := 16) C dJ0_charAt_4 (by decide) (by unfold i32; omega) (fun h4 => absurd h4 (by omega)) (fun h4 => ?_)
  refine r_aload_n (pc := 7) C dJ0_charAt_7 rfl rfl ?_
  refine r_get (pc := 8) (k := 0) (ci := 7) C dJ0_charAt_8 (g1 h1) (show vwC[7]? = some (RJ0, TJ0, 4) from rfl) in_J0 (by decide) (C.t _ q562) (fun _ h => h) rfl ?_
  refine r_iload_n (pc := 11) C dJ0_charAt_11 rfl rfl ?_
  refine r_invS (pc := 12) 2 C dJ0_charAt_12 (jl_charAt k (tl w k.toNat : Nat) h2 hk hl (h3 k.toNat (by omega)) ⟨by omega, by omega⟩) rfl (lw_S q472 q473 q84 q474) (by decide +kernel) rfl rfl ⟨Nat.le_of_ble_eq_true rfl, Nat.le_of_ble_eq_true rfl⟩ (Nat.le_of_ble_eq_true rfl) ⟨Nat.le_of_ble_eq_true rfl, Nat.le_of_ble_eq_true rfl⟩ (rd_k ?_)
  exact r_zret (pc := 15) C hQ dJ0_charAt_15 (nar_c (by omega) (by omega)) (Nat.le_of_ble_eq_true rfl) (Nat.le_of_ble_eq_true rfl) (fun G hG => ⟨rfl, hG⟩)
set_option maxHeartbeats 800000 in
theorem jl_equals {la : Launch} {X : XE} {G0 : Gh} {p q t1 t2 : Nat} {f1 f2 : Nat → Value} (u w : Tx) (h1 : G0 p = some (t1, .inr (1, u.length, f1))) (h2 : G0 q = some (t2, .inr (1, w.length, f2))) (b1 : bys u f1) (b2' : bys w f2) (o1 : okT u) (o2 : okT w) (l1 : u.length ≤ 100000) (l2 : w.length ≤ 100000) : MG la X yJ1_equals cJ1_equals 3 (some .boolean) (rmk 0 0 0 0) [.ref p, .ref q] (fun G => G = G0) (fun zv G => zv = some (.int (iI (b2 (u = w)))) ∧ G = G0) := by
  refine MG.ofF (by decide +kernel) (Nat.le_of_ble_eq_true rfl) ?_
  intro Z C hX hL hQ
  subst hX; subst hL
  change WW Z 3 (fun G => G = G0) 0 0 0 [some (.ref p), some (.ref q), none] []
  have loop : u.length = w.length → ∀ i : Nat, i ≤ u.length → (∀ j : Nat, j < i → tl u j = tl w j) → WW Z 3 (fun G => G = G0) 0 0 9 [some (.ref p), some (.ref q), some (.int (iI (i : Int)))] [] := by
    intro hl
    refine loopN _ _ (fun i hi ih hj => ?_)
    have c1 := tl_i o1 i
    have c2 := tl_i o2 i
    refine r_iload_n (pc := 9) C dJ1_equals_9 rfl rfl ?_
    refine r_aload_n (pc := 10) C dJ1_equals_10 rfl rfl ?_
    refine r_alenZ (pc := 11) C dJ1_equals_11 (g1 h1) ?_
    refine r_icmp_geZ (pc := 12) (tgt := 32) C dJ1_equals_12 (by decide) (by unfold i32; omega) (by unfold i32; omega) (fun h12 => ?_) (fun h12 => ?_)
    · refine r_iconstZ (pc := 32) C dJ1_equals_32 ?_
      exact r_zret (pc := 33) C hQ dJ1_equals_33 (by decide) (Nat.le_of_ble_eq_true rfl) (Nat.le_of_ble_eq_true rfl) (fun G hG => ⟨(by rw [b2_t (tx_ext hl (fun j hj2 => hj j (by omega)))]), hG⟩)
    · refine r_aload_n (pc := 15) C dJ1_equals_15 rfl rfl ?_
      refine r_iload_n (pc := 16) C dJ1_equals_16 rfl rfl ?_
      refine r_baldZ (pc := 17) C dJ1_equals_17 (g1 h1) (by omega) (by omega) (by unfold i32; omega) (show f1 ((i : Int)).toNat = .int (iI (tl u i : Nat)) from b1 i (by omega)) ?_
      refine r_aload_n (pc := 18) C dJ1_equals_18 rfl rfl ?_
      refine r_iload_n (pc := 19) C dJ1_equals_19 rfl rfl ?_
      refine r_baldZ (pc := 20) C dJ1_equals_20 (g1 h2) (by omega) (by omega) (by unfold i32; omega) (show f2 ((i : Int)).toNat = .int (iI (tl w i : Nat)) from b2' i (by omega)) ?_
      refine r_icmp_eqZ (pc := 21) (tgt := 26) C dJ1_equals_21 (by decide) (by unfold i32; omega) (by unfold i32; omega) (fun h21 => ?_) (fun h21 => ?_)
      · refine r_iincZ (pc := 26) C dJ1_equals_26 rfl (by decide) ?_
        refine r_goto (pc := 29) (tgt := 9) C dJ1_equals_29 (by decide) ?_
        refine ih (by omega) (fun j hj2 => ?_)
        by_cases e : j = i
        · rw [e]; omega
        · exact hj j (by omega)
      · refine r_iconstZ (pc := 24) C dJ1_equals_24 ?_
        exact r_zret (pc := 25) C hQ dJ1_equals_25 (by decide) (Nat.le_of_ble_eq_true rfl) (Nat.le_of_ble_eq_true rfl) (fun G hG => ⟨(by rw [b2_f (fun e => h21 (by rw [e]))]), hG⟩)
  refine r_aload_n (pc := 0) C dJ1_equals_0 rfl rfl ?_
  refine r_alenZ (pc := 1) C dJ1_equals_1 (g1 h1) ?_
  refine r_aload_n (pc := 2) C dJ1_equals_2 rfl rfl ?_
  refine r_alenZ (pc := 3) C dJ1_equals_3 (g1 h2) ?_
  refine r_icmp_neZ (pc := 4) (tgt := 34) C dJ1_equals_4 (by decide) (by unfold i32; omega) (by unfold i32; omega) (fun h4 => ?_) (fun h4 => ?_)
  · refine r_iconstZ (pc := 34) C dJ1_equals_34 ?_
    exact r_zret (pc := 35) C hQ dJ1_equals_35 (by decide) (Nat.le_of_ble_eq_true rfl) (Nat.le_of_ble_eq_true rfl) (fun G hG => ⟨(by rw [b2_f (fun e => h4 (by rw [e]))]), hG⟩)
  · refine r_iconstZ (pc := 7) C dJ1_equals_7 ?_
    refine r_istore_n (pc := 8) C dJ1_equals_8 rfl (by decide) ?_
    exact loop (by omega) 0 (Nat.zero_le _) (fun j hj => absurd hj (Nat.not_lt_zero _))
set_option maxHeartbeats 800000 in
theorem js_equals {la : Launch} {X : XE} {G0 : Gh} {a a' : Nat} {u w : Tx} (h : STR G0 a u) (h' : STR G0 a' w) : MG la X yJ0_equals cJ0_equals 3 (some .boolean) (rmk 1 0 0 22) [.ref a, .ref a'] (fun G => G = G0) (fun zv G => zv = some (.int (iI (b2 (u = w)))) ∧ G = G0) := by
  refine MG.ofF (by decide +kernel) (Nat.le_of_ble_eq_true rfl) ?_
  intro Z C hX hL hQ
  subst hX; subst hL
  change WW Z 3 (fun G => G = G0) 0 0 0 [some (.ref a), some (.ref a'), none] []
  obtain ⟨o1, l1, b, f, q, z, k1, k2, k3⟩ := id h
  obtain ⟨o2, l2, b', f', q', z', k1', k2', k3'⟩ := id h'
  refine r_aload_n (pc := 0) C dJ0_equals_0 rfl rfl ?_
  refine r_aload_n (pc := 1) C dJ0_equals_1 rfl rfl ?_
  refine r_acmp_ne (pc := 2) (tgt := 7) (rx := some a) (rw := some a') C dJ0_equals_2 (by decide) (fun h2 => ?_) (fun h2 => ?_)
  · refine r_aload_n (pc := 7) C dJ0_equals_7 rfl rfl ?_
    refine r_instO (pc := 8) (ci := 7) C dJ0_equals_8 (g2 k1') (show vwC[7]? = some (RJ0, TJ0, 4) from rfl) q187 ?_
    refine r_if_eqZ (pc := 11) (tgt := 54) C dJ0_equals_11 (by decide) (by unfold i32; omega) (fun h11 => absurd h11 (by omega)) (fun h11 => ?_)
    refine r_aload_n (pc := 14) C dJ0_equals_14 rfl rfl ?_
    refine r_castO (pc := 15) (ci := 7) C dJ0_equals_15 (g2 k1') (show vwC[7]? = some (RJ0, TJ0, 4) from rfl) q187 ?_
    refine r_astore_n (pc := 18) C dJ0_equals_18 rfl (by decide) ?_
    refine r_compact (pc := 19) C dJ0_equals_19 q123 ?_
    refine r_if_eqZ (pc := 22) (tgt := 36) C dJ0_equals_22 (by decide) (by unfold i32; omega) (fun h22 => absurd h22 (by omega)) (fun h22 => ?_)
    refine r_aload_n (pc := 25) C dJ0_equals_25 rfl rfl ?_
    refine r_get (pc := 26) (k := 1) (ci := 7) C dJ0_equals_26 (g1 k1) (show vwC[7]? = some (RJ0, TJ0, 4) from rfl) in_J0 (by decide) (C.t _ q563) (fun _ h => h) rfl ?_
    refine r_aload_n (pc := 29) C dJ0_equals_29 rfl rfl ?_
    refine r_get (pc := 30) (k := 1) (ci := 7) C dJ0_equals_30 (g1 k1') (show vwC[7]? = some (RJ0, TJ0, 4) from rfl) in_J0 (by decide) (C.t _ q563) (fun _ h => h) rfl ?_
    refine r_icmp_neZ (pc := 33) (tgt := 54) C dJ0_equals_33 (by decide) i32_0 i32_0 (fun h33 => absurd h33 (by omega)) (fun h33 => ?_)
    refine r_aload_n (pc := 36) C dJ0_equals_36 rfl rfl ?_
    refine r_get (pc := 37) (k := 0) (ci := 7) C dJ0_equals_37 (g1 k1) (show vwC[7]? = some (RJ0, TJ0, 4) from rfl) in_J0 (by decide) (C.t _ q562) (fun _ h => h) rfl ?_
    refine r_aload_n (pc := 40) C dJ0_equals_40 rfl rfl ?_
    refine r_get (pc := 41) (k := 0) (ci := 7) C dJ0_equals_41 (g1 k1') (show vwC[7]? = some (RJ0, TJ0, 4) from rfl) in_J0 (by decide) (C.t _ q562) (fun _ h => h) rfl ?_
    refine r_invS (pc := 44) 2 C dJ0_equals_44 (jl_equals u w k2 k2' k3 k3' o1 o2 l1 l2) rfl (lw_S q188 q189 q84 q190) (by decide +kernel) rfl rfl ⟨Nat.le_of_ble_eq_true rfl, Nat.le_of_ble_eq_true rfl⟩ (Nat.le_of_ble_eq_true rfl) ⟨Nat.le_of_ble_eq_true rfl, Nat.le_of_ble_eq_true rfl⟩ (rd_k ?_)
    refine r_if_eqB (pc := 47) (tgt := 54) C dJ0_equals_47 (by decide)  (fun h47 => ?_) (fun h47 => ?_)
    · refine r_iconstZ (pc := 54) C dJ0_equals_54 ?_
      exact r_zret (pc := 55) C hQ dJ0_equals_55 (by decide) (Nat.le_of_ble_eq_true rfl) (Nat.le_of_ble_eq_true rfl) (fun G hG => ⟨(by first | rw [b2_t h47] | rw [b2_f h47]), hG⟩)
    · refine r_iconstZ (pc := 50) C dJ0_equals_50 ?_
      refine r_goto (pc := 51) (tgt := 55) C dJ0_equals_51 (by decide) ?_
      exact r_zret (pc := 55) C hQ dJ0_equals_55 (by decide) (Nat.le_of_ble_eq_true rfl) (Nat.le_of_ble_eq_true rfl) (fun G hG => ⟨(by first | rw [b2_t h47] | rw [b2_f h47]), hG⟩)
  · refine r_iconstZ (pc := 5) C dJ0_equals_5 ?_
    exact r_zret (pc := 6) C hQ dJ0_equals_6 (by decide) (Nat.le_of_ble_eq_true rfl) (Nat.le_of_ble_eq_true rfl) (fun G hG => ⟨(by have e : a = a' := Option.some.inj h2; subst e; rw [b2_t (h.uniq h')]), hG⟩)
set_option maxHeartbeats 800000 in
theorem js_hash {la : Launch} {X : XE} {G0 : Gh} {a b : Nat} (q z : Int) (h : G0 a = some (0, .inl (7, [.ref b, .int (iI 0), .int (iI q), .int (iI z)]))) (hq : i32 q) (hz : i32 z) (hh : q ≠ 0 ∨ z ≠ 0) : MG la X yJ0_hashCode cJ0_hashCode 2 (some .int) (rmk 0 0 0 0) [.ref a] (fun G => G = G0) (fun zv G => zv = some (.int (iI q)) ∧ G = G0) := by
  refine MG.ofF (by decide +kernel) (Nat.le_of_ble_eq_true rfl) ?_
  intro Z C hX hL hQ
  subst hX; subst hL
  change WW Z 2 (fun G => G = G0) 0 0 0 [some (.ref a), none] []
  refine r_aload_n (pc := 0) C dJ0_hashCode_0 rfl rfl ?_
  refine r_get (pc := 1) (k := 2) (ci := 7) C dJ0_hashCode_1 (g1 h) (show vwC[7]? = some (RJ0, TJ0, 4) from rfl) in_J0 (by decide) (C.t _ q564) (fun _ h => h) rfl ?_
  refine r_istore_n (pc := 4) C dJ0_hashCode_4 rfl (by decide) ?_
  refine r_iload_n (pc := 5) C dJ0_hashCode_5 rfl rfl ?_
  refine r_if_neZ (pc := 6) (tgt := 58) C dJ0_hashCode_6 (by decide) hq (fun h6 => ?_) (fun h6 => ?_)
  · refine r_iload_n (pc := 58) C dJ0_hashCode_58 rfl rfl ?_
    exact r_iret (pc := 59) C hQ dJ0_hashCode_59 (Nat.le_of_ble_eq_true rfl) (Nat.le_of_ble_eq_true rfl) (fun G hG => ⟨rfl, hG⟩)
  · refine r_aload_n (pc := 9) C dJ0_hashCode_9 rfl rfl ?_
    refine r_get (pc := 10) (k := 3) (ci := 7) C dJ0_hashCode_10 (g1 h) (show vwC[7]? = some (RJ0, TJ0, 4) from rfl) in_J0 (by decide) (C.t _ q565) (fun _ h => h) rfl ?_
    refine r_if_neZ (pc := 13) (tgt := 58) C dJ0_hashCode_13 (by decide) hz (fun h13 => ?_) (fun h13 => ?_)
    · refine r_iload_n (pc := 58) C dJ0_hashCode_58 rfl rfl ?_
      exact r_iret (pc := 59) C hQ dJ0_hashCode_59 (Nat.le_of_ble_eq_true rfl) (Nat.le_of_ble_eq_true rfl) (fun G hG => ⟨rfl, hG⟩)
    · exact absurd hh (by omega)

