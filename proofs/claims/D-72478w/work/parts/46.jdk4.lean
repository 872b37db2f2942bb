/-! the JDK's methods: StringBuilders are written -/
set_option maxRecDepth 100000
set_option maxHeartbeats 800000 in
theorem ja_app {la : Launch} {X : XE} {G0 : Gh} {a t m : Nat} {w : Tx} (c : Nat) (h : SB G0 a t w m) (ht : t ≠ 0) (hlt : w.length < m) (hc : c < 128) : MG la X yJ7_append cJ7_append 2 (some (.object "java/lang/AbstractStringBuilder")) (rmk 1 0 0 22) [.ref a, .int (iI (c : Int))] (fun G => G = G0) (fun v G => v = some (.ref a) ∧ SB G a t (w ++ [c]) m ∧ FR [t] G0 G) := by
  refine MG.ofF (by decide +kernel) (Nat.le_of_ble_eq_true rfl) ?_
  intro Z C hX hL hQ
  subst hX; subst hL
  change WW Z 2 (fun G => G = G0) 0 0 0 [some (.ref a), some (.int (iI (c : Int)))] []
  obtain ⟨ho, hl, hm, b, f, mb, k1, k2, k3⟩ := id h
  refine r_aload_n (pc := 0) C dJ7_append_0 rfl rfl ?_
  refine r_aload_n (pc := 1) C dJ7_append_1 rfl rfl ?_
  refine r_get (pc := 2) (k := 3) (ci := 9) C dJ7_append_2 (g1 k1) (show vwC[9]? = some (RJ8, TJ8, 4) from rfl) in_J8 (by decide) (C.t _ q265) (fun _ h => h) rfl ?_
  refine r_iconstZ (pc := 5) C dJ7_append_5 ?_
  refine r_iaddZ (pc := 6) C dJ7_append_6 ?_
  refine r_invU (pc := 7) (ci := 9) (owner := "java/lang/AbstractStringBuilder") (x2 := yJ7_ensureCapacityInternal) 1 C dJ7_append_7 (ja_fit ((w.length : Nat) + 1 : Int) h ⟨by omega, by omega⟩) (g2 k1) (show vwC[9]? = some (RJ8, TJ8, 4) from rfl) rfl (lw_U q330 q1634 (Or.inr (by decide +kernel)) q332 q90 q333) rfl (by decide +kernel) rfl rfl ⟨Nat.le_of_ble_eq_true rfl, Nat.le_of_ble_eq_true rfl⟩ (Nat.le_of_ble_eq_true rfl) ⟨(by first | exact Nat.le_of_ble_eq_true rfl | (dsimp only [rmk]; omega) | omega), (by first | exact Nat.le_of_ble_eq_true rfl | (dsimp only [rmk]; omega) | omega)⟩ (rd_k ?_)
  refine r_aload_n (pc := 10) C dJ7_append_10 rfl rfl ?_
  refine r_invU (pc := 11) (ci := 9) (owner := "java/lang/AbstractStringBuilder") (x2 := yJ7_isLatin1) 0 C dJ7_append_11 (ja_latin h) (g2 k1) (show vwC[9]? = some (RJ8, TJ8, 4) from rfl) rfl (lw_U q365 q367 (Or.inl q368) q366 q90 q369) rfl (by decide +kernel) rfl rfl ⟨Nat.le_of_ble_eq_true rfl, Nat.le_of_ble_eq_true rfl⟩ (Nat.le_of_ble_eq_true rfl) ⟨(by first | exact Nat.le_of_ble_eq_true rfl | (dsimp only [rmk]; omega) | omega), (by first | exact Nat.le_of_ble_eq_true rfl | (dsimp only [rmk]; omega) | omega)⟩ (rd_k ?_)
  refine r_if_eqZ (pc := 14) (tgt := 45) C dJ7_append_14 (by decide) (by unfold i32; omega) (fun h14 => absurd h14 (by omega)) (fun h14 => ?_)
  refine r_iload_n (pc := 17) C dJ7_append_17 rfl rfl ?_
  refine r_invP (pc := 18) 1 C dJ7_append_18 (pf_canEncode c hc) rfl (lw_S q370 q371 q84 q372) (by decide +kernel) rfl rfl ⟨Nat.le_of_ble_eq_true rfl, Nat.le_of_ble_eq_true rfl⟩ (Nat.le_of_ble_eq_true rfl) ⟨(by first | exact Nat.le_of_ble_eq_true rfl | (dsimp only [rmk]; omega) | omega), (by first | exact Nat.le_of_ble_eq_true rfl | (dsimp only [rmk]; omega) | omega)⟩ ?_
  refine r_if_eqZ (pc := 21) (tgt := 45) C dJ7_append_21 (by decide) (by unfold i32; omega) (fun h21 => absurd h21 (by omega)) (fun h21 => ?_)
  refine r_aload_n (pc := 24) C dJ7_append_24 rfl rfl ?_
  refine r_get (pc := 25) (k := 0) (ci := 9) C dJ7_append_25 (g1 k1) (show vwC[9]? = some (RJ8, TJ8, 4) from rfl) in_J8 (by decide) (C.t _ q261) (fun _ h => h) rfl ?_
  refine r_aload_n (pc := 28) C dJ7_append_28 rfl rfl ?_
  refine ww_to (Γ' := P2 a t 9 [.ref b, .int (iI 0), .int (iI mb), .int (iI (w.length : Nat))] b t 1 m f G0) (fun G hG => by rw [hG]; exact P2.rf k1 k2) ?_
  refine r_dup (pc := 29) C dJ7_append_29 rfl ?_
  refine r_get (pc := 30) (k := 3) (ci := 9) C dJ7_append_30 (fun G hG => ⟨_, hG.1⟩) (show vwC[9]? = some (RJ8, TJ8, 4) from rfl) in_J8 (by decide) (C.t _ q265) (fun _ h => h) rfl ?_
  refine r_dup_x1 (pc := 33) C dJ7_append_33 rfl rfl ?_
  refine r_iconstZ (pc := 34) C dJ7_append_34 ?_
  refine r_iaddZ (pc := 35) C dJ7_append_35 ?_
  refine r_put (pc := 36) (k := 3) (ci := 9) (ty := .int) C dJ7_append_36 (fun G hG => ⟨_, ht, hG.1, hG.put⟩) (show vwC[9]? = some (RJ8, TJ8, 4) from rfl) in_J8 tyJ8 tyJ8_ok nmJ8 (by decide) (C.t _ q265) (fun _ h => h) rfl (by decide +kernel) rfl rfl (Nat.le_of_ble_eq_true rfl) ?_
  refine r_iload_n (pc := 39) C dJ7_append_39 rfl rfl ?_
  refine r_i2bZ (pc := 40) C dJ7_append_40 (by omega) (by omega) ?_
  refine r_bastZ (pc := 41) C dJ7_append_41 (fun G hG => ⟨_, ht, hG.2.1, hG.ast⟩) (by omega) (by omega) (by unfold i32; omega) (by omega) ?_
  refine r_goto (pc := 42) (tgt := 75) C dJ7_append_42 (by decide) ?_
  refine r_aload_n (pc := 75) C dJ7_append_75 rfl rfl ?_
  exact r_aret (pc := 76) C hQ dJ7_append_76 (by first | exact Or.inl ⟨_, rfl⟩ | exact Or.inr ⟨_, rfl⟩) (by first | exact Or.inr ⟨_, rfl⟩ | exact Or.inl rfl) (by first | exact Nat.le_of_ble_eq_true rfl | (dsimp only [rmk]; omega) | omega) (by first | exact Nat.le_of_ble_eq_true rfl | (dsimp only [rmk]; omega) | omega) (fun G hG => ⟨rfl, hG.sb (w := w ++ [c]) rfl (by simp) (ho.push hc) (by simp; omega) hm (k3.push c), hG.fr k1 (Or.inl k2) (by simp) (by simp)⟩)
set_option maxHeartbeats 800000 in
theorem ja_appg {la : Launch} {X : XE} {G0 : Gh} {a t m : Nat} {w : Tx} (c : Nat) (h : SB G0 a t w m) (ht : t ≠ 0) (hlt : w.length = m) (hm0 : m ≤ 20000) (hc : c < 128) : MG la X yJ7_append cJ7_append 2 (some (.object "java/lang/AbstractStringBuilder")) (rmk 4 1 (2*m+2) 91) [.ref a, .int (iI (c : Int))] (fun G => G = G0) (fun v G => v = some (.ref a) ∧ SB G a t (w ++ [c]) (2 * m + 2) ∧ FR [t] G0 G) := by
  refine MG.ofF (by decide +kernel) (Nat.le_of_ble_eq_true rfl) ?_
  intro Z C hX hL hQ
  subst hX; subst hL
  change WW Z 2 (fun G => G = G0) 0 0 0 [some (.ref a), some (.int (iI (c : Int)))] []
  obtain ⟨ho, hl, hm, b, f, mb, k1, k2, k3⟩ := id h
  refine r_aload_n (pc := 0) C dJ7_append_0 rfl rfl ?_
  refine r_aload_n (pc := 1) C dJ7_append_1 rfl rfl ?_
  refine r_get (pc := 2) (k := 3) (ci := 9) C dJ7_append_2 (g1 k1) (show vwC[9]? = some (RJ8, TJ8, 4) from rfl) in_J8 (by decide) (C.t _ q265) (fun _ h => h) rfl ?_
  refine r_iconstZ (pc := 5) C dJ7_append_5 ?_
  refine r_iaddZ (pc := 6) C dJ7_append_6 ?_
  rw [show ((w.length : Nat) : Int) + 1 = ((m + 1 : Nat) : Int) by omega]
  refine r_invU (pc := 7) (ci := 9) (owner := "java/lang/AbstractStringBuilder") (x2 := yJ7_ensureCapacityInternal) 1 C dJ7_append_7 (ja_grow (m + 1) (m + 2) h ht hm0 ⟨by omega, by omega⟩ (by rw [if_pos (by omega)]; omega)) (g2 k1) (show vwC[9]? = some (RJ8, TJ8, 4) from rfl) rfl (lw_U q330 q1634 (Or.inr (by decide +kernel)) q332 q90 q333) rfl (by decide +kernel) rfl rfl ⟨Nat.le_of_ble_eq_true rfl, Nat.le_of_ble_eq_true rfl⟩ (Nat.le_of_ble_eq_true rfl) ⟨(by first | exact Nat.le_of_ble_eq_true rfl | (dsimp only [rmk]; omega) | omega), (by first | exact Nat.le_of_ble_eq_true rfl | (dsimp only [rmk]; omega) | omega)⟩ (fun v7 G7 h7 => ?_)
  obtain ⟨rfl, k4, k5⟩ := h7
  rw [show m + (m + 2) = 2 * m + 2 by omega] at k4
  obtain ⟨-, hl', hm', b', f', mb', k1', k2', k3'⟩ := id k4
  refine r_aload_n (pc := 10) C dJ7_append_10 rfl rfl ?_
  refine r_invU (pc := 11) (ci := 9) (owner := "java/lang/AbstractStringBuilder") (x2 := yJ7_isLatin1) 0 C dJ7_append_11 (ja_latin k4) (g2 k1') (show vwC[9]? = some (RJ8, TJ8, 4) from rfl) rfl (lw_U q365 q367 (Or.inl q368) q366 q90 q369) rfl (by decide +kernel) rfl rfl ⟨Nat.le_of_ble_eq_true rfl, Nat.le_of_ble_eq_true rfl⟩ (Nat.le_of_ble_eq_true rfl) ⟨(by first | exact Nat.le_of_ble_eq_true rfl | (dsimp only [rmk]; omega) | omega), (by first | exact Nat.le_of_ble_eq_true rfl | (dsimp only [rmk]; omega) | omega)⟩ (rd_k ?_)
  refine r_if_eqZ (pc := 14) (tgt := 45) C dJ7_append_14 (by decide) (by unfold i32; omega) (fun h14 => absurd h14 (by omega)) (fun h14 => ?_)
  refine r_iload_n (pc := 17) C dJ7_append_17 rfl rfl ?_
  refine r_invP (pc := 18) 1 C dJ7_append_18 (pf_canEncode c hc) rfl (lw_S q370 q371 q84 q372) (by decide +kernel) rfl rfl ⟨Nat.le_of_ble_eq_true rfl, Nat.le_of_ble_eq_true rfl⟩ (Nat.le_of_ble_eq_true rfl) ⟨(by first | exact Nat.le_of_ble_eq_true rfl | (dsimp only [rmk]; omega) | omega), (by first | exact Nat.le_of_ble_eq_true rfl | (dsimp only [rmk]; omega) | omega)⟩ ?_
  refine r_if_eqZ (pc := 21) (tgt := 45) C dJ7_append_21 (by decide) (by unfold i32; omega) (fun h21 => absurd h21 (by omega)) (fun h21 => ?_)
  refine r_aload_n (pc := 24) C dJ7_append_24 rfl rfl ?_
  refine r_get (pc := 25) (k := 0) (ci := 9) C dJ7_append_25 (g1 k1') (show vwC[9]? = some (RJ8, TJ8, 4) from rfl) in_J8 (by decide) (C.t _ q261) (fun _ h => h) rfl ?_
  refine r_aload_n (pc := 28) C dJ7_append_28 rfl rfl ?_
  refine ww_to (Γ' := P2 a t 9 [.ref b', .int (iI 0), .int (iI mb'), .int (iI (w.length : Nat))] b' t 1 (2 * m + 2) f' G7) (fun G hG => by rw [hG]; exact P2.rf k1' k2') ?_
  refine r_dup (pc := 29) C dJ7_append_29 rfl ?_
  refine r_get (pc := 30) (k := 3) (ci := 9) C dJ7_append_30 (fun G hG => ⟨_, hG.1⟩) (show vwC[9]? = some (RJ8, TJ8, 4) from rfl) in_J8 (by decide) (C.t _ q265) (fun _ h => h) rfl ?_
  refine r_dup_x1 (pc := 33) C dJ7_append_33 rfl rfl ?_
  refine r_iconstZ (pc := 34) C dJ7_append_34 ?_
  refine r_iaddZ (pc := 35) C dJ7_append_35 ?_
  refine r_put (pc := 36) (k := 3) (ci := 9) (ty := .int) C dJ7_append_36 (fun G hG => ⟨_, ht, hG.1, hG.put⟩) (show vwC[9]? = some (RJ8, TJ8, 4) from rfl) in_J8 tyJ8 tyJ8_ok nmJ8 (by decide) (C.t _ q265) (fun _ h => h) rfl (by decide +kernel) rfl rfl (Nat.le_of_ble_eq_true rfl) ?_
  refine r_iload_n (pc := 39) C dJ7_append_39 rfl rfl ?_
  refine r_i2bZ (pc := 40) C dJ7_append_40 (by omega) (by omega) ?_
  refine r_bastZ (pc := 41) C dJ7_append_41 (fun G hG => ⟨_, ht, hG.2.1, hG.ast⟩) (by omega) (by omega) (by unfold i32; omega) (by omega) ?_
  refine r_goto (pc := 42) (tgt := 75) C dJ7_append_42 (by decide) ?_
  refine r_aload_n (pc := 75) C dJ7_append_75 rfl rfl ?_
  exact r_aret (pc := 76) C hQ dJ7_append_76 (by first | exact Or.inl ⟨_, rfl⟩ | exact Or.inr ⟨_, rfl⟩) (by first | exact Or.inr ⟨_, rfl⟩ | exact Or.inl rfl) (by first | exact Nat.le_of_ble_eq_true rfl | (dsimp only [rmk]; omega) | omega) (by first | exact Nat.le_of_ble_eq_true rfl | (dsimp only [rmk]; omega) | omega) (fun G hG => ⟨rfl, hG.sb (w := w ++ [c]) rfl (by simp) (ho.push hc) (by simp; omega) hm' (k3'.push c), k5.tr (hG.fr k1' (Or.inl k2') (by simp) (by simp))⟩)
set_option maxHeartbeats 800000 in
theorem ms_getBytes {la : Launch} {X : XE} {G0 : Gh} {a d t M : Nat} {w : Tx} {g : Nat → Value} (k : Nat) (h : STR G0 a w) (hd : G0 d = some (t, .inr (1, M, g))) (ht : t ≠ 0) (hk : k + w.length ≤ M) (hM : M ≤ 100000) : MG la X yJ0_getBytes cJ0_getBytes 4 none (rmk 1 0 0 40) [.ref a, .ref d, .int (iI (k : Int)), .int (iI 0)] (fun G => G = G0) (fun v G => v = none ∧ ∃ f, bys w f ∧ G = gup G0 d (t, .inr (1, M, cpyV f g 0 k w.length))) := by
  refine MG.ofF (by decide +kernel) (Nat.le_of_ble_eq_true rfl) ?_
  intro Z C hX hL hQ
  subst hX; subst hL
  change WW Z 4 (fun G => G = G0) 0 0 0 [some (.ref a), some (.ref d), some (.int (iI (k : Int))), some (.int (iI 0))] []
  obtain ⟨ho, hl, b, f, q, z, k1, k2, k3⟩ := id h
  refine r_aload_n (pc := 0) C dJ0_getBytes_0 rfl rfl ?_
  refine r_invV (pc := 1) (ci := 7) 0 C dJ0_getBytes_1 (js_coder h) (g2 k1) (show vwC[7]? = some (RJ0, TJ0, 4) from rfl) rfl (lw_V q455 q456 q457 q83 q458) (by decide +kernel) rfl rfl ⟨Nat.le_of_ble_eq_true rfl, Nat.le_of_ble_eq_true rfl⟩ (Nat.le_of_ble_eq_true rfl) ⟨(by first | exact Nat.le_of_ble_eq_true rfl | (dsimp only [rmk]; omega) | omega), (by first | exact Nat.le_of_ble_eq_true rfl | (dsimp only [rmk]; omega) | omega)⟩ (rd_k ?_)
  refine r_iload_n (pc := 4) C dJ0_getBytes_4 rfl rfl ?_
  refine r_icmp_neZ (pc := 5) (tgt := 28) C dJ0_getBytes_5 (by decide) i32_0 i32_0 (fun h5 => absurd h5 (by omega)) (fun h5 => ?_)
  refine r_aload_n (pc := 8) C dJ0_getBytes_8 rfl rfl ?_
  refine r_get (pc := 9) (k := 0) (ci := 7) C dJ0_getBytes_9 (g1 k1) (show vwC[7]? = some (RJ0, TJ0, 4) from rfl) in_J0 (by decide) (C.t _ q562) (fun _ h => h) rfl ?_
  refine r_iconstZ (pc := 12) C dJ0_getBytes_12 ?_
  refine r_aload_n (pc := 13) C dJ0_getBytes_13 rfl rfl ?_
  refine r_iload_n (pc := 14) C dJ0_getBytes_14 rfl rfl ?_
  refine r_iload_n (pc := 15) C dJ0_getBytes_15 rfl rfl ?_
  refine r_shl0 (pc := 16) C dJ0_getBytes_16 ?_
  refine r_aload_n (pc := 17) C dJ0_getBytes_17 rfl rfl ?_
  refine r_get (pc := 18) (k := 0) (ci := 7) C dJ0_getBytes_18 (g1 k1) (show vwC[7]? = some (RJ0, TJ0, 4) from rfl) in_J0 (by decide) (C.t _ q562) (fun _ h => h) rfl ?_
  refine r_alenZ (pc := 21) C dJ0_getBytes_21 (g1 k2) ?_
  refine r_copyBU (pc := 22) C dJ0_getBytes_22 q938 ht k2 hd (F := cpyV f g 0 k w.length) rfl (fun i hi => bys_fits k3 ho (by omega)) (by omega) (by omega) (by omega) (by omega) (by omega) (by unfold i32; omega) (by unfold i32; omega) (Nat.le_of_ble_eq_true rfl) (Nat.le_of_ble_eq_true rfl) ?_
  refine r_goto (pc := 25) (tgt := 43) C dJ0_getBytes_25 (by decide) ?_
  exact r_vret (pc := 43) C hQ dJ0_getBytes_43 (by first | exact Nat.le_of_ble_eq_true rfl | (dsimp only [rmk]; omega) | omega) (by first | exact Nat.le_of_ble_eq_true rfl | (dsimp only [rmk]; omega) | omega) (fun G hG => ⟨rfl, f, k3, hG⟩)
set_option maxHeartbeats 800000 in
theorem ja_noInf {la : Launch} {X : XE} {G0 : Gh} {a t s : Nat} {b n mb : Value} {w : Tx} (k1 : G0 a = some (t, .inl (9, [b, .int (iI 0), mb, n]))) (h : STR G0 s w) : MG la X yJ7_inflateIfNeededFor cJ7_inflateIfNeededFor 2 none (rmk 1 0 0 20) [.ref a, .ref s] (fun G => G = G0) (fun zv G => zv = none ∧ G = G0) := by
  refine MG.ofF (by decide +kernel) (Nat.le_of_ble_eq_true rfl) ?_
  intro Z C hX hL hQ
  subst hX; subst hL
  change WW Z 2 (fun G => G = G0) 0 0 0 [some (.ref a), some (.ref s)] []
  obtain ⟨ho, hl, b', f, q, z, l1, l2, l3⟩ := id h
  refine r_compact (pc := 0) C dJ7_inflateIfNeededFor_0 q253 ?_
  refine r_if_eqZ (pc := 3) (tgt := 21) C dJ7_inflateIfNeededFor_3 (by decide) (by unfold i32; omega) (fun h3 => absurd h3 (by omega)) (fun h3 => ?_)
  refine r_aload_n (pc := 6) C dJ7_inflateIfNeededFor_6 rfl rfl ?_
  refine r_get (pc := 7) (k := 1) (ci := 9) C dJ7_inflateIfNeededFor_7 (g1 k1) (show vwC[9]? = some (RJ8, TJ8, 4) from rfl) in_J8 (by decide) (C.t _ q262) (fun _ h => h) rfl ?_
  refine r_aload_n (pc := 10) C dJ7_inflateIfNeededFor_10 rfl rfl ?_
  refine r_invV (pc := 11) (ci := 7) 0 C dJ7_inflateIfNeededFor_11 (js_coder h) (g2 l1) (show vwC[7]? = some (RJ0, TJ0, 4) from rfl) rfl (lw_V q933 q456 q457 q83 q458) (by decide +kernel) rfl rfl ⟨Nat.le_of_ble_eq_true rfl, Nat.le_of_ble_eq_true rfl⟩ (Nat.le_of_ble_eq_true rfl) ⟨Nat.le_of_ble_eq_true rfl, Nat.le_of_ble_eq_true rfl⟩ (rd_k ?_)
  refine r_icmp_eqZ (pc := 14) (tgt := 21) C dJ7_inflateIfNeededFor_14 (by decide) i32_0 i32_0 (fun h14 => ?_) (fun h14 => absurd h14 (by omega))
  exact r_vret (pc := 21) C hQ dJ7_inflateIfNeededFor_21 (Nat.le_of_ble_eq_true rfl) (Nat.le_of_ble_eq_true rfl) (fun G hG => ⟨rfl, hG⟩)
set_option maxHeartbeats 800000 in
theorem ma_putStr {la : Launch} {X : XE} {G0 : Gh} {a t b s M : Nat} {mb n : Value} {w : Tx} {g : Nat → Value} (k : Nat) (k1 : G0 a = some (t, .inl (9, [.ref b, .int (iI 0), mb, n]))) (k2 : G0 b = some (t, .inr (1, M, g))) (ht : t ≠ 0) (h : STR G0 s w) (hk : k + w.length ≤ M) (hM : M ≤ 100000) : MG la X yJ7_putStringAt cJ7_putStringAt 3 none (rmk 2 0 0 63) [.ref a, .int (iI (k : Int)), .ref s] (fun G => G = G0) (fun v G => v = none ∧ ∃ f, bys w f ∧ G = gup G0 b (t, .inr (1, M, cpyV f g 0 k w.length))) := by
  refine MG.ofF (by decide +kernel) (Nat.le_of_ble_eq_true rfl) ?_
  intro Z C hX hL hQ
  subst hX; subst hL
  change WW Z 3 (fun G => G = G0) 0 0 0 [some (.ref a), some (.int (iI (k : Int))), some (.ref s)] []
  obtain ⟨ho, hl, b', f, q, z, l1, l2, l3⟩ := id h
  refine r_aload_n (pc := 0) C dJ7_putStringAt_0 rfl rfl ?_
  refine r_aload_n (pc := 1) C dJ7_putStringAt_1 rfl rfl ?_
  refine r_invU (pc := 2) (ci := 9) (owner := "java/lang/AbstractStringBuilder") (x2 := yJ7_inflateIfNeededFor) 1 C dJ7_putStringAt_2 (ja_noInf k1 h) (g2 k1) (show vwC[9]? = some (RJ8, TJ8, 4) from rfl) rfl (lw_U q929 q1645 (Or.inr (by decide +kernel)) q931 q90 q932) rfl (by decide +kernel) rfl rfl ⟨Nat.le_of_ble_eq_true rfl, Nat.le_of_ble_eq_true rfl⟩ (Nat.le_of_ble_eq_true rfl) ⟨(by first | exact Nat.le_of_ble_eq_true rfl | (dsimp only [rmk]; omega) | omega), (by first | exact Nat.le_of_ble_eq_true rfl | (dsimp only [rmk]; omega) | omega)⟩ (rd_k ?_)
  refine r_aload_n (pc := 5) C dJ7_putStringAt_5 rfl rfl ?_
  refine r_aload_n (pc := 6) C dJ7_putStringAt_6 rfl rfl ?_
  refine r_get (pc := 7) (k := 0) (ci := 9) C dJ7_putStringAt_7 (g1 k1) (show vwC[9]? = some (RJ8, TJ8, 4) from rfl) in_J8 (by decide) (C.t _ q261) (fun _ h => h) rfl ?_
  refine r_iload_n (pc := 10) C dJ7_putStringAt_10 rfl rfl ?_
  refine r_aload_n (pc := 11) C dJ7_putStringAt_11 rfl rfl ?_
  refine r_get (pc := 12) (k := 1) (ci := 9) C dJ7_putStringAt_12 (g1 k1) (show vwC[9]? = some (RJ8, TJ8, 4) from rfl) in_J8 (by decide) (C.t _ q262) (fun _ h => h) rfl ?_
  refine r_invV (pc := 15) (ci := 7) 3 C dJ7_putStringAt_15 (ms_getBytes k h k2 ht hk hM) (g2 l1) (show vwC[7]? = some (RJ0, TJ0, 4) from rfl) rfl (lw_V q934 q935 q936 q83 q937) (by decide +kernel) rfl rfl ⟨Nat.le_of_ble_eq_true rfl, Nat.le_of_ble_eq_true rfl⟩ (Nat.le_of_ble_eq_true rfl) ⟨(by first | exact Nat.le_of_ble_eq_true rfl | (dsimp only [rmk]; omega) | omega), (by first | exact Nat.le_of_ble_eq_true rfl | (dsimp only [rmk]; omega) | omega)⟩ (fun v15 G15 h15 => ?_)
  obtain ⟨rfl, f2, k5, rfl⟩ := h15
  exact r_vret (pc := 18) C hQ dJ7_putStringAt_18 (by first | exact Nat.le_of_ble_eq_true rfl | (dsimp only [rmk]; omega) | omega) (by first | exact Nat.le_of_ble_eq_true rfl | (dsimp only [rmk]; omega) | omega) (fun G hG => ⟨rfl, f2, k5, hG⟩)
set_option maxHeartbeats 800000 in
theorem ja_apps {la : Launch} {X : XE} {G0 : Gh} {a t s m : Nat} {u w : Tx} (h : SB G0 a t u m) (hs : STR G0 s w) (ht : t ≠ 0) (hl2 : u.length + w.length ≤ 40) (hm2 : m ≤ 40) : MG la X yJ7_append_2 cJ7_append_2 3 (some (.object "java/lang/AbstractStringBuilder")) (rmk 4 1 90 91) [.ref a, .ref s] (fun G => G = G0) (fun v G => v = some (.ref a) ∧ (∃ m', (m' = m ∨ m' = 2 * m + 2 ∨ m' = u.length + w.length) ∧ SB G a t (u ++ w) m') ∧ FR [t] G0 G) := by
  refine MG.ofF (by decide +kernel) (Nat.le_of_ble_eq_true rfl) ?_
  intro Z C hX hL hQ
  subst hX; subst hL
  change WW Z 3 (fun G => G = G0) 0 0 0 [some (.ref a), some (.ref s), none] []
  obtain ⟨ho, hl, hm, b, f, mb, k1, k2, k3⟩ := id h
  obtain ⟨so, -, sb, sf, sq, sz, l1, l2, l3⟩ := id hs
  have rest : ∀ (G1 : Gh) (m1 n1 s1 : Nat), SB G1 a t u m1 → u.length + w.length ≤ m1 → (m1 = m ∨ m1 = 2 * m + 2 ∨ m1 = u.length + w.length) → FR [t] G0 G1 → n1 ≤ 1 → s1 ≤ 90 → WW Z 3 (fun G => G = G1) n1 s1 24 [some (.ref a), some (.ref s), some (.int (iI (w.length : Nat)))] [] := by
    intro G1 m1 n1 s1 c1 c2 c3 c4 c5 c6
    have hs1 : STR G1 s w := hs.fr c4 (by simp; omega)
    obtain ⟨-, hl', hm', b', f', mb', k1', k2', k3'⟩ := id c1
    refine r_aload_n (pc := 24) C dJ7_append_2_24 rfl rfl ?_
    refine r_aload_n (pc := 25) C dJ7_append_2_25 rfl rfl ?_
    refine r_get (pc := 26) (k := 3) (ci := 9) C dJ7_append_2_26 (g1 k1') (show vwC[9]? = some (RJ8, TJ8, 4) from rfl) in_J8 (by decide) (C.t _ q265) (fun _ h => h) rfl ?_
    refine r_aload_n (pc := 29) C dJ7_append_2_29 rfl rfl ?_
    refine r_invU (pc := 30) (ci := 9) (owner := "java/lang/AbstractStringBuilder") (x2 := yJ7_putStringAt) 2 C dJ7_append_2_30 (ma_putStr u.length k1' k2' ht hs1 c2 hm') (g2 k1') (show vwC[9]? = some (RJ8, TJ8, 4) from rfl) rfl (lw_U q925 q1644 (Or.inr (by decide +kernel)) q927 q90 q928) rfl (by decide +kernel) rfl rfl ⟨Nat.le_of_ble_eq_true rfl, Nat.le_of_ble_eq_true rfl⟩ (Nat.le_of_ble_eq_true rfl) ⟨(by first | exact Nat.le_of_ble_eq_true rfl | (dsimp only [rmk]; omega) | omega), (by first | exact Nat.le_of_ble_eq_true rfl | (dsimp only [rmk]; omega) | omega)⟩ (fun v30 G30 h30 => ?_)
    obtain ⟨rfl, f2, k5, rfl⟩ := h30
    refine ww_to (Γ' := P2 a t 9 [.ref b', .int (iI 0), .int (iI mb'), .int (iI (u.length : Nat))] b' t 1 m1 (cpyV f2 f' 0 u.length w.length) G1) (fun G hG => by rw [hG]; exact (P2.rf k1' k2').ast) ?_
    refine r_aload_n (pc := 33) C dJ7_append_2_33 rfl rfl ?_
    refine r_dup (pc := 34) C dJ7_append_2_34 rfl ?_
    refine r_get (pc := 35) (k := 3) (ci := 9) C dJ7_append_2_35 (fun G hG => ⟨_, hG.1⟩) (show vwC[9]? = some (RJ8, TJ8, 4) from rfl) in_J8 (by decide) (C.t _ q265) (fun _ h => h) rfl ?_
    refine r_iload_n (pc := 38) C dJ7_append_2_38 rfl rfl ?_
    refine r_iaddZ (pc := 39) C dJ7_append_2_39 ?_
    refine r_put (pc := 40) (k := 3) (ci := 9) (ty := .int) C dJ7_append_2_40 (fun G hG => ⟨_, ht, hG.1, hG.put⟩) (show vwC[9]? = some (RJ8, TJ8, 4) from rfl) in_J8 tyJ8 tyJ8_ok nmJ8 (by decide) (C.t _ q265) (fun _ h => h) rfl (by decide +kernel) rfl rfl (Nat.le_of_ble_eq_true rfl) ?_
    refine r_aload_n (pc := 43) C dJ7_append_2_43 rfl rfl ?_
    exact r_aret (pc := 44) C hQ dJ7_append_2_44 (by first | exact Or.inl ⟨_, rfl⟩ | exact Or.inr ⟨_, rfl⟩) (by first | exact Or.inr ⟨_, rfl⟩ | exact Or.inl rfl) (by first | exact Nat.le_of_ble_eq_true rfl | (dsimp only [rmk]; omega) | omega) (by first | exact Nat.le_of_ble_eq_true rfl | (dsimp only [rmk]; omega) | omega) (fun G hG => ⟨rfl, ⟨m1, c3, hG.sb (w := u ++ w) rfl (by simp) (ho.app so) (by simp; omega) hm' (k3'.cpy k5 _ rfl)⟩, c4.tr (hG.fr k1' (Or.inl k2') (by simp) (by simp))⟩)
  have fit : u.length + w.length ≤ m → WW Z 3 (fun G => G = G0) 0 0 21 [some (.ref a), some (.ref s), some (.int (iI (w.length : Nat)))] [.int (iI ((u.length : Nat) + (w.length : Nat) : Int)), .ref a] := by
    intro hg
    refine r_invU (pc := 21) (ci := 9) (owner := "java/lang/AbstractStringBuilder") (x2 := yJ7_ensureCapacityInternal) 1 C dJ7_append_2_21 (ja_fit ((u.length : Nat) + (w.length : Nat) : Int) h ⟨by omega, by omega⟩) (g2 k1) (show vwC[9]? = some (RJ8, TJ8, 4) from rfl) rfl (lw_U q330 q1634 (Or.inr (by decide +kernel)) q332 q90 q333) rfl (by decide +kernel) rfl rfl ⟨Nat.le_of_ble_eq_true rfl, Nat.le_of_ble_eq_true rfl⟩ (Nat.le_of_ble_eq_true rfl) ⟨(by first | exact Nat.le_of_ble_eq_true rfl | (dsimp only [rmk]; omega) | omega), (by first | exact Nat.le_of_ble_eq_true rfl | (dsimp only [rmk]; omega) | omega)⟩ (rd_k ?_)
    exact rest G0 m 0 0 h hg (Or.inl rfl) FR.rf (by omega) (by omega)
  have gro : ¬ u.length + w.length ≤ m → WW Z 3 (fun G => G = G0) 0 0 21 [some (.ref a), some (.ref s), some (.int (iI (w.length : Nat)))] [.int (iI ((u.length : Nat) + (w.length : Nat) : Int)), .ref a] := by
    intro hg
    obtain ⟨x, hx⟩ : ∃ x : Nat, (if ((u.length + w.length : Nat) : Int) - (m : Int) < (m : Int) + 2 then (m : Int) + 2 else ((u.length + w.length : Nat) : Int) - (m : Int)) = (x : Int) := by
      split
      · exact ⟨m + 2, by omega⟩
      · exact ⟨u.length + w.length - m, by omega⟩
    have hxb : x ≤ m + 2 ∨ x ≤ 40 - m := by have := hx; split at this <;> omega
    have hxc : u.length + w.length ≤ m + x := by have := hx; split at this <;> omega
    rw [show ((u.length : Nat) : Int) + (w.length : Nat) = ((u.length + w.length : Nat) : Int) by omega]
    refine r_invU (pc := 21) (ci := 9) (owner := "java/lang/AbstractStringBuilder") (x2 := yJ7_ensureCapacityInternal) 1 C dJ7_append_2_21 (ja_grow (u.length + w.length) x h ht (by omega) ⟨by omega, by omega⟩ hx) (g2 k1) (show vwC[9]? = some (RJ8, TJ8, 4) from rfl) rfl (lw_U q330 q1634 (Or.inr (by decide +kernel)) q332 q90 q333) rfl (by decide +kernel) rfl rfl ⟨Nat.le_of_ble_eq_true rfl, Nat.le_of_ble_eq_true rfl⟩ (Nat.le_of_ble_eq_true rfl) ⟨by dsimp only [rmk]; omega, by dsimp only [rmk]; omega⟩ (fun v21 G21 h21 => ?_)
    obtain ⟨rfl, k4, k5⟩ := h21
    exact rest G21 (m + x) _ _ k4 hxc (by have := hx; split at this <;> omega) k5 (by dsimp only [rmk]; omega) (by dsimp only [rmk]; omega)
  refine r_aload_n (pc := 0) C dJ7_append_2_0 rfl rfl ?_
  refine r_ifnonnull (pc := 1) (tgt := 9) C dJ7_append_2_1 (by decide) ?_
  refine r_aload_n (pc := 9) C dJ7_append_2_9 rfl rfl ?_
  refine r_invV (pc := 10) (ci := 7) 0 C dJ7_append_2_10 (js_length hs) (g2 l1) (show vwC[7]? = some (RJ0, TJ0, 4) from rfl) rfl (lw_V q924 q452 q1641 q83 q454) (by decide +kernel) rfl rfl ⟨Nat.le_of_ble_eq_true rfl, Nat.le_of_ble_eq_true rfl⟩ (Nat.le_of_ble_eq_true rfl) ⟨(by first | exact Nat.le_of_ble_eq_true rfl | (dsimp only [rmk]; omega) | omega), (by first | exact Nat.le_of_ble_eq_true rfl | (dsimp only [rmk]; omega) | omega)⟩ (rd_k ?_)
  refine r_istore_n (pc := 13) C dJ7_append_2_13 rfl (by decide) ?_
  refine r_aload_n (pc := 14) C dJ7_append_2_14 rfl rfl ?_
  refine r_aload_n (pc := 15) C dJ7_append_2_15 rfl rfl ?_
  refine r_get (pc := 16) (k := 3) (ci := 9) C dJ7_append_2_16 (g1 k1) (show vwC[9]? = some (RJ8, TJ8, 4) from rfl) in_J8 (by decide) (C.t _ q265) (fun _ h => h) rfl ?_
  refine r_iload_n (pc := 19) C dJ7_append_2_19 rfl rfl ?_
  refine r_iaddZ (pc := 20) C dJ7_append_2_20 ?_
  by_cases hg : u.length + w.length ≤ m
  · exact fit hg
  · exact gro hg
set_option maxHeartbeats 800000 in
theorem jb_length {la : Launch} {X : XE} {G0 : Gh} {a t m : Nat} {w : Tx} (h : SB G0 a t w m) : MG la X yJ8_length cJ8_length 1 (some .int) (rmk 1 0 0 20) [.ref a] (fun G => G = G0) (fun zv G => zv = some (.int (iI (w.length : Nat))) ∧ G = G0) := by
  refine MG.ofF (by decide +kernel) (Nat.le_of_ble_eq_true rfl) ?_
  intro Z C hX hL hQ
  subst hX; subst hL
  change WW Z 1 (fun G => G = G0) 0 0 0 [some (.ref a)] []
  obtain ⟨ho, hl, hm, b, f, mb, k1, k2, k3⟩ := id h
  refine r_aload_n (pc := 0) C dJ8_length_0 rfl rfl ?_
  refine r_invSU (pc := 1) (ci := 9) 0 C dJ8_length_1 (ja_length h) (g2 k1) (show vwC[9]? = some (RJ8, TJ8, 4) from rfl) rfl (lw_SU q319 q1632 q274 q320 q90 q321) (by decide +kernel) rfl rfl ⟨Nat.le_of_ble_eq_true rfl, Nat.le_of_ble_eq_true rfl⟩ (Nat.le_of_ble_eq_true rfl) ⟨Nat.le_of_ble_eq_true rfl, Nat.le_of_ble_eq_true rfl⟩ (rd_k ?_)
  exact r_iret (pc := 4) C hQ dJ8_length_4 (Nat.le_of_ble_eq_true rfl) (Nat.le_of_ble_eq_true rfl) (fun G hG => ⟨rfl, hG⟩)
set_option maxHeartbeats 800000 in
theorem jb_charAt {la : Launch} {X : XE} {G0 : Gh} {a t m : Nat} {w : Tx} (k : Int) (h : SB G0 a t w m) (hk : 0 ≤ k ∧ k < w.length) : MG la X yJ8_charAt cJ8_charAt 2 (some .char) (rmk 3 0 0 67) [.ref a, .int (iI k)] (fun G => G = G0) (fun zv G => zv = some (.int (iI (tl w k.toNat : Nat))) ∧ G = G0) := by
  refine MG.ofF (by decide +kernel) (Nat.le_of_ble_eq_true rfl) ?_
  intro Z C hX hL hQ
  subst hX; subst hL
  change WW Z 2 (fun G => G = G0) 0 0 0 [some (.ref a), some (.int (iI k))] []
  obtain ⟨ho, hl, hm, b, f, mb, k1, k2, k3⟩ := id h
  have hc := tl_i ho k.toNat
  refine r_aload_n (pc := 0) C dJ8_charAt_0 rfl rfl ?_
  refine r_iload_n (pc := 1) C dJ8_charAt_1 rfl rfl ?_
  refine r_invSU (pc := 2) (ci := 9) 1 C dJ8_charAt_2 (ja_charAt k h hk) (g2 k1) (show vwC[9]? = some (RJ8, TJ8, 4) from rfl) rfl (lw_SU q484 q1638 q274 q485 q90 q486) (by decide +kernel) rfl rfl ⟨Nat.le_of_ble_eq_true rfl, Nat.le_of_ble_eq_true rfl⟩ (Nat.le_of_ble_eq_true rfl) ⟨Nat.le_of_ble_eq_true rfl, Nat.le_of_ble_eq_true rfl⟩ (rd_k ?_)
  exact r_zret (pc := 5) C hQ dJ8_charAt_5 (nar_c (by omega) (by omega)) (Nat.le_of_ble_eq_true rfl) (Nat.le_of_ble_eq_true rfl) (fun G hG => ⟨rfl, hG⟩)
set_option maxHeartbeats 800000 in
theorem jb_app {la : Launch} {X : XE} {G0 : Gh} {a t m : Nat} {w : Tx} (c : Nat) (h : SB G0 a t w m) (ht : t ≠ 0) (hlt : w.length < m) (hc : c < 128) : MG la X yJ8_append cJ8_append 2 (some (.object "java/lang/StringBuilder")) (rmk 2 0 0 43) [.ref a, .int (iI (c : Int))] (fun G => G = G0) (fun v G => v = some (.ref a) ∧ SB G a t (w ++ [c]) m ∧ FR [t] G0 G) := by
  refine MG.ofF (by decide +kernel) (Nat.le_of_ble_eq_true rfl) ?_
  intro Z C hX hL hQ
  subst hX; subst hL
  change WW Z 2 (fun G => G = G0) 0 0 0 [some (.ref a), some (.int (iI (c : Int)))] []
  obtain ⟨ho, hl, hm, b, f, mb, k1, k2, k3⟩ := id h
  refine r_aload_n (pc := 0) C dJ8_append_0 rfl rfl ?_
  refine r_iload_n (pc := 1) C dJ8_append_1 rfl rfl ?_
  refine r_invSU (pc := 2) (ci := 9) 1 C dJ8_append_2 (ja_app c h ht hlt hc) (g2 k1) (show vwC[9]? = some (RJ8, TJ8, 4) from rfl) rfl (lw_SU q327 q1633 q274 q328 q90 q329) (by decide +kernel) rfl rfl ⟨Nat.le_of_ble_eq_true rfl, Nat.le_of_ble_eq_true rfl⟩ (Nat.le_of_ble_eq_true rfl) ⟨(by first | exact Nat.le_of_ble_eq_true rfl | (dsimp only [rmk]; omega) | omega), (by first | exact Nat.le_of_ble_eq_true rfl | (dsimp only [rmk]; omega) | omega)⟩ (fun v2 G2 h2 => ?_)
  obtain ⟨rfl, q1, q2⟩ := h2
  refine r_pop (pc := 5) C dJ8_append_5 rfl ?_
  refine r_aload_n (pc := 6) C dJ8_append_6 rfl rfl ?_
  exact r_aret (pc := 7) C hQ dJ8_append_7 (by first | exact Or.inl ⟨_, rfl⟩ | exact Or.inr ⟨_, rfl⟩) (by first | exact Or.inr ⟨_, rfl⟩ | exact Or.inl rfl) (by first | exact Nat.le_of_ble_eq_true rfl | (dsimp only [rmk]; omega) | omega) (by first | exact Nat.le_of_ble_eq_true rfl | (dsimp only [rmk]; omega) | omega) (fun G hG => (by cases hG; exact ⟨rfl, q1, q2⟩))
set_option maxHeartbeats 800000 in
theorem jb_appg {la : Launch} {X : XE} {G0 : Gh} {a t m : Nat} {w : Tx} (c : Nat) (h : SB G0 a t w m) (ht : t ≠ 0) (hlt : w.length = m) (hm0 : m ≤ 20000) (hc : c < 128) : MG la X yJ8_append cJ8_append 2 (some (.object "java/lang/StringBuilder")) (rmk 5 1 (2*m+2) 112) [.ref a, .int (iI (c : Int))] (fun G => G = G0) (fun v G => v = some (.ref a) ∧ SB G a t (w ++ [c]) (2 * m + 2) ∧ FR [t] G0 G) := by
  refine MG.ofF (by decide +kernel) (Nat.le_of_ble_eq_true rfl) ?_
  intro Z C hX hL hQ
  subst hX; subst hL
  change WW Z 2 (fun G => G = G0) 0 0 0 [some (.ref a), some (.int (iI (c : Int)))] []
  obtain ⟨ho, hl, hm, b, f, mb, k1, k2, k3⟩ := id h
  refine r_aload_n (pc := 0) C dJ8_append_0 rfl rfl ?_
  refine r_iload_n (pc := 1) C dJ8_append_1 rfl rfl ?_
  refine r_invSU (pc := 2) (ci := 9) 1 C dJ8_append_2 (ja_appg c h ht hlt hm0 hc) (g2 k1) (show vwC[9]? = some (RJ8, TJ8, 4) from rfl) rfl (lw_SU q327 q1633 q274 q328 q90 q329) (by decide +kernel) rfl rfl ⟨Nat.le_of_ble_eq_true rfl, Nat.le_of_ble_eq_true rfl⟩ (Nat.le_of_ble_eq_true rfl) ⟨(by first | exact Nat.le_of_ble_eq_true rfl | (dsimp only [rmk]; omega) | omega), (by first | exact Nat.le_of_ble_eq_true rfl | (dsimp only [rmk]; omega) | omega)⟩ (fun v2 G2 h2 => ?_)
  obtain ⟨rfl, q1, q2⟩ := h2
  refine r_pop (pc := 5) C dJ8_append_5 rfl ?_
  refine r_aload_n (pc := 6) C dJ8_append_6 rfl rfl ?_
  exact r_aret (pc := 7) C hQ dJ8_append_7 (by first | exact Or.inl ⟨_, rfl⟩ | exact Or.inr ⟨_, rfl⟩) (by first | exact Or.inr ⟨_, rfl⟩ | exact Or.inl rfl) (by first | exact Nat.le_of_ble_eq_true rfl | (dsimp only [rmk]; omega) | omega) (by first | exact Nat.le_of_ble_eq_true rfl | (dsimp only [rmk]; omega) | omega) (fun G hG => (by cases hG; exact ⟨rfl, q1, q2⟩))
set_option maxHeartbeats 800000 in
theorem jb_apps {la : Launch} {X : XE} {G0 : Gh} {a t s m : Nat} {u w : Tx} (h : SB G0 a t u m) (hs : STR G0 s w) (ht : t ≠ 0) (hl2 : u.length + w.length ≤ 40) (hm2 : m ≤ 40) : MG la X yJ8_append_2 cJ8_append_2 2 (some (.object "java/lang/StringBuilder")) (rmk 5 1 90 113) [.ref a, .ref s] (fun G => G = G0) (fun v G => v = some (.ref a) ∧ (∃ m', (m' = m ∨ m' = 2 * m + 2 ∨ m' = u.length + w.length) ∧ SB G a t (u ++ w) m') ∧ FR [t] G0 G) := by
  refine MG.ofF (by decide +kernel) (Nat.le_of_ble_eq_true rfl) ?_
  intro Z C hX hL hQ
  subst hX; subst hL
  change WW Z 2 (fun G => G = G0) 0 0 0 [some (.ref a), some (.ref s)] []
  obtain ⟨ho, hl, hm, b, f, mb, k1, k2, k3⟩ := id h
  refine r_aload_n (pc := 0) C dJ8_append_2_0 rfl rfl ?_
  refine r_aload_n (pc := 1) C dJ8_append_2_1 rfl rfl ?_
  refine r_invSU (pc := 2) (ci := 9) 1 C dJ8_append_2_2 (ja_apps h hs ht hl2 hm2) (g2 k1) (show vwC[9]? = some (RJ8, TJ8, 4) from rfl) rfl (lw_SU q905 q1642 q274 q906 q90 q907) (by decide +kernel) rfl rfl ⟨Nat.le_of_ble_eq_true rfl, Nat.le_of_ble_eq_true rfl⟩ (Nat.le_of_ble_eq_true rfl) ⟨(by first | exact Nat.le_of_ble_eq_true rfl | (dsimp only [rmk]; omega) | omega), (by first | exact Nat.le_of_ble_eq_true rfl | (dsimp only [rmk]; omega) | omega)⟩ (fun v2 G2 h2 => ?_)
  obtain ⟨rfl, q1, q2⟩ := h2
  refine r_pop (pc := 5) C dJ8_append_2_5 rfl ?_
  refine r_aload_n (pc := 6) C dJ8_append_2_6 rfl rfl ?_
  exact r_aret (pc := 7) C hQ dJ8_append_2_7 (by first | exact Or.inl ⟨_, rfl⟩ | exact Or.inr ⟨_, rfl⟩) (by first | exact Or.inr ⟨_, rfl⟩ | exact Or.inl rfl) (by first | exact Nat.le_of_ble_eq_true rfl | (dsimp only [rmk]; omega) | omega) (by first | exact Nat.le_of_ble_eq_true rfl | (dsimp only [rmk]; omega) | omega) (fun G hG => (by cases hG; exact ⟨rfl, q1, q2⟩))
set_option maxHeartbeats 800000 in
theorem ja_clear {la : Launch} {X : XE} {G0 : Gh} {a t m : Nat} {w : Tx} (h : SB G0 a t w m) (ht : t ≠ 0) : MG la X yJ7_setLength cJ7_setLength 2 none (rmk 1 0 0 22) [.ref a, .int (iI 0)] (fun G => G = G0) (fun v G => v = none ∧ SB G a t [] m ∧ FR [t] G0 G) := by
  refine MG.ofF (by decide +kernel) (Nat.le_of_ble_eq_true rfl) ?_
  intro Z C hX hL hQ
  subst hX; subst hL
  change WW Z 2 (fun G => G = G0) 0 0 0 [some (.ref a), some (.int (iI 0))] []
  obtain ⟨ho, hl, hm, b, f, mb, k1, k2, k3⟩ := id h
  have fin : ∀ mb' : Int, WW Z 2 (P2 a t 9 [.ref b, .int (iI 0), .int (iI mb'), .int (iI (w.length : Nat))] b t 1 m f G0) 0 0 76 [some (.ref a), some (.int (iI 0))] [] := by
    intro mb'
    refine r_aload_n (pc := 76) C dJ7_setLength_76 rfl rfl ?_
    refine r_iload_n (pc := 77) C dJ7_setLength_77 rfl rfl ?_
    refine r_put (pc := 78) (k := 3) (ci := 9) (ty := .int) C dJ7_setLength_78 (fun G hG => ⟨_, ht, hG.1, hG.put⟩) (show vwC[9]? = some (RJ8, TJ8, 4) from rfl) in_J8 tyJ8 tyJ8_ok nmJ8 (by decide) (C.t _ q265) (fun _ h => h) rfl (by decide +kernel) rfl rfl (Nat.le_of_ble_eq_true rfl) ?_
    exact r_vret (pc := 81) C hQ dJ7_setLength_81 (by first | exact Nat.le_of_ble_eq_true rfl | (dsimp only [rmk]; omega) | omega) (by first | exact Nat.le_of_ble_eq_true rfl | (dsimp only [rmk]; omega) | omega) (fun G hG => ⟨rfl, hG.sb (w := []) rfl (by simp) (fun c hc => by cases hc) (by simp) hm (fun j hj => absurd hj (Nat.not_lt_zero _)), hG.fr k1 (Or.inl k2) (by simp) (by simp)⟩)
  refine r_iload_n (pc := 0) C dJ7_setLength_0 rfl rfl ?_
  refine r_if_geZ (pc := 1) (tgt := 13) C dJ7_setLength_1 (by decide) (by unfold i32; omega) (fun h1 => ?_) (fun h1 => absurd h1 (by omega))
  refine r_aload_n (pc := 13) C dJ7_setLength_13 rfl rfl ?_
  refine r_iload_n (pc := 14) C dJ7_setLength_14 rfl rfl ?_
  refine r_invU (pc := 15) (ci := 9) (owner := "java/lang/AbstractStringBuilder") (x2 := yJ7_ensureCapacityInternal) 1 C dJ7_setLength_15 (ja_fit 0 h ⟨by omega, by omega⟩) (g2 k1) (show vwC[9]? = some (RJ8, TJ8, 4) from rfl) rfl (lw_U q330 q1634 (Or.inr (by decide +kernel)) q332 q90 q333) rfl (by decide +kernel) rfl rfl ⟨Nat.le_of_ble_eq_true rfl, Nat.le_of_ble_eq_true rfl⟩ (Nat.le_of_ble_eq_true rfl) ⟨(by first | exact Nat.le_of_ble_eq_true rfl | (dsimp only [rmk]; omega) | omega), (by first | exact Nat.le_of_ble_eq_true rfl | (dsimp only [rmk]; omega) | omega)⟩ (rd_k ?_)
  refine r_aload_n (pc := 18) C dJ7_setLength_18 rfl rfl ?_
  refine r_get (pc := 19) (k := 3) (ci := 9) C dJ7_setLength_19 (g1 k1) (show vwC[9]? = some (RJ8, TJ8, 4) from rfl) in_J8 (by decide) (C.t _ q265) (fun _ h => h) rfl ?_
  refine r_iload_n (pc := 22) C dJ7_setLength_22 rfl rfl ?_
  refine r_icmp_geZ (pc := 23) (tgt := 63) C dJ7_setLength_23 (by decide) (by unfold i32; omega) (by unfold i32; omega) (fun h23 => ?_) (fun h23 => absurd h23 (by omega))
  refine r_aload_n (pc := 63) C dJ7_setLength_63 rfl rfl ?_
  refine r_get (pc := 64) (k := 3) (ci := 9) C dJ7_setLength_64 (g1 k1) (show vwC[9]? = some (RJ8, TJ8, 4) from rfl) in_J8 (by decide) (C.t _ q265) (fun _ h => h) rfl ?_
  refine r_iload_n (pc := 67) C dJ7_setLength_67 rfl rfl ?_
  refine r_icmp_leZ (pc := 68) (tgt := 76) C dJ7_setLength_68 (by decide) (by unfold i32; omega) (by unfold i32; omega) (fun h68 => ?_) (fun h68 => ?_)
  · first | exact fin 1 | exact ww_to (fun G hG => by rw [hG]; exact P2.rf k1 k2) (fin mb)
  · refine ww_to (Γ' := P2 a t 9 [.ref b, .int (iI 0), .int (iI mb), .int (iI (w.length : Nat))] b t 1 m f G0) (fun G hG => by rw [hG]; exact P2.rf k1 k2) ?_
    refine r_aload_n (pc := 71) C dJ7_setLength_71 rfl rfl ?_
    refine r_iconstZ (pc := 72) C dJ7_setLength_72 ?_
    refine r_put (pc := 73) (k := 2) (ci := 9) (ty := .boolean) C dJ7_setLength_73 (fun G hG => ⟨_, ht, hG.1, hG.put⟩) (show vwC[9]? = some (RJ8, TJ8, 4) from rfl) in_J8 tyJ8 tyJ8_ok nmJ8 (by decide) (C.t _ q263) (fun _ h => h) rfl (by decide +kernel) (by decide) (by decide) (Nat.le_of_ble_eq_true rfl) ?_
    first | exact fin 1 | exact ww_to (fun G hG => by rw [hG]; exact P2.rf k1 k2) (fin mb)
set_option maxHeartbeats 800000 in
theorem jb_clear {la : Launch} {X : XE} {G0 : Gh} {a t m : Nat} {w : Tx} (h : SB G0 a t w m) (ht : t ≠ 0) : MG la X yJ8_setLength cJ8_setLength 2 none (rmk 2 0 0 43) [.ref a, .int (iI 0)] (fun G => G = G0) (fun v G => v = none ∧ SB G a t [] m ∧ FR [t] G0 G) := by
  refine MG.ofF (by decide +kernel) (Nat.le_of_ble_eq_true rfl) ?_
  intro Z C hX hL hQ
  subst hX; subst hL
  change WW Z 2 (fun G => G = G0) 0 0 0 [some (.ref a), some (.int (iI 0))] []
  obtain ⟨ho, hl, hm, b, f, mb, k1, k2, k3⟩ := id h
  refine r_aload_n (pc := 0) C dJ8_setLength_0 rfl rfl ?_
  refine r_iload_n (pc := 1) C dJ8_setLength_1 rfl rfl ?_
  refine r_invSU (pc := 2) (ci := 9) 1 C dJ8_setLength_2 (ja_clear h ht) (g2 k1) (show vwC[9]? = some (RJ8, TJ8, 4) from rfl) rfl (lw_SU q417 q1637 q274 q418 q90 q419) (by decide +kernel) rfl rfl ⟨Nat.le_of_ble_eq_true rfl, Nat.le_of_ble_eq_true rfl⟩ (Nat.le_of_ble_eq_true rfl) ⟨(by first | exact Nat.le_of_ble_eq_true rfl | (dsimp only [rmk]; omega) | omega), (by first | exact Nat.le_of_ble_eq_true rfl | (dsimp only [rmk]; omega) | omega)⟩ (fun v2 G2 h2 => ?_)
  obtain ⟨rfl, q1, q2⟩ := h2
  exact r_vret (pc := 5) C hQ dJ8_setLength_5 (by first | exact Nat.le_of_ble_eq_true rfl | (dsimp only [rmk]; omega) | omega) (by first | exact Nat.le_of_ble_eq_true rfl | (dsimp only [rmk]; omega) | omega) (fun G hG => (by cases hG; exact ⟨rfl, q1, q2⟩))
set_option maxHeartbeats 800000 in
theorem ja_init {la : Launch} {X : XE} {G0 : Gh} {a t : Nat} (N : Nat) (h : G0 a = some (t, .inl (9, [.null, .int (iI 0), .int (iI 0), .int (iI 0)]))) (ht : t ≠ 0) (hN : N ≤ 100000) : MG la X yJ7_init cJ7_init 2 none (rmk 1 1 N 20) [.ref a, .int (iI (N : Int))] (fun G => G = G0) (fun v G => v = none ∧ SB G a t [] N ∧ FR [t] G0 G) := by
  refine MG.ofF (by decide +kernel) (Nat.le_of_ble_eq_true rfl) ?_
  intro Z C hX hL hQ
  subst hX; subst hL
  change WW Z 2 (fun G => G = G0) 0 0 0 [some (.ref a), some (.int (iI (N : Int)))] []
  refine r_aload_n (pc := 0) C dJ7_init_0 rfl rfl ?_
  refine r_objInit (pc := 1) (own := "") C dJ7_init_1 q252 q109 q110 (Nat.le_of_ble_eq_true rfl) (Nat.le_of_ble_eq_true rfl) ?_
  refine r_compact (pc := 4) C dJ7_init_4 q253 ?_
  refine r_if_eqZ (pc := 7) (tgt := 25) C dJ7_init_7 (by decide) (by unfold i32; omega) (fun h7 => absurd h7 (by omega)) (fun h7 => ?_)
  refine r_aload_n (pc := 10) C dJ7_init_10 rfl rfl ?_
  refine r_iload_n (pc := 11) C dJ7_init_11 rfl rfl ?_
  refine r_newaBE (pc := 12) t C dJ7_init_12 q215 (N := N) rfl hN (by first | exact Nat.le_of_ble_eq_true rfl | (dsimp only [rmk]; omega) | omega) (by first | exact Nat.le_of_ble_eq_true rfl | (dsimp only [rmk]; omega) | omega) (fun a12 n12 => ?_)
  refine ww_to (Γ' := P2 a t 9 [.null, .int (iI 0), .int (iI 0), .int (iI 0)] a12 t 1 N (fun _ => .int (iI 0)) G0) (fun G hG => by rw [hG]; exact P2.new h n12) ?_
  refine r_put (pc := 14) (k := 0) (ci := 9) (ty := .array .byte) C dJ7_init_14 (fun G hG => ⟨_, ht, hG.1, hG.put⟩) (show vwC[9]? = some (RJ8, TJ8, 4) from rfl) in_J8 tyJ8 tyJ8_ok nmJ8 (by decide) (C.t _ q261) (fun _ h => h) rfl (by decide +kernel) rfl rfl (Nat.le_of_ble_eq_true rfl) ?_
  refine r_aload_n (pc := 17) C dJ7_init_17 rfl rfl ?_
  refine r_iconstZ (pc := 18) C dJ7_init_18 ?_
  refine r_put (pc := 19) (k := 1) (ci := 9) (ty := .byte) C dJ7_init_19 (fun G hG => ⟨_, ht, hG.1, hG.put⟩) (show vwC[9]? = some (RJ8, TJ8, 4) from rfl) in_J8 tyJ8 tyJ8_ok nmJ8 (by decide) (C.t _ q262) (fun _ h => h) rfl (by decide +kernel) (by decide) (by decide) (Nat.le_of_ble_eq_true rfl) ?_
  refine r_goto (pc := 22) (tgt := 38) C dJ7_init_22 (by decide) ?_
  exact r_vret (pc := 38) C hQ dJ7_init_38 (by first | exact Nat.le_of_ble_eq_true rfl | (dsimp only [rmk]; omega) | omega) (by first | exact Nat.le_of_ble_eq_true rfl | (dsimp only [rmk]; omega) | omega) (fun G hG => ⟨rfl, hG.sb (w := []) (n := 0) rfl (by simp) (fun c hc => by cases hc) (by simp) hN (fun j hj => absurd hj (Nat.not_lt_zero _)), hG.frn h n12 (by simp)⟩)
set_option maxHeartbeats 800000 in
theorem jb_init {la : Launch} {X : XE} {G0 : Gh} {a t : Nat} (N : Nat) (h : G0 a = some (t, .inl (9, [.null, .int (iI 0), .int (iI 0), .int (iI 0)]))) (ht : t ≠ 0) (hN : N ≤ 100000) : MG la X yJ8_init cJ8_init 2 none (rmk 2 1 N 41) [.ref a, .int (iI (N : Int))] (fun G => G = G0) (fun v G => v = none ∧ SB G a t [] N ∧ FR [t] G0 G) := by
  refine MG.ofF (by decide +kernel) (Nat.le_of_ble_eq_true rfl) ?_
  intro Z C hX hL hQ
  subst hX; subst hL
  change WW Z 2 (fun G => G = G0) 0 0 0 [some (.ref a), some (.int (iI (N : Int)))] []
  refine r_aload_n (pc := 0) C dJ8_init_0 rfl rfl ?_
  refine r_iload_n (pc := 1) C dJ8_init_1 rfl rfl ?_
  refine r_invI (pc := 2) 1 C dJ8_init_2 (ja_init N h ht hN) rfl (lw_meth q251) q90 q249 q250 rfl (by decide +kernel) rfl rfl ⟨Nat.le_of_ble_eq_true rfl, Nat.le_of_ble_eq_true rfl⟩ (Nat.le_of_ble_eq_true rfl) ⟨(by first | exact Nat.le_of_ble_eq_true rfl | (dsimp only [rmk]; omega) | omega), (by first | exact Nat.le_of_ble_eq_true rfl | (dsimp only [rmk]; omega) | omega)⟩ (fun v2 G2 h2 => ?_)
  obtain ⟨rfl, q1, q2⟩ := h2
  exact r_vret (pc := 5) C hQ dJ8_init_5 (by first | exact Nat.le_of_ble_eq_true rfl | (dsimp only [rmk]; omega) | omega) (by first | exact Nat.le_of_ble_eq_true rfl | (dsimp only [rmk]; omega) | omega) (fun G hG => (by cases hG; exact ⟨rfl, q1, q2⟩))
set_option maxHeartbeats 800000 in
theorem jb_init16 {la : Launch} {X : XE} {G0 : Gh} {a t : Nat} (h : G0 a = some (t, .inl (9, [.null, .int (iI 0), .int (iI 0), .int (iI 0)]))) (ht : t ≠ 0) : MG la X yJ8_init_2 cJ8_init_2 1 none (rmk 2 1 16 41) [.ref a] (fun G => G = G0) (fun v G => v = none ∧ SB G a t [] 16 ∧ FR [t] G0 G) := by
  refine MG.ofF (by decide +kernel) (Nat.le_of_ble_eq_true rfl) ?_
  intro Z C hX hL hQ
  subst hX; subst hL
  change WW Z 1 (fun G => G = G0) 0 0 0 [some (.ref a)] []
  refine r_aload_n (pc := 0) C dJ8_init_2_0 rfl rfl ?_
  refine r_bipushZ (pc := 1) C dJ8_init_2_1 (by decide) ?_
  refine r_invI (pc := 3) 1 C dJ8_init_2_3 (ja_init 16 h ht (by omega)) rfl (lw_meth q251) q90 q249 q250 rfl (by decide +kernel) rfl rfl ⟨Nat.le_of_ble_eq_true rfl, Nat.le_of_ble_eq_true rfl⟩ (Nat.le_of_ble_eq_true rfl) ⟨(by first | exact Nat.le_of_ble_eq_true rfl | (dsimp only [rmk]; omega) | omega), (by first | exact Nat.le_of_ble_eq_true rfl | (dsimp only [rmk]; omega) | omega)⟩ (fun v3 G3 h3 => ?_)
  obtain ⟨rfl, q1, q2⟩ := h3
  exact r_vret (pc := 6) C hQ dJ8_init_2_6 (by first | exact Nat.le_of_ble_eq_true rfl | (dsimp only [rmk]; omega) | omega) (by first | exact Nat.le_of_ble_eq_true rfl | (dsimp only [rmk]; omega) | omega) (fun G hG => (by cases hG; exact ⟨rfl, q1, q2⟩))

