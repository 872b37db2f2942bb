/-! the component: what has a word -/
set_option maxRecDepth 100000
set_option maxHeartbeats 800000 in
theorem xw_unlike {la : Launch} {X : XE} {G0 : Gh} {s : Nat} {w : List Bool} (a b : Nat) (h : STR G0 s (txt w)) (hw : 0 < w.length ∧ w.length ≤ 20) (ha : a ≤ 1000) (hb : b ≤ 1000) : MG la X yX5_unlike cX5_unlike 4 (some .int) (rmk 4 0 0 85) [.ref s, .int (iI (a : Int)), .int (iI (b : Int))] (fun G => G = G0) (fun zv G => zv = some (.int (iI (unl w a b : Nat))) ∧ G = G0) := by
  refine MG.of (by decide +kernel) (Nat.le_of_ble_eq_true rfl) ?_
  intro Z C hX hL hQ
  subst hX; subst hL
  change WW Z 4 (fun G => G = G0) 0 0 0 [some (.ref s), some (.int (iI (a : Int))), some (.int (iI (b : Int))), none] []
  have loop : ∀ i : Nat, i ≤ w.length → (∀ j : Nat, j < i → wc w (a + j) = wc w (b + j)) → WW Z 4 (fun G => G = G0) 0 0 2 [some (.ref s), some (.int (iI (a : Int))), some (.int (iI (b : Int))), some (.int (iI (i : Int)))] [] := by
    refine loopN _ _ (fun i hi ih hj => ?_)
    have c1 := codeB_b (wc w (a + i))
    have c2 := codeB_b (wc w (b + i))
    refine r_iload_n (pc := 2) C dX5_unlike_2 rfl rfl ?_
    refine r_aload_n (pc := 3) C dX5_unlike_3 rfl rfl ?_
    refine r_invF (pc := 4) (ci := 7) (x2 := ⟨"java/lang/CharSequence", "length", "()I"⟩) 0 C dX5_unlike_4 (xs_length h) (gS h) (show vwC[7]? = some (RJ0, TJ0, 4) from rfl) rfl (lw_F q708 q450 q452 q83 q454) (by decide +kernel) (by decide +kernel) rfl rfl ⟨Nat.le_of_ble_eq_true rfl, Nat.le_of_ble_eq_true rfl⟩ (Nat.le_of_ble_eq_true rfl) ⟨Nat.le_of_ble_eq_true rfl, Nat.le_of_ble_eq_true rfl⟩ (rd_k ?_)
    refine r_icmp_geZ (pc := 9) (tgt := 53) C dX5_unlike_9 (by decide) (by unfold i32; omega) (by unfold i32; omega) (fun h9 => ?_) (fun h9 => ?_)
    · refine r_iload_n (pc := 53) C dX5_unlike_53 rfl rfl ?_
      exact r_iret (pc := 54) C hQ dX5_unlike_54 (Nat.le_of_ble_eq_true rfl) (Nat.le_of_ble_eq_true rfl) (fun G hG => ⟨(by rw [unl_eq hi hj (fun q e => by first | omega | exact h44 (by rw [e]))]), hG⟩)
    · refine r_aload_n (pc := 12) C dX5_unlike_12 rfl rfl ?_
      refine r_iload_n (pc := 13) C dX5_unlike_13 rfl rfl ?_
      refine r_iload_n (pc := 14) C dX5_unlike_14 rfl rfl ?_
      refine r_iaddZ (pc := 15) C dX5_unlike_15 ?_
      refine r_aload_n (pc := 16) C dX5_unlike_16 rfl rfl ?_
      refine r_invF (pc := 17) (ci := 7) (x2 := ⟨"java/lang/CharSequence", "length", "()I"⟩) 0 C dX5_unlike_17 (xs_length h) (gS h) (show vwC[7]? = some (RJ0, TJ0, 4) from rfl) rfl (lw_F q708 q450 q452 q83 q454) (by decide +kernel) (by decide +kernel) rfl rfl ⟨Nat.le_of_ble_eq_true rfl, Nat.le_of_ble_eq_true rfl⟩ (Nat.le_of_ble_eq_true rfl) ⟨Nat.le_of_ble_eq_true rfl, Nat.le_of_ble_eq_true rfl⟩ (rd_k ?_)
      refine r_iremE (pc := 22) C dX5_unlike_22 (by unfold i32; omega) (by unfold i32; omega) (by omega) (by omega) ?_
      refine r_invF (pc := 23) (ci := 7) (x2 := ⟨"java/lang/CharSequence", "charAt", "(I)C"⟩) 1 C dX5_unlike_23 (xs_atc a i h hw.1) (gS h) (show vwC[7]? = some (RJ0, TJ0, 4) from rfl) rfl (lw_F q727 q467 q469 q83 q471) (by decide +kernel) (by decide +kernel) rfl rfl ⟨Nat.le_of_ble_eq_true rfl, Nat.le_of_ble_eq_true rfl⟩ (Nat.le_of_ble_eq_true rfl) ⟨Nat.le_of_ble_eq_true rfl, Nat.le_of_ble_eq_true rfl⟩ (rd_k ?_)
      refine r_aload_n (pc := 28) C dX5_unlike_28 rfl rfl ?_
      refine r_iload_n (pc := 29) C dX5_unlike_29 rfl rfl ?_
      refine r_iload_n (pc := 30) C dX5_unlike_30 rfl rfl ?_
      refine r_iaddZ (pc := 31) C dX5_unlike_31 ?_
      refine r_aload_n (pc := 32) C dX5_unlike_32 rfl rfl ?_
      refine r_invF (pc := 33) (ci := 7) (x2 := ⟨"java/lang/CharSequence", "length", "()I"⟩) 0 C dX5_unlike_33 (xs_length h) (gS h) (show vwC[7]? = some (RJ0, TJ0, 4) from rfl) rfl (lw_F q708 q450 q452 q83 q454) (by decide +kernel) (by decide +kernel) rfl rfl ⟨Nat.le_of_ble_eq_true rfl, Nat.le_of_ble_eq_true rfl⟩ (Nat.le_of_ble_eq_true rfl) ⟨Nat.le_of_ble_eq_true rfl, Nat.le_of_ble_eq_true rfl⟩ (rd_k ?_)
      refine r_iremE (pc := 38) C dX5_unlike_38 (by unfold i32; omega) (by unfold i32; omega) (by omega) (by omega) ?_
      refine r_invF (pc := 39) (ci := 7) (x2 := ⟨"java/lang/CharSequence", "charAt", "(I)C"⟩) 1 C dX5_unlike_39 (xs_atc b i h hw.1) (gS h) (show vwC[7]? = some (RJ0, TJ0, 4) from rfl) rfl (lw_F q727 q467 q469 q83 q471) (by decide +kernel) (by decide +kernel) rfl rfl ⟨Nat.le_of_ble_eq_true rfl, Nat.le_of_ble_eq_true rfl⟩ (Nat.le_of_ble_eq_true rfl) ⟨Nat.le_of_ble_eq_true rfl, Nat.le_of_ble_eq_true rfl⟩ (rd_k ?_)
      refine r_icmp_neZ (pc := 44) (tgt := 53) C dX5_unlike_44 (by decide) (by unfold i32; omega) (by unfold i32; omega) (fun h44 => ?_) (fun h44 => ?_)
      · refine r_iload_n (pc := 53) C dX5_unlike_53 rfl rfl ?_
        exact r_iret (pc := 54) C hQ dX5_unlike_54 (Nat.le_of_ble_eq_true rfl) (Nat.le_of_ble_eq_true rfl) (fun G hG => ⟨(by rw [unl_eq hi hj (fun q e => by first | omega | exact h44 (by rw [e]))]), hG⟩)
      · refine r_iincZ (pc := 47) C dX5_unlike_47 rfl (by decide) ?_
        refine r_goto (pc := 50) (tgt := 2) C dX5_unlike_50 (by decide) ?_
        refine ih (by omega) (fun j hj2 => ?_)
        by_cases e : j = i
        · rw [e]; exact codeB_inj.mp h44
        · exact hj j (by omega)
  refine r_iconstZ (pc := 0) C dX5_unlike_0 ?_
  refine r_istore_n (pc := 1) C dX5_unlike_1 rfl (by decide) ?_
  exact loop 0 (Nat.zero_le _) (fun j hj => absurd hj (Nat.not_lt_zero _))
set_option maxHeartbeats 800000 in
theorem xw_least {la : Launch} {X : XE} {G0 : Gh} {s : Nat} {w : List Bool} (h : STR G0 s (txt w)) (hw : 0 < w.length ∧ w.length ≤ 20) : MG la X yX5_least cX5_least 4 (some .int) (rmk 5 0 0 108) [.ref s] (fun G => G = G0) (fun zv G => zv = some (.int (iI (wLeast w : Nat))) ∧ G = G0) := by
  refine MG.of (by decide +kernel) (Nat.le_of_ble_eq_true rfl) ?_
  intro Z C hX hL hQ
  subst hX; subst hL
  change WW Z 4 (fun G => G = G0) 0 0 0 [some (.ref s), none, none, none] []
  have loop : ∀ m : Nat, m ≤ w.length - 1 → ∀ v3 : Option Value, WW Z 4 (fun G => G = G0) 0 0 4 [some (.ref s), some (.int (iI (wLeastN w m : Nat))), some (.int (iI ((m : Int) + 1))), v3] [] := by
    refine loopN _ _ (fun m hm ih v3 => ?_)
    have hb := wLeastN_le w m
    have hu := (unl_spec w (m + 1) (wLeastN w m)).2.2
    have c1 := codeB_b (wc w (m + 1 + unl w (m + 1) (wLeastN w m)))
    refine r_iload_n (pc := 4) C dX5_least_4 rfl rfl ?_
    refine r_aload_n (pc := 5) C dX5_least_5 rfl rfl ?_
    refine r_invF (pc := 6) (ci := 7) (x2 := ⟨"java/lang/CharSequence", "length", "()I"⟩) 0 C dX5_least_6 (xs_length h) (gS h) (show vwC[7]? = some (RJ0, TJ0, 4) from rfl) rfl (lw_F q708 q450 q452 q83 q454) (by decide +kernel) (by decide +kernel) rfl rfl ⟨Nat.le_of_ble_eq_true rfl, Nat.le_of_ble_eq_true rfl⟩ (Nat.le_of_ble_eq_true rfl) ⟨Nat.le_of_ble_eq_true rfl, Nat.le_of_ble_eq_true rfl⟩ (rd_k ?_)
    refine r_icmp_geZ (pc := 11) (tgt := 64) C dX5_least_11 (by decide) (by unfold i32; omega) (by unfold i32; omega) (fun h11 => ?_) (fun h11 => ?_)
    · refine r_iload_n (pc := 64) C dX5_least_64 rfl rfl ?_
      exact r_iret (pc := 65) C hQ dX5_least_65 (Nat.le_of_ble_eq_true rfl) (Nat.le_of_ble_eq_true rfl) (fun G hG => ⟨(by unfold wLeast; rw [show w.length - 1 = m by omega]), hG⟩)
    · refine r_aload_n (pc := 14) C dX5_least_14 rfl rfl ?_
      refine r_iload_n (pc := 15) C dX5_least_15 rfl rfl ?_
      refine r_iload_n (pc := 16) C dX5_least_16 rfl rfl ?_
      refine r_invS (pc := 17) 3 C dX5_least_17 (xw_unlike (m + 1) (wLeastN w m) h hw (by omega) (by omega)) rfl (lw_S q740 q734 q100 q735) (by decide +kernel) rfl rfl ⟨Nat.le_of_ble_eq_true rfl, Nat.le_of_ble_eq_true rfl⟩ (Nat.le_of_ble_eq_true rfl) ⟨Nat.le_of_ble_eq_true rfl, Nat.le_of_ble_eq_true rfl⟩ (rd_k ?_)
      refine r_istore_n (pc := 20) C dX5_least_20 rfl (by decide) ?_
      refine r_iload_n (pc := 21) C dX5_least_21 rfl rfl ?_
      refine r_aload_n (pc := 22) C dX5_least_22 rfl rfl ?_
      refine r_invF (pc := 23) (ci := 7) (x2 := ⟨"java/lang/CharSequence", "length", "()I"⟩) 0 C dX5_least_23 (xs_length h) (gS h) (show vwC[7]? = some (RJ0, TJ0, 4) from rfl) rfl (lw_F q708 q450 q452 q83 q454) (by decide +kernel) (by decide +kernel) rfl rfl ⟨Nat.le_of_ble_eq_true rfl, Nat.le_of_ble_eq_true rfl⟩ (Nat.le_of_ble_eq_true rfl) ⟨Nat.le_of_ble_eq_true rfl, Nat.le_of_ble_eq_true rfl⟩ (rd_k ?_)
      refine r_icmp_geZ (pc := 28) (tgt := 56) C dX5_least_28 (by decide) (by unfold i32; omega) (by unfold i32; omega) (fun h28 => ?_) (fun h28 => ?_)
      · refine r_iload_n (pc := 56) C dX5_least_56 rfl rfl ?_
        refine r_istore_n (pc := 57) C dX5_least_57 rfl (by decide) ?_
        refine r_iincZ (pc := 58) C dX5_least_58 rfl (by decide) ?_
        refine r_goto (pc := 61) (tgt := 4) C dX5_least_61 (by decide) ?_
        have e : wLeastN w (m + 1) = if wcmp w (m + 1) (wLeastN w m) < 0 then m + 1 else wLeastN w m := rfl
        have e2 := ih (by omega) (some (.int (iI (unl w (m + 1) (wLeastN w m) : Nat))))
        rw [e] at e2
        first | (rw [if_pos (wcmp_neg.mpr ⟨by omega, codeB_L.mp h49⟩)] at e2; exact e2) | (rw [if_neg (fun q => by have := wcmp_neg.mp q; first | omega | exact h49 (codeB_L.mpr this.2))] at e2; exact e2)
      · refine r_aload_n (pc := 31) C dX5_least_31 rfl rfl ?_
        refine r_iload_n (pc := 32) C dX5_least_32 rfl rfl ?_
        refine r_iload_n (pc := 33) C dX5_least_33 rfl rfl ?_
        refine r_iaddZ (pc := 34) C dX5_least_34 ?_
        refine r_aload_n (pc := 35) C dX5_least_35 rfl rfl ?_
        refine r_invF (pc := 36) (ci := 7) (x2 := ⟨"java/lang/CharSequence", "length", "()I"⟩) 0 C dX5_least_36 (xs_length h) (gS h) (show vwC[7]? = some (RJ0, TJ0, 4) from rfl) rfl (lw_F q708 q450 q452 q83 q454) (by decide +kernel) (by decide +kernel) rfl rfl ⟨Nat.le_of_ble_eq_true rfl, Nat.le_of_ble_eq_true rfl⟩ (Nat.le_of_ble_eq_true rfl) ⟨Nat.le_of_ble_eq_true rfl, Nat.le_of_ble_eq_true rfl⟩ (rd_k ?_)
        refine r_iremE (pc := 41) C dX5_least_41 (by unfold i32; omega) (by unfold i32; omega) (by omega) (by omega) ?_
        refine r_invF (pc := 42) (ci := 7) (x2 := ⟨"java/lang/CharSequence", "charAt", "(I)C"⟩) 1 C dX5_least_42 (xs_atc (m + 1) (unl w (m + 1) (wLeastN w m)) h hw.1) (gS h) (show vwC[7]? = some (RJ0, TJ0, 4) from rfl) rfl (lw_F q727 q467 q469 q83 q471) (by decide +kernel) (by decide +kernel) rfl rfl ⟨Nat.le_of_ble_eq_true rfl, Nat.le_of_ble_eq_true rfl⟩ (Nat.le_of_ble_eq_true rfl) ⟨Nat.le_of_ble_eq_true rfl, Nat.le_of_ble_eq_true rfl⟩ (rd_k ?_)
        refine r_bipushZ (pc := 47) C dX5_least_47 (by decide) ?_
        refine r_icmp_neZ (pc := 49) (tgt := 56) C dX5_least_49 (by decide) (by unfold i32; omega) (by unfold i32; omega) (fun h49 => ?_) (fun h49 => ?_)
        · refine r_iload_n (pc := 56) C dX5_least_56 rfl rfl ?_
          refine r_istore_n (pc := 57) C dX5_least_57 rfl (by decide) ?_
          refine r_iincZ (pc := 58) C dX5_least_58 rfl (by decide) ?_
          refine r_goto (pc := 61) (tgt := 4) C dX5_least_61 (by decide) ?_
          have e : wLeastN w (m + 1) = if wcmp w (m + 1) (wLeastN w m) < 0 then m + 1 else wLeastN w m := rfl
          have e2 := ih (by omega) (some (.int (iI (unl w (m + 1) (wLeastN w m) : Nat))))
          rw [e] at e2
          first | (rw [if_pos (wcmp_neg.mpr ⟨by omega, codeB_L.mp h49⟩)] at e2; exact e2) | (rw [if_neg (fun q => by have := wcmp_neg.mp q; first | omega | exact h49 (codeB_L.mpr this.2))] at e2; exact e2)
        · refine r_iload_n (pc := 52) C dX5_least_52 rfl rfl ?_
          refine r_goto (pc := 53) (tgt := 57) C dX5_least_53 (by decide) ?_
          refine r_istore_n (pc := 57) C dX5_least_57 rfl (by decide) ?_
          refine r_iincZ (pc := 58) C dX5_least_58 rfl (by decide) ?_
          refine r_goto (pc := 61) (tgt := 4) C dX5_least_61 (by decide) ?_
          have e : wLeastN w (m + 1) = if wcmp w (m + 1) (wLeastN w m) < 0 then m + 1 else wLeastN w m := rfl
          have e2 := ih (by omega) (some (.int (iI (unl w (m + 1) (wLeastN w m) : Nat))))
          rw [e] at e2
          first | (rw [if_pos (wcmp_neg.mpr ⟨by omega, codeB_L.mp h49⟩)] at e2; exact e2) | (rw [if_neg (fun q => by have := wcmp_neg.mp q; first | omega | exact h49 (codeB_L.mpr this.2))] at e2; exact e2)
  refine r_iconstZ (pc := 0) C dX5_least_0 ?_
  refine r_istore_n (pc := 1) C dX5_least_1 rfl (by decide) ?_
  refine r_iconstZ (pc := 2) C dX5_least_2 ?_
  refine r_istore_n (pc := 3) C dX5_least_3 rfl (by decide) ?_
  exact loop 0 (Nat.zero_le _) none
set_option maxHeartbeats 800000 in
theorem xw_turned {la : Launch} {X : XE} {G0 : Gh} {s : Nat} {w : List Bool} (b : Nat) (h : STR G0 s (txt w)) (hw : 0 < w.length ∧ w.length ≤ 20) (hb : b ≤ 1000) : MG la X yX5_turned cX5_turned 4 (some (.object "java/lang/String")) (rmk 6 4 48 151) [.ref s, .int (iI (b : Int))] (fun G => G = G0) (fun v G => ∃ x, v = some (.ref x) ∧ STR G x (txt (wTurned w b)) ∧ FR [9] G0 G) := by
  refine MG.of (by decide +kernel) (Nat.le_of_ble_eq_true rfl) ?_
  intro Z C hX hL hQ
  subst hX; subst hL
  change WW Z 4 (fun G => G = G0) 0 0 0 [some (.ref s), some (.int (iI (b : Int))), none, none] []
  have loop : ∀ (a0 i : Nat), i ≤ w.length → WW Z 4 (fun G => SB G a0 9 (txt ((wTurned w b).take i)) w.length ∧ FR [9] G0 G) 2 24 16 [some (.ref s), some (.int (iI (b : Int))), some (.ref a0), some (.int (iI (i : Int)))] [] := by
    intro a0
    refine loopN _ _ (fun i hi ih => ?_)
    refine ww_all (fun G1 hG1 => ?_)
    obtain ⟨q1, q2⟩ := hG1
    have h1 := h.fr q2 (by decide)
    refine r_iload_n (pc := 16) C dX5_turned_16 rfl rfl ?_
    refine r_aload_n (pc := 17) C dX5_turned_17 rfl rfl ?_
    refine r_invF (pc := 18) (ci := 7) (x2 := ⟨"java/lang/CharSequence", "length", "()I"⟩) 0 C dX5_turned_18 (xs_length h1) (gS h1) (show vwC[7]? = some (RJ0, TJ0, 4) from rfl) rfl (lw_F q708 q450 q452 q83 q454) (by decide +kernel) (by decide +kernel) rfl rfl ⟨Nat.le_of_ble_eq_true rfl, Nat.le_of_ble_eq_true rfl⟩ (Nat.le_of_ble_eq_true rfl) ⟨(by first | exact Nat.le_of_ble_eq_true rfl | (dsimp only [rmk]; omega) | omega), (by first | exact Nat.le_of_ble_eq_true rfl | (dsimp only [rmk]; omega) | omega)⟩ (rd_k ?_)
    refine r_icmp_geZ (pc := 23) (tgt := 53) C dX5_turned_23 (by decide) (by unfold i32; omega) (by unfold i32; omega) (fun h23 => ?_) (fun h23 => ?_)
    · rw [List.take_of_length_le (show (wTurned w b).length ≤ i by rw [wTurned_len]; omega)] at q1
      refine r_aload_n (pc := 53) C dX5_turned_53 rfl rfl ?_
      refine r_invV (pc := 54) (ci := 9) 0 C dX5_turned_54 (xb_toString q1 (by decide)) (gB q1) (show vwC[9]? = some (RJ8, TJ8, 4) from rfl) rfl (lw_V q763 q524 q525 q91 q526) (by decide +kernel) rfl rfl ⟨Nat.le_of_ble_eq_true rfl, Nat.le_of_ble_eq_true rfl⟩ (Nat.le_of_ble_eq_true rfl) ⟨by dsimp only [rmk]; omega, by dsimp only [rmk]; rw [wTurned_len]; omega⟩ (fun v54 G54 h54 => ?_)
      obtain ⟨x, rfl, r1, r2⟩ := h54
      exact r_aret (pc := 57) C hQ dX5_turned_57 (by first | exact Or.inl ⟨_, rfl⟩ | exact Or.inr ⟨_, rfl⟩) (by first | exact Or.inr ⟨_, rfl⟩ | exact Or.inl rfl) (by dsimp only [rmk]; omega) (by dsimp only [rmk]; rw [wTurned_len]; omega) (fun G hG => (by cases hG; exact ⟨x, rfl, r1, q2.tr (r2.nil _)⟩))
    · refine r_aload_n (pc := 26) C dX5_turned_26 rfl rfl ?_
      refine r_aload_n (pc := 27) C dX5_turned_27 rfl rfl ?_
      refine r_iload_n (pc := 28) C dX5_turned_28 rfl rfl ?_
      refine r_iload_n (pc := 29) C dX5_turned_29 rfl rfl ?_
      refine r_iaddZ (pc := 30) C dX5_turned_30 ?_
      refine r_aload_n (pc := 31) C dX5_turned_31 rfl rfl ?_
      refine r_invF (pc := 32) (ci := 7) (x2 := ⟨"java/lang/CharSequence", "length", "()I"⟩) 0 C dX5_turned_32 (xs_length h1) (gS h1) (show vwC[7]? = some (RJ0, TJ0, 4) from rfl) rfl (lw_F q708 q450 q452 q83 q454) (by decide +kernel) (by decide +kernel) rfl rfl ⟨Nat.le_of_ble_eq_true rfl, Nat.le_of_ble_eq_true rfl⟩ (Nat.le_of_ble_eq_true rfl) ⟨(by first | exact Nat.le_of_ble_eq_true rfl | (dsimp only [rmk]; omega) | omega), (by first | exact Nat.le_of_ble_eq_true rfl | (dsimp only [rmk]; omega) | omega)⟩ (rd_k ?_)
      refine r_iremE (pc := 37) C dX5_turned_37 (by unfold i32; omega) (by unfold i32; omega) (by omega) (by omega) ?_
      refine r_invF (pc := 38) (ci := 7) (x2 := ⟨"java/lang/CharSequence", "charAt", "(I)C"⟩) 1 C dX5_turned_38 (xs_atc i b h1 hw.1) (gS h1) (show vwC[7]? = some (RJ0, TJ0, 4) from rfl) rfl (lw_F q727 q467 q469 q83 q471) (by decide +kernel) (by decide +kernel) rfl rfl ⟨Nat.le_of_ble_eq_true rfl, Nat.le_of_ble_eq_true rfl⟩ (Nat.le_of_ble_eq_true rfl) ⟨(by first | exact Nat.le_of_ble_eq_true rfl | (dsimp only [rmk]; omega) | omega), (by first | exact Nat.le_of_ble_eq_true rfl | (dsimp only [rmk]; omega) | omega)⟩ (rd_k ?_)
      refine r_invV (pc := 43) (ci := 9) 1 C dX5_turned_43 (xb_app (wc w (i + b)) q1 (by decide) (by rw [List.length_take, wTurned_len]; omega)) (gB q1) (show vwC[9]? = some (RJ8, TJ8, 4) from rfl) rfl (lw_V q762 q324 q325 q91 q326) (by decide +kernel) rfl rfl ⟨Nat.le_of_ble_eq_true rfl, Nat.le_of_ble_eq_true rfl⟩ (Nat.le_of_ble_eq_true rfl) ⟨(by first | exact Nat.le_of_ble_eq_true rfl | (dsimp only [rmk]; omega) | omega), (by first | exact Nat.le_of_ble_eq_true rfl | (dsimp only [rmk]; omega) | omega)⟩ (fun v43 G43 h43 => ?_)
      obtain ⟨rfl, r1, r2⟩ := h43
      have e := take_push (w := wTurned w b) (k := i) (by rw [wTurned_len]; omega)
      rw [wTurned_at w b (by omega)] at e
      rw [← e] at r1
      refine r_pop (pc := 46) C dX5_turned_46 rfl ?_
      refine r_iincZ (pc := 47) C dX5_turned_47 rfl (by decide) ?_
      refine r_goto (pc := 50) (tgt := 16) C dX5_turned_50 (by decide) ?_
      exact ww_to (fun G hG => by rw [hG]; exact ⟨r1, q2.tr r2⟩) (ih (by omega))
  refine r_newE (pc := 0) (ci := 9) (fs := [.null, .int (iI 0), .int (iI 0), .int (iI 0)]) 9 C dX5_turned_0 (show vwC[9]? = some (RJ8, TJ8, 4) from rfl) in_J8 tyJ8 tyJ8_ok q760 q245 q91 (by decide +kernel) (by first | exact Nat.le_of_ble_eq_true rfl | (dsimp only [rmk]; omega) | omega) (by first | exact Nat.le_of_ble_eq_true rfl | (dsimp only [rmk]; omega) | omega) (fun a0 n0 => ?_)
  refine r_dup (pc := 3) C dX5_turned_3 rfl ?_
  refine r_aload_n (pc := 4) C dX5_turned_4 rfl rfl ?_
  refine r_invF (pc := 5) (ci := 7) (x2 := ⟨"java/lang/CharSequence", "length", "()I"⟩) 0 C dX5_turned_5 (xs_length (h.fr (FR.new (ts := [9]) n0) (by decide))) (gS (h.fr (FR.new (ts := [9]) n0) (by decide))) (show vwC[7]? = some (RJ0, TJ0, 4) from rfl) rfl (lw_F q708 q450 q452 q83 q454) (by decide +kernel) (by decide +kernel) rfl rfl ⟨Nat.le_of_ble_eq_true rfl, Nat.le_of_ble_eq_true rfl⟩ (Nat.le_of_ble_eq_true rfl) ⟨(by first | exact Nat.le_of_ble_eq_true rfl | (dsimp only [rmk]; omega) | omega), (by first | exact Nat.le_of_ble_eq_true rfl | (dsimp only [rmk]; omega) | omega)⟩ (rd_k ?_)
  refine r_invI (pc := 10) 1 C dX5_turned_10 (jb_init w.length (gup_eq _ _ _) (by decide) (by omega)) rfl (lw_meth q248) q91 q761 q247 rfl (by decide +kernel) rfl rfl ⟨Nat.le_of_ble_eq_true rfl, Nat.le_of_ble_eq_true rfl⟩ (Nat.le_of_ble_eq_true rfl) ⟨(by first | exact Nat.le_of_ble_eq_true rfl | (dsimp only [rmk]; omega) | omega), (by first | exact Nat.le_of_ble_eq_true rfl | (dsimp only [rmk]; omega) | omega)⟩ (fun v10 G10 h10 => ?_)
  obtain ⟨rfl, q1, q2⟩ := h10
  have q3 := (FR.new (ts := [9]) n0).tr q2
  refine r_astore_n (pc := 13) C dX5_turned_13 rfl (by decide) ?_
  refine ww_wide (n' := 2) (s' := 24) (by dsimp only [rmk]; omega) (by dsimp only [rmk]; omega) ?_
  refine r_iconstZ (pc := 14) C dX5_turned_14 ?_
  refine r_istore_n (pc := 15) C dX5_turned_15 rfl (by decide) ?_
  exact ww_to (fun G hG => by rw [hG]; exact ⟨q1, q3⟩) (loop a0 0 (Nat.zero_le _))
set_option maxHeartbeats 800000 in
theorem xw_back {la : Launch} {X : XE} {G0 : Gh} {s : Nat} {w : List Bool} (h : STR G0 s (txt w)) (hw : 0 < w.length ∧ w.length ≤ 20) : MG la X yX5_back cX5_back 3 (some (.object "java/lang/String")) (rmk 6 4 48 151) [.ref s] (fun G => G = G0) (fun v G => ∃ x, v = some (.ref x) ∧ STR G x (txt (wOther w true false)) ∧ FR [9] G0 G) := by
  refine MG.of (by decide +kernel) (Nat.le_of_ble_eq_true rfl) ?_
  intro Z C hX hL hQ
  subst hX; subst hL
  change WW Z 3 (fun G => G = G0) 0 0 0 [some (.ref s), none, none] []
  have loop : ∀ (a0 i : Nat), i ≤ w.length → WW Z 3 (fun G => SB G a0 9 (txt ((wOther w true false).take i)) w.length ∧ FR [9] G0 G) 2 24 23 [some (.ref s), some (.ref a0), some (.int (iI ((w.length : Nat) - 1 - (i : Int))))] [] := by
    intro a0
    refine loopN _ _ (fun i hi ih => ?_)
    refine ww_all (fun G1 hG1 => ?_)
    obtain ⟨q1, q2⟩ := hG1
    have h1 := h.fr q2 (by decide)
    refine r_iload_n (pc := 23) C dX5_back_23 rfl rfl ?_
    refine r_if_ltZ (pc := 24) (tgt := 45) C dX5_back_24 (by decide) (by unfold i32; omega) (fun h24 => ?_) (fun h24 => ?_)
    · rw [List.take_of_length_le (show (wOther w true false).length ≤ i by rw [wOther_len]; omega)] at q1
      refine r_aload_n (pc := 45) C dX5_back_45 rfl rfl ?_
      refine r_invV (pc := 46) (ci := 9) 0 C dX5_back_46 (xb_toString q1 (by decide)) (gB q1) (show vwC[9]? = some (RJ8, TJ8, 4) from rfl) rfl (lw_V q763 q524 q525 q91 q526) (by decide +kernel) rfl rfl ⟨Nat.le_of_ble_eq_true rfl, Nat.le_of_ble_eq_true rfl⟩ (Nat.le_of_ble_eq_true rfl) ⟨by dsimp only [rmk]; omega, by dsimp only [rmk]; rw [wOther_len]; omega⟩ (fun v46 G46 h46 => ?_)
      obtain ⟨x, rfl, r1, r2⟩ := h46
      exact r_aret (pc := 49) C hQ dX5_back_49 (by first | exact Or.inl ⟨_, rfl⟩ | exact Or.inr ⟨_, rfl⟩) (by first | exact Or.inr ⟨_, rfl⟩ | exact Or.inl rfl) (by dsimp only [rmk]; omega) (by dsimp only [rmk]; rw [wOther_len]; omega) (fun G hG => (by cases hG; exact ⟨x, rfl, r1, q2.tr (r2.nil _)⟩))
    · refine r_aload_n (pc := 27) C dX5_back_27 rfl rfl ?_
      refine r_aload_n (pc := 28) C dX5_back_28 rfl rfl ?_
      refine r_iload_n (pc := 29) C dX5_back_29 rfl rfl ?_
      refine r_invF (pc := 30) (ci := 7) (x2 := ⟨"java/lang/CharSequence", "charAt", "(I)C"⟩) 1 C dX5_back_30 (xs_at ((w.length : Nat) - 1 - (i : Int)) h1 ⟨by omega, by omega⟩) (gS h1) (show vwC[7]? = some (RJ0, TJ0, 4) from rfl) rfl (lw_F q727 q467 q469 q83 q471) (by decide +kernel) (by decide +kernel) rfl rfl ⟨Nat.le_of_ble_eq_true rfl, Nat.le_of_ble_eq_true rfl⟩ (Nat.le_of_ble_eq_true rfl) ⟨(by first | exact Nat.le_of_ble_eq_true rfl | (dsimp only [rmk]; omega) | omega), (by first | exact Nat.le_of_ble_eq_true rfl | (dsimp only [rmk]; omega) | omega)⟩ (rd_k ?_)
      have e := take_push (w := wOther w true false) (k := i) (by rw [wOther_len]; omega)
      rw [wOther_at w true false (by omega), if_pos rfl, Bool.bne_false] at e
      rw [show ((w.length : Nat) - 1 - (i : Int)).toNat = w.length - 1 - i by omega]
      refine r_invV (pc := 35) (ci := 9) 1 C dX5_back_35 (xb_app (wl w (w.length - 1 - i)) q1 (by decide) (by rw [List.length_take, wOther_len]; omega)) (gB q1) (show vwC[9]? = some (RJ8, TJ8, 4) from rfl) rfl (lw_V q762 q324 q325 q91 q326) (by decide +kernel) rfl rfl ⟨Nat.le_of_ble_eq_true rfl, Nat.le_of_ble_eq_true rfl⟩ (Nat.le_of_ble_eq_true rfl) ⟨(by first | exact Nat.le_of_ble_eq_true rfl | (dsimp only [rmk]; omega) | omega), (by first | exact Nat.le_of_ble_eq_true rfl | (dsimp only [rmk]; omega) | omega)⟩ (fun v35 G35 h35 => ?_)
      obtain ⟨rfl, r1, r2⟩ := h35
      rw [← e] at r1
      refine r_pop (pc := 38) C dX5_back_38 rfl ?_
      refine r_iincZ (pc := 39) C dX5_back_39 rfl (by decide) ?_
      refine r_goto (pc := 42) (tgt := 23) C dX5_back_42 (by decide) ?_
      rw [show ((w.length : Nat) - 1 - (i : Int)) + (-1) = (w.length : Nat) - 1 - ((i + 1 : Nat) : Int) by omega]
      exact ww_to (fun G hG => by rw [hG]; exact ⟨r1, q2.tr r2⟩) (ih (by omega))
  refine r_newE (pc := 0) (ci := 9) (fs := [.null, .int (iI 0), .int (iI 0), .int (iI 0)]) 9 C dX5_back_0 (show vwC[9]? = some (RJ8, TJ8, 4) from rfl) in_J8 tyJ8 tyJ8_ok q760 q245 q91 (by decide +kernel) (by first | exact Nat.le_of_ble_eq_true rfl | (dsimp only [rmk]; omega) | omega) (by first | exact Nat.le_of_ble_eq_true rfl | (dsimp only [rmk]; omega) | omega) (fun a0 n0 => ?_)
  refine r_dup (pc := 3) C dX5_back_3 rfl ?_
  refine r_aload_n (pc := 4) C dX5_back_4 rfl rfl ?_
  refine r_invF (pc := 5) (ci := 7) (x2 := ⟨"java/lang/CharSequence", "length", "()I"⟩) 0 C dX5_back_5 (xs_length (h.fr (FR.new (ts := [9]) n0) (by decide))) (gS (h.fr (FR.new (ts := [9]) n0) (by decide))) (show vwC[7]? = some (RJ0, TJ0, 4) from rfl) rfl (lw_F q708 q450 q452 q83 q454) (by decide +kernel) (by decide +kernel) rfl rfl ⟨Nat.le_of_ble_eq_true rfl, Nat.le_of_ble_eq_true rfl⟩ (Nat.le_of_ble_eq_true rfl) ⟨(by first | exact Nat.le_of_ble_eq_true rfl | (dsimp only [rmk]; omega) | omega), (by first | exact Nat.le_of_ble_eq_true rfl | (dsimp only [rmk]; omega) | omega)⟩ (rd_k ?_)
  refine r_invI (pc := 10) 1 C dX5_back_10 (jb_init w.length (gup_eq _ _ _) (by decide) (by omega)) rfl (lw_meth q248) q91 q761 q247 rfl (by decide +kernel) rfl rfl ⟨Nat.le_of_ble_eq_true rfl, Nat.le_of_ble_eq_true rfl⟩ (Nat.le_of_ble_eq_true rfl) ⟨(by first | exact Nat.le_of_ble_eq_true rfl | (dsimp only [rmk]; omega) | omega), (by first | exact Nat.le_of_ble_eq_true rfl | (dsimp only [rmk]; omega) | omega)⟩ (fun v10 G10 h10 => ?_)
  obtain ⟨rfl, q1, q2⟩ := h10
  have q3 := (FR.new (ts := [9]) n0).tr q2
  refine r_astore_n (pc := 13) C dX5_back_13 rfl (by decide) ?_
  refine ww_wide (n' := 2) (s' := 24) (by dsimp only [rmk]; omega) (by dsimp only [rmk]; omega) ?_
  refine r_aload_n (pc := 14) C dX5_back_14 rfl rfl ?_
  refine r_invF (pc := 15) (ci := 7) (x2 := ⟨"java/lang/CharSequence", "length", "()I"⟩) 0 C dX5_back_15 (xs_length (h.fr q3 (by decide))) (gS (h.fr q3 (by decide))) (show vwC[7]? = some (RJ0, TJ0, 4) from rfl) rfl (lw_F q708 q450 q452 q83 q454) (by decide +kernel) (by decide +kernel) rfl rfl ⟨Nat.le_of_ble_eq_true rfl, Nat.le_of_ble_eq_true rfl⟩ (Nat.le_of_ble_eq_true rfl) ⟨(by first | exact Nat.le_of_ble_eq_true rfl | (dsimp only [rmk]; omega) | omega), (by first | exact Nat.le_of_ble_eq_true rfl | (dsimp only [rmk]; omega) | omega)⟩ (rd_k ?_)
  refine r_iconstZ (pc := 20) C dX5_back_20 ?_
  refine r_isubZ (pc := 21) C dX5_back_21 ?_
  refine r_istore_n (pc := 22) C dX5_back_22 rfl (by decide) ?_
  have e := loop a0 0 (Nat.zero_le _)
  rw [show ((w.length : Nat) : Int) - 1 - ((0 : Nat) : Int) = (w.length : Nat) - 1 by omega] at e
  exact ww_to (fun G hG => by rw [hG]; exact ⟨q1, q3⟩) e
set_option maxHeartbeats 800000 in
theorem xw_mirror {la : Launch} {X : XE} {G0 : Gh} {s : Nat} {w : List Bool} (h : STR G0 s (txt w)) (hw : 0 < w.length ∧ w.length ≤ 20) : MG la X yX5_mirror cX5_mirror 3 (some (.object "java/lang/String")) (rmk 6 4 48 151) [.ref s] (fun G => G = G0) (fun v G => ∃ x, v = some (.ref x) ∧ STR G x (txt (wOther w false true)) ∧ FR [9] G0 G) := by
  refine MG.of (by decide +kernel) (Nat.le_of_ble_eq_true rfl) ?_
  intro Z C hX hL hQ
  subst hX; subst hL
  change WW Z 3 (fun G => G = G0) 0 0 0 [some (.ref s), none, none] []
  have loop : ∀ (a0 i : Nat), i ≤ w.length → WW Z 3 (fun G => SB G a0 9 (txt ((wOther w false true).take i)) w.length ∧ FR [9] G0 G) 2 24 16 [some (.ref s), some (.ref a0), some (.int (iI (i : Int)))] [] := by
    intro a0
    refine loopN _ _ (fun i hi ih => ?_)
    refine ww_all (fun G1 hG1 => ?_)
    obtain ⟨q1, q2⟩ := hG1
    have h1 := h.fr q2 (by decide)
    have c1 := codeB_b (wl w i)
    refine r_iload_n (pc := 16) C dX5_mirror_16 rfl rfl ?_
    refine r_aload_n (pc := 17) C dX5_mirror_17 rfl rfl ?_
    refine r_invF (pc := 18) (ci := 7) (x2 := ⟨"java/lang/CharSequence", "length", "()I"⟩) 0 C dX5_mirror_18 (xs_length h1) (gS h1) (show vwC[7]? = some (RJ0, TJ0, 4) from rfl) rfl (lw_F q708 q450 q452 q83 q454) (by decide +kernel) (by decide +kernel) rfl rfl ⟨Nat.le_of_ble_eq_true rfl, Nat.le_of_ble_eq_true rfl⟩ (Nat.le_of_ble_eq_true rfl) ⟨(by first | exact Nat.le_of_ble_eq_true rfl | (dsimp only [rmk]; omega) | omega), (by first | exact Nat.le_of_ble_eq_true rfl | (dsimp only [rmk]; omega) | omega)⟩ (rd_k ?_)
    refine r_icmp_geZ (pc := 23) (tgt := 56) C dX5_mirror_23 (by decide) (by unfold i32; omega) (by unfold i32; omega) (fun h23 => ?_) (fun h23 => ?_)
    · rw [List.take_of_length_le (show (wOther w false true).length ≤ i by rw [wOther_len]; omega)] at q1
      refine r_aload_n (pc := 56) C dX5_mirror_56 rfl rfl ?_
      refine r_invV (pc := 57) (ci := 9) 0 C dX5_mirror_57 (xb_toString q1 (by decide)) (gB q1) (show vwC[9]? = some (RJ8, TJ8, 4) from rfl) rfl (lw_V q763 q524 q525 q91 q526) (by decide +kernel) rfl rfl ⟨Nat.le_of_ble_eq_true rfl, Nat.le_of_ble_eq_true rfl⟩ (Nat.le_of_ble_eq_true rfl) ⟨by dsimp only [rmk]; omega, by dsimp only [rmk]; rw [wOther_len]; omega⟩ (fun v57 G57 h57 => ?_)
      obtain ⟨x, rfl, r1, r2⟩ := h57
      exact r_aret (pc := 60) C hQ dX5_mirror_60 (by first | exact Or.inl ⟨_, rfl⟩ | exact Or.inr ⟨_, rfl⟩) (by first | exact Or.inr ⟨_, rfl⟩ | exact Or.inl rfl) (by dsimp only [rmk]; omega) (by dsimp only [rmk]; rw [wOther_len]; omega) (fun G hG => (by cases hG; exact ⟨x, rfl, r1, q2.tr (r2.nil _)⟩))
    · refine r_aload_n (pc := 26) C dX5_mirror_26 rfl rfl ?_
      refine r_aload_n (pc := 27) C dX5_mirror_27 rfl rfl ?_
      refine r_iload_n (pc := 28) C dX5_mirror_28 rfl rfl ?_
      refine r_invF (pc := 29) (ci := 7) (x2 := ⟨"java/lang/CharSequence", "charAt", "(I)C"⟩) 1 C dX5_mirror_29 (xs_at (i : Int) h1 ⟨by omega, by omega⟩) (gS h1) (show vwC[7]? = some (RJ0, TJ0, 4) from rfl) rfl (lw_F q727 q467 q469 q83 q471) (by decide +kernel) (by decide +kernel) rfl rfl ⟨Nat.le_of_ble_eq_true rfl, Nat.le_of_ble_eq_true rfl⟩ (Nat.le_of_ble_eq_true rfl) ⟨(by first | exact Nat.le_of_ble_eq_true rfl | (dsimp only [rmk]; omega) | omega), (by first | exact Nat.le_of_ble_eq_true rfl | (dsimp only [rmk]; omega) | omega)⟩ (rd_k ?_)
      rw [show ((i : Int)).toNat = i from rfl]
      refine r_bipushZ (pc := 34) C dX5_mirror_34 (by decide) ?_
      refine r_icmp_neZ (pc := 36) (tgt := 44) C dX5_mirror_36 (by decide) (by unfold i32; omega) (by unfold i32; omega) (fun h36 => ?_) (fun h36 => ?_)
      · refine r_bipushZ (pc := 44) C dX5_mirror_44 (by decide) ?_
        have e := take_push (w := wOther w false true) (k := i) (by rw [wOther_len]; omega)
        rw [wOther_at w false true (by omega), if_neg (by decide), Bool.bne_true] at e
        first | rw [show (82 : Int) = codeB (!wl w i) by rw [codeB_L.mp h36]; rfl] | rw [show (76 : Int) = codeB (!wl w i) by cases hq : wl w i; exact absurd (codeB_L.mpr hq) h36; rfl]
        refine r_invV (pc := 46) (ci := 9) 1 C dX5_mirror_46 (xb_app (!wl w i) q1 (by decide) (by rw [List.length_take, wOther_len]; omega)) (gB q1) (show vwC[9]? = some (RJ8, TJ8, 4) from rfl) rfl (lw_V q762 q324 q325 q91 q326) (by decide +kernel) rfl rfl ⟨Nat.le_of_ble_eq_true rfl, Nat.le_of_ble_eq_true rfl⟩ (Nat.le_of_ble_eq_true rfl) ⟨(by first | exact Nat.le_of_ble_eq_true rfl | (dsimp only [rmk]; omega) | omega), (by first | exact Nat.le_of_ble_eq_true rfl | (dsimp only [rmk]; omega) | omega)⟩ (fun v46 G46 h46 => ?_)
        obtain ⟨rfl, r1, r2⟩ := h46
        rw [← e] at r1
        refine r_pop (pc := 49) C dX5_mirror_49 rfl ?_
        refine r_iincZ (pc := 50) C dX5_mirror_50 rfl (by decide) ?_
        refine r_goto (pc := 53) (tgt := 16) C dX5_mirror_53 (by decide) ?_
        exact ww_to (fun G hG => by rw [hG]; exact ⟨r1, q2.tr r2⟩) (ih (by omega))
      · refine r_bipushZ (pc := 39) C dX5_mirror_39 (by decide) ?_
        refine r_goto (pc := 41) (tgt := 46) C dX5_mirror_41 (by decide) ?_
        have e := take_push (w := wOther w false true) (k := i) (by rw [wOther_len]; omega)
        rw [wOther_at w false true (by omega), if_neg (by decide), Bool.bne_true] at e
        first | rw [show (82 : Int) = codeB (!wl w i) by rw [codeB_L.mp h36]; rfl] | rw [show (76 : Int) = codeB (!wl w i) by cases hq : wl w i; exact absurd (codeB_L.mpr hq) h36; rfl]
        refine r_invV (pc := 46) (ci := 9) 1 C dX5_mirror_46 (xb_app (!wl w i) q1 (by decide) (by rw [List.length_take, wOther_len]; omega)) (gB q1) (show vwC[9]? = some (RJ8, TJ8, 4) from rfl) rfl (lw_V q762 q324 q325 q91 q326) (by decide +kernel) rfl rfl ⟨Nat.le_of_ble_eq_true rfl, Nat.le_of_ble_eq_true rfl⟩ (Nat.le_of_ble_eq_true rfl) ⟨(by first | exact Nat.le_of_ble_eq_true rfl | (dsimp only [rmk]; omega) | omega), (by first | exact Nat.le_of_ble_eq_true rfl | (dsimp only [rmk]; omega) | omega)⟩ (fun v46 G46 h46 => ?_)
        obtain ⟨rfl, r1, r2⟩ := h46
        rw [← e] at r1
        refine r_pop (pc := 49) C dX5_mirror_49 rfl ?_
        refine r_iincZ (pc := 50) C dX5_mirror_50 rfl (by decide) ?_
        refine r_goto (pc := 53) (tgt := 16) C dX5_mirror_53 (by decide) ?_
        exact ww_to (fun G hG => by rw [hG]; exact ⟨r1, q2.tr r2⟩) (ih (by omega))
  refine r_newE (pc := 0) (ci := 9) (fs := [.null, .int (iI 0), .int (iI 0), .int (iI 0)]) 9 C dX5_mirror_0 (show vwC[9]? = some (RJ8, TJ8, 4) from rfl) in_J8 tyJ8 tyJ8_ok q760 q245 q91 (by decide +kernel) (by first | exact Nat.le_of_ble_eq_true rfl | (dsimp only [rmk]; omega) | omega) (by first | exact Nat.le_of_ble_eq_true rfl | (dsimp only [rmk]; omega) | omega) (fun a0 n0 => ?_)
  refine r_dup (pc := 3) C dX5_mirror_3 rfl ?_
  refine r_aload_n (pc := 4) C dX5_mirror_4 rfl rfl ?_
  refine r_invF (pc := 5) (ci := 7) (x2 := ⟨"java/lang/CharSequence", "length", "()I"⟩) 0 C dX5_mirror_5 (xs_length (h.fr (FR.new (ts := [9]) n0) (by decide))) (gS (h.fr (FR.new (ts := [9]) n0) (by decide))) (show vwC[7]? = some (RJ0, TJ0, 4) from rfl) rfl (lw_F q708 q450 q452 q83 q454) (by decide +kernel) (by decide +kernel) rfl rfl ⟨Nat.le_of_ble_eq_true rfl, Nat.le_of_ble_eq_true rfl⟩ (Nat.le_of_ble_eq_true rfl) ⟨(by first | exact Nat.le_of_ble_eq_true rfl | (dsimp only [rmk]; omega) | omega), (by first | exact Nat.le_of_ble_eq_true rfl | (dsimp only [rmk]; omega) | omega)⟩ (rd_k ?_)
  refine r_invI (pc := 10) 1 C dX5_mirror_10 (jb_init w.length (gup_eq _ _ _) (by decide) (by omega)) rfl (lw_meth q248) q91 q761 q247 rfl (by decide +kernel) rfl rfl ⟨Nat.le_of_ble_eq_true rfl, Nat.le_of_ble_eq_true rfl⟩ (Nat.le_of_ble_eq_true rfl) ⟨(by first | exact Nat.le_of_ble_eq_true rfl | (dsimp only [rmk]; omega) | omega), (by first | exact Nat.le_of_ble_eq_true rfl | (dsimp only [rmk]; omega) | omega)⟩ (fun v10 G10 h10 => ?_)
  obtain ⟨rfl, q1, q2⟩ := h10
  have q3 := (FR.new (ts := [9]) n0).tr q2
  refine r_astore_n (pc := 13) C dX5_mirror_13 rfl (by decide) ?_
  refine ww_wide (n' := 2) (s' := 24) (by dsimp only [rmk]; omega) (by dsimp only [rmk]; omega) ?_
  refine r_iconstZ (pc := 14) C dX5_mirror_14 ?_
  refine r_istore_n (pc := 15) C dX5_mirror_15 rfl (by decide) ?_
  exact ww_to (fun G hG => by rw [hG]; exact ⟨q1, q3⟩) (loop a0 0 (Nat.zero_le _))
set_option maxHeartbeats 800000 in
theorem xw_leastTurn {la : Launch} {X : XE} {G0 : Gh} {s : Nat} {w : List Bool} (h : STR G0 s (txt w)) (hw : 0 < w.length ∧ w.length ≤ 20) : MG la X yX5_leastTurn cX5_leastTurn 1 (some (.object "java/lang/String")) (rmk 7 4 48 174) [.ref s] (fun G => G = G0) (fun v G => ∃ x, v = some (.ref x) ∧ STR G x (txt (wTurned w (wLeast w))) ∧ FR [9] G0 G) := by
  refine MG.of (by decide +kernel) (Nat.le_of_ble_eq_true rfl) ?_
  intro Z C hX hL hQ
  subst hX; subst hL
  change WW Z 1 (fun G => G = G0) 0 0 0 [some (.ref s)] []
  refine r_aload_n (pc := 0) C dX5_leastTurn_0 rfl rfl ?_
  refine r_aload_n (pc := 1) C dX5_leastTurn_1 rfl rfl ?_
  refine r_invS (pc := 2) 1 C dX5_leastTurn_2 (xw_least h hw) rfl (lw_S q770 q738 q100 q739) (by decide +kernel) rfl rfl ⟨Nat.le_of_ble_eq_true rfl, Nat.le_of_ble_eq_true rfl⟩ (Nat.le_of_ble_eq_true rfl) ⟨(by first | exact Nat.le_of_ble_eq_true rfl | (dsimp only [rmk]; omega) | omega), (by first | exact Nat.le_of_ble_eq_true rfl | (dsimp only [rmk]; omega) | omega)⟩ (rd_k ?_)
  refine r_invS (pc := 5) 2 C dX5_leastTurn_5 (xw_turned (wLeast w) h hw (by have := wLeast_lt hw.1; omega)) rfl (lw_S q771 q772 q100 q773) (by decide +kernel) rfl rfl ⟨Nat.le_of_ble_eq_true rfl, Nat.le_of_ble_eq_true rfl⟩ (Nat.le_of_ble_eq_true rfl) ⟨(by first | exact Nat.le_of_ble_eq_true rfl | (dsimp only [rmk]; omega) | omega), (by first | exact Nat.le_of_ble_eq_true rfl | (dsimp only [rmk]; omega) | omega)⟩ (fun v5 G5 h5 => ?_)
  obtain ⟨x, rfl, q1, q2⟩ := h5
  exact r_aret (pc := 8) C hQ dX5_leastTurn_8 (by first | exact Or.inl ⟨_, rfl⟩ | exact Or.inr ⟨_, rfl⟩) (by first | exact Or.inr ⟨_, rfl⟩ | exact Or.inl rfl) (by first | exact Nat.le_of_ble_eq_true rfl | (dsimp only [rmk]; omega) | omega) (by first | exact Nat.le_of_ble_eq_true rfl | (dsimp only [rmk]; omega) | omega) (fun G hG => (by cases hG; exact ⟨x, rfl, q1, q2⟩))
set_option maxHeartbeats 800000 in
theorem xw_isAlike {la : Launch} {X : XE} {G0 : Gh} {s t : Nat} {u w : List Bool} (h : STR G0 s (txt u)) (h' : STR G0 t (txt w)) (hu : 0 < u.length ∧ u.length ≤ 20) (hw : 0 < w.length ∧ w.length ≤ 20) : MG la X yX5_isAlike cX5_isAlike 2 (some .boolean) (rmk 8 8 96 194) [.ref s, .ref t] (fun G => G = G0) (fun v G => v = some (.int (iI (bi (wAlike u w)))) ∧ FR [9] G0 G) := by
  refine MG.of (by decide +kernel) (Nat.le_of_ble_eq_true rfl) ?_
  intro Z C hX hL hQ
  subst hX; subst hL
  change WW Z 2 (fun G => G = G0) 0 0 0 [some (.ref s), some (.ref t)] []
  refine r_aload_n (pc := 0) C dX5_isAlike_0 rfl rfl ?_
  refine r_invS (pc := 1) 1 C dX5_isAlike_1 (xw_leastTurn h hu) rfl (lw_S q767 q768 q100 q769) (by decide +kernel) rfl rfl ⟨Nat.le_of_ble_eq_true rfl, Nat.le_of_ble_eq_true rfl⟩ (Nat.le_of_ble_eq_true rfl) ⟨(by first | exact Nat.le_of_ble_eq_true rfl | (dsimp only [rmk]; omega) | omega), (by first | exact Nat.le_of_ble_eq_true rfl | (dsimp only [rmk]; omega) | omega)⟩ (fun v1 G1 h1 => ?_)
  obtain ⟨x, rfl, q1, q2⟩ := h1
  refine r_aload_n (pc := 4) C dX5_isAlike_4 rfl rfl ?_
  refine r_invS (pc := 5) 1 C dX5_isAlike_5 (xw_leastTurn (h'.fr q2 (by decide)) hw) rfl (lw_S q767 q768 q100 q769) (by decide +kernel) rfl rfl ⟨Nat.le_of_ble_eq_true rfl, Nat.le_of_ble_eq_true rfl⟩ (Nat.le_of_ble_eq_true rfl) ⟨(by first | exact Nat.le_of_ble_eq_true rfl | (dsimp only [rmk]; omega) | omega), (by first | exact Nat.le_of_ble_eq_true rfl | (dsimp only [rmk]; omega) | omega)⟩ (fun v5 G5 h5 => ?_)
  obtain ⟨y, rfl, q3, q4⟩ := h5
  refine r_invV (pc := 8) (ci := 7) 1 C dX5_isAlike_8 (js_equals (q1.fr q4 (by decide)) q3) (gS (q1.fr q4 (by decide))) (show vwC[7]? = some (RJ0, TJ0, 4) from rfl) rfl (lw_V q774 q184 q185 q83 q186) (by decide +kernel) rfl rfl ⟨Nat.le_of_ble_eq_true rfl, Nat.le_of_ble_eq_true rfl⟩ (Nat.le_of_ble_eq_true rfl) ⟨(by first | exact Nat.le_of_ble_eq_true rfl | (dsimp only [rmk]; omega) | omega), (by first | exact Nat.le_of_ble_eq_true rfl | (dsimp only [rmk]; omega) | omega)⟩ (rd_k ?_)
  rw [b2_bi (b := wAlike u w) ⟨fun e => (least_alike hu.1 hw.1).mp (txt_inj e), fun e => by rw [(least_alike hu.1 hw.1).mpr e]⟩]
  exact r_zret (pc := 11) C hQ dX5_isAlike_11 (bi_nar _) (by first | exact Nat.le_of_ble_eq_true rfl | (dsimp only [rmk]; omega) | omega) (by first | exact Nat.le_of_ble_eq_true rfl | (dsimp only [rmk]; omega) | omega) (fun G hG => (by cases hG; exact ⟨rfl, q2.tr q4⟩))
set_option maxHeartbeats 800000 in
theorem xr_word {la : Launch} {X : XE} {G0 : Gh} {a t s : Nat} {b c : Value} (k1 : G0 a = some (t, .inl (4, [.ref s, b, c]))) : MG la X yX4_word cX4_word 1 (some (.object "java/lang/CharSequence")) (rmk 0 0 0 0) [.ref a] (fun G => G = G0) (fun zv G => zv = some (.ref s) ∧ G = G0) := by
  refine MG.of (by decide +kernel) (Nat.le_of_ble_eq_true rfl) ?_
  intro Z C hX hL hQ
  subst hX; subst hL
  change WW Z 1 (fun G => G = G0) 0 0 0 [some (.ref a)] []
  refine r_aload_n (pc := 0) C dX4_word_0 rfl rfl ?_
  refine r_get (pc := 1) (k := 0) (ci := 4) C dX4_word_1 (g1 k1) (show vwC[4]? = some (RX4, TX4, 3) from rfl) in_X4 (by decide) (C.t _ q606) (fun _ h => h) rfl ?_
  exact r_aret (pc := 4) C hQ dX4_word_4 (by first | exact Or.inl ⟨_, rfl⟩ | exact Or.inr ⟨_, rfl⟩) (by first | exact Or.inr ⟨_, rfl⟩ | exact Or.inl rfl) (Nat.le_of_ble_eq_true rfl) (Nat.le_of_ble_eq_true rfl) (fun G hG => ⟨rfl, hG⟩)
set_option maxHeartbeats 800000 in
theorem xr_length {la : Launch} {X : XE} {G0 : Gh} {xh a t : Nat} {w : List Bool} (h : ROAD G0 xh a t w) : MG la X yX5_length cX5_length 1 (some .int) (rmk 2 0 0 40) [.ref a] (fun G => G = G0) (fun zv G => zv = some (.int (iI (w.length : Nat))) ∧ G = G0) := by
  refine MG.of (by decide +kernel) (Nat.le_of_ble_eq_true rfl) ?_
  intro Z C hX hL hQ
  subst hX; subst hL
  change WW Z 1 (fun G => G = G0) 0 0 0 [some (.ref a)] []
  obtain ⟨s, tb, k1, k2, k3⟩ := id h
  refine r_aload_n (pc := 0) C dX5_length_0 rfl rfl ?_
  refine r_invF (pc := 1) (ci := 4) (x2 := ⟨"RiverWords$Worded", "word", "()Ljava/lang/CharSequence;"⟩) 0 C dX5_length_1 (xr_word k1) (g2 k1) (show vwC[4]? = some (RX4, TX4, 3) from rfl) rfl (lw_F q692 q702 q704 q98 q706) (by decide +kernel) (by decide +kernel) rfl rfl ⟨Nat.le_of_ble_eq_true rfl, Nat.le_of_ble_eq_true rfl⟩ (Nat.le_of_ble_eq_true rfl) ⟨Nat.le_of_ble_eq_true rfl, Nat.le_of_ble_eq_true rfl⟩ (rd_k ?_)
  refine r_invF (pc := 6) (ci := 7) (x2 := ⟨"java/lang/CharSequence", "length", "()I"⟩) 0 C dX5_length_6 (xs_length k2) (gS k2) (show vwC[7]? = some (RJ0, TJ0, 4) from rfl) rfl (lw_F q708 q450 q452 q83 q454) (by decide +kernel) (by decide +kernel) rfl rfl ⟨Nat.le_of_ble_eq_true rfl, Nat.le_of_ble_eq_true rfl⟩ (Nat.le_of_ble_eq_true rfl) ⟨Nat.le_of_ble_eq_true rfl, Nat.le_of_ble_eq_true rfl⟩ (rd_k ?_)
  exact r_iret (pc := 11) C hQ dX5_length_11 (Nat.le_of_ble_eq_true rfl) (Nat.le_of_ble_eq_true rfl) (fun G hG => ⟨rfl, hG⟩)
set_option maxHeartbeats 800000 in
theorem xr_sign {la : Launch} {X : XE} {G0 : Gh} {xh a t : Nat} {w : List Bool} (k : Int) (h : ROAD G0 xh a t w) (hk : 0 ≤ k ∧ k < w.length) : MG la X yX5_sign cX5_sign 2 (some .char) (rmk 4 0 0 85) [.ref a, .int (iI k)] (fun G => G = G0) (fun zv G => zv = some (.int (iI (codeB (wl w k.toNat)))) ∧ G = G0) := by
  refine MG.of (by decide +kernel) (Nat.le_of_ble_eq_true rfl) ?_
  intro Z C hX hL hQ
  subst hX; subst hL
  change WW Z 2 (fun G => G = G0) 0 0 0 [some (.ref a), some (.int (iI k))] []
  obtain ⟨s, tb, k1, k2, k3⟩ := id h
  have c1 := codeB_b (wl w k.toNat)
  refine r_aload_n (pc := 0) C dX5_sign_0 rfl rfl ?_
  refine r_invF (pc := 1) (ci := 4) (x2 := ⟨"RiverWords$Worded", "word", "()Ljava/lang/CharSequence;"⟩) 0 C dX5_sign_1 (xr_word k1) (g2 k1) (show vwC[4]? = some (RX4, TX4, 3) from rfl) rfl (lw_F q692 q702 q704 q98 q706) (by decide +kernel) (by decide +kernel) rfl rfl ⟨Nat.le_of_ble_eq_true rfl, Nat.le_of_ble_eq_true rfl⟩ (Nat.le_of_ble_eq_true rfl) ⟨Nat.le_of_ble_eq_true rfl, Nat.le_of_ble_eq_true rfl⟩ (rd_k ?_)
  refine r_iload_n (pc := 6) C dX5_sign_6 rfl rfl ?_
  refine r_invF (pc := 7) (ci := 7) (x2 := ⟨"java/lang/CharSequence", "charAt", "(I)C"⟩) 1 C dX5_sign_7 (xs_at k k2 hk) (gS k2) (show vwC[7]? = some (RJ0, TJ0, 4) from rfl) rfl (lw_F q727 q467 q469 q83 q471) (by decide +kernel) (by decide +kernel) rfl rfl ⟨Nat.le_of_ble_eq_true rfl, Nat.le_of_ble_eq_true rfl⟩ (Nat.le_of_ble_eq_true rfl) ⟨Nat.le_of_ble_eq_true rfl, Nat.le_of_ble_eq_true rfl⟩ (rd_k ?_)
  exact r_zret (pc := 12) C hQ dX5_sign_12 (nar_c (by omega) (by omega)) (Nat.le_of_ble_eq_true rfl) (Nat.le_of_ble_eq_true rfl) (fun G hG => ⟨rfl, hG⟩)
set_option maxHeartbeats 800000 in
theorem xr_many {la : Launch} {X : XE} {G0 : Gh} {xh a t : Nat} {w : List Bool} (x : Bool) (h : ROAD G0 xh a t w) (hm : w.length ≤ 20000) : MG la X yX5_many cX5_many 4 (some .int) (rmk 5 0 0 106) [.ref a, .int (iI (codeB x))] (fun G => G = G0) (fun zv G => zv = some (.int (iI (cnt (fun k => wl w k == x) w.length))) ∧ G = G0) := by
  refine MG.of (by decide +kernel) (Nat.le_of_ble_eq_true rfl) ?_
  intro Z C hX hL hQ
  subst hX; subst hL
  change WW Z 4 (fun G => G = G0) 0 0 0 [some (.ref a), some (.int (iI (codeB x))), none, none] []
  have c2 := codeB_b x
  have loop : ∀ i : Nat, i ≤ w.length → WW Z 4 (fun G => G = G0) 0 0 4 [some (.ref a), some (.int (iI (codeB x))), some (.int (iI (cnt (fun k => wl w k == x) i))), some (.int (iI (i : Int)))] [] := by
    refine loopN _ _ (fun i hi ih => ?_)
    have c1 := codeB_b (wl w i)
    refine r_iload_n (pc := 4) C dX5_many_4 rfl rfl ?_
    refine r_aload_n (pc := 5) C dX5_many_5 rfl rfl ?_
    refine r_invFD (pc := 6) (ci := 4) 0 C dX5_many_6 (xr_length h) (gRd h) (show vwC[4]? = some (RX4, TX4, 3) from rfl) rfl (lw_meth q690) q100 q688 q715 (by decide +kernel) (by decide +kernel) (by decide +kernel) rfl rfl ⟨Nat.le_of_ble_eq_true rfl, Nat.le_of_ble_eq_true rfl⟩ (Nat.le_of_ble_eq_true rfl) ⟨Nat.le_of_ble_eq_true rfl, Nat.le_of_ble_eq_true rfl⟩ (rd_k ?_)
    refine r_icmp_geZ (pc := 11) (tgt := 39) C dX5_many_11 (by decide) (by unfold i32; omega) (by unfold i32; omega) (fun h11 => ?_) (fun h11 => ?_)
    · refine r_iload_n (pc := 39) C dX5_many_39 rfl rfl ?_
      exact r_iret (pc := 40) C hQ dX5_many_40 (Nat.le_of_ble_eq_true rfl) (Nat.le_of_ble_eq_true rfl) (fun G hG => ⟨(by rw [show i = w.length by omega]), hG⟩)
    · refine r_iload_n (pc := 14) C dX5_many_14 rfl rfl ?_
      refine r_aload_n (pc := 15) C dX5_many_15 rfl rfl ?_
      refine r_iload_n (pc := 16) C dX5_many_16 rfl rfl ?_
      refine r_invFD (pc := 17) (ci := 4) 1 C dX5_many_17 (xr_sign (i : Int) h ⟨by omega, by omega⟩) (gRd h) (show vwC[4]? = some (RX4, TX4, 3) from rfl) rfl (lw_meth q725) q100 q723 q719 (by decide +kernel) (by decide +kernel) (by decide +kernel) rfl rfl ⟨Nat.le_of_ble_eq_true rfl, Nat.le_of_ble_eq_true rfl⟩ (Nat.le_of_ble_eq_true rfl) ⟨Nat.le_of_ble_eq_true rfl, Nat.le_of_ble_eq_true rfl⟩ (rd_k ?_)
      rw [show ((i : Int)).toNat = i from rfl]
      refine r_iload_n (pc := 22) C dX5_many_22 rfl rfl ?_
      refine r_icmp_neZ (pc := 23) (tgt := 30) C dX5_many_23 (by decide) (by unfold i32; omega) (by unfold i32; omega) (fun h23 => ?_) (fun h23 => ?_)
      · refine r_iconstZ (pc := 30) C dX5_many_30 ?_
        refine r_iaddZ (pc := 31) C dX5_many_31 ?_
        refine r_istore_n (pc := 32) C dX5_many_32 rfl (by decide) ?_
        refine r_iincZ (pc := 33) C dX5_many_33 rfl (by decide) ?_
        refine r_goto (pc := 36) (tgt := 4) C dX5_many_36 (by decide) ?_
        have e2 := ih (by omega)
        rw [cnt_s] at e2
        first | (rw [show (wl w i == x) = true from beq_iff_eq.mpr (codeB_inj.mp h23)] at e2; exact e2) | (rw [show (wl w i == x) = false from beq_eq_false_iff_ne.mpr (fun q => h23 (by rw [q]))] at e2; exact e2)
      · refine r_iconstZ (pc := 26) C dX5_many_26 ?_
        refine r_goto (pc := 27) (tgt := 31) C dX5_many_27 (by decide) ?_
        refine r_iaddZ (pc := 31) C dX5_many_31 ?_
        refine r_istore_n (pc := 32) C dX5_many_32 rfl (by decide) ?_
        refine r_iincZ (pc := 33) C dX5_many_33 rfl (by decide) ?_
        refine r_goto (pc := 36) (tgt := 4) C dX5_many_36 (by decide) ?_
        have e2 := ih (by omega)
        rw [cnt_s] at e2
        first | (rw [show (wl w i == x) = true from beq_iff_eq.mpr (codeB_inj.mp h23)] at e2; exact e2) | (rw [show (wl w i == x) = false from beq_eq_false_iff_ne.mpr (fun q => h23 (by rw [q]))] at e2; exact e2)
  refine r_iconstZ (pc := 0) C dX5_many_0 ?_
  refine r_istore_n (pc := 1) C dX5_many_1 rfl (by decide) ?_
  refine r_iconstZ (pc := 2) C dX5_many_2 ?_
  refine r_istore_n (pc := 3) C dX5_many_3 rfl (by decide) ?_
  exact loop 0 (Nat.zero_le _)
set_option maxHeartbeats 800000 in
theorem xc_word {la : Launch} {X : XE} {G0 : Gh} {a t s : Nat} {b c : Value} (k1 : G0 a = some (t, .inl (6, [b, .ref s, c]))) : MG la X yX7_word cX7_word 1 (some (.object "java/lang/CharSequence")) (rmk 0 0 0 0) [.ref a] (fun G => G = G0) (fun zv G => zv = some (.ref s) ∧ G = G0) := by
  refine MG.of (by decide +kernel) (Nat.le_of_ble_eq_true rfl) ?_
  intro Z C hX hL hQ
  subst hX; subst hL
  change WW Z 1 (fun G => G = G0) 0 0 0 [some (.ref a)] []
  refine r_aload_n (pc := 0) C dX7_word_0 rfl rfl ?_
  refine r_get (pc := 1) (k := 1) (ci := 6) C dX7_word_1 (g1 k1) (show vwC[6]? = some (RX7, TX7, 3) from rfl) in_X7 (by decide) (C.t _ q1029) (fun _ h => h) rfl ?_
  exact r_aret (pc := 4) C hQ dX7_word_4 (by first | exact Or.inl ⟨_, rfl⟩ | exact Or.inr ⟨_, rfl⟩) (by first | exact Or.inr ⟨_, rfl⟩ | exact Or.inl rfl) (Nat.le_of_ble_eq_true rfl) (Nat.le_of_ble_eq_true rfl) (fun G hG => ⟨rfl, hG⟩)
set_option maxHeartbeats 800000 in
theorem xc_length {la : Launch} {X : XE} {G0 : Gh} {xh a : Nat} {l : Int} {w : List Bool} (h : CYC G0 xh a l w) : MG la X yX5_length cX5_length 1 (some .int) (rmk 2 0 0 40) [.ref a] (fun G => G = G0) (fun zv G => zv = some (.int (iI (w.length : Nat))) ∧ G = G0) := by
  refine MG.of (by decide +kernel) (Nat.le_of_ble_eq_true rfl) ?_
  intro Z C hX hL hQ
  subst hX; subst hL
  change WW Z 1 (fun G => G = G0) 0 0 0 [some (.ref a)] []
  obtain ⟨s, m, k1, k2⟩ := id h
  refine r_aload_n (pc := 0) C dX5_length_0 rfl rfl ?_
  refine r_invF (pc := 1) (ci := 6) (x2 := ⟨"RiverWords$Worded", "word", "()Ljava/lang/CharSequence;"⟩) 0 C dX5_length_1 (xc_word k1) (g2 k1) (show vwC[6]? = some (RX7, TX7, 3) from rfl) rfl (lw_F q692 q696 q698 q102 q700) (by decide +kernel) (by decide +kernel) rfl rfl ⟨Nat.le_of_ble_eq_true rfl, Nat.le_of_ble_eq_true rfl⟩ (Nat.le_of_ble_eq_true rfl) ⟨Nat.le_of_ble_eq_true rfl, Nat.le_of_ble_eq_true rfl⟩ (rd_k ?_)
  refine r_invF (pc := 6) (ci := 9) (x2 := ⟨"java/lang/CharSequence", "length", "()I"⟩) 0 C dX5_length_6 (xb_length k2) (gB k2) (show vwC[9]? = some (RJ8, TJ8, 4) from rfl) rfl (lw_F q708 q460 q316 q91 q318) (by decide +kernel) (by decide +kernel) rfl rfl ⟨Nat.le_of_ble_eq_true rfl, Nat.le_of_ble_eq_true rfl⟩ (Nat.le_of_ble_eq_true rfl) ⟨Nat.le_of_ble_eq_true rfl, Nat.le_of_ble_eq_true rfl⟩ (rd_k ?_)
  exact r_iret (pc := 11) C hQ dX5_length_11 (Nat.le_of_ble_eq_true rfl) (Nat.le_of_ble_eq_true rfl) (fun G hG => ⟨rfl, hG⟩)
set_option maxHeartbeats 800000 in
theorem xc_sign {la : Launch} {X : XE} {G0 : Gh} {xh a : Nat} {l : Int} {w : List Bool} (k : Int) (h : CYC G0 xh a l w) (hk : 0 ≤ k ∧ k < w.length) : MG la X yX5_sign cX5_sign 2 (some .char) (rmk 4 0 0 88) [.ref a, .int (iI k)] (fun G => G = G0) (fun zv G => zv = some (.int (iI (codeB (wl w k.toNat)))) ∧ G = G0) := by
  refine MG.of (by decide +kernel) (Nat.le_of_ble_eq_true rfl) ?_
  intro Z C hX hL hQ
  subst hX; subst hL
  change WW Z 2 (fun G => G = G0) 0 0 0 [some (.ref a), some (.int (iI k))] []
  obtain ⟨s, m, k1, k2⟩ := id h
  have c1 := codeB_b (wl w k.toNat)
  refine r_aload_n (pc := 0) C dX5_sign_0 rfl rfl ?_
  refine r_invF (pc := 1) (ci := 6) (x2 := ⟨"RiverWords$Worded", "word", "()Ljava/lang/CharSequence;"⟩) 0 C dX5_sign_1 (xc_word k1) (g2 k1) (show vwC[6]? = some (RX7, TX7, 3) from rfl) rfl (lw_F q692 q696 q698 q102 q700) (by decide +kernel) (by decide +kernel) rfl rfl ⟨Nat.le_of_ble_eq_true rfl, Nat.le_of_ble_eq_true rfl⟩ (Nat.le_of_ble_eq_true rfl) ⟨Nat.le_of_ble_eq_true rfl, Nat.le_of_ble_eq_true rfl⟩ (rd_k ?_)
  refine r_iload_n (pc := 6) C dX5_sign_6 rfl rfl ?_
  refine r_invF (pc := 7) (ci := 9) (x2 := ⟨"java/lang/CharSequence", "charAt", "(I)C"⟩) 1 C dX5_sign_7 (xb_at k k2 hk) (gB k2) (show vwC[9]? = some (RJ8, TJ8, 4) from rfl) rfl (lw_F q727 q479 q481 q91 q483) (by decide +kernel) (by decide +kernel) rfl rfl ⟨Nat.le_of_ble_eq_true rfl, Nat.le_of_ble_eq_true rfl⟩ (Nat.le_of_ble_eq_true rfl) ⟨Nat.le_of_ble_eq_true rfl, Nat.le_of_ble_eq_true rfl⟩ (rd_k ?_)
  exact r_zret (pc := 12) C hQ dX5_sign_12 (nar_c (by omega) (by omega)) (Nat.le_of_ble_eq_true rfl) (Nat.le_of_ble_eq_true rfl) (fun G hG => ⟨rfl, hG⟩)
set_option maxHeartbeats 800000 in
theorem xc_many {la : Launch} {X : XE} {G0 : Gh} {xh a : Nat} {l : Int} {w : List Bool} (x : Bool) (h : CYC G0 xh a l w) (hm : w.length ≤ 20000) : MG la X yX5_many cX5_many 4 (some .int) (rmk 5 0 0 109) [.ref a, .int (iI (codeB x))] (fun G => G = G0) (fun zv G => zv = some (.int (iI (cnt (fun k => wl w k == x) w.length))) ∧ G = G0) := by
  refine MG.of (by decide +kernel) (Nat.le_of_ble_eq_true rfl) ?_
  intro Z C hX hL hQ
  subst hX; subst hL
  change WW Z 4 (fun G => G = G0) 0 0 0 [some (.ref a), some (.int (iI (codeB x))), none, none] []
  have c2 := codeB_b x
  have loop : ∀ i : Nat, i ≤ w.length → WW Z 4 (fun G => G = G0) 0 0 4 [some (.ref a), some (.int (iI (codeB x))), some (.int (iI (cnt (fun k => wl w k == x) i))), some (.int (iI (i : Int)))] [] := by
    refine loopN _ _ (fun i hi ih => ?_)
    have c1 := codeB_b (wl w i)
    refine r_iload_n (pc := 4) C dX5_many_4 rfl rfl ?_
    refine r_aload_n (pc := 5) C dX5_many_5 rfl rfl ?_
    refine r_invFD (pc := 6) (ci := 6) 0 C dX5_many_6 (xc_length h) (gCy h) (show vwC[6]? = some (RX7, TX7, 3) from rfl) rfl (lw_meth q690) q100 q688 q715 (by decide +kernel) (by decide +kernel) (by decide +kernel) rfl rfl ⟨Nat.le_of_ble_eq_true rfl, Nat.le_of_ble_eq_true rfl⟩ (Nat.le_of_ble_eq_true rfl) ⟨Nat.le_of_ble_eq_true rfl, Nat.le_of_ble_eq_true rfl⟩ (rd_k ?_)
    refine r_icmp_geZ (pc := 11) (tgt := 39) C dX5_many_11 (by decide) (by unfold i32; omega) (by unfold i32; omega) (fun h11 => ?_) (fun h11 => ?_)
    · refine r_iload_n (pc := 39) C dX5_many_39 rfl rfl ?_
      exact r_iret (pc := 40) C hQ dX5_many_40 (Nat.le_of_ble_eq_true rfl) (Nat.le_of_ble_eq_true rfl) (fun G hG => ⟨(by rw [show i = w.length by omega]), hG⟩)
    · refine r_iload_n (pc := 14) C dX5_many_14 rfl rfl ?_
      refine r_aload_n (pc := 15) C dX5_many_15 rfl rfl ?_
      refine r_iload_n (pc := 16) C dX5_many_16 rfl rfl ?_
      refine r_invFD (pc := 17) (ci := 6) 1 C dX5_many_17 (xc_sign (i : Int) h ⟨by omega, by omega⟩) (gCy h) (show vwC[6]? = some (RX7, TX7, 3) from rfl) rfl (lw_meth q725) q100 q723 q719 (by decide +kernel) (by decide +kernel) (by decide +kernel) rfl rfl ⟨Nat.le_of_ble_eq_true rfl, Nat.le_of_ble_eq_true rfl⟩ (Nat.le_of_ble_eq_true rfl) ⟨Nat.le_of_ble_eq_true rfl, Nat.le_of_ble_eq_true rfl⟩ (rd_k ?_)
      rw [show ((i : Int)).toNat = i from rfl]
      refine r_iload_n (pc := 22) C dX5_many_22 rfl rfl ?_
      refine r_icmp_neZ (pc := 23) (tgt := 30) C dX5_many_23 (by decide) (by unfold i32; omega) (by unfold i32; omega) (fun h23 => ?_) (fun h23 => ?_)
      · refine r_iconstZ (pc := 30) C dX5_many_30 ?_
        refine r_iaddZ (pc := 31) C dX5_many_31 ?_
        refine r_istore_n (pc := 32) C dX5_many_32 rfl (by decide) ?_
        refine r_iincZ (pc := 33) C dX5_many_33 rfl (by decide) ?_
        refine r_goto (pc := 36) (tgt := 4) C dX5_many_36 (by decide) ?_
        have e2 := ih (by omega)
        rw [cnt_s] at e2
        first | (rw [show (wl w i == x) = true from beq_iff_eq.mpr (codeB_inj.mp h23)] at e2; exact e2) | (rw [show (wl w i == x) = false from beq_eq_false_iff_ne.mpr (fun q => h23 (by rw [q]))] at e2; exact e2)
      · refine r_iconstZ (pc := 26) C dX5_many_26 ?_
        refine r_goto (pc := 27) (tgt := 31) C dX5_many_27 (by decide) ?_
        refine r_iaddZ (pc := 31) C dX5_many_31 ?_
        refine r_istore_n (pc := 32) C dX5_many_32 rfl (by decide) ?_
        refine r_iincZ (pc := 33) C dX5_many_33 rfl (by decide) ?_
        refine r_goto (pc := 36) (tgt := 4) C dX5_many_36 (by decide) ?_
        have e2 := ih (by omega)
        rw [cnt_s] at e2
        first | (rw [show (wl w i == x) = true from beq_iff_eq.mpr (codeB_inj.mp h23)] at e2; exact e2) | (rw [show (wl w i == x) = false from beq_eq_false_iff_ne.mpr (fun q => h23 (by rw [q]))] at e2; exact e2)
  refine r_iconstZ (pc := 0) C dX5_many_0 ?_
  refine r_istore_n (pc := 1) C dX5_many_1 rfl (by decide) ?_
  refine r_iconstZ (pc := 2) C dX5_many_2 ?_
  refine r_istore_n (pc := 3) C dX5_many_3 rfl (by decide) ?_
  exact loop 0 (Nat.zero_le _)
set_option maxHeartbeats 800000 in
theorem xr_isClosed {la : Launch} {X : XE} {G0 : Gh} {xh a t : Nat} {w : List Bool} (h : ROAD G0 xh a t w) (hm : w.length ≤ 20) : MG la X yX5_isClosed cX5_isClosed 1 (some .boolean) (rmk 6 0 0 129) [.ref a] (fun G => G = G0) (fun zv G => zv = some (.int (iI (bi (wClosed w)))) ∧ G = G0) := by
  refine MG.of (by decide +kernel) (Nat.le_of_ble_eq_true rfl) ?_
  intro Z C hX hL hQ
  subst hX; subst hL
  change WW Z 1 (fun G => G = G0) 0 0 0 [some (.ref a)] []
  have hb := wLefts_b w
  refine r_aload_n (pc := 0) C dX5_isClosed_0 rfl rfl ?_
  refine r_bipushZ (pc := 1) C dX5_isClosed_1 (by decide) ?_
  rw [show (76 : Int) = codeB false from rfl]
  refine r_invFD (pc := 3) (ci := 4) 1 C dX5_isClosed_3 (xr_many false h (by omega)) (gRd h) (show vwC[4]? = some (RX4, TX4, 3) from rfl) rfl (lw_meth q713) q100 q711 q751 (by decide +kernel) (by decide +kernel) (by decide +kernel) rfl rfl ⟨Nat.le_of_ble_eq_true rfl, Nat.le_of_ble_eq_true rfl⟩ (Nat.le_of_ble_eq_true rfl) ⟨Nat.le_of_ble_eq_true rfl, Nat.le_of_ble_eq_true rfl⟩ (rd_k ?_)
  rw [many_L]
  refine r_if_leZ (pc := 8) (tgt := 26) C dX5_isClosed_8 (by decide) (by unfold i32; omega) (fun h8 => ?_) (fun h8 => ?_)
  · refine r_iconstZ (pc := 26) C dX5_isClosed_26 ?_
    exact r_zret (pc := 27) C hQ dX5_isClosed_27 (by decide) (Nat.le_of_ble_eq_true rfl) (Nat.le_of_ble_eq_true rfl) (fun G hG => ⟨(by unfold wClosed; first | (rw [decide_eq_true (by omega)]; rfl) | (rw [decide_eq_false (by omega)]; rfl)), hG⟩)
  · refine r_aload_n (pc := 11) C dX5_isClosed_11 rfl rfl ?_
    refine r_bipushZ (pc := 12) C dX5_isClosed_12 (by decide) ?_
    rw [show (82 : Int) = codeB true from rfl]
    refine r_invFD (pc := 14) (ci := 4) 1 C dX5_isClosed_14 (xr_many true h (by omega)) (gRd h) (show vwC[4]? = some (RX4, TX4, 3) from rfl) rfl (lw_meth q713) q100 q711 q751 (by decide +kernel) (by decide +kernel) (by decide +kernel) rfl rfl ⟨Nat.le_of_ble_eq_true rfl, Nat.le_of_ble_eq_true rfl⟩ (Nat.le_of_ble_eq_true rfl) ⟨Nat.le_of_ble_eq_true rfl, Nat.le_of_ble_eq_true rfl⟩ (rd_k ?_)
    rw [many_R]
    refine r_if_leZ (pc := 19) (tgt := 26) C dX5_isClosed_19 (by decide) (by unfold i32; omega) (fun h19 => ?_) (fun h19 => ?_)
    · refine r_iconstZ (pc := 26) C dX5_isClosed_26 ?_
      exact r_zret (pc := 27) C hQ dX5_isClosed_27 (by decide) (Nat.le_of_ble_eq_true rfl) (Nat.le_of_ble_eq_true rfl) (fun G hG => ⟨(by unfold wClosed; first | (rw [decide_eq_true (by omega)]; rfl) | (rw [decide_eq_false (by omega)]; rfl)), hG⟩)
    · refine r_iconstZ (pc := 22) C dX5_isClosed_22 ?_
      refine r_goto (pc := 23) (tgt := 27) C dX5_isClosed_23 (by decide) ?_
      exact r_zret (pc := 27) C hQ dX5_isClosed_27 (by decide) (Nat.le_of_ble_eq_true rfl) (Nat.le_of_ble_eq_true rfl) (fun G hG => ⟨(by unfold wClosed; first | (rw [decide_eq_true (by omega)]; rfl) | (rw [decide_eq_false (by omega)]; rfl)), hG⟩)
set_option maxHeartbeats 800000 in
theorem xr_period {la : Launch} {X : XE} {G0 : Gh} {xh a t : Nat} {w : List Bool} (h : ROAD G0 xh a t w) (hw : 0 < w.length ∧ w.length ≤ 20) : MG la X yX4_period cX4_period 2 (some .int) (rmk 5 0 0 108) [.ref a] (fun G => G = G0) (fun zv G => zv = some (.int (iI (wPeriod w : Nat))) ∧ G = G0) := by
  refine MG.of (by decide +kernel) (Nat.le_of_ble_eq_true rfl) ?_
  intro Z C hX hL hQ
  subst hX; subst hL
  change WW Z 2 (fun G => G = G0) 0 0 0 [some (.ref a), none] []
  obtain ⟨s, tb, k1, k2, k3⟩ := id h
  obtain ⟨p1, p2, p3⟩ := wPeriod_b w hw.1
  have loop : ∀ i : Nat, i ≤ wPeriod w → 1 ≤ i → WW Z 2 (fun G => G = G0) 0 0 2 [some (.ref a), some (.int (iI (i : Int)))] [] := by
    refine loopN _ _ (fun i hi ih h1 => ?_)
    have hu := (unl_spec w i 0).2.2
    refine r_aload_n (pc := 2) C dX4_period_2 rfl rfl ?_
    refine r_get (pc := 3) (k := 0) (ci := 4) C dX4_period_3 (g1 k1) (show vwC[4]? = some (RX4, TX4, 3) from rfl) in_X4 (by decide) (C.t _ q606) (fun _ h => h) rfl ?_
    refine r_iload_n (pc := 6) C dX4_period_6 rfl rfl ?_
    refine r_iconstZ (pc := 7) C dX4_period_7 ?_
    refine r_invS (pc := 8) 3 C dX4_period_8 (xw_unlike i 0 k2 hw (by omega) (by omega)) rfl (lw_S q733 q734 q100 q735) (by decide +kernel) rfl rfl ⟨Nat.le_of_ble_eq_true rfl, Nat.le_of_ble_eq_true rfl⟩ (Nat.le_of_ble_eq_true rfl) ⟨Nat.le_of_ble_eq_true rfl, Nat.le_of_ble_eq_true rfl⟩ (rd_k ?_)
    refine r_aload_n (pc := 11) C dX4_period_11 rfl rfl ?_
    refine r_get (pc := 12) (k := 0) (ci := 4) C dX4_period_12 (g1 k1) (show vwC[4]? = some (RX4, TX4, 3) from rfl) in_X4 (by decide) (C.t _ q606) (fun _ h => h) rfl ?_
    refine r_invV (pc := 15) (ci := 7) 0 C dX4_period_15 (xs_length k2) (gS k2) (show vwC[7]? = some (RJ0, TJ0, 4) from rfl) rfl (lw_V q736 q452 q1641 q83 q454) (by decide +kernel) rfl rfl ⟨Nat.le_of_ble_eq_true rfl, Nat.le_of_ble_eq_true rfl⟩ (Nat.le_of_ble_eq_true rfl) ⟨Nat.le_of_ble_eq_true rfl, Nat.le_of_ble_eq_true rfl⟩ (rd_k ?_)
    refine r_icmp_geZ (pc := 18) (tgt := 27) C dX4_period_18 (by decide) (by unfold i32; omega) (by unfold i32; omega) (fun h18 => ?_) (fun h18 => ?_)
    · refine r_iload_n (pc := 27) C dX4_period_27 rfl rfl ?_
      exact r_iret (pc := 28) C hQ dX4_period_28 (Nat.le_of_ble_eq_true rfl) (Nat.le_of_ble_eq_true rfl) (fun G hG => ⟨(by rw [wPeriod_eq w i hw.1 h1 (fun j j1 j2 => wPeriod_lt w j j1 (by omega)) (by omega)]), hG⟩)
    · refine r_iincZ (pc := 21) C dX4_period_21 rfl (by decide) ?_
      refine r_goto (pc := 24) (tgt := 2) C dX4_period_24 (by decide) ?_
      have hlt : i < wPeriod w := (by rcases Nat.lt_or_ge i (wPeriod w) with q | q; exact q; rw [show i = wPeriod w by omega, p3] at h18; omega)
      exact ih hlt (by omega)
  refine r_iconstZ (pc := 0) C dX4_period_0 ?_
  refine r_istore_n (pc := 1) C dX4_period_1 rfl (by decide) ?_
  exact loop 1 p1 (Nat.le_refl _)

