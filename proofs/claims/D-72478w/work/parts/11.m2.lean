/-! the reference's methods: a word that is looked at -/
set_option maxRecDepth 100000
set_option maxHeartbeats 800000 in
theorem mt_lefts {la : Launch} {X : XE} {mh : Nat} {mad : Nat → Nat} {G0 : Gh} {st : MSt} (w : List Bool) (h : LookAt st w) : MM la X mh mad G0 yX2_lefts cX2_lefts 3 (some .int) 0 0 [] st (fun v st' => v = some (.int (iI (wLefts w))) ∧ st' = st) := by
  refine MG.of (by decide +kernel) (Nat.le_of_ble_eq_true rfl) ?_
  intro Z C hX hL hQ
  subst hX; subst hL
  change WW Z 3 (MOD mh mad G0 st) 0 0 0 [some (.ref mh), none, none] []
  obtain ⟨h1, h2, h3⟩ := h
  have loop : ∀ i : Nat, i ≤ w.length → WW Z 3 (MOD mh mad G0 (st)) 0 0 4 [some (.ref mh), some (.int (iI (cnt (fun k => !wl w k) i))), some (.int (iI i))] [] := by
    refine loopN _ _ (fun i hi ih => ?_)
    refine r_iload_n (pc := 4) C dX2_lefts_4 rfl rfl ?_
    refine r_aload_n (pc := 5) C dX2_lefts_5 rfl rfl ?_
    refine r_mget (pc := 6) (k := 18) C dX2_lefts_6 rfl q1190 (by decide) rfl ?_
    rw [h1]
    refine r_icmp_geZ (pc := 9) (tgt := 35) C dX2_lefts_9 (by decide) (by unfold i32; omega) (by unfold i32; omega) (fun h9 => ?_) (fun h9 => ?_)
    · refine r_iload_n (pc := 35) C dX2_lefts_35 rfl rfl ?_
      exact r_iret (pc := 36) C hQ dX2_lefts_36 (Nat.le_of_ble_eq_true rfl) (Nat.le_of_ble_eq_true rfl) (fun G hG => ⟨_, hG, ⟨by rw [show i = w.length by omega]; rfl, rfl⟩⟩)
    · refine r_iload_n (pc := 12) C dX2_lefts_12 rfl rfl ?_
      refine r_aload_n (pc := 13) C dX2_lefts_13 rfl rfl ?_
      refine r_mget (pc := 14) (k := 19) C dX2_lefts_14 rfl q1191 (by decide) rfl ?_
      refine r_iload_n (pc := 17) C dX2_lefts_17 rfl rfl ?_
      refine r_mald (pc := 18) (L := 20) C dX2_lefts_18 (by decide) rfl (by omega) (by omega) ?_
      rw [h3 i (by omega)]
      refine r_if_neZ (pc := 19) (tgt := 26) C dX2_lefts_19 (by decide) (by rcases bi_c (wl w i) with q | q <;> rw [q] <;> unfold i32 <;> omega) (fun h19 => ?_) (fun h19 => ?_)
      · refine r_iconstZ (pc := 26) C dX2_lefts_26 ?_
        refine r_iaddZ (pc := 27) C dX2_lefts_27 ?_
        refine r_istore_n (pc := 28) C dX2_lefts_28 rfl (by decide) ?_
        refine r_iincZ (pc := 29) C dX2_lefts_29 rfl (by decide) ?_
        refine r_goto (pc := 32) (tgt := 4) C dX2_lefts_32 (by decide) ?_
        have e : cnt (fun k => !wl w k) (i + 1) = cnt (fun k => !wl w k) i + bi (!wl w i) := rfl
        have ih := ih (by omega)
        rw [e] at ih
        rcases hb : wl w i with _ | _
        · first | (rw [hb] at h19; exact absurd rfl h19) | (rw [hb] at ih; exact ih)
        · first | (rw [hb] at h19; exact absurd h19 (by decide)) | (rw [hb] at ih; exact ih)
      · refine r_iconstZ (pc := 22) C dX2_lefts_22 ?_
        refine r_goto (pc := 23) (tgt := 27) C dX2_lefts_23 (by decide) ?_
        refine r_iaddZ (pc := 27) C dX2_lefts_27 ?_
        refine r_istore_n (pc := 28) C dX2_lefts_28 rfl (by decide) ?_
        refine r_iincZ (pc := 29) C dX2_lefts_29 rfl (by decide) ?_
        refine r_goto (pc := 32) (tgt := 4) C dX2_lefts_32 (by decide) ?_
        have e : cnt (fun k => !wl w k) (i + 1) = cnt (fun k => !wl w k) i + bi (!wl w i) := rfl
        have ih := ih (by omega)
        rw [e] at ih
        rcases hb : wl w i with _ | _
        · first | (rw [hb] at h19; exact absurd rfl h19) | (rw [hb] at ih; exact ih)
        · first | (rw [hb] at h19; exact absurd h19 (by decide)) | (rw [hb] at ih; exact ih)
  refine r_iconstZ (pc := 0) C dX2_lefts_0 ?_
  refine r_istore_n (pc := 1) C dX2_lefts_1 rfl (by decide) ?_
  refine r_iconstZ (pc := 2) C dX2_lefts_2 ?_
  refine r_istore_n (pc := 3) C dX2_lefts_3 rfl (by decide) ?_
  exact loop 0 (Nat.zero_le _)
set_option maxHeartbeats 800000 in
theorem mt_isClosedNow {la : Launch} {X : XE} {mh : Nat} {mad : Nat → Nat} {G0 : Gh} {st : MSt} (w : List Bool) (h : LookAt st w) : MM la X mh mad G0 yX2_isClosedNow cX2_isClosedNow 1 (some .boolean) 1 22 [] st (fun v st' => v = some (.int (iI (bi (wClosed w)))) ∧ st' = st) := by
  refine MG.of (by decide +kernel) (Nat.le_of_ble_eq_true rfl) ?_
  intro Z C hX hL hQ
  subst hX; subst hL
  change WW Z 1 (MOD mh mad G0 st) 0 0 0 [some (.ref mh)] []
  have hb := wLefts_b w
  have hl := h.2.1
  refine r_aload_n (pc := 0) C dX2_isClosedNow_0 rfl rfl ?_
  refine r_minv (pc := 1) 0 C dX2_isClosedNow_1 (mt_lefts w h) rfl (lw_V q1330 q1332 qs33 q92 q1333) (by decide +kernel) rfl rfl ⟨Nat.le_of_ble_eq_true rfl, Nat.le_of_ble_eq_true rfl⟩ (Nat.le_of_ble_eq_true rfl) ⟨Nat.le_of_ble_eq_true rfl, Nat.le_of_ble_eq_true rfl⟩ (fun v1 st1 h1 => ?_)
  obtain ⟨rfl, rfl⟩ := h1
  refine r_if_leZ (pc := 4) (tgt := 22) C dX2_isClosedNow_4 (by decide) (by unfold i32; omega) (fun h4 => ?_) (fun h4 => ?_)
  · refine r_iconstZ (pc := 22) C dX2_isClosedNow_22 ?_
    exact r_zret (pc := 23) C hQ dX2_isClosedNow_23 (by first | exact b2_nar _ | decide) (Nat.le_of_ble_eq_true rfl) (Nat.le_of_ble_eq_true rfl) (fun G hG => ⟨_, hG, ⟨by unfold wClosed; first | rw [decide_eq_true (by omega)]; rfl | rw [decide_eq_false (by omega)]; rfl, rfl⟩⟩)
  · refine r_aload_n (pc := 7) C dX2_isClosedNow_7 rfl rfl ?_
    refine r_minv (pc := 8) 0 C dX2_isClosedNow_8 (mt_lefts w h) rfl (lw_V q1330 q1332 qs33 q92 q1333) (by decide +kernel) rfl rfl ⟨Nat.le_of_ble_eq_true rfl, Nat.le_of_ble_eq_true rfl⟩ (Nat.le_of_ble_eq_true rfl) ⟨Nat.le_of_ble_eq_true rfl, Nat.le_of_ble_eq_true rfl⟩ (fun v8 st8 h8 => ?_)
    obtain ⟨rfl, rfl⟩ := h8
    refine r_aload_n (pc := 11) C dX2_isClosedNow_11 rfl rfl ?_
    refine r_mget (pc := 12) (k := 18) C dX2_isClosedNow_12 rfl q1190 (by decide) rfl ?_
    rw [h.1]
    refine r_icmp_geZ (pc := 15) (tgt := 22) C dX2_isClosedNow_15 (by decide) (by unfold i32; omega) (by unfold i32; omega) (fun h15 => ?_) (fun h15 => ?_)
    · refine r_iconstZ (pc := 22) C dX2_isClosedNow_22 ?_
      exact r_zret (pc := 23) C hQ dX2_isClosedNow_23 (by first | exact b2_nar _ | decide) (Nat.le_of_ble_eq_true rfl) (Nat.le_of_ble_eq_true rfl) (fun G hG => ⟨_, hG, ⟨by unfold wClosed; first | rw [decide_eq_true (by omega)]; rfl | rw [decide_eq_false (by omega)]; rfl, rfl⟩⟩)
    · refine r_iconstZ (pc := 18) C dX2_isClosedNow_18 ?_
      refine r_goto (pc := 19) (tgt := 23) C dX2_isClosedNow_19 (by decide) ?_
      exact r_zret (pc := 23) C hQ dX2_isClosedNow_23 (by first | exact b2_nar _ | decide) (Nat.le_of_ble_eq_true rfl) (Nat.le_of_ble_eq_true rfl) (fun G hG => ⟨_, hG, ⟨by unfold wClosed; first | rw [decide_eq_true (by omega)]; rfl | rw [decide_eq_false (by omega)]; rfl, rfl⟩⟩)
set_option maxHeartbeats 800000 in
theorem mt_isClosed {la : Launch} {X : XE} {mh : Nat} {mad : Nat → Nat} {G0 : Gh} {st : MSt} (r : Int) (w : List Bool) (hr : 0 ≤ r ∧ r < 6) (h : RoadIs st r w) : MM la X mh mad G0 yX2_isClosed cX2_isClosed 2 (some .boolean) 2 42 [.int (iI r)] st (fun v st' => v = some (.int (iI (bi (wClosed w)))) ∧ LookAt st' w ∧ eqx [18, 19] st st') := by
  refine MG.of (by decide +kernel) (Nat.le_of_ble_eq_true rfl) ?_
  intro Z C hX hL hQ
  subst hX; subst hL
  change WW Z 2 (MOD mh mad G0 st) 0 0 0 [some (.ref mh), some (.int (iI r))] []
  refine r_aload_n (pc := 0) C dX2_isClosed_0 rfl rfl ?_
  refine r_iload_n (pc := 1) C dX2_isClosed_1 rfl rfl ?_
  refine r_minv (pc := 2) 1 C dX2_isClosed_2 (mt_look r w hr h) rfl (lw_V q1326 q1328 qs32 q92 q1329) (by decide +kernel) rfl rfl ⟨Nat.le_of_ble_eq_true rfl, Nat.le_of_ble_eq_true rfl⟩ (Nat.le_of_ble_eq_true rfl) ⟨Nat.le_of_ble_eq_true rfl, Nat.le_of_ble_eq_true rfl⟩ (fun v2 st2 h2 => ?_)
  obtain ⟨rfl, h2a, h2b⟩ := h2
  refine r_aload_n (pc := 5) C dX2_isClosed_5 rfl rfl ?_
  refine r_minv (pc := 6) 0 C dX2_isClosed_6 (mt_isClosedNow w h2a) rfl (lw_V q1354 q1356 qs39 q92 q1357) (by decide +kernel) rfl rfl ⟨Nat.le_of_ble_eq_true rfl, Nat.le_of_ble_eq_true rfl⟩ (Nat.le_of_ble_eq_true rfl) ⟨Nat.le_of_ble_eq_true rfl, Nat.le_of_ble_eq_true rfl⟩ (fun v6 st6 h6 => ?_)
  obtain ⟨rfl, rfl⟩ := h6
  exact r_zret (pc := 9) C hQ dX2_isClosed_9 (by cases wClosed w <;> decide) (Nat.le_of_ble_eq_true rfl) (Nat.le_of_ble_eq_true rfl) (fun G hG => ⟨_, hG, ⟨rfl, h2a, h2b⟩⟩)
set_option maxHeartbeats 800000 in
theorem mt_compareTurns {la : Launch} {X : XE} {mh : Nat} {mad : Nat → Nat} {G0 : Gh} {st : MSt} (w : List Bool) (a b : Nat) (ha : a ≤ 40) (hb : b ≤ 40) (h : LookAt st w) : MM la X mh mad G0 yX2_compareTurns cX2_compareTurns 5 (some .int) 0 0 [.int (iI a), .int (iI b)] st (fun v st' => v = some (.int (iI (wcmp w a b))) ∧ st' = st) := by
  refine MG.of (by decide +kernel) (Nat.le_of_ble_eq_true rfl) ?_
  intro Z C hX hL hQ
  subst hX; subst hL
  change WW Z 5 (MOD mh mad G0 st) 0 0 0 [some (.ref mh), some (.int (iI a)), some (.int (iI b)), none, none] []
  have hcyc := h.cyc h.2.1.1
  obtain ⟨h1, h2, h3⟩ := h
  have fin : ∀ i : Nat, i ≤ w.length → (∀ j, j < i → wc w (a + j) = wc w (b + j)) → (i < w.length → wc w (a + i) ≠ wc w (b + i)) → unl w a b = i := fun i hi h1 h2 => fstN_eq hi (fun j hj => by rw [h1 j hj]; simp) (fun hl => by simp; exact h2 hl)
  have loop : ∀ i : Nat, i ≤ w.length → ∀ v4 : Option Value, (∀ j, j < i → wc w (a + j) = wc w (b + j)) → WW Z 5 (MOD mh mad G0 st) 0 0 2 [some (.ref mh), some (.int (iI a)), some (.int (iI b)), some (.int (iI i)), v4] [] := by
    refine loopN _ _ (fun i hi ih v4 g => ?_)
    refine r_iload_n (pc := 2) C dX2_compareTurns_2 rfl rfl ?_
    refine r_aload_n (pc := 3) C dX2_compareTurns_3 rfl rfl ?_
    refine r_mget (pc := 4) (k := 18) C dX2_compareTurns_4 rfl q1190 (by decide) rfl ?_
    rw [h1]
    refine r_icmp_geZ (pc := 7) (tgt := 53) C dX2_compareTurns_7 (by decide) (by unfold i32; omega) (by unfold i32; omega) (fun h7 => ?_) (fun h7 => ?_)
    · refine r_iconstZ (pc := 53) C dX2_compareTurns_53 ?_
      exact r_iret (pc := 54) C hQ dX2_compareTurns_54 (Nat.le_of_ble_eq_true rfl) (Nat.le_of_ble_eq_true rfl) (fun G hG => ⟨_, hG, ⟨by unfold wcmp; rw [fin i hi g (fun h => by omega), if_neg (by omega)], rfl⟩⟩)
    · refine r_aload_n (pc := 10) C dX2_compareTurns_10 rfl rfl ?_
      refine r_mget (pc := 11) (k := 19) C dX2_compareTurns_11 rfl q1191 (by decide) rfl ?_
      refine r_iload_n (pc := 14) C dX2_compareTurns_14 rfl rfl ?_
      refine r_iload_n (pc := 15) C dX2_compareTurns_15 rfl rfl ?_
      refine r_iaddZ (pc := 16) C dX2_compareTurns_16 ?_
      refine r_aload_n (pc := 17) C dX2_compareTurns_17 rfl rfl ?_
      refine r_mget (pc := 18) (k := 18) C dX2_compareTurns_18 rfl q1190 (by decide) rfl ?_
      rw [h1]
      refine r_iremE (pc := 21) C dX2_compareTurns_21 (by unfold i32; omega) (by unfold i32; omega) (by omega) (by omega) ?_
      refine r_mald (pc := 22) (L := 20) C dX2_compareTurns_22 (by decide) rfl (Int.emod_nonneg _ (by omega)) (by have := Int.emod_lt_of_pos ((a : Int) + i) (show (0 : Int) < w.length by omega); omega) ?_
      simp only [hcyc]
      refine r_aload_n (pc := 23) C dX2_compareTurns_23 rfl rfl ?_
      refine r_mget (pc := 24) (k := 19) C dX2_compareTurns_24 rfl q1191 (by decide) rfl ?_
      refine r_iload_n (pc := 27) C dX2_compareTurns_27 rfl rfl ?_
      refine r_iload_n (pc := 28) C dX2_compareTurns_28 rfl rfl ?_
      refine r_iaddZ (pc := 29) C dX2_compareTurns_29 ?_
      refine r_aload_n (pc := 30) C dX2_compareTurns_30 rfl rfl ?_
      refine r_mget (pc := 31) (k := 18) C dX2_compareTurns_31 rfl q1190 (by decide) rfl ?_
      rw [h1]
      refine r_iremE (pc := 34) C dX2_compareTurns_34 (by unfold i32; omega) (by unfold i32; omega) (by omega) (by omega) ?_
      refine r_mald (pc := 35) (L := 20) C dX2_compareTurns_35 (by decide) rfl (Int.emod_nonneg _ (by omega)) (by have := Int.emod_lt_of_pos ((b : Int) + i) (show (0 : Int) < w.length by omega); omega) ?_
      simp only [hcyc]
      refine r_isubZ (pc := 36) C dX2_compareTurns_36 ?_
      refine r_istore (pc := 37) C dX2_compareTurns_37 (by decide) ?_
      refine r_iload (pc := 39) C dX2_compareTurns_39 rfl ?_
      refine r_if_eqZ (pc := 41) (tgt := 47) C dX2_compareTurns_41 (by decide) (by rcases bi_c (wc w (a + i)) with q | q <;> rcases bi_c (wc w (b + i)) with q2 | q2 <;> rw [q, q2] <;> unfold i32 <;> omega) (fun h41 => ?_) (fun h41 => ?_)
      · refine r_iincZ (pc := 47) C dX2_compareTurns_47 rfl (by decide) ?_
        refine r_goto (pc := 50) (tgt := 2) C dX2_compareTurns_50 (by decide) ?_
        refine ih (by omega) _ (fun j hj => ?_)
        by_cases e : j = i
        · rw [e]; exact bi_inj.mp (by omega)
        · exact g j (by omega)
      · refine r_iload (pc := 44) C dX2_compareTurns_44 rfl ?_
        exact r_iret (pc := 46) C hQ dX2_compareTurns_46 (Nat.le_of_ble_eq_true rfl) (Nat.le_of_ble_eq_true rfl) (fun G hG => ⟨_, hG, ⟨by unfold wcmp; rw [fin i hi g (fun _ e => h41 (by rw [e]; omega)), if_pos (by omega)], rfl⟩⟩)
  refine r_iconstZ (pc := 0) C dX2_compareTurns_0 ?_
  refine r_istore_n (pc := 1) C dX2_compareTurns_1 rfl (by decide) ?_
  exact loop 0 (Nat.zero_le _) _ (fun j hj => absurd hj (Nat.not_lt_zero _))
set_option maxHeartbeats 800000 in
theorem mt_periodNow {la : Launch} {X : XE} {mh : Nat} {mad : Nat → Nat} {G0 : Gh} {st : MSt} (w : List Bool) (h : LookAt st w) : MM la X mh mad G0 yX2_periodNow cX2_periodNow 2 (some .int) 1 24 [] st (fun v st' => v = some (.int (iI (wPeriod w))) ∧ st' = st) := by
  refine MG.of (by decide +kernel) (Nat.le_of_ble_eq_true rfl) ?_
  intro Z C hX hL hQ
  subst hX; subst hL
  change WW Z 2 (MOD mh mad G0 st) 0 0 0 [some (.ref mh), none] []
  have hn := h.2.1
  have hp := wPeriod_b w hn.1
  have loop : ∀ i : Nat, i ≤ w.length → 1 ≤ i → (∀ j, 1 ≤ j → j < i → unl w j 0 ≠ w.length) → WW Z 2 (MOD mh mad G0 (st)) 0 0 2 [some (.ref mh), some (.int (iI i))] [] := by
    refine loopN _ _ (fun i hi ih g1 g2 => ?_)
    refine r_aload_n (pc := 2) C dX2_periodNow_2 rfl rfl ?_
    refine r_iload_n (pc := 3) C dX2_periodNow_3 rfl rfl ?_
    refine r_aload_n (pc := 4) C dX2_periodNow_4 rfl rfl ?_
    refine r_mget (pc := 5) (k := 18) C dX2_periodNow_5 rfl q1190 (by decide) rfl ?_
    rw [h.1]
    refine r_iremE (pc := 8) C dX2_periodNow_8 (by unfold i32; omega) (by unfold i32; omega) (by omega) (by omega) ?_
    have e8 : ((i : Int) % (w.length : Int)) = ((i % w.length : Nat) : Int) := rfl
    rw [e8]
    refine r_iconstZ (pc := 9) C dX2_periodNow_9 ?_
    refine r_minv (pc := 10) 2 C dX2_periodNow_10 (mt_compareTurns w (i % w.length) 0 (by have := Nat.mod_lt i hn.1; omega) (by omega) h) rfl (lw_V q1338 q1340 qs35 q92 q1341) (by decide +kernel) rfl rfl ⟨Nat.le_of_ble_eq_true rfl, Nat.le_of_ble_eq_true rfl⟩ (Nat.le_of_ble_eq_true rfl) ⟨Nat.le_of_ble_eq_true rfl, Nat.le_of_ble_eq_true rfl⟩ (fun v10 st10 h10 => ?_)
    obtain ⟨rfl, rfl⟩ := h10
    rw [wcmp_mod]
    refine r_if_eqZ (pc := 13) (tgt := 22) C dX2_periodNow_13 (by decide) (by have := wcmp_b w i 0; unfold i32; omega) (fun h13 => ?_) (fun h13 => ?_)
    · refine r_iload_n (pc := 22) C dX2_periodNow_22 rfl rfl ?_
      exact r_iret (pc := 23) C hQ dX2_periodNow_23 (Nat.le_of_ble_eq_true rfl) (Nat.le_of_ble_eq_true rfl) (fun G hG => ⟨_, hG, ⟨by rw [wPeriod_eq w i hn.1 g1 g2 ((wcmp_0 w i 0).mp h13)], rfl⟩⟩)
    · refine r_iincZ (pc := 16) C dX2_periodNow_16 rfl (by decide) ?_
      refine r_goto (pc := 19) (tgt := 2) C dX2_periodNow_19 (by decide) ?_
      have hne : unl w i 0 ≠ w.length := fun e => h13 ((wcmp_0 w i 0).mpr e)
      have hlt : i < wPeriod w := by rcases Nat.lt_or_ge i (wPeriod w) with q | q; exact q; exact absurd hp.2.2 (by rcases Nat.lt_or_eq_of_le q with q2 | q2; exact g2 _ hp.1 q2; rw [q2]; exact hne)
      exact ih (by omega) (by omega) (fun j h1 h2 => by by_cases e : j = i; rw [e]; exact hne; exact g2 j h1 (by omega))
  refine r_iconstZ (pc := 0) C dX2_periodNow_0 ?_
  refine r_istore_n (pc := 1) C dX2_periodNow_1 rfl (by decide) ?_
  exact loop 1 (by omega) (Nat.le_refl _) (fun j h1 h2 => by omega)
set_option maxHeartbeats 800000 in
theorem mt_leastTurnNow {la : Launch} {X : XE} {mh : Nat} {mad : Nat → Nat} {G0 : Gh} {st : MSt} (w : List Bool) (h : LookAt st w) : MM la X mh mad G0 yX2_leastTurnNow cX2_leastTurnNow 3 (some .int) 1 24 [] st (fun v st' => v = some (.int (iI (wLeast w))) ∧ st' = st) := by
  refine MG.of (by decide +kernel) (Nat.le_of_ble_eq_true rfl) ?_
  intro Z C hX hL hQ
  subst hX; subst hL
  change WW Z 3 (MOD mh mad G0 st) 0 0 0 [some (.ref mh), none, none] []
  have hn := h.2.1
  have loop : ∀ i : Nat, i ≤ w.length - 1 → WW Z 3 (MOD mh mad G0 (st)) 0 0 4 [some (.ref mh), some (.int (iI (wLeastN w i))), some (.int (iI ((i + 1 : Nat) : Int)))] [] := by
    refine loopN _ _ (fun i hi ih => ?_)
    refine r_iload_n (pc := 4) C dX2_leastTurnNow_4 rfl rfl ?_
    refine r_aload_n (pc := 5) C dX2_leastTurnNow_5 rfl rfl ?_
    refine r_mget (pc := 6) (k := 18) C dX2_leastTurnNow_6 rfl q1190 (by decide) rfl ?_
    rw [h.1]
    refine r_icmp_geZ (pc := 9) (tgt := 33) C dX2_leastTurnNow_9 (by decide) (by unfold i32; omega) (by unfold i32; omega) (fun h9 => ?_) (fun h9 => ?_)
    · refine r_iload_n (pc := 33) C dX2_leastTurnNow_33 rfl rfl ?_
      exact r_iret (pc := 34) C hQ dX2_leastTurnNow_34 (Nat.le_of_ble_eq_true rfl) (Nat.le_of_ble_eq_true rfl) (fun G hG => ⟨_, hG, ⟨by unfold wLeast; rw [show w.length - 1 = i by omega], rfl⟩⟩)
    · refine r_aload_n (pc := 12) C dX2_leastTurnNow_12 rfl rfl ?_
      refine r_iload_n (pc := 13) C dX2_leastTurnNow_13 rfl rfl ?_
      refine r_iload_n (pc := 14) C dX2_leastTurnNow_14 rfl rfl ?_
      refine r_minv (pc := 15) 2 C dX2_leastTurnNow_15 (mt_compareTurns w (i + 1) (wLeastN w i) (by omega) (by have := wLeastN_le w i; omega) h) rfl (lw_V q1338 q1340 qs35 q92 q1341) (by decide +kernel) rfl rfl ⟨Nat.le_of_ble_eq_true rfl, Nat.le_of_ble_eq_true rfl⟩ (Nat.le_of_ble_eq_true rfl) ⟨Nat.le_of_ble_eq_true rfl, Nat.le_of_ble_eq_true rfl⟩ (fun v15 st15 h15 => ?_)
      obtain ⟨rfl, rfl⟩ := h15
      refine r_if_geZ (pc := 18) (tgt := 25) C dX2_leastTurnNow_18 (by decide) (by have := wcmp_b w (i + 1) (wLeastN w i); unfold i32; omega) (fun h18 => ?_) (fun h18 => ?_)
      · refine r_iload_n (pc := 25) C dX2_leastTurnNow_25 rfl rfl ?_
        refine r_istore_n (pc := 26) C dX2_leastTurnNow_26 rfl (by decide) ?_
        refine r_iincZ (pc := 27) C dX2_leastTurnNow_27 rfl (by decide) ?_
        refine r_goto (pc := 30) (tgt := 4) C dX2_leastTurnNow_30 (by decide) ?_
        have ih := ih (by omega)
        unfold wLeastN at ih
        first | rw [if_pos (by omega)] at ih; exact ih | rw [if_neg (by omega)] at ih; exact ih
      · refine r_iload_n (pc := 21) C dX2_leastTurnNow_21 rfl rfl ?_
        refine r_goto (pc := 22) (tgt := 26) C dX2_leastTurnNow_22 (by decide) ?_
        refine r_istore_n (pc := 26) C dX2_leastTurnNow_26 rfl (by decide) ?_
        refine r_iincZ (pc := 27) C dX2_leastTurnNow_27 rfl (by decide) ?_
        refine r_goto (pc := 30) (tgt := 4) C dX2_leastTurnNow_30 (by decide) ?_
        have ih := ih (by omega)
        unfold wLeastN at ih
        first | rw [if_pos (by omega)] at ih; exact ih | rw [if_neg (by omega)] at ih; exact ih
  refine r_iconstZ (pc := 0) C dX2_leastTurnNow_0 ?_
  refine r_istore_n (pc := 1) C dX2_leastTurnNow_1 rfl (by decide) ?_
  refine r_iconstZ (pc := 2) C dX2_leastTurnNow_2 ?_
  refine r_istore_n (pc := 3) C dX2_leastTurnNow_3 rfl (by decide) ?_
  exact loop 0 (Nat.zero_le _)

