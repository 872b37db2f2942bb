/-! the reference's methods: change, join, times, cut, drop -/
set_option maxRecDepth 100000
theorem wChanged_0 (w : List Bool) : wChanged w 0 = wOther w true false := by unfold wChanged; rw [if_pos rfl]
theorem wChanged_1 (w : List Bool) : wChanged w 1 = wOther w false true := by unfold wChanged; rw [if_neg (by decide), if_pos rfl]
theorem wChanged_2 (w : List Bool) : wChanged w 2 = wTurned w (wLeast w) := by unfold wChanged; rw [if_neg (by decide), if_neg (by decide)]
theorem set_wsat {ws : Wss} {r : Int} {w : List Bool} (hr : 0 ≤ r ∧ r ≤ (ws.length : Int) - 1) : wsat (ws.set r.toNat w) r = w := by
  unfold wsat
  rw [List.getD_eq_getElem?_getD, List.getElem?_set_self (by omega)]
  rfl
set_option maxHeartbeats 800000 in
theorem mt_change {la : Launch} {X : XE} {mh : Nat} {mad : Nat → Nat} {G0 : Gh} {st : MSt} (ws : Wss) (r how : Int) (hr : i32 r) (hh : i32 how) (h : RoadsAre st ws) : MM la X mh mad G0 yX2_change cX2_change 4 (some .int) 2 46 [.int (iI r), .int (iI how)] st (fun v st' => v = some (.int (iI (sChange ws r how).1)) ∧ RoadsAre st' (sChange ws r how).2 ∧ eqx (2 :: 3 :: 4 :: tq) st st') := by
  refine MG.of (by decide +kernel) (Nat.le_of_ble_eq_true rfl) ?_
  intro Z C hX hL hQ
  subst hX; subst hL
  change WW Z 4 (MOD mh mad G0 st) 0 0 0 [some (.ref mh), some (.int (iI r)), some (.int (iI how)), none] []
  have fin : ∀ (h5 : 0 ≤ r ∧ r ≤ (ws.length : Int) - 1) (h17 : 0 ≤ how ∧ how ≤ 2) (sti : MSt) (v3 : Option Value), RoadsAre sti (ws.set r.toNat (wChanged (wsat ws r) how)) → eqx (2 :: 3 :: 4 :: tq) st sti → WW Z 4 (MOD mh mad G0 sti) 0 0 101 [some (.ref mh), some (.int (iI r)), some (.int (iI how)), v3] [] := by
    intro h5 h17 sti v3 hfin e101
    obtain ⟨hR, hR6⟩ := h.at h5
    skip
    refine r_aload_n (pc := 101) C dX2_change_101 rfl rfl ?_
    refine r_iload_n (pc := 102) C dX2_change_102 rfl rfl ?_
    refine r_minv (pc := 103) 1 C dX2_change_103 (mt_look r (wChanged (wsat ws r) how) hR6 (by have := (hfin.at (r := r) (by rw [List.length_set]; exact h5)).1; rw [set_wsat h5] at this; exact this)) rfl (lw_V q1326 q1328 qs32 q92 q1329) (by decide +kernel) rfl rfl ⟨Nat.le_of_ble_eq_true rfl, Nat.le_of_ble_eq_true rfl⟩ (Nat.le_of_ble_eq_true rfl) ⟨Nat.le_of_ble_eq_true rfl, Nat.le_of_ble_eq_true rfl⟩ (fun v103 st103 h103 => ?_)
    obtain ⟨rfl, h103a, h103b⟩ := h103
    refine r_aload_n (pc := 106) C dX2_change_106 rfl rfl ?_
    refine r_minv (pc := 107) 0 C dX2_change_107 (mt_traceNow (wChanged (wsat ws r) how) h103a) rfl (lw_V q1346 q1348 qs37 q92 q1349) (by decide +kernel) rfl rfl ⟨Nat.le_of_ble_eq_true rfl, Nat.le_of_ble_eq_true rfl⟩ (Nat.le_of_ble_eq_true rfl) ⟨Nat.le_of_ble_eq_true rfl, Nat.le_of_ble_eq_true rfl⟩ (fun v107 st107 h107 => ?_)
    obtain ⟨rfl, h107a, h107b⟩ := h107
    exact r_iret (pc := 110) C hQ dX2_change_110 (Nat.le_of_ble_eq_true rfl) (Nat.le_of_ble_eq_true rfl) (fun G hG => ⟨_, hG, ⟨by unfold sChange; rw [if_pos h5, if_pos h17], by unfold sChange; rw [if_pos h5, if_pos h17]; exact (hfin.x h103b (by decide) (by decide) (by decide)).x h107b (by decide) (by decide) (by decide), (e101.tr (h103b.wk (by decide))).tr (h107b.wk (by decide))⟩⟩)
  have mid : ∀ (h5 : 0 ≤ r ∧ r ≤ (ws.length : Int) - 1) (h17 : 0 ≤ how ∧ how ≤ 2) (h30 : how ≠ 2) (st25 : MSt) (h25a : LookAt st25 (wsat ws r)) (h25b : eqx [18, 19] st st25) (hh25 : RoadsAre st25 ws) (v3 : Option Value) (x1 x2 : Int), x1 = b2 (how = 0) → x2 = b2 (how = 1) → WW Z 4 (MOD mh mad G0 st25) 0 0 65 [some (.ref mh), some (.int (iI r)), some (.int (iI how)), v3] [.int (iI x2), .int (iI x1), .ref mh] := by
    intro h5 h17 h30 st25 h25a h25b hh25 v3 x1 x2 e1 e2
    obtain ⟨hR, hR6⟩ := h.at h5
    have hR21 := hR.2.1
    have hx1 : x1 = bi (decide (how = 0)) := by rw [e1]; unfold b2 bi; simp
    have hx2 : x2 = bi (decide (how = 1)) := by rw [e2]; unfold b2 bi; simp
    rw [hx1, hx2]
    have hwc : wOther (wsat ws r) (decide (how = 0)) (decide (how = 1)) = wChanged (wsat ws r) how := by
      have h3 : how = 0 ∨ how = 1 := by omega
      rcases h3 with rfl | rfl
      · rw [wChanged_0]; rfl
      · rw [wChanged_1]; rfl
    have hcl := wChanged_len (wsat ws r) how
    have loop : ∀ st65 : MSt, OtherAt st65 (wChanged (wsat ws r) how) → eqx [20, 21] st25 st65 → ∀ i : Nat, i ≤ (wsat ws r).length → ∀ sti : MSt, eqx [4] st65 sti → (∀ j : Int, (j < 20 * r ∨ 20 * r + 20 ≤ j) → sti.2 4 j = st65.2 4 j) → (∀ k : Nat, k < i → sti.2 4 (20 * r + k) = bi (wl (wChanged (wsat ws r) how) k)) → WW Z 4 (MOD mh mad G0 sti) 0 0 70 [some (.ref mh), some (.int (iI r)), some (.int (iI how)), some (.int (iI i))] [] := by
      intro st65 h65a h65b
      refine loopN _ _ (fun i hi ih sti g1 g2 g3 => ?_)
      have hlk := (h25a.x h65b (by decide) (by decide)).x g1 (by decide) (by decide)
      have hot := h65a.x g1 (by decide) (by decide)
      refine r_iload_n (pc := 70) C dX2_change_70 rfl rfl ?_
      refine r_aload_n (pc := 71) C dX2_change_71 rfl rfl ?_
      refine r_mget (pc := 72) (k := 18) C dX2_change_72 rfl q1190 (by decide) rfl ?_
      rw [hlk.1]
      refine r_icmp_geZ (pc := 75) (tgt := 101) C dX2_change_75 (by decide) (by unfold i32; omega) (by unfold i32; omega) (fun h75 => ?_) (fun h75 => ?_)
      · exact fin h5 h17 _ _ ((hh25.x h65b (by decide) (by decide) (by decide)).store h5 hcl ⟨g1, g2, fun k hk => g3 k (by omega)⟩) (((h25b.wk (by decide)).tr (h65b.wk (by decide))).tr (g1.wk (by decide)))
      · refine r_aload_n (pc := 78) C dX2_change_78 rfl rfl ?_
        refine r_mget (pc := 79) (k := 4) C dX2_change_79 rfl q1176 (by decide) rfl ?_
        refine r_bipushZ (pc := 82) C dX2_change_82 (by decide) ?_
        refine r_iload_n (pc := 84) C dX2_change_84 rfl rfl ?_
        refine r_imulZ (pc := 85) C dX2_change_85 ?_
        refine r_iload_n (pc := 86) C dX2_change_86 rfl rfl ?_
        refine r_iaddZ (pc := 87) C dX2_change_87 ?_
        refine r_aload_n (pc := 88) C dX2_change_88 rfl rfl ?_
        refine r_mget (pc := 89) (k := 21) C dX2_change_89 rfl q1193 (by decide) rfl ?_
        refine r_iload_n (pc := 92) C dX2_change_92 rfl rfl ?_
        refine r_mald (pc := 93) (L := 20) C dX2_change_93 (by decide) rfl (by omega) (by omega) ?_
        rw [hot.2.2 i (by omega)]
        refine r_mast (pc := 94) (L := 120) C dX2_change_94 (by decide) rfl (by omega) (by omega) ?_
        refine r_iincZ (pc := 95) C dX2_change_95 rfl (by decide) ?_
        refine r_goto (pc := 98) (tgt := 70) C dX2_change_98 (by decide) ?_
        refine ih (by omega) _ (g1.aput (by decide)) (fun j hj => by rw [aput_nj _ _ _ (by omega)]; exact g2 j hj) (fun k hk => ?_)
        by_cases e : k = i
        · rw [e, aput_eq]
        · rw [aput_nj _ _ _ (by omega)]; exact g3 k (by omega)
    refine r_minv (pc := 65) 2 C dX2_change_65 (mt_layOther (wsat ws r) (decide (how = 0)) (decide (how = 1)) h25a) rfl (lw_V q1362 q1364 qs41 q92 q1365) (by decide +kernel) rfl rfl ⟨Nat.le_of_ble_eq_true rfl, Nat.le_of_ble_eq_true rfl⟩ (Nat.le_of_ble_eq_true rfl) ⟨Nat.le_of_ble_eq_true rfl, Nat.le_of_ble_eq_true rfl⟩ (fun v65 st65 h65 => ?_)
    obtain ⟨rfl, h65a, h65b⟩ := h65
    rw [hwc] at h65a
    refine r_iconstZ (pc := 68) C dX2_change_68 ?_
    refine r_istore_n (pc := 69) C dX2_change_69 rfl (by decide) ?_
    exact loop _ h65a h65b 0 (Nat.zero_le _) _ eqx.rf (fun _ _ => rfl) (fun k hk => absurd hk (Nat.not_lt_zero _))
  refine r_aload_n (pc := 0) C dX2_change_0 rfl rfl ?_
  refine r_iload_n (pc := 1) C dX2_change_1 rfl rfl ?_
  refine r_minv (pc := 2) 1 C dX2_change_2 (mt_isRoad ws r hr h) rfl (lw_V q1317 q1319 qs30 q92 q1320) (by decide +kernel) rfl rfl ⟨Nat.le_of_ble_eq_true rfl, Nat.le_of_ble_eq_true rfl⟩ (Nat.le_of_ble_eq_true rfl) ⟨Nat.le_of_ble_eq_true rfl, Nat.le_of_ble_eq_true rfl⟩ (fun v2 st2 h2 => ?_)
  obtain ⟨rfl, rfl⟩ := h2
  refine r_if_neB (pc := 5) (tgt := 11) C dX2_change_5 (by decide)  (fun h5 => ?_) (fun h5 => ?_)
  · refine r_iload_n (pc := 11) C dX2_change_11 rfl rfl ?_
    refine r_iconstZ (pc := 12) C dX2_change_12 ?_
    refine r_iconstZ (pc := 13) C dX2_change_13 ?_
    refine r_invP (pc := 14) 3 C dX2_change_14 (pf_within how 0 2 hh i32_0 (by unfold i32; omega)) rfl (lw_S q1283 q1284 q92 q1285) (by decide +kernel) rfl rfl ⟨Nat.le_of_ble_eq_true rfl, Nat.le_of_ble_eq_true rfl⟩ (Nat.le_of_ble_eq_true rfl) ⟨Nat.le_of_ble_eq_true rfl, Nat.le_of_ble_eq_true rfl⟩ ?_
    refine r_if_neB (pc := 17) (tgt := 23) C dX2_change_17 (by decide)  (fun h17 => ?_) (fun h17 => ?_)
    · obtain ⟨hR, hR6⟩ := h.at h5
      have hR21 := hR.2.1
      refine r_aload_n (pc := 23) C dX2_change_23 rfl rfl ?_
      refine r_iload_n (pc := 24) C dX2_change_24 rfl rfl ?_
      refine r_minv (pc := 25) 1 C dX2_change_25 (mt_look r (wsat ws r) hR6 hR) rfl (lw_V q1326 q1328 qs32 q92 q1329) (by decide +kernel) rfl rfl ⟨Nat.le_of_ble_eq_true rfl, Nat.le_of_ble_eq_true rfl⟩ (Nat.le_of_ble_eq_true rfl) ⟨Nat.le_of_ble_eq_true rfl, Nat.le_of_ble_eq_true rfl⟩ (fun v25 st25 h25 => ?_)
      obtain ⟨rfl, h25a, h25b⟩ := h25
      have hh25 := h.x h25b (by decide) (by decide) (by decide)
      refine r_iload_n (pc := 28) C dX2_change_28 rfl rfl ?_
      refine r_iconstZ (pc := 29) C dX2_change_29 ?_
      refine r_icmp_neZ (pc := 30) (tgt := 45) C dX2_change_30 (by decide) (by unfold i32; omega) (by unfold i32; omega) (fun h30 => ?_) (fun h30 => ?_)
      · refine r_aload_n (pc := 45) C dX2_change_45 rfl rfl ?_
        refine r_iload_n (pc := 46) C dX2_change_46 rfl rfl ?_
        refine r_if_neZ (pc := 47) (tgt := 54) C dX2_change_47 (by decide) hh (fun h47 => ?_) (fun h47 => ?_)
        · refine r_iconstZ (pc := 54) C dX2_change_54 ?_
          refine r_iload_n (pc := 55) C dX2_change_55 rfl rfl ?_
          refine r_iconstZ (pc := 56) C dX2_change_56 ?_
          refine r_icmp_neZ (pc := 57) (tgt := 64) C dX2_change_57 (by decide) (by unfold i32; omega) (by unfold i32; omega) (fun h57 => ?_) (fun h57 => ?_)
          · refine r_iconstZ (pc := 64) C dX2_change_64 ?_
            exact mid h5 h17 h30 _ h25a h25b hh25 _ _ _ (by first | rw [b2_t h47] | rw [b2_f h47]) (by first | rw [b2_t h57] | rw [b2_f h57])
          · refine r_iconstZ (pc := 60) C dX2_change_60 ?_
            refine r_goto (pc := 61) (tgt := 65) C dX2_change_61 (by decide) ?_
            exact mid h5 h17 h30 _ h25a h25b hh25 _ _ _ (by first | rw [b2_t h47] | rw [b2_f h47]) (by first | rw [b2_t h57] | rw [b2_f h57])
        · refine r_iconstZ (pc := 50) C dX2_change_50 ?_
          refine r_goto (pc := 51) (tgt := 55) C dX2_change_51 (by decide) ?_
          refine r_iload_n (pc := 55) C dX2_change_55 rfl rfl ?_
          refine r_iconstZ (pc := 56) C dX2_change_56 ?_
          refine r_icmp_neZ (pc := 57) (tgt := 64) C dX2_change_57 (by decide) (by unfold i32; omega) (by unfold i32; omega) (fun h57 => ?_) (fun h57 => ?_)
          · refine r_iconstZ (pc := 64) C dX2_change_64 ?_
            exact mid h5 h17 h30 _ h25a h25b hh25 _ _ _ (by first | rw [b2_t h47] | rw [b2_f h47]) (by first | rw [b2_t h57] | rw [b2_f h57])
          · refine r_iconstZ (pc := 60) C dX2_change_60 ?_
            refine r_goto (pc := 61) (tgt := 65) C dX2_change_61 (by decide) ?_
            exact mid h5 h17 h30 _ h25a h25b hh25 _ _ _ (by first | rw [b2_t h47] | rw [b2_f h47]) (by first | rw [b2_t h57] | rw [b2_f h57])
      · refine r_aload_n (pc := 33) C dX2_change_33 rfl rfl ?_
        refine r_iload_n (pc := 34) C dX2_change_34 rfl rfl ?_
        refine r_aload_n (pc := 35) C dX2_change_35 rfl rfl ?_
        refine r_minv (pc := 36) 0 C dX2_change_36 (mt_leastTurnNow (wsat ws r) h25a) rfl (lw_V q1342 q1344 qs36 q92 q1345) (by decide +kernel) rfl rfl ⟨Nat.le_of_ble_eq_true rfl, Nat.le_of_ble_eq_true rfl⟩ (Nat.le_of_ble_eq_true rfl) ⟨Nat.le_of_ble_eq_true rfl, Nat.le_of_ble_eq_true rfl⟩ (fun v36 st36 h36 => ?_)
        obtain ⟨rfl, rfl⟩ := h36
        refine r_minv (pc := 39) 2 C dX2_change_39 (mt_put r (wsat ws r) (wLeast (wsat ws r)) hR6 (by have := wLeastN_le (wsat ws r) ((wsat ws r).length - 1); unfold wLeast; omega) h25a) rfl (lw_V q1447 q1449 qs52 q92 q1450) (by decide +kernel) rfl rfl ⟨Nat.le_of_ble_eq_true rfl, Nat.le_of_ble_eq_true rfl⟩ (Nat.le_of_ble_eq_true rfl) ⟨Nat.le_of_ble_eq_true rfl, Nat.le_of_ble_eq_true rfl⟩ (fun v39 st39 h39 => ?_)
        obtain ⟨rfl, h39s⟩ := h39
        obtain rfl : how = 2 := h30
        refine r_goto (pc := 42) (tgt := 101) C dX2_change_42 (by decide) ?_
        exact fin h5 h17 _ _ (by rw [wChanged_2]; exact hh25.store h5 (wTurned_len _ _) h39s) ((h25b.wk (by decide)).tr (h39s.1.wk (by decide)))
    · refine r_ldcZ (pc := 20) (a := -2000000102) C dX2_change_20 rfl q1286 (by decide) ?_
      exact r_iret (pc := 22) C hQ dX2_change_22 (Nat.le_of_ble_eq_true rfl) (Nat.le_of_ble_eq_true rfl) (fun G hG => ⟨_, hG, ⟨by unfold sChange; rw [if_pos h5, if_neg h17], by unfold sChange; rw [if_pos h5, if_neg h17]; exact h, eqx.rf⟩⟩)
  · refine r_ldcZ (pc := 8) (a := -2000000101) C dX2_change_8 rfl q1321 (by decide) ?_
    exact r_iret (pc := 10) C hQ dX2_change_10 (Nat.le_of_ble_eq_true rfl) (Nat.le_of_ble_eq_true rfl) (fun G hG => ⟨_, hG, ⟨by unfold sChange; rw [if_neg h5], by unfold sChange; rw [if_neg h5]; exact h, eqx.rf⟩⟩)
set_option maxHeartbeats 800000 in
theorem mt_join {la : Launch} {X : XE} {mh : Nat} {mad : Nat → Nat} {G0 : Gh} {st : MSt} (ws : Wss) (r q : Int) (hr : i32 r) (hq : i32 q) (h : RoadsAre st ws) : MM la X mh mad G0 yX2_join cX2_join 3 (some .int) 2 43 [.int (iI r), .int (iI q)] st (fun v st' => v = some (.int (iI (sJoin ws r q).1)) ∧ RoadsAre st' (sJoin ws r q).2 ∧ eqx (2 :: 3 :: 4 :: tq) st st') := by
  refine MG.of (by decide +kernel) (Nat.le_of_ble_eq_true rfl) ?_
  intro Z C hX hL hQ
  subst hX; subst hL
  change WW Z 3 (MOD mh mad G0 st) 0 0 0 [some (.ref mh), some (.int (iI r)), some (.int (iI q))] []
  have hl6 := h.2.1
  refine r_aload_n (pc := 0) C dX2_join_0 rfl rfl ?_
  refine r_iload_n (pc := 1) C dX2_join_1 rfl rfl ?_
  refine r_minv (pc := 2) 1 C dX2_join_2 (mt_isRoad ws r hr h) rfl (lw_V q1317 q1319 qs30 q92 q1320) (by decide +kernel) rfl rfl ⟨Nat.le_of_ble_eq_true rfl, Nat.le_of_ble_eq_true rfl⟩ (Nat.le_of_ble_eq_true rfl) ⟨Nat.le_of_ble_eq_true rfl, Nat.le_of_ble_eq_true rfl⟩ (fun v2 st2 h2 => ?_)
  obtain ⟨rfl, rfl⟩ := h2
  refine r_if_eqB (pc := 5) (tgt := 16) C dX2_join_5 (by decide)  (fun h5 => ?_) (fun h5 => ?_)
  · refine r_ldcZ (pc := 16) (a := -2000000101) C dX2_join_16 rfl q1321 (by decide) ?_
    exact r_iret (pc := 18) C hQ dX2_join_18 (Nat.le_of_ble_eq_true rfl) (Nat.le_of_ble_eq_true rfl) (fun G hG => ⟨_, hG, ⟨by unfold sJoin; first | rw [if_neg h5] | rw [if_pos h5, if_neg h13], by unfold sJoin; first | (rw [if_neg h5]; exact h) | (rw [if_pos h5, if_neg h13]; exact h), eqx.rf⟩⟩)
  · refine r_aload_n (pc := 8) C dX2_join_8 rfl rfl ?_
    refine r_iload_n (pc := 9) C dX2_join_9 rfl rfl ?_
    refine r_minv (pc := 10) 1 C dX2_join_10 (mt_isRoad ws q hq h) rfl (lw_V q1317 q1319 qs30 q92 q1320) (by decide +kernel) rfl rfl ⟨Nat.le_of_ble_eq_true rfl, Nat.le_of_ble_eq_true rfl⟩ (Nat.le_of_ble_eq_true rfl) ⟨Nat.le_of_ble_eq_true rfl, Nat.le_of_ble_eq_true rfl⟩ (fun v10 st10 h10 => ?_)
    obtain ⟨rfl, rfl⟩ := h10
    refine r_if_neB (pc := 13) (tgt := 19) C dX2_join_13 (by decide)  (fun h13 => ?_) (fun h13 => ?_)
    · obtain ⟨hR, hR6⟩ := h.at h5
      obtain ⟨hQ2, hQ6⟩ := h.at h13
      have hR21 := hR.2.1
      have hQ21 := hQ2.2.1
      refine r_aload_n (pc := 19) C dX2_join_19 rfl rfl ?_
      refine r_mget (pc := 20) (k := 3) C dX2_join_20 rfl q1175 (by decide) rfl ?_
      refine r_iload_n (pc := 23) C dX2_join_23 rfl rfl ?_
      refine r_mald (pc := 24) (L := 6) C dX2_join_24 (by decide) rfl (by omega) (by omega) ?_
      rw [hR.1]
      refine r_aload_n (pc := 25) C dX2_join_25 rfl rfl ?_
      refine r_mget (pc := 26) (k := 3) C dX2_join_26 rfl q1175 (by decide) rfl ?_
      refine r_iload_n (pc := 29) C dX2_join_29 rfl rfl ?_
      refine r_mald (pc := 30) (L := 6) C dX2_join_30 (by decide) rfl (by omega) (by omega) ?_
      rw [hQ2.1]
      refine r_iaddZ (pc := 31) C dX2_join_31 ?_
      refine r_bipushZ (pc := 32) C dX2_join_32 (by decide) ?_
      refine r_icmp_leZ (pc := 34) (tgt := 40) C dX2_join_34 (by decide) (by unfold i32; omega) (by unfold i32; omega) (fun h34 => ?_) (fun h34 => ?_)
      · refine r_aload_n (pc := 40) C dX2_join_40 rfl rfl ?_
        refine r_mget (pc := 41) (k := 2) C dX2_join_41 rfl q1174 (by decide) rfl ?_
        rw [show st10.1 2 = (ws.length : Int) from h.1]
        refine r_bipushZ (pc := 44) C dX2_join_44 (by decide) ?_
        refine r_icmp_neZ (pc := 46) (tgt := 52) C dX2_join_46 (by decide) (by unfold i32; omega) (by unfold i32; omega) (fun h46 => ?_) (fun h46 => ?_)
        · refine r_aload_n (pc := 52) C dX2_join_52 rfl rfl ?_
          refine r_iconstZ (pc := 53) C dX2_join_53 ?_
          refine r_mput (pc := 54) (k := 15) (ty := .int) C dX2_join_54 rfl q1187 (by decide) rfl (by decide +kernel) rfl rfl (ms_15 mad _ _) rfl (Or.inl rfl) ?_
          refine r_aload_n (pc := 57) C dX2_join_57 rfl rfl ?_
          refine r_iload_n (pc := 58) C dX2_join_58 rfl rfl ?_
          refine r_minv (pc := 59) 1 C dX2_join_59 (mt_addRoad r (wsat ws r) [] hR6 (hR.x (eqx.rf.iput (ks := [15]) (by decide)) (by decide) (by decide)) (NewAt.zero _) (by rw [List.length_nil]; omega)) rfl (lw_V q1459 q1461 qs53 q92 q1462) (by decide +kernel) rfl rfl ⟨Nat.le_of_ble_eq_true rfl, Nat.le_of_ble_eq_true rfl⟩ (Nat.le_of_ble_eq_true rfl) ⟨Nat.le_of_ble_eq_true rfl, Nat.le_of_ble_eq_true rfl⟩ (fun v59 st59 h59 => ?_)
          obtain ⟨rfl, h59a, h59b⟩ := h59
          have e59 := ((eqx.rf (st := st10)).iput (ks := [15, 16]) (k := 15) (z := 0) (by decide)).tr h59b
          refine r_aload_n (pc := 62) C dX2_join_62 rfl rfl ?_
          refine r_iload_n (pc := 63) C dX2_join_63 rfl rfl ?_
          refine r_minv (pc := 64) 1 C dX2_join_64 (mt_addRoad q (wsat ws q) ([] ++ wsat ws r) hQ6 (hQ2.x e59 (by decide) (by decide)) h59a (by rw [List.nil_append]; omega)) rfl (lw_V q1459 q1461 qs53 q92 q1462) (by decide +kernel) rfl rfl ⟨Nat.le_of_ble_eq_true rfl, Nat.le_of_ble_eq_true rfl⟩ (Nat.le_of_ble_eq_true rfl) ⟨Nat.le_of_ble_eq_true rfl, Nat.le_of_ble_eq_true rfl⟩ (fun v64 st64 h64 => ?_)
          obtain ⟨rfl, h64a, h64b⟩ := h64
          have e64 := e59.tr h64b
          rw [List.nil_append] at h64a
          refine r_aload_n (pc := 67) C dX2_join_67 rfl rfl ?_
          refine r_minv (pc := 68) 0 C dX2_join_68 (mt_keepNew ws (wsat ws r ++ wsat ws q) (by omega) (by rw [List.length_append]; omega) (h.x e64 (by decide) (by decide) (by decide)) h64a) rfl (lw_V q1309 q1311 qs29 q92 q1312) (by decide +kernel) rfl rfl ⟨Nat.le_of_ble_eq_true rfl, Nat.le_of_ble_eq_true rfl⟩ (Nat.le_of_ble_eq_true rfl) ⟨Nat.le_of_ble_eq_true rfl, Nat.le_of_ble_eq_true rfl⟩ (fun v68 st68 h68 => ?_)
          obtain ⟨rfl, h68a, h68b⟩ := h68
          exact r_iret (pc := 71) C hQ dX2_join_71 (Nat.le_of_ble_eq_true rfl) (Nat.le_of_ble_eq_true rfl) (fun G hG => ⟨_, hG, ⟨by unfold sJoin sCome; rw [if_pos h5, if_pos h13, if_neg (by rw [List.length_append]; omega), if_neg (by omega)], by unfold sJoin sCome; rw [if_pos h5, if_pos h13, if_neg (by rw [List.length_append]; omega), if_neg (by omega)]; exact h68a, (e64.wk (by decide)).tr (h68b.wk (by decide))⟩⟩)
        · refine r_ldcZ (pc := 49) (a := -2000000104) C dX2_join_49 rfl q1287 (by decide) ?_
          exact r_iret (pc := 51) C hQ dX2_join_51 (Nat.le_of_ble_eq_true rfl) (Nat.le_of_ble_eq_true rfl) (fun G hG => ⟨_, hG, ⟨by unfold sJoin sCome; rw [if_pos h5, if_pos h13, if_neg (by rw [List.length_append]; omega), if_pos (by omega)], by unfold sJoin sCome; rw [if_pos h5, if_pos h13, if_neg (by rw [List.length_append]; omega), if_pos (by omega)]; exact h, eqx.rf⟩⟩)
      · refine r_ldcZ (pc := 37) (a := -2000000103) C dX2_join_37 rfl q1308 (by decide) ?_
        exact r_iret (pc := 39) C hQ dX2_join_39 (Nat.le_of_ble_eq_true rfl) (Nat.le_of_ble_eq_true rfl) (fun G hG => ⟨_, hG, ⟨by unfold sJoin sCome; rw [if_pos h5, if_pos h13, if_pos (by rw [List.length_append]; omega)], by unfold sJoin sCome; rw [if_pos h5, if_pos h13, if_pos (by rw [List.length_append]; omega)]; exact h, eqx.rf⟩⟩)
    · refine r_ldcZ (pc := 16) (a := -2000000101) C dX2_join_16 rfl q1321 (by decide) ?_
      exact r_iret (pc := 18) C hQ dX2_join_18 (Nat.le_of_ble_eq_true rfl) (Nat.le_of_ble_eq_true rfl) (fun G hG => ⟨_, hG, ⟨by unfold sJoin; first | rw [if_neg h5] | rw [if_pos h5, if_neg h13], by unfold sJoin; first | (rw [if_neg h5]; exact h) | (rw [if_pos h5, if_neg h13]; exact h), eqx.rf⟩⟩)
set_option maxHeartbeats 800000 in
theorem mt_times {la : Launch} {X : XE} {mh : Nat} {mad : Nat → Nat} {G0 : Gh} {st : MSt} (ws : Wss) (r m : Int) (hr : i32 r) (hm : i32 m) (h : RoadsAre st ws) : MM la X mh mad G0 yX2_times cX2_times 4 (some .int) 2 43 [.int (iI r), .int (iI m)] st (fun v st' => v = some (.int (iI (sTimes ws r m).1)) ∧ RoadsAre st' (sTimes ws r m).2 ∧ eqx (2 :: 3 :: 4 :: tq) st st') := by
  refine MG.of (by decide +kernel) (Nat.le_of_ble_eq_true rfl) ?_
  intro Z C hX hL hQ
  subst hX; subst hL
  change WW Z 4 (MOD mh mad G0 st) 0 0 0 [some (.ref mh), some (.int (iI r)), some (.int (iI m)), none] []
  have hl6 := h.2.1
  have loop : ∀ (h5 : 0 ≤ r ∧ r ≤ (ws.length : Int) - 1) (h17 : 2 ≤ m ∧ m ≤ 5), m.toNat * (wsat ws r).length ≤ 20 → ¬ ws.length = 6 → ∀ i : Nat, i ≤ m.toNat → ∀ sti : MSt, eqx [15, 16] st sti → NewAt sti (repW (wsat ws r) i) → WW Z 4 (MOD mh mad G0 (sti)) 0 0 58 [some (.ref mh), some (.int (iI r)), some (.int (iI m)), some (.int (iI i))] [] := by
    intro h5 h17 hm20 hw6
    obtain ⟨hR, hR6⟩ := h.at h5
    have hR21 := hR.2.1
    have hrl := repW_len (wsat ws r) m.toNat
    have hmp : 0 < m.toNat * (wsat ws r).length := Nat.mul_pos (by omega) (by omega)
    refine loopN _ _ (fun i hi ih sti g1 g2 => ?_)
    skip
    refine r_iload_n (pc := 58) C dX2_times_58 rfl rfl ?_
    refine r_iload_n (pc := 59) C dX2_times_59 rfl rfl ?_
    refine r_icmp_geZ (pc := 60) (tgt := 74) C dX2_times_60 (by decide) (by unfold i32; omega) (by unfold i32; omega) (fun h60 => ?_) (fun h60 => ?_)
    · refine r_aload_n (pc := 74) C dX2_times_74 rfl rfl ?_
      refine r_minv (pc := 75) 0 C dX2_times_75 (mt_keepNew ws (repW (wsat ws r) m.toNat) (by omega) (by omega) (h.x g1 (by decide) (by decide) (by decide)) (by rw [show m.toNat = i by omega]; exact g2)) rfl (lw_V q1309 q1311 qs29 q92 q1312) (by decide +kernel) rfl rfl ⟨Nat.le_of_ble_eq_true rfl, Nat.le_of_ble_eq_true rfl⟩ (Nat.le_of_ble_eq_true rfl) ⟨Nat.le_of_ble_eq_true rfl, Nat.le_of_ble_eq_true rfl⟩ (fun v75 st75 h75 => ?_)
      obtain ⟨rfl, h75a, h75b⟩ := h75
      exact r_iret (pc := 78) C hQ dX2_times_78 (Nat.le_of_ble_eq_true rfl) (Nat.le_of_ble_eq_true rfl) (fun G hG => ⟨_, hG, ⟨by unfold sTimes sCome; rw [if_pos h5, if_pos h17, if_neg (by omega), if_neg (by omega)], by unfold sTimes sCome; rw [if_pos h5, if_pos h17, if_neg (by omega), if_neg (by omega)]; exact h75a, (g1.wk (by decide)).tr (h75b.wk (by decide))⟩⟩)
    · refine r_aload_n (pc := 63) C dX2_times_63 rfl rfl ?_
      refine r_iload_n (pc := 64) C dX2_times_64 rfl rfl ?_
      refine r_minv (pc := 65) 1 C dX2_times_65 (mt_addRoad r (wsat ws r) (repW (wsat ws r) i) hR6 (hR.x g1 (by decide) (by decide)) g2 (by rw [repW_len]; have : (i + 1) * (wsat ws r).length ≤ m.toNat * (wsat ws r).length := Nat.mul_le_mul (by omega) (Nat.le_refl _); rw [Nat.succ_mul] at this; omega)) rfl (lw_V q1459 q1461 qs53 q92 q1462) (by decide +kernel) rfl rfl ⟨Nat.le_of_ble_eq_true rfl, Nat.le_of_ble_eq_true rfl⟩ (Nat.le_of_ble_eq_true rfl) ⟨Nat.le_of_ble_eq_true rfl, Nat.le_of_ble_eq_true rfl⟩ (fun v65 st65 h65 => ?_)
      obtain ⟨rfl, h65a, h65b⟩ := h65
      refine r_iincZ (pc := 68) C dX2_times_68 rfl (by decide) ?_
      refine r_goto (pc := 71) (tgt := 58) C dX2_times_71 (by decide) ?_
      exact ih (by omega) _ (g1.tr h65b) h65a
  refine r_aload_n (pc := 0) C dX2_times_0 rfl rfl ?_
  refine r_iload_n (pc := 1) C dX2_times_1 rfl rfl ?_
  refine r_minv (pc := 2) 1 C dX2_times_2 (mt_isRoad ws r hr h) rfl (lw_V q1317 q1319 qs30 q92 q1320) (by decide +kernel) rfl rfl ⟨Nat.le_of_ble_eq_true rfl, Nat.le_of_ble_eq_true rfl⟩ (Nat.le_of_ble_eq_true rfl) ⟨Nat.le_of_ble_eq_true rfl, Nat.le_of_ble_eq_true rfl⟩ (fun v2 st2 h2 => ?_)
  obtain ⟨rfl, rfl⟩ := h2
  refine r_if_neB (pc := 5) (tgt := 11) C dX2_times_5 (by decide)  (fun h5 => ?_) (fun h5 => ?_)
  · refine r_iload_n (pc := 11) C dX2_times_11 rfl rfl ?_
    refine r_iconstZ (pc := 12) C dX2_times_12 ?_
    refine r_iconstZ (pc := 13) C dX2_times_13 ?_
    refine r_invP (pc := 14) 3 C dX2_times_14 (pf_within m 2 5 hm (by unfold i32; omega) (by unfold i32; omega)) rfl (lw_S q1283 q1284 q92 q1285) (by decide +kernel) rfl rfl ⟨Nat.le_of_ble_eq_true rfl, Nat.le_of_ble_eq_true rfl⟩ (Nat.le_of_ble_eq_true rfl) ⟨Nat.le_of_ble_eq_true rfl, Nat.le_of_ble_eq_true rfl⟩ ?_
    refine r_if_neB (pc := 17) (tgt := 23) C dX2_times_17 (by decide)  (fun h17 => ?_) (fun h17 => ?_)
    · obtain ⟨hR, hR6⟩ := h.at h5
      have hR21 := hR.2.1
      have hmn : m * ((wsat ws r).length : Int) = ((m.toNat * (wsat ws r).length : Nat) : Int) := (by rw [Int.natCast_mul, Int.toNat_of_nonneg (by omega)])
      have hmb : m.toNat * (wsat ws r).length ≤ 5 * 20 := Nat.mul_le_mul (by omega) (by omega)
      have hmp : 0 < m.toNat * (wsat ws r).length := Nat.mul_pos (by omega) (by omega)
      have hrl := repW_len (wsat ws r) m.toNat
      refine r_iload_n (pc := 23) C dX2_times_23 rfl rfl ?_
      refine r_aload_n (pc := 24) C dX2_times_24 rfl rfl ?_
      refine r_mget (pc := 25) (k := 3) C dX2_times_25 rfl q1175 (by decide) rfl ?_
      refine r_iload_n (pc := 28) C dX2_times_28 rfl rfl ?_
      refine r_mald (pc := 29) (L := 6) C dX2_times_29 (by decide) rfl (by omega) (by omega) ?_
      rw [hR.1]
      refine r_imulZ (pc := 30) C dX2_times_30 ?_
      rw [hmn]
      refine r_bipushZ (pc := 31) C dX2_times_31 (by decide) ?_
      refine r_icmp_leZ (pc := 33) (tgt := 39) C dX2_times_33 (by decide) (by unfold i32; omega) (by unfold i32; omega) (fun h33 => ?_) (fun h33 => ?_)
      · refine r_aload_n (pc := 39) C dX2_times_39 rfl rfl ?_
        refine r_mget (pc := 40) (k := 2) C dX2_times_40 rfl q1174 (by decide) rfl ?_
        rw [show st2.1 2 = (ws.length : Int) from h.1]
        refine r_bipushZ (pc := 43) C dX2_times_43 (by decide) ?_
        refine r_icmp_neZ (pc := 45) (tgt := 51) C dX2_times_45 (by decide) (by unfold i32; omega) (by unfold i32; omega) (fun h45 => ?_) (fun h45 => ?_)
        · refine r_aload_n (pc := 51) C dX2_times_51 rfl rfl ?_
          refine r_iconstZ (pc := 52) C dX2_times_52 ?_
          refine r_mput (pc := 53) (k := 15) (ty := .int) C dX2_times_53 rfl q1187 (by decide) rfl (by decide +kernel) rfl rfl (ms_15 mad _ _) rfl (Or.inl rfl) ?_
          refine r_iconstZ (pc := 56) C dX2_times_56 ?_
          refine r_istore_n (pc := 57) C dX2_times_57 rfl (by decide) ?_
          exact loop h5 h17 (by omega) (by omega) 0 (Nat.zero_le _) _ (eqx.rf.iput (by decide)) (NewAt.zero _)
        · refine r_ldcZ (pc := 48) (a := -2000000104) C dX2_times_48 rfl q1287 (by decide) ?_
          exact r_iret (pc := 50) C hQ dX2_times_50 (Nat.le_of_ble_eq_true rfl) (Nat.le_of_ble_eq_true rfl) (fun G hG => ⟨_, hG, ⟨by unfold sTimes sCome; rw [if_pos h5, if_pos h17, if_neg (by omega), if_pos (by omega)], by unfold sTimes sCome; rw [if_pos h5, if_pos h17, if_neg (by omega), if_pos (by omega)]; exact h, eqx.rf⟩⟩)
      · refine r_ldcZ (pc := 36) (a := -2000000103) C dX2_times_36 rfl q1308 (by decide) ?_
        exact r_iret (pc := 38) C hQ dX2_times_38 (Nat.le_of_ble_eq_true rfl) (Nat.le_of_ble_eq_true rfl) (fun G hG => ⟨_, hG, ⟨by unfold sTimes sCome; rw [if_pos h5, if_pos h17, if_pos (by omega)], by unfold sTimes sCome; rw [if_pos h5, if_pos h17, if_pos (by omega)]; exact h, eqx.rf⟩⟩)
    · refine r_ldcZ (pc := 20) (a := -2000000102) C dX2_times_20 rfl q1286 (by decide) ?_
      exact r_iret (pc := 22) C hQ dX2_times_22 (Nat.le_of_ble_eq_true rfl) (Nat.le_of_ble_eq_true rfl) (fun G hG => ⟨_, hG, ⟨by unfold sTimes; rw [if_pos h5, if_neg h17], by unfold sTimes; rw [if_pos h5, if_neg h17]; exact h, eqx.rf⟩⟩)
  · refine r_ldcZ (pc := 8) (a := -2000000101) C dX2_times_8 rfl q1321 (by decide) ?_
    exact r_iret (pc := 10) C hQ dX2_times_10 (Nat.le_of_ble_eq_true rfl) (Nat.le_of_ble_eq_true rfl) (fun G hG => ⟨_, hG, ⟨by unfold sTimes; rw [if_neg h5], by unfold sTimes; rw [if_neg h5]; exact h, eqx.rf⟩⟩)
set_option maxHeartbeats 800000 in
theorem mt_drop {la : Launch} {X : XE} {mh : Nat} {mad : Nat → Nat} {G0 : Gh} {st : MSt} (ws : Wss) (h : RoadsAre st ws) : MM la X mh mad G0 yX2_drop cX2_drop 1 (some .int) 0 0 [] st (fun v st' => v = some (.int (iI (sDrop ws).1)) ∧ RoadsAre st' (sDrop ws).2 ∧ eqx (2 :: 3 :: 4 :: tq) st st') := by
  refine MG.of (by decide +kernel) (Nat.le_of_ble_eq_true rfl) ?_
  intro Z C hX hL hQ
  subst hX; subst hL
  change WW Z 1 (MOD mh mad G0 st) 0 0 0 [some (.ref mh)] []
  have hl6 := h.2.1
  refine r_aload_n (pc := 0) C dX2_drop_0 rfl rfl ?_
  refine r_mget (pc := 1) (k := 2) C dX2_drop_1 rfl q1174 (by decide) rfl ?_
  rw [h.1]
  refine r_if_neZ (pc := 4) (tgt := 10) C dX2_drop_4 (by decide) (by unfold i32; omega) (fun h4 => ?_) (fun h4 => ?_)
  · refine r_aload_n (pc := 10) C dX2_drop_10 rfl rfl ?_
    refine r_dup (pc := 11) C dX2_drop_11 rfl ?_
    refine r_mget (pc := 12) (k := 2) C dX2_drop_12 rfl q1174 (by decide) rfl ?_
    rw [h.1]
    refine r_iconstZ (pc := 15) C dX2_drop_15 ?_
    refine r_isubZ (pc := 16) C dX2_drop_16 ?_
    refine r_mput (pc := 17) (k := 2) (ty := .int) C dX2_drop_17 rfl q1174 (by decide) rfl (by decide +kernel) rfl rfl (ms_2 mad _ _) rfl (Or.inl rfl) ?_
    refine r_aload_n (pc := 20) C dX2_drop_20 rfl rfl ?_
    refine r_mget (pc := 21) (k := 2) C dX2_drop_21 rfl q1174 (by decide) rfl ?_
    rw [iput_eq]
    exact r_iret (pc := 24) C hQ dX2_drop_24 (Nat.le_of_ble_eq_true rfl) (Nat.le_of_ble_eq_true rfl) (fun G hG => ⟨_, hG, ⟨by unfold sDrop; rw [if_neg (by omega)], by unfold sDrop; rw [if_neg (by omega)]; exact ⟨(iput_eq _ _ _).trans (by rw [List.length_dropLast]; omega), by rw [List.length_dropLast]; omega, fun q hq => by rw [List.length_dropLast] at hq; rw [show ws.dropLast.getD q [] = ws.getD q [] from by rw [List.getD_eq_getElem?_getD, List.getD_eq_getElem?_getD, List.getElem?_dropLast, if_pos hq]]; exact h.2.2 q (by omega)⟩, eqx.rf.iput (by decide)⟩⟩)
  · refine r_ldcZ (pc := 7) (a := -2000000103) C dX2_drop_7 rfl q1308 (by decide) ?_
    exact r_iret (pc := 9) C hQ dX2_drop_9 (Nat.le_of_ble_eq_true rfl) (Nat.le_of_ble_eq_true rfl) (fun G hG => ⟨_, hG, ⟨by unfold sDrop; rw [if_pos (by omega)], by unfold sDrop; rw [if_pos (by omega)]; exact h, eqx.rf⟩⟩)

