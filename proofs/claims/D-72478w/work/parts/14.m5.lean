/-! the reference's methods: signs, tables, ends, forms -/
set_option maxRecDepth 100000
set_option maxHeartbeats 800000 in
theorem mt_sign {la : Launch} {X : XE} {mh : Nat} {mad : Nat → Nat} {G0 : Gh} {st : MSt} (ws : List (List Bool)) (r k : Int) (hr : i32 r) (hk : i32 k) (h : RoadsAre st ws) : MM la X mh mad G0 yX2_sign cX2_sign 3 (some .int) 2 43 [.int (iI r), .int (iI k)] st (fun v st' => v = some (.int (iI (sSign ws r k))) ∧ st' = st) := by
  refine MG.of (by decide +kernel) (Nat.le_of_ble_eq_true rfl) ?_
  intro Z C hX hL hQ
  subst hX; subst hL
  change WW Z 3 (MOD mh mad G0 st) 0 0 0 [some (.ref mh), some (.int (iI r)), some (.int (iI k))] []
  refine r_aload_n (pc := 0) C dX2_sign_0 rfl rfl ?_
  refine r_iload_n (pc := 1) C dX2_sign_1 rfl rfl ?_
  refine r_minv (pc := 2) 1 C dX2_sign_2 (mt_isRoad ws r hr h) rfl (lw_V q1317 q1319 qs30 q92 q1320) (by decide +kernel) rfl rfl ⟨Nat.le_of_ble_eq_true rfl, Nat.le_of_ble_eq_true rfl⟩ (Nat.le_of_ble_eq_true rfl) ⟨Nat.le_of_ble_eq_true rfl, Nat.le_of_ble_eq_true rfl⟩ (fun v2 st2 h2 => ?_)
  obtain ⟨rfl, rfl⟩ := h2
  refine r_if_eqB (pc := 5) (tgt := 41) C dX2_sign_5 (by decide)  (fun h5 => ?_) (fun h5 => ?_)
  · refine r_ldcZ (pc := 41) (a := -2000000101) C dX2_sign_41 rfl q1321 (by decide) ?_
    exact r_iret (pc := 43) C hQ dX2_sign_43 (Nat.le_of_ble_eq_true rfl) (Nat.le_of_ble_eq_true rfl) (fun G hG => ⟨_, hG, ⟨by unfold sSign; first | rw [if_neg h5] | rw [if_pos h5, if_neg h21] | rw [if_pos h5, if_pos h21], rfl⟩⟩)
  · obtain ⟨hR, hR6⟩ := h.at h5
    refine r_iload_n (pc := 8) C dX2_sign_8 rfl rfl ?_
    refine r_iconstZ (pc := 9) C dX2_sign_9 ?_
    refine r_aload_n (pc := 10) C dX2_sign_10 rfl rfl ?_
    refine r_mget (pc := 11) (k := 3) C dX2_sign_11 rfl q1175 (by decide) rfl ?_
    refine r_iload_n (pc := 14) C dX2_sign_14 rfl rfl ?_
    refine r_mald (pc := 15) (L := 6) C dX2_sign_15 (by decide) rfl (by omega) (by omega) ?_
    rw [hR.1]
    refine r_iconstZ (pc := 16) C dX2_sign_16 ?_
    refine r_isubZ (pc := 17) C dX2_sign_17 ?_
    refine r_invP (pc := 18) 3 C dX2_sign_18 (pf_within k 0 (((wsat ws r).length : Int) - 1) hk i32_0 (by have := hR.2.1; unfold i32; omega)) rfl (lw_S q1283 q1284 q92 q1285) (by decide +kernel) rfl rfl ⟨Nat.le_of_ble_eq_true rfl, Nat.le_of_ble_eq_true rfl⟩ (Nat.le_of_ble_eq_true rfl) ⟨Nat.le_of_ble_eq_true rfl, Nat.le_of_ble_eq_true rfl⟩ ?_
    refine r_if_eqB (pc := 21) (tgt := 41) C dX2_sign_21 (by decide)  (fun h21 => ?_) (fun h21 => ?_)
    · refine r_ldcZ (pc := 41) (a := -2000000101) C dX2_sign_41 rfl q1321 (by decide) ?_
      exact r_iret (pc := 43) C hQ dX2_sign_43 (Nat.le_of_ble_eq_true rfl) (Nat.le_of_ble_eq_true rfl) (fun G hG => ⟨_, hG, ⟨by unfold sSign; first | rw [if_neg h5] | rw [if_pos h5, if_neg h21] | rw [if_pos h5, if_pos h21], rfl⟩⟩)
    · refine r_aload_n (pc := 24) C dX2_sign_24 rfl rfl ?_
      refine r_mget (pc := 25) (k := 4) C dX2_sign_25 rfl q1176 (by decide) rfl ?_
      refine r_bipushZ (pc := 28) C dX2_sign_28 (by decide) ?_
      refine r_iload_n (pc := 30) C dX2_sign_30 rfl rfl ?_
      refine r_imulZ (pc := 31) C dX2_sign_31 ?_
      refine r_iload_n (pc := 32) C dX2_sign_32 rfl rfl ?_
      refine r_iaddZ (pc := 33) C dX2_sign_33 ?_
      refine r_mald (pc := 34) (L := 120) C dX2_sign_34 (by decide) rfl (by omega) (by have := hR.2.1; omega) ?_
      rw [show st2.2 4 (20 * r + k) = bi (wl (wsat ws r) k.toNat) from by rw [← hR.2.2 k.toNat (by omega), Int.toNat_of_nonneg h21.1]]
      refine r_invP (pc := 35) 1 C dX2_sign_35 (pf_codeOf (wl (wsat ws r) k.toNat)) rfl (lw_S q1375 q1376 q92 q1377) (by decide +kernel) rfl rfl ⟨Nat.le_of_ble_eq_true rfl, Nat.le_of_ble_eq_true rfl⟩ (Nat.le_of_ble_eq_true rfl) ⟨Nat.le_of_ble_eq_true rfl, Nat.le_of_ble_eq_true rfl⟩ ?_
      refine r_goto (pc := 38) (tgt := 43) C dX2_sign_38 (by decide) ?_
      exact r_iret (pc := 43) C hQ dX2_sign_43 (Nat.le_of_ble_eq_true rfl) (Nat.le_of_ble_eq_true rfl) (fun G hG => ⟨_, hG, ⟨by unfold sSign; first | rw [if_neg h5] | rw [if_pos h5, if_neg h21] | rw [if_pos h5, if_pos h21], rfl⟩⟩)
set_option maxHeartbeats 800000 in
theorem mt_tableNow {la : Launch} {X : XE} {mh : Nat} {mad : Nat → Nat} {G0 : Gh} {st : MSt} (r what : Int) (w : List Bool) (hr : 0 ≤ r ∧ r < 6) (hw : 0 ≤ what ∧ what ≤ 3) (h : RoadIs st r w) : MM la X mh mad G0 yX2_tableNow cX2_tableNow 3 (some .int) 1 22 [.int (iI r), .int (iI what)] st (fun v st' => v = some (.int (iI (tTold w what))) ∧ eqx [18, 19, 22, 23, 24, 25] st st') := by
  refine MG.of (by decide +kernel) (Nat.le_of_ble_eq_true rfl) ?_
  intro Z C hX hL hQ
  subst hX; subst hL
  change WW Z 3 (MOD mh mad G0 st) 0 0 0 [some (.ref mh), some (.int (iI r)), some (.int (iI what))] []
  refine r_aload_n (pc := 0) C dX2_tableNow_0 rfl rfl ?_
  refine r_iload_n (pc := 1) C dX2_tableNow_1 rfl rfl ?_
  refine r_minv (pc := 2) 1 C dX2_tableNow_2 (mt_look r w hr h) rfl (lw_V q1326 q1328 qs32 q92 q1329) (by decide +kernel) rfl rfl ⟨Nat.le_of_ble_eq_true rfl, Nat.le_of_ble_eq_true rfl⟩ (Nat.le_of_ble_eq_true rfl) ⟨Nat.le_of_ble_eq_true rfl, Nat.le_of_ble_eq_true rfl⟩ (fun v2 st2 h2 => ?_)
  obtain ⟨rfl, h2a, h2b⟩ := h2
  refine r_aload_n (pc := 5) C dX2_tableNow_5 rfl rfl ?_
  refine r_minv (pc := 6) 0 C dX2_tableNow_6 (mt_layTable w h2a) rfl (lw_V q1350 q1352 qs38 q92 q1353) (by decide +kernel) rfl rfl ⟨Nat.le_of_ble_eq_true rfl, Nat.le_of_ble_eq_true rfl⟩ (Nat.le_of_ble_eq_true rfl) ⟨Nat.le_of_ble_eq_true rfl, Nat.le_of_ble_eq_true rfl⟩ (fun v6 st6 h6 => ?_)
  obtain ⟨rfl, h6a, h6b⟩ := h6
  refine r_iload_n (pc := 9) C dX2_tableNow_9 rfl rfl ?_
  refine r_if_neZ (pc := 10) (tgt := 20) C dX2_tableNow_10 (by decide) (by unfold i32; omega) (fun h10 => ?_) (fun h10 => ?_)
  · refine r_iload_n (pc := 20) C dX2_tableNow_20 rfl rfl ?_
    refine r_iconstZ (pc := 21) C dX2_tableNow_21 ?_
    refine r_icmp_neZ (pc := 22) (tgt := 32) C dX2_tableNow_22 (by decide) (by unfold i32; omega) (by unfold i32; omega) (fun h22 => ?_) (fun h22 => ?_)
    · refine r_iload_n (pc := 32) C dX2_tableNow_32 rfl rfl ?_
      refine r_iconstZ (pc := 33) C dX2_tableNow_33 ?_
      refine r_icmp_neZ (pc := 34) (tgt := 44) C dX2_tableNow_34 (by decide) (by unfold i32; omega) (by unfold i32; omega) (fun h34 => ?_) (fun h34 => ?_)
      · refine r_aload_n (pc := 44) C dX2_tableNow_44 rfl rfl ?_
        refine r_mget (pc := 45) (k := 25) C dX2_tableNow_45 rfl q1197 (by decide) rfl ?_
        exact r_iret (pc := 48) C hQ dX2_tableNow_48 (Nat.le_of_ble_eq_true rfl) (Nat.le_of_ble_eq_true rfl) (fun G hG => ⟨_, hG, ⟨by unfold tTold; first | (rw [if_pos h10, h6a.1]; done) | (rw [if_neg h10, if_pos h22, h6a.2.1]; done) | (rw [if_neg h10, if_neg h22, if_pos h34, h6a.2.2.1]; done) | (rw [if_neg h10, if_neg h22, if_neg h34, h6a.2.2.2]; done), (h2b.wk (by decide)).tr (h6b.wk (by decide))⟩⟩)
      · refine r_aload_n (pc := 37) C dX2_tableNow_37 rfl rfl ?_
        refine r_mget (pc := 38) (k := 24) C dX2_tableNow_38 rfl q1196 (by decide) rfl ?_
        refine r_goto (pc := 41) (tgt := 48) C dX2_tableNow_41 (by decide) ?_
        exact r_iret (pc := 48) C hQ dX2_tableNow_48 (Nat.le_of_ble_eq_true rfl) (Nat.le_of_ble_eq_true rfl) (fun G hG => ⟨_, hG, ⟨by unfold tTold; first | (rw [if_pos h10, h6a.1]; done) | (rw [if_neg h10, if_pos h22, h6a.2.1]; done) | (rw [if_neg h10, if_neg h22, if_pos h34, h6a.2.2.1]; done) | (rw [if_neg h10, if_neg h22, if_neg h34, h6a.2.2.2]; done), (h2b.wk (by decide)).tr (h6b.wk (by decide))⟩⟩)
    · refine r_aload_n (pc := 25) C dX2_tableNow_25 rfl rfl ?_
      refine r_mget (pc := 26) (k := 23) C dX2_tableNow_26 rfl q1195 (by decide) rfl ?_
      refine r_goto (pc := 29) (tgt := 48) C dX2_tableNow_29 (by decide) ?_
      exact r_iret (pc := 48) C hQ dX2_tableNow_48 (Nat.le_of_ble_eq_true rfl) (Nat.le_of_ble_eq_true rfl) (fun G hG => ⟨_, hG, ⟨by unfold tTold; first | (rw [if_pos h10, h6a.1]; done) | (rw [if_neg h10, if_pos h22, h6a.2.1]; done) | (rw [if_neg h10, if_neg h22, if_pos h34, h6a.2.2.1]; done) | (rw [if_neg h10, if_neg h22, if_neg h34, h6a.2.2.2]; done), (h2b.wk (by decide)).tr (h6b.wk (by decide))⟩⟩)
  · refine r_aload_n (pc := 13) C dX2_tableNow_13 rfl rfl ?_
    refine r_mget (pc := 14) (k := 22) C dX2_tableNow_14 rfl q1194 (by decide) rfl ?_
    refine r_goto (pc := 17) (tgt := 48) C dX2_tableNow_17 (by decide) ?_
    exact r_iret (pc := 48) C hQ dX2_tableNow_48 (Nat.le_of_ble_eq_true rfl) (Nat.le_of_ble_eq_true rfl) (fun G hG => ⟨_, hG, ⟨by unfold tTold; first | (rw [if_pos h10, h6a.1]; done) | (rw [if_neg h10, if_pos h22, h6a.2.1]; done) | (rw [if_neg h10, if_neg h22, if_pos h34, h6a.2.2.1]; done) | (rw [if_neg h10, if_neg h22, if_neg h34, h6a.2.2.2]; done), (h2b.wk (by decide)).tr (h6b.wk (by decide))⟩⟩)
set_option maxHeartbeats 800000 in
theorem mt_table {la : Launch} {X : XE} {mh : Nat} {mad : Nat → Nat} {G0 : Gh} {st : MSt} (ws : List (List Bool)) (r what : Int) (hr : i32 r) (hw : i32 what) (h : RoadsAre st ws) : MM la X mh mad G0 yX2_table cX2_table 3 (some .int) 2 44 [.int (iI r), .int (iI what)] st (fun v st' => v = some (.int (iI (sTable ws r what))) ∧ eqx tq st st') := by
  refine MG.of (by decide +kernel) (Nat.le_of_ble_eq_true rfl) ?_
  intro Z C hX hL hQ
  subst hX; subst hL
  change WW Z 3 (MOD mh mad G0 st) 0 0 0 [some (.ref mh), some (.int (iI r)), some (.int (iI what))] []
  refine r_aload_n (pc := 0) C dX2_table_0 rfl rfl ?_
  refine r_iload_n (pc := 1) C dX2_table_1 rfl rfl ?_
  refine r_minv (pc := 2) 1 C dX2_table_2 (mt_isRoad ws r hr h) rfl (lw_V q1317 q1319 qs30 q92 q1320) (by decide +kernel) rfl rfl ⟨Nat.le_of_ble_eq_true rfl, Nat.le_of_ble_eq_true rfl⟩ (Nat.le_of_ble_eq_true rfl) ⟨Nat.le_of_ble_eq_true rfl, Nat.le_of_ble_eq_true rfl⟩ (fun v2 st2 h2 => ?_)
  obtain ⟨rfl, rfl⟩ := h2
  refine r_if_neB (pc := 5) (tgt := 13) C dX2_table_5 (by decide)  (fun h5 => ?_) (fun h5 => ?_)
  · refine r_iload_n (pc := 13) C dX2_table_13 rfl rfl ?_
    refine r_iconstZ (pc := 14) C dX2_table_14 ?_
    refine r_iconstZ (pc := 15) C dX2_table_15 ?_
    refine r_invP (pc := 16) 3 C dX2_table_16 (pf_within what 0 3 hw i32_0 (by unfold i32; omega)) rfl (lw_S q1283 q1284 q92 q1285) (by decide +kernel) rfl rfl ⟨Nat.le_of_ble_eq_true rfl, Nat.le_of_ble_eq_true rfl⟩ (Nat.le_of_ble_eq_true rfl) ⟨Nat.le_of_ble_eq_true rfl, Nat.le_of_ble_eq_true rfl⟩ ?_
    refine r_if_eqB (pc := 19) (tgt := 31) C dX2_table_19 (by decide)  (fun h19 => ?_) (fun h19 => ?_)
    · refine r_ldcZ (pc := 31) (a := -2000000102) C dX2_table_31 rfl q1286 (by decide) ?_
      exact r_iret (pc := 33) C hQ dX2_table_33 (Nat.le_of_ble_eq_true rfl) (Nat.le_of_ble_eq_true rfl) (fun G hG => ⟨_, hG, ⟨by unfold sTable; first | rw [if_neg h5] | rw [if_pos h5, if_neg h19] | rw [if_pos h5, if_pos h19], by first | exact h25b.wk (by decide) | exact eqx.rf⟩⟩)
    · refine r_aload_n (pc := 22) C dX2_table_22 rfl rfl ?_
      refine r_iload_n (pc := 23) C dX2_table_23 rfl rfl ?_
      refine r_iload_n (pc := 24) C dX2_table_24 rfl rfl ?_
      refine r_minv (pc := 25) 2 C dX2_table_25 (mt_tableNow r what (wsat ws r) (h.at h5).2 h19 (h.at h5).1) rfl (lw_V q1382 q1384 qs43 q92 q1385) (by decide +kernel) rfl rfl ⟨Nat.le_of_ble_eq_true rfl, Nat.le_of_ble_eq_true rfl⟩ (Nat.le_of_ble_eq_true rfl) ⟨Nat.le_of_ble_eq_true rfl, Nat.le_of_ble_eq_true rfl⟩ (fun v25 st25 h25 => ?_)
      obtain ⟨rfl, h25b⟩ := h25
      refine r_goto (pc := 28) (tgt := 33) C dX2_table_28 (by decide) ?_
      exact r_iret (pc := 33) C hQ dX2_table_33 (Nat.le_of_ble_eq_true rfl) (Nat.le_of_ble_eq_true rfl) (fun G hG => ⟨_, hG, ⟨by unfold sTable; first | rw [if_neg h5] | rw [if_pos h5, if_neg h19] | rw [if_pos h5, if_pos h19], by first | exact h25b.wk (by decide) | exact eqx.rf⟩⟩)
  · refine r_ldcZ (pc := 8) (a := -2000000101) C dX2_table_8 rfl q1321 (by decide) ?_
    refine r_goto (pc := 10) (tgt := 33) C dX2_table_10 (by decide) ?_
    exact r_iret (pc := 33) C hQ dX2_table_33 (Nat.le_of_ble_eq_true rfl) (Nat.le_of_ble_eq_true rfl) (fun G hG => ⟨_, hG, ⟨by unfold sTable; first | rw [if_neg h5] | rw [if_pos h5, if_neg h19] | rw [if_pos h5, if_pos h19], by first | exact h25b.wk (by decide) | exact eqx.rf⟩⟩)
set_option maxHeartbeats 800000 in
theorem mt_endNow {la : Launch} {X : XE} {mh : Nat} {mad : Nat → Nat} {G0 : Gh} {st : MSt} (r what : Int) (w : List Bool) (hr : 0 ≤ r ∧ r < 6) (hw : 0 ≤ what ∧ what ≤ 1) (h : RoadIs st r w) : MM la X mh mad G0 yX2_endNow cX2_endNow 3 (some .int) 1 22 [.int (iI r), .int (iI what)] st (fun v st' => v = some (.int (iI (eTold w what))) ∧ eqx [18, 19, 22, 23, 24, 25] st st') := by
  refine MG.of (by decide +kernel) (Nat.le_of_ble_eq_true rfl) ?_
  intro Z C hX hL hQ
  subst hX; subst hL
  change WW Z 3 (MOD mh mad G0 st) 0 0 0 [some (.ref mh), some (.int (iI r)), some (.int (iI what))] []
  refine r_aload_n (pc := 0) C dX2_endNow_0 rfl rfl ?_
  refine r_iload_n (pc := 1) C dX2_endNow_1 rfl rfl ?_
  refine r_minv (pc := 2) 1 C dX2_endNow_2 (mt_look r w hr h) rfl (lw_V q1326 q1328 qs32 q92 q1329) (by decide +kernel) rfl rfl ⟨Nat.le_of_ble_eq_true rfl, Nat.le_of_ble_eq_true rfl⟩ (Nat.le_of_ble_eq_true rfl) ⟨Nat.le_of_ble_eq_true rfl, Nat.le_of_ble_eq_true rfl⟩ (fun v2 st2 h2 => ?_)
  obtain ⟨rfl, h2a, h2b⟩ := h2
  refine r_aload_n (pc := 5) C dX2_endNow_5 rfl rfl ?_
  refine r_minv (pc := 6) 0 C dX2_endNow_6 (mt_layTable w h2a) rfl (lw_V q1350 q1352 qs38 q92 q1353) (by decide +kernel) rfl rfl ⟨Nat.le_of_ble_eq_true rfl, Nat.le_of_ble_eq_true rfl⟩ (Nat.le_of_ble_eq_true rfl) ⟨Nat.le_of_ble_eq_true rfl, Nat.le_of_ble_eq_true rfl⟩ (fun v6 st6 h6 => ?_)
  obtain ⟨rfl, h6a, h6b⟩ := h6
  refine r_iload_n (pc := 9) C dX2_endNow_9 rfl rfl ?_
  refine r_if_neZ (pc := 10) (tgt := 25) C dX2_endNow_10 (by decide) (by unfold i32; omega) (fun h10 => ?_) (fun h10 => ?_)
  · refine r_aload_n (pc := 25) C dX2_endNow_25 rfl rfl ?_
    refine r_mget (pc := 26) (k := 24) C dX2_endNow_26 rfl q1196 (by decide) rfl ?_
    refine r_aload_n (pc := 29) C dX2_endNow_29 rfl rfl ?_
    refine r_mget (pc := 30) (k := 25) C dX2_endNow_30 rfl q1197 (by decide) rfl ?_
    refine r_iaddZ (pc := 33) C dX2_endNow_33 ?_
    exact r_iret (pc := 34) C hQ dX2_endNow_34 (Nat.le_of_ble_eq_true rfl) (Nat.le_of_ble_eq_true rfl) (fun G hG => ⟨_, hG, ⟨by unfold eTold; first | (rw [if_pos h10, h6a.1, h6a.2.1]; done) | (rw [if_neg h10, h6a.2.2.1, h6a.2.2.2]; done), (h2b.wk (by decide)).tr (h6b.wk (by decide))⟩⟩)
  · refine r_aload_n (pc := 13) C dX2_endNow_13 rfl rfl ?_
    refine r_mget (pc := 14) (k := 22) C dX2_endNow_14 rfl q1194 (by decide) rfl ?_
    refine r_aload_n (pc := 17) C dX2_endNow_17 rfl rfl ?_
    refine r_mget (pc := 18) (k := 23) C dX2_endNow_18 rfl q1195 (by decide) rfl ?_
    refine r_iaddZ (pc := 21) C dX2_endNow_21 ?_
    refine r_goto (pc := 22) (tgt := 34) C dX2_endNow_22 (by decide) ?_
    exact r_iret (pc := 34) C hQ dX2_endNow_34 (Nat.le_of_ble_eq_true rfl) (Nat.le_of_ble_eq_true rfl) (fun G hG => ⟨_, hG, ⟨by unfold eTold; first | (rw [if_pos h10, h6a.1, h6a.2.1]; done) | (rw [if_neg h10, h6a.2.2.1, h6a.2.2.2]; done), (h2b.wk (by decide)).tr (h6b.wk (by decide))⟩⟩)
set_option maxHeartbeats 800000 in
theorem mt_end {la : Launch} {X : XE} {mh : Nat} {mad : Nat → Nat} {G0 : Gh} {st : MSt} (ws : List (List Bool)) (r what : Int) (hr : i32 r) (hw : i32 what) (h : RoadsAre st ws) : MM la X mh mad G0 yX2_end cX2_end 3 (some .int) 2 44 [.int (iI r), .int (iI what)] st (fun v st' => v = some (.int (iI (sEnd ws r what))) ∧ eqx tq st st') := by
  refine MG.of (by decide +kernel) (Nat.le_of_ble_eq_true rfl) ?_
  intro Z C hX hL hQ
  subst hX; subst hL
  change WW Z 3 (MOD mh mad G0 st) 0 0 0 [some (.ref mh), some (.int (iI r)), some (.int (iI what))] []
  refine r_aload_n (pc := 0) C dX2_end_0 rfl rfl ?_
  refine r_iload_n (pc := 1) C dX2_end_1 rfl rfl ?_
  refine r_minv (pc := 2) 1 C dX2_end_2 (mt_isRoad ws r hr h) rfl (lw_V q1317 q1319 qs30 q92 q1320) (by decide +kernel) rfl rfl ⟨Nat.le_of_ble_eq_true rfl, Nat.le_of_ble_eq_true rfl⟩ (Nat.le_of_ble_eq_true rfl) ⟨Nat.le_of_ble_eq_true rfl, Nat.le_of_ble_eq_true rfl⟩ (fun v2 st2 h2 => ?_)
  obtain ⟨rfl, rfl⟩ := h2
  refine r_if_neB (pc := 5) (tgt := 13) C dX2_end_5 (by decide)  (fun h5 => ?_) (fun h5 => ?_)
  · refine r_iload_n (pc := 13) C dX2_end_13 rfl rfl ?_
    refine r_iconstZ (pc := 14) C dX2_end_14 ?_
    refine r_iconstZ (pc := 15) C dX2_end_15 ?_
    refine r_invP (pc := 16) 3 C dX2_end_16 (pf_within what 0 1 hw i32_0 (by unfold i32; omega)) rfl (lw_S q1283 q1284 q92 q1285) (by decide +kernel) rfl rfl ⟨Nat.le_of_ble_eq_true rfl, Nat.le_of_ble_eq_true rfl⟩ (Nat.le_of_ble_eq_true rfl) ⟨Nat.le_of_ble_eq_true rfl, Nat.le_of_ble_eq_true rfl⟩ ?_
    refine r_if_eqB (pc := 19) (tgt := 31) C dX2_end_19 (by decide)  (fun h19 => ?_) (fun h19 => ?_)
    · refine r_ldcZ (pc := 31) (a := -2000000102) C dX2_end_31 rfl q1286 (by decide) ?_
      exact r_iret (pc := 33) C hQ dX2_end_33 (Nat.le_of_ble_eq_true rfl) (Nat.le_of_ble_eq_true rfl) (fun G hG => ⟨_, hG, ⟨by unfold sEnd; first | rw [if_neg h5] | rw [if_pos h5, if_neg h19] | rw [if_pos h5, if_pos h19], by first | exact h25b.wk (by decide) | exact eqx.rf⟩⟩)
    · refine r_aload_n (pc := 22) C dX2_end_22 rfl rfl ?_
      refine r_iload_n (pc := 23) C dX2_end_23 rfl rfl ?_
      refine r_iload_n (pc := 24) C dX2_end_24 rfl rfl ?_
      refine r_minv (pc := 25) 2 C dX2_end_25 (mt_endNow r what (wsat ws r) (h.at h5).2 h19 (h.at h5).1) rfl (lw_V q1415 q1417 qs47 q92 q1418) (by decide +kernel) rfl rfl ⟨Nat.le_of_ble_eq_true rfl, Nat.le_of_ble_eq_true rfl⟩ (Nat.le_of_ble_eq_true rfl) ⟨Nat.le_of_ble_eq_true rfl, Nat.le_of_ble_eq_true rfl⟩ (fun v25 st25 h25 => ?_)
      obtain ⟨rfl, h25b⟩ := h25
      refine r_goto (pc := 28) (tgt := 33) C dX2_end_28 (by decide) ?_
      exact r_iret (pc := 33) C hQ dX2_end_33 (Nat.le_of_ble_eq_true rfl) (Nat.le_of_ble_eq_true rfl) (fun G hG => ⟨_, hG, ⟨by unfold sEnd; first | rw [if_neg h5] | rw [if_pos h5, if_neg h19] | rw [if_pos h5, if_pos h19], by first | exact h25b.wk (by decide) | exact eqx.rf⟩⟩)
  · refine r_ldcZ (pc := 8) (a := -2000000101) C dX2_end_8 rfl q1321 (by decide) ?_
    refine r_goto (pc := 10) (tgt := 33) C dX2_end_10 (by decide) ?_
    exact r_iret (pc := 33) C hQ dX2_end_33 (Nat.le_of_ble_eq_true rfl) (Nat.le_of_ble_eq_true rfl) (fun G hG => ⟨_, hG, ⟨by unfold sEnd; first | rw [if_neg h5] | rw [if_pos h5, if_neg h19] | rw [if_pos h5, if_pos h19], by first | exact h25b.wk (by decide) | exact eqx.rf⟩⟩)
set_option maxHeartbeats 800000 in
theorem mt_alikeNow {la : Launch} {X : XE} {mh : Nat} {mad : Nat → Nat} {G0 : Gh} {st : MSt} (r q : Int) (u v : List Bool) (hr : 0 ≤ r ∧ r < 6) (hq : 0 ≤ q ∧ q < 6) (hu : RoadIs st r u) (hv : RoadIs st q v) : MM la X mh mad G0 yX2_alikeNow cX2_alikeNow 3 (some .int) 1 24 [.int (iI r), .int (iI q)] st (fun z st' => z = some (.int (iI (wTurn u v))) ∧ eqx [18, 19, 20, 21] st st') := by
  refine MG.of (by decide +kernel) (Nat.le_of_ble_eq_true rfl) ?_
  intro Z C hX hL hQ
  subst hX; subst hL
  change WW Z 3 (MOD mh mad G0 st) 0 0 0 [some (.ref mh), some (.int (iI r)), some (.int (iI q))] []
  refine r_aload_n (pc := 0) C dX2_alikeNow_0 rfl rfl ?_
  refine r_iload_n (pc := 1) C dX2_alikeNow_1 rfl rfl ?_
  refine r_minv (pc := 2) 1 C dX2_alikeNow_2 (mt_look q v hq hv) rfl (lw_V q1326 q1328 qs32 q92 q1329) (by decide +kernel) rfl rfl ⟨Nat.le_of_ble_eq_true rfl, Nat.le_of_ble_eq_true rfl⟩ (Nat.le_of_ble_eq_true rfl) ⟨Nat.le_of_ble_eq_true rfl, Nat.le_of_ble_eq_true rfl⟩ (fun v2 st2 h2 => ?_)
  obtain ⟨rfl, h2a, h2b⟩ := h2
  refine r_aload_n (pc := 5) C dX2_alikeNow_5 rfl rfl ?_
  refine r_iconstZ (pc := 6) C dX2_alikeNow_6 ?_
  refine r_iconstZ (pc := 7) C dX2_alikeNow_7 ?_
  refine r_minv (pc := 8) 2 C dX2_alikeNow_8 (mt_layOther v false false h2a) rfl (lw_V q1362 q1364 qs41 q92 q1365) (by decide +kernel) rfl rfl ⟨Nat.le_of_ble_eq_true rfl, Nat.le_of_ble_eq_true rfl⟩ (Nat.le_of_ble_eq_true rfl) ⟨Nat.le_of_ble_eq_true rfl, Nat.le_of_ble_eq_true rfl⟩ (fun v8 st8 h8 => ?_)
  obtain ⟨rfl, h8a, h8b⟩ := h8
  rw [wOther_ff] at h8a
  refine r_aload_n (pc := 11) C dX2_alikeNow_11 rfl rfl ?_
  refine r_iload_n (pc := 12) C dX2_alikeNow_12 rfl rfl ?_
  refine r_minv (pc := 13) 1 C dX2_alikeNow_13 (mt_look r u hr ((hu.x h2b (by decide) (by decide)).x h8b (by decide) (by decide))) rfl (lw_V q1326 q1328 qs32 q92 q1329) (by decide +kernel) rfl rfl ⟨Nat.le_of_ble_eq_true rfl, Nat.le_of_ble_eq_true rfl⟩ (Nat.le_of_ble_eq_true rfl) ⟨Nat.le_of_ble_eq_true rfl, Nat.le_of_ble_eq_true rfl⟩ (fun v13 st13 h13 => ?_)
  obtain ⟨rfl, h13a, h13b⟩ := h13
  refine r_aload_n (pc := 16) C dX2_alikeNow_16 rfl rfl ?_
  refine r_minv (pc := 17) 0 C dX2_alikeNow_17 (mt_turnTo u v h13a (h8a.x h13b (by decide) (by decide))) rfl (lw_V q1366 q1368 qs42 q92 q1369) (by decide +kernel) rfl rfl ⟨Nat.le_of_ble_eq_true rfl, Nat.le_of_ble_eq_true rfl⟩ (Nat.le_of_ble_eq_true rfl) ⟨Nat.le_of_ble_eq_true rfl, Nat.le_of_ble_eq_true rfl⟩ (fun v17 st17 h17 => ?_)
  obtain ⟨rfl, rfl⟩ := h17
  exact r_iret (pc := 20) C hQ dX2_alikeNow_20 (Nat.le_of_ble_eq_true rfl) (Nat.le_of_ble_eq_true rfl) (fun G hG => ⟨_, hG, ⟨rfl, ((h2b.wk (by decide)).tr (h8b.wk (by decide))).tr (h13b.wk (by decide))⟩⟩)
set_option maxHeartbeats 800000 in
theorem mt_alike {la : Launch} {X : XE} {mh : Nat} {mad : Nat → Nat} {G0 : Gh} {st : MSt} (ws : List (List Bool)) (r q : Int) (hr : i32 r) (hq : i32 q) (h : RoadsAre st ws) : MM la X mh mad G0 yX2_alike cX2_alike 3 (some .int) 2 46 [.int (iI r), .int (iI q)] st (fun v st' => v = some (.int (iI (sAlike ws r q))) ∧ eqx tq st st') := by
  refine MG.of (by decide +kernel) (Nat.le_of_ble_eq_true rfl) ?_
  intro Z C hX hL hQ
  subst hX; subst hL
  change WW Z 3 (MOD mh mad G0 st) 0 0 0 [some (.ref mh), some (.int (iI r)), some (.int (iI q))] []
  refine r_aload_n (pc := 0) C dX2_alike_0 rfl rfl ?_
  refine r_iload_n (pc := 1) C dX2_alike_1 rfl rfl ?_
  refine r_minv (pc := 2) 1 C dX2_alike_2 (mt_isRoad ws r hr h) rfl (lw_V q1317 q1319 qs30 q92 q1320) (by decide +kernel) rfl rfl ⟨Nat.le_of_ble_eq_true rfl, Nat.le_of_ble_eq_true rfl⟩ (Nat.le_of_ble_eq_true rfl) ⟨Nat.le_of_ble_eq_true rfl, Nat.le_of_ble_eq_true rfl⟩ (fun v2 st2 h2 => ?_)
  obtain ⟨rfl, rfl⟩ := h2
  refine r_if_eqB (pc := 5) (tgt := 25) C dX2_alike_5 (by decide)  (fun h5 => ?_) (fun h5 => ?_)
  · refine r_ldcZ (pc := 25) (a := -2000000101) C dX2_alike_25 rfl q1321 (by decide) ?_
    exact r_iret (pc := 27) C hQ dX2_alike_27 (Nat.le_of_ble_eq_true rfl) (Nat.le_of_ble_eq_true rfl) (fun G hG => ⟨_, hG, ⟨by unfold sAlike; first | rw [if_neg h5] | rw [if_pos h5, if_neg h13] | rw [if_pos h5, if_pos h13], by first | exact h19b.wk (by decide) | exact eqx.rf⟩⟩)
  · refine r_aload_n (pc := 8) C dX2_alike_8 rfl rfl ?_
    refine r_iload_n (pc := 9) C dX2_alike_9 rfl rfl ?_
    refine r_minv (pc := 10) 1 C dX2_alike_10 (mt_isRoad ws q hq h) rfl (lw_V q1317 q1319 qs30 q92 q1320) (by decide +kernel) rfl rfl ⟨Nat.le_of_ble_eq_true rfl, Nat.le_of_ble_eq_true rfl⟩ (Nat.le_of_ble_eq_true rfl) ⟨Nat.le_of_ble_eq_true rfl, Nat.le_of_ble_eq_true rfl⟩ (fun v10 st10 h10 => ?_)
    obtain ⟨rfl, rfl⟩ := h10
    refine r_if_eqB (pc := 13) (tgt := 25) C dX2_alike_13 (by decide)  (fun h13 => ?_) (fun h13 => ?_)
    · refine r_ldcZ (pc := 25) (a := -2000000101) C dX2_alike_25 rfl q1321 (by decide) ?_
      exact r_iret (pc := 27) C hQ dX2_alike_27 (Nat.le_of_ble_eq_true rfl) (Nat.le_of_ble_eq_true rfl) (fun G hG => ⟨_, hG, ⟨by unfold sAlike; first | rw [if_neg h5] | rw [if_pos h5, if_neg h13] | rw [if_pos h5, if_pos h13], by first | exact h19b.wk (by decide) | exact eqx.rf⟩⟩)
    · refine r_aload_n (pc := 16) C dX2_alike_16 rfl rfl ?_
      refine r_iload_n (pc := 17) C dX2_alike_17 rfl rfl ?_
      refine r_iload_n (pc := 18) C dX2_alike_18 rfl rfl ?_
      refine r_minv (pc := 19) 2 C dX2_alike_19 (mt_alikeNow r q (wsat ws r) (wsat ws q) (h.at h5).2 (h.at h13).2 (h.at h5).1 (h.at h13).1) rfl (lw_V q1423 q1425 qs48 q92 q1426) (by decide +kernel) rfl rfl ⟨Nat.le_of_ble_eq_true rfl, Nat.le_of_ble_eq_true rfl⟩ (Nat.le_of_ble_eq_true rfl) ⟨Nat.le_of_ble_eq_true rfl, Nat.le_of_ble_eq_true rfl⟩ (fun v19 st19 h19 => ?_)
      obtain ⟨rfl, h19b⟩ := h19
      refine r_goto (pc := 22) (tgt := 27) C dX2_alike_22 (by decide) ?_
      exact r_iret (pc := 27) C hQ dX2_alike_27 (Nat.le_of_ble_eq_true rfl) (Nat.le_of_ble_eq_true rfl) (fun G hG => ⟨_, hG, ⟨by unfold sAlike; first | rw [if_neg h5] | rw [if_pos h5, if_neg h13] | rw [if_pos h5, if_pos h13], by first | exact h19b.wk (by decide) | exact eqx.rf⟩⟩)
set_option maxHeartbeats 800000 in
theorem mt_layForm {la : Launch} {X : XE} {mh : Nat} {mad : Nat → Nat} {G0 : Gh} {st : MSt} (r : Int) (w : List Bool) (hr : 0 ≤ r ∧ r < 6) (h : RoadIs st r w) (hcl : wClosed w = true) : MM la X mh mad G0 yX2_layForm cX2_layForm 2 none 2 44 [.int (iI r)] st (fun v st' => v = none ∧ (st'.1 26 = wFa w ∧ st'.1 27 = wFb w ∧ st'.1 28 = wFc w ∧ st'.1 29 = wG w) ∧ eqx [18, 19, 22, 23, 24, 25, 26, 27, 28, 29] st st') := by
  refine MG.of (by decide +kernel) (Nat.le_of_ble_eq_true rfl) ?_
  intro Z C hX hL hQ
  subst hX; subst hL
  change WW Z 2 (MOD mh mad G0 st) 0 0 0 [some (.ref mh), some (.int (iI r))] []
  have hb := wTab_20 h.2.1.2
  have hg := wG_b h.2.1.2 hcl
  have hc := wClosed_t hcl
  have hg1 := igcd_le (a := (wTab w).2.2.1) (b := (wTab w).2.2.2 - (wTab w).1) (by omega)
  refine r_aload_n (pc := 0) C dX2_layForm_0 rfl rfl ?_
  refine r_iload_n (pc := 1) C dX2_layForm_1 rfl rfl ?_
  refine r_minv (pc := 2) 1 C dX2_layForm_2 (mt_look r w hr h) rfl (lw_V q1326 q1328 qs32 q92 q1329) (by decide +kernel) rfl rfl ⟨Nat.le_of_ble_eq_true rfl, Nat.le_of_ble_eq_true rfl⟩ (Nat.le_of_ble_eq_true rfl) ⟨Nat.le_of_ble_eq_true rfl, Nat.le_of_ble_eq_true rfl⟩ (fun v2 st2 h2 => ?_)
  obtain ⟨rfl, h2a, h2b⟩ := h2
  refine r_aload_n (pc := 5) C dX2_layForm_5 rfl rfl ?_
  refine r_minv (pc := 6) 0 C dX2_layForm_6 (mt_layTable w h2a) rfl (lw_V q1350 q1352 qs38 q92 q1353) (by decide +kernel) rfl rfl ⟨Nat.le_of_ble_eq_true rfl, Nat.le_of_ble_eq_true rfl⟩ (Nat.le_of_ble_eq_true rfl) ⟨Nat.le_of_ble_eq_true rfl, Nat.le_of_ble_eq_true rfl⟩ (fun v6 st6 h6 => ?_)
  obtain ⟨rfl, ⟨t1, t2, t3, t4⟩, h6b⟩ := h6
  refine r_aload_n (pc := 9) C dX2_layForm_9 rfl rfl ?_
  refine r_aload_n (pc := 10) C dX2_layForm_10 rfl rfl ?_
  refine r_mget (pc := 11) (k := 24) C dX2_layForm_11 rfl q1196 (by decide) rfl ?_
  rw [t3]
  refine r_aload_n (pc := 14) C dX2_layForm_14 rfl rfl ?_
  refine r_mget (pc := 15) (k := 25) C dX2_layForm_15 rfl q1197 (by decide) rfl ?_
  rw [t4]
  refine r_aload_n (pc := 18) C dX2_layForm_18 rfl rfl ?_
  refine r_mget (pc := 19) (k := 22) C dX2_layForm_19 rfl q1194 (by decide) rfl ?_
  rw [t1]
  refine r_isubZ (pc := 22) C dX2_layForm_22 ?_
  refine r_invP (pc := 23) 2 C dX2_layForm_23 (pf_common (wTab w).2.2.1 ((wTab w).2.2.2 - (wTab w).1) (by unfold i32; omega) (by unfold i32; omega)) rfl (lw_S q1402 q1403 q92 q1404) (by decide +kernel) rfl rfl ⟨Nat.le_of_ble_eq_true rfl, Nat.le_of_ble_eq_true rfl⟩ (Nat.le_of_ble_eq_true rfl) ⟨Nat.le_of_ble_eq_true rfl, Nat.le_of_ble_eq_true rfl⟩ ?_
  refine r_aload_n (pc := 26) C dX2_layForm_26 rfl rfl ?_
  refine r_mget (pc := 27) (k := 23) C dX2_layForm_27 rfl q1195 (by decide) rfl ?_
  rw [t2]
  refine r_invP (pc := 30) 2 C dX2_layForm_30 (pf_common (igcd (wTab w).2.2.1 ((wTab w).2.2.2 - (wTab w).1)) (wTab w).2.1 (by unfold igcd i32; omega) (by unfold i32; omega)) rfl (lw_S q1402 q1403 q92 q1404) (by decide +kernel) rfl rfl ⟨Nat.le_of_ble_eq_true rfl, Nat.le_of_ble_eq_true rfl⟩ (Nat.le_of_ble_eq_true rfl) ⟨Nat.le_of_ble_eq_true rfl, Nat.le_of_ble_eq_true rfl⟩ ?_
  rw [show igcd (igcd (wTab w).2.2.1 ((wTab w).2.2.2 - (wTab w).1)) (wTab w).2.1 = wG w from rfl]
  refine r_mput (pc := 33) (k := 29) (ty := .int) C dX2_layForm_33 rfl q1201 (by decide) rfl (by decide +kernel) rfl rfl (ms_29 mad _ _) rfl (Or.inl rfl) ?_
  refine r_aload_n (pc := 36) C dX2_layForm_36 rfl rfl ?_
  refine r_aload_n (pc := 37) C dX2_layForm_37 rfl rfl ?_
  refine r_mget (pc := 38) (k := 24) C dX2_layForm_38 rfl q1196 (by decide) rfl ?_
  rw [show (iput st6 29 (wG w)).1 24 = (wTab w).2.2.1 from t3]
  refine r_aload_n (pc := 41) C dX2_layForm_41 rfl rfl ?_
  refine r_mget (pc := 42) (k := 29) C dX2_layForm_42 rfl q1201 (by decide) rfl ?_
  rw [show (iput st6 29 (wG w)).1 29 = wG w from rfl]
  refine r_idivZ (pc := 45) C dX2_layForm_45 (by unfold i32; omega) (by unfold i32; omega) (by omega) ?_
  rw [show (wTab w).2.2.1.tdiv (wG w) = wFa w from rfl]
  refine r_mput (pc := 46) (k := 26) (ty := .int) C dX2_layForm_46 rfl q1198 (by decide) rfl (by decide +kernel) rfl rfl (ms_26 mad _ _) rfl (Or.inl rfl) ?_
  refine r_aload_n (pc := 49) C dX2_layForm_49 rfl rfl ?_
  refine r_aload_n (pc := 50) C dX2_layForm_50 rfl rfl ?_
  refine r_mget (pc := 51) (k := 25) C dX2_layForm_51 rfl q1197 (by decide) rfl ?_
  rw [show (iput (iput st6 29 (wG w)) 26 (wFa w)).1 25 = (wTab w).2.2.2 from t4]
  refine r_aload_n (pc := 54) C dX2_layForm_54 rfl rfl ?_
  refine r_mget (pc := 55) (k := 22) C dX2_layForm_55 rfl q1194 (by decide) rfl ?_
  rw [show (iput (iput st6 29 (wG w)) 26 (wFa w)).1 22 = (wTab w).1 from t1]
  refine r_isubZ (pc := 58) C dX2_layForm_58 ?_
  refine r_aload_n (pc := 59) C dX2_layForm_59 rfl rfl ?_
  refine r_mget (pc := 60) (k := 29) C dX2_layForm_60 rfl q1201 (by decide) rfl ?_
  rw [show (iput (iput st6 29 (wG w)) 26 (wFa w)).1 29 = wG w from rfl]
  refine r_idivZ (pc := 63) C dX2_layForm_63 (by unfold i32; omega) (by unfold i32; omega) (by omega) ?_
  rw [show ((wTab w).2.2.2 - (wTab w).1).tdiv (wG w) = wFb w from rfl]
  refine r_mput (pc := 64) (k := 27) (ty := .int) C dX2_layForm_64 rfl q1199 (by decide) rfl (by decide +kernel) rfl rfl (ms_27 mad _ _) rfl (Or.inl rfl) ?_
  refine r_aload_n (pc := 67) C dX2_layForm_67 rfl rfl ?_
  refine r_aload_n (pc := 68) C dX2_layForm_68 rfl rfl ?_
  refine r_mget (pc := 69) (k := 23) C dX2_layForm_69 rfl q1195 (by decide) rfl ?_
  rw [show (iput (iput (iput st6 29 (wG w)) 26 (wFa w)) 27 (wFb w)).1 23 = (wTab w).2.1 from t2]
  refine r_inegZ (pc := 72) C dX2_layForm_72 ?_
  refine r_aload_n (pc := 73) C dX2_layForm_73 rfl rfl ?_
  refine r_mget (pc := 74) (k := 29) C dX2_layForm_74 rfl q1201 (by decide) rfl ?_
  rw [show (iput (iput (iput st6 29 (wG w)) 26 (wFa w)) 27 (wFb w)).1 29 = wG w from rfl]
  refine r_idivZ (pc := 77) C dX2_layForm_77 (by unfold i32; omega) (by unfold i32; omega) (by omega) ?_
  rw [show (-(wTab w).2.1).tdiv (wG w) = wFc w from rfl]
  refine r_mput (pc := 78) (k := 28) (ty := .int) C dX2_layForm_78 rfl q1200 (by decide) rfl (by decide +kernel) rfl rfl (ms_28 mad _ _) rfl (Or.inl rfl) ?_
  exact r_vret (pc := 81) C hQ dX2_layForm_81 (Nat.le_of_ble_eq_true rfl) (Nat.le_of_ble_eq_true rfl) (fun G hG => ⟨_, hG, ⟨rfl, ⟨rfl, rfl, rfl, rfl⟩, ((((((h2b.wk (by decide)).tr (h6b.wk (by decide))).iput (by decide)).iput (by decide)).iput (by decide)).iput (by decide))⟩⟩)
set_option maxHeartbeats 800000 in
theorem mt_formNow {la : Launch} {X : XE} {mh : Nat} {mad : Nat → Nat} {G0 : Gh} {st : MSt} (r what : Int) (w : List Bool) (hr : 0 ≤ r ∧ r < 6) (hw : 0 ≤ what ∧ what ≤ 4) (h : RoadIs st r w) (hcl : wClosed w = true) : MM la X mh mad G0 yX2_formNow cX2_formNow 3 (some .int) 3 65 [.int (iI r), .int (iI what)] st (fun v st' => v = some (.int (iI (fTold w what))) ∧ eqx [18, 19, 22, 23, 24, 25, 26, 27, 28, 29] st st') := by
  refine MG.of (by decide +kernel) (Nat.le_of_ble_eq_true rfl) ?_
  intro Z C hX hL hQ
  subst hX; subst hL
  change WW Z 3 (MOD mh mad G0 st) 0 0 0 [some (.ref mh), some (.int (iI r)), some (.int (iI what))] []
  refine r_aload_n (pc := 0) C dX2_formNow_0 rfl rfl ?_
  refine r_iload_n (pc := 1) C dX2_formNow_1 rfl rfl ?_
  refine r_minv (pc := 2) 1 C dX2_formNow_2 (mt_layForm r w hr h hcl) rfl (lw_V q1398 q1400 qs46 q92 q1401) (by decide +kernel) rfl rfl ⟨Nat.le_of_ble_eq_true rfl, Nat.le_of_ble_eq_true rfl⟩ (Nat.le_of_ble_eq_true rfl) ⟨Nat.le_of_ble_eq_true rfl, Nat.le_of_ble_eq_true rfl⟩ (fun v2 st2 h2 => ?_)
  obtain ⟨rfl, ⟨f1, f2, f3, f4⟩, h2b⟩ := h2
  refine r_iload_n (pc := 5) C dX2_formNow_5 rfl rfl ?_
  refine r_tcase 0 (fun h6 => ?_) (fun h6_0 => ?_)
  · refine r_tableInZ (pc := 6) (off := 30) (tgt := 36) C dX2_formNow_6 (by unfold i32; omega) (by omega) (by omega) (by rw [h6]; rfl) (by decide) ?_
    refine r_aload_n (pc := 36) C dX2_formNow_36 rfl rfl ?_
    refine r_mget (pc := 37) (k := 26) C dX2_formNow_37 rfl q1198 (by decide) rfl ?_
    exact r_iret (pc := 40) C hQ dX2_formNow_40 (Nat.le_of_ble_eq_true rfl) (Nat.le_of_ble_eq_true rfl) (fun G hG => ⟨_, hG, ⟨by subst h6; rw [f1]; rfl, h2b⟩⟩)
  refine r_tcase 1 (fun h6 => ?_) (fun h6_1 => ?_)
  · refine r_tableInZ (pc := 6) (off := 35) (tgt := 41) C dX2_formNow_6 (by unfold i32; omega) (by omega) (by omega) (by rw [h6]; rfl) (by decide) ?_
    refine r_aload_n (pc := 41) C dX2_formNow_41 rfl rfl ?_
    refine r_mget (pc := 42) (k := 27) C dX2_formNow_42 rfl q1199 (by decide) rfl ?_
    exact r_iret (pc := 45) C hQ dX2_formNow_45 (Nat.le_of_ble_eq_true rfl) (Nat.le_of_ble_eq_true rfl) (fun G hG => ⟨_, hG, ⟨by subst h6; rw [f2]; rfl, h2b⟩⟩)
  refine r_tcase 2 (fun h6 => ?_) (fun h6_2 => ?_)
  · refine r_tableInZ (pc := 6) (off := 40) (tgt := 46) C dX2_formNow_6 (by unfold i32; omega) (by omega) (by omega) (by rw [h6]; rfl) (by decide) ?_
    refine r_aload_n (pc := 46) C dX2_formNow_46 rfl rfl ?_
    refine r_mget (pc := 47) (k := 28) C dX2_formNow_47 rfl q1200 (by decide) rfl ?_
    exact r_iret (pc := 50) C hQ dX2_formNow_50 (Nat.le_of_ble_eq_true rfl) (Nat.le_of_ble_eq_true rfl) (fun G hG => ⟨_, hG, ⟨by subst h6; rw [f3]; rfl, h2b⟩⟩)
  refine r_tcase 3 (fun h6 => ?_) (fun h6_3 => ?_)
  · refine r_tableInZ (pc := 6) (off := 45) (tgt := 51) C dX2_formNow_6 (by unfold i32; omega) (by omega) (by omega) (by rw [h6]; rfl) (by decide) ?_
    refine r_aload_n (pc := 51) C dX2_formNow_51 rfl rfl ?_
    refine r_mget (pc := 52) (k := 29) C dX2_formNow_52 rfl q1201 (by decide) rfl ?_
    exact r_iret (pc := 55) C hQ dX2_formNow_55 (Nat.le_of_ble_eq_true rfl) (Nat.le_of_ble_eq_true rfl) (fun G hG => ⟨_, hG, ⟨by subst h6; rw [f4]; rfl, h2b⟩⟩)
  refine r_tableOutZ (pc := 6) (tgt := 56) C dX2_formNow_6 (by unfold i32; omega) (by omega) (by decide) ?_
  refine r_aload_n (pc := 56) C dX2_formNow_56 rfl rfl ?_
  refine r_mget (pc := 57) (k := 26) C dX2_formNow_57 rfl q1198 (by decide) rfl ?_
  refine r_aload_n (pc := 60) C dX2_formNow_60 rfl rfl ?_
  refine r_mget (pc := 61) (k := 27) C dX2_formNow_61 rfl q1199 (by decide) rfl ?_
  refine r_aload_n (pc := 64) C dX2_formNow_64 rfl rfl ?_
  refine r_mget (pc := 65) (k := 28) C dX2_formNow_65 rfl q1200 (by decide) rfl ?_
  refine r_invP (pc := 68) 3 C dX2_formNow_68 (pf_discOf _ _ _) rfl (lw_S q1408 q1409 q92 q1410) (by decide +kernel) rfl rfl ⟨Nat.le_of_ble_eq_true rfl, Nat.le_of_ble_eq_true rfl⟩ (Nat.le_of_ble_eq_true rfl) ⟨Nat.le_of_ble_eq_true rfl, Nat.le_of_ble_eq_true rfl⟩ ?_
  exact r_iret (pc := 71) C hQ dX2_formNow_71 (Nat.le_of_ble_eq_true rfl) (Nat.le_of_ble_eq_true rfl) (fun G hG => ⟨_, hG, ⟨by have e9 : what = 4 := (by omega); subst e9; rw [f1, f2, f3]; rfl, h2b⟩⟩)
set_option maxHeartbeats 800000 in
theorem mt_form {la : Launch} {X : XE} {mh : Nat} {mad : Nat → Nat} {G0 : Gh} {st : MSt} (ws : List (List Bool)) (r what : Int) (hr : i32 r) (hw : i32 what) (h : RoadsAre st ws) : MM la X mh mad G0 yX2_form cX2_form 3 (some .int) 4 87 [.int (iI r), .int (iI what)] st (fun v st' => v = some (.int (iI (sForm ws r what))) ∧ eqx tq st st') := by
  refine MG.of (by decide +kernel) (Nat.le_of_ble_eq_true rfl) ?_
  intro Z C hX hL hQ
  subst hX; subst hL
  change WW Z 3 (MOD mh mad G0 st) 0 0 0 [some (.ref mh), some (.int (iI r)), some (.int (iI what))] []
  refine r_aload_n (pc := 0) C dX2_form_0 rfl rfl ?_
  refine r_iload_n (pc := 1) C dX2_form_1 rfl rfl ?_
  refine r_minv (pc := 2) 1 C dX2_form_2 (mt_isRoad ws r hr h) rfl (lw_V q1317 q1319 qs30 q92 q1320) (by decide +kernel) rfl rfl ⟨Nat.le_of_ble_eq_true rfl, Nat.le_of_ble_eq_true rfl⟩ (Nat.le_of_ble_eq_true rfl) ⟨Nat.le_of_ble_eq_true rfl, Nat.le_of_ble_eq_true rfl⟩ (fun v2 st2 h2 => ?_)
  obtain ⟨rfl, rfl⟩ := h2
  refine r_if_neB (pc := 5) (tgt := 11) C dX2_form_5 (by decide)  (fun h5 => ?_) (fun h5 => ?_)
  · refine r_iload_n (pc := 11) C dX2_form_11 rfl rfl ?_
    refine r_iconstZ (pc := 12) C dX2_form_12 ?_
    refine r_iconstZ (pc := 13) C dX2_form_13 ?_
    refine r_invP (pc := 14) 3 C dX2_form_14 (pf_within what 0 4 hw i32_0 (by unfold i32; omega)) rfl (lw_S q1283 q1284 q92 q1285) (by decide +kernel) rfl rfl ⟨Nat.le_of_ble_eq_true rfl, Nat.le_of_ble_eq_true rfl⟩ (Nat.le_of_ble_eq_true rfl) ⟨Nat.le_of_ble_eq_true rfl, Nat.le_of_ble_eq_true rfl⟩ ?_
    refine r_if_neB (pc := 17) (tgt := 23) C dX2_form_17 (by decide)  (fun h17 => ?_) (fun h17 => ?_)
    · refine r_aload_n (pc := 23) C dX2_form_23 rfl rfl ?_
      refine r_iload_n (pc := 24) C dX2_form_24 rfl rfl ?_
      refine r_minv (pc := 25) 1 C dX2_form_25 (mt_isClosed r (wsat ws r) (h.at h5).2 (h.at h5).1) rfl (lw_V q1390 q1392 qs44 q92 q1393) (by decide +kernel) rfl rfl ⟨Nat.le_of_ble_eq_true rfl, Nat.le_of_ble_eq_true rfl⟩ (Nat.le_of_ble_eq_true rfl) ⟨Nat.le_of_ble_eq_true rfl, Nat.le_of_ble_eq_true rfl⟩ (fun v25 st25 h25 => ?_)
      obtain ⟨rfl, h25a, h25b⟩ := h25
      refine r_if_eqZ (pc := 28) (tgt := 40) C dX2_form_28 (by decide) (bi_i _) (fun h28 => ?_) (fun h28 => ?_)
      · refine r_ldcZ (pc := 40) (a := -2000000103) C dX2_form_40 rfl q1308 (by decide) ?_
        exact r_iret (pc := 42) C hQ dX2_form_42 (Nat.le_of_ble_eq_true rfl) (Nat.le_of_ble_eq_true rfl) (fun G hG => ⟨_, hG, ⟨by unfold sForm; first | rw [if_neg h5] | rw [if_pos h5, if_neg h17] | (rw [if_pos h5, if_pos h17, bi_0.mp h28]; rfl) | rw [if_pos h5, if_pos h17, if_pos (bi_n0 h28)], by first | exact (h25b.wk (by decide)).tr (h34b.wk (by decide)) | exact h25b.wk (by decide) | exact eqx.rf⟩⟩)
      · refine r_aload_n (pc := 31) C dX2_form_31 rfl rfl ?_
        refine r_iload_n (pc := 32) C dX2_form_32 rfl rfl ?_
        refine r_iload_n (pc := 33) C dX2_form_33 rfl rfl ?_
        refine r_minv (pc := 34) 2 C dX2_form_34 (mt_formNow r what (wsat ws r) (h.at h5).2 h17 ((h.at h5).1.x h25b (by decide) (by decide)) (bi_n0 h28)) rfl (lw_V q1394 q1396 qs45 q92 q1397) (by decide +kernel) rfl rfl ⟨Nat.le_of_ble_eq_true rfl, Nat.le_of_ble_eq_true rfl⟩ (Nat.le_of_ble_eq_true rfl) ⟨Nat.le_of_ble_eq_true rfl, Nat.le_of_ble_eq_true rfl⟩ (fun v34 st34 h34 => ?_)
        obtain ⟨rfl, h34b⟩ := h34
        refine r_goto (pc := 37) (tgt := 42) C dX2_form_37 (by decide) ?_
        exact r_iret (pc := 42) C hQ dX2_form_42 (Nat.le_of_ble_eq_true rfl) (Nat.le_of_ble_eq_true rfl) (fun G hG => ⟨_, hG, ⟨by unfold sForm; first | rw [if_neg h5] | rw [if_pos h5, if_neg h17] | (rw [if_pos h5, if_pos h17, bi_0.mp h28]; rfl) | rw [if_pos h5, if_pos h17, if_pos (bi_n0 h28)], by first | exact (h25b.wk (by decide)).tr (h34b.wk (by decide)) | exact h25b.wk (by decide) | exact eqx.rf⟩⟩)
    · refine r_ldcZ (pc := 20) (a := -2000000102) C dX2_form_20 rfl q1286 (by decide) ?_
      exact r_iret (pc := 22) C hQ dX2_form_22 (Nat.le_of_ble_eq_true rfl) (Nat.le_of_ble_eq_true rfl) (fun G hG => ⟨_, hG, ⟨by unfold sForm; first | rw [if_neg h5] | rw [if_pos h5, if_neg h17] | (rw [if_pos h5, if_pos h17, bi_0.mp h28]; rfl) | rw [if_pos h5, if_pos h17, if_pos (bi_n0 h28)], by first | exact (h25b.wk (by decide)).tr (h34b.wk (by decide)) | exact h25b.wk (by decide) | exact eqx.rf⟩⟩)
  · refine r_ldcZ (pc := 8) (a := -2000000101) C dX2_form_8 rfl q1321 (by decide) ?_
    exact r_iret (pc := 10) C hQ dX2_form_10 (Nat.le_of_ble_eq_true rfl) (Nat.le_of_ble_eq_true rfl) (fun G hG => ⟨_, hG, ⟨by unfold sForm; first | rw [if_neg h5] | rw [if_pos h5, if_neg h17] | (rw [if_pos h5, if_pos h17, bi_0.mp h28]; rfl) | rw [if_pos h5, if_pos h17, if_pos (bi_n0 h28)], by first | exact (h25b.wk (by decide)).tr (h34b.wk (by decide)) | exact h25b.wk (by decide) | exact eqx.rf⟩⟩)

