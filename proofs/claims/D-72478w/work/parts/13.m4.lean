/-! the reference's methods: what is told of a road -/
set_option maxRecDepth 100000
theorem LookAt.z {st : MSt} {w : List Bool} (h : LookAt st w) {z : Int} (j : Nat) (hj : j < w.length) (hz : z = (j : Int)) : st.2 19 z = bi (wl w j) := by
  rw [hz]
  exact h.2.2 j hj
theorem wTurn_b (w o : List Bool) (h : w.length ≤ 20) : i32 (wTurn w o) := by
  unfold wTurn
  split
  · have := wTurnN_le w o
    unfold i32; omega
  · unfold i32; omega
set_option maxHeartbeats 800000 in
theorem mt_isAlike {la : Launch} {X : XE} {mh : Nat} {mad : Nat → Nat} {G0 : Gh} {st : MSt} (w : List Bool) (bk mr : Bool) (h : LookAt st w) : MM la X mh mad G0 yX2_isAlike cX2_isAlike 3 (some .boolean) 1 24 [.int (iI (bi bk)), .int (iI (bi mr))] st (fun v st' => v = some (.int (iI (bi (wAlike w (wOther w bk mr))))) ∧ eqx [20, 21] st st') := by
  refine MG.of (by decide +kernel) (Nat.le_of_ble_eq_true rfl) ?_
  intro Z C hX hL hQ
  subst hX; subst hL
  change WW Z 3 (MOD mh mad G0 st) 0 0 0 [some (.ref mh), some (.int (iI (bi bk))), some (.int (iI (bi mr)))] []
  refine r_aload_n (pc := 0) C dX2_isAlike_0 rfl rfl ?_
  refine r_iload_n (pc := 1) C dX2_isAlike_1 rfl rfl ?_
  refine r_iload_n (pc := 2) C dX2_isAlike_2 rfl rfl ?_
  refine r_minv (pc := 3) 2 C dX2_isAlike_3 (mt_layOther w bk mr h) rfl (lw_V q1362 q1364 qs41 q92 q1365) (by decide +kernel) rfl rfl ⟨Nat.le_of_ble_eq_true rfl, Nat.le_of_ble_eq_true rfl⟩ (Nat.le_of_ble_eq_true rfl) ⟨Nat.le_of_ble_eq_true rfl, Nat.le_of_ble_eq_true rfl⟩ (fun v3 st3 h3 => ?_)
  obtain ⟨rfl, h3a, h3b⟩ := h3
  refine r_aload_n (pc := 6) C dX2_isAlike_6 rfl rfl ?_
  refine r_minv (pc := 7) 0 C dX2_isAlike_7 (mt_turnTo w (wOther w bk mr) (h.x h3b (by decide) (by decide)) h3a) rfl (lw_V q1366 q1368 qs42 q92 q1369) (by decide +kernel) rfl rfl ⟨Nat.le_of_ble_eq_true rfl, Nat.le_of_ble_eq_true rfl⟩ (Nat.le_of_ble_eq_true rfl) ⟨Nat.le_of_ble_eq_true rfl, Nat.le_of_ble_eq_true rfl⟩ (fun v7 st7 h7 => ?_)
  obtain ⟨rfl, rfl⟩ := h7
  refine r_ldcZ (pc := 10) (a := -2000000001) C dX2_isAlike_10 rfl q1370 (by decide) ?_
  refine r_icmp_eqZ (pc := 12) (tgt := 19) C dX2_isAlike_12 (by decide) (wTurn_b _ _ h.2.1.2) (by unfold i32; omega) (fun h12 => ?_) (fun h12 => ?_)
  · refine r_iconstZ (pc := 19) C dX2_isAlike_19 ?_
    exact r_zret (pc := 20) C hQ dX2_isAlike_20 (by first | exact b2_nar _ | decide) (Nat.le_of_ble_eq_true rfl) (Nat.le_of_ble_eq_true rfl) (fun G hG => ⟨_, hG, ⟨by unfold wAlike; first | rw [decide_eq_true h12]; rfl | rw [decide_eq_false (fun e => e h12)]; rfl, h3b⟩⟩)
  · refine r_iconstZ (pc := 15) C dX2_isAlike_15 ?_
    refine r_goto (pc := 16) (tgt := 20) C dX2_isAlike_16 (by decide) ?_
    exact r_zret (pc := 20) C hQ dX2_isAlike_20 (by first | exact b2_nar _ | decide) (Nat.le_of_ble_eq_true rfl) (Nat.le_of_ble_eq_true rfl) (fun G hG => ⟨_, hG, ⟨by unfold wAlike; first | rw [decide_eq_true h12]; rfl | rw [decide_eq_false (fun e => e h12)]; rfl, h3b⟩⟩)
set_option maxHeartbeats 800000 in
theorem mt_layTable {la : Launch} {X : XE} {mh : Nat} {mad : Nat → Nat} {G0 : Gh} {st : MSt} (w : List Bool) (h : LookAt st w) : MM la X mh mad G0 yX2_layTable cX2_layTable 2 none 0 0 [] st (fun v st' => v = none ∧ TabAt st' w ∧ eqx [22, 23, 24, 25] st st') := by
  refine MG.of (by decide +kernel) (Nat.le_of_ble_eq_true rfl) ?_
  intro Z C hX hL hQ
  subst hX; subst hL
  change WW Z 2 (MOD mh mad G0 st) 0 0 0 [some (.ref mh), none] []
  have hh := h
  obtain ⟨h1, h2, h3⟩ := h
  have loop : ∀ i : Nat, i ≤ w.length → ∀ sti : MSt, eqx [22, 23, 24, 25] st sti → TabAt sti (w.drop (w.length - i)) → WW Z 2 (MOD mh mad G0 (sti)) 0 0 27 [some (.ref mh), some (.int (iI (((w.length - i : Nat) : Int) - 1)))] [] := by
    refine loopN _ _ (fun i hi ih sti g1 g2 => ?_)
    obtain ⟨t1, t2, t3, t4⟩ := g2
    refine r_iload_n (pc := 27) C dX2_layTable_27 rfl rfl ?_
    refine r_if_ltZ (pc := 28) (tgt := 101) C dX2_layTable_28 (by decide) (by unfold i32; omega) (fun h28 => ?_) (fun h28 => ?_)
    · exact r_vret (pc := 101) C hQ dX2_layTable_101 (Nat.le_of_ble_eq_true rfl) (Nat.le_of_ble_eq_true rfl) (fun G hG => ⟨_, hG, ⟨rfl, by rw [show w.length - i = 0 by omega] at t1 t2 t3 t4; exact ⟨t1, t2, t3, t4⟩, g1⟩⟩)
    · refine r_aload_n (pc := 31) C dX2_layTable_31 rfl rfl ?_
      refine r_mget (pc := 32) (k := 19) C dX2_layTable_32 rfl q1191 (by decide) rfl ?_
      refine r_iload_n (pc := 35) C dX2_layTable_35 rfl rfl ?_
      refine r_mald (pc := 36) (L := 20) C dX2_layTable_36 (by decide) rfl (by omega) (by omega) ?_
      rw [(hh.x g1 (by decide) (by decide)).z (w.length - i - 1) (by omega) (by omega)]
      refine r_if_neZ (pc := 37) (tgt := 69) C dX2_layTable_37 (by decide) (bi_i _) (fun h37 => ?_) (fun h37 => ?_)
      · refine r_aload_n (pc := 69) C dX2_layTable_69 rfl rfl ?_
        refine r_dup (pc := 70) C dX2_layTable_70 rfl ?_
        refine r_mget (pc := 71) (k := 22) C dX2_layTable_71 rfl q1194 (by decide) rfl ?_
        refine r_aload_n (pc := 74) C dX2_layTable_74 rfl rfl ?_
        refine r_mget (pc := 75) (k := 24) C dX2_layTable_75 rfl q1196 (by decide) rfl ?_
        refine r_iaddZ (pc := 78) C dX2_layTable_78 ?_
        refine r_mput (pc := 79) (k := 22) (ty := .int) C dX2_layTable_79 rfl q1194 (by decide) rfl (by decide +kernel) rfl rfl (ms_22 mad _ _) rfl (Or.inl rfl) ?_
        refine r_aload_n (pc := 82) C dX2_layTable_82 rfl rfl ?_
        refine r_dup (pc := 83) C dX2_layTable_83 rfl ?_
        refine r_mget (pc := 84) (k := 23) C dX2_layTable_84 rfl q1195 (by decide) rfl ?_
        refine r_aload_n (pc := 87) C dX2_layTable_87 rfl rfl ?_
        refine r_mget (pc := 88) (k := 25) C dX2_layTable_88 rfl q1197 (by decide) rfl ?_
        refine r_iaddZ (pc := 91) C dX2_layTable_91 ?_
        refine r_mput (pc := 92) (k := 23) (ty := .int) C dX2_layTable_92 rfl q1195 (by decide) rfl (by decide +kernel) rfl rfl (ms_23 mad _ _) rfl (Or.inl rfl) ?_
        refine r_iincZ (pc := 95) C dX2_layTable_95 rfl (by decide) ?_
        refine r_goto (pc := 98) (tgt := 27) C dX2_layTable_98 (by decide) ?_
        have ed := wTab_drop (w := w) (j := w.length - i - 1) (by omega)
        rw [show w.length - i - 1 + 1 = w.length - i by omega] at ed
        rw [show ((w.length - i : Nat) : Int) - 1 + -1 = ((w.length - (i + 1) : Nat) : Int) - 1 by omega]
        refine ih (by omega) _ ?_ ?_
        · first | exact ((g1.iput (by decide)).iput (by decide))
        · rw [show w.length - (i + 1) = w.length - i - 1 by omega]
          first | (rw [bi_0.mp h37] at ed; rw [TabAt, ed]; refine ⟨?_, ?_, ?_, ?_⟩ <;> simp [iput, t1, t2, t3, t4]) | (rw [bi_n0 h37] at ed; rw [TabAt, ed]; refine ⟨?_, ?_, ?_, ?_⟩ <;> simp [iput, t1, t2, t3, t4])
      · refine r_aload_n (pc := 40) C dX2_layTable_40 rfl rfl ?_
        refine r_dup (pc := 41) C dX2_layTable_41 rfl ?_
        refine r_mget (pc := 42) (k := 24) C dX2_layTable_42 rfl q1196 (by decide) rfl ?_
        refine r_aload_n (pc := 45) C dX2_layTable_45 rfl rfl ?_
        refine r_mget (pc := 46) (k := 22) C dX2_layTable_46 rfl q1194 (by decide) rfl ?_
        refine r_iaddZ (pc := 49) C dX2_layTable_49 ?_
        refine r_mput (pc := 50) (k := 24) (ty := .int) C dX2_layTable_50 rfl q1196 (by decide) rfl (by decide +kernel) rfl rfl (ms_24 mad _ _) rfl (Or.inl rfl) ?_
        refine r_aload_n (pc := 53) C dX2_layTable_53 rfl rfl ?_
        refine r_dup (pc := 54) C dX2_layTable_54 rfl ?_
        refine r_mget (pc := 55) (k := 25) C dX2_layTable_55 rfl q1197 (by decide) rfl ?_
        refine r_aload_n (pc := 58) C dX2_layTable_58 rfl rfl ?_
        refine r_mget (pc := 59) (k := 23) C dX2_layTable_59 rfl q1195 (by decide) rfl ?_
        refine r_iaddZ (pc := 62) C dX2_layTable_62 ?_
        refine r_mput (pc := 63) (k := 25) (ty := .int) C dX2_layTable_63 rfl q1197 (by decide) rfl (by decide +kernel) rfl rfl (ms_25 mad _ _) rfl (Or.inl rfl) ?_
        refine r_goto (pc := 66) (tgt := 95) C dX2_layTable_66 (by decide) ?_
        refine r_iincZ (pc := 95) C dX2_layTable_95 rfl (by decide) ?_
        refine r_goto (pc := 98) (tgt := 27) C dX2_layTable_98 (by decide) ?_
        have ed := wTab_drop (w := w) (j := w.length - i - 1) (by omega)
        rw [show w.length - i - 1 + 1 = w.length - i by omega] at ed
        rw [show ((w.length - i : Nat) : Int) - 1 + -1 = ((w.length - (i + 1) : Nat) : Int) - 1 by omega]
        refine ih (by omega) _ ?_ ?_
        · first | exact ((g1.iput (by decide)).iput (by decide))
        · rw [show w.length - (i + 1) = w.length - i - 1 by omega]
          first | (rw [bi_0.mp h37] at ed; rw [TabAt, ed]; refine ⟨?_, ?_, ?_, ?_⟩ <;> simp [iput, t1, t2, t3, t4]) | (rw [bi_n0 h37] at ed; rw [TabAt, ed]; refine ⟨?_, ?_, ?_, ?_⟩ <;> simp [iput, t1, t2, t3, t4])
  refine r_aload_n (pc := 0) C dX2_layTable_0 rfl rfl ?_
  refine r_iconstZ (pc := 1) C dX2_layTable_1 ?_
  refine r_mput (pc := 2) (k := 22) (ty := .int) C dX2_layTable_2 rfl q1194 (by decide) rfl (by decide +kernel) rfl rfl (ms_22 mad _ _) rfl (Or.inl rfl) ?_
  refine r_aload_n (pc := 5) C dX2_layTable_5 rfl rfl ?_
  refine r_iconstZ (pc := 6) C dX2_layTable_6 ?_
  refine r_mput (pc := 7) (k := 23) (ty := .int) C dX2_layTable_7 rfl q1195 (by decide) rfl (by decide +kernel) rfl rfl (ms_23 mad _ _) rfl (Or.inl rfl) ?_
  refine r_aload_n (pc := 10) C dX2_layTable_10 rfl rfl ?_
  refine r_iconstZ (pc := 11) C dX2_layTable_11 ?_
  refine r_mput (pc := 12) (k := 24) (ty := .int) C dX2_layTable_12 rfl q1196 (by decide) rfl (by decide +kernel) rfl rfl (ms_24 mad _ _) rfl (Or.inl rfl) ?_
  refine r_aload_n (pc := 15) C dX2_layTable_15 rfl rfl ?_
  refine r_iconstZ (pc := 16) C dX2_layTable_16 ?_
  refine r_mput (pc := 17) (k := 25) (ty := .int) C dX2_layTable_17 rfl q1197 (by decide) rfl (by decide +kernel) rfl rfl (ms_25 mad _ _) rfl (Or.inl rfl) ?_
  refine r_aload_n (pc := 20) C dX2_layTable_20 rfl rfl ?_
  refine r_mget (pc := 21) (k := 18) C dX2_layTable_21 rfl q1190 (by decide) rfl ?_
  rw [show ((iput (iput (iput (iput st 22 1) 23 0) 24 0) 25 1).1 18) = (w.length : Int) from h1]
  refine r_iconstZ (pc := 24) C dX2_layTable_24 ?_
  refine r_isubZ (pc := 25) C dX2_layTable_25 ?_
  refine r_istore_n (pc := 26) C dX2_layTable_26 rfl (by decide) ?_
  exact loop 0 (Nat.zero_le _) _ ((((eqx.rf.iput (by decide)).iput (by decide)).iput (by decide)).iput (by decide)) (by rw [Nat.sub_zero, List.drop_length]; exact ⟨rfl, rfl, rfl, rfl⟩)
set_option maxHeartbeats 800000 in
theorem mt_traceNow {la : Launch} {X : XE} {mh : Nat} {mad : Nat → Nat} {G0 : Gh} {st : MSt} (w : List Bool) (h : LookAt st w) : MM la X mh mad G0 yX2_traceNow cX2_traceNow 1 (some .int) 1 21 [] st (fun v st' => v = some (.int (iI (wTrace w))) ∧ TabAt st' w ∧ eqx [22, 23, 24, 25] st st') := by
  refine MG.of (by decide +kernel) (Nat.le_of_ble_eq_true rfl) ?_
  intro Z C hX hL hQ
  subst hX; subst hL
  change WW Z 1 (MOD mh mad G0 st) 0 0 0 [some (.ref mh)] []
  refine r_aload_n (pc := 0) C dX2_traceNow_0 rfl rfl ?_
  refine r_minv (pc := 1) 0 C dX2_traceNow_1 (mt_layTable w h) rfl (lw_V q1350 q1352 qs38 q92 q1353) (by decide +kernel) rfl rfl ⟨Nat.le_of_ble_eq_true rfl, Nat.le_of_ble_eq_true rfl⟩ (Nat.le_of_ble_eq_true rfl) ⟨Nat.le_of_ble_eq_true rfl, Nat.le_of_ble_eq_true rfl⟩ (fun v1 st1 h1 => ?_)
  obtain ⟨rfl, h1a, h1b⟩ := h1
  refine r_aload_n (pc := 4) C dX2_traceNow_4 rfl rfl ?_
  refine r_mget (pc := 5) (k := 22) C dX2_traceNow_5 rfl q1194 (by decide) rfl ?_
  refine r_aload_n (pc := 8) C dX2_traceNow_8 rfl rfl ?_
  refine r_mget (pc := 9) (k := 25) C dX2_traceNow_9 rfl q1197 (by decide) rfl ?_
  refine r_iaddZ (pc := 12) C dX2_traceNow_12 ?_
  exact r_iret (pc := 13) C hQ dX2_traceNow_13 (Nat.le_of_ble_eq_true rfl) (Nat.le_of_ble_eq_true rfl) (fun G hG => ⟨_, hG, ⟨by unfold wTrace; rw [h1a.1, h1a.2.2.2], h1a, h1b⟩⟩)
set_option maxHeartbeats 800000 in
theorem mt_isRoad {la : Launch} {X : XE} {mh : Nat} {mad : Nat → Nat} {G0 : Gh} {st : MSt} (ws : List (List Bool)) (r : Int) (hr : i32 r) (h : RoadsAre st ws) : MM la X mh mad G0 yX2_isRoad cX2_isRoad 2 (some .boolean) 1 22 [.int (iI r)] st (fun v st' => v = some (.int (iI (b2 (0 ≤ r ∧ r ≤ (ws.length : Int) - 1)))) ∧ st' = st) := by
  refine MG.of (by decide +kernel) (Nat.le_of_ble_eq_true rfl) ?_
  intro Z C hX hL hQ
  subst hX; subst hL
  change WW Z 2 (MOD mh mad G0 st) 0 0 0 [some (.ref mh), some (.int (iI r))] []
  have hl := h.2.1
  refine r_iload_n (pc := 0) C dX2_isRoad_0 rfl rfl ?_
  refine r_iconstZ (pc := 1) C dX2_isRoad_1 ?_
  refine r_aload_n (pc := 2) C dX2_isRoad_2 rfl rfl ?_
  refine r_mget (pc := 3) (k := 2) C dX2_isRoad_3 rfl q1174 (by decide) rfl ?_
  rw [h.1]
  refine r_iconstZ (pc := 6) C dX2_isRoad_6 ?_
  refine r_isubZ (pc := 7) C dX2_isRoad_7 ?_
  refine r_invP (pc := 8) 3 C dX2_isRoad_8 (pf_within r 0 ((ws.length : Int) - 1) hr i32_0 (by unfold i32; omega)) rfl (lw_S q1283 q1284 q92 q1285) (by decide +kernel) rfl rfl ⟨Nat.le_of_ble_eq_true rfl, Nat.le_of_ble_eq_true rfl⟩ (Nat.le_of_ble_eq_true rfl) ⟨Nat.le_of_ble_eq_true rfl, Nat.le_of_ble_eq_true rfl⟩ ?_
  exact r_zret (pc := 11) C hQ dX2_isRoad_11 (b2_nar _) (Nat.le_of_ble_eq_true rfl) (Nat.le_of_ble_eq_true rfl) (fun G hG => ⟨_, hG, ⟨rfl, rfl⟩⟩)
set_option maxHeartbeats 800000 in
theorem mt_roadNow {la : Launch} {X : XE} {mh : Nat} {mad : Nat → Nat} {G0 : Gh} {st : MSt} (r what : Int) (w : List Bool) (hr : 0 ≤ r ∧ r < 6) (hw : 0 ≤ what ∧ what ≤ 9) (h : RoadIs st r w) : MM la X mh mad G0 yX2_roadNow cX2_roadNow 3 (some .int) 2 46 [.int (iI r), .int (iI what)] st (fun v st' => v = some (.int (iI (wTold w what))) ∧ eqx [18, 19, 20, 21, 22, 23, 24, 25] st st') := by
  refine MG.of (by decide +kernel) (Nat.le_of_ble_eq_true rfl) ?_
  intro Z C hX hL hQ
  subst hX; subst hL
  change WW Z 3 (MOD mh mad G0 st) 0 0 0 [some (.ref mh), some (.int (iI r)), some (.int (iI what))] []
  refine r_aload_n (pc := 0) C dX2_roadNow_0 rfl rfl ?_
  refine r_iload_n (pc := 1) C dX2_roadNow_1 rfl rfl ?_
  refine r_minv (pc := 2) 1 C dX2_roadNow_2 (mt_look r w hr h) rfl (lw_V q1326 q1328 qs32 q92 q1329) (by decide +kernel) rfl rfl ⟨Nat.le_of_ble_eq_true rfl, Nat.le_of_ble_eq_true rfl⟩ (Nat.le_of_ble_eq_true rfl) ⟨Nat.le_of_ble_eq_true rfl, Nat.le_of_ble_eq_true rfl⟩ (fun v2 st2 h2 => ?_)
  obtain ⟨rfl, h2a, h2b⟩ := h2
  have h2c := h2b.wk (ls := [18, 19, 20, 21, 22, 23, 24, 25]) (by decide)
  refine r_iload_n (pc := 5) C dX2_roadNow_5 rfl rfl ?_
  refine r_tcase 0 (fun h6 => ?_) (fun h6_0 => ?_)
  · refine r_tableInZ (pc := 6) (off := 50) (tgt := 56) C dX2_roadNow_6 (by unfold i32; omega) (by omega) (by omega) (by rw [h6]; rfl) (by decide) ?_
    refine r_aload_n (pc := 56) C dX2_roadNow_56 rfl rfl ?_
    refine r_mget (pc := 57) (k := 18) C dX2_roadNow_57 rfl q1190 (by decide) rfl ?_
    rw [h2a.1]
    exact r_iret (pc := 60) C hQ dX2_roadNow_60 (Nat.le_of_ble_eq_true rfl) (Nat.le_of_ble_eq_true rfl) (fun G hG => ⟨_, hG, ⟨by subst h6; rfl, h2c⟩⟩)
  refine r_tcase 1 (fun h6 => ?_) (fun h6_1 => ?_)
  · refine r_tableInZ (pc := 6) (off := 55) (tgt := 61) C dX2_roadNow_6 (by unfold i32; omega) (by omega) (by omega) (by rw [h6]; rfl) (by decide) ?_
    refine r_aload_n (pc := 61) C dX2_roadNow_61 rfl rfl ?_
    refine r_minv (pc := 62) 0 C dX2_roadNow_62 (mt_lefts w h2a) rfl (lw_V q1330 q1332 qs33 q92 q1333) (by decide +kernel) rfl rfl ⟨Nat.le_of_ble_eq_true rfl, Nat.le_of_ble_eq_true rfl⟩ (Nat.le_of_ble_eq_true rfl) ⟨Nat.le_of_ble_eq_true rfl, Nat.le_of_ble_eq_true rfl⟩ (fun v62 st62 h62 => ?_)
    obtain ⟨rfl, rfl⟩ := h62
    exact r_iret (pc := 65) C hQ dX2_roadNow_65 (Nat.le_of_ble_eq_true rfl) (Nat.le_of_ble_eq_true rfl) (fun G hG => ⟨_, hG, ⟨by subst h6; rfl, h2c⟩⟩)
  refine r_tcase 2 (fun h6 => ?_) (fun h6_2 => ?_)
  · refine r_tableInZ (pc := 6) (off := 60) (tgt := 66) C dX2_roadNow_6 (by unfold i32; omega) (by omega) (by omega) (by rw [h6]; rfl) (by decide) ?_
    refine r_aload_n (pc := 66) C dX2_roadNow_66 rfl rfl ?_
    refine r_mget (pc := 67) (k := 18) C dX2_roadNow_67 rfl q1190 (by decide) rfl ?_
    rw [h2a.1]
    refine r_aload_n (pc := 70) C dX2_roadNow_70 rfl rfl ?_
    refine r_minv (pc := 71) 0 C dX2_roadNow_71 (mt_lefts w h2a) rfl (lw_V q1330 q1332 qs33 q92 q1333) (by decide +kernel) rfl rfl ⟨Nat.le_of_ble_eq_true rfl, Nat.le_of_ble_eq_true rfl⟩ (Nat.le_of_ble_eq_true rfl) ⟨Nat.le_of_ble_eq_true rfl, Nat.le_of_ble_eq_true rfl⟩ (fun v71 st71 h71 => ?_)
    obtain ⟨rfl, rfl⟩ := h71
    refine r_isubZ (pc := 74) C dX2_roadNow_74 ?_
    exact r_iret (pc := 75) C hQ dX2_roadNow_75 (Nat.le_of_ble_eq_true rfl) (Nat.le_of_ble_eq_true rfl) (fun G hG => ⟨_, hG, ⟨by subst h6; rfl, h2c⟩⟩)
  refine r_tcase 3 (fun h6 => ?_) (fun h6_3 => ?_)
  · refine r_tableInZ (pc := 6) (off := 70) (tgt := 76) C dX2_roadNow_6 (by unfold i32; omega) (by omega) (by omega) (by rw [h6]; rfl) (by decide) ?_
    refine r_aload_n (pc := 76) C dX2_roadNow_76 rfl rfl ?_
    refine r_minv (pc := 77) 0 C dX2_roadNow_77 (mt_periodNow w h2a) rfl (lw_V q1334 q1336 qs34 q92 q1337) (by decide +kernel) rfl rfl ⟨Nat.le_of_ble_eq_true rfl, Nat.le_of_ble_eq_true rfl⟩ (Nat.le_of_ble_eq_true rfl) ⟨Nat.le_of_ble_eq_true rfl, Nat.le_of_ble_eq_true rfl⟩ (fun v77 st77 h77 => ?_)
    obtain ⟨rfl, rfl⟩ := h77
    exact r_iret (pc := 80) C hQ dX2_roadNow_80 (Nat.le_of_ble_eq_true rfl) (Nat.le_of_ble_eq_true rfl) (fun G hG => ⟨_, hG, ⟨by subst h6; rfl, h2c⟩⟩)
  refine r_tcase 4 (fun h6 => ?_) (fun h6_4 => ?_)
  · refine r_tableInZ (pc := 6) (off := 75) (tgt := 81) C dX2_roadNow_6 (by unfold i32; omega) (by omega) (by omega) (by rw [h6]; rfl) (by decide) ?_
    refine r_aload_n (pc := 81) C dX2_roadNow_81 rfl rfl ?_
    refine r_minv (pc := 82) 0 C dX2_roadNow_82 (mt_leastTurnNow w h2a) rfl (lw_V q1342 q1344 qs36 q92 q1345) (by decide +kernel) rfl rfl ⟨Nat.le_of_ble_eq_true rfl, Nat.le_of_ble_eq_true rfl⟩ (Nat.le_of_ble_eq_true rfl) ⟨Nat.le_of_ble_eq_true rfl, Nat.le_of_ble_eq_true rfl⟩ (fun v82 st82 h82 => ?_)
    obtain ⟨rfl, rfl⟩ := h82
    exact r_iret (pc := 85) C hQ dX2_roadNow_85 (Nat.le_of_ble_eq_true rfl) (Nat.le_of_ble_eq_true rfl) (fun G hG => ⟨_, hG, ⟨by subst h6; rfl, h2c⟩⟩)
  refine r_tcase 5 (fun h6 => ?_) (fun h6_5 => ?_)
  · refine r_tableInZ (pc := 6) (off := 80) (tgt := 86) C dX2_roadNow_6 (by unfold i32; omega) (by omega) (by omega) (by rw [h6]; rfl) (by decide) ?_
    refine r_aload_n (pc := 86) C dX2_roadNow_86 rfl rfl ?_
    refine r_minv (pc := 87) 0 C dX2_roadNow_87 (mt_traceNow w h2a) rfl (lw_V q1346 q1348 qs37 q92 q1349) (by decide +kernel) rfl rfl ⟨Nat.le_of_ble_eq_true rfl, Nat.le_of_ble_eq_true rfl⟩ (Nat.le_of_ble_eq_true rfl) ⟨Nat.le_of_ble_eq_true rfl, Nat.le_of_ble_eq_true rfl⟩ (fun v87 st87 h87 => ?_)
    obtain ⟨rfl, h87a, h87b⟩ := h87
    have h2c := h2c.tr (h87b.wk (by decide))
    exact r_iret (pc := 90) C hQ dX2_roadNow_90 (Nat.le_of_ble_eq_true rfl) (Nat.le_of_ble_eq_true rfl) (fun G hG => ⟨_, hG, ⟨by subst h6; rfl, h2c⟩⟩)
  refine r_tcase 6 (fun h6 => ?_) (fun h6_6 => ?_)
  · refine r_tableInZ (pc := 6) (off := 85) (tgt := 91) C dX2_roadNow_6 (by unfold i32; omega) (by omega) (by omega) (by rw [h6]; rfl) (by decide) ?_
    refine r_aload_n (pc := 91) C dX2_roadNow_91 rfl rfl ?_
    refine r_minv (pc := 92) 0 C dX2_roadNow_92 (mt_isClosedNow w h2a) rfl (lw_V q1354 q1356 qs39 q92 q1357) (by decide +kernel) rfl rfl ⟨Nat.le_of_ble_eq_true rfl, Nat.le_of_ble_eq_true rfl⟩ (Nat.le_of_ble_eq_true rfl) ⟨Nat.le_of_ble_eq_true rfl, Nat.le_of_ble_eq_true rfl⟩ (fun v92 st92 h92 => ?_)
    obtain ⟨rfl, rfl⟩ := h92
    refine r_if_eqZ (pc := 95) (tgt := 102) C dX2_roadNow_95 (by decide) (bi_i _) (fun h95 => ?_) (fun h95 => ?_)
    · refine r_iconstZ (pc := 102) C dX2_roadNow_102 ?_
      exact r_iret (pc := 103) C hQ dX2_roadNow_103 (Nat.le_of_ble_eq_true rfl) (Nat.le_of_ble_eq_true rfl) (fun G hG => ⟨_, hG, ⟨by subst h6; first | (show _ = some (Value.int (iI (bi (wClosed w)))); rw [bi_0.mp h95]; rfl) | (show _ = some (Value.int (iI (bi (wClosed w)))); rw [bi_n0 h95]; rfl), h2c⟩⟩)
    · refine r_iconstZ (pc := 98) C dX2_roadNow_98 ?_
      refine r_goto (pc := 99) (tgt := 103) C dX2_roadNow_99 (by decide) ?_
      exact r_iret (pc := 103) C hQ dX2_roadNow_103 (Nat.le_of_ble_eq_true rfl) (Nat.le_of_ble_eq_true rfl) (fun G hG => ⟨_, hG, ⟨by subst h6; first | (show _ = some (Value.int (iI (bi (wClosed w)))); rw [bi_0.mp h95]; rfl) | (show _ = some (Value.int (iI (bi (wClosed w)))); rw [bi_n0 h95]; rfl), h2c⟩⟩)
  refine r_tcase 7 (fun h6 => ?_) (fun h6_7 => ?_)
  · refine r_tableInZ (pc := 6) (off := 98) (tgt := 104) C dX2_roadNow_6 (by unfold i32; omega) (by omega) (by omega) (by rw [h6]; rfl) (by decide) ?_
    refine r_aload_n (pc := 104) C dX2_roadNow_104 rfl rfl ?_
    refine r_iconstZ (pc := 105) C dX2_roadNow_105 ?_
    refine r_iconstZ (pc := 106) C dX2_roadNow_106 ?_
    refine r_minv (pc := 107) 2 C dX2_roadNow_107 (mt_isAlike w true false h2a) rfl (lw_V q1358 q1360 qs40 q92 q1361) (by decide +kernel) rfl rfl ⟨Nat.le_of_ble_eq_true rfl, Nat.le_of_ble_eq_true rfl⟩ (Nat.le_of_ble_eq_true rfl) ⟨Nat.le_of_ble_eq_true rfl, Nat.le_of_ble_eq_true rfl⟩ (fun v107 st107 h107 => ?_)
    obtain ⟨rfl, h107b⟩ := h107
    have h2c := h2c.tr (h107b.wk (by decide))
    refine r_if_eqZ (pc := 110) (tgt := 117) C dX2_roadNow_110 (by decide) (bi_i _) (fun h110 => ?_) (fun h110 => ?_)
    · refine r_iconstZ (pc := 117) C dX2_roadNow_117 ?_
      exact r_iret (pc := 118) C hQ dX2_roadNow_118 (Nat.le_of_ble_eq_true rfl) (Nat.le_of_ble_eq_true rfl) (fun G hG => ⟨_, hG, ⟨by subst h6; first | (show _ = some (Value.int (iI (bi (wAlike w (wOther w true false))))); rw [bi_0.mp h110]; rfl) | (show _ = some (Value.int (iI (bi (wAlike w (wOther w true false))))); rw [bi_n0 h110]; rfl), h2c⟩⟩)
    · refine r_iconstZ (pc := 113) C dX2_roadNow_113 ?_
      refine r_goto (pc := 114) (tgt := 118) C dX2_roadNow_114 (by decide) ?_
      exact r_iret (pc := 118) C hQ dX2_roadNow_118 (Nat.le_of_ble_eq_true rfl) (Nat.le_of_ble_eq_true rfl) (fun G hG => ⟨_, hG, ⟨by subst h6; first | (show _ = some (Value.int (iI (bi (wAlike w (wOther w true false))))); rw [bi_0.mp h110]; rfl) | (show _ = some (Value.int (iI (bi (wAlike w (wOther w true false))))); rw [bi_n0 h110]; rfl), h2c⟩⟩)
  refine r_tcase 8 (fun h6 => ?_) (fun h6_8 => ?_)
  · refine r_tableInZ (pc := 6) (off := 113) (tgt := 119) C dX2_roadNow_6 (by unfold i32; omega) (by omega) (by omega) (by rw [h6]; rfl) (by decide) ?_
    refine r_aload_n (pc := 119) C dX2_roadNow_119 rfl rfl ?_
    refine r_iconstZ (pc := 120) C dX2_roadNow_120 ?_
    refine r_iconstZ (pc := 121) C dX2_roadNow_121 ?_
    refine r_minv (pc := 122) 2 C dX2_roadNow_122 (mt_isAlike w false true h2a) rfl (lw_V q1358 q1360 qs40 q92 q1361) (by decide +kernel) rfl rfl ⟨Nat.le_of_ble_eq_true rfl, Nat.le_of_ble_eq_true rfl⟩ (Nat.le_of_ble_eq_true rfl) ⟨Nat.le_of_ble_eq_true rfl, Nat.le_of_ble_eq_true rfl⟩ (fun v122 st122 h122 => ?_)
    obtain ⟨rfl, h122b⟩ := h122
    have h2c := h2c.tr (h122b.wk (by decide))
    refine r_if_eqZ (pc := 125) (tgt := 132) C dX2_roadNow_125 (by decide) (bi_i _) (fun h125 => ?_) (fun h125 => ?_)
    · refine r_iconstZ (pc := 132) C dX2_roadNow_132 ?_
      exact r_iret (pc := 133) C hQ dX2_roadNow_133 (Nat.le_of_ble_eq_true rfl) (Nat.le_of_ble_eq_true rfl) (fun G hG => ⟨_, hG, ⟨by subst h6; first | (show _ = some (Value.int (iI (bi (wAlike w (wOther w false true))))); rw [bi_0.mp h125]; rfl) | (show _ = some (Value.int (iI (bi (wAlike w (wOther w false true))))); rw [bi_n0 h125]; rfl), h2c⟩⟩)
    · refine r_iconstZ (pc := 128) C dX2_roadNow_128 ?_
      refine r_goto (pc := 129) (tgt := 133) C dX2_roadNow_129 (by decide) ?_
      exact r_iret (pc := 133) C hQ dX2_roadNow_133 (Nat.le_of_ble_eq_true rfl) (Nat.le_of_ble_eq_true rfl) (fun G hG => ⟨_, hG, ⟨by subst h6; first | (show _ = some (Value.int (iI (bi (wAlike w (wOther w false true))))); rw [bi_0.mp h125]; rfl) | (show _ = some (Value.int (iI (bi (wAlike w (wOther w false true))))); rw [bi_n0 h125]; rfl), h2c⟩⟩)
  refine r_tableOutZ (pc := 6) (tgt := 134) C dX2_roadNow_6 (by unfold i32; omega) (by omega) (by decide) ?_
  refine r_aload_n (pc := 134) C dX2_roadNow_134 rfl rfl ?_
  refine r_iconstZ (pc := 135) C dX2_roadNow_135 ?_
  refine r_iconstZ (pc := 136) C dX2_roadNow_136 ?_
  refine r_minv (pc := 137) 2 C dX2_roadNow_137 (mt_isAlike w true true h2a) rfl (lw_V q1358 q1360 qs40 q92 q1361) (by decide +kernel) rfl rfl ⟨Nat.le_of_ble_eq_true rfl, Nat.le_of_ble_eq_true rfl⟩ (Nat.le_of_ble_eq_true rfl) ⟨Nat.le_of_ble_eq_true rfl, Nat.le_of_ble_eq_true rfl⟩ (fun v137 st137 h137 => ?_)
  obtain ⟨rfl, h137b⟩ := h137
  have h2c := h2c.tr (h137b.wk (by decide))
  refine r_if_eqZ (pc := 140) (tgt := 147) C dX2_roadNow_140 (by decide) (bi_i _) (fun h140 => ?_) (fun h140 => ?_)
  · refine r_iconstZ (pc := 147) C dX2_roadNow_147 ?_
    exact r_iret (pc := 148) C hQ dX2_roadNow_148 (Nat.le_of_ble_eq_true rfl) (Nat.le_of_ble_eq_true rfl) (fun G hG => ⟨_, hG, ⟨by have e9 : what = 9 := (by omega); subst e9; first | (show _ = some (Value.int (iI (bi (wAlike w (wOther w true true))))); rw [bi_0.mp h140]; rfl) | (show _ = some (Value.int (iI (bi (wAlike w (wOther w true true))))); rw [bi_n0 h140]; rfl), h2c⟩⟩)
  · refine r_iconstZ (pc := 143) C dX2_roadNow_143 ?_
    refine r_goto (pc := 144) (tgt := 148) C dX2_roadNow_144 (by decide) ?_
    exact r_iret (pc := 148) C hQ dX2_roadNow_148 (Nat.le_of_ble_eq_true rfl) (Nat.le_of_ble_eq_true rfl) (fun G hG => ⟨_, hG, ⟨by have e9 : what = 9 := (by omega); subst e9; first | (show _ = some (Value.int (iI (bi (wAlike w (wOther w true true))))); rw [bi_0.mp h140]; rfl) | (show _ = some (Value.int (iI (bi (wAlike w (wOther w true true))))); rw [bi_n0 h140]; rfl), h2c⟩⟩)
set_option maxHeartbeats 800000 in
theorem mt_road {la : Launch} {X : XE} {mh : Nat} {mad : Nat → Nat} {G0 : Gh} {st : MSt} (ws : List (List Bool)) (r what : Int) (hr : i32 r) (hw : i32 what) (h : RoadsAre st ws) : MM la X mh mad G0 yX2_road cX2_road 3 (some .int) 3 68 [.int (iI r), .int (iI what)] st (fun v st' => v = some (.int (iI (sRoad ws r what))) ∧ eqx tq st st') := by
  refine MG.of (by decide +kernel) (Nat.le_of_ble_eq_true rfl) ?_
  intro Z C hX hL hQ
  subst hX; subst hL
  change WW Z 3 (MOD mh mad G0 st) 0 0 0 [some (.ref mh), some (.int (iI r)), some (.int (iI what))] []
  refine r_aload_n (pc := 0) C dX2_road_0 rfl rfl ?_
  refine r_iload_n (pc := 1) C dX2_road_1 rfl rfl ?_
  refine r_minv (pc := 2) 1 C dX2_road_2 (mt_isRoad ws r hr h) rfl (lw_V q1317 q1319 qs30 q92 q1320) (by decide +kernel) rfl rfl ⟨Nat.le_of_ble_eq_true rfl, Nat.le_of_ble_eq_true rfl⟩ (Nat.le_of_ble_eq_true rfl) ⟨Nat.le_of_ble_eq_true rfl, Nat.le_of_ble_eq_true rfl⟩ (fun v2 st2 h2 => ?_)
  obtain ⟨rfl, rfl⟩ := h2
  refine r_if_neB (pc := 5) (tgt := 13) C dX2_road_5 (by decide)  (fun h5 => ?_) (fun h5 => ?_)
  · refine r_iload_n (pc := 13) C dX2_road_13 rfl rfl ?_
    refine r_iconstZ (pc := 14) C dX2_road_14 ?_
    refine r_bipushZ (pc := 15) C dX2_road_15 (by decide) ?_
    refine r_invP (pc := 17) 3 C dX2_road_17 (pf_within what 0 9 hw i32_0 (by unfold i32; omega)) rfl (lw_S q1283 q1284 q92 q1285) (by decide +kernel) rfl rfl ⟨Nat.le_of_ble_eq_true rfl, Nat.le_of_ble_eq_true rfl⟩ (Nat.le_of_ble_eq_true rfl) ⟨Nat.le_of_ble_eq_true rfl, Nat.le_of_ble_eq_true rfl⟩ ?_
    refine r_if_eqB (pc := 20) (tgt := 32) C dX2_road_20 (by decide)  (fun h20 => ?_) (fun h20 => ?_)
    · refine r_ldcZ (pc := 32) (a := -2000000102) C dX2_road_32 rfl q1286 (by decide) ?_
      exact r_iret (pc := 34) C hQ dX2_road_34 (Nat.le_of_ble_eq_true rfl) (Nat.le_of_ble_eq_true rfl) (fun G hG => ⟨_, hG, ⟨by unfold sRoad; first | rw [if_neg h5] | rw [if_pos h5, if_neg h20] | rw [if_pos h5, if_pos h20], by first | exact h26b.wk (by decide) | exact eqx.rf⟩⟩)
    · refine r_aload_n (pc := 23) C dX2_road_23 rfl rfl ?_
      refine r_iload_n (pc := 24) C dX2_road_24 rfl rfl ?_
      refine r_iload_n (pc := 25) C dX2_road_25 rfl rfl ?_
      refine r_minv (pc := 26) 2 C dX2_road_26 (mt_roadNow r what (wsat ws r) (h.at h5).2 h20 (h.at h5).1) rfl (lw_V q1322 q1324 qs31 q92 q1325) (by decide +kernel) rfl rfl ⟨Nat.le_of_ble_eq_true rfl, Nat.le_of_ble_eq_true rfl⟩ (Nat.le_of_ble_eq_true rfl) ⟨Nat.le_of_ble_eq_true rfl, Nat.le_of_ble_eq_true rfl⟩ (fun v26 st26 h26 => ?_)
      obtain ⟨rfl, h26b⟩ := h26
      refine r_goto (pc := 29) (tgt := 34) C dX2_road_29 (by decide) ?_
      exact r_iret (pc := 34) C hQ dX2_road_34 (Nat.le_of_ble_eq_true rfl) (Nat.le_of_ble_eq_true rfl) (fun G hG => ⟨_, hG, ⟨by unfold sRoad; first | rw [if_neg h5] | rw [if_pos h5, if_neg h20] | rw [if_pos h5, if_pos h20], by first | exact h26b.wk (by decide) | exact eqx.rf⟩⟩)
  · refine r_ldcZ (pc := 8) (a := -2000000101) C dX2_road_8 rfl q1321 (by decide) ?_
    refine r_goto (pc := 10) (tgt := 34) C dX2_road_10 (by decide) ?_
    exact r_iret (pc := 34) C hQ dX2_road_34 (Nat.le_of_ble_eq_true rfl) (Nat.le_of_ble_eq_true rfl) (fun G hG => ⟨_, hG, ⟨by unfold sRoad; first | rw [if_neg h5] | rw [if_pos h5, if_neg h20] | rw [if_pos h5, if_pos h20], by first | exact h26b.wk (by decide) | exact eqx.rf⟩⟩)

