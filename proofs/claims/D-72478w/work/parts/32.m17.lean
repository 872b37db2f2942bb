/-! the reference's methods: drawn words -/
set_option maxRecDepth 100000
set_option maxHeartbeats 800000 in
theorem mt_layOther0 {la : Launch} {X : XE} {mh : Nat} {mad : Nat → Nat} {G0 : Gh} {st : MSt} (n : Nat) (hn : n ≤ 20) (h : st.1 18 = n) : MM la X mh mad G0 yX2_layOther cX2_layOther 5 none 0 0 [.int (iI 0), .int (iI 0)] st (fun v st' => v = none ∧ (st'.1 20 = n ∧ ∀ j : Nat, j < n → st'.2 21 j = st.2 19 j) ∧ eqx [20, 21] st st') := by
  refine MG.of (by decide +kernel) (Nat.le_of_ble_eq_true rfl) ?_
  intro Z C hX hL hQ
  subst hX; subst hL
  change WW Z 5 (MOD mh mad G0 st) 0 0 0 [some (.ref mh), some (.int (iI 0)), some (.int (iI 0)), none, none] []
  have loop : ∀ i : Nat, i ≤ n → ∀ (sti : MSt) (v4 : Option Value), (sti.1 18 = n ∧ sti.2 19 = st.2 19) → sti.1 20 = n → eqx [20, 21] st sti → (∀ j : Nat, j < i → sti.2 21 j = st.2 19 j) → WW Z 5 (MOD mh mad G0 sti) 0 0 10 [some (.ref mh), some (.int (iI 0)), some (.int (iI 0)), some (.int (iI i)), v4] [] := by
    refine loopN _ _ (fun i hi ih sti v4 g1 g2 g3 g4 => ?_)
    refine r_iload_n (pc := 10) C dX2_layOther_10 rfl rfl ?_
    refine r_aload_n (pc := 11) C dX2_layOther_11 rfl rfl ?_
    refine r_mget (pc := 12) (k := 18) C dX2_layOther_12 rfl q1190 (by decide) rfl ?_
    rw [g1.1]
    refine r_icmp_geZ (pc := 15) (tgt := 66) C dX2_layOther_15 (by decide) (by unfold i32; omega) (by unfold i32; omega) (fun h15 => ?_) (fun h15 => ?_)
    · exact r_vret (pc := 66) C hQ dX2_layOther_66 (Nat.le_of_ble_eq_true rfl) (Nat.le_of_ble_eq_true rfl) (fun G hG => ⟨_, hG, ⟨rfl, ⟨g2, fun j hj => g4 j (by omega)⟩, g3⟩⟩)
    · refine r_aload_n (pc := 18) C dX2_layOther_18 rfl rfl ?_
      refine r_mget (pc := 19) (k := 19) C dX2_layOther_19 rfl q1191 (by decide) rfl ?_
      refine r_iload_n (pc := 22) C dX2_layOther_22 rfl rfl ?_
      refine r_if_eqZ (pc := 23) (tgt := 37) C dX2_layOther_23 (by decide) i32_0 (fun h23 => ?_) (fun h23 => absurd h23 (by omega))
      refine r_iload_n (pc := 37) C dX2_layOther_37 rfl rfl ?_
      refine r_mald (pc := 38) (L := 20) C dX2_layOther_38 (by decide) rfl (by omega) (by omega) ?_
      refine r_istore (pc := 39) C dX2_layOther_39 (by decide) ?_
      refine r_aload_n (pc := 41) C dX2_layOther_41 rfl rfl ?_
      refine r_mget (pc := 42) (k := 21) C dX2_layOther_42 rfl q1193 (by decide) rfl ?_
      refine r_iload_n (pc := 45) C dX2_layOther_45 rfl rfl ?_
      refine r_iload_n (pc := 46) C dX2_layOther_46 rfl rfl ?_
      refine r_if_eqZ (pc := 47) (tgt := 57) C dX2_layOther_47 (by decide) i32_0 (fun h47 => ?_) (fun h47 => absurd h47 (by omega))
      refine r_iload (pc := 57) C dX2_layOther_57 rfl ?_
      refine r_mast (pc := 59) (L := 20) C dX2_layOther_59 (by decide) rfl (by omega) (by omega) ?_
      refine r_iincZ (pc := 60) C dX2_layOther_60 rfl (by decide) ?_
      refine r_goto (pc := 63) (tgt := 10) C dX2_layOther_63 (by decide) ?_
      refine ih (by omega) _ _ ⟨g1.1, g1.2⟩ g2 (g3.aput (by decide)) (fun j hj => ?_)
      by_cases e : j = i
      · rw [e, aput_eq, g1.2]
      · rw [aput_nj _ _ _ (by omega)]; exact g4 j (by omega)
  refine r_aload_n (pc := 0) C dX2_layOther_0 rfl rfl ?_
  refine r_aload_n (pc := 1) C dX2_layOther_1 rfl rfl ?_
  refine r_mget (pc := 2) (k := 18) C dX2_layOther_2 rfl q1190 (by decide) rfl ?_
  rw [h]
  refine r_mput (pc := 5) (k := 20) (ty := .int) C dX2_layOther_5 rfl q1192 (by decide) rfl (by decide +kernel) rfl rfl (ms_20 mad _ _) rfl (Or.inl rfl) ?_
  refine r_iconstZ (pc := 8) C dX2_layOther_8 ?_
  refine r_istore_n (pc := 9) C dX2_layOther_9 rfl (by decide) ?_
  exact loop 0 (Nat.zero_le _) _ _ ⟨h, rfl⟩ (by rw [iput_eq]) (eqx.rf.iput (by decide)) (fun j hj => absurd hj (Nat.not_lt_zero _))
set_option maxHeartbeats 800000 in
theorem mt_drawOf {la : Launch} {X : XE} {mh : Nat} {mad : Nat → Nat} {G0 : Gh} {st : MSt} (s : Int) (hs : 0 ≤ s ∧ s < 2147483648) (h : st.1 33 = s) : MM la X mh mad G0 yX2_drawOf cX2_drawOf 2 (some .int) 0 0 [.int (iI 2)] st (fun v st' => v = some (.int (iI (lcg s / 65536 % 2))) ∧ st' = iput st 33 (lcg s)) := by
  refine MG.of (by decide +kernel) (Nat.le_of_ble_eq_true rfl) ?_
  intro Z C hX hL hQ
  subst hX; subst hL
  change WW Z 2 (MOD mh mad G0 st) 0 0 0 [some (.ref mh), some (.int (iI 2))] []
  have hb := lcg_b s
  refine r_aload_n (pc := 0) C dX2_drawOf_0 rfl rfl ?_
  refine r_ldc2Z (pc := 1) (a := 1103515245) C dX2_drawOf_1 rfl q1590 (by decide) ?_
  refine r_aload_n (pc := 4) C dX2_drawOf_4 rfl rfl ?_
  refine r_mget (pc := 5) (k := 33) C dX2_drawOf_5 rfl q1205 (by decide) rfl ?_
  rw [h]
  refine r_lmulZ (pc := 8) C dX2_drawOf_8 ?_
  refine r_ldc2Z (pc := 9) (a := 12345) C dX2_drawOf_9 rfl q1591 (by decide) ?_
  refine r_laddZ (pc := 12) C dX2_drawOf_12 ?_
  refine r_ldc2Z (pc := 13) (a := 2147483648) C dX2_drawOf_13 rfl q1592 (by decide) ?_
  refine r_lremZ (pc := 16) C dX2_drawOf_16 (by unfold i64; omega) (by unfold i64; omega) (by omega) ?_
  rw [Int.tmod_eq_emod_of_nonneg (show 0 ≤ 1103515245 * s + 12345 by omega)]
  refine r_mput (pc := 17) (k := 33) (ty := .long) C dX2_drawOf_17 rfl q1205 (by decide) rfl (by decide +kernel) rfl rfl (ms_33 mad _ _) rfl (Or.inl rfl) ?_
  refine r_aload_n (pc := 20) C dX2_drawOf_20 rfl rfl ?_
  refine r_mget (pc := 21) (k := 33) C dX2_drawOf_21 rfl q1205 (by decide) rfl ?_
  rw [iput_eq, show (1103515245 * s + 12345) % 2147483648 = lcg s from rfl]
  refine r_ldc2Z (pc := 24) (a := 65536) C dX2_drawOf_24 rfl q1593 (by decide) ?_
  refine r_ldivZ (pc := 27) C dX2_drawOf_27 (by unfold i64; omega) (by unfold i64; omega) (by omega) ?_
  rw [Int.tdiv_eq_ediv_of_nonneg hb.1]
  refine r_iload_n (pc := 28) C dX2_drawOf_28 rfl rfl ?_
  refine r_i2lZ (pc := 29) C dX2_drawOf_29 (by unfold i32; omega) ?_
  refine r_lremZ (pc := 30) C dX2_drawOf_30 (by unfold i64; omega) (by unfold i64; omega) (by omega) ?_
  rw [Int.tmod_eq_emod_of_nonneg (show 0 ≤ lcg s / 65536 by omega)]
  refine r_l2iZ (pc := 31) C dX2_drawOf_31 ?_
  exact r_iret (pc := 32) C hQ dX2_drawOf_32 (Nat.le_of_ble_eq_true rfl) (Nat.le_of_ble_eq_true rfl) (fun G hG => ⟨_, hG, ⟨rfl, rfl⟩⟩)
set_option maxHeartbeats 800000 in
theorem mt_drawnNow {la : Launch} {X : XE} {mh : Nat} {mad : Nat → Nat} {G0 : Gh} {st : MSt} (t : Nat) (s what : Int) (ht : t ≤ 40) (hs : 0 ≤ s ∧ s < 2147483648) (hw : 0 ≤ what ∧ what ≤ 3) (h : st.1 33 = s) : MM la X mh mad G0 yX2_drawnNow cX2_drawnNow 9 (some .int) 2 49 [.int (iI t), .int (iI what)] st (fun v st' => v = some (.int (iI (sDraw t s what))) ∧ eqx tq st st') := by
  refine MG.of (by decide +kernel) (Nat.le_of_ble_eq_true rfl) ?_
  intro Z C hX hL hQ
  subst hX; subst hL
  change WW Z 9 (MOD mh mad G0 st) 0 0 0 [some (.ref mh), some (.int (iI t)), some (.int (iI what)), none, none, none, none, none, none] []
  refine ww_ass (fun G hG => hG.2.2.2.2) (fun h18 => ?_)
  have step : ∀ n : Nat, n < t → (∀ (sti : MSt) (v8 : Option Value), sti.1 33 = lcgN s (8 * (n + 1)) → LookAt sti (wD s n) → eqx tq st sti → WW Z 9 (MOD mh mad G0 sti) 0 0 14 [some (.ref mh), some (.int (iI t)), some (.int (iI what)), some (.int (iI (cnt (fun k => wClosed (wD s k)) (n + 1)))), some (.int (iI (sumN (fun k => if wClosed (wD s k) then wTrace (wD s k) else 0) (n + 1)))), some (.int (iI (sumN (crD s) (n + 1)))), some (.int (iI (bi (clD s (n + 1))))), some (.int (iI ((n + 1 : Nat) : Int))), v8] []) → ∀ (sti : MSt) (v8 : Option Value), sti.1 33 = lcgN s (8 * (n + 1)) → LookAt sti (wD s n) → (n ≠ 0 → OtherAt sti (wD s (n - 1))) → eqx tq st sti → WW Z 9 (MOD mh mad G0 sti) 0 0 69 [some (.ref mh), some (.int (iI t)), some (.int (iI what)), some (.int (iI (cnt (fun k => wClosed (wD s k)) n))), some (.int (iI (sumN (fun k => if wClosed (wD s k) then wTrace (wD s k) else 0) n))), some (.int (iI (sumN (crD s) n))), some (.int (iI (bi (clD s n)))), some (.int (iI ((n : Nat) : Int))), v8] [] := by
    intro n hn ih sti v8 a1 a2 a3 a4
    have e1 : cnt (fun k => wClosed (wD s k)) (n + 1) = cnt (fun k => wClosed (wD s k)) n + bi (wClosed (wD s n)) := rfl
    have e2 : sumN (fun k => if wClosed (wD s k) then wTrace (wD s k) else 0) (n + 1) = sumN (fun k => if wClosed (wD s k) then wTrace (wD s k) else 0) n + (if wClosed (wD s n) then wTrace (wD s n) else 0) := rfl
    have e3 : sumN (crD s) (n + 1) = sumN (crD s) n + crD s n := rfl
    have e4 : clD s (n + 1) = wClosed (wD s n) := rfl
    rw [e1, e2, e3, e4] at ih
    have fin : ∀ (st4 : MSt) (x y z : Int), st4.1 33 = lcgN s (8 * (n + 1)) → LookAt st4 (wD s n) → eqx tq st st4 → x = bi (wClosed (wD s n)) → y = (if wClosed (wD s n) then wTrace (wD s n) else 0) → z = crD s n → WW Z 9 (MOD mh mad G0 st4) 0 0 126 [some (.ref mh), some (.int (iI t)), some (.int (iI what)), some (.int (iI (cnt (fun k => wClosed (wD s k)) n + x))), some (.int (iI (sumN (fun k => if wClosed (wD s k) then wTrace (wD s k) else 0) n + y))), some (.int (iI (sumN (crD s) n))), some (.int (iI (bi (clD s n)))), some (.int (iI ((n : Nat) : Int))), some (.int (iI (bi (wClosed (wD s n)))))] [.int (iI z), .int (iI (sumN (crD s) n))] := by
      intro st4 x y z b1 b2 b3 b4 b5 b6
      subst b4 b5 b6
      refine r_iaddZ (pc := 126) C dX2_drawnNow_126 ?_
      refine r_istore (pc := 127) C dX2_drawnNow_127 (by decide) ?_
      refine r_iload (pc := 129) C dX2_drawnNow_129 rfl ?_
      refine r_istore (pc := 131) C dX2_drawnNow_131 (by decide) ?_
      refine r_iincZ (pc := 133) C dX2_drawnNow_133 rfl (by decide) ?_
      refine r_goto (pc := 136) (tgt := 14) C dX2_drawnNow_136 (by decide) ?_
      exact ih st4 _ b1 b2 b3
    rcases hcl : wClosed (wD s n) with _ | _
    · have hb : bi (wClosed (wD s n)) = 0 := by rw [hcl]; rfl
      refine r_aload_n (pc := 69) C dX2_drawnNow_69 rfl rfl ?_
      refine r_minv (pc := 70) 0 C dX2_drawnNow_70 (mt_isClosedNow (wD s n) a2) rfl (lw_V q1354 q1356 qs39 q92 q1357) (by decide +kernel) rfl rfl ⟨Nat.le_of_ble_eq_true rfl, Nat.le_of_ble_eq_true rfl⟩ (Nat.le_of_ble_eq_true rfl) ⟨Nat.le_of_ble_eq_true rfl, Nat.le_of_ble_eq_true rfl⟩ (fun v70 st70 h70 => ?_)
      obtain ⟨rfl, rfl⟩ := h70
      refine r_istore (pc := 73) C dX2_drawnNow_73 (by decide) ?_
      refine r_iload_n (pc := 75) C dX2_drawnNow_75 rfl rfl ?_
      refine r_iload (pc := 76) C dX2_drawnNow_76 rfl ?_
      refine r_if_eqZ (pc := 78) (tgt := 85) C dX2_drawnNow_78 (by decide) (bi_i _) (fun h78 => ?_) (fun h78 => absurd h78 (by omega))
      refine r_iconstZ (pc := 85) C dX2_drawnNow_85 ?_
      refine r_iaddZ (pc := 86) C dX2_drawnNow_86 ?_
      refine r_istore_n (pc := 87) C dX2_drawnNow_87 rfl (by decide) ?_
      refine r_iload (pc := 88) C dX2_drawnNow_88 rfl ?_
      refine r_iload (pc := 90) C dX2_drawnNow_90 rfl ?_
      refine r_if_eqZ (pc := 92) (tgt := 102) C dX2_drawnNow_92 (by decide) (bi_i _) (fun h92 => ?_) (fun h92 => absurd h92 (by omega))
      refine r_iconstZ (pc := 102) C dX2_drawnNow_102 ?_
      refine r_iaddZ (pc := 103) C dX2_drawnNow_103 ?_
      refine r_istore (pc := 104) C dX2_drawnNow_104 (by decide) ?_
      refine r_iload (pc := 106) C dX2_drawnNow_106 rfl ?_
      refine r_iload (pc := 108) C dX2_drawnNow_108 rfl ?_
      refine r_if_eqZ (pc := 110) (tgt := 125) C dX2_drawnNow_110 (by decide) (bi_i _) (fun h110 => ?_) (fun h110 => absurd h110 (by omega))
      refine r_iconstZ (pc := 125) C dX2_drawnNow_125 ?_
      exact fin _ 0 0 0 a1 a2 a4 hb.symm (by rw [hcl]; rfl) (by unfold crD; rw [if_neg (fun q => by rw [hcl] at q; exact absurd q.1 (by decide))])
    · have hb : bi (wClosed (wD s n)) = 1 := by rw [hcl]; rfl
      rcases Bool.eq_false_or_eq_true (clD s n) with hcd | hcd
      rotate_left
      · have hd : bi (clD s n) = 0 := by rw [hcd]; rfl
        refine r_aload_n (pc := 69) C dX2_drawnNow_69 rfl rfl ?_
        refine r_minv (pc := 70) 0 C dX2_drawnNow_70 (mt_isClosedNow (wD s n) a2) rfl (lw_V q1354 q1356 qs39 q92 q1357) (by decide +kernel) rfl rfl ⟨Nat.le_of_ble_eq_true rfl, Nat.le_of_ble_eq_true rfl⟩ (Nat.le_of_ble_eq_true rfl) ⟨Nat.le_of_ble_eq_true rfl, Nat.le_of_ble_eq_true rfl⟩ (fun v70 st70 h70 => ?_)
        obtain ⟨rfl, rfl⟩ := h70
        refine r_istore (pc := 73) C dX2_drawnNow_73 (by decide) ?_
        refine r_iload_n (pc := 75) C dX2_drawnNow_75 rfl rfl ?_
        refine r_iload (pc := 76) C dX2_drawnNow_76 rfl ?_
        refine r_if_eqZ (pc := 78) (tgt := 85) C dX2_drawnNow_78 (by decide) (bi_i _) (fun h78 => absurd h78 (by omega)) (fun h78 => ?_)
        refine r_iconstZ (pc := 81) C dX2_drawnNow_81 ?_
        refine r_goto (pc := 82) (tgt := 86) C dX2_drawnNow_82 (by decide) ?_
        refine r_iaddZ (pc := 86) C dX2_drawnNow_86 ?_
        refine r_istore_n (pc := 87) C dX2_drawnNow_87 rfl (by decide) ?_
        refine r_iload (pc := 88) C dX2_drawnNow_88 rfl ?_
        refine r_iload (pc := 90) C dX2_drawnNow_90 rfl ?_
        refine r_if_eqZ (pc := 92) (tgt := 102) C dX2_drawnNow_92 (by decide) (bi_i _) (fun h92 => absurd h92 (by omega)) (fun h92 => ?_)
        refine r_aload_n (pc := 95) C dX2_drawnNow_95 rfl rfl ?_
        refine r_minv (pc := 96) 0 C dX2_drawnNow_96 (mt_traceNow (wD s n) a2) rfl (lw_V q1346 q1348 qs37 q92 q1349) (by decide +kernel) rfl rfl ⟨Nat.le_of_ble_eq_true rfl, Nat.le_of_ble_eq_true rfl⟩ (Nat.le_of_ble_eq_true rfl) ⟨Nat.le_of_ble_eq_true rfl, Nat.le_of_ble_eq_true rfl⟩ (fun v96 st96 h96 => ?_)
        obtain ⟨rfl, -, h96⟩ := h96
        refine r_goto (pc := 99) (tgt := 103) C dX2_drawnNow_99 (by decide) ?_
        refine r_iaddZ (pc := 103) C dX2_drawnNow_103 ?_
        refine r_istore (pc := 104) C dX2_drawnNow_104 (by decide) ?_
        refine r_iload (pc := 106) C dX2_drawnNow_106 rfl ?_
        refine r_iload (pc := 108) C dX2_drawnNow_108 rfl ?_
        refine r_if_eqZ (pc := 110) (tgt := 125) C dX2_drawnNow_110 (by decide) (bi_i _) (fun h110 => absurd h110 (by omega)) (fun h110 => ?_)
        refine r_iload (pc := 113) C dX2_drawnNow_113 rfl ?_
        refine r_if_eqZ (pc := 115) (tgt := 125) C dX2_drawnNow_115 (by decide) (bi_i _) (fun h115 => ?_) (fun h115 => absurd h115 (by omega))
        refine r_iconstZ (pc := 125) C dX2_drawnNow_125 ?_
        exact fin _ 1 (wTrace (wD s n)) 0 ((h96 33 (by decide)).1.trans a1) (a2.x h96 (by decide) (by decide)) (a4.tr (h96.wk (by decide))) hb.symm (by rw [if_pos hcl]) (by unfold crD; rw [if_neg (fun q => by rw [hcd] at q; exact absurd q.2 (by decide))])
      · have hd : bi (clD s n) = 1 := by rw [hcd]; rfl
        refine r_aload_n (pc := 69) C dX2_drawnNow_69 rfl rfl ?_
        refine r_minv (pc := 70) 0 C dX2_drawnNow_70 (mt_isClosedNow (wD s n) a2) rfl (lw_V q1354 q1356 qs39 q92 q1357) (by decide +kernel) rfl rfl ⟨Nat.le_of_ble_eq_true rfl, Nat.le_of_ble_eq_true rfl⟩ (Nat.le_of_ble_eq_true rfl) ⟨Nat.le_of_ble_eq_true rfl, Nat.le_of_ble_eq_true rfl⟩ (fun v70 st70 h70 => ?_)
        obtain ⟨rfl, rfl⟩ := h70
        refine r_istore (pc := 73) C dX2_drawnNow_73 (by decide) ?_
        refine r_iload_n (pc := 75) C dX2_drawnNow_75 rfl rfl ?_
        refine r_iload (pc := 76) C dX2_drawnNow_76 rfl ?_
        refine r_if_eqZ (pc := 78) (tgt := 85) C dX2_drawnNow_78 (by decide) (bi_i _) (fun h78 => absurd h78 (by omega)) (fun h78 => ?_)
        refine r_iconstZ (pc := 81) C dX2_drawnNow_81 ?_
        refine r_goto (pc := 82) (tgt := 86) C dX2_drawnNow_82 (by decide) ?_
        refine r_iaddZ (pc := 86) C dX2_drawnNow_86 ?_
        refine r_istore_n (pc := 87) C dX2_drawnNow_87 rfl (by decide) ?_
        refine r_iload (pc := 88) C dX2_drawnNow_88 rfl ?_
        refine r_iload (pc := 90) C dX2_drawnNow_90 rfl ?_
        refine r_if_eqZ (pc := 92) (tgt := 102) C dX2_drawnNow_92 (by decide) (bi_i _) (fun h92 => absurd h92 (by omega)) (fun h92 => ?_)
        refine r_aload_n (pc := 95) C dX2_drawnNow_95 rfl rfl ?_
        refine r_minv (pc := 96) 0 C dX2_drawnNow_96 (mt_traceNow (wD s n) a2) rfl (lw_V q1346 q1348 qs37 q92 q1349) (by decide +kernel) rfl rfl ⟨Nat.le_of_ble_eq_true rfl, Nat.le_of_ble_eq_true rfl⟩ (Nat.le_of_ble_eq_true rfl) ⟨Nat.le_of_ble_eq_true rfl, Nat.le_of_ble_eq_true rfl⟩ (fun v96 st96 h96 => ?_)
        obtain ⟨rfl, -, h96⟩ := h96
        refine r_goto (pc := 99) (tgt := 103) C dX2_drawnNow_99 (by decide) ?_
        refine r_iaddZ (pc := 103) C dX2_drawnNow_103 ?_
        refine r_istore (pc := 104) C dX2_drawnNow_104 (by decide) ?_
        refine r_iload (pc := 106) C dX2_drawnNow_106 rfl ?_
        refine r_iload (pc := 108) C dX2_drawnNow_108 rfl ?_
        refine r_if_eqZ (pc := 110) (tgt := 125) C dX2_drawnNow_110 (by decide) (bi_i _) (fun h110 => absurd h110 (by omega)) (fun h110 => ?_)
        refine r_iload (pc := 113) C dX2_drawnNow_113 rfl ?_
        refine r_if_eqZ (pc := 115) (tgt := 125) C dX2_drawnNow_115 (by decide) (bi_i _) (fun h115 => absurd h115 (by omega)) (fun h115 => ?_)
        refine r_aload_n (pc := 118) C dX2_drawnNow_118 rfl rfl ?_
        refine r_minv (pc := 119) 0 C dX2_drawnNow_119 (mt_crossNow (wD s n) (wD s (n - 1)) (a2.x h96 (by decide) (by decide)) ((a3 (fun e => by subst e; exact absurd hcd Bool.false_ne_true)).x h96 (by decide) (by decide))) rfl (lw_V q1435 q1437 qs50 q92 q1438) (by decide +kernel) rfl rfl ⟨Nat.le_of_ble_eq_true rfl, Nat.le_of_ble_eq_true rfl⟩ (Nat.le_of_ble_eq_true rfl) ⟨Nat.le_of_ble_eq_true rfl, Nat.le_of_ble_eq_true rfl⟩ (fun v119 st119 h119 => ?_)
        obtain ⟨rfl, rfl⟩ := h119
        refine r_goto (pc := 122) (tgt := 126) C dX2_drawnNow_122 (by decide) ?_
        exact fin _ 1 (wTrace (wD s n)) (sCross (wD s n) (wD s (n - 1))) ((h96 33 (by decide)).1.trans a1) (a2.x h96 (by decide) (by decide)) (a4.tr (h96.wk (by decide))) hb.symm (by rw [if_pos hcl]) (by unfold crD; rw [if_pos ⟨hcl, hcd⟩])
  have loop : ∀ n : Nat, n ≤ t → ∀ (sti : MSt) (v8 : Option Value) (m : Nat), m ≤ 20 → sti.1 18 = m → sti.1 33 = lcgN s (8 * n) → (n ≠ 0 → LookAt sti (wD s (n - 1))) → eqx tq st sti → WW Z 9 (MOD mh mad G0 sti) 0 0 14 [some (.ref mh), some (.int (iI t)), some (.int (iI what)), some (.int (iI (cnt (fun k => wClosed (wD s k)) n))), some (.int (iI (sumN (fun k => if wClosed (wD s k) then wTrace (wD s k) else 0) n))), some (.int (iI (sumN (crD s) n))), some (.int (iI (bi (clD s n)))), some (.int (iI ((n : Nat) : Int))), v8] [] := by
    refine loopN _ _ (fun n hn ih sti v8 m g1 g2 g3 g4 g5 => ?_)
    have inner : n < t → ∀ k : Nat, k ≤ 8 → ∀ (stj : MSt), stj.1 18 = 8 → stj.1 33 = lcgN (lcgN s (8 * n)) k → (∀ j : Nat, j < k → stj.2 19 j = bi (dB (lcgN (lcgN s (8 * n)) (j + 1)))) → (n ≠ 0 → OtherAt stj (wD s (n - 1))) → eqx tq st stj → WW Z 9 (MOD mh mad G0 stj) 0 0 35 [some (.ref mh), some (.int (iI t)), some (.int (iI what)), some (.int (iI (cnt (fun k => wClosed (wD s k)) n))), some (.int (iI (sumN (fun k => if wClosed (wD s k) then wTrace (wD s k) else 0) n))), some (.int (iI (sumN (crD s) n))), some (.int (iI (bi (clD s n)))), some (.int (iI ((n : Nat) : Int))), some (.int (iI (k : Int)))] [] := by
      intro hnt
      refine loopN _ _ (fun k hk ihk stj f1 f2 f3 f4 f5 => ?_)
      refine r_iload (pc := 35) C dX2_drawnNow_35 rfl ?_
      refine r_bipushZ (pc := 37) C dX2_drawnNow_37 (by decide) ?_
      refine r_icmp_geZ (pc := 39) (tgt := 69) C dX2_drawnNow_39 (by decide) (by unfold i32; omega) (by unfold i32; omega) (fun h39 => ?_) (fun h39 => ?_)
      · refine step n hnt (fun sti v8 q1 q2 q3 => ih hnt sti v8 8 (by omega) q2.1 q1 (fun _ => q2) q3) stj _ ?_ ?_ f4 f5
        · rw [f2, ← lcgN_add, show 8 * n + k = 8 * (n + 1) by omega]
        · exact ⟨f1, by rw [show (wD s n).length = 8 from rfl]; omega, fun j hj => by rw [f3 j (by rw [show (wD s n).length = 8 from rfl] at hj; omega)]; exact congrArg bi (dW_at _ hj).symm⟩
      · refine r_aload_n (pc := 42) C dX2_drawnNow_42 rfl rfl ?_
        refine r_mget (pc := 43) (k := 19) C dX2_drawnNow_43 rfl q1191 (by decide) rfl ?_
        refine r_iload (pc := 46) C dX2_drawnNow_46 rfl ?_
        refine r_aload_n (pc := 48) C dX2_drawnNow_48 rfl rfl ?_
        refine r_iconstZ (pc := 49) C dX2_drawnNow_49 ?_
        refine r_minv (pc := 50) 1 C dX2_drawnNow_50 (mt_drawOf (lcgN (lcgN s (8 * n)) k) (lcgN_b (lcgN_b hs _) k) f2) rfl (lw_V q1586 q1588 qs72 q92 q1589) (by decide +kernel) rfl rfl ⟨Nat.le_of_ble_eq_true rfl, Nat.le_of_ble_eq_true rfl⟩ (Nat.le_of_ble_eq_true rfl) ⟨Nat.le_of_ble_eq_true rfl, Nat.le_of_ble_eq_true rfl⟩ (fun v50 st50 h50 => ?_)
        obtain ⟨rfl, rfl⟩ := h50
        refine r_iconstZ (pc := 53) C dX2_drawnNow_53 ?_
        refine r_icmp_neZ (pc := 54) (tgt := 61) C dX2_drawnNow_54 (by decide) (by unfold i32; omega) (by unfold i32; omega) (fun h54 => ?_) (fun h54 => ?_)
        · refine r_iconstZ (pc := 61) C dX2_drawnNow_61 ?_
          refine r_mast (pc := 62) (L := 20) C dX2_drawnNow_62 (by decide) rfl (by omega) (by omega) ?_
          refine r_iincZ (pc := 63) C dX2_drawnNow_63 rfl (by decide) ?_
          refine r_goto (pc := 66) (tgt := 35) C dX2_drawnNow_66 (by decide) ?_
          refine ihk (by omega) _ f1 rfl (fun j hj => ?_) (fun e => (f4 e).of rfl (aput_nk _ _ _ (by decide))) ((f5.iput (by decide)).aput (by decide))
          by_cases e : j = k
          · rw [e, aput_eq]; unfold dB; show _ = bi (decide (lcg (lcgN (lcgN s (8 * n)) k) / 65536 % 2 = 1)); first | (rw [decide_eq_true (by omega)]; rfl) | (rw [decide_eq_false (by omega)]; rfl)
          · rw [aput_nj _ _ _ (by omega)]; exact f3 j (by omega)
        · refine r_iconstZ (pc := 57) C dX2_drawnNow_57 ?_
          refine r_goto (pc := 58) (tgt := 62) C dX2_drawnNow_58 (by decide) ?_
          refine r_mast (pc := 62) (L := 20) C dX2_drawnNow_62 (by decide) rfl (by omega) (by omega) ?_
          refine r_iincZ (pc := 63) C dX2_drawnNow_63 rfl (by decide) ?_
          refine r_goto (pc := 66) (tgt := 35) C dX2_drawnNow_66 (by decide) ?_
          refine ihk (by omega) _ f1 rfl (fun j hj => ?_) (fun e => (f4 e).of rfl (aput_nk _ _ _ (by decide))) ((f5.iput (by decide)).aput (by decide))
          by_cases e : j = k
          · rw [e, aput_eq]; unfold dB; show _ = bi (decide (lcg (lcgN (lcgN s (8 * n)) k) / 65536 % 2 = 1)); first | (rw [decide_eq_true (by omega)]; rfl) | (rw [decide_eq_false (by omega)]; rfl)
          · rw [aput_nj _ _ _ (by omega)]; exact f3 j (by omega)
    refine r_iload (pc := 14) C dX2_drawnNow_14 rfl ?_
    refine r_iload_n (pc := 16) C dX2_drawnNow_16 rfl rfl ?_
    refine r_icmp_geZ (pc := 17) (tgt := 139) C dX2_drawnNow_17 (by decide) (by unfold i32; omega) (by unfold i32; omega) (fun h17 => ?_) (fun h17 => ?_)
    · refine r_iload_n (pc := 139) C dX2_drawnNow_139 rfl rfl ?_
      refine r_if_neZ (pc := 140) (tgt := 147) C dX2_drawnNow_140 (by decide) (by unfold i32; omega) (fun h140 => ?_) (fun h140 => ?_)
      · refine r_iload_n (pc := 147) C dX2_drawnNow_147 rfl rfl ?_
        refine r_iconstZ (pc := 148) C dX2_drawnNow_148 ?_
        refine r_icmp_neZ (pc := 149) (tgt := 157) C dX2_drawnNow_149 (by decide) (by unfold i32; omega) (by unfold i32; omega) (fun h149 => ?_) (fun h149 => ?_)
        · refine r_iload_n (pc := 157) C dX2_drawnNow_157 rfl rfl ?_
          refine r_iconstZ (pc := 158) C dX2_drawnNow_158 ?_
          refine r_icmp_neZ (pc := 159) (tgt := 167) C dX2_drawnNow_159 (by decide) (by unfold i32; omega) (by unfold i32; omega) (fun h159 => ?_) (fun h159 => ?_)
          · refine r_aload_n (pc := 167) C dX2_drawnNow_167 rfl rfl ?_
            refine r_mget (pc := 168) (k := 33) C dX2_drawnNow_168 rfl q1205 (by decide) rfl ?_
            rw [g3]
            refine r_l2iZ (pc := 171) C dX2_drawnNow_171 ?_
            exact r_iret (pc := 172) C hQ dX2_drawnNow_172 (Nat.le_of_ble_eq_true rfl) (Nat.le_of_ble_eq_true rfl) (fun G hG => ⟨_, hG, ⟨by obtain rfl : n = t := (by omega); unfold sDraw; first | rw [if_pos (by omega)] | rw [if_neg (by omega), if_pos (by omega)] | rw [if_neg (by omega), if_neg (by omega), if_pos (by omega)] | rw [if_neg (by omega), if_neg (by omega), if_neg (by omega)], g5⟩⟩)
          · refine r_iload (pc := 162) C dX2_drawnNow_162 rfl ?_
            refine r_goto (pc := 164) (tgt := 172) C dX2_drawnNow_164 (by decide) ?_
            exact r_iret (pc := 172) C hQ dX2_drawnNow_172 (Nat.le_of_ble_eq_true rfl) (Nat.le_of_ble_eq_true rfl) (fun G hG => ⟨_, hG, ⟨by obtain rfl : n = t := (by omega); unfold sDraw; first | rw [if_pos (by omega)] | rw [if_neg (by omega), if_pos (by omega)] | rw [if_neg (by omega), if_neg (by omega), if_pos (by omega)] | rw [if_neg (by omega), if_neg (by omega), if_neg (by omega)], g5⟩⟩)
        · refine r_iload (pc := 152) C dX2_drawnNow_152 rfl ?_
          refine r_goto (pc := 154) (tgt := 172) C dX2_drawnNow_154 (by decide) ?_
          exact r_iret (pc := 172) C hQ dX2_drawnNow_172 (Nat.le_of_ble_eq_true rfl) (Nat.le_of_ble_eq_true rfl) (fun G hG => ⟨_, hG, ⟨by obtain rfl : n = t := (by omega); unfold sDraw; first | rw [if_pos (by omega)] | rw [if_neg (by omega), if_pos (by omega)] | rw [if_neg (by omega), if_neg (by omega), if_pos (by omega)] | rw [if_neg (by omega), if_neg (by omega), if_neg (by omega)], g5⟩⟩)
      · refine r_iload_n (pc := 143) C dX2_drawnNow_143 rfl rfl ?_
        refine r_goto (pc := 144) (tgt := 172) C dX2_drawnNow_144 (by decide) ?_
        exact r_iret (pc := 172) C hQ dX2_drawnNow_172 (Nat.le_of_ble_eq_true rfl) (Nat.le_of_ble_eq_true rfl) (fun G hG => ⟨_, hG, ⟨by obtain rfl : n = t := (by omega); unfold sDraw; first | rw [if_pos (by omega)] | rw [if_neg (by omega), if_pos (by omega)] | rw [if_neg (by omega), if_neg (by omega), if_pos (by omega)] | rw [if_neg (by omega), if_neg (by omega), if_neg (by omega)], g5⟩⟩)
    · refine r_aload_n (pc := 20) C dX2_drawnNow_20 rfl rfl ?_
      refine r_iconstZ (pc := 21) C dX2_drawnNow_21 ?_
      refine r_iconstZ (pc := 22) C dX2_drawnNow_22 ?_
      refine r_minv (pc := 23) 2 C dX2_drawnNow_23 (mt_layOther0 m g1 g2) rfl (lw_V q1362 q1364 qs41 q92 q1365) (by decide +kernel) rfl rfl ⟨Nat.le_of_ble_eq_true rfl, Nat.le_of_ble_eq_true rfl⟩ (Nat.le_of_ble_eq_true rfl) ⟨Nat.le_of_ble_eq_true rfl, Nat.le_of_ble_eq_true rfl⟩ (fun v23 st23 h23 => ?_)
      obtain ⟨rfl, h23a, h23b⟩ := h23
      refine r_aload_n (pc := 26) C dX2_drawnNow_26 rfl rfl ?_
      refine r_bipushZ (pc := 27) C dX2_drawnNow_27 (by decide) ?_
      refine r_mput (pc := 29) (k := 18) (ty := .int) C dX2_drawnNow_29 rfl q1190 (by decide) rfl (by decide +kernel) rfl rfl (ms_18 mad _ _) rfl (Or.inr (by rw [iput_eq]; omega)) ?_
      refine r_iconstZ (pc := 32) C dX2_drawnNow_32 ?_
      refine r_istore (pc := 33) C dX2_drawnNow_33 (by decide) ?_
      refine inner (by omega) 0 (by omega) _ (iput_eq _ _ _) ?_ (fun j hj => absurd hj (Nat.not_lt_zero _)) (fun e => ?_) ((g5.tr (h23b.wk (by decide))).iput (by decide))
      · exact (h23b 33 (by decide)).1.trans g3
      · have q := g4 e; have q1 : (m : Int) = (wD s (n - 1)).length := g2.symm.trans q.1; exact ⟨h23a.1.trans q1, q.2.1, fun j hj => (h23a.2 j (by omega)).trans (q.2.2 j hj)⟩
  refine r_iconstZ (pc := 0) C dX2_drawnNow_0 ?_
  refine r_istore_n (pc := 1) C dX2_drawnNow_1 rfl (by decide) ?_
  refine r_iconstZ (pc := 2) C dX2_drawnNow_2 ?_
  refine r_istore (pc := 3) C dX2_drawnNow_3 (by decide) ?_
  refine r_iconstZ (pc := 5) C dX2_drawnNow_5 ?_
  refine r_istore (pc := 6) C dX2_drawnNow_6 (by decide) ?_
  refine r_iconstZ (pc := 8) C dX2_drawnNow_8 ?_
  refine r_istore (pc := 9) C dX2_drawnNow_9 (by decide) ?_
  refine r_iconstZ (pc := 11) C dX2_drawnNow_11 ?_
  refine r_istore (pc := 12) C dX2_drawnNow_12 (by decide) ?_
  exact loop 0 (Nat.zero_le _) _ _ (st.1 18).toNat (by omega) (by omega) h (fun e => absurd rfl e) eqx.rf
set_option maxHeartbeats 800000 in
theorem mt_drawn {la : Launch} {X : XE} {mh : Nat} {mad : Nat → Nat} {G0 : Gh} {st : MSt} (t s what : Int) (ht : i32 t) (hs : i32 s) (hw : i32 what) : MM la X mh mad G0 yX2_drawn cX2_drawn 4 (some .int) 3 77 [.int (iI t), .int (iI s), .int (iI what)] st (fun v st' => v = some (.int (iI (sDrawn t s what))) ∧ eqx tq st st') := by
  refine MG.of (by decide +kernel) (Nat.le_of_ble_eq_true rfl) ?_
  intro Z C hX hL hQ
  subst hX; subst hL
  change WW Z 4 (MOD mh mad G0 st) 0 0 0 [some (.ref mh), some (.int (iI t)), some (.int (iI s)), some (.int (iI what))] []
  have out : ¬ ((1 ≤ t ∧ t ≤ 40) ∧ 0 ≤ s ∧ 0 ≤ what ∧ what ≤ 3) → WW Z 4 (MOD mh mad G0 st) 0 0 23 [some (.ref mh), some (.int (iI t)), some (.int (iI s)), some (.int (iI what))] [] := by
    intro hn
    refine r_ldcZ (pc := 23) (a := -2000000102) C dX2_drawn_23 rfl q1286 (by decide) ?_
    exact r_iret (pc := 25) C hQ dX2_drawn_25 (Nat.le_of_ble_eq_true rfl) (Nat.le_of_ble_eq_true rfl) (fun G hG => ⟨_, hG, ⟨by unfold sDrawn; rw [if_neg hn], eqx.rf⟩⟩)
  refine r_iload_n (pc := 0) C dX2_drawn_0 rfl rfl ?_
  refine r_iconstZ (pc := 1) C dX2_drawn_1 ?_
  refine r_bipushZ (pc := 2) C dX2_drawn_2 (by decide) ?_
  refine r_invP (pc := 4) 3 C dX2_drawn_4 (pf_within t 1 40 ht (by unfold i32; omega) (by unfold i32; omega)) rfl (lw_S q1283 q1284 q92 q1285) (by decide +kernel) rfl rfl ⟨Nat.le_of_ble_eq_true rfl, Nat.le_of_ble_eq_true rfl⟩ (Nat.le_of_ble_eq_true rfl) ⟨Nat.le_of_ble_eq_true rfl, Nat.le_of_ble_eq_true rfl⟩ ?_
  refine r_if_eqB (pc := 7) (tgt := 23) C dX2_drawn_7 (by decide)  (fun h7 => ?_) (fun h7 => ?_)
  · exact out (by omega)
  · refine r_iload_n (pc := 10) C dX2_drawn_10 rfl rfl ?_
    refine r_if_ltZ (pc := 11) (tgt := 23) C dX2_drawn_11 (by decide) hs (fun h11 => ?_) (fun h11 => ?_)
    · exact out (by omega)
    · refine r_iload_n (pc := 14) C dX2_drawn_14 rfl rfl ?_
      refine r_iconstZ (pc := 15) C dX2_drawn_15 ?_
      refine r_iconstZ (pc := 16) C dX2_drawn_16 ?_
      refine r_invP (pc := 17) 3 C dX2_drawn_17 (pf_within what 0 3 hw (by unfold i32; omega) (by unfold i32; omega)) rfl (lw_S q1283 q1284 q92 q1285) (by decide +kernel) rfl rfl ⟨Nat.le_of_ble_eq_true rfl, Nat.le_of_ble_eq_true rfl⟩ (Nat.le_of_ble_eq_true rfl) ⟨Nat.le_of_ble_eq_true rfl, Nat.le_of_ble_eq_true rfl⟩ ?_
      refine r_if_neB (pc := 20) (tgt := 26) C dX2_drawn_20 (by decide)  (fun h20 => ?_) (fun h20 => ?_)
      · refine r_aload_n (pc := 26) C dX2_drawn_26 rfl rfl ?_
        refine r_iload_n (pc := 27) C dX2_drawn_27 rfl rfl ?_
        refine r_i2lZ (pc := 28) C dX2_drawn_28 hs ?_
        refine r_mput (pc := 29) (k := 33) (ty := .long) C dX2_drawn_29 rfl q1205 (by decide) rfl (by decide +kernel) rfl rfl (ms_33 mad _ _) rfl (Or.inl rfl) ?_
        obtain ⟨t', rfl⟩ : ∃ t' : Nat, t = t' := ⟨t.toNat, by omega⟩
        refine r_aload_n (pc := 32) C dX2_drawn_32 rfl rfl ?_
        refine r_iload_n (pc := 33) C dX2_drawn_33 rfl rfl ?_
        refine r_iload_n (pc := 34) C dX2_drawn_34 rfl rfl ?_
        refine r_minv (pc := 35) 2 C dX2_drawn_35 (mt_drawnNow t' s what (by omega) (by unfold i32 at hs; omega) h20 (iput_eq _ _ _)) rfl (lw_V q1582 q1584 qs71 q92 q1585) (by decide +kernel) rfl rfl ⟨Nat.le_of_ble_eq_true rfl, Nat.le_of_ble_eq_true rfl⟩ (Nat.le_of_ble_eq_true rfl) ⟨Nat.le_of_ble_eq_true rfl, Nat.le_of_ble_eq_true rfl⟩ (fun v35 st35 h35 => ?_)
        obtain ⟨rfl, h35⟩ := h35
        exact r_iret (pc := 38) C hQ dX2_drawn_38 (Nat.le_of_ble_eq_true rfl) (Nat.le_of_ble_eq_true rfl) (fun G hG => ⟨_, hG, ⟨by unfold sDrawn; rw [if_pos ⟨h7, by omega, h20⟩, Int.toNat_natCast], ((eqx.rf (st := st)).iput (by decide)).tr h35⟩⟩)
      · exact out (by omega)

