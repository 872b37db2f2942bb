/-! the reference's methods: counts -/
set_option maxRecDepth 100000
theorem RoadsAre.n {st : MSt} {ws : Wss} (h : RoadsAre st ws) {k : Nat} (hk : k < ws.length) : RoadIs st (k : Int) (ws.getD k []) := h.2.2 k hk
set_option maxHeartbeats 800000 in
theorem mt_closedMany {la : Launch} {X : XE} {mh : Nat} {mad : Nat → Nat} {G0 : Gh} {st : MSt} (ws : Wss) (h : RoadsAre st ws) : MM la X mh mad G0 yX2_closedMany cX2_closedMany 3 (some .int) 3 63 [] st (fun v st' => v = some (.int (iI (nClosed ws))) ∧ eqx [18, 19, 20, 21] st st') := by
  refine MG.of (by decide +kernel) (Nat.le_of_ble_eq_true rfl) ?_
  intro Z C hX hL hQ
  subst hX; subst hL
  change WW Z 3 (MOD mh mad G0 st) 0 0 0 [some (.ref mh), none, none] []
  have hl := h.2.1
  have loop : ∀ k : Nat, k ≤ ws.length → ∀ sti : MSt, eqx [18, 19, 20, 21] st sti → RoadsAre sti ws → WW Z 3 (MOD mh mad G0 sti) 0 0 4 [some (.ref mh), some (.int (iI (cnt (fun k => wClosed (ws.getD k [])) k))), some (.int (iI (k : Int)))] [] := by
    refine loopN _ _ (fun k hk ih sti g1 g2 => ?_)
    refine r_iload_n (pc := 4) C dX2_closedMany_4 rfl rfl ?_
    refine r_aload_n (pc := 5) C dX2_closedMany_5 rfl rfl ?_
    refine r_mget (pc := 6) (k := 2) C dX2_closedMany_6 rfl q1174 (by decide) rfl ?_
    rw [g2.1]
    refine r_icmp_geZ (pc := 9) (tgt := 34) C dX2_closedMany_9 (by decide) (by unfold i32; omega) (by unfold i32; omega) (fun h9 => ?_) (fun h9 => ?_)
    · refine r_iload_n (pc := 34) C dX2_closedMany_34 rfl rfl ?_
      exact r_iret (pc := 35) C hQ dX2_closedMany_35 (Nat.le_of_ble_eq_true rfl) (Nat.le_of_ble_eq_true rfl) (fun G hG => ⟨_, hG, ⟨by rw [show k = ws.length by omega]; rfl, g1⟩⟩)
    · refine r_iload_n (pc := 12) C dX2_closedMany_12 rfl rfl ?_
      refine r_aload_n (pc := 13) C dX2_closedMany_13 rfl rfl ?_
      refine r_iload_n (pc := 14) C dX2_closedMany_14 rfl rfl ?_
      refine r_minv (pc := 15) 1 C dX2_closedMany_15 (mt_isClosed (k : Int) (ws.getD k []) (by omega) (g2.n (by omega))) rfl (lw_V q1390 q1392 qs44 q92 q1393) (by decide +kernel) rfl rfl ⟨Nat.le_of_ble_eq_true rfl, Nat.le_of_ble_eq_true rfl⟩ (Nat.le_of_ble_eq_true rfl) ⟨Nat.le_of_ble_eq_true rfl, Nat.le_of_ble_eq_true rfl⟩ (fun v15 st15 h15 => ?_)
      obtain ⟨rfl, -, h15⟩ := h15
      refine r_if_eqZ (pc := 18) (tgt := 25) C dX2_closedMany_18 (by decide) (bi_i _) (fun h18 => ?_) (fun h18 => ?_)
      · refine r_iconstZ (pc := 25) C dX2_closedMany_25 ?_
        refine r_iaddZ (pc := 26) C dX2_closedMany_26 ?_
        refine r_istore_n (pc := 27) C dX2_closedMany_27 rfl (by decide) ?_
        refine r_iincZ (pc := 28) C dX2_closedMany_28 rfl (by decide) ?_
        refine r_goto (pc := 31) (tgt := 4) C dX2_closedMany_31 (by decide) ?_
        have ih := ih (by omega) _ (g1.tr (h15.wk (by decide))) (g2.x h15 (by decide) (by decide) (by decide))
        have e : cnt (fun k => wClosed (ws.getD k [])) (k + 1) = cnt (fun k => wClosed (ws.getD k [])) k + bi (wClosed (ws.getD k [])) := rfl
        rw [e] at ih
        first | (rw [bi_0.mp h18] at ih; exact ih) | (rw [bi_n0 h18] at ih; exact ih)
      · refine r_iconstZ (pc := 21) C dX2_closedMany_21 ?_
        refine r_goto (pc := 22) (tgt := 26) C dX2_closedMany_22 (by decide) ?_
        refine r_iaddZ (pc := 26) C dX2_closedMany_26 ?_
        refine r_istore_n (pc := 27) C dX2_closedMany_27 rfl (by decide) ?_
        refine r_iincZ (pc := 28) C dX2_closedMany_28 rfl (by decide) ?_
        refine r_goto (pc := 31) (tgt := 4) C dX2_closedMany_31 (by decide) ?_
        have ih := ih (by omega) _ (g1.tr (h15.wk (by decide))) (g2.x h15 (by decide) (by decide) (by decide))
        have e : cnt (fun k => wClosed (ws.getD k [])) (k + 1) = cnt (fun k => wClosed (ws.getD k [])) k + bi (wClosed (ws.getD k [])) := rfl
        rw [e] at ih
        first | (rw [bi_0.mp h18] at ih; exact ih) | (rw [bi_n0 h18] at ih; exact ih)
  refine r_iconstZ (pc := 0) C dX2_closedMany_0 ?_
  refine r_istore_n (pc := 1) C dX2_closedMany_1 rfl (by decide) ?_
  refine r_iconstZ (pc := 2) C dX2_closedMany_2 ?_
  refine r_istore_n (pc := 3) C dX2_closedMany_3 rfl (by decide) ?_
  exact loop 0 (Nat.zero_le _) _ eqx.rf h
set_option maxHeartbeats 800000 in
theorem mt_newMany {la : Launch} {X : XE} {mh : Nat} {mad : Nat → Nat} {G0 : Gh} {st : MSt} (ws : Wss) (h : RoadsAre st ws) : MM la X mh mad G0 yX2_newMany cX2_newMany 5 (some .int) 2 46 [] st (fun v st' => v = some (.int (iI (nNew ws))) ∧ eqx [18, 19, 20, 21] st st') := by
  refine MG.of (by decide +kernel) (Nat.le_of_ble_eq_true rfl) ?_
  intro Z C hX hL hQ
  subst hX; subst hL
  change WW Z 5 (MOD mh mad G0 st) 0 0 0 [some (.ref mh), none, none, none, none] []
  have hl := h.2.1
  have loop : ∀ r : Nat, r ≤ ws.length → ∀ (sti : MSt) (v3 v4 : Option Value), eqx [18, 19, 20, 21] st sti → RoadsAre sti ws → WW Z 5 (MOD mh mad G0 sti) 0 0 4 [some (.ref mh), some (.int (iI (cnt (isNewW ws) r))), some (.int (iI (r : Int))), v3, v4] [] := by
    refine loopN _ _ (fun r hr ih sti v3 v4 g1 g2 => ?_)
    have inner : r < ws.length → ∀ k : Nat, k ≤ r → ∀ stj : MSt, eqx [18, 19, 20, 21] st stj → RoadsAre stj ws → WW Z 5 (MOD mh mad G0 stj) 0 0 17 [some (.ref mh), some (.int (iI (cnt (isNewW ws) r))), some (.int (iI (r : Int))), some (.int (iI (bi (allN (fun k => decide (wTurn (ws.getD k []) (ws.getD r []) = NON)) k)))), some (.int (iI (k : Int)))] [] := by
      intro hrl
      refine loopN _ _ (fun k hk ihk stj f1 f2 => ?_)
      refine r_iload (pc := 17) C dX2_newMany_17 rfl ?_
      refine r_iload_n (pc := 19) C dX2_newMany_19 rfl rfl ?_
      refine r_icmp_geZ (pc := 20) (tgt := 51) C dX2_newMany_20 (by decide) (by unfold i32; omega) (by unfold i32; omega) (fun h20 => ?_) (fun h20 => ?_)
      · refine r_iload_n (pc := 51) C dX2_newMany_51 rfl rfl ?_
        refine r_iload_n (pc := 52) C dX2_newMany_52 rfl rfl ?_
        refine r_if_eqZ (pc := 53) (tgt := 60) C dX2_newMany_53 (by decide) (bi_i _) (fun h53 => ?_) (fun h53 => ?_)
        · refine r_iconstZ (pc := 60) C dX2_newMany_60 ?_
          refine r_iaddZ (pc := 61) C dX2_newMany_61 ?_
          refine r_istore_n (pc := 62) C dX2_newMany_62 rfl (by decide) ?_
          refine r_iincZ (pc := 63) C dX2_newMany_63 rfl (by decide) ?_
          refine r_goto (pc := 66) (tgt := 4) C dX2_newMany_66 (by decide) ?_
          have ih := ih (by omega) _ (some (.int (iI (bi (allN (fun k => decide (wTurn (ws.getD k []) (ws.getD r []) = NON)) k))))) (some (.int (iI (k : Int)))) f1 f2
          have e : cnt (isNewW ws) (r + 1) = cnt (isNewW ws) r + bi (isNewW ws r) := rfl
          have e2 : isNewW ws r = allN (fun k => decide (wTurn (ws.getD k []) (ws.getD r []) = NON)) k := (by rw [show k = r by omega]; rfl)
          rw [e, e2] at ih
          first | (rw [bi_0.mp h53] at ih ⊢; exact ih) | (rw [bi_n0 h53] at ih ⊢; exact ih)
        · refine r_iconstZ (pc := 56) C dX2_newMany_56 ?_
          refine r_goto (pc := 57) (tgt := 61) C dX2_newMany_57 (by decide) ?_
          refine r_iaddZ (pc := 61) C dX2_newMany_61 ?_
          refine r_istore_n (pc := 62) C dX2_newMany_62 rfl (by decide) ?_
          refine r_iincZ (pc := 63) C dX2_newMany_63 rfl (by decide) ?_
          refine r_goto (pc := 66) (tgt := 4) C dX2_newMany_66 (by decide) ?_
          have ih := ih (by omega) _ (some (.int (iI (bi (allN (fun k => decide (wTurn (ws.getD k []) (ws.getD r []) = NON)) k))))) (some (.int (iI (k : Int)))) f1 f2
          have e : cnt (isNewW ws) (r + 1) = cnt (isNewW ws) r + bi (isNewW ws r) := rfl
          have e2 : isNewW ws r = allN (fun k => decide (wTurn (ws.getD k []) (ws.getD r []) = NON)) k := (by rw [show k = r by omega]; rfl)
          rw [e, e2] at ih
          first | (rw [bi_0.mp h53] at ih ⊢; exact ih) | (rw [bi_n0 h53] at ih ⊢; exact ih)
      · refine r_iload_n (pc := 23) C dX2_newMany_23 rfl rfl ?_
        refine r_if_eqZ (pc := 24) (tgt := 43) C dX2_newMany_24 (by decide) (bi_i _) (fun h24 => ?_) (fun h24 => ?_)
        · refine r_iconstZ (pc := 43) C dX2_newMany_43 ?_
          refine r_istore_n (pc := 44) C dX2_newMany_44 rfl (by decide) ?_
          refine r_iincZ (pc := 45) C dX2_newMany_45 rfl (by decide) ?_
          refine r_goto (pc := 48) (tgt := 17) C dX2_newMany_48 (by decide) ?_
          first | (have ih2 := ihk (by omega) _ (f1.tr (h31.wk (by decide))) (f2.x h31 (by decide) (by decide) (by decide)); rw [allN_s, bi_n0 h24] at ih2; first | (rw [decide_eq_true h36] at ih2; exact ih2) | (rw [decide_eq_false h36] at ih2; exact ih2)) | (have ih2 := ihk (by omega) _ f1 f2; rw [allN_s, bi_0.mp h24] at ih2; exact ih2)
        · refine r_aload_n (pc := 27) C dX2_newMany_27 rfl rfl ?_
          refine r_iload (pc := 28) C dX2_newMany_28 rfl ?_
          refine r_iload_n (pc := 30) C dX2_newMany_30 rfl rfl ?_
          refine r_minv (pc := 31) 2 C dX2_newMany_31 (mt_alikeNow (k : Int) (r : Int) (ws.getD k []) (ws.getD r []) (by omega) (by omega) (f2.n (by omega)) (f2.n (by omega))) rfl (lw_V q1423 q1425 qs48 q92 q1426) (by decide +kernel) rfl rfl ⟨Nat.le_of_ble_eq_true rfl, Nat.le_of_ble_eq_true rfl⟩ (Nat.le_of_ble_eq_true rfl) ⟨Nat.le_of_ble_eq_true rfl, Nat.le_of_ble_eq_true rfl⟩ (fun v31 st31 h31 => ?_)
          obtain ⟨rfl, h31⟩ := h31
          refine r_ldcZ (pc := 34) (a := -2000000001) C dX2_newMany_34 rfl q1370 (by decide) ?_
          refine r_icmp_neZ (pc := 36) (tgt := 43) C dX2_newMany_36 (by decide) (wTurn_b _ _ (f2.n (show k < ws.length by omega)).2.1.2) (by unfold i32; omega) (fun h36 => ?_) (fun h36 => ?_)
          · refine r_iconstZ (pc := 43) C dX2_newMany_43 ?_
            refine r_istore_n (pc := 44) C dX2_newMany_44 rfl (by decide) ?_
            refine r_iincZ (pc := 45) C dX2_newMany_45 rfl (by decide) ?_
            refine r_goto (pc := 48) (tgt := 17) C dX2_newMany_48 (by decide) ?_
            first | (have ih2 := ihk (by omega) _ (f1.tr (h31.wk (by decide))) (f2.x h31 (by decide) (by decide) (by decide)); rw [allN_s, bi_n0 h24] at ih2; first | (rw [decide_eq_true h36] at ih2; exact ih2) | (rw [decide_eq_false h36] at ih2; exact ih2)) | (have ih2 := ihk (by omega) _ f1 f2; rw [allN_s, bi_0.mp h24] at ih2; exact ih2)
          · refine r_iconstZ (pc := 39) C dX2_newMany_39 ?_
            refine r_goto (pc := 40) (tgt := 44) C dX2_newMany_40 (by decide) ?_
            refine r_istore_n (pc := 44) C dX2_newMany_44 rfl (by decide) ?_
            refine r_iincZ (pc := 45) C dX2_newMany_45 rfl (by decide) ?_
            refine r_goto (pc := 48) (tgt := 17) C dX2_newMany_48 (by decide) ?_
            first | (have ih2 := ihk (by omega) _ (f1.tr (h31.wk (by decide))) (f2.x h31 (by decide) (by decide) (by decide)); rw [allN_s, bi_n0 h24] at ih2; first | (rw [decide_eq_true h36] at ih2; exact ih2) | (rw [decide_eq_false h36] at ih2; exact ih2)) | (have ih2 := ihk (by omega) _ f1 f2; rw [allN_s, bi_0.mp h24] at ih2; exact ih2)
    refine r_iload_n (pc := 4) C dX2_newMany_4 rfl rfl ?_
    refine r_aload_n (pc := 5) C dX2_newMany_5 rfl rfl ?_
    refine r_mget (pc := 6) (k := 2) C dX2_newMany_6 rfl q1174 (by decide) rfl ?_
    rw [g2.1]
    refine r_icmp_geZ (pc := 9) (tgt := 69) C dX2_newMany_9 (by decide) (by unfold i32; omega) (by unfold i32; omega) (fun h9 => ?_) (fun h9 => ?_)
    · refine r_iload_n (pc := 69) C dX2_newMany_69 rfl rfl ?_
      exact r_iret (pc := 70) C hQ dX2_newMany_70 (Nat.le_of_ble_eq_true rfl) (Nat.le_of_ble_eq_true rfl) (fun G hG => ⟨_, hG, ⟨by rw [show r = ws.length by omega]; rfl, g1⟩⟩)
    · refine r_iconstZ (pc := 12) C dX2_newMany_12 ?_
      refine r_istore_n (pc := 13) C dX2_newMany_13 rfl (by decide) ?_
      refine r_iconstZ (pc := 14) C dX2_newMany_14 ?_
      refine r_istore (pc := 15) C dX2_newMany_15 (by decide) ?_
      exact inner (by omega) 0 (Nat.zero_le _) _ g1 g2
  refine r_iconstZ (pc := 0) C dX2_newMany_0 ?_
  refine r_istore_n (pc := 1) C dX2_newMany_1 rfl (by decide) ?_
  refine r_iconstZ (pc := 2) C dX2_newMany_2 ?_
  refine r_istore_n (pc := 3) C dX2_newMany_3 rfl (by decide) ?_
  exact loop 0 (Nat.zero_le _) _ _ _ eqx.rf h
set_option maxHeartbeats 800000 in
theorem mt_howMany {la : Launch} {X : XE} {mh : Nat} {mad : Nat → Nat} {G0 : Gh} {st : MSt} (x : AS) (what : Int) (hw : i32 what) (h : MAt st x) : MM la X mh mad G0 yX2_howMany cX2_howMany 2 (some .int) 4 85 [.int (iI what)] st (fun v st' => v = some (.int (iI (sCount x what))) ∧ eqx [18, 19, 20, 21] st st') := by
  refine MG.of (by decide +kernel) (Nat.le_of_ble_eq_true rfl) ?_
  intro Z C hX hL hQ
  subst hX; subst hL
  change WW Z 2 (MOD mh mad G0 st) 0 0 0 [some (.ref mh), some (.int (iI what))] []
  obtain ⟨m1, m2, m3, m4⟩ := h
  refine r_iload_n (pc := 0) C dX2_howMany_0 rfl rfl ?_
  refine r_tcase 0 (fun h1 => ?_) (fun h1_0 => ?_)
  · refine r_tableInZ (pc := 1) (off := 43) (tgt := 44) C dX2_howMany_1 hw (by omega) (by omega) (by rw [h1]; rfl) (by decide) ?_
    refine r_aload_n (pc := 44) C dX2_howMany_44 rfl rfl ?_
    refine r_mget (pc := 45) (k := 2) C dX2_howMany_45 rfl q1174 (by decide) rfl ?_
    rw [m2.1, show (x.ws.length : Int) = sCount x what by unfold sCount; rw [if_pos (by omega)]]
    exact r_iret (pc := 48) C hQ dX2_howMany_48 (Nat.le_of_ble_eq_true rfl) (Nat.le_of_ble_eq_true rfl) (fun G hG => ⟨_, hG, ⟨rfl, eqx.rf⟩⟩)
  refine r_tcase 1 (fun h1 => ?_) (fun h1_1 => ?_)
  · refine r_tableInZ (pc := 1) (off := 48) (tgt := 49) C dX2_howMany_1 hw (by omega) (by omega) (by rw [h1]; rfl) (by decide) ?_
    refine r_aload_n (pc := 49) C dX2_howMany_49 rfl rfl ?_
    refine r_minv (pc := 50) 0 C dX2_howMany_50 (mt_closedMany x.ws m2) rfl (lw_V q1602 q1604 qs74 q92 q1605) (by decide +kernel) rfl rfl ⟨Nat.le_of_ble_eq_true rfl, Nat.le_of_ble_eq_true rfl⟩ (Nat.le_of_ble_eq_true rfl) ⟨Nat.le_of_ble_eq_true rfl, Nat.le_of_ble_eq_true rfl⟩ (fun v50 st50 h50 => ?_)
    obtain ⟨rfl, h50⟩ := h50
    exact r_iret (pc := 53) C hQ dX2_howMany_53 (Nat.le_of_ble_eq_true rfl) (Nat.le_of_ble_eq_true rfl) (fun G hG => ⟨_, hG, ⟨by unfold sCount; rw [if_neg (by omega), if_pos (by omega)], h50⟩⟩)
  refine r_tcase 2 (fun h1 => ?_) (fun h1_2 => ?_)
  · refine r_tableInZ (pc := 1) (off := 53) (tgt := 54) C dX2_howMany_1 hw (by omega) (by omega) (by rw [h1]; rfl) (by decide) ?_
    refine r_aload_n (pc := 54) C dX2_howMany_54 rfl rfl ?_
    refine r_minv (pc := 55) 0 C dX2_howMany_55 (mt_newMany x.ws m2) rfl (lw_V q1606 q1608 qs75 q92 q1609) (by decide +kernel) rfl rfl ⟨Nat.le_of_ble_eq_true rfl, Nat.le_of_ble_eq_true rfl⟩ (Nat.le_of_ble_eq_true rfl) ⟨Nat.le_of_ble_eq_true rfl, Nat.le_of_ble_eq_true rfl⟩ (fun v55 st55 h55 => ?_)
    obtain ⟨rfl, h55⟩ := h55
    exact r_iret (pc := 58) C hQ dX2_howMany_58 (Nat.le_of_ble_eq_true rfl) (Nat.le_of_ble_eq_true rfl) (fun G hG => ⟨_, hG, ⟨by unfold sCount; rw [if_neg (by omega), if_neg (by omega), if_pos (by omega)], h55⟩⟩)
  refine r_tcase 3 (fun h1 => ?_) (fun h1_3 => ?_)
  · refine r_tableInZ (pc := 1) (off := 58) (tgt := 59) C dX2_howMany_1 hw (by omega) (by omega) (by rw [h1]; rfl) (by decide) ?_
    refine r_aload_n (pc := 59) C dX2_howMany_59 rfl rfl ?_
    refine r_mget (pc := 60) (k := 0) C dX2_howMany_60 rfl q1172 (by decide) rfl ?_
    exact r_iret (pc := 63) C hQ dX2_howMany_63 (Nat.le_of_ble_eq_true rfl) (Nat.le_of_ble_eq_true rfl) (fun G hG => ⟨_, hG, ⟨by rw [m1.1]; unfold sCount; rw [if_neg (by omega), if_neg (by omega), if_neg (by omega), if_pos (by omega)], eqx.rf⟩⟩)
  refine r_tcase 4 (fun h1 => ?_) (fun h1_4 => ?_)
  · refine r_tableInZ (pc := 1) (off := 63) (tgt := 64) C dX2_howMany_1 hw (by omega) (by omega) (by rw [h1]; rfl) (by decide) ?_
    refine r_aload_n (pc := 64) C dX2_howMany_64 rfl rfl ?_
    refine r_mget (pc := 65) (k := 5) C dX2_howMany_65 rfl q1177 (by decide) rfl ?_
    exact r_iret (pc := 68) C hQ dX2_howMany_68 (Nat.le_of_ble_eq_true rfl) (Nat.le_of_ble_eq_true rfl) (fun G hG => ⟨_, hG, ⟨by rw [m4]; unfold sCount; rw [if_neg (by omega), if_neg (by omega), if_neg (by omega), if_neg (by omega), if_pos (by omega)], eqx.rf⟩⟩)
  refine r_tcase 5 (fun h1 => ?_) (fun h1_5 => ?_)
  · refine r_tableInZ (pc := 1) (off := 68) (tgt := 69) C dX2_howMany_1 hw (by omega) (by omega) (by rw [h1]; rfl) (by decide) ?_
    refine r_aload_n (pc := 69) C dX2_howMany_69 rfl rfl ?_
    refine r_mget (pc := 70) (k := 7) C dX2_howMany_70 rfl q1179 (by decide) rfl ?_
    exact r_iret (pc := 73) C hQ dX2_howMany_73 (Nat.le_of_ble_eq_true rfl) (Nat.le_of_ble_eq_true rfl) (fun G hG => ⟨_, hG, ⟨by rw [m3.nr]; unfold sCount; rw [if_neg (by omega), if_neg (by omega), if_neg (by omega), if_neg (by omega), if_neg (by omega), if_pos (by omega)], eqx.rf⟩⟩)
  refine r_tcase 6 (fun h1 => ?_) (fun h1_6 => ?_)
  · refine r_tableInZ (pc := 1) (off := 73) (tgt := 74) C dX2_howMany_1 hw (by omega) (by omega) (by rw [h1]; rfl) (by decide) ?_
    refine r_aload_n (pc := 74) C dX2_howMany_74 rfl rfl ?_
    refine r_mget (pc := 75) (k := 13) C dX2_howMany_75 rfl q1185 (by decide) rfl ?_
    exact r_iret (pc := 78) C hQ dX2_howMany_78 (Nat.le_of_ble_eq_true rfl) (Nat.le_of_ble_eq_true rfl) (fun G hG => ⟨_, hG, ⟨by rw [m3.nc]; unfold sCount; rw [if_neg (by omega), if_neg (by omega), if_neg (by omega), if_neg (by omega), if_neg (by omega), if_neg (by omega), if_pos (by omega)], eqx.rf⟩⟩)
  refine r_tableOutZ (pc := 1) (tgt := 79) C dX2_howMany_1 hw (by omega) (by decide) ?_
  refine r_ldcZ (pc := 79) (a := -2000000102) C dX2_howMany_79 rfl q1286 (by decide) ?_
  exact r_iret (pc := 81) C hQ dX2_howMany_81 (Nat.le_of_ble_eq_true rfl) (Nat.le_of_ble_eq_true rfl) (fun G hG => ⟨_, hG, ⟨by unfold sCount; rw [if_neg (by omega), if_neg (by omega), if_neg (by omega), if_neg (by omega), if_neg (by omega), if_neg (by omega), if_neg (by omega)], eqx.rf⟩⟩)
set_option maxHeartbeats 800000 in
theorem mt_count {la : Launch} {X : XE} {mh : Nat} {mad : Nat → Nat} {G0 : Gh} {st : MSt} (x : AS) (what : Int) (hw : i32 what) (h : MAt st x) : MM la X mh mad G0 yX2_count cX2_count 2 (some .int) 5 106 [.int (iI what)] st (fun v st' => v = some (.int (iI (sCount x what))) ∧ eqx tq st st') := by
  refine MG.of (by decide +kernel) (Nat.le_of_ble_eq_true rfl) ?_
  intro Z C hX hL hQ
  subst hX; subst hL
  change WW Z 2 (MOD mh mad G0 st) 0 0 0 [some (.ref mh), some (.int (iI what))] []
  refine r_aload_n (pc := 0) C dX2_count_0 rfl rfl ?_
  refine r_iload_n (pc := 1) C dX2_count_1 rfl rfl ?_
  refine r_minv (pc := 2) 1 C dX2_count_2 (mt_howMany x what hw h) rfl (lw_V q1598 q1600 qs73 q92 q1601) (by decide +kernel) rfl rfl ⟨Nat.le_of_ble_eq_true rfl, Nat.le_of_ble_eq_true rfl⟩ (Nat.le_of_ble_eq_true rfl) ⟨Nat.le_of_ble_eq_true rfl, Nat.le_of_ble_eq_true rfl⟩ (fun v2 st2 h2 => ?_)
  obtain ⟨rfl, h2⟩ := h2
  exact r_iret (pc := 5) C hQ dX2_count_5 (Nat.le_of_ble_eq_true rfl) (Nat.le_of_ble_eq_true rfl) (fun G hG => ⟨_, hG, ⟨rfl, h2.wk (by decide)⟩⟩)
set_option maxHeartbeats 800000 in
theorem mt_mix {la : Launch} {X : XE} {mh : Nat} {mad : Nat → Nat} {G0 : Gh} {st : MSt} (v : Int) : MM la X mh mad G0 yX2_mix cX2_mix 3 none 0 0 [.long (lI v)] st (fun w st' => w = none ∧ st' = iput st 34 (31 * st.1 34 + v)) := by
  refine MG.of (by decide +kernel) (Nat.le_of_ble_eq_true rfl) ?_
  intro Z C hX hL hQ
  subst hX; subst hL
  change WW Z 3 (MOD mh mad G0 st) 0 0 0 [some (.ref mh), some (.long (lI v)), none] []
  refine r_aload_n (pc := 0) C dX2_mix_0 rfl rfl ?_
  refine r_ldc2Z (pc := 1) (a := 31) C dX2_mix_1 rfl q1623 (by decide) ?_
  refine r_aload_n (pc := 4) C dX2_mix_4 rfl rfl ?_
  refine r_mget (pc := 5) (k := 34) C dX2_mix_5 rfl q1206 (by decide) rfl ?_
  refine r_lmulZ (pc := 8) C dX2_mix_8 ?_
  refine r_lload_n (pc := 9) C dX2_mix_9 rfl rfl ?_
  refine r_laddZ (pc := 10) C dX2_mix_10 ?_
  refine r_mput (pc := 11) (k := 34) (ty := .long) C dX2_mix_11 rfl q1206 (by decide) rfl (by decide +kernel) rfl rfl (ms_34 mad _ _) rfl (Or.inl rfl) ?_
  exact r_vret (pc := 14) C hQ dX2_mix_14 (Nat.le_of_ble_eq_true rfl) (Nat.le_of_ble_eq_true rfl) (fun G hG => ⟨_, hG, ⟨rfl, rfl⟩⟩)
/-- h after a row of numbers; nothing else changed that is kept -/
def Mix (st st' : MSt) (l : List Int) : Prop := st'.1 34 = mixL l (st.1 34) ∧ eqx tq st st'
theorem Mix.nil (st : MSt) : Mix st st [] := ⟨rfl, eqx.rf⟩
theorem Mix.tr {a b c : MSt} {l m : List Int} (h1 : Mix a b l) (h2 : Mix b c m) : Mix a c (l ++ m) := ⟨by rw [h2.1, h1.1, mixL_app], h1.2.tr h2.2⟩
theorem Mix.q {a b c : MSt} {l : List Int} (h1 : Mix a b l) (h2 : eqx tq b c) (h3 : c.1 34 = b.1 34) : Mix a c l := ⟨h3.trans h1.1, h1.2.tr h2⟩
theorem Mix.one {a b : MSt} {l : List Int} {v : Int} (h1 : Mix a b l) : Mix a (iput b 34 (31 * b.1 34 + w32 v)) (l ++ [v]) := ⟨by rw [iput_eq, mixL_app, h1.1]; rfl, h1.2.iput (by decide)⟩
theorem Mix.qone {ks : List Nat} {a b c : MSt} {l : List Int} {v : Int} (h1 : Mix a b l) (h2 : eqx ks b c) (h3 : 34 ∉ ks) (h4 : ∀ k, k ∈ ks → k ∈ tq) : Mix a (iput c 34 (31 * c.1 34 + w32 v)) (l ++ [v]) := (h1.q (h2.wk h4) (h2 34 h3).1).one
theorem Mix.row {ks : List Nat} {a b c : MSt} {f : Nat → Int} {n : Nat} {v : Int} {l : List Int} (h1 : Mix a b (l ++ rowL f n)) (h2 : eqx ks b c) (h3 : 34 ∉ ks) (h4 : ∀ k, k ∈ ks → k ∈ tq) (hv : v = f n) : Mix a (iput c 34 (31 * c.1 34 + w32 v)) (l ++ rowL f (n + 1)) := by
  rw [rowL_s, ← List.append_assoc, hv]
  exact h1.qone h2 h3 h4
theorem RoadIs.mx {a b : MSt} {l : List Int} {r : Int} {w : List Bool} (h : RoadIs a r w) (m : Mix a b l) : RoadIs b r w := h.x m.2 (by decide) (by decide)

