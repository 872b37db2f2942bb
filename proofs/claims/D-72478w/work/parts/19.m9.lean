/-! the reference's methods: cut, letters, words read -/
set_option maxRecDepth 100000
set_option maxHeartbeats 800000 in
theorem mt_layCut {la : Launch} {X : XE} {mh : Nat} {mad : Nat → Nat} {G0 : Gh} {st : MSt} (p q : Nat) (hp : 1 ≤ p ∧ p ≤ 99) (hq : 1 ≤ q ∧ q ≤ 99) : MM la X mh mad G0 yX2_layCut cX2_layCut 7 (some .int) 0 0 [.int (iI p), .int (iI q)] st (fun v st' => v = some (.int (iI ((cutW p q).length : Int))) ∧ NewAt st' ((cutW p q).take 20) ∧ eqx [15, 16] st st') := by
  refine MG.of (by decide +kernel) (Nat.le_of_ble_eq_true rfl) ?_
  intro Z C hX hL hQ
  subst hX; subst hL
  change WW Z 7 (MOD mh mad G0 st) 0 0 0 [some (.ref mh), some (.int (iI p)), some (.int (iI q)), none, none, none, none] []
  have loop : ∀ (m x y' : Nat) (u : List Bool) (sti : MSt) (v6 : Option Value), x + y' ≤ m → (1 ≤ x ∧ x ≤ 99) → (1 ≤ y' ∧ y' ≤ 99) → u.length + x + y' ≤ 198 → cutW p q = u ++ cutW x y' → eqx [15, 16] st sti → NewAt sti (u.take 20) → WW Z 7 (MOD mh mad G0 sti) 0 0 13 [some (.ref mh), some (.int (iI p)), some (.int (iI q)), some (.int (iI x)), some (.int (iI y')), some (.int (iI u.length)), v6] [] := by
    intro m
    induction m with
    | zero => intro x y' u sti v6 h1 h2 h3; omega
    | succ m ih =>
      intro x y' u sti v6 h1 hx hy hu hc g1 g2
      have hce := cutW_eq hx.1 hy.1
      have next : ∀ (b : Bool) (stj : MSt), x ≠ y' → b = decide (y' < x) → eqx [15, 16] st stj → NewAt stj ((u ++ [b]).take 20) → WW Z 7 (MOD mh mad G0 stj) 0 0 66 [some (.ref mh), some (.int (iI p)), some (.int (iI q)), some (.int (iI x)), some (.int (iI y')), some (.int (iI u.length)), some (.int (iI (bi b)))] [] := by
        intro b stj hne hb e1 e2
        have way1 : bi b ≠ 0 → WW Z 7 (MOD mh mad G0 stj) 0 0 81 [some (.ref mh), some (.int (iI p)), some (.int (iI q)), some (.int (iI x)), some (.int (iI y')), some (.int (iI ((u.length : Int) + 1))), some (.int (iI (bi b)))] [.int (iI y'), .int (iI x)] := by
          intro h72
          refine r_isubZ (pc := 81) C dX2_layCut_81 ?_
          refine r_istore_n (pc := 82) C dX2_layCut_82 rfl (by decide) ?_
          refine r_iload (pc := 83) C dX2_layCut_83 rfl ?_
          refine r_iload (pc := 85) C dX2_layCut_85 rfl ?_
          refine r_if_eqZ (pc := 87) (tgt := 94) C dX2_layCut_87 (by decide) (bi_i _) (fun h87 => absurd h87 (by omega)) (fun h87 => ?_)
          refine r_iconstZ (pc := 90) C dX2_layCut_90 ?_
          refine r_goto (pc := 91) (tgt := 95) C dX2_layCut_91 (by decide) ?_
          refine r_isubZ (pc := 95) C dX2_layCut_95 ?_
          refine r_istore (pc := 96) C dX2_layCut_96 (by decide) ?_
          refine r_goto (pc := 98) (tgt := 13) C dX2_layCut_98 (by decide) ?_
          have hbt := (bi_n0 h72)
          rw [hbt] at hb
          have hlt : y' < x := of_decide_eq_true hb.symm
          rw [if_neg hne, if_pos hlt] at hce
          have I := ih (x - y') y' (u ++ [true]) stj (some (.int (iI (bi b)))) (by omega) (by omega) hy (by rw [List.length_append]; simp; omega) (by rw [hc, hce, List.append_assoc]; rfl) e1 (by rw [hbt] at e2; exact e2)
          rw [show ((x - y' : Nat) : Int) = (x : Int) - y' by omega, show (((u ++ [true]).length : Nat) : Int) = (u.length : Int) + 1 by simp] at I
          rw [show ((y' : Int) - 0) = y' by omega]
          exact I
        have way0 : bi b = 0 → WW Z 7 (MOD mh mad G0 stj) 0 0 81 [some (.ref mh), some (.int (iI p)), some (.int (iI q)), some (.int (iI x)), some (.int (iI y')), some (.int (iI ((u.length : Int) + 1))), some (.int (iI (bi b)))] [.int (iI 0), .int (iI x)] := by
          intro h72
          refine r_isubZ (pc := 81) C dX2_layCut_81 ?_
          refine r_istore_n (pc := 82) C dX2_layCut_82 rfl (by decide) ?_
          refine r_iload (pc := 83) C dX2_layCut_83 rfl ?_
          refine r_iload (pc := 85) C dX2_layCut_85 rfl ?_
          refine r_if_eqZ (pc := 87) (tgt := 94) C dX2_layCut_87 (by decide) (bi_i _) (fun h87 => ?_) (fun h87 => absurd h87 (by omega))
          refine r_iload_n (pc := 94) C dX2_layCut_94 rfl rfl ?_
          refine r_isubZ (pc := 95) C dX2_layCut_95 ?_
          refine r_istore (pc := 96) C dX2_layCut_96 (by decide) ?_
          refine r_goto (pc := 98) (tgt := 13) C dX2_layCut_98 (by decide) ?_
          have hbt := (bi_0.mp h72)
          rw [hbt] at hb
          have hlt : ¬ y' < x := of_decide_eq_false hb.symm
          rw [if_neg hne, if_neg hlt] at hce
          have I := ih x (y' - x) (u ++ [false]) stj (some (.int (iI (bi b)))) (by omega) hx (by omega) (by rw [List.length_append]; simp; omega) (by rw [hc, hce, List.append_assoc]; rfl) e1 (by rw [hbt] at e2; exact e2)
          rw [show ((y' - x : Nat) : Int) = (y' : Int) - x by omega, show (((u ++ [false]).length : Nat) : Int) = (u.length : Int) + 1 by simp] at I
          rw [show ((x : Int) - 0) = x by omega]
          exact I
        refine r_iincZ (pc := 66) C dX2_layCut_66 rfl (by decide) ?_
        refine r_iload_n (pc := 69) C dX2_layCut_69 rfl rfl ?_
        refine r_iload (pc := 70) C dX2_layCut_70 rfl ?_
        refine r_if_eqZ (pc := 72) (tgt := 80) C dX2_layCut_72 (by decide) (bi_i _) (fun h72 => ?_) (fun h72 => ?_)
        · refine r_iconstZ (pc := 80) C dX2_layCut_80 ?_
          first | exact way1 h72 | exact way0 h72
        · refine r_iload (pc := 75) C dX2_layCut_75 rfl ?_
          refine r_goto (pc := 77) (tgt := 81) C dX2_layCut_77 (by decide) ?_
          first | exact way1 h72 | exact way0 h72
      have full : ∀ b : Bool, 20 ≤ u.length → (u ++ [b]).take 20 = u.take 20 := fun b h => by rw [List.take_append_of_le_length h]
      have more : ∀ (b : Bool), u.length < 20 → NewAt (iput (aput sti 16 (u.length : Int) (bi b)) 15 ((u.length : Int) + 1)) ((u ++ [b]).take 20) := by
        intro b h
        rw [List.take_of_length_le (by rw [List.length_append]; simp; omega)]
        rw [List.take_of_length_le (by omega)] at g2
        exact g2.push h b
      refine r_iload_n (pc := 13) C dX2_layCut_13 rfl rfl ?_
      refine r_iload (pc := 14) C dX2_layCut_14 rfl ?_
      refine r_icmp_eqZ (pc := 16) (tgt := 101) C dX2_layCut_16 (by decide) (by unfold i32; omega) (by unfold i32; omega) (fun h16 => ?_) (fun h16 => ?_)
      · refine r_iload (pc := 101) C dX2_layCut_101 rfl ?_
        exact r_iret (pc := 103) C hQ dX2_layCut_103 (Nat.le_of_ble_eq_true rfl) (Nat.le_of_ble_eq_true rfl) (fun G hG => ⟨_, hG, ⟨by rw [hc, hce, if_pos (by omega), List.append_nil], by rw [hc, hce, if_pos (by omega), List.append_nil]; exact g2, g1⟩⟩)
      · refine r_iload_n (pc := 19) C dX2_layCut_19 rfl rfl ?_
        refine r_iload (pc := 20) C dX2_layCut_20 rfl ?_
        refine r_icmp_leZ (pc := 22) (tgt := 29) C dX2_layCut_22 (by decide) (by unfold i32; omega) (by unfold i32; omega) (fun h22 => ?_) (fun h22 => ?_)
        · refine r_iconstZ (pc := 29) C dX2_layCut_29 ?_
          refine r_istore (pc := 30) C dX2_layCut_30 (by decide) ?_
          refine r_iload (pc := 32) C dX2_layCut_32 rfl ?_
          refine r_bipushZ (pc := 34) C dX2_layCut_34 (by decide) ?_
          refine r_icmp_geZ (pc := 36) (tgt := 66) C dX2_layCut_36 (by decide) (by unfold i32; omega) (by unfold i32; omega) (fun h36 => ?_) (fun h36 => ?_)
          · first | exact absurd h47 (by decide) | exact absurd rfl h47 | exact next true _ (by omega) (decide_eq_true (by omega)).symm g1 (by rw [full _ (by omega)]; exact g2) | exact next false _ (by omega) (decide_eq_false (by omega)).symm g1 (by rw [full _ (by omega)]; exact g2) | exact next true _ (by omega) (decide_eq_true (by omega)).symm ((g1.aput (k := 16) (by decide)).iput (k := 15) (by decide)) (more true (by omega)) | exact next false _ (by omega) (decide_eq_false (by omega)).symm ((g1.aput (k := 16) (by decide)).iput (k := 15) (by decide)) (more false (by omega))
          · refine r_aload_n (pc := 39) C dX2_layCut_39 rfl rfl ?_
            refine r_mget (pc := 40) (k := 16) C dX2_layCut_40 rfl q1188 (by decide) rfl ?_
            refine r_iload (pc := 43) C dX2_layCut_43 rfl ?_
            refine r_iload (pc := 45) C dX2_layCut_45 rfl ?_
            refine r_if_eqZ (pc := 47) (tgt := 54) C dX2_layCut_47 (by decide) (by unfold i32; omega) (fun h47 => ?_) (fun h47 => ?_)
            · refine r_iconstZ (pc := 54) C dX2_layCut_54 ?_
              refine r_mast (pc := 55) (L := 20) C dX2_layCut_55 (by decide) rfl (by omega) (by omega) ?_
              refine r_aload_n (pc := 56) C dX2_layCut_56 rfl rfl ?_
              refine r_dup (pc := 57) C dX2_layCut_57 rfl ?_
              refine r_mget (pc := 58) (k := 15) C dX2_layCut_58 rfl q1187 (by decide) rfl ?_
              skip
              rw [show ∀ z : Int, (aput sti 16 (u.length : Int) z).1 15 = (u.length : Int) from fun z => g2.1.trans (by rw [List.length_take]; omega)]
              refine r_iconstZ (pc := 61) C dX2_layCut_61 ?_
              refine r_iaddZ (pc := 62) C dX2_layCut_62 ?_
              refine r_mput (pc := 63) (k := 15) (ty := .int) C dX2_layCut_63 rfl q1187 (by decide) rfl (by decide +kernel) rfl rfl (ms_15 mad _ _) rfl (Or.inl rfl) ?_
              first | exact absurd h47 (by decide) | exact absurd rfl h47 | exact next true _ (by omega) (decide_eq_true (by omega)).symm g1 (by rw [full _ (by omega)]; exact g2) | exact next false _ (by omega) (decide_eq_false (by omega)).symm g1 (by rw [full _ (by omega)]; exact g2) | exact next true _ (by omega) (decide_eq_true (by omega)).symm ((g1.aput (k := 16) (by decide)).iput (k := 15) (by decide)) (more true (by omega)) | exact next false _ (by omega) (decide_eq_false (by omega)).symm ((g1.aput (k := 16) (by decide)).iput (k := 15) (by decide)) (more false (by omega))
            · refine r_iconstZ (pc := 50) C dX2_layCut_50 ?_
              refine r_goto (pc := 51) (tgt := 55) C dX2_layCut_51 (by decide) ?_
              refine r_mast (pc := 55) (L := 20) C dX2_layCut_55 (by decide) rfl (by omega) (by omega) ?_
              refine r_aload_n (pc := 56) C dX2_layCut_56 rfl rfl ?_
              refine r_dup (pc := 57) C dX2_layCut_57 rfl ?_
              refine r_mget (pc := 58) (k := 15) C dX2_layCut_58 rfl q1187 (by decide) rfl ?_
              skip
              rw [show ∀ z : Int, (aput sti 16 (u.length : Int) z).1 15 = (u.length : Int) from fun z => g2.1.trans (by rw [List.length_take]; omega)]
              refine r_iconstZ (pc := 61) C dX2_layCut_61 ?_
              refine r_iaddZ (pc := 62) C dX2_layCut_62 ?_
              refine r_mput (pc := 63) (k := 15) (ty := .int) C dX2_layCut_63 rfl q1187 (by decide) rfl (by decide +kernel) rfl rfl (ms_15 mad _ _) rfl (Or.inl rfl) ?_
              first | exact absurd h47 (by decide) | exact absurd rfl h47 | exact next true _ (by omega) (decide_eq_true (by omega)).symm g1 (by rw [full _ (by omega)]; exact g2) | exact next false _ (by omega) (decide_eq_false (by omega)).symm g1 (by rw [full _ (by omega)]; exact g2) | exact next true _ (by omega) (decide_eq_true (by omega)).symm ((g1.aput (k := 16) (by decide)).iput (k := 15) (by decide)) (more true (by omega)) | exact next false _ (by omega) (decide_eq_false (by omega)).symm ((g1.aput (k := 16) (by decide)).iput (k := 15) (by decide)) (more false (by omega))
        · refine r_iconstZ (pc := 25) C dX2_layCut_25 ?_
          refine r_goto (pc := 26) (tgt := 30) C dX2_layCut_26 (by decide) ?_
          refine r_istore (pc := 30) C dX2_layCut_30 (by decide) ?_
          refine r_iload (pc := 32) C dX2_layCut_32 rfl ?_
          refine r_bipushZ (pc := 34) C dX2_layCut_34 (by decide) ?_
          refine r_icmp_geZ (pc := 36) (tgt := 66) C dX2_layCut_36 (by decide) (by unfold i32; omega) (by unfold i32; omega) (fun h36 => ?_) (fun h36 => ?_)
          · first | exact absurd h47 (by decide) | exact absurd rfl h47 | exact next true _ (by omega) (decide_eq_true (by omega)).symm g1 (by rw [full _ (by omega)]; exact g2) | exact next false _ (by omega) (decide_eq_false (by omega)).symm g1 (by rw [full _ (by omega)]; exact g2) | exact next true _ (by omega) (decide_eq_true (by omega)).symm ((g1.aput (k := 16) (by decide)).iput (k := 15) (by decide)) (more true (by omega)) | exact next false _ (by omega) (decide_eq_false (by omega)).symm ((g1.aput (k := 16) (by decide)).iput (k := 15) (by decide)) (more false (by omega))
          · refine r_aload_n (pc := 39) C dX2_layCut_39 rfl rfl ?_
            refine r_mget (pc := 40) (k := 16) C dX2_layCut_40 rfl q1188 (by decide) rfl ?_
            refine r_iload (pc := 43) C dX2_layCut_43 rfl ?_
            refine r_iload (pc := 45) C dX2_layCut_45 rfl ?_
            refine r_if_eqZ (pc := 47) (tgt := 54) C dX2_layCut_47 (by decide) (by unfold i32; omega) (fun h47 => ?_) (fun h47 => ?_)
            · refine r_iconstZ (pc := 54) C dX2_layCut_54 ?_
              refine r_mast (pc := 55) (L := 20) C dX2_layCut_55 (by decide) rfl (by omega) (by omega) ?_
              refine r_aload_n (pc := 56) C dX2_layCut_56 rfl rfl ?_
              refine r_dup (pc := 57) C dX2_layCut_57 rfl ?_
              refine r_mget (pc := 58) (k := 15) C dX2_layCut_58 rfl q1187 (by decide) rfl ?_
              skip
              rw [show ∀ z : Int, (aput sti 16 (u.length : Int) z).1 15 = (u.length : Int) from fun z => g2.1.trans (by rw [List.length_take]; omega)]
              refine r_iconstZ (pc := 61) C dX2_layCut_61 ?_
              refine r_iaddZ (pc := 62) C dX2_layCut_62 ?_
              refine r_mput (pc := 63) (k := 15) (ty := .int) C dX2_layCut_63 rfl q1187 (by decide) rfl (by decide +kernel) rfl rfl (ms_15 mad _ _) rfl (Or.inl rfl) ?_
              first | exact absurd h47 (by decide) | exact absurd rfl h47 | exact next true _ (by omega) (decide_eq_true (by omega)).symm g1 (by rw [full _ (by omega)]; exact g2) | exact next false _ (by omega) (decide_eq_false (by omega)).symm g1 (by rw [full _ (by omega)]; exact g2) | exact next true _ (by omega) (decide_eq_true (by omega)).symm ((g1.aput (k := 16) (by decide)).iput (k := 15) (by decide)) (more true (by omega)) | exact next false _ (by omega) (decide_eq_false (by omega)).symm ((g1.aput (k := 16) (by decide)).iput (k := 15) (by decide)) (more false (by omega))
            · refine r_iconstZ (pc := 50) C dX2_layCut_50 ?_
              refine r_goto (pc := 51) (tgt := 55) C dX2_layCut_51 (by decide) ?_
              refine r_mast (pc := 55) (L := 20) C dX2_layCut_55 (by decide) rfl (by omega) (by omega) ?_
              refine r_aload_n (pc := 56) C dX2_layCut_56 rfl rfl ?_
              refine r_dup (pc := 57) C dX2_layCut_57 rfl ?_
              refine r_mget (pc := 58) (k := 15) C dX2_layCut_58 rfl q1187 (by decide) rfl ?_
              skip
              rw [show ∀ z : Int, (aput sti 16 (u.length : Int) z).1 15 = (u.length : Int) from fun z => g2.1.trans (by rw [List.length_take]; omega)]
              refine r_iconstZ (pc := 61) C dX2_layCut_61 ?_
              refine r_iaddZ (pc := 62) C dX2_layCut_62 ?_
              refine r_mput (pc := 63) (k := 15) (ty := .int) C dX2_layCut_63 rfl q1187 (by decide) rfl (by decide +kernel) rfl rfl (ms_15 mad _ _) rfl (Or.inl rfl) ?_
              first | exact absurd h47 (by decide) | exact absurd rfl h47 | exact next true _ (by omega) (decide_eq_true (by omega)).symm g1 (by rw [full _ (by omega)]; exact g2) | exact next false _ (by omega) (decide_eq_false (by omega)).symm g1 (by rw [full _ (by omega)]; exact g2) | exact next true _ (by omega) (decide_eq_true (by omega)).symm ((g1.aput (k := 16) (by decide)).iput (k := 15) (by decide)) (more true (by omega)) | exact next false _ (by omega) (decide_eq_false (by omega)).symm ((g1.aput (k := 16) (by decide)).iput (k := 15) (by decide)) (more false (by omega))
  refine r_iload_n (pc := 0) C dX2_layCut_0 rfl rfl ?_
  refine r_istore_n (pc := 1) C dX2_layCut_1 rfl (by decide) ?_
  refine r_iload_n (pc := 2) C dX2_layCut_2 rfl rfl ?_
  refine r_istore (pc := 3) C dX2_layCut_3 (by decide) ?_
  refine r_iconstZ (pc := 5) C dX2_layCut_5 ?_
  refine r_istore (pc := 6) C dX2_layCut_6 (by decide) ?_
  refine r_aload_n (pc := 8) C dX2_layCut_8 rfl rfl ?_
  refine r_iconstZ (pc := 9) C dX2_layCut_9 ?_
  refine r_mput (pc := 10) (k := 15) (ty := .int) C dX2_layCut_10 rfl q1187 (by decide) rfl (by decide +kernel) rfl rfl (ms_15 mad _ _) rfl (Or.inl rfl) ?_
  exact loop (p + q) p q [] _ _ (Nat.le_refl _) hp hq (by simp; omega) rfl (eqx.rf.iput (by decide)) (NewAt.zero _)
set_option maxHeartbeats 800000 in
theorem mt_cut {la : Launch} {X : XE} {mh : Nat} {mad : Nat → Nat} {G0 : Gh} {st : MSt} (ws : Wss) (p q : Int) (hp : i32 p) (hq : i32 q) (h : RoadsAre st ws) : MM la X mh mad G0 yX2_cut cX2_cut 3 (some .int) 2 44 [.int (iI p), .int (iI q)] st (fun v st' => v = some (.int (iI (sCut ws p q).1)) ∧ RoadsAre st' (sCut ws p q).2 ∧ eqx (2 :: 3 :: 4 :: tq) st st') := by
  refine MG.of (by decide +kernel) (Nat.le_of_ble_eq_true rfl) ?_
  intro Z C hX hL hQ
  subst hX; subst hL
  change WW Z 3 (MOD mh mad G0 st) 0 0 0 [some (.ref mh), some (.int (iI p)), some (.int (iI q))] []
  have hl6 := h.2.1
  refine r_iload_n (pc := 0) C dX2_cut_0 rfl rfl ?_
  refine r_iconstZ (pc := 1) C dX2_cut_1 ?_
  refine r_bipushZ (pc := 2) C dX2_cut_2 (by decide) ?_
  refine r_invP (pc := 4) 3 C dX2_cut_4 (pf_within p 1 99 hp (by unfold i32; omega) (by unfold i32; omega)) rfl (lw_S q1283 q1284 q92 q1285) (by decide +kernel) rfl rfl ⟨Nat.le_of_ble_eq_true rfl, Nat.le_of_ble_eq_true rfl⟩ (Nat.le_of_ble_eq_true rfl) ⟨Nat.le_of_ble_eq_true rfl, Nat.le_of_ble_eq_true rfl⟩ ?_
  refine r_if_eqB (pc := 7) (tgt := 34) C dX2_cut_7 (by decide)  (fun h7 => ?_) (fun h7 => ?_)
  · refine r_ldcZ (pc := 34) (a := -2000000102) C dX2_cut_34 rfl q1286 (by decide) ?_
    exact r_iret (pc := 36) C hQ dX2_cut_36 (Nat.le_of_ble_eq_true rfl) (Nat.le_of_ble_eq_true rfl) (fun G hG => ⟨_, hG, ⟨by unfold sCut; rw [if_neg (by first | omega | (unfold igcd at *; omega))], by unfold sCut; rw [if_neg (by first | omega | (unfold igcd at *; omega))]; exact h, eqx.rf⟩⟩)
  · refine r_iload_n (pc := 10) C dX2_cut_10 rfl rfl ?_
    refine r_iconstZ (pc := 11) C dX2_cut_11 ?_
    refine r_bipushZ (pc := 12) C dX2_cut_12 (by decide) ?_
    refine r_invP (pc := 14) 3 C dX2_cut_14 (pf_within q 1 99 hq (by unfold i32; omega) (by unfold i32; omega)) rfl (lw_S q1283 q1284 q92 q1285) (by decide +kernel) rfl rfl ⟨Nat.le_of_ble_eq_true rfl, Nat.le_of_ble_eq_true rfl⟩ (Nat.le_of_ble_eq_true rfl) ⟨Nat.le_of_ble_eq_true rfl, Nat.le_of_ble_eq_true rfl⟩ ?_
    refine r_if_eqB (pc := 17) (tgt := 34) C dX2_cut_17 (by decide)  (fun h17 => ?_) (fun h17 => ?_)
    · refine r_ldcZ (pc := 34) (a := -2000000102) C dX2_cut_34 rfl q1286 (by decide) ?_
      exact r_iret (pc := 36) C hQ dX2_cut_36 (Nat.le_of_ble_eq_true rfl) (Nat.le_of_ble_eq_true rfl) (fun G hG => ⟨_, hG, ⟨by unfold sCut; rw [if_neg (by first | omega | (unfold igcd at *; omega))], by unfold sCut; rw [if_neg (by first | omega | (unfold igcd at *; omega))]; exact h, eqx.rf⟩⟩)
    · refine r_iload_n (pc := 20) C dX2_cut_20 rfl rfl ?_
      refine r_iload_n (pc := 21) C dX2_cut_21 rfl rfl ?_
      refine r_invP (pc := 22) 2 C dX2_cut_22 (pf_common p q (by unfold i32; omega) (by unfold i32; omega)) rfl (lw_S q1402 q1403 q92 q1404) (by decide +kernel) rfl rfl ⟨Nat.le_of_ble_eq_true rfl, Nat.le_of_ble_eq_true rfl⟩ (Nat.le_of_ble_eq_true rfl) ⟨Nat.le_of_ble_eq_true rfl, Nat.le_of_ble_eq_true rfl⟩ ?_
      have hg := igcd_le (a := p) (b := q) (by omega)
      refine r_iconstZ (pc := 25) C dX2_cut_25 ?_
      refine r_icmp_gtZ (pc := 26) (tgt := 34) C dX2_cut_26 (by decide) (by unfold igcd i32; omega) (by unfold i32; omega) (fun h26 => ?_) (fun h26 => ?_)
      · refine r_ldcZ (pc := 34) (a := -2000000102) C dX2_cut_34 rfl q1286 (by decide) ?_
        exact r_iret (pc := 36) C hQ dX2_cut_36 (Nat.le_of_ble_eq_true rfl) (Nat.le_of_ble_eq_true rfl) (fun G hG => ⟨_, hG, ⟨by unfold sCut; rw [if_neg (by first | omega | (unfold igcd at *; omega))], by unfold sCut; rw [if_neg (by first | omega | (unfold igcd at *; omega))]; exact h, eqx.rf⟩⟩)
      · refine r_iload_n (pc := 29) C dX2_cut_29 rfl rfl ?_
        refine r_iload_n (pc := 30) C dX2_cut_30 rfl rfl ?_
        refine r_icmp_neZ (pc := 31) (tgt := 37) C dX2_cut_31 (by decide) (by unfold i32; omega) (by unfold i32; omega) (fun h31 => ?_) (fun h31 => ?_)
        · have hyes : (1 ≤ p ∧ p ≤ 99) ∧ (1 ≤ q ∧ q ≤ 99) ∧ ((Int.gcd p q : Nat) : Int) ≤ 1 ∧ p ≠ q := ⟨h7, h17, h26, h31⟩
          refine r_aload_n (pc := 37) C dX2_cut_37 rfl rfl ?_
          refine r_iload_n (pc := 38) C dX2_cut_38 rfl rfl ?_
          refine r_iload_n (pc := 39) C dX2_cut_39 rfl rfl ?_
          rw [show p = ((p.toNat : Nat) : Int) by omega, show q = ((q.toNat : Nat) : Int) by omega]
          refine r_minv (pc := 40) 2 C dX2_cut_40 (mt_layCut p.toNat q.toNat (by omega) (by omega)) rfl (lw_V q1471 q1473 qs54 q92 q1474) (by decide +kernel) rfl rfl ⟨Nat.le_of_ble_eq_true rfl, Nat.le_of_ble_eq_true rfl⟩ (Nat.le_of_ble_eq_true rfl) ⟨Nat.le_of_ble_eq_true rfl, Nat.le_of_ble_eq_true rfl⟩ (fun v40 st40 h40 => ?_)
          obtain ⟨rfl, h40a, h40b⟩ := h40
          have h40c := h.x h40b (by decide) (by decide) (by decide)
          have hcw : 0 < (cutW p.toNat q.toNat).length := (by rw [cutW_eq (by omega) (by omega), if_neg (by omega)]; split <;> simp)
          have hlw : (cutW p.toNat q.toNat).length ≤ 198 := cutW_le _ _ (by omega) (by omega)
          refine r_bipushZ (pc := 43) C dX2_cut_43 (by decide) ?_
          refine r_icmp_leZ (pc := 45) (tgt := 51) C dX2_cut_45 (by decide) (by unfold i32; omega) (by unfold i32; omega) (fun h45 => ?_) (fun h45 => ?_)
          · refine r_aload_n (pc := 51) C dX2_cut_51 rfl rfl ?_
            refine r_mget (pc := 52) (k := 2) C dX2_cut_52 rfl q1174 (by decide) rfl ?_
            rw [h40c.1]
            refine r_bipushZ (pc := 55) C dX2_cut_55 (by decide) ?_
            refine r_icmp_neZ (pc := 57) (tgt := 65) C dX2_cut_57 (by decide) (by unfold i32; omega) (by unfold i32; omega) (fun h57 => ?_) (fun h57 => ?_)
            · refine r_aload_n (pc := 65) C dX2_cut_65 rfl rfl ?_
              refine r_minv (pc := 66) 0 C dX2_cut_66 (mt_keepNew ws (cutW p.toNat q.toNat) (by omega) hcw h40c (by rw [List.take_of_length_le (by omega)] at h40a; exact h40a)) rfl (lw_V q1309 q1311 qs29 q92 q1312) (by decide +kernel) rfl rfl ⟨Nat.le_of_ble_eq_true rfl, Nat.le_of_ble_eq_true rfl⟩ (Nat.le_of_ble_eq_true rfl) ⟨Nat.le_of_ble_eq_true rfl, Nat.le_of_ble_eq_true rfl⟩ (fun v66 st66 h66 => ?_)
              obtain ⟨rfl, h66a, h66b⟩ := h66
              exact r_iret (pc := 69) C hQ dX2_cut_69 (Nat.le_of_ble_eq_true rfl) (Nat.le_of_ble_eq_true rfl) (fun G hG => ⟨_, hG, ⟨by unfold sCut sCome; first | rw [if_pos hyes, if_neg (by omega), if_pos (by omega)] | rw [if_pos hyes, if_neg (by omega), if_neg (by omega)], by unfold sCut sCome; first | (rw [if_pos hyes, if_neg (by omega), if_pos (by omega)]; exact h40c) | (rw [if_pos hyes, if_neg (by omega), if_neg (by omega)]; exact h66a), by first | exact (h40b.wk (by decide)).tr (h66b.wk (by decide)) | exact h40b.wk (by decide)⟩⟩)
            · refine r_ldcZ (pc := 60) (a := -2000000104) C dX2_cut_60 rfl q1287 (by decide) ?_
              refine r_goto (pc := 62) (tgt := 69) C dX2_cut_62 (by decide) ?_
              exact r_iret (pc := 69) C hQ dX2_cut_69 (Nat.le_of_ble_eq_true rfl) (Nat.le_of_ble_eq_true rfl) (fun G hG => ⟨_, hG, ⟨by unfold sCut sCome; first | rw [if_pos hyes, if_neg (by omega), if_pos (by omega)] | rw [if_pos hyes, if_neg (by omega), if_neg (by omega)], by unfold sCut sCome; first | (rw [if_pos hyes, if_neg (by omega), if_pos (by omega)]; exact h40c) | (rw [if_pos hyes, if_neg (by omega), if_neg (by omega)]; exact h66a), by first | exact (h40b.wk (by decide)).tr (h66b.wk (by decide)) | exact h40b.wk (by decide)⟩⟩)
          · refine r_ldcZ (pc := 48) (a := -2000000103) C dX2_cut_48 rfl q1308 (by decide) ?_
            exact r_iret (pc := 50) C hQ dX2_cut_50 (Nat.le_of_ble_eq_true rfl) (Nat.le_of_ble_eq_true rfl) (fun G hG => ⟨_, hG, ⟨by unfold sCut sCome; rw [if_pos hyes, if_pos (by omega)], by unfold sCut sCome; rw [if_pos hyes, if_pos (by omega)]; exact h40c, h40b.wk (by decide)⟩⟩)
        · refine r_ldcZ (pc := 34) (a := -2000000102) C dX2_cut_34 rfl q1286 (by decide) ?_
          exact r_iret (pc := 36) C hQ dX2_cut_36 (Nat.le_of_ble_eq_true rfl) (Nat.le_of_ble_eq_true rfl) (fun G hG => ⟨_, hG, ⟨by unfold sCut; rw [if_neg (by first | omega | (unfold igcd at *; omega))], by unfold sCut; rw [if_neg (by first | omega | (unfold igcd at *; omega))]; exact h, eqx.rf⟩⟩)
theorem PageAt.push {st : MSt} {pg : List Nat} (h : PageAt st pg) (hl : pg.length < 20) {c : Int} (hc : 32 ≤ c ∧ c ≤ 126) : PageAt (iput (aput st 1 (pg.length : Int) c) 0 ((pg.length : Int) + 1)) (pg ++ [c.toNat]) := by
  refine ⟨(iput_eq _ _ _).trans (by simp), by rw [List.length_append]; simp; omega, fun j hj => ?_⟩
  have hj2 : j < pg.length + 1 := by simpa using hj
  rw [iput_2, List.getD_eq_getElem?_getD, List.getElem?_append]
  by_cases e : j < pg.length
  · rw [if_pos e, aput_nj _ _ _ (by omega), ← List.getD_eq_getElem?_getD]
    exact h.2.2 j e
  · have e2 : j = pg.length := by omega
    subst e2
    rw [if_neg e, aput_eq, Nat.sub_self]
    simp
    omega
def sLetter (pg : List Nat) (c : Int) : Int × List Nat := if 32 ≤ c ∧ c ≤ 126 then (if pg.length = 20 then (FUL, pg) else ((pg.length : Int) + 1, pg ++ [c.toNat])) else (OUT, pg)
set_option maxHeartbeats 800000 in
theorem mt_letter {la : Launch} {X : XE} {mh : Nat} {mad : Nat → Nat} {G0 : Gh} {st : MSt} (pg : List Nat) (c : Int) (hc : i32 c) (h : PageAt st pg) : MM la X mh mad G0 yX2_letter cX2_letter 2 (some .int) 1 22 [.int (iI c)] st (fun v st' => v = some (.int (iI (sLetter pg c).1)) ∧ PageAt st' (sLetter pg c).2 ∧ eqx [0, 1] st st') := by
  refine MG.of (by decide +kernel) (Nat.le_of_ble_eq_true rfl) ?_
  intro Z C hX hL hQ
  subst hX; subst hL
  change WW Z 2 (MOD mh mad G0 st) 0 0 0 [some (.ref mh), some (.int (iI c))] []
  have hl := h.2.1
  refine r_iload_n (pc := 0) C dX2_letter_0 rfl rfl ?_
  refine r_bipushZ (pc := 1) C dX2_letter_1 (by decide) ?_
  refine r_bipushZ (pc := 3) C dX2_letter_3 (by decide) ?_
  refine r_invP (pc := 5) 3 C dX2_letter_5 (pf_within c 32 126 hc (by unfold i32; omega) (by unfold i32; omega)) rfl (lw_S q1283 q1284 q92 q1285) (by decide +kernel) rfl rfl ⟨Nat.le_of_ble_eq_true rfl, Nat.le_of_ble_eq_true rfl⟩ (Nat.le_of_ble_eq_true rfl) ⟨Nat.le_of_ble_eq_true rfl, Nat.le_of_ble_eq_true rfl⟩ ?_
  refine r_if_neB (pc := 8) (tgt := 14) C dX2_letter_8 (by decide)  (fun h8 => ?_) (fun h8 => ?_)
  · refine r_aload_n (pc := 14) C dX2_letter_14 rfl rfl ?_
    refine r_mget (pc := 15) (k := 0) C dX2_letter_15 rfl q1172 (by decide) rfl ?_
    rw [h.1]
    refine r_bipushZ (pc := 18) C dX2_letter_18 (by decide) ?_
    refine r_icmp_neZ (pc := 20) (tgt := 26) C dX2_letter_20 (by decide) (by unfold i32; omega) (by unfold i32; omega) (fun h20 => ?_) (fun h20 => ?_)
    · refine r_aload_n (pc := 26) C dX2_letter_26 rfl rfl ?_
      refine r_mget (pc := 27) (k := 1) C dX2_letter_27 rfl q1173 (by decide) rfl ?_
      refine r_aload_n (pc := 30) C dX2_letter_30 rfl rfl ?_
      refine r_mget (pc := 31) (k := 0) C dX2_letter_31 rfl q1172 (by decide) rfl ?_
      rw [h.1]
      refine r_iload_n (pc := 34) C dX2_letter_34 rfl rfl ?_
      refine r_mast (pc := 35) (L := 20) C dX2_letter_35 (by decide) rfl (by omega) (by omega) ?_
      refine r_aload_n (pc := 36) C dX2_letter_36 rfl rfl ?_
      refine r_dup (pc := 37) C dX2_letter_37 rfl ?_
      refine r_mget (pc := 38) (k := 0) C dX2_letter_38 rfl q1172 (by decide) rfl ?_
      rw [show (aput st 1 (pg.length : Int) c).1 0 = (pg.length : Int) from h.1]
      refine r_iconstZ (pc := 41) C dX2_letter_41 ?_
      refine r_iaddZ (pc := 42) C dX2_letter_42 ?_
      refine r_mput (pc := 43) (k := 0) (ty := .int) C dX2_letter_43 rfl q1172 (by decide) rfl (by decide +kernel) rfl rfl (ms_0 mad _ _) rfl (Or.inl rfl) ?_
      refine r_aload_n (pc := 46) C dX2_letter_46 rfl rfl ?_
      refine r_mget (pc := 47) (k := 0) C dX2_letter_47 rfl q1172 (by decide) rfl ?_
      rw [iput_eq]
      exact r_iret (pc := 50) C hQ dX2_letter_50 (Nat.le_of_ble_eq_true rfl) (Nat.le_of_ble_eq_true rfl) (fun G hG => ⟨_, hG, ⟨by unfold sLetter; rw [if_pos h8, if_neg (by omega)], by unfold sLetter; rw [if_pos h8, if_neg (by omega)]; exact h.push (by omega) ⟨by omega, by omega⟩, (eqx.rf.aput (by decide)).iput (by decide)⟩⟩)
    · refine r_ldcZ (pc := 23) (a := -2000000104) C dX2_letter_23 rfl q1287 (by decide) ?_
      exact r_iret (pc := 25) C hQ dX2_letter_25 (Nat.le_of_ble_eq_true rfl) (Nat.le_of_ble_eq_true rfl) (fun G hG => ⟨_, hG, ⟨by unfold sLetter; rw [if_pos h8, if_pos (by omega)], by unfold sLetter; rw [if_pos h8, if_pos (by omega)]; exact h, eqx.rf⟩⟩)
  · refine r_ldcZ (pc := 11) (a := -2000000102) C dX2_letter_11 rfl q1286 (by decide) ?_
    exact r_iret (pc := 13) C hQ dX2_letter_13 (Nat.le_of_ble_eq_true rfl) (Nat.le_of_ble_eq_true rfl) (fun G hG => ⟨_, hG, ⟨by unfold sLetter; rw [if_neg h8], by unfold sLetter; rw [if_neg h8]; exact h, eqx.rf⟩⟩)
set_option maxHeartbeats 800000 in
theorem mt_blank {la : Launch} {X : XE} {mh : Nat} {mad : Nat → Nat} {G0 : Gh} {st : MSt} (pg : List Nat) (h : PageAt st pg) : MM la X mh mad G0 yX2_blank cX2_blank 2 (some .int) 0 0 [] st (fun v st' => v = some (.int (iI (pg.length : Int))) ∧ PageAt st' [] ∧ eqx [0] st st') := by
  refine MG.of (by decide +kernel) (Nat.le_of_ble_eq_true rfl) ?_
  intro Z C hX hL hQ
  subst hX; subst hL
  change WW Z 2 (MOD mh mad G0 st) 0 0 0 [some (.ref mh), none] []
  refine r_aload_n (pc := 0) C dX2_blank_0 rfl rfl ?_
  refine r_mget (pc := 1) (k := 0) C dX2_blank_1 rfl q1172 (by decide) rfl ?_
  rw [h.1]
  refine r_istore_n (pc := 4) C dX2_blank_4 rfl (by decide) ?_
  refine r_aload_n (pc := 5) C dX2_blank_5 rfl rfl ?_
  refine r_iconstZ (pc := 6) C dX2_blank_6 ?_
  refine r_mput (pc := 7) (k := 0) (ty := .int) C dX2_blank_7 rfl q1172 (by decide) rfl (by decide +kernel) rfl rfl (ms_0 mad _ _) rfl (Or.inl rfl) ?_
  refine r_iload_n (pc := 10) C dX2_blank_10 rfl rfl ?_
  exact r_iret (pc := 11) C hQ dX2_blank_11 (Nat.le_of_ble_eq_true rfl) (Nat.le_of_ble_eq_true rfl) (fun G hG => ⟨_, hG, ⟨rfl, ⟨iput_eq _ _ _, by decide, fun j hj => absurd hj (Nat.not_lt_zero _)⟩, eqx.rf.iput (by decide)⟩⟩)

