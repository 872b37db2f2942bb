/-! the reference's methods: what is told of forms and cycles -/
set_option maxRecDepth 100000
theorem RivAt.cy {st : MSt} {d : Int} (h : RivAt st d) {k : Nat} (hk : k < nR d) : st.2 12 k = (rc d).1 k := h.2.2.2.2.1 k hk
theorem RivAt.fi {st : MSt} {d : Int} (h : RivAt st d) {c : Nat} (hc : c < nC d) : st.2 14 c = (fC d c : Nat) := h.2.2.2.2.2.2 c hc
theorem RivAt.nc {st : MSt} {d : Int} (h : RivAt st d) : st.1 13 = (nC d : Int) := h.2.2.2.2.2.1
theorem RivAt.nr {st : MSt} {d : Int} (h : RivAt st d) : st.1 7 = (nR d : Int) := h.2.2.1.1
theorem RivAt.nx {st : MSt} {d : Int} (h : RivAt st d) {k : Nat} (hk : k < nR d) : st.2 11 k = (nxt (fl d) k : Int) := h.2.2.2.1 k hk
theorem RivAt.len {st : MSt} {d : Int} (h : RivAt st d) : nR d ≤ 1098 ∧ nC d ≤ nR d := ⟨h.2.2.1.2.1, nC_le h.1⟩
theorem cy_i32 {d : Int} (h : RivOK d) {k : Nat} (hk : k < nR d) (hl : nC d ≤ 2000) : i32 ((rc d).1 k) := by
  obtain ⟨-, c, h1, h2⟩ := cy_i h hk
  rw [h2]; unfold i32; omega
theorem bi_not (b : Bool) : bi (!b) = if b then 0 else 1 := by cases b <;> rfl
set_option maxHeartbeats 800000 in
theorem mt_simpleNow {la : Launch} {X : XE} {mh : Nat} {mad : Nat → Nat} {G0 : Gh} {st : MSt} (d : Int) (k : Nat) (what : Int) (hk : k < nR d) (hw : 0 ≤ what ∧ what ≤ 7) (h : RivAt st d) : MM la X mh mad G0 yX2_simpleNow cX2_simpleNow 3 (some .int) 1 24 [.int (iI k), .int (iI what)] st (fun v st' => v = some (.int (iI (sNow d k what))) ∧ st' = st) := by
  refine MG.of (by decide +kernel) (Nat.le_of_ble_eq_true rfl) ?_
  intro Z C hX hL hQ
  subst hX; subst hL
  change WW Z 3 (MOD mh mad G0 st) 0 0 0 [some (.ref mh), some (.int (iI k)), some (.int (iI what))] []
  have hln := h.len
  obtain ⟨fa, fb, fc⟩ := h.2.2.1.2.2.2 k hk
  obtain ⟨ba, bb, bc⟩ := h.2.2.1.b hk
  refine r_iload_n (pc := 0) C dX2_simpleNow_0 rfl rfl ?_
  refine r_tcase 0 (fun h1 => ?_) (fun h1_0 => ?_)
  · refine r_tableInZ (pc := 1) (off := 43) (tgt := 44) C dX2_simpleNow_1 (by unfold i32; omega) (by omega) (by omega) (by rw [h1]; rfl) (by decide) ?_
    refine r_aload_n (pc := 44) C dX2_simpleNow_44 rfl rfl ?_
    refine r_mget (pc := 45) (k := 8) C dX2_simpleNow_45 rfl q1180 (by decide) rfl ?_
    refine r_iload_n (pc := 48) C dX2_simpleNow_48 rfl rfl ?_
    refine r_mald (pc := 49) (L := 1200) C dX2_simpleNow_49 (by decide) rfl (by omega) (by omega) ?_
    exact r_iret (pc := 50) C hQ dX2_simpleNow_50 (Nat.le_of_ble_eq_true rfl) (Nat.le_of_ble_eq_true rfl) (fun G hG => ⟨_, hG, ⟨by subst h1; rw [fa]; rfl, rfl⟩⟩)
  refine r_tcase 1 (fun h1 => ?_) (fun h1_1 => ?_)
  · refine r_tableInZ (pc := 1) (off := 50) (tgt := 51) C dX2_simpleNow_1 (by unfold i32; omega) (by omega) (by omega) (by rw [h1]; rfl) (by decide) ?_
    refine r_aload_n (pc := 51) C dX2_simpleNow_51 rfl rfl ?_
    refine r_mget (pc := 52) (k := 9) C dX2_simpleNow_52 rfl q1181 (by decide) rfl ?_
    refine r_iload_n (pc := 55) C dX2_simpleNow_55 rfl rfl ?_
    refine r_mald (pc := 56) (L := 1200) C dX2_simpleNow_56 (by decide) rfl (by omega) (by omega) ?_
    exact r_iret (pc := 57) C hQ dX2_simpleNow_57 (Nat.le_of_ble_eq_true rfl) (Nat.le_of_ble_eq_true rfl) (fun G hG => ⟨_, hG, ⟨by subst h1; rw [fb]; rfl, rfl⟩⟩)
  refine r_tcase 2 (fun h1 => ?_) (fun h1_2 => ?_)
  · refine r_tableInZ (pc := 1) (off := 57) (tgt := 58) C dX2_simpleNow_1 (by unfold i32; omega) (by omega) (by omega) (by rw [h1]; rfl) (by decide) ?_
    refine r_aload_n (pc := 58) C dX2_simpleNow_58 rfl rfl ?_
    refine r_mget (pc := 59) (k := 10) C dX2_simpleNow_59 rfl q1182 (by decide) rfl ?_
    refine r_iload_n (pc := 62) C dX2_simpleNow_62 rfl rfl ?_
    refine r_mald (pc := 63) (L := 1200) C dX2_simpleNow_63 (by decide) rfl (by omega) (by omega) ?_
    exact r_iret (pc := 64) C hQ dX2_simpleNow_64 (Nat.le_of_ble_eq_true rfl) (Nat.le_of_ble_eq_true rfl) (fun G hG => ⟨_, hG, ⟨by subst h1; rw [fc]; rfl, rfl⟩⟩)
  refine r_tcase 3 (fun h1 => ?_) (fun h1_3 => ?_)
  · refine r_tableInZ (pc := 1) (off := 64) (tgt := 65) C dX2_simpleNow_1 (by unfold i32; omega) (by omega) (by omega) (by rw [h1]; rfl) (by decide) ?_
    refine r_aload_n (pc := 65) C dX2_simpleNow_65 rfl rfl ?_
    refine r_mget (pc := 66) (k := 12) C dX2_simpleNow_66 rfl q1184 (by decide) rfl ?_
    refine r_iload_n (pc := 69) C dX2_simpleNow_69 rfl rfl ?_
    refine r_mald (pc := 70) (L := 1200) C dX2_simpleNow_70 (by decide) rfl (by omega) (by omega) ?_
    exact r_iret (pc := 71) C hQ dX2_simpleNow_71 (Nat.le_of_ble_eq_true rfl) (Nat.le_of_ble_eq_true rfl) (fun G hG => ⟨_, hG, ⟨by subst h1; rw [h.cy hk]; rfl, rfl⟩⟩)
  refine r_tcase 4 (fun h1 => ?_) (fun h1_4 => ?_)
  · refine r_tableInZ (pc := 1) (off := 71) (tgt := 72) C dX2_simpleNow_1 (by unfold i32; omega) (by omega) (by omega) (by rw [h1]; rfl) (by decide) ?_
    refine r_aload_n (pc := 72) C dX2_simpleNow_72 rfl rfl ?_
    refine r_mget (pc := 73) (k := 11) C dX2_simpleNow_73 rfl q1183 (by decide) rfl ?_
    refine r_iload_n (pc := 76) C dX2_simpleNow_76 rfl rfl ?_
    refine r_mald (pc := 77) (L := 1200) C dX2_simpleNow_77 (by decide) rfl (by omega) (by omega) ?_
    exact r_iret (pc := 78) C hQ dX2_simpleNow_78 (Nat.le_of_ble_eq_true rfl) (Nat.le_of_ble_eq_true rfl) (fun G hG => ⟨_, hG, ⟨by subst h1; rw [h.nx hk]; rfl, rfl⟩⟩)
  refine r_tcase 5 (fun h1 => ?_) (fun h1_5 => ?_)
  · refine r_tableInZ (pc := 1) (off := 78) (tgt := 79) C dX2_simpleNow_1 (by unfold i32; omega) (by omega) (by omega) (by rw [h1]; rfl) (by decide) ?_
    refine r_aload_n (pc := 79) C dX2_simpleNow_79 rfl rfl ?_
    refine r_iload_n (pc := 80) C dX2_simpleNow_80 rfl rfl ?_
    refine r_minv (pc := 81) 1 C dX2_simpleNow_81 (mt_isLeft (fl d) k hk h.2.2.1) rfl (lw_V q1498 q1500 qs58 q92 q1501) (by decide +kernel) rfl rfl ⟨Nat.le_of_ble_eq_true rfl, Nat.le_of_ble_eq_true rfl⟩ (Nat.le_of_ble_eq_true rfl) ⟨Nat.le_of_ble_eq_true rfl, Nat.le_of_ble_eq_true rfl⟩ (fun v81 st81 h81 => ?_)
    obtain ⟨rfl, rfl⟩ := h81
    refine r_if_eqZ (pc := 84) (tgt := 91) C dX2_simpleNow_84 (by decide) (bi_i _) (fun h84 => ?_) (fun h84 => ?_)
    · refine r_iconstZ (pc := 91) C dX2_simpleNow_91 ?_
      first | rw [show (0 : Int) = bi (!fLeft (fat (fl d) k)) from by rw [bi_n0 h84]; rfl] | rw [show (1 : Int) = bi (!fLeft (fat (fl d) k)) from by rw [bi_0.mp h84]; rfl]
      refine r_invP (pc := 92) 1 C dX2_simpleNow_92 (pf_codeOf (!fLeft (fat (fl d) k))) rfl (lw_S q1375 q1376 q92 q1377) (by decide +kernel) rfl rfl ⟨Nat.le_of_ble_eq_true rfl, Nat.le_of_ble_eq_true rfl⟩ (Nat.le_of_ble_eq_true rfl) ⟨Nat.le_of_ble_eq_true rfl, Nat.le_of_ble_eq_true rfl⟩ ?_
      exact r_iret (pc := 95) C hQ dX2_simpleNow_95 (Nat.le_of_ble_eq_true rfl) (Nat.le_of_ble_eq_true rfl) (fun G hG => ⟨_, hG, ⟨by subst h1; show _ = some (Value.int (iI (if fLeft (fat (fl d) k) then 76 else 82))); cases fLeft (fat (fl d) k) <;> rfl, rfl⟩⟩)
    · refine r_iconstZ (pc := 87) C dX2_simpleNow_87 ?_
      refine r_goto (pc := 88) (tgt := 92) C dX2_simpleNow_88 (by decide) ?_
      first | rw [show (0 : Int) = bi (!fLeft (fat (fl d) k)) from by rw [bi_n0 h84]; rfl] | rw [show (1 : Int) = bi (!fLeft (fat (fl d) k)) from by rw [bi_0.mp h84]; rfl]
      refine r_invP (pc := 92) 1 C dX2_simpleNow_92 (pf_codeOf (!fLeft (fat (fl d) k))) rfl (lw_S q1375 q1376 q92 q1377) (by decide +kernel) rfl rfl ⟨Nat.le_of_ble_eq_true rfl, Nat.le_of_ble_eq_true rfl⟩ (Nat.le_of_ble_eq_true rfl) ⟨Nat.le_of_ble_eq_true rfl, Nat.le_of_ble_eq_true rfl⟩ ?_
      exact r_iret (pc := 95) C hQ dX2_simpleNow_95 (Nat.le_of_ble_eq_true rfl) (Nat.le_of_ble_eq_true rfl) (fun G hG => ⟨_, hG, ⟨by subst h1; show _ = some (Value.int (iI (if fLeft (fat (fl d) k) then 76 else 82))); cases fLeft (fat (fl d) k) <;> rfl, rfl⟩⟩)
  refine r_tcase 6 (fun h1 => ?_) (fun h1_6 => ?_)
  · refine r_tableInZ (pc := 1) (off := 95) (tgt := 96) C dX2_simpleNow_1 (by unfold i32; omega) (by omega) (by omega) (by rw [h1]; rfl) (by decide) ?_
    refine r_aload_n (pc := 96) C dX2_simpleNow_96 rfl rfl ?_
    refine r_aload_n (pc := 97) C dX2_simpleNow_97 rfl rfl ?_
    refine r_mget (pc := 98) (k := 8) C dX2_simpleNow_98 rfl q1180 (by decide) rfl ?_
    refine r_iload_n (pc := 101) C dX2_simpleNow_101 rfl rfl ?_
    refine r_mald (pc := 102) (L := 1200) C dX2_simpleNow_102 (by decide) rfl (by omega) (by omega) ?_
    rw [fa]
    refine r_aload_n (pc := 103) C dX2_simpleNow_103 rfl rfl ?_
    refine r_mget (pc := 104) (k := 9) C dX2_simpleNow_104 rfl q1181 (by decide) rfl ?_
    refine r_iload_n (pc := 107) C dX2_simpleNow_107 rfl rfl ?_
    refine r_mald (pc := 108) (L := 1200) C dX2_simpleNow_108 (by decide) rfl (by omega) (by omega) ?_
    rw [fb]
    refine r_inegZ (pc := 109) C dX2_simpleNow_109 ?_
    refine r_aload_n (pc := 110) C dX2_simpleNow_110 rfl rfl ?_
    refine r_mget (pc := 111) (k := 10) C dX2_simpleNow_111 rfl q1182 (by decide) rfl ?_
    refine r_iload_n (pc := 114) C dX2_simpleNow_114 rfl rfl ?_
    refine r_mald (pc := 115) (L := 1200) C dX2_simpleNow_115 (by decide) rfl (by omega) (by omega) ?_
    rw [fc]
    refine r_minv (pc := 116) 3 C dX2_simpleNow_116 (mt_numberOf (fl d) (fat (fl d) k).1 (-(fat (fl d) k).2.1) (fat (fl d) k).2.2 (by unfold i32; omega) (by unfold i32; omega) (by unfold i32; omega) h.2.2.1) rfl (lw_V q1502 q1504 qs59 q92 q1505) (by decide +kernel) rfl rfl ⟨Nat.le_of_ble_eq_true rfl, Nat.le_of_ble_eq_true rfl⟩ (Nat.le_of_ble_eq_true rfl) ⟨Nat.le_of_ble_eq_true rfl, Nat.le_of_ble_eq_true rfl⟩ (fun v116 st116 h116 => ?_)
    obtain ⟨rfl, rfl⟩ := h116
    exact r_iret (pc := 119) C hQ dX2_simpleNow_119 (Nat.le_of_ble_eq_true rfl) (Nat.le_of_ble_eq_true rfl) (fun G hG => ⟨_, hG, ⟨by subst h1; rfl, rfl⟩⟩)
  refine r_tableOutZ (pc := 1) (tgt := 120) C dX2_simpleNow_1 (by unfold i32; omega) (by omega) (by decide) ?_
  refine r_aload_n (pc := 120) C dX2_simpleNow_120 rfl rfl ?_
  refine r_aload_n (pc := 121) C dX2_simpleNow_121 rfl rfl ?_
  refine r_mget (pc := 122) (k := 10) C dX2_simpleNow_122 rfl q1182 (by decide) rfl ?_
  refine r_iload_n (pc := 125) C dX2_simpleNow_125 rfl rfl ?_
  refine r_mald (pc := 126) (L := 1200) C dX2_simpleNow_126 (by decide) rfl (by omega) (by omega) ?_
  rw [fc]
  refine r_inegZ (pc := 127) C dX2_simpleNow_127 ?_
  refine r_aload_n (pc := 128) C dX2_simpleNow_128 rfl rfl ?_
  refine r_mget (pc := 129) (k := 9) C dX2_simpleNow_129 rfl q1181 (by decide) rfl ?_
  refine r_iload_n (pc := 132) C dX2_simpleNow_132 rfl rfl ?_
  refine r_mald (pc := 133) (L := 1200) C dX2_simpleNow_133 (by decide) rfl (by omega) (by omega) ?_
  rw [fb]
  refine r_inegZ (pc := 134) C dX2_simpleNow_134 ?_
  refine r_aload_n (pc := 135) C dX2_simpleNow_135 rfl rfl ?_
  refine r_mget (pc := 136) (k := 8) C dX2_simpleNow_136 rfl q1180 (by decide) rfl ?_
  refine r_iload_n (pc := 139) C dX2_simpleNow_139 rfl rfl ?_
  refine r_mald (pc := 140) (L := 1200) C dX2_simpleNow_140 (by decide) rfl (by omega) (by omega) ?_
  rw [fa]
  refine r_inegZ (pc := 141) C dX2_simpleNow_141 ?_
  refine r_minv (pc := 142) 3 C dX2_simpleNow_142 (mt_numberOf (fl d) (-(fat (fl d) k).2.2) (-(fat (fl d) k).2.1) (-(fat (fl d) k).1) (by unfold i32; omega) (by unfold i32; omega) (by unfold i32; omega) h.2.2.1) rfl (lw_V q1502 q1504 qs59 q92 q1505) (by decide +kernel) rfl rfl ⟨Nat.le_of_ble_eq_true rfl, Nat.le_of_ble_eq_true rfl⟩ (Nat.le_of_ble_eq_true rfl) ⟨Nat.le_of_ble_eq_true rfl, Nat.le_of_ble_eq_true rfl⟩ (fun v142 st142 h142 => ?_)
  obtain ⟨rfl, rfl⟩ := h142
  exact r_iret (pc := 145) C hQ dX2_simpleNow_145 (Nat.le_of_ble_eq_true rfl) (Nat.le_of_ble_eq_true rfl) (fun G hG => ⟨_, hG, ⟨by have e7 : what = 7 := (by omega); subst e7; rfl, rfl⟩⟩)
set_option maxHeartbeats 800000 in
theorem mt_simple {la : Launch} {X : XE} {mh : Nat} {mad : Nat → Nat} {G0 : Gh} {st : MSt} (d f what : Int) (hf : i32 f) (hw : i32 what) (h : RivAt st d) : MM la X mh mad G0 yX2_simple cX2_simple 3 (some .int) 2 46 [.int (iI f), .int (iI what)] st (fun v st' => v = some (.int (iI (sSimple d f what))) ∧ st' = st) := by
  refine MG.of (by decide +kernel) (Nat.le_of_ble_eq_true rfl) ?_
  intro Z C hX hL hQ
  subst hX; subst hL
  change WW Z 3 (MOD mh mad G0 st) 0 0 0 [some (.ref mh), some (.int (iI f)), some (.int (iI what))] []
  have hln := h.len
  refine r_iload_n (pc := 0) C dX2_simple_0 rfl rfl ?_
  refine r_iconstZ (pc := 1) C dX2_simple_1 ?_
  refine r_aload_n (pc := 2) C dX2_simple_2 rfl rfl ?_
  refine r_mget (pc := 3) (k := 7) C dX2_simple_3 rfl q1179 (by decide) rfl ?_
  rw [h.nr]
  refine r_iconstZ (pc := 6) C dX2_simple_6 ?_
  refine r_isubZ (pc := 7) C dX2_simple_7 ?_
  refine r_invP (pc := 8) 3 C dX2_simple_8 (pf_within f 0 ((nR d : Int) - 1) hf i32_0 (by unfold i32; omega)) rfl (lw_S q1283 q1284 q92 q1285) (by decide +kernel) rfl rfl ⟨Nat.le_of_ble_eq_true rfl, Nat.le_of_ble_eq_true rfl⟩ (Nat.le_of_ble_eq_true rfl) ⟨Nat.le_of_ble_eq_true rfl, Nat.le_of_ble_eq_true rfl⟩ ?_
  refine r_if_neB (pc := 11) (tgt := 17) C dX2_simple_11 (by decide)  (fun h11 => ?_) (fun h11 => ?_)
  · refine r_iload_n (pc := 17) C dX2_simple_17 rfl rfl ?_
    refine r_iconstZ (pc := 18) C dX2_simple_18 ?_
    refine r_bipushZ (pc := 19) C dX2_simple_19 (by decide) ?_
    refine r_invP (pc := 21) 3 C dX2_simple_21 (pf_within what 0 7 hw i32_0 (by unfold i32; omega)) rfl (lw_S q1283 q1284 q92 q1285) (by decide +kernel) rfl rfl ⟨Nat.le_of_ble_eq_true rfl, Nat.le_of_ble_eq_true rfl⟩ (Nat.le_of_ble_eq_true rfl) ⟨Nat.le_of_ble_eq_true rfl, Nat.le_of_ble_eq_true rfl⟩ ?_
    refine r_if_eqB (pc := 24) (tgt := 36) C dX2_simple_24 (by decide)  (fun h24 => ?_) (fun h24 => ?_)
    · refine r_ldcZ (pc := 36) (a := -2000000102) C dX2_simple_36 rfl q1286 (by decide) ?_
      exact r_iret (pc := 38) C hQ dX2_simple_38 (Nat.le_of_ble_eq_true rfl) (Nat.le_of_ble_eq_true rfl) (fun G hG => ⟨_, hG, ⟨by unfold sSimple; first | rw [if_neg h11] | rw [if_pos h11, if_neg h24] | rw [if_pos h11, if_pos h24], rfl⟩⟩)
    · refine r_aload_n (pc := 27) C dX2_simple_27 rfl rfl ?_
      rw [show f = ((f.toNat : Nat) : Int) by omega]
      refine r_iload_n (pc := 28) C dX2_simple_28 rfl rfl ?_
      refine r_iload_n (pc := 29) C dX2_simple_29 rfl rfl ?_
      refine r_minv (pc := 30) 2 C dX2_simple_30 (mt_simpleNow d f.toNat what (by omega) h24 h) rfl (lw_V q1510 q1512 qs60 q92 q1513) (by decide +kernel) rfl rfl ⟨Nat.le_of_ble_eq_true rfl, Nat.le_of_ble_eq_true rfl⟩ (Nat.le_of_ble_eq_true rfl) ⟨Nat.le_of_ble_eq_true rfl, Nat.le_of_ble_eq_true rfl⟩ (fun v30 st30 h30 => ?_)
      obtain ⟨rfl, rfl⟩ := h30
      refine r_goto (pc := 33) (tgt := 38) C dX2_simple_33 (by decide) ?_
      exact r_iret (pc := 38) C hQ dX2_simple_38 (Nat.le_of_ble_eq_true rfl) (Nat.le_of_ble_eq_true rfl) (fun G hG => ⟨_, hG, ⟨by unfold sSimple; first | rw [if_neg h11] | rw [if_pos h11, if_neg h24] | rw [if_pos h11, if_pos h24], rfl⟩⟩)
  · refine r_ldcZ (pc := 14) (a := -2000000101) C dX2_simple_14 rfl q1321 (by decide) ?_
    exact r_iret (pc := 16) C hQ dX2_simple_16 (Nat.le_of_ble_eq_true rfl) (Nat.le_of_ble_eq_true rfl) (fun G hG => ⟨_, hG, ⟨by unfold sSimple; first | rw [if_neg h11] | rw [if_pos h11, if_neg h24] | rw [if_pos h11, if_pos h24], rfl⟩⟩)
set_option maxHeartbeats 800000 in
theorem mt_isCycle {la : Launch} {X : XE} {mh : Nat} {mad : Nat → Nat} {G0 : Gh} {st : MSt} (d c : Int) (hc : i32 c) (h : RivAt st d) : MM la X mh mad G0 yX2_isCycle cX2_isCycle 2 (some .boolean) 1 22 [.int (iI c)] st (fun v st' => v = some (.int (iI (b2 (0 ≤ c ∧ c ≤ (nC d : Int) - 1)))) ∧ st' = st) := by
  refine MG.of (by decide +kernel) (Nat.le_of_ble_eq_true rfl) ?_
  intro Z C hX hL hQ
  subst hX; subst hL
  change WW Z 2 (MOD mh mad G0 st) 0 0 0 [some (.ref mh), some (.int (iI c))] []
  have hln := h.len
  refine r_iload_n (pc := 0) C dX2_isCycle_0 rfl rfl ?_
  refine r_iconstZ (pc := 1) C dX2_isCycle_1 ?_
  refine r_aload_n (pc := 2) C dX2_isCycle_2 rfl rfl ?_
  refine r_mget (pc := 3) (k := 13) C dX2_isCycle_3 rfl q1185 (by decide) rfl ?_
  rw [h.nc]
  refine r_iconstZ (pc := 6) C dX2_isCycle_6 ?_
  refine r_isubZ (pc := 7) C dX2_isCycle_7 ?_
  refine r_invP (pc := 8) 3 C dX2_isCycle_8 (pf_within c 0 ((nC d : Int) - 1) hc i32_0 (by unfold i32; omega)) rfl (lw_S q1283 q1284 q92 q1285) (by decide +kernel) rfl rfl ⟨Nat.le_of_ble_eq_true rfl, Nat.le_of_ble_eq_true rfl⟩ (Nat.le_of_ble_eq_true rfl) ⟨Nat.le_of_ble_eq_true rfl, Nat.le_of_ble_eq_true rfl⟩ ?_
  exact r_zret (pc := 11) C hQ dX2_isCycle_11 (b2_nar _) (Nat.le_of_ble_eq_true rfl) (Nat.le_of_ble_eq_true rfl) (fun G hG => ⟨_, hG, ⟨rfl, rfl⟩⟩)
set_option maxHeartbeats 800000 in
theorem mt_sizeOf {la : Launch} {X : XE} {mh : Nat} {mad : Nat → Nat} {G0 : Gh} {st : MSt} (d : Int) (c : Nat) (hc : c < nC d) (h : RivAt st d) : MM la X mh mad G0 yX2_sizeOf cX2_sizeOf 4 (some .int) 0 0 [.int (iI c)] st (fun v st' => v = some (.int (iI ((wC d c).length : Int))) ∧ st' = st) := by
  refine MG.of (by decide +kernel) (Nat.le_of_ble_eq_true rfl) ?_
  intro Z C hX hL hQ
  subst hX; subst hL
  change WW Z 4 (MOD mh mad G0 st) 0 0 0 [some (.ref mh), some (.int (iI c)), none, none] []
  have hln := h.len
  have loop : ∀ k : Nat, k ≤ nR d → WW Z 4 (MOD mh mad G0 (st)) 0 0 4 [some (.ref mh), some (.int (iI c)), some (.int (iI (cnt (fun k => decide ((rc d).1 k = (c : Int))) k))), some (.int (iI k))] [] := by
    refine loopN _ _ (fun k hk ih => ?_)
    refine r_iload_n (pc := 4) C dX2_sizeOf_4 rfl rfl ?_
    refine r_aload_n (pc := 5) C dX2_sizeOf_5 rfl rfl ?_
    refine r_mget (pc := 6) (k := 7) C dX2_sizeOf_6 rfl q1179 (by decide) rfl ?_
    rw [h.nr]
    refine r_icmp_geZ (pc := 9) (tgt := 36) C dX2_sizeOf_9 (by decide) (by unfold i32; omega) (by unfold i32; omega) (fun h9 => ?_) (fun h9 => ?_)
    · refine r_iload_n (pc := 36) C dX2_sizeOf_36 rfl rfl ?_
      exact r_iret (pc := 37) C hQ dX2_sizeOf_37 (Nat.le_of_ble_eq_true rfl) (Nat.le_of_ble_eq_true rfl) (fun G hG => ⟨_, hG, ⟨by rw [show k = nR d by omega, size_C h.1 hc], rfl⟩⟩)
    · refine r_iload_n (pc := 12) C dX2_sizeOf_12 rfl rfl ?_
      refine r_aload_n (pc := 13) C dX2_sizeOf_13 rfl rfl ?_
      refine r_mget (pc := 14) (k := 12) C dX2_sizeOf_14 rfl q1184 (by decide) rfl ?_
      refine r_iload_n (pc := 17) C dX2_sizeOf_17 rfl rfl ?_
      refine r_mald (pc := 18) (L := 1200) C dX2_sizeOf_18 (by decide) rfl (by omega) (by omega) ?_
      rw [h.cy (show k < nR d by omega)]
      refine r_iload_n (pc := 19) C dX2_sizeOf_19 rfl rfl ?_
      refine r_icmp_neZ (pc := 20) (tgt := 27) C dX2_sizeOf_20 (by decide) (cy_i32 h.1 (by omega) (by omega)) (by unfold i32; omega) (fun h20 => ?_) (fun h20 => ?_)
      · refine r_iconstZ (pc := 27) C dX2_sizeOf_27 ?_
        refine r_iaddZ (pc := 28) C dX2_sizeOf_28 ?_
        refine r_istore_n (pc := 29) C dX2_sizeOf_29 rfl (by decide) ?_
        refine r_iincZ (pc := 30) C dX2_sizeOf_30 rfl (by decide) ?_
        refine r_goto (pc := 33) (tgt := 4) C dX2_sizeOf_33 (by decide) ?_
        have I := ih (by omega)
        rw [cnt_s] at I
        first | (rw [decide_eq_true h20] at I; exact I) | (rw [decide_eq_false h20] at I; exact I)
      · refine r_iconstZ (pc := 23) C dX2_sizeOf_23 ?_
        refine r_goto (pc := 24) (tgt := 28) C dX2_sizeOf_24 (by decide) ?_
        refine r_iaddZ (pc := 28) C dX2_sizeOf_28 ?_
        refine r_istore_n (pc := 29) C dX2_sizeOf_29 rfl (by decide) ?_
        refine r_iincZ (pc := 30) C dX2_sizeOf_30 rfl (by decide) ?_
        refine r_goto (pc := 33) (tgt := 4) C dX2_sizeOf_33 (by decide) ?_
        have I := ih (by omega)
        rw [cnt_s] at I
        first | (rw [decide_eq_true h20] at I; exact I) | (rw [decide_eq_false h20] at I; exact I)
  refine r_iconstZ (pc := 0) C dX2_sizeOf_0 ?_
  refine r_istore_n (pc := 1) C dX2_sizeOf_1 rfl (by decide) ?_
  refine r_iconstZ (pc := 2) C dX2_sizeOf_2 ?_
  refine r_istore_n (pc := 3) C dX2_sizeOf_3 rfl (by decide) ?_
  exact loop 0 (Nat.zero_le _)
set_option maxHeartbeats 800000 in
theorem mt_leftsOf {la : Launch} {X : XE} {mh : Nat} {mad : Nat → Nat} {G0 : Gh} {st : MSt} (d : Int) (c : Nat) (hc : c < nC d) (h : RivAt st d) : MM la X mh mad G0 yX2_leftsOf cX2_leftsOf 4 (some .int) 1 21 [.int (iI c)] st (fun v st' => v = some (.int (iI (wLefts (wC d c)))) ∧ st' = st) := by
  refine MG.of (by decide +kernel) (Nat.le_of_ble_eq_true rfl) ?_
  intro Z C hX hL hQ
  subst hX; subst hL
  change WW Z 4 (MOD mh mad G0 st) 0 0 0 [some (.ref mh), some (.int (iI c)), none, none] []
  have hln := h.len
  have loop : ∀ k : Nat, k ≤ nR d → WW Z 4 (MOD mh mad G0 (st)) 0 0 4 [some (.ref mh), some (.int (iI c)), some (.int (iI (cnt (fun k => decide ((rc d).1 k = (c : Int)) && fLeft (fat (fl d) k)) k))), some (.int (iI k))] [] := by
    refine loopN _ _ (fun k hk ih => ?_)
    refine r_iload_n (pc := 4) C dX2_leftsOf_4 rfl rfl ?_
    refine r_aload_n (pc := 5) C dX2_leftsOf_5 rfl rfl ?_
    refine r_mget (pc := 6) (k := 7) C dX2_leftsOf_6 rfl q1179 (by decide) rfl ?_
    rw [h.nr]
    refine r_icmp_geZ (pc := 9) (tgt := 44) C dX2_leftsOf_9 (by decide) (by unfold i32; omega) (by unfold i32; omega) (fun h9 => ?_) (fun h9 => ?_)
    · refine r_iload_n (pc := 44) C dX2_leftsOf_44 rfl rfl ?_
      exact r_iret (pc := 45) C hQ dX2_leftsOf_45 (Nat.le_of_ble_eq_true rfl) (Nat.le_of_ble_eq_true rfl) (fun G hG => ⟨_, hG, ⟨by rw [show k = nR d by omega, lefts_C h.1 hc], rfl⟩⟩)
    · refine r_iload_n (pc := 12) C dX2_leftsOf_12 rfl rfl ?_
      refine r_aload_n (pc := 13) C dX2_leftsOf_13 rfl rfl ?_
      refine r_mget (pc := 14) (k := 12) C dX2_leftsOf_14 rfl q1184 (by decide) rfl ?_
      refine r_iload_n (pc := 17) C dX2_leftsOf_17 rfl rfl ?_
      refine r_mald (pc := 18) (L := 1200) C dX2_leftsOf_18 (by decide) rfl (by omega) (by omega) ?_
      rw [h.cy (show k < nR d by omega)]
      refine r_iload_n (pc := 19) C dX2_leftsOf_19 rfl rfl ?_
      refine r_icmp_neZ (pc := 20) (tgt := 35) C dX2_leftsOf_20 (by decide) (cy_i32 h.1 (by omega) (by omega)) (by unfold i32; omega) (fun h20 => ?_) (fun h20 => ?_)
      · refine r_iconstZ (pc := 35) C dX2_leftsOf_35 ?_
        refine r_iaddZ (pc := 36) C dX2_leftsOf_36 ?_
        refine r_istore_n (pc := 37) C dX2_leftsOf_37 rfl (by decide) ?_
        refine r_iincZ (pc := 38) C dX2_leftsOf_38 rfl (by decide) ?_
        refine r_goto (pc := 41) (tgt := 4) C dX2_leftsOf_41 (by decide) ?_
        have I := ih (by omega)
        rw [cnt_s] at I
        first | (rw [decide_eq_false h20, Bool.false_and] at I; exact I) | (rw [decide_eq_true h20, Bool.true_and, bi_0.mp h28] at I; exact I) | (rw [decide_eq_true h20, Bool.true_and, bi_n0 h28] at I; exact I)
      · refine r_aload_n (pc := 23) C dX2_leftsOf_23 rfl rfl ?_
        refine r_iload_n (pc := 24) C dX2_leftsOf_24 rfl rfl ?_
        refine r_minv (pc := 25) 1 C dX2_leftsOf_25 (mt_isLeft (fl d) k (show k < nR d by omega) h.2.2.1) rfl (lw_V q1498 q1500 qs58 q92 q1501) (by decide +kernel) rfl rfl ⟨Nat.le_of_ble_eq_true rfl, Nat.le_of_ble_eq_true rfl⟩ (Nat.le_of_ble_eq_true rfl) ⟨Nat.le_of_ble_eq_true rfl, Nat.le_of_ble_eq_true rfl⟩ (fun v25 st25 h25 => ?_)
        obtain ⟨rfl, rfl⟩ := h25
        refine r_if_eqZ (pc := 28) (tgt := 35) C dX2_leftsOf_28 (by decide) (bi_i _) (fun h28 => ?_) (fun h28 => ?_)
        · refine r_iconstZ (pc := 35) C dX2_leftsOf_35 ?_
          refine r_iaddZ (pc := 36) C dX2_leftsOf_36 ?_
          refine r_istore_n (pc := 37) C dX2_leftsOf_37 rfl (by decide) ?_
          refine r_iincZ (pc := 38) C dX2_leftsOf_38 rfl (by decide) ?_
          refine r_goto (pc := 41) (tgt := 4) C dX2_leftsOf_41 (by decide) ?_
          have I := ih (by omega)
          rw [cnt_s] at I
          first | (rw [decide_eq_false h20, Bool.false_and] at I; exact I) | (rw [decide_eq_true h20, Bool.true_and, bi_0.mp h28] at I; exact I) | (rw [decide_eq_true h20, Bool.true_and, bi_n0 h28] at I; exact I)
        · refine r_iconstZ (pc := 31) C dX2_leftsOf_31 ?_
          refine r_goto (pc := 32) (tgt := 36) C dX2_leftsOf_32 (by decide) ?_
          refine r_iaddZ (pc := 36) C dX2_leftsOf_36 ?_
          refine r_istore_n (pc := 37) C dX2_leftsOf_37 rfl (by decide) ?_
          refine r_iincZ (pc := 38) C dX2_leftsOf_38 rfl (by decide) ?_
          refine r_goto (pc := 41) (tgt := 4) C dX2_leftsOf_41 (by decide) ?_
          have I := ih (by omega)
          rw [cnt_s] at I
          first | (rw [decide_eq_false h20, Bool.false_and] at I; exact I) | (rw [decide_eq_true h20, Bool.true_and, bi_0.mp h28] at I; exact I) | (rw [decide_eq_true h20, Bool.true_and, bi_n0 h28] at I; exact I)
  refine r_iconstZ (pc := 0) C dX2_leftsOf_0 ?_
  refine r_istore_n (pc := 1) C dX2_leftsOf_1 rfl (by decide) ?_
  refine r_iconstZ (pc := 2) C dX2_leftsOf_2 ?_
  refine r_istore_n (pc := 3) C dX2_leftsOf_3 rfl (by decide) ?_
  exact loop 0 (Nat.zero_le _)
theorem sNow_6 {d : Int} {k : Nat} (h : ix (fl d) (backF (fat (fl d) k)) < (fl d).length) : sNow d k 6 = ((ix (fl d) (backF (fat (fl d) k)) : Nat) : Int) := by
  unfold sNow
  rw [if_neg (by decide), if_neg (by decide), if_neg (by decide), if_neg (by decide), if_neg (by decide), if_neg (by decide), if_pos (by decide)]
  exact if_pos h
theorem sNow_7 {d : Int} {k : Nat} (h : ix (fl d) (mirrF (fat (fl d) k)) < (fl d).length) : sNow d k 7 = ((ix (fl d) (mirrF (fat (fl d) k)) : Nat) : Int) := by
  unfold sNow
  rw [if_neg (by decide), if_neg (by decide), if_neg (by decide), if_neg (by decide), if_neg (by decide), if_neg (by decide), if_neg (by decide)]
  exact if_pos h
set_option maxHeartbeats 800000 in
theorem mt_cycleNow {la : Launch} {X : XE} {mh : Nat} {mad : Nat → Nat} {G0 : Gh} {st : MSt} (d : Int) (c : Nat) (what : Int) (hc : c < nC d) (hw : 0 ≤ what ∧ what ≤ 4) (h : RivAt st d) : MM la X mh mad G0 yX2_cycleNow cX2_cycleNow 4 (some .int) 2 46 [.int (iI c), .int (iI what)] st (fun v st' => v = some (.int (iI (cTold d c what))) ∧ st' = st) := by
  refine MG.of (by decide +kernel) (Nat.le_of_ble_eq_true rfl) ?_
  intro Z C hX hL hQ
  subst hX; subst hL
  change WW Z 4 (MOD mh mad G0 st) 0 0 0 [some (.ref mh), some (.int (iI c)), some (.int (iI what)), none] []
  have hln := h.len
  have hf := fC_lt h.1 hc
  have hbk := ix_mem (fl_back h.1 (fat_mem hf))
  have hmr := ix_mem (fl_mirr h.1 (fat_mem hf))
  have hb2 : ix (fl d) (backF (fat (fl d) (fC d c))) < nR d := hbk.1
  have hm2 : ix (fl d) (mirrF (fat (fl d) (fC d c))) < nR d := hmr.1
  refine r_aload_n (pc := 0) C dX2_cycleNow_0 rfl rfl ?_
  refine r_mget (pc := 1) (k := 14) C dX2_cycleNow_1 rfl q1186 (by decide) rfl ?_
  refine r_iload_n (pc := 4) C dX2_cycleNow_4 rfl rfl ?_
  refine r_mald (pc := 5) (L := 1200) C dX2_cycleNow_5 (by decide) rfl (by omega) (by omega) ?_
  rw [h.fi hc]
  refine r_istore_n (pc := 6) C dX2_cycleNow_6 rfl (by decide) ?_
  refine r_iload_n (pc := 7) C dX2_cycleNow_7 rfl rfl ?_
  refine r_tcase 0 (fun h8 => ?_) (fun h8_0 => ?_)
  · refine r_tableInZ (pc := 8) (off := 32) (tgt := 40) C dX2_cycleNow_8 (by unfold i32; omega) (by omega) (by omega) (by rw [h8]; rfl) (by decide) ?_
    refine r_iload_n (pc := 40) C dX2_cycleNow_40 rfl rfl ?_
    exact r_iret (pc := 41) C hQ dX2_cycleNow_41 (Nat.le_of_ble_eq_true rfl) (Nat.le_of_ble_eq_true rfl) (fun G hG => ⟨_, hG, ⟨by subst h8; rfl, rfl⟩⟩)
  refine r_tcase 1 (fun h8 => ?_) (fun h8_1 => ?_)
  · refine r_tableInZ (pc := 8) (off := 34) (tgt := 42) C dX2_cycleNow_8 (by unfold i32; omega) (by omega) (by omega) (by rw [h8]; rfl) (by decide) ?_
    refine r_aload_n (pc := 42) C dX2_cycleNow_42 rfl rfl ?_
    refine r_iload_n (pc := 43) C dX2_cycleNow_43 rfl rfl ?_
    refine r_minv (pc := 44) 1 C dX2_cycleNow_44 (mt_sizeOf d c hc h) rfl (lw_V q1526 q1528 qs63 q92 q1529) (by decide +kernel) rfl rfl ⟨Nat.le_of_ble_eq_true rfl, Nat.le_of_ble_eq_true rfl⟩ (Nat.le_of_ble_eq_true rfl) ⟨Nat.le_of_ble_eq_true rfl, Nat.le_of_ble_eq_true rfl⟩ (fun v44 st44 h44 => ?_)
    obtain ⟨rfl, rfl⟩ := h44
    exact r_iret (pc := 47) C hQ dX2_cycleNow_47 (Nat.le_of_ble_eq_true rfl) (Nat.le_of_ble_eq_true rfl) (fun G hG => ⟨_, hG, ⟨by subst h8; rfl, rfl⟩⟩)
  refine r_tcase 2 (fun h8 => ?_) (fun h8_2 => ?_)
  · refine r_tableInZ (pc := 8) (off := 40) (tgt := 48) C dX2_cycleNow_8 (by unfold i32; omega) (by omega) (by omega) (by rw [h8]; rfl) (by decide) ?_
    refine r_aload_n (pc := 48) C dX2_cycleNow_48 rfl rfl ?_
    refine r_iload_n (pc := 49) C dX2_cycleNow_49 rfl rfl ?_
    refine r_minv (pc := 50) 1 C dX2_cycleNow_50 (mt_leftsOf d c hc h) rfl (lw_V q1530 q1532 qs64 q92 q1533) (by decide +kernel) rfl rfl ⟨Nat.le_of_ble_eq_true rfl, Nat.le_of_ble_eq_true rfl⟩ (Nat.le_of_ble_eq_true rfl) ⟨Nat.le_of_ble_eq_true rfl, Nat.le_of_ble_eq_true rfl⟩ (fun v50 st50 h50 => ?_)
    obtain ⟨rfl, rfl⟩ := h50
    exact r_iret (pc := 53) C hQ dX2_cycleNow_53 (Nat.le_of_ble_eq_true rfl) (Nat.le_of_ble_eq_true rfl) (fun G hG => ⟨_, hG, ⟨by subst h8; rfl, rfl⟩⟩)
  refine r_tcase 3 (fun h8 => ?_) (fun h8_3 => ?_)
  · refine r_tableInZ (pc := 8) (off := 46) (tgt := 54) C dX2_cycleNow_8 (by unfold i32; omega) (by omega) (by omega) (by rw [h8]; rfl) (by decide) ?_
    refine r_aload_n (pc := 54) C dX2_cycleNow_54 rfl rfl ?_
    refine r_mget (pc := 55) (k := 12) C dX2_cycleNow_55 rfl q1184 (by decide) rfl ?_
    refine r_aload_n (pc := 58) C dX2_cycleNow_58 rfl rfl ?_
    refine r_iload_n (pc := 59) C dX2_cycleNow_59 rfl rfl ?_
    refine r_bipushZ (pc := 60) C dX2_cycleNow_60 (by decide) ?_
    refine r_minv (pc := 62) 2 C dX2_cycleNow_62 (mt_simpleNow d (fC d c) 6 hf (by omega) h) rfl (lw_V q1510 q1512 qs60 q92 q1513) (by decide +kernel) rfl rfl ⟨Nat.le_of_ble_eq_true rfl, Nat.le_of_ble_eq_true rfl⟩ (Nat.le_of_ble_eq_true rfl) ⟨Nat.le_of_ble_eq_true rfl, Nat.le_of_ble_eq_true rfl⟩ (fun v62 st62 h62 => ?_)
    obtain ⟨rfl, rfl⟩ := h62
    rw [sNow_6 hbk.1]
    refine r_mald (pc := 65) (L := 1200) C dX2_cycleNow_65 (by decide) rfl (by omega) (by omega) ?_
    exact r_iret (pc := 66) C hQ dX2_cycleNow_66 (Nat.le_of_ble_eq_true rfl) (Nat.le_of_ble_eq_true rfl) (fun G hG => ⟨_, hG, ⟨by subst h8; rw [h.cy hbk.1]; rfl, rfl⟩⟩)
  refine r_tableOutZ (pc := 8) (tgt := 67) C dX2_cycleNow_8 (by unfold i32; omega) (by omega) (by decide) ?_
  refine r_aload_n (pc := 67) C dX2_cycleNow_67 rfl rfl ?_
  refine r_mget (pc := 68) (k := 12) C dX2_cycleNow_68 rfl q1184 (by decide) rfl ?_
  refine r_aload_n (pc := 71) C dX2_cycleNow_71 rfl rfl ?_
  refine r_iload_n (pc := 72) C dX2_cycleNow_72 rfl rfl ?_
  refine r_bipushZ (pc := 73) C dX2_cycleNow_73 (by decide) ?_
  refine r_minv (pc := 75) 2 C dX2_cycleNow_75 (mt_simpleNow d (fC d c) 7 hf (by omega) h) rfl (lw_V q1510 q1512 qs60 q92 q1513) (by decide +kernel) rfl rfl ⟨Nat.le_of_ble_eq_true rfl, Nat.le_of_ble_eq_true rfl⟩ (Nat.le_of_ble_eq_true rfl) ⟨Nat.le_of_ble_eq_true rfl, Nat.le_of_ble_eq_true rfl⟩ (fun v75 st75 h75 => ?_)
  obtain ⟨rfl, rfl⟩ := h75
  rw [sNow_7 hmr.1]
  refine r_mald (pc := 78) (L := 1200) C dX2_cycleNow_78 (by decide) rfl (by omega) (by omega) ?_
  exact r_iret (pc := 79) C hQ dX2_cycleNow_79 (Nat.le_of_ble_eq_true rfl) (Nat.le_of_ble_eq_true rfl) (fun G hG => ⟨_, hG, ⟨by have e4 : what = 4 := (by omega); subst e4; rw [h.cy hmr.1]; rfl, rfl⟩⟩)
set_option maxHeartbeats 800000 in
theorem mt_cycle {la : Launch} {X : XE} {mh : Nat} {mad : Nat → Nat} {G0 : Gh} {st : MSt} (d c what : Int) (hc : i32 c) (hw : i32 what) (h : RivAt st d) : MM la X mh mad G0 yX2_cycle cX2_cycle 3 (some .int) 3 69 [.int (iI c), .int (iI what)] st (fun v st' => v = some (.int (iI (sCycle d c what))) ∧ st' = st) := by
  refine MG.of (by decide +kernel) (Nat.le_of_ble_eq_true rfl) ?_
  intro Z C hX hL hQ
  subst hX; subst hL
  change WW Z 3 (MOD mh mad G0 st) 0 0 0 [some (.ref mh), some (.int (iI c)), some (.int (iI what))] []
  refine r_aload_n (pc := 0) C dX2_cycle_0 rfl rfl ?_
  refine r_iload_n (pc := 1) C dX2_cycle_1 rfl rfl ?_
  refine r_minv (pc := 2) 1 C dX2_cycle_2 (mt_isCycle d c hc h) rfl (lw_V q1518 q1520 qs61 q92 q1521) (by decide +kernel) rfl rfl ⟨Nat.le_of_ble_eq_true rfl, Nat.le_of_ble_eq_true rfl⟩ (Nat.le_of_ble_eq_true rfl) ⟨Nat.le_of_ble_eq_true rfl, Nat.le_of_ble_eq_true rfl⟩ (fun v2 st2 h2 => ?_)
  obtain ⟨rfl, rfl⟩ := h2
  refine r_if_neB (pc := 5) (tgt := 13) C dX2_cycle_5 (by decide)  (fun h5 => ?_) (fun h5 => ?_)
  · refine r_iload_n (pc := 13) C dX2_cycle_13 rfl rfl ?_
    refine r_iconstZ (pc := 14) C dX2_cycle_14 ?_
    refine r_iconstZ (pc := 15) C dX2_cycle_15 ?_
    refine r_invP (pc := 16) 3 C dX2_cycle_16 (pf_within what 0 4 hw i32_0 (by unfold i32; omega)) rfl (lw_S q1283 q1284 q92 q1285) (by decide +kernel) rfl rfl ⟨Nat.le_of_ble_eq_true rfl, Nat.le_of_ble_eq_true rfl⟩ (Nat.le_of_ble_eq_true rfl) ⟨Nat.le_of_ble_eq_true rfl, Nat.le_of_ble_eq_true rfl⟩ ?_
    refine r_if_eqB (pc := 19) (tgt := 31) C dX2_cycle_19 (by decide)  (fun h19 => ?_) (fun h19 => ?_)
    · refine r_ldcZ (pc := 31) (a := -2000000102) C dX2_cycle_31 rfl q1286 (by decide) ?_
      exact r_iret (pc := 33) C hQ dX2_cycle_33 (Nat.le_of_ble_eq_true rfl) (Nat.le_of_ble_eq_true rfl) (fun G hG => ⟨_, hG, ⟨by unfold sCycle; first | rw [if_neg h5] | rw [if_pos h5, if_neg h19] | rw [if_pos h5, if_pos h19], rfl⟩⟩)
    · refine r_aload_n (pc := 22) C dX2_cycle_22 rfl rfl ?_
      rw [show c = ((c.toNat : Nat) : Int) by omega]
      refine r_iload_n (pc := 23) C dX2_cycle_23 rfl rfl ?_
      refine r_iload_n (pc := 24) C dX2_cycle_24 rfl rfl ?_
      refine r_minv (pc := 25) 2 C dX2_cycle_25 (mt_cycleNow d c.toNat what (by omega) h19 h) rfl (lw_V q1522 q1524 qs62 q92 q1525) (by decide +kernel) rfl rfl ⟨Nat.le_of_ble_eq_true rfl, Nat.le_of_ble_eq_true rfl⟩ (Nat.le_of_ble_eq_true rfl) ⟨Nat.le_of_ble_eq_true rfl, Nat.le_of_ble_eq_true rfl⟩ (fun v25 st25 h25 => ?_)
      obtain ⟨rfl, rfl⟩ := h25
      refine r_goto (pc := 28) (tgt := 33) C dX2_cycle_28 (by decide) ?_
      exact r_iret (pc := 33) C hQ dX2_cycle_33 (Nat.le_of_ble_eq_true rfl) (Nat.le_of_ble_eq_true rfl) (fun G hG => ⟨_, hG, ⟨by unfold sCycle; first | rw [if_neg h5] | rw [if_pos h5, if_neg h19] | rw [if_pos h5, if_pos h19], rfl⟩⟩)
  · refine r_ldcZ (pc := 8) (a := -2000000101) C dX2_cycle_8 rfl q1321 (by decide) ?_
    refine r_goto (pc := 10) (tgt := 33) C dX2_cycle_10 (by decide) ?_
    exact r_iret (pc := 33) C hQ dX2_cycle_33 (Nat.le_of_ble_eq_true rfl) (Nat.le_of_ble_eq_true rfl) (fun G hG => ⟨_, hG, ⟨by unfold sCycle; first | rw [if_neg h5] | rw [if_pos h5, if_neg h19] | rw [if_pos h5, if_pos h19], rfl⟩⟩)
set_option maxHeartbeats 800000 in
theorem mt_formAt {la : Launch} {X : XE} {mh : Nat} {mad : Nat → Nat} {G0 : Gh} {st : MSt} (d : Int) (c p : Nat) (hc : c < nC d) (hp : p ≤ 2000) (h : RivAt st d) : MM la X mh mad G0 yX2_formAt cX2_formAt 5 (some .int) 0 0 [.int (iI c), .int (iI p)] st (fun v st' => v = some (.int (iI ((aC d c p : Nat) : Int))) ∧ st' = st) := by
  refine MG.of (by decide +kernel) (Nat.le_of_ble_eq_true rfl) ?_
  intro Z C hX hL hQ
  subst hX; subst hL
  change WW Z 5 (MOD mh mad G0 st) 0 0 0 [some (.ref mh), some (.int (iI c)), some (.int (iI p)), none, none] []
  have hln := h.len
  have hf := fC_lt h.1 hc
  have loop : ∀ i : Nat, i ≤ p → WW Z 5 (MOD mh mad G0 (st)) 0 0 10 [some (.ref mh), some (.int (iI c)), some (.int (iI p)), some (.int (iI ((aC d c i : Nat) : Int))), some (.int (iI i))] [] := by
    refine loopN _ _ (fun i hi ih => ?_)
    have hat : aC d c i < nR d := it_lt (fl_perm h.1) hf i
    refine r_iload (pc := 10) C dX2_formAt_10 rfl ?_
    refine r_iload_n (pc := 12) C dX2_formAt_12 rfl rfl ?_
    refine r_icmp_geZ (pc := 13) (tgt := 29) C dX2_formAt_13 (by decide) (by unfold i32; omega) (by unfold i32; omega) (fun h13 => ?_) (fun h13 => ?_)
    · refine r_iload_n (pc := 29) C dX2_formAt_29 rfl rfl ?_
      exact r_iret (pc := 30) C hQ dX2_formAt_30 (Nat.le_of_ble_eq_true rfl) (Nat.le_of_ble_eq_true rfl) (fun G hG => ⟨_, hG, ⟨by rw [show i = p by omega], rfl⟩⟩)
    · refine r_aload_n (pc := 16) C dX2_formAt_16 rfl rfl ?_
      refine r_mget (pc := 17) (k := 11) C dX2_formAt_17 rfl q1183 (by decide) rfl ?_
      refine r_iload_n (pc := 20) C dX2_formAt_20 rfl rfl ?_
      refine r_mald (pc := 21) (L := 1200) C dX2_formAt_21 (by decide) rfl (by omega) (by omega) ?_
      rw [h.nx hat]
      refine r_istore_n (pc := 22) C dX2_formAt_22 rfl (by decide) ?_
      refine r_iincZ (pc := 23) C dX2_formAt_23 rfl (by decide) ?_
      refine r_goto (pc := 26) (tgt := 10) C dX2_formAt_26 (by decide) ?_
      exact ih (by omega)
  refine r_aload_n (pc := 0) C dX2_formAt_0 rfl rfl ?_
  refine r_mget (pc := 1) (k := 14) C dX2_formAt_1 rfl q1186 (by decide) rfl ?_
  refine r_iload_n (pc := 4) C dX2_formAt_4 rfl rfl ?_
  refine r_mald (pc := 5) (L := 1200) C dX2_formAt_5 (by decide) rfl (by omega) (by omega) ?_
  rw [h.fi hc]
  refine r_istore_n (pc := 6) C dX2_formAt_6 rfl (by decide) ?_
  refine r_iconstZ (pc := 7) C dX2_formAt_7 ?_
  refine r_istore (pc := 8) C dX2_formAt_8 (by decide) ?_
  exact loop 0 (Nat.zero_le _)
set_option maxHeartbeats 800000 in
theorem mt_step {la : Launch} {X : XE} {mh : Nat} {mad : Nat → Nat} {G0 : Gh} {st : MSt} (d c k : Int) (hc : i32 c) (hk : i32 k) (h : RivAt st d) : MM la X mh mad G0 yX2_step cX2_step 3 (some .int) 2 43 [.int (iI c), .int (iI k)] st (fun v st' => v = some (.int (iI (sStep d c k))) ∧ st' = st) := by
  refine MG.of (by decide +kernel) (Nat.le_of_ble_eq_true rfl) ?_
  intro Z C hX hL hQ
  subst hX; subst hL
  change WW Z 3 (MOD mh mad G0 st) 0 0 0 [some (.ref mh), some (.int (iI c)), some (.int (iI k))] []
  have hln := h.len
  refine r_aload_n (pc := 0) C dX2_step_0 rfl rfl ?_
  refine r_iload_n (pc := 1) C dX2_step_1 rfl rfl ?_
  refine r_minv (pc := 2) 1 C dX2_step_2 (mt_isCycle d c hc h) rfl (lw_V q1518 q1520 qs61 q92 q1521) (by decide +kernel) rfl rfl ⟨Nat.le_of_ble_eq_true rfl, Nat.le_of_ble_eq_true rfl⟩ (Nat.le_of_ble_eq_true rfl) ⟨Nat.le_of_ble_eq_true rfl, Nat.le_of_ble_eq_true rfl⟩ (fun v2 st2 h2 => ?_)
  obtain ⟨rfl, rfl⟩ := h2
  refine r_if_eqB (pc := 5) (tgt := 23) C dX2_step_5 (by decide)  (fun h5 => ?_) (fun h5 => ?_)
  · refine r_ldcZ (pc := 23) (a := -2000000101) C dX2_step_23 rfl q1321 (by decide) ?_
    exact r_iret (pc := 25) C hQ dX2_step_25 (Nat.le_of_ble_eq_true rfl) (Nat.le_of_ble_eq_true rfl) (fun G hG => ⟨_, hG, ⟨by unfold sStep; first | rw [if_neg h5] | rw [if_pos h5, if_neg h20] | rw [if_pos h5, if_pos h20], rfl⟩⟩)
  · refine r_iload_n (pc := 8) C dX2_step_8 rfl rfl ?_
    refine r_iconstZ (pc := 9) C dX2_step_9 ?_
    refine r_aload_n (pc := 10) C dX2_step_10 rfl rfl ?_
    refine r_iload_n (pc := 11) C dX2_step_11 rfl rfl ?_
    have hpb := pC_b h.1 (show c.toNat < nC d by omega)
    have hwl := wC_len d c.toNat
    refine r_minv (pc := 12) 1 C dX2_step_12 ((show MM _ _ _ _ _ yX2_sizeOf cX2_sizeOf 4 (some .int) 0 0 [.int (iI c)] _ (fun v st' => v = some (.int (iI ((wC d c.toNat).length : Int))) ∧ st' = st2) from (by have q := mt_sizeOf (la := zl Z) (X := zX Z) (mh := mh) (mad := mad) (G0 := G0) d c.toNat (by omega) h; rwa [show ((c.toNat : Nat) : Int) = c by omega] at q))) rfl (lw_V q1526 q1528 qs63 q92 q1529) (by decide +kernel) rfl rfl ⟨Nat.le_of_ble_eq_true rfl, Nat.le_of_ble_eq_true rfl⟩ (Nat.le_of_ble_eq_true rfl) ⟨Nat.le_of_ble_eq_true rfl, Nat.le_of_ble_eq_true rfl⟩ (fun v12 st12 h12 => ?_)
    obtain ⟨rfl, rfl⟩ := h12
    refine r_iconstZ (pc := 15) C dX2_step_15 ?_
    refine r_isubZ (pc := 16) C dX2_step_16 ?_
    refine r_invP (pc := 17) 3 C dX2_step_17 (pf_within k 0 (((wC d c.toNat).length : Int) - 1) hk i32_0 (by unfold i32; omega)) rfl (lw_S q1283 q1284 q92 q1285) (by decide +kernel) rfl rfl ⟨Nat.le_of_ble_eq_true rfl, Nat.le_of_ble_eq_true rfl⟩ (Nat.le_of_ble_eq_true rfl) ⟨Nat.le_of_ble_eq_true rfl, Nat.le_of_ble_eq_true rfl⟩ ?_
    refine r_if_neB (pc := 20) (tgt := 26) C dX2_step_20 (by decide)  (fun h20 => ?_) (fun h20 => ?_)
    · refine r_aload_n (pc := 26) C dX2_step_26 rfl rfl ?_
      refine r_aload_n (pc := 27) C dX2_step_27 rfl rfl ?_
      refine r_iload_n (pc := 28) C dX2_step_28 rfl rfl ?_
      refine r_iload_n (pc := 29) C dX2_step_29 rfl rfl ?_
      have hat : aC d c.toNat k.toNat < nR d := it_lt (fl_perm h.1) (fC_lt h.1 (by omega)) k.toNat
      refine r_minv (pc := 30) 2 C dX2_step_30 ((show MM _ _ _ _ _ yX2_formAt cX2_formAt 5 (some .int) 0 0 [.int (iI c), .int (iI k)] _ (fun v st' => v = some (.int (iI ((aC d c.toNat k.toNat : Nat) : Int))) ∧ st' = st12) from (by have q := mt_formAt (la := zl Z) (X := zX Z) (mh := mh) (mad := mad) (G0 := G0) d c.toNat k.toNat (by omega) (by omega) h; rwa [show ((c.toNat : Nat) : Int) = c by omega, show ((k.toNat : Nat) : Int) = k by omega] at q))) rfl (lw_V q1538 q1540 qs65 q92 q1541) (by decide +kernel) rfl rfl ⟨Nat.le_of_ble_eq_true rfl, Nat.le_of_ble_eq_true rfl⟩ (Nat.le_of_ble_eq_true rfl) ⟨Nat.le_of_ble_eq_true rfl, Nat.le_of_ble_eq_true rfl⟩ (fun v30 st30 h30 => ?_)
      obtain ⟨rfl, rfl⟩ := h30
      refine r_minv (pc := 33) 1 C dX2_step_33 (mt_isLeft (fl d) (aC d c.toNat k.toNat) hat h.2.2.1) rfl (lw_V q1498 q1500 qs58 q92 q1501) (by decide +kernel) rfl rfl ⟨Nat.le_of_ble_eq_true rfl, Nat.le_of_ble_eq_true rfl⟩ (Nat.le_of_ble_eq_true rfl) ⟨Nat.le_of_ble_eq_true rfl, Nat.le_of_ble_eq_true rfl⟩ (fun v33 st33 h33 => ?_)
      obtain ⟨rfl, rfl⟩ := h33
      refine r_if_eqZ (pc := 36) (tgt := 43) C dX2_step_36 (by decide) (bi_i _) (fun h36 => ?_) (fun h36 => ?_)
      · refine r_iconstZ (pc := 43) C dX2_step_43 ?_
        first | rw [show (0 : Int) = bi (wl (wC d c.toNat) k.toNat) from by rw [wC_at d c.toNat (by omega), bi_n0 h36]; rfl] | rw [show (1 : Int) = bi (wl (wC d c.toNat) k.toNat) from by rw [wC_at d c.toNat (by omega), bi_0.mp h36]; rfl]
        refine r_invP (pc := 44) 1 C dX2_step_44 (pf_codeOf (wl (wC d c.toNat) k.toNat)) rfl (lw_S q1375 q1376 q92 q1377) (by decide +kernel) rfl rfl ⟨Nat.le_of_ble_eq_true rfl, Nat.le_of_ble_eq_true rfl⟩ (Nat.le_of_ble_eq_true rfl) ⟨Nat.le_of_ble_eq_true rfl, Nat.le_of_ble_eq_true rfl⟩ ?_
        exact r_iret (pc := 47) C hQ dX2_step_47 (Nat.le_of_ble_eq_true rfl) (Nat.le_of_ble_eq_true rfl) (fun G hG => ⟨_, hG, ⟨by unfold sStep; first | rw [if_neg h5] | rw [if_pos h5, if_neg h20] | rw [if_pos h5, if_pos h20], rfl⟩⟩)
      · refine r_iconstZ (pc := 39) C dX2_step_39 ?_
        refine r_goto (pc := 40) (tgt := 44) C dX2_step_40 (by decide) ?_
        first | rw [show (0 : Int) = bi (wl (wC d c.toNat) k.toNat) from by rw [wC_at d c.toNat (by omega), bi_n0 h36]; rfl] | rw [show (1 : Int) = bi (wl (wC d c.toNat) k.toNat) from by rw [wC_at d c.toNat (by omega), bi_0.mp h36]; rfl]
        refine r_invP (pc := 44) 1 C dX2_step_44 (pf_codeOf (wl (wC d c.toNat) k.toNat)) rfl (lw_S q1375 q1376 q92 q1377) (by decide +kernel) rfl rfl ⟨Nat.le_of_ble_eq_true rfl, Nat.le_of_ble_eq_true rfl⟩ (Nat.le_of_ble_eq_true rfl) ⟨Nat.le_of_ble_eq_true rfl, Nat.le_of_ble_eq_true rfl⟩ ?_
        exact r_iret (pc := 47) C hQ dX2_step_47 (Nat.le_of_ble_eq_true rfl) (Nat.le_of_ble_eq_true rfl) (fun G hG => ⟨_, hG, ⟨by unfold sStep; first | rw [if_neg h5] | rw [if_pos h5, if_neg h20] | rw [if_pos h5, if_pos h20], rfl⟩⟩)
    · refine r_ldcZ (pc := 23) (a := -2000000101) C dX2_step_23 rfl q1321 (by decide) ?_
      exact r_iret (pc := 25) C hQ dX2_step_25 (Nat.le_of_ble_eq_true rfl) (Nat.le_of_ble_eq_true rfl) (fun G hG => ⟨_, hG, ⟨by unfold sStep; first | rw [if_neg h5] | rw [if_pos h5, if_neg h20] | rw [if_pos h5, if_pos h20], rfl⟩⟩)

