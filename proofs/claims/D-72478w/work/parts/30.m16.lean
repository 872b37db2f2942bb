/-! the reference's methods: a form flows -/
set_option maxRecDepth 100000
def FlowAt (st : MSt) (f : Fm) : Prop := st.1 30 = f.1 ∧ st.1 31 = f.2.1 ∧ st.1 32 = f.2.2
theorem FlI.abs {d : Int} {f : Fm} (h : FlI d f) : i32 (iabs f.1) ∧ i32 (iabs f.2.2) ∧ iabs f.1 ≤ 999 ∧ iabs f.2.2 ≤ 999 := by
  obtain ⟨-, h2, h3, h4⟩ := h
  refine ⟨?_, ?_, ?_, ?_⟩ <;> unfold iabs <;> (try unfold i32) <;> split <;> omega
set_option maxHeartbeats 800000 in
theorem mt_flowStep {la : Launch} {X : XE} {mh : Nat} {mad : Nat → Nat} {G0 : Gh} {st : MSt} (d : Int) (f : Fm) (hI : FlI d f) (h : FlowAt st f) : MM la X mh mad G0 yX2_flowStep cX2_flowStep 3 none 1 20 [] st (fun v st' => v = none ∧ FlowAt st' (flS f) ∧ eqx [30, 31, 32] st st') := by
  refine MG.of (by decide +kernel) (Nat.le_of_ble_eq_true rfl) ?_
  intro Z C hX hL hQ
  subst hX; subst hL
  change WW Z 3 (MOD mh mad G0 st) 0 0 0 [some (.ref mh), none, none] []
  obtain ⟨hf1, hf2, hf3⟩ := h
  have hab := hI.abs
  obtain ⟨-, i1, i2, i3⟩ := hI
  have rest : ∀ (t : Int) (v2 : Option Value), t = flT f → WW Z 3 (MOD mh mad G0 st) 0 0 32 [some (.ref mh), none, v2] [.int (iI t)] := by
    intro t v2 et
    subst et
    have ht : flT f = -1 ∨ flT f = 1 := by unfold flT; split <;> simp
    refine r_istore_n (pc := 32) C dX2_flowStep_32 rfl (by decide) ?_
    refine r_aload_n (pc := 33) C dX2_flowStep_33 rfl rfl ?_
    refine r_mget (pc := 34) (k := 30) C dX2_flowStep_34 rfl q1202 (by decide) rfl ?_
    rw [hf1]
    refine r_aload_n (pc := 37) C dX2_flowStep_37 rfl rfl ?_
    refine r_mget (pc := 38) (k := 32) C dX2_flowStep_38 rfl q1204 (by decide) rfl ?_
    rw [hf3]
    refine r_iaddZ (pc := 41) C dX2_flowStep_41 ?_
    refine r_iload_n (pc := 42) C dX2_flowStep_42 rfl rfl ?_
    refine r_aload_n (pc := 43) C dX2_flowStep_43 rfl rfl ?_
    refine r_mget (pc := 44) (k := 31) C dX2_flowStep_44 rfl q1203 (by decide) rfl ?_
    rw [hf2]
    refine r_imulZ (pc := 47) C dX2_flowStep_47 ?_
    refine r_iaddZ (pc := 48) C dX2_flowStep_48 ?_
    refine r_istore_n (pc := 49) C dX2_flowStep_49 rfl (by decide) ?_
    refine r_aload_n (pc := 50) C dX2_flowStep_50 rfl rfl ?_
    refine r_mget (pc := 51) (k := 30) C dX2_flowStep_51 rfl q1202 (by decide) rfl ?_
    rw [hf1]
    refine r_invP (pc := 54) 1 C dX2_flowStep_54 (pf_abs f.1 (by unfold i32; omega)) rfl (lw_S q1405 q1406 q92 q1407) (by decide +kernel) rfl rfl ⟨Nat.le_of_ble_eq_true rfl, Nat.le_of_ble_eq_true rfl⟩ (Nat.le_of_ble_eq_true rfl) ⟨Nat.le_of_ble_eq_true rfl, Nat.le_of_ble_eq_true rfl⟩ ?_
    refine r_aload_n (pc := 57) C dX2_flowStep_57 rfl rfl ?_
    refine r_mget (pc := 58) (k := 32) C dX2_flowStep_58 rfl q1204 (by decide) rfl ?_
    rw [hf3]
    refine r_invP (pc := 61) 1 C dX2_flowStep_61 (pf_abs f.2.2 (by unfold i32; omega)) rfl (lw_S q1405 q1406 q92 q1407) (by decide +kernel) rfl rfl ⟨Nat.le_of_ble_eq_true rfl, Nat.le_of_ble_eq_true rfl⟩ (Nat.le_of_ble_eq_true rfl) ⟨Nat.le_of_ble_eq_true rfl, Nat.le_of_ble_eq_true rfl⟩ ?_
    refine r_icmp_ltZ (pc := 64) (tgt := 92) C dX2_flowStep_64 (by decide) hab.1 hab.2.1 (fun h64 => ?_) (fun h64 => ?_)
    · refine r_aload_n (pc := 92) C dX2_flowStep_92 rfl rfl ?_
      refine r_dup (pc := 93) C dX2_flowStep_93 rfl ?_
      refine r_mget (pc := 94) (k := 31) C dX2_flowStep_94 rfl q1203 (by decide) rfl ?_
      rw [hf2]
      refine r_iconstZ (pc := 97) C dX2_flowStep_97 ?_
      refine r_iload_n (pc := 98) C dX2_flowStep_98 rfl rfl ?_
      refine r_imulZ (pc := 99) C dX2_flowStep_99 ?_
      refine r_aload_n (pc := 100) C dX2_flowStep_100 rfl rfl ?_
      refine r_mget (pc := 101) (k := 30) C dX2_flowStep_101 rfl q1202 (by decide) rfl ?_
      rw [hf1]
      refine r_imulZ (pc := 104) C dX2_flowStep_104 ?_
      refine r_iaddZ (pc := 105) C dX2_flowStep_105 ?_
      refine r_mput (pc := 106) (k := 31) (ty := .int) C dX2_flowStep_106 rfl q1203 (by decide) rfl (by decide +kernel) rfl rfl (ms_31 mad _ _) rfl (Or.inl rfl) ?_
      refine r_aload_n (pc := 109) C dX2_flowStep_109 rfl rfl ?_
      refine r_iload_n (pc := 110) C dX2_flowStep_110 rfl rfl ?_
      refine r_mput (pc := 111) (k := 32) (ty := .int) C dX2_flowStep_111 rfl q1204 (by decide) rfl (by decide +kernel) rfl rfl (ms_32 mad _ _) rfl (Or.inl rfl) ?_
      exact r_vret (pc := 114) C hQ dX2_flowStep_114 (Nat.le_of_ble_eq_true rfl) (Nat.le_of_ble_eq_true rfl) (fun G hG => ⟨_, hG, ⟨rfl, by unfold FlowAt flS; first | (rw [if_pos h64]; exact ⟨rfl, rfl, hf3⟩) | (rw [if_neg (by omega)]; exact ⟨hf1, rfl, rfl⟩), (eqx.rf.iput (by decide)).iput (by decide)⟩⟩)
    · refine r_aload_n (pc := 67) C dX2_flowStep_67 rfl rfl ?_
      refine r_dup (pc := 68) C dX2_flowStep_68 rfl ?_
      refine r_mget (pc := 69) (k := 31) C dX2_flowStep_69 rfl q1203 (by decide) rfl ?_
      rw [hf2]
      refine r_iconstZ (pc := 72) C dX2_flowStep_72 ?_
      refine r_iload_n (pc := 73) C dX2_flowStep_73 rfl rfl ?_
      refine r_imulZ (pc := 74) C dX2_flowStep_74 ?_
      refine r_aload_n (pc := 75) C dX2_flowStep_75 rfl rfl ?_
      refine r_mget (pc := 76) (k := 32) C dX2_flowStep_76 rfl q1204 (by decide) rfl ?_
      rw [hf3]
      refine r_imulZ (pc := 79) C dX2_flowStep_79 ?_
      refine r_iaddZ (pc := 80) C dX2_flowStep_80 ?_
      refine r_mput (pc := 81) (k := 31) (ty := .int) C dX2_flowStep_81 rfl q1203 (by decide) rfl (by decide +kernel) rfl rfl (ms_31 mad _ _) rfl (Or.inl rfl) ?_
      refine r_aload_n (pc := 84) C dX2_flowStep_84 rfl rfl ?_
      refine r_iload_n (pc := 85) C dX2_flowStep_85 rfl rfl ?_
      refine r_mput (pc := 86) (k := 30) (ty := .int) C dX2_flowStep_86 rfl q1202 (by decide) rfl (by decide +kernel) rfl rfl (ms_30 mad _ _) rfl (Or.inl rfl) ?_
      refine r_goto (pc := 89) (tgt := 114) C dX2_flowStep_89 (by decide) ?_
      exact r_vret (pc := 114) C hQ dX2_flowStep_114 (Nat.le_of_ble_eq_true rfl) (Nat.le_of_ble_eq_true rfl) (fun G hG => ⟨_, hG, ⟨rfl, by unfold FlowAt flS; first | (rw [if_pos h64]; exact ⟨rfl, rfl, hf3⟩) | (rw [if_neg (by omega)]; exact ⟨hf1, rfl, rfl⟩), (eqx.rf.iput (by decide)).iput (by decide)⟩⟩)
  refine r_aload_n (pc := 0) C dX2_flowStep_0 rfl rfl ?_
  refine r_mget (pc := 1) (k := 30) C dX2_flowStep_1 rfl q1202 (by decide) rfl ?_
  rw [hf1]
  refine r_if_leZ (pc := 4) (tgt := 11) C dX2_flowStep_4 (by decide) (by unfold i32; omega) (fun h4 => ?_) (fun h4 => ?_)
  · refine r_iconstZ (pc := 11) C dX2_flowStep_11 ?_
    refine r_aload_n (pc := 12) C dX2_flowStep_12 rfl rfl ?_
    refine r_mget (pc := 13) (k := 31) C dX2_flowStep_13 rfl q1203 (by decide) rfl ?_
    rw [hf2]
    refine r_if_leZ (pc := 16) (tgt := 23) C dX2_flowStep_16 (by decide) (by unfold i32; omega) (fun h16 => ?_) (fun h16 => ?_)
    · refine r_iconstZ (pc := 23) C dX2_flowStep_23 ?_
      refine r_icmp_neZ (pc := 24) (tgt := 31) C dX2_flowStep_24 (by decide) (by unfold i32; omega) (by unfold i32; omega) (fun h24 => ?_) (fun h24 => ?_)
      · refine r_iconstZ (pc := 31) C dX2_flowStep_31 ?_
        exact rest _ _ (by unfold flT; first | (rw [if_pos (by omega)]; done) | (rw [if_neg (by omega)]; done))
      · refine r_iconstZ (pc := 27) C dX2_flowStep_27 ?_
        refine r_goto (pc := 28) (tgt := 32) C dX2_flowStep_28 (by decide) ?_
        exact rest _ _ (by unfold flT; first | (rw [if_pos (by omega)]; done) | (rw [if_neg (by omega)]; done))
    · refine r_iconstZ (pc := 19) C dX2_flowStep_19 ?_
      refine r_goto (pc := 20) (tgt := 24) C dX2_flowStep_20 (by decide) ?_
      refine r_icmp_neZ (pc := 24) (tgt := 31) C dX2_flowStep_24 (by decide) (by unfold i32; omega) (by unfold i32; omega) (fun h24 => ?_) (fun h24 => ?_)
      · refine r_iconstZ (pc := 31) C dX2_flowStep_31 ?_
        exact rest _ _ (by unfold flT; first | (rw [if_pos (by omega)]; done) | (rw [if_neg (by omega)]; done))
      · refine r_iconstZ (pc := 27) C dX2_flowStep_27 ?_
        refine r_goto (pc := 28) (tgt := 32) C dX2_flowStep_28 (by decide) ?_
        exact rest _ _ (by unfold flT; first | (rw [if_pos (by omega)]; done) | (rw [if_neg (by omega)]; done))
  · refine r_iconstZ (pc := 7) C dX2_flowStep_7 ?_
    refine r_goto (pc := 8) (tgt := 12) C dX2_flowStep_8 (by decide) ?_
    refine r_aload_n (pc := 12) C dX2_flowStep_12 rfl rfl ?_
    refine r_mget (pc := 13) (k := 31) C dX2_flowStep_13 rfl q1203 (by decide) rfl ?_
    rw [hf2]
    refine r_if_leZ (pc := 16) (tgt := 23) C dX2_flowStep_16 (by decide) (by unfold i32; omega) (fun h16 => ?_) (fun h16 => ?_)
    · refine r_iconstZ (pc := 23) C dX2_flowStep_23 ?_
      refine r_icmp_neZ (pc := 24) (tgt := 31) C dX2_flowStep_24 (by decide) (by unfold i32; omega) (by unfold i32; omega) (fun h24 => ?_) (fun h24 => ?_)
      · refine r_iconstZ (pc := 31) C dX2_flowStep_31 ?_
        exact rest _ _ (by unfold flT; first | (rw [if_pos (by omega)]; done) | (rw [if_neg (by omega)]; done))
      · refine r_iconstZ (pc := 27) C dX2_flowStep_27 ?_
        refine r_goto (pc := 28) (tgt := 32) C dX2_flowStep_28 (by decide) ?_
        exact rest _ _ (by unfold flT; first | (rw [if_pos (by omega)]; done) | (rw [if_neg (by omega)]; done))
    · refine r_iconstZ (pc := 19) C dX2_flowStep_19 ?_
      refine r_goto (pc := 20) (tgt := 24) C dX2_flowStep_20 (by decide) ?_
      refine r_icmp_neZ (pc := 24) (tgt := 31) C dX2_flowStep_24 (by decide) (by unfold i32; omega) (by unfold i32; omega) (fun h24 => ?_) (fun h24 => ?_)
      · refine r_iconstZ (pc := 31) C dX2_flowStep_31 ?_
        exact rest _ _ (by unfold flT; first | (rw [if_pos (by omega)]; done) | (rw [if_neg (by omega)]; done))
      · refine r_iconstZ (pc := 27) C dX2_flowStep_27 ?_
        refine r_goto (pc := 28) (tgt := 32) C dX2_flowStep_28 (by decide) ?_
        exact rest _ _ (by unfold flT; first | (rw [if_pos (by omega)]; done) | (rw [if_neg (by omega)]; done))
set_option maxHeartbeats 800000 in
theorem mt_flowNow {la : Launch} {X : XE} {mh : Nat} {mad : Nat → Nat} {G0 : Gh} {st : MSt} (d : Int) (f : Fm) (told : Bool) (hd : 0 < d) (hs : ¬ isSq d) (hI : FlI d f) (h : FlowAt st f) (hr : RivAt st d) : MM la X mh mad G0 yX2_flowNow cX2_flowNow 3 (some .int) 2 42 [.int (iI (bi told))] st (fun v st' => v = some (.int (iI (if told then ((flR f).1 : Int) else nof (fl d) (flUp (flR f).2)))) ∧ eqx [30, 31, 32] st st') := by
  refine MG.of (by decide +kernel) (Nat.le_of_ble_eq_true rfl) ?_
  intro Z C hX hL hQ
  subst hX; subst hL
  change WW Z 3 (MOD mh mad G0 st) 0 0 0 [some (.ref mh), some (.int (iI (bi told))), none] []
  have last : ∀ (k : Nat) (g : Fm) (sti : MSt), ¬ (0 < g.1 ↔ 0 < g.2.2) → FlI d g → FlowAt sti g → eqx [30, 31, 32] st sti → ((flR f).1 = k + (flR g).1 ∧ (flR f).2 = (flR g).2) → WW Z 3 (MOD mh mad G0 sti) 0 0 2 [some (.ref mh), some (.int (iI (bi told))), some (.int (iI (k : Int)))] [] := by
    intro k g sti hn gI gA g1 g2
    obtain ⟨a1, a2, a3⟩ := gA
    have hne := gI.ne hs
    have hr2 := hr.x g1 (by decide)
    have he := flR_eq hd hs gI
    obtain ⟨-, i1, i2, i3⟩ := id gI
    rw [if_neg hn] at he
    rw [he] at g2
    replace g2 : (flR f).1 = k ∧ (flR f).2 = g := g2
    refine r_aload_n (pc := 2) C dX2_flowNow_2 rfl rfl ?_
    refine r_mget (pc := 3) (k := 30) C dX2_flowNow_3 rfl q1202 (by decide) rfl ?_
    rw [a1]
    refine r_if_leZ (pc := 6) (tgt := 13) C dX2_flowNow_6 (by decide) (by unfold i32; omega) (fun h6 => ?_) (fun h6 => ?_)
    · refine r_iconstZ (pc := 13) C dX2_flowNow_13 ?_
      refine r_aload_n (pc := 14) C dX2_flowNow_14 rfl rfl ?_
      refine r_mget (pc := 15) (k := 32) C dX2_flowNow_15 rfl q1204 (by decide) rfl ?_
      rw [a3]
      refine r_if_leZ (pc := 18) (tgt := 25) C dX2_flowNow_18 (by decide) (by unfold i32; omega) (fun h18 => ?_) (fun h18 => ?_)
      · refine r_iconstZ (pc := 25) C dX2_flowNow_25 ?_
        refine r_icmp_neZ (pc := 26) (tgt := 39) C dX2_flowNow_26 (by decide) (by unfold i32; omega) (by unfold i32; omega) (fun h26 => ?_) (fun h26 => ?_)
        · refine r_iload_n (pc := 39) C dX2_flowNow_39 rfl rfl ?_
          refine r_if_eqZ (pc := 40) (tgt := 45) C dX2_flowNow_40 (by decide) (bi_i _) (fun h40 => ?_) (fun h40 => ?_)
          · refine r_aload_n (pc := 45) C dX2_flowNow_45 rfl rfl ?_
            refine r_mget (pc := 46) (k := 30) C dX2_flowNow_46 rfl q1202 (by decide) rfl ?_
            rw [a1]
            refine r_if_leZ (pc := 49) (tgt := 71) C dX2_flowNow_49 (by decide) (by unfold i32; omega) (fun h49 => ?_) (fun h49 => ?_)
            · refine r_aload_n (pc := 71) C dX2_flowNow_71 rfl rfl ?_
              refine r_aload_n (pc := 72) C dX2_flowNow_72 rfl rfl ?_
              refine r_mget (pc := 73) (k := 32) C dX2_flowNow_73 rfl q1204 (by decide) rfl ?_
              rw [a3]
              refine r_aload_n (pc := 76) C dX2_flowNow_76 rfl rfl ?_
              refine r_mget (pc := 77) (k := 31) C dX2_flowNow_77 rfl q1203 (by decide) rfl ?_
              rw [a2]
              refine r_inegZ (pc := 80) C dX2_flowNow_80 ?_
              refine r_aload_n (pc := 81) C dX2_flowNow_81 rfl rfl ?_
              refine r_mget (pc := 82) (k := 30) C dX2_flowNow_82 rfl q1202 (by decide) rfl ?_
              rw [a1]
              refine r_minv (pc := 85) 3 C dX2_flowNow_85 (mt_numberOf (fl d) g.2.2 (-g.2.1) g.1 (by unfold i32; omega) (by unfold i32; omega) (by unfold i32; omega) hr2.2.2.1) rfl (lw_V q1502 q1504 qs59 q92 q1505) (by decide +kernel) rfl rfl ⟨Nat.le_of_ble_eq_true rfl, Nat.le_of_ble_eq_true rfl⟩ (Nat.le_of_ble_eq_true rfl) ⟨Nat.le_of_ble_eq_true rfl, Nat.le_of_ble_eq_true rfl⟩ (fun v85 st85 h85 => ?_)
              obtain ⟨rfl, rfl⟩ := h85
              exact r_iret (pc := 88) C hQ dX2_flowNow_88 (Nat.le_of_ble_eq_true rfl) (Nat.le_of_ble_eq_true rfl) (fun G hG => ⟨_, hG, ⟨by rw [bi_0.mp h40, if_neg (by decide), g2.2]; unfold flUp; first | (rw [if_pos h49]; done) | (rw [if_neg (by omega)]; done), g1⟩⟩)
            · refine r_aload_n (pc := 52) C dX2_flowNow_52 rfl rfl ?_
              refine r_aload_n (pc := 53) C dX2_flowNow_53 rfl rfl ?_
              refine r_mget (pc := 54) (k := 30) C dX2_flowNow_54 rfl q1202 (by decide) rfl ?_
              rw [a1]
              refine r_aload_n (pc := 57) C dX2_flowNow_57 rfl rfl ?_
              refine r_mget (pc := 58) (k := 31) C dX2_flowNow_58 rfl q1203 (by decide) rfl ?_
              rw [a2]
              refine r_aload_n (pc := 61) C dX2_flowNow_61 rfl rfl ?_
              refine r_mget (pc := 62) (k := 32) C dX2_flowNow_62 rfl q1204 (by decide) rfl ?_
              rw [a3]
              refine r_minv (pc := 65) 3 C dX2_flowNow_65 (mt_numberOf (fl d) g.1 g.2.1 g.2.2 (by unfold i32; omega) (by unfold i32; omega) (by unfold i32; omega) hr2.2.2.1) rfl (lw_V q1502 q1504 qs59 q92 q1505) (by decide +kernel) rfl rfl ⟨Nat.le_of_ble_eq_true rfl, Nat.le_of_ble_eq_true rfl⟩ (Nat.le_of_ble_eq_true rfl) ⟨Nat.le_of_ble_eq_true rfl, Nat.le_of_ble_eq_true rfl⟩ (fun v65 st65 h65 => ?_)
              obtain ⟨rfl, rfl⟩ := h65
              refine r_goto (pc := 68) (tgt := 88) C dX2_flowNow_68 (by decide) ?_
              exact r_iret (pc := 88) C hQ dX2_flowNow_88 (Nat.le_of_ble_eq_true rfl) (Nat.le_of_ble_eq_true rfl) (fun G hG => ⟨_, hG, ⟨by rw [bi_0.mp h40, if_neg (by decide), g2.2]; unfold flUp; first | (rw [if_pos h49]; done) | (rw [if_neg (by omega)]; done), g1⟩⟩)
          · refine r_iload_n (pc := 43) C dX2_flowNow_43 rfl rfl ?_
            exact r_iret (pc := 44) C hQ dX2_flowNow_44 (Nat.le_of_ble_eq_true rfl) (Nat.le_of_ble_eq_true rfl) (fun G hG => ⟨_, hG, ⟨by rw [bi_n0 h40, if_pos rfl, g2.1], g1⟩⟩)
        · first | exact absurd h26 (by decide) | exact absurd (by omega) hn
      · refine r_iconstZ (pc := 21) C dX2_flowNow_21 ?_
        refine r_goto (pc := 22) (tgt := 26) C dX2_flowNow_22 (by decide) ?_
        refine r_icmp_neZ (pc := 26) (tgt := 39) C dX2_flowNow_26 (by decide) (by unfold i32; omega) (by unfold i32; omega) (fun h26 => ?_) (fun h26 => ?_)
        · refine r_iload_n (pc := 39) C dX2_flowNow_39 rfl rfl ?_
          refine r_if_eqZ (pc := 40) (tgt := 45) C dX2_flowNow_40 (by decide) (bi_i _) (fun h40 => ?_) (fun h40 => ?_)
          · refine r_aload_n (pc := 45) C dX2_flowNow_45 rfl rfl ?_
            refine r_mget (pc := 46) (k := 30) C dX2_flowNow_46 rfl q1202 (by decide) rfl ?_
            rw [a1]
            refine r_if_leZ (pc := 49) (tgt := 71) C dX2_flowNow_49 (by decide) (by unfold i32; omega) (fun h49 => ?_) (fun h49 => ?_)
            · refine r_aload_n (pc := 71) C dX2_flowNow_71 rfl rfl ?_
              refine r_aload_n (pc := 72) C dX2_flowNow_72 rfl rfl ?_
              refine r_mget (pc := 73) (k := 32) C dX2_flowNow_73 rfl q1204 (by decide) rfl ?_
              rw [a3]
              refine r_aload_n (pc := 76) C dX2_flowNow_76 rfl rfl ?_
              refine r_mget (pc := 77) (k := 31) C dX2_flowNow_77 rfl q1203 (by decide) rfl ?_
              rw [a2]
              refine r_inegZ (pc := 80) C dX2_flowNow_80 ?_
              refine r_aload_n (pc := 81) C dX2_flowNow_81 rfl rfl ?_
              refine r_mget (pc := 82) (k := 30) C dX2_flowNow_82 rfl q1202 (by decide) rfl ?_
              rw [a1]
              refine r_minv (pc := 85) 3 C dX2_flowNow_85 (mt_numberOf (fl d) g.2.2 (-g.2.1) g.1 (by unfold i32; omega) (by unfold i32; omega) (by unfold i32; omega) hr2.2.2.1) rfl (lw_V q1502 q1504 qs59 q92 q1505) (by decide +kernel) rfl rfl ⟨Nat.le_of_ble_eq_true rfl, Nat.le_of_ble_eq_true rfl⟩ (Nat.le_of_ble_eq_true rfl) ⟨Nat.le_of_ble_eq_true rfl, Nat.le_of_ble_eq_true rfl⟩ (fun v85 st85 h85 => ?_)
              obtain ⟨rfl, rfl⟩ := h85
              exact r_iret (pc := 88) C hQ dX2_flowNow_88 (Nat.le_of_ble_eq_true rfl) (Nat.le_of_ble_eq_true rfl) (fun G hG => ⟨_, hG, ⟨by rw [bi_0.mp h40, if_neg (by decide), g2.2]; unfold flUp; first | (rw [if_pos h49]; done) | (rw [if_neg (by omega)]; done), g1⟩⟩)
            · refine r_aload_n (pc := 52) C dX2_flowNow_52 rfl rfl ?_
              refine r_aload_n (pc := 53) C dX2_flowNow_53 rfl rfl ?_
              refine r_mget (pc := 54) (k := 30) C dX2_flowNow_54 rfl q1202 (by decide) rfl ?_
              rw [a1]
              refine r_aload_n (pc := 57) C dX2_flowNow_57 rfl rfl ?_
              refine r_mget (pc := 58) (k := 31) C dX2_flowNow_58 rfl q1203 (by decide) rfl ?_
              rw [a2]
              refine r_aload_n (pc := 61) C dX2_flowNow_61 rfl rfl ?_
              refine r_mget (pc := 62) (k := 32) C dX2_flowNow_62 rfl q1204 (by decide) rfl ?_
              rw [a3]
              refine r_minv (pc := 65) 3 C dX2_flowNow_65 (mt_numberOf (fl d) g.1 g.2.1 g.2.2 (by unfold i32; omega) (by unfold i32; omega) (by unfold i32; omega) hr2.2.2.1) rfl (lw_V q1502 q1504 qs59 q92 q1505) (by decide +kernel) rfl rfl ⟨Nat.le_of_ble_eq_true rfl, Nat.le_of_ble_eq_true rfl⟩ (Nat.le_of_ble_eq_true rfl) ⟨Nat.le_of_ble_eq_true rfl, Nat.le_of_ble_eq_true rfl⟩ (fun v65 st65 h65 => ?_)
              obtain ⟨rfl, rfl⟩ := h65
              refine r_goto (pc := 68) (tgt := 88) C dX2_flowNow_68 (by decide) ?_
              exact r_iret (pc := 88) C hQ dX2_flowNow_88 (Nat.le_of_ble_eq_true rfl) (Nat.le_of_ble_eq_true rfl) (fun G hG => ⟨_, hG, ⟨by rw [bi_0.mp h40, if_neg (by decide), g2.2]; unfold flUp; first | (rw [if_pos h49]; done) | (rw [if_neg (by omega)]; done), g1⟩⟩)
          · refine r_iload_n (pc := 43) C dX2_flowNow_43 rfl rfl ?_
            exact r_iret (pc := 44) C hQ dX2_flowNow_44 (Nat.le_of_ble_eq_true rfl) (Nat.le_of_ble_eq_true rfl) (fun G hG => ⟨_, hG, ⟨by rw [bi_n0 h40, if_pos rfl, g2.1], g1⟩⟩)
        · first | exact absurd h26 (by decide) | exact absurd (by omega) hn
    · refine r_iconstZ (pc := 9) C dX2_flowNow_9 ?_
      refine r_goto (pc := 10) (tgt := 14) C dX2_flowNow_10 (by decide) ?_
      refine r_aload_n (pc := 14) C dX2_flowNow_14 rfl rfl ?_
      refine r_mget (pc := 15) (k := 32) C dX2_flowNow_15 rfl q1204 (by decide) rfl ?_
      rw [a3]
      refine r_if_leZ (pc := 18) (tgt := 25) C dX2_flowNow_18 (by decide) (by unfold i32; omega) (fun h18 => ?_) (fun h18 => ?_)
      · refine r_iconstZ (pc := 25) C dX2_flowNow_25 ?_
        refine r_icmp_neZ (pc := 26) (tgt := 39) C dX2_flowNow_26 (by decide) (by unfold i32; omega) (by unfold i32; omega) (fun h26 => ?_) (fun h26 => ?_)
        · refine r_iload_n (pc := 39) C dX2_flowNow_39 rfl rfl ?_
          refine r_if_eqZ (pc := 40) (tgt := 45) C dX2_flowNow_40 (by decide) (bi_i _) (fun h40 => ?_) (fun h40 => ?_)
          · refine r_aload_n (pc := 45) C dX2_flowNow_45 rfl rfl ?_
            refine r_mget (pc := 46) (k := 30) C dX2_flowNow_46 rfl q1202 (by decide) rfl ?_
            rw [a1]
            refine r_if_leZ (pc := 49) (tgt := 71) C dX2_flowNow_49 (by decide) (by unfold i32; omega) (fun h49 => ?_) (fun h49 => ?_)
            · refine r_aload_n (pc := 71) C dX2_flowNow_71 rfl rfl ?_
              refine r_aload_n (pc := 72) C dX2_flowNow_72 rfl rfl ?_
              refine r_mget (pc := 73) (k := 32) C dX2_flowNow_73 rfl q1204 (by decide) rfl ?_
              rw [a3]
              refine r_aload_n (pc := 76) C dX2_flowNow_76 rfl rfl ?_
              refine r_mget (pc := 77) (k := 31) C dX2_flowNow_77 rfl q1203 (by decide) rfl ?_
              rw [a2]
              refine r_inegZ (pc := 80) C dX2_flowNow_80 ?_
              refine r_aload_n (pc := 81) C dX2_flowNow_81 rfl rfl ?_
              refine r_mget (pc := 82) (k := 30) C dX2_flowNow_82 rfl q1202 (by decide) rfl ?_
              rw [a1]
              refine r_minv (pc := 85) 3 C dX2_flowNow_85 (mt_numberOf (fl d) g.2.2 (-g.2.1) g.1 (by unfold i32; omega) (by unfold i32; omega) (by unfold i32; omega) hr2.2.2.1) rfl (lw_V q1502 q1504 qs59 q92 q1505) (by decide +kernel) rfl rfl ⟨Nat.le_of_ble_eq_true rfl, Nat.le_of_ble_eq_true rfl⟩ (Nat.le_of_ble_eq_true rfl) ⟨Nat.le_of_ble_eq_true rfl, Nat.le_of_ble_eq_true rfl⟩ (fun v85 st85 h85 => ?_)
              obtain ⟨rfl, rfl⟩ := h85
              exact r_iret (pc := 88) C hQ dX2_flowNow_88 (Nat.le_of_ble_eq_true rfl) (Nat.le_of_ble_eq_true rfl) (fun G hG => ⟨_, hG, ⟨by rw [bi_0.mp h40, if_neg (by decide), g2.2]; unfold flUp; first | (rw [if_pos h49]; done) | (rw [if_neg (by omega)]; done), g1⟩⟩)
            · refine r_aload_n (pc := 52) C dX2_flowNow_52 rfl rfl ?_
              refine r_aload_n (pc := 53) C dX2_flowNow_53 rfl rfl ?_
              refine r_mget (pc := 54) (k := 30) C dX2_flowNow_54 rfl q1202 (by decide) rfl ?_
              rw [a1]
              refine r_aload_n (pc := 57) C dX2_flowNow_57 rfl rfl ?_
              refine r_mget (pc := 58) (k := 31) C dX2_flowNow_58 rfl q1203 (by decide) rfl ?_
              rw [a2]
              refine r_aload_n (pc := 61) C dX2_flowNow_61 rfl rfl ?_
              refine r_mget (pc := 62) (k := 32) C dX2_flowNow_62 rfl q1204 (by decide) rfl ?_
              rw [a3]
              refine r_minv (pc := 65) 3 C dX2_flowNow_65 (mt_numberOf (fl d) g.1 g.2.1 g.2.2 (by unfold i32; omega) (by unfold i32; omega) (by unfold i32; omega) hr2.2.2.1) rfl (lw_V q1502 q1504 qs59 q92 q1505) (by decide +kernel) rfl rfl ⟨Nat.le_of_ble_eq_true rfl, Nat.le_of_ble_eq_true rfl⟩ (Nat.le_of_ble_eq_true rfl) ⟨Nat.le_of_ble_eq_true rfl, Nat.le_of_ble_eq_true rfl⟩ (fun v65 st65 h65 => ?_)
              obtain ⟨rfl, rfl⟩ := h65
              refine r_goto (pc := 68) (tgt := 88) C dX2_flowNow_68 (by decide) ?_
              exact r_iret (pc := 88) C hQ dX2_flowNow_88 (Nat.le_of_ble_eq_true rfl) (Nat.le_of_ble_eq_true rfl) (fun G hG => ⟨_, hG, ⟨by rw [bi_0.mp h40, if_neg (by decide), g2.2]; unfold flUp; first | (rw [if_pos h49]; done) | (rw [if_neg (by omega)]; done), g1⟩⟩)
          · refine r_iload_n (pc := 43) C dX2_flowNow_43 rfl rfl ?_
            exact r_iret (pc := 44) C hQ dX2_flowNow_44 (Nat.le_of_ble_eq_true rfl) (Nat.le_of_ble_eq_true rfl) (fun G hG => ⟨_, hG, ⟨by rw [bi_n0 h40, if_pos rfl, g2.1], g1⟩⟩)
        · first | exact absurd h26 (by decide) | exact absurd (by omega) hn
      · refine r_iconstZ (pc := 21) C dX2_flowNow_21 ?_
        refine r_goto (pc := 22) (tgt := 26) C dX2_flowNow_22 (by decide) ?_
        refine r_icmp_neZ (pc := 26) (tgt := 39) C dX2_flowNow_26 (by decide) (by unfold i32; omega) (by unfold i32; omega) (fun h26 => ?_) (fun h26 => ?_)
        · refine r_iload_n (pc := 39) C dX2_flowNow_39 rfl rfl ?_
          refine r_if_eqZ (pc := 40) (tgt := 45) C dX2_flowNow_40 (by decide) (bi_i _) (fun h40 => ?_) (fun h40 => ?_)
          · refine r_aload_n (pc := 45) C dX2_flowNow_45 rfl rfl ?_
            refine r_mget (pc := 46) (k := 30) C dX2_flowNow_46 rfl q1202 (by decide) rfl ?_
            rw [a1]
            refine r_if_leZ (pc := 49) (tgt := 71) C dX2_flowNow_49 (by decide) (by unfold i32; omega) (fun h49 => ?_) (fun h49 => ?_)
            · refine r_aload_n (pc := 71) C dX2_flowNow_71 rfl rfl ?_
              refine r_aload_n (pc := 72) C dX2_flowNow_72 rfl rfl ?_
              refine r_mget (pc := 73) (k := 32) C dX2_flowNow_73 rfl q1204 (by decide) rfl ?_
              rw [a3]
              refine r_aload_n (pc := 76) C dX2_flowNow_76 rfl rfl ?_
              refine r_mget (pc := 77) (k := 31) C dX2_flowNow_77 rfl q1203 (by decide) rfl ?_
              rw [a2]
              refine r_inegZ (pc := 80) C dX2_flowNow_80 ?_
              refine r_aload_n (pc := 81) C dX2_flowNow_81 rfl rfl ?_
              refine r_mget (pc := 82) (k := 30) C dX2_flowNow_82 rfl q1202 (by decide) rfl ?_
              rw [a1]
              refine r_minv (pc := 85) 3 C dX2_flowNow_85 (mt_numberOf (fl d) g.2.2 (-g.2.1) g.1 (by unfold i32; omega) (by unfold i32; omega) (by unfold i32; omega) hr2.2.2.1) rfl (lw_V q1502 q1504 qs59 q92 q1505) (by decide +kernel) rfl rfl ⟨Nat.le_of_ble_eq_true rfl, Nat.le_of_ble_eq_true rfl⟩ (Nat.le_of_ble_eq_true rfl) ⟨Nat.le_of_ble_eq_true rfl, Nat.le_of_ble_eq_true rfl⟩ (fun v85 st85 h85 => ?_)
              obtain ⟨rfl, rfl⟩ := h85
              exact r_iret (pc := 88) C hQ dX2_flowNow_88 (Nat.le_of_ble_eq_true rfl) (Nat.le_of_ble_eq_true rfl) (fun G hG => ⟨_, hG, ⟨by rw [bi_0.mp h40, if_neg (by decide), g2.2]; unfold flUp; first | (rw [if_pos h49]; done) | (rw [if_neg (by omega)]; done), g1⟩⟩)
            · refine r_aload_n (pc := 52) C dX2_flowNow_52 rfl rfl ?_
              refine r_aload_n (pc := 53) C dX2_flowNow_53 rfl rfl ?_
              refine r_mget (pc := 54) (k := 30) C dX2_flowNow_54 rfl q1202 (by decide) rfl ?_
              rw [a1]
              refine r_aload_n (pc := 57) C dX2_flowNow_57 rfl rfl ?_
              refine r_mget (pc := 58) (k := 31) C dX2_flowNow_58 rfl q1203 (by decide) rfl ?_
              rw [a2]
              refine r_aload_n (pc := 61) C dX2_flowNow_61 rfl rfl ?_
              refine r_mget (pc := 62) (k := 32) C dX2_flowNow_62 rfl q1204 (by decide) rfl ?_
              rw [a3]
              refine r_minv (pc := 65) 3 C dX2_flowNow_65 (mt_numberOf (fl d) g.1 g.2.1 g.2.2 (by unfold i32; omega) (by unfold i32; omega) (by unfold i32; omega) hr2.2.2.1) rfl (lw_V q1502 q1504 qs59 q92 q1505) (by decide +kernel) rfl rfl ⟨Nat.le_of_ble_eq_true rfl, Nat.le_of_ble_eq_true rfl⟩ (Nat.le_of_ble_eq_true rfl) ⟨Nat.le_of_ble_eq_true rfl, Nat.le_of_ble_eq_true rfl⟩ (fun v65 st65 h65 => ?_)
              obtain ⟨rfl, rfl⟩ := h65
              refine r_goto (pc := 68) (tgt := 88) C dX2_flowNow_68 (by decide) ?_
              exact r_iret (pc := 88) C hQ dX2_flowNow_88 (Nat.le_of_ble_eq_true rfl) (Nat.le_of_ble_eq_true rfl) (fun G hG => ⟨_, hG, ⟨by rw [bi_0.mp h40, if_neg (by decide), g2.2]; unfold flUp; first | (rw [if_pos h49]; done) | (rw [if_neg (by omega)]; done), g1⟩⟩)
          · refine r_iload_n (pc := 43) C dX2_flowNow_43 rfl rfl ?_
            exact r_iret (pc := 44) C hQ dX2_flowNow_44 (Nat.le_of_ble_eq_true rfl) (Nat.le_of_ble_eq_true rfl) (fun G hG => ⟨_, hG, ⟨by rw [bi_n0 h40, if_pos rfl, g2.1], g1⟩⟩)
        · first | exact absurd h26 (by decide) | exact absurd (by omega) hn
  have loop : ∀ (m k : Nat) (g : Fm) (sti : MSt), flMu g < m → FlI d g → FlowAt sti g → eqx [30, 31, 32] st sti → ((flR f).1 = k + (flR g).1 ∧ (flR f).2 = (flR g).2) → WW Z 3 (MOD mh mad G0 sti) 0 0 2 [some (.ref mh), some (.int (iI (bi told))), some (.int (iI (k : Int)))] [] := by
    intro m
    induction m with
    | zero => intro k g sti h0; omega
    | succ m ih =>
      have flow : ∀ (k : Nat) (g : Fm) (sti : MSt), flMu g < m + 1 → FlI d g → FlowAt sti g → eqx [30, 31, 32] st sti → ((flR f).1 = k + (flR g).1 ∧ (flR f).2 = (flR g).2) → (0 < g.1 ↔ 0 < g.2.2) → WW Z 3 (MOD mh mad G0 sti) 0 0 2 [some (.ref mh), some (.int (iI (bi told))), some (.int (iI (k : Int)))] [] := by
        intro k g sti hmu gI gA g1 g2 ha
        obtain ⟨a1, a2, a3⟩ := gA
        have hne := gI.ne hs
        have he := flR_eq hd hs gI
        obtain ⟨-, i1, i2, i3⟩ := id gI
        rw [if_pos ha] at he
        rw [he] at g2
        obtain ⟨n1, n2⟩ := flS_I hd hs gI ha
        refine r_aload_n (pc := 2) C dX2_flowNow_2 rfl rfl ?_
        refine r_mget (pc := 3) (k := 30) C dX2_flowNow_3 rfl q1202 (by decide) rfl ?_
        rw [a1]
        refine r_if_leZ (pc := 6) (tgt := 13) C dX2_flowNow_6 (by decide) (by unfold i32; omega) (fun h6 => ?_) (fun h6 => ?_)
        · refine r_iconstZ (pc := 13) C dX2_flowNow_13 ?_
          refine r_aload_n (pc := 14) C dX2_flowNow_14 rfl rfl ?_
          refine r_mget (pc := 15) (k := 32) C dX2_flowNow_15 rfl q1204 (by decide) rfl ?_
          rw [a3]
          refine r_if_leZ (pc := 18) (tgt := 25) C dX2_flowNow_18 (by decide) (by unfold i32; omega) (fun h18 => ?_) (fun h18 => ?_)
          · refine r_iconstZ (pc := 25) C dX2_flowNow_25 ?_
            refine r_icmp_neZ (pc := 26) (tgt := 39) C dX2_flowNow_26 (by decide) (by unfold i32; omega) (by unfold i32; omega) (fun h26 => ?_) (fun h26 => ?_)
            · first | exact absurd rfl h26 | exact absurd h26 (by omega)
            · refine r_aload_n (pc := 29) C dX2_flowNow_29 rfl rfl ?_
              refine r_minv (pc := 30) 0 C dX2_flowNow_30 (mt_flowStep d g gI ⟨a1, a2, a3⟩) rfl (lw_V q1562 q1564 qs69 q92 q1565) (by decide +kernel) rfl rfl ⟨Nat.le_of_ble_eq_true rfl, Nat.le_of_ble_eq_true rfl⟩ (Nat.le_of_ble_eq_true rfl) ⟨Nat.le_of_ble_eq_true rfl, Nat.le_of_ble_eq_true rfl⟩ (fun v30 st30 h30 => ?_)
              obtain ⟨rfl, h30a, h30b⟩ := h30
              refine r_iincZ (pc := 33) C dX2_flowNow_33 rfl (by decide) ?_
              refine r_goto (pc := 36) (tgt := 2) C dX2_flowNow_36 (by decide) ?_
              by_cases hb : (0 < (flS g).1 ↔ 0 < (flS g).2.2)
              · exact ih (k + 1) (flS g) _ (by have := n2 hb; omega) n1 h30a (g1.tr h30b) ⟨by rw [g2.1]; omega, g2.2⟩
              · exact last (k + 1) (flS g) _ hb n1 h30a (g1.tr h30b) ⟨by rw [g2.1]; omega, g2.2⟩
          · refine r_iconstZ (pc := 21) C dX2_flowNow_21 ?_
            refine r_goto (pc := 22) (tgt := 26) C dX2_flowNow_22 (by decide) ?_
            refine r_icmp_neZ (pc := 26) (tgt := 39) C dX2_flowNow_26 (by decide) (by unfold i32; omega) (by unfold i32; omega) (fun h26 => ?_) (fun h26 => ?_)
            · first | exact absurd rfl h26 | exact absurd h26 (by omega)
            · refine r_aload_n (pc := 29) C dX2_flowNow_29 rfl rfl ?_
              refine r_minv (pc := 30) 0 C dX2_flowNow_30 (mt_flowStep d g gI ⟨a1, a2, a3⟩) rfl (lw_V q1562 q1564 qs69 q92 q1565) (by decide +kernel) rfl rfl ⟨Nat.le_of_ble_eq_true rfl, Nat.le_of_ble_eq_true rfl⟩ (Nat.le_of_ble_eq_true rfl) ⟨Nat.le_of_ble_eq_true rfl, Nat.le_of_ble_eq_true rfl⟩ (fun v30 st30 h30 => ?_)
              obtain ⟨rfl, h30a, h30b⟩ := h30
              refine r_iincZ (pc := 33) C dX2_flowNow_33 rfl (by decide) ?_
              refine r_goto (pc := 36) (tgt := 2) C dX2_flowNow_36 (by decide) ?_
              by_cases hb : (0 < (flS g).1 ↔ 0 < (flS g).2.2)
              · exact ih (k + 1) (flS g) _ (by have := n2 hb; omega) n1 h30a (g1.tr h30b) ⟨by rw [g2.1]; omega, g2.2⟩
              · exact last (k + 1) (flS g) _ hb n1 h30a (g1.tr h30b) ⟨by rw [g2.1]; omega, g2.2⟩
        · refine r_iconstZ (pc := 9) C dX2_flowNow_9 ?_
          refine r_goto (pc := 10) (tgt := 14) C dX2_flowNow_10 (by decide) ?_
          refine r_aload_n (pc := 14) C dX2_flowNow_14 rfl rfl ?_
          refine r_mget (pc := 15) (k := 32) C dX2_flowNow_15 rfl q1204 (by decide) rfl ?_
          rw [a3]
          refine r_if_leZ (pc := 18) (tgt := 25) C dX2_flowNow_18 (by decide) (by unfold i32; omega) (fun h18 => ?_) (fun h18 => ?_)
          · refine r_iconstZ (pc := 25) C dX2_flowNow_25 ?_
            refine r_icmp_neZ (pc := 26) (tgt := 39) C dX2_flowNow_26 (by decide) (by unfold i32; omega) (by unfold i32; omega) (fun h26 => ?_) (fun h26 => ?_)
            · first | exact absurd rfl h26 | exact absurd h26 (by omega)
            · refine r_aload_n (pc := 29) C dX2_flowNow_29 rfl rfl ?_
              refine r_minv (pc := 30) 0 C dX2_flowNow_30 (mt_flowStep d g gI ⟨a1, a2, a3⟩) rfl (lw_V q1562 q1564 qs69 q92 q1565) (by decide +kernel) rfl rfl ⟨Nat.le_of_ble_eq_true rfl, Nat.le_of_ble_eq_true rfl⟩ (Nat.le_of_ble_eq_true rfl) ⟨Nat.le_of_ble_eq_true rfl, Nat.le_of_ble_eq_true rfl⟩ (fun v30 st30 h30 => ?_)
              obtain ⟨rfl, h30a, h30b⟩ := h30
              refine r_iincZ (pc := 33) C dX2_flowNow_33 rfl (by decide) ?_
              refine r_goto (pc := 36) (tgt := 2) C dX2_flowNow_36 (by decide) ?_
              by_cases hb : (0 < (flS g).1 ↔ 0 < (flS g).2.2)
              · exact ih (k + 1) (flS g) _ (by have := n2 hb; omega) n1 h30a (g1.tr h30b) ⟨by rw [g2.1]; omega, g2.2⟩
              · exact last (k + 1) (flS g) _ hb n1 h30a (g1.tr h30b) ⟨by rw [g2.1]; omega, g2.2⟩
          · refine r_iconstZ (pc := 21) C dX2_flowNow_21 ?_
            refine r_goto (pc := 22) (tgt := 26) C dX2_flowNow_22 (by decide) ?_
            refine r_icmp_neZ (pc := 26) (tgt := 39) C dX2_flowNow_26 (by decide) (by unfold i32; omega) (by unfold i32; omega) (fun h26 => ?_) (fun h26 => ?_)
            · first | exact absurd rfl h26 | exact absurd h26 (by omega)
            · refine r_aload_n (pc := 29) C dX2_flowNow_29 rfl rfl ?_
              refine r_minv (pc := 30) 0 C dX2_flowNow_30 (mt_flowStep d g gI ⟨a1, a2, a3⟩) rfl (lw_V q1562 q1564 qs69 q92 q1565) (by decide +kernel) rfl rfl ⟨Nat.le_of_ble_eq_true rfl, Nat.le_of_ble_eq_true rfl⟩ (Nat.le_of_ble_eq_true rfl) ⟨Nat.le_of_ble_eq_true rfl, Nat.le_of_ble_eq_true rfl⟩ (fun v30 st30 h30 => ?_)
              obtain ⟨rfl, h30a, h30b⟩ := h30
              refine r_iincZ (pc := 33) C dX2_flowNow_33 rfl (by decide) ?_
              refine r_goto (pc := 36) (tgt := 2) C dX2_flowNow_36 (by decide) ?_
              by_cases hb : (0 < (flS g).1 ↔ 0 < (flS g).2.2)
              · exact ih (k + 1) (flS g) _ (by have := n2 hb; omega) n1 h30a (g1.tr h30b) ⟨by rw [g2.1]; omega, g2.2⟩
              · exact last (k + 1) (flS g) _ hb n1 h30a (g1.tr h30b) ⟨by rw [g2.1]; omega, g2.2⟩
      intro k g sti hmu gI gA g1 g2
      by_cases hst : (0 < g.1 ↔ 0 < g.2.2)
      · exact flow k g sti hmu gI gA g1 g2 hst
      · exact last k g sti hst gI gA g1 g2
  refine r_iconstZ (pc := 0) C dX2_flowNow_0 ?_
  refine r_istore_n (pc := 1) C dX2_flowNow_1 rfl (by decide) ?_
  exact loop (flMu f + 1) 0 f _ (by omega) hI h eqx.rf ⟨by omega, rfl⟩
theorem sFlow_yes {d a b c : Int} {told : Bool} (h4 : 0 < d) (h : ((-999 ≤ a ∧ a ≤ 999) ∧ (-999 ≤ b ∧ b ≤ 999) ∧ (-999 ≤ c ∧ c ≤ 999)) ∧ b * b - 4 * a * c = d ∧ Int.gcd (Int.gcd a b : Nat) c = 1) :
    sFlow d a b c told = (if told then ((flR (a, b, c)).1 : Int) else nof (fl d) (flUp (flR (a, b, c)).2)) := by
  unfold sFlow
  rw [if_pos h4, if_pos h]
set_option maxHeartbeats 800000 in
theorem mt_flow {la : Launch} {X : XE} {mh : Nat} {mad : Nat → Nat} {G0 : Gh} {st : MSt} (d a b c : Int) (told : Bool) (ha : i32 a) (hb : i32 b) (hc : i32 c) (hr : RivAt st d) : MM la X mh mad G0 yX2_flow cX2_flow 6 (some .int) 3 64 [.int (iI a), .int (iI b), .int (iI c), .int (iI (bi told))] st (fun v st' => v = some (.int (iI (sFlow d a b c told))) ∧ eqx [30, 31, 32] st st') := by
  refine MG.of (by decide +kernel) (Nat.le_of_ble_eq_true rfl) ?_
  intro Z C hX hL hQ
  subst hX; subst hL
  change WW Z 6 (MOD mh mad G0 st) 0 0 0 [some (.ref mh), some (.int (iI a)), some (.int (iI b)), some (.int (iI c)), some (.int (iI (bi told))), none] []
  have hdi : i32 d := by rcases hr.1 with q | q; rw [q]; exact i32_0; unfold i32; omega
  have out : 0 < d → ¬ (((-999 ≤ a ∧ a ≤ 999) ∧ (-999 ≤ b ∧ b ≤ 999) ∧ (-999 ≤ c ∧ c ≤ 999)) ∧ b * b - 4 * a * c = d ∧ Int.gcd (Int.gcd a b : Nat) c = 1) → ∀ v5 : Option Value, WW Z 6 (MOD mh mad G0 st) 0 0 87 [some (.ref mh), some (.int (iI a)), some (.int (iI b)), some (.int (iI c)), some (.int (iI (bi told))), v5] [] := by
    intro h4 hn v5
    refine r_ldcZ (pc := 87) (a := -2000000102) C dX2_flow_87 rfl q1286 (by decide) ?_
    exact r_iret (pc := 89) C hQ dX2_flow_89 (Nat.le_of_ble_eq_true rfl) (Nat.le_of_ble_eq_true rfl) (fun G hG => ⟨_, hG, ⟨by unfold sFlow; rw [if_pos h4, if_neg hn], eqx.rf⟩⟩)
  have no : 0 < d → ¬ (((-999 ≤ a ∧ a ≤ 999) ∧ (-999 ≤ b ∧ b ≤ 999) ∧ (-999 ≤ c ∧ c ≤ 999)) ∧ b * b - 4 * a * c = d ∧ Int.gcd (Int.gcd a b : Nat) c = 1) → WW Z 6 (MOD mh mad G0 st) 0 0 54 [some (.ref mh), some (.int (iI a)), some (.int (iI b)), some (.int (iI c)), some (.int (iI (bi told))), none] [.int (iI 0)] := by
    intro h4 hn
    refine r_istore (pc := 54) C dX2_flow_54 (by decide) ?_
    refine r_iload (pc := 56) C dX2_flow_56 rfl ?_
    refine r_if_eqZ (pc := 58) (tgt := 87) C dX2_flow_58 (by decide) i32_0 (fun h58 => ?_) (fun h58 => absurd h58 (by omega))
    exact out h4 hn _
  have yes : 0 < d → ¬ isSq d → ((-999 ≤ a ∧ a ≤ 999) ∧ (-999 ≤ b ∧ b ≤ 999) ∧ (-999 ≤ c ∧ c ≤ 999)) → WW Z 6 (MOD mh mad G0 st) 0 0 54 [some (.ref mh), some (.int (iI a)), some (.int (iI b)), some (.int (iI c)), some (.int (iI (bi told))), none] [.int (iI 1)] := by
    intro h4 hsq hin
    obtain ⟨hia, hib, hic⟩ := hin
    have hbb : -998001 ≤ b * b ∧ b * b ≤ 998001 := by
      have h1 : (b * b).natAbs ≤ 999 * 999 := by rw [Int.natAbs_mul]; exact Nat.mul_le_mul (by omega) (by omega)
      omega
    have hac : -998001 ≤ a * c ∧ a * c ≤ 998001 := by
      have h1 : (a * c).natAbs ≤ 999 * 999 := by rw [Int.natAbs_mul]; exact Nat.mul_le_mul (by omega) (by omega)
      omega
    have h4ac : 4 * a * c = 4 * (a * c) := Int.mul_assoc 4 a c
    have hgb : ((Int.gcd a b : Nat) : Int) ≤ 999 := by
      by_cases e : a = 0
      · subst e; rw [Int.gcd_zero_left]; omega
      · have := igcd_le (a := a) (b := b) e; omega
    have hg2 : ((Int.gcd (Int.gcd a b : Nat) c : Nat) : Int) ≤ 999 := by
      by_cases e : ((Int.gcd a b : Nat) : Int) = 0
      · rw [e, Int.gcd_zero_left]; omega
      · have := igcd_le (a := ((Int.gcd a b : Nat) : Int)) (b := c) e; omega
    have hgp : b * b - 4 * a * c = d → 1 ≤ Int.gcd (Int.gcd a b : Nat) c := by
      intro e
      rcases Nat.eq_zero_or_pos (Int.gcd (Int.gcd a b : Nat) c) with q | q
      · have q1 := Int.gcd_eq_zero_iff.mp q
        have q2 := Int.gcd_eq_zero_iff.mp (show Int.gcd a b = 0 by omega)
        rw [q2.1, q2.2] at e
        simp at e
        omega
      · exact q
    refine r_istore (pc := 54) C dX2_flow_54 (by decide) ?_
    refine r_iload (pc := 56) C dX2_flow_56 rfl ?_
    refine r_if_eqZ (pc := 58) (tgt := 87) C dX2_flow_58 (by decide) (by unfold i32; omega) (fun h58 => absurd h58 (by omega)) (fun h58 => ?_)
    refine r_iload_n (pc := 61) C dX2_flow_61 rfl rfl ?_
    refine r_iload_n (pc := 62) C dX2_flow_62 rfl rfl ?_
    refine r_iload_n (pc := 63) C dX2_flow_63 rfl rfl ?_
    refine r_invP (pc := 64) 3 C dX2_flow_64 (pf_discOf a b c) rfl (lw_S q1408 q1409 q92 q1410) (by decide +kernel) rfl rfl ⟨Nat.le_of_ble_eq_true rfl, Nat.le_of_ble_eq_true rfl⟩ (Nat.le_of_ble_eq_true rfl) ⟨Nat.le_of_ble_eq_true rfl, Nat.le_of_ble_eq_true rfl⟩ ?_
    refine r_aload_n (pc := 67) C dX2_flow_67 rfl rfl ?_
    refine r_mget (pc := 68) (k := 6) C dX2_flow_68 rfl q1178 (by decide) rfl ?_
    rw [hr.2.1]
    refine r_icmp_neZ (pc := 71) (tgt := 87) C dX2_flow_71 (by decide) (by unfold i32; omega) hdi (fun h71 => ?_) (fun h71 => ?_)
    · first | exact out h4 (fun q => h71 q.2.1) _ | exact out h4 (fun q => by have q2 := q.2.2; unfold igcd at h84; omega) _
    · refine r_iload_n (pc := 74) C dX2_flow_74 rfl rfl ?_
      refine r_iload_n (pc := 75) C dX2_flow_75 rfl rfl ?_
      refine r_invP (pc := 76) 2 C dX2_flow_76 (pf_common a b (by unfold i32; omega) (by unfold i32; omega)) rfl (lw_S q1402 q1403 q92 q1404) (by decide +kernel) rfl rfl ⟨Nat.le_of_ble_eq_true rfl, Nat.le_of_ble_eq_true rfl⟩ (Nat.le_of_ble_eq_true rfl) ⟨Nat.le_of_ble_eq_true rfl, Nat.le_of_ble_eq_true rfl⟩ ?_
      refine r_iload_n (pc := 79) C dX2_flow_79 rfl rfl ?_
      refine r_invP (pc := 80) 2 C dX2_flow_80 (pf_common (igcd a b) c (by unfold igcd i32; omega) (by unfold i32; omega)) rfl (lw_S q1402 q1403 q92 q1404) (by decide +kernel) rfl rfl ⟨Nat.le_of_ble_eq_true rfl, Nat.le_of_ble_eq_true rfl⟩ (Nat.le_of_ble_eq_true rfl) ⟨Nat.le_of_ble_eq_true rfl, Nat.le_of_ble_eq_true rfl⟩ ?_
      refine r_iconstZ (pc := 83) C dX2_flow_83 ?_
      refine r_icmp_leZ (pc := 84) (tgt := 90) C dX2_flow_84 (by decide) (by unfold igcd at *; unfold i32; omega) (by unfold i32; omega) (fun h84 => ?_) (fun h84 => ?_)
      · have hg1 : Int.gcd (Int.gcd a b : Nat) c = 1 := (by have := hgp h71; unfold igcd at h84; omega)
        have e3 := ((eqx.rf (st := st)).iput (ks := [30, 31, 32]) (k := 30) (z := a) (by decide)).iput (k := 31) (z := b) (by decide) |>.iput (k := 32) (z := c) (by decide)
        refine r_aload_n (pc := 90) C dX2_flow_90 rfl rfl ?_
        refine r_iload_n (pc := 91) C dX2_flow_91 rfl rfl ?_
        refine r_mput (pc := 92) (k := 30) (ty := .int) C dX2_flow_92 rfl q1202 (by decide) rfl (by decide +kernel) rfl rfl (ms_30 mad _ _) rfl (Or.inl rfl) ?_
        refine r_aload_n (pc := 95) C dX2_flow_95 rfl rfl ?_
        refine r_iload_n (pc := 96) C dX2_flow_96 rfl rfl ?_
        refine r_mput (pc := 97) (k := 31) (ty := .int) C dX2_flow_97 rfl q1203 (by decide) rfl (by decide +kernel) rfl rfl (ms_31 mad _ _) rfl (Or.inl rfl) ?_
        refine r_aload_n (pc := 100) C dX2_flow_100 rfl rfl ?_
        refine r_iload_n (pc := 101) C dX2_flow_101 rfl rfl ?_
        refine r_mput (pc := 102) (k := 32) (ty := .int) C dX2_flow_102 rfl q1204 (by decide) rfl (by decide +kernel) rfl rfl (ms_32 mad _ _) rfl (Or.inl rfl) ?_
        refine r_aload_n (pc := 105) C dX2_flow_105 rfl rfl ?_
        refine r_iload (pc := 106) C dX2_flow_106 rfl ?_
        refine r_minv (pc := 108) 1 C dX2_flow_108 (mt_flowNow d (a, b, c) told h4 hsq ⟨h71, hia, hib, hic⟩ ⟨rfl, rfl, rfl⟩ (hr.x e3 (by decide))) rfl (lw_V q1558 q1560 qs68 q92 q1561) (by decide +kernel) rfl rfl ⟨Nat.le_of_ble_eq_true rfl, Nat.le_of_ble_eq_true rfl⟩ (Nat.le_of_ble_eq_true rfl) ⟨Nat.le_of_ble_eq_true rfl, Nat.le_of_ble_eq_true rfl⟩ (fun v108 st108 h108 => ?_)
        obtain ⟨rfl, h108b⟩ := h108
        exact r_iret (pc := 111) C hQ dX2_flow_111 (Nat.le_of_ble_eq_true rfl) (Nat.le_of_ble_eq_true rfl) (fun G hG => ⟨_, hG, ⟨by rw [sFlow_yes h4 ⟨⟨hia, hib, hic⟩, h71, hg1⟩], e3.tr h108b⟩⟩)
      · first | exact out h4 (fun q => h71 q.2.1) _ | exact out h4 (fun q => by have q2 := q.2.2; unfold igcd at h84; omega) _
  refine r_aload_n (pc := 0) C dX2_flow_0 rfl rfl ?_
  refine r_minv (pc := 1) 0 C dX2_flow_1 (mt_isRiver d hdi hr.2.1) rfl (lw_V q1554 q1556 qs67 q92 q1557) (by decide +kernel) rfl rfl ⟨Nat.le_of_ble_eq_true rfl, Nat.le_of_ble_eq_true rfl⟩ (Nat.le_of_ble_eq_true rfl) ⟨Nat.le_of_ble_eq_true rfl, Nat.le_of_ble_eq_true rfl⟩ (fun v1 st1 h1 => ?_)
  obtain ⟨rfl, rfl⟩ := h1
  refine r_if_neB (pc := 4) (tgt := 10) C dX2_flow_4 (by decide)  (fun h4 => ?_) (fun h4 => ?_)
  · have hsq : ¬ isSq d := (by rcases hr.1 with q | q; omega; exact q.2.2)
    refine r_iload_n (pc := 10) C dX2_flow_10 rfl rfl ?_
    refine r_sipushZ (pc := 11) C dX2_flow_11 (by decide) ?_
    refine r_sipushZ (pc := 14) C dX2_flow_14 (by decide) ?_
    refine r_invP (pc := 17) 3 C dX2_flow_17 (pf_within a (-999) 999 ha (by unfold i32; omega) (by unfold i32; omega)) rfl (lw_S q1283 q1284 q92 q1285) (by decide +kernel) rfl rfl ⟨Nat.le_of_ble_eq_true rfl, Nat.le_of_ble_eq_true rfl⟩ (Nat.le_of_ble_eq_true rfl) ⟨Nat.le_of_ble_eq_true rfl, Nat.le_of_ble_eq_true rfl⟩ ?_
    refine r_if_eqB (pc := 20) (tgt := 53) C dX2_flow_20 (by decide)  (fun h20 => ?_) (fun h20 => ?_)
    · refine r_iconstZ (pc := 53) C dX2_flow_53 ?_
      first | exact yes h4 hsq ⟨h20, h33, h46⟩ | exact no h4 (fun q => h46 q.1.2.2) | exact no h4 (fun q => h33 q.1.2.1) | exact no h4 (fun q => h20 q.1.1)
    · refine r_iload_n (pc := 23) C dX2_flow_23 rfl rfl ?_
      refine r_sipushZ (pc := 24) C dX2_flow_24 (by decide) ?_
      refine r_sipushZ (pc := 27) C dX2_flow_27 (by decide) ?_
      refine r_invP (pc := 30) 3 C dX2_flow_30 (pf_within b (-999) 999 hb (by unfold i32; omega) (by unfold i32; omega)) rfl (lw_S q1283 q1284 q92 q1285) (by decide +kernel) rfl rfl ⟨Nat.le_of_ble_eq_true rfl, Nat.le_of_ble_eq_true rfl⟩ (Nat.le_of_ble_eq_true rfl) ⟨Nat.le_of_ble_eq_true rfl, Nat.le_of_ble_eq_true rfl⟩ ?_
      refine r_if_eqB (pc := 33) (tgt := 53) C dX2_flow_33 (by decide)  (fun h33 => ?_) (fun h33 => ?_)
      · refine r_iconstZ (pc := 53) C dX2_flow_53 ?_
        first | exact yes h4 hsq ⟨h20, h33, h46⟩ | exact no h4 (fun q => h46 q.1.2.2) | exact no h4 (fun q => h33 q.1.2.1) | exact no h4 (fun q => h20 q.1.1)
      · refine r_iload_n (pc := 36) C dX2_flow_36 rfl rfl ?_
        refine r_sipushZ (pc := 37) C dX2_flow_37 (by decide) ?_
        refine r_sipushZ (pc := 40) C dX2_flow_40 (by decide) ?_
        refine r_invP (pc := 43) 3 C dX2_flow_43 (pf_within c (-999) 999 hc (by unfold i32; omega) (by unfold i32; omega)) rfl (lw_S q1283 q1284 q92 q1285) (by decide +kernel) rfl rfl ⟨Nat.le_of_ble_eq_true rfl, Nat.le_of_ble_eq_true rfl⟩ (Nat.le_of_ble_eq_true rfl) ⟨Nat.le_of_ble_eq_true rfl, Nat.le_of_ble_eq_true rfl⟩ ?_
        refine r_if_eqB (pc := 46) (tgt := 53) C dX2_flow_46 (by decide)  (fun h46 => ?_) (fun h46 => ?_)
        · refine r_iconstZ (pc := 53) C dX2_flow_53 ?_
          first | exact yes h4 hsq ⟨h20, h33, h46⟩ | exact no h4 (fun q => h46 q.1.2.2) | exact no h4 (fun q => h33 q.1.2.1) | exact no h4 (fun q => h20 q.1.1)
        · refine r_iconstZ (pc := 49) C dX2_flow_49 ?_
          refine r_goto (pc := 50) (tgt := 54) C dX2_flow_50 (by decide) ?_
          first | exact yes h4 hsq ⟨h20, h33, h46⟩ | exact no h4 (fun q => h46 q.1.2.2) | exact no h4 (fun q => h33 q.1.2.1) | exact no h4 (fun q => h20 q.1.1)
  · refine r_ldcZ (pc := 7) (a := -2000000103) C dX2_flow_7 rfl q1308 (by decide) ?_
    exact r_iret (pc := 9) C hQ dX2_flow_9 (Nat.le_of_ble_eq_true rfl) (Nat.le_of_ble_eq_true rfl) (fun G hG => ⟨_, hG, ⟨by unfold sFlow; rw [if_neg h4], eqx.rf⟩⟩)

