/-! the reference's methods: reading -/
set_option maxRecDepth 100000
def rdNext (s : List Bool × Bool) (c : Nat) : List Bool × Bool := (rdStep s c).getD s
theorem rd_letter {u : List Bool} {may : Bool} {c : Nat} (hc : c = 76 ∨ c = 82) (hl : u.length ≠ 20) : rdStep (u, may) c = some (u ++ [decide (c = 82)], true) := by
  unfold rdStep
  rw [if_pos hc, if_neg hl]
theorem rd_full {u : List Bool} {may : Bool} {c : Nat} (hc : c = 76 ∨ c = 82) (hl : u.length = 20) : rdStep (u, may) c = none := by
  unfold rdStep
  rw [if_pos hc, if_pos hl]
theorem rd_run {u : List Bool} {may : Bool} {c : Nat} (hc : ¬ (c = 76 ∨ c = 82)) (h : may = true ∧ 50 ≤ c ∧ c ≤ 57 ∧ u.length + (c - 49) ≤ 20) : rdStep (u, may) c = some (u ++ List.replicate (c - 49) (wl u (u.length - 1)), false) := by
  unfold rdStep
  rw [if_neg hc, if_pos h]
theorem rd_no {u : List Bool} {may : Bool} {c : Nat} (hc : ¬ (c = 76 ∨ c = 82)) (h : ¬ (may = true ∧ 50 ≤ c ∧ c ≤ 57 ∧ u.length + (c - 49) ≤ 20)) : rdStep (u, may) c = none := by
  unfold rdStep
  rw [if_neg hc, if_neg h]
theorem wl_rep (u : List Bool) (h : 0 < u.length) (k : Nat) : wl (u ++ List.replicate k (wl u (u.length - 1))) (u.length + k - 1) = wl u (u.length - 1) := by
  rw [wl_app]
  by_cases e : k = 0
  · subst e
    rw [if_pos (by omega), Nat.add_zero]
  · rw [if_neg (by omega), wl_lt (by simp; omega), List.getElem_replicate]
/-- behind a failed step nothing has changed -/
abbrev TakeQ (st : MSt) (u : List Bool) (may : Bool) (c : Nat) (v : Option Value) (st' : MSt) : Prop := v = some (.int (iI (bi (rdStep (u, may) c).isSome))) ∧ NewAt st' (rdNext (u, may) c).1 ∧ st'.1 17 = bi (rdNext (u, may) c).2 ∧ eqx [15, 16, 17] st st'
theorem TakeQ.no {st : MSt} {u : List Bool} {may : Bool} {c : Nat} (hu : NewAt st u) (hm : st.1 17 = bi may) (h : rdStep (u, may) c = none) : TakeQ st u may c (some (.int (iI 0))) st := by
  refine ⟨by rw [h]; rfl, ?_, ?_, eqx.rf⟩
  · unfold rdNext; rw [h]; exact hu
  · unfold rdNext; rw [h]; exact hm
theorem TakeQ.yes {st st' : MSt} {u u' : List Bool} {may m' : Bool} {c : Nat} (hu : NewAt st' u') (hm : st'.1 17 = bi m') (h : rdStep (u, may) c = some (u', m')) (e : eqx [15, 16, 17] st st') : TakeQ st u may c (some (.int (iI 1))) st' := by
  refine ⟨by rw [h]; rfl, ?_, ?_, e⟩
  · unfold rdNext; rw [h]; exact hu
  · unfold rdNext; rw [h]; exact hm
theorem NewAt.z {st : MSt} {w : List Bool} (h : NewAt st w) {z : Int} (j : Nat) (hj : j < w.length) (hz : z = (j : Int)) : st.2 16 z = bi (wl w j) := by
  rw [hz]
  exact h.2.2 j hj
set_option maxHeartbeats 800000 in
theorem mt_takes {la : Launch} {X : XE} {mh : Nat} {mad : Nat → Nat} {G0 : Gh} {st : MSt} (u : List Bool) (may : Bool) (c : Nat) (hc : 32 ≤ c ∧ c ≤ 126) (hu : NewAt st u) (hm : st.1 17 = bi may) (hne : may = true → 0 < u.length) : MM la X mh mad G0 yX2_takes cX2_takes 4 (some .boolean) 1 22 [.int (iI (c : Int))] st (TakeQ st u may c) := by
  refine MG.of (by decide +kernel) (Nat.le_of_ble_eq_true rfl) ?_
  intro Z C hX hL hQ
  subst hX; subst hL
  change WW Z 4 (MOD mh mad G0 st) 0 0 0 [some (.ref mh), some (.int (iI (c : Int))), none, none] []
  have hul := hu.2.1
  have hz : 0 < u.length → st.2 16 ((u.length : Int) - 1) = bi (wl u (u.length - 1)) := fun h => hu.z _ (by omega) (by omega)
  have loop : ¬ (c = 76 ∨ c = 82) → may = true → 50 ≤ c → c ≤ 57 → u.length + (c - 49) ≤ 20 → ∀ k : Nat, k ≤ c - 49 → ∀ sti : MSt, eqx [15, 16, 17] st sti → NewAt sti (u ++ List.replicate k (wl u (u.length - 1))) → WW Z 4 (MOD mh mad G0 sti) 0 0 97 [some (.ref mh), some (.int (iI (c : Int))), some (.int (iI ((c : Int) - 49))), some (.int (iI (k : Int)))] [] := by
    intro l1 l2 l3 l4 l5
    have hp := hne l2
    refine loopN _ _ (fun k hk ih sti g1 g2 => ?_)
    have hlen : (u ++ List.replicate k (wl u (u.length - 1))).length = u.length + k := by rw [List.length_append, List.length_replicate]
    have hlast := g2.z (z := ((u.length + k : Nat) : Int) - 1) (u.length + k - 1) (by omega) (by omega)
    rw [wl_rep u hp k] at hlast
    have g21 : sti.1 15 = ((u.length + k : Nat) : Int) := by rw [g2.1, hlen]
    refine r_iload_n (pc := 97) C dX2_takes_97 rfl rfl ?_
    refine r_iload_n (pc := 98) C dX2_takes_98 rfl rfl ?_
    refine r_icmp_geZ (pc := 99) (tgt := 138) C dX2_takes_99 (by decide) (by unfold i32; omega) (by unfold i32; omega) (fun h99 => ?_) (fun h99 => ?_)
    · refine r_aload_n (pc := 138) C dX2_takes_138 rfl rfl ?_
      refine r_iconstZ (pc := 139) C dX2_takes_139 ?_
      refine r_mput (pc := 140) (k := 17) (ty := .boolean) C dX2_takes_140 rfl q1189 (by decide) rfl (by decide +kernel) (by first | exact b2_nar _ | decide) (by first | exact b2_fit _ | decide) (ms_17 mad _ _) rfl (Or.inl rfl) ?_
      refine r_iconstZ (pc := 143) C dX2_takes_143 ?_
      exact r_zret (pc := 144) C hQ dX2_takes_144 (by first | exact b2_nar _ | decide) (Nat.le_of_ble_eq_true rfl) (Nat.le_of_ble_eq_true rfl) (fun G hG => ⟨_, hG, TakeQ.yes ((by rw [show k = c - 49 by omega] at g2; exact g2.x (eqx.rf.iput (ks := [17]) (by decide)) (by decide) (by decide)) : NewAt (iput sti 17 0) (u ++ List.replicate (c - 49) (wl u (u.length - 1)))) (m' := false) rfl (rd_run l1 ⟨l2, l3, l4, l5⟩) (g1.iput (by decide))⟩)
    · refine r_aload_n (pc := 102) C dX2_takes_102 rfl rfl ?_
      refine r_mget (pc := 103) (k := 16) C dX2_takes_103 rfl q1188 (by decide) rfl ?_
      refine r_aload_n (pc := 106) C dX2_takes_106 rfl rfl ?_
      refine r_mget (pc := 107) (k := 15) C dX2_takes_107 rfl q1187 (by decide) rfl ?_
      rw [g21]
      refine r_aload_n (pc := 110) C dX2_takes_110 rfl rfl ?_
      refine r_mget (pc := 111) (k := 16) C dX2_takes_111 rfl q1188 (by decide) rfl ?_
      refine r_aload_n (pc := 114) C dX2_takes_114 rfl rfl ?_
      refine r_mget (pc := 115) (k := 15) C dX2_takes_115 rfl q1187 (by decide) rfl ?_
      rw [g21]
      refine r_iconstZ (pc := 118) C dX2_takes_118 ?_
      refine r_isubZ (pc := 119) C dX2_takes_119 ?_
      refine r_mald (pc := 120) (L := 20) C dX2_takes_120 (by decide) rfl (by omega) (by omega) ?_
      rw [hlast]
      refine r_mast (pc := 121) (L := 20) C dX2_takes_121 (by decide) rfl (by omega) (by omega) ?_
      refine r_aload_n (pc := 122) C dX2_takes_122 rfl rfl ?_
      refine r_dup (pc := 123) C dX2_takes_123 rfl ?_
      refine r_mget (pc := 124) (k := 15) C dX2_takes_124 rfl q1187 (by decide) rfl ?_
      rw [show ∀ z : Int, (aput sti 16 ((u.length + k : Nat) : Int) z).1 15 = ((u.length + k : Nat) : Int) from fun z => g21]
      refine r_iconstZ (pc := 127) C dX2_takes_127 ?_
      refine r_iaddZ (pc := 128) C dX2_takes_128 ?_
      refine r_mput (pc := 129) (k := 15) (ty := .int) C dX2_takes_129 rfl q1187 (by decide) rfl (by decide +kernel) rfl rfl (ms_15 mad _ _) rfl (Or.inl rfl) ?_
      refine r_iincZ (pc := 132) C dX2_takes_132 rfl (by decide) ?_
      refine r_goto (pc := 135) (tgt := 97) C dX2_takes_135 (by decide) ?_
      refine ih (by omega) _ ((g1.aput (by decide)).iput (by decide)) ?_
      have hpu := g2.push (by omega) (wl u (u.length - 1))
      rw [hlen, List.append_assoc, show List.replicate k (wl u (u.length - 1)) ++ [wl u (u.length - 1)] = List.replicate (k + 1) (wl u (u.length - 1)) from List.replicate_succ'.symm] at hpu
      exact hpu
  refine r_iload_n (pc := 0) C dX2_takes_0 rfl rfl ?_
  refine r_bipushZ (pc := 1) C dX2_takes_1 (by decide) ?_
  refine r_icmp_eqZ (pc := 3) (tgt := 12) C dX2_takes_3 (by decide) (by unfold i32; omega) (by unfold i32; omega) (fun h3 => ?_) (fun h3 => ?_)
  · refine r_aload_n (pc := 12) C dX2_takes_12 rfl rfl ?_
    refine r_mget (pc := 13) (k := 15) C dX2_takes_13 rfl q1187 (by decide) rfl ?_
    rw [hu.1]
    refine r_bipushZ (pc := 16) C dX2_takes_16 (by decide) ?_
    refine r_icmp_neZ (pc := 18) (tgt := 23) C dX2_takes_18 (by decide) (by unfold i32; omega) (by unfold i32; omega) (fun h18 => ?_) (fun h18 => ?_)
    · refine r_aload_n (pc := 23) C dX2_takes_23 rfl rfl ?_
      refine r_mget (pc := 24) (k := 16) C dX2_takes_24 rfl q1188 (by decide) rfl ?_
      refine r_aload_n (pc := 27) C dX2_takes_27 rfl rfl ?_
      refine r_mget (pc := 28) (k := 15) C dX2_takes_28 rfl q1187 (by decide) rfl ?_
      rw [hu.1]
      refine r_iload_n (pc := 31) C dX2_takes_31 rfl rfl ?_
      refine r_bipushZ (pc := 32) C dX2_takes_32 (by decide) ?_
      refine r_icmp_neZ (pc := 34) (tgt := 41) C dX2_takes_34 (by decide) (by unfold i32; omega) (by unfold i32; omega) (fun h34 => ?_) (fun h34 => ?_)
      · refine r_iconstZ (pc := 41) C dX2_takes_41 ?_
        refine r_mast (pc := 42) (L := 20) C dX2_takes_42 (by decide) rfl (by omega) (by omega) ?_
        refine r_aload_n (pc := 43) C dX2_takes_43 rfl rfl ?_
        refine r_dup (pc := 44) C dX2_takes_44 rfl ?_
        refine r_mget (pc := 45) (k := 15) C dX2_takes_45 rfl q1187 (by decide) rfl ?_
        rw [show ∀ z : Int, (aput st 16 (u.length : Int) z).1 15 = (u.length : Int) from fun z => hu.1]
        refine r_iconstZ (pc := 48) C dX2_takes_48 ?_
        refine r_iaddZ (pc := 49) C dX2_takes_49 ?_
        refine r_mput (pc := 50) (k := 15) (ty := .int) C dX2_takes_50 rfl q1187 (by decide) rfl (by decide +kernel) rfl rfl (ms_15 mad _ _) rfl (Or.inl rfl) ?_
        refine r_aload_n (pc := 53) C dX2_takes_53 rfl rfl ?_
        refine r_iconstZ (pc := 54) C dX2_takes_54 ?_
        refine r_mput (pc := 55) (k := 17) (ty := .boolean) C dX2_takes_55 rfl q1189 (by decide) rfl (by decide +kernel) (by first | exact b2_nar _ | decide) (by first | exact b2_fit _ | decide) (ms_17 mad _ _) rfl (Or.inl rfl) ?_
        refine r_iconstZ (pc := 58) C dX2_takes_58 ?_
        exact r_zret (pc := 59) C hQ dX2_takes_59 (by first | exact b2_nar _ | decide) (Nat.le_of_ble_eq_true rfl) (Nat.le_of_ble_eq_true rfl) (fun G hG => ⟨_, hG, (by first | (refine TakeQ.yes (hu.push (by omega) false) rfl ((rd_letter (by omega) (by omega)).trans (by rw [decide_eq_false (by omega)])) ?_ ; exact (((eqx.rf.aput (by decide)).iput (by decide)).iput (by decide))) | (refine TakeQ.yes (hu.push (by omega) true) rfl ((rd_letter (by omega) (by omega)).trans (by rw [decide_eq_true (by omega)])) ?_ ; exact (((eqx.rf.aput (by decide)).iput (by decide)).iput (by decide))))⟩)
      · refine r_iconstZ (pc := 37) C dX2_takes_37 ?_
        refine r_goto (pc := 38) (tgt := 42) C dX2_takes_38 (by decide) ?_
        refine r_mast (pc := 42) (L := 20) C dX2_takes_42 (by decide) rfl (by omega) (by omega) ?_
        refine r_aload_n (pc := 43) C dX2_takes_43 rfl rfl ?_
        refine r_dup (pc := 44) C dX2_takes_44 rfl ?_
        refine r_mget (pc := 45) (k := 15) C dX2_takes_45 rfl q1187 (by decide) rfl ?_
        rw [show ∀ z : Int, (aput st 16 (u.length : Int) z).1 15 = (u.length : Int) from fun z => hu.1]
        refine r_iconstZ (pc := 48) C dX2_takes_48 ?_
        refine r_iaddZ (pc := 49) C dX2_takes_49 ?_
        refine r_mput (pc := 50) (k := 15) (ty := .int) C dX2_takes_50 rfl q1187 (by decide) rfl (by decide +kernel) rfl rfl (ms_15 mad _ _) rfl (Or.inl rfl) ?_
        refine r_aload_n (pc := 53) C dX2_takes_53 rfl rfl ?_
        refine r_iconstZ (pc := 54) C dX2_takes_54 ?_
        refine r_mput (pc := 55) (k := 17) (ty := .boolean) C dX2_takes_55 rfl q1189 (by decide) rfl (by decide +kernel) (by first | exact b2_nar _ | decide) (by first | exact b2_fit _ | decide) (ms_17 mad _ _) rfl (Or.inl rfl) ?_
        refine r_iconstZ (pc := 58) C dX2_takes_58 ?_
        exact r_zret (pc := 59) C hQ dX2_takes_59 (by first | exact b2_nar _ | decide) (Nat.le_of_ble_eq_true rfl) (Nat.le_of_ble_eq_true rfl) (fun G hG => ⟨_, hG, (by first | (refine TakeQ.yes (hu.push (by omega) false) rfl ((rd_letter (by omega) (by omega)).trans (by rw [decide_eq_false (by omega)])) ?_ ; exact (((eqx.rf.aput (by decide)).iput (by decide)).iput (by decide))) | (refine TakeQ.yes (hu.push (by omega) true) rfl ((rd_letter (by omega) (by omega)).trans (by rw [decide_eq_true (by omega)])) ?_ ; exact (((eqx.rf.aput (by decide)).iput (by decide)).iput (by decide))))⟩)
    · refine r_iconstZ (pc := 21) C dX2_takes_21 ?_
      exact r_zret (pc := 22) C hQ dX2_takes_22 (by first | exact b2_nar _ | decide) (Nat.le_of_ble_eq_true rfl) (Nat.le_of_ble_eq_true rfl) (fun G hG => ⟨_, hG, TakeQ.no hu hm (rd_full (by omega) (by omega))⟩)
  · refine r_iload_n (pc := 6) C dX2_takes_6 rfl rfl ?_
    refine r_bipushZ (pc := 7) C dX2_takes_7 (by decide) ?_
    refine r_icmp_neZ (pc := 9) (tgt := 60) C dX2_takes_9 (by decide) (by unfold i32; omega) (by unfold i32; omega) (fun h9 => ?_) (fun h9 => ?_)
    · refine r_iload_n (pc := 60) C dX2_takes_60 rfl rfl ?_
      refine r_bipushZ (pc := 61) C dX2_takes_61 (by decide) ?_
      refine r_isubZ (pc := 63) C dX2_takes_63 ?_
      refine r_istore_n (pc := 64) C dX2_takes_64 rfl (by decide) ?_
      refine r_aload_n (pc := 65) C dX2_takes_65 rfl rfl ?_
      refine r_mget (pc := 66) (k := 17) C dX2_takes_66 rfl q1189 (by decide) rfl ?_
      rw [hm]
      refine r_if_eqZ (pc := 69) (tgt := 93) C dX2_takes_69 (by decide) (bi_i _) (fun h69 => ?_) (fun h69 => ?_)
      · refine r_iconstZ (pc := 93) C dX2_takes_93 ?_
        exact r_zret (pc := 94) C hQ dX2_takes_94 (by first | exact b2_nar _ | decide) (Nat.le_of_ble_eq_true rfl) (Nat.le_of_ble_eq_true rfl) (fun G hG => ⟨_, hG, TakeQ.no hu hm (rd_no (by omega) (fun h => by first | (rw [bi_0.mp h69] at h; exact absurd h.1 (by decide)) | omega))⟩)
      · refine r_iload_n (pc := 72) C dX2_takes_72 rfl rfl ?_
        refine r_iconstZ (pc := 73) C dX2_takes_73 ?_
        refine r_bipushZ (pc := 74) C dX2_takes_74 (by decide) ?_
        refine r_invP (pc := 76) 3 C dX2_takes_76 (pf_within ((c : Int) - 49) 1 8 (by unfold i32; omega) (by unfold i32; omega) (by unfold i32; omega)) rfl (lw_S q1283 q1284 q92 q1285) (by decide +kernel) rfl rfl ⟨Nat.le_of_ble_eq_true rfl, Nat.le_of_ble_eq_true rfl⟩ (Nat.le_of_ble_eq_true rfl) ⟨Nat.le_of_ble_eq_true rfl, Nat.le_of_ble_eq_true rfl⟩ ?_
        refine r_if_eqB (pc := 79) (tgt := 93) C dX2_takes_79 (by decide)  (fun h79 => ?_) (fun h79 => ?_)
        · refine r_iconstZ (pc := 93) C dX2_takes_93 ?_
          exact r_zret (pc := 94) C hQ dX2_takes_94 (by first | exact b2_nar _ | decide) (Nat.le_of_ble_eq_true rfl) (Nat.le_of_ble_eq_true rfl) (fun G hG => ⟨_, hG, TakeQ.no hu hm (rd_no (by omega) (fun h => by first | (rw [bi_0.mp h69] at h; exact absurd h.1 (by decide)) | omega))⟩)
        · refine r_aload_n (pc := 82) C dX2_takes_82 rfl rfl ?_
          refine r_mget (pc := 83) (k := 15) C dX2_takes_83 rfl q1187 (by decide) rfl ?_
          rw [hu.1]
          refine r_iload_n (pc := 86) C dX2_takes_86 rfl rfl ?_
          refine r_iaddZ (pc := 87) C dX2_takes_87 ?_
          refine r_bipushZ (pc := 88) C dX2_takes_88 (by decide) ?_
          refine r_icmp_leZ (pc := 90) (tgt := 95) C dX2_takes_90 (by decide) (by unfold i32; omega) (by unfold i32; omega) (fun h90 => ?_) (fun h90 => ?_)
          · refine r_iconstZ (pc := 95) C dX2_takes_95 ?_
            refine r_istore_n (pc := 96) C dX2_takes_96 rfl (by decide) ?_
            exact loop (by omega) (bi_n0 h69) (by omega) (by omega) (by omega) 0 (Nat.zero_le _) _ eqx.rf (by rw [List.replicate_zero, List.append_nil]; exact hu)
          · refine r_iconstZ (pc := 93) C dX2_takes_93 ?_
            exact r_zret (pc := 94) C hQ dX2_takes_94 (by first | exact b2_nar _ | decide) (Nat.le_of_ble_eq_true rfl) (Nat.le_of_ble_eq_true rfl) (fun G hG => ⟨_, hG, TakeQ.no hu hm (rd_no (by omega) (fun h => by first | (rw [bi_0.mp h69] at h; exact absurd h.1 (by decide)) | omega))⟩)
    · refine r_aload_n (pc := 12) C dX2_takes_12 rfl rfl ?_
      refine r_mget (pc := 13) (k := 15) C dX2_takes_13 rfl q1187 (by decide) rfl ?_
      rw [hu.1]
      refine r_bipushZ (pc := 16) C dX2_takes_16 (by decide) ?_
      refine r_icmp_neZ (pc := 18) (tgt := 23) C dX2_takes_18 (by decide) (by unfold i32; omega) (by unfold i32; omega) (fun h18 => ?_) (fun h18 => ?_)
      · refine r_aload_n (pc := 23) C dX2_takes_23 rfl rfl ?_
        refine r_mget (pc := 24) (k := 16) C dX2_takes_24 rfl q1188 (by decide) rfl ?_
        refine r_aload_n (pc := 27) C dX2_takes_27 rfl rfl ?_
        refine r_mget (pc := 28) (k := 15) C dX2_takes_28 rfl q1187 (by decide) rfl ?_
        rw [hu.1]
        refine r_iload_n (pc := 31) C dX2_takes_31 rfl rfl ?_
        refine r_bipushZ (pc := 32) C dX2_takes_32 (by decide) ?_
        refine r_icmp_neZ (pc := 34) (tgt := 41) C dX2_takes_34 (by decide) (by unfold i32; omega) (by unfold i32; omega) (fun h34 => ?_) (fun h34 => ?_)
        · refine r_iconstZ (pc := 41) C dX2_takes_41 ?_
          refine r_mast (pc := 42) (L := 20) C dX2_takes_42 (by decide) rfl (by omega) (by omega) ?_
          refine r_aload_n (pc := 43) C dX2_takes_43 rfl rfl ?_
          refine r_dup (pc := 44) C dX2_takes_44 rfl ?_
          refine r_mget (pc := 45) (k := 15) C dX2_takes_45 rfl q1187 (by decide) rfl ?_
          rw [show ∀ z : Int, (aput st 16 (u.length : Int) z).1 15 = (u.length : Int) from fun z => hu.1]
          refine r_iconstZ (pc := 48) C dX2_takes_48 ?_
          refine r_iaddZ (pc := 49) C dX2_takes_49 ?_
          refine r_mput (pc := 50) (k := 15) (ty := .int) C dX2_takes_50 rfl q1187 (by decide) rfl (by decide +kernel) rfl rfl (ms_15 mad _ _) rfl (Or.inl rfl) ?_
          refine r_aload_n (pc := 53) C dX2_takes_53 rfl rfl ?_
          refine r_iconstZ (pc := 54) C dX2_takes_54 ?_
          refine r_mput (pc := 55) (k := 17) (ty := .boolean) C dX2_takes_55 rfl q1189 (by decide) rfl (by decide +kernel) (by first | exact b2_nar _ | decide) (by first | exact b2_fit _ | decide) (ms_17 mad _ _) rfl (Or.inl rfl) ?_
          refine r_iconstZ (pc := 58) C dX2_takes_58 ?_
          exact r_zret (pc := 59) C hQ dX2_takes_59 (by first | exact b2_nar _ | decide) (Nat.le_of_ble_eq_true rfl) (Nat.le_of_ble_eq_true rfl) (fun G hG => ⟨_, hG, (by first | (refine TakeQ.yes (hu.push (by omega) false) rfl ((rd_letter (by omega) (by omega)).trans (by rw [decide_eq_false (by omega)])) ?_ ; exact (((eqx.rf.aput (by decide)).iput (by decide)).iput (by decide))) | (refine TakeQ.yes (hu.push (by omega) true) rfl ((rd_letter (by omega) (by omega)).trans (by rw [decide_eq_true (by omega)])) ?_ ; exact (((eqx.rf.aput (by decide)).iput (by decide)).iput (by decide))))⟩)
        · refine r_iconstZ (pc := 37) C dX2_takes_37 ?_
          refine r_goto (pc := 38) (tgt := 42) C dX2_takes_38 (by decide) ?_
          refine r_mast (pc := 42) (L := 20) C dX2_takes_42 (by decide) rfl (by omega) (by omega) ?_
          refine r_aload_n (pc := 43) C dX2_takes_43 rfl rfl ?_
          refine r_dup (pc := 44) C dX2_takes_44 rfl ?_
          refine r_mget (pc := 45) (k := 15) C dX2_takes_45 rfl q1187 (by decide) rfl ?_
          rw [show ∀ z : Int, (aput st 16 (u.length : Int) z).1 15 = (u.length : Int) from fun z => hu.1]
          refine r_iconstZ (pc := 48) C dX2_takes_48 ?_
          refine r_iaddZ (pc := 49) C dX2_takes_49 ?_
          refine r_mput (pc := 50) (k := 15) (ty := .int) C dX2_takes_50 rfl q1187 (by decide) rfl (by decide +kernel) rfl rfl (ms_15 mad _ _) rfl (Or.inl rfl) ?_
          refine r_aload_n (pc := 53) C dX2_takes_53 rfl rfl ?_
          refine r_iconstZ (pc := 54) C dX2_takes_54 ?_
          refine r_mput (pc := 55) (k := 17) (ty := .boolean) C dX2_takes_55 rfl q1189 (by decide) rfl (by decide +kernel) (by first | exact b2_nar _ | decide) (by first | exact b2_fit _ | decide) (ms_17 mad _ _) rfl (Or.inl rfl) ?_
          refine r_iconstZ (pc := 58) C dX2_takes_58 ?_
          exact r_zret (pc := 59) C hQ dX2_takes_59 (by first | exact b2_nar _ | decide) (Nat.le_of_ble_eq_true rfl) (Nat.le_of_ble_eq_true rfl) (fun G hG => ⟨_, hG, (by first | (refine TakeQ.yes (hu.push (by omega) false) rfl ((rd_letter (by omega) (by omega)).trans (by rw [decide_eq_false (by omega)])) ?_ ; exact (((eqx.rf.aput (by decide)).iput (by decide)).iput (by decide))) | (refine TakeQ.yes (hu.push (by omega) true) rfl ((rd_letter (by omega) (by omega)).trans (by rw [decide_eq_true (by omega)])) ?_ ; exact (((eqx.rf.aput (by decide)).iput (by decide)).iput (by decide))))⟩)
      · refine r_iconstZ (pc := 21) C dX2_takes_21 ?_
        exact r_zret (pc := 22) C hQ dX2_takes_22 (by first | exact b2_nar _ | decide) (Nat.le_of_ble_eq_true rfl) (Nat.le_of_ble_eq_true rfl) (fun G hG => ⟨_, hG, TakeQ.no hu hm (rd_full (by omega) (by omega))⟩)
theorem rdNext_ne {s : List Bool × Bool} {c : Nat} (h : s.2 = true → 0 < s.1.length) : (rdNext s c).2 = true → 0 < (rdNext s c).1.length := by
  obtain ⟨u, may⟩ := s
  unfold rdNext
  by_cases hc : c = 76 ∨ c = 82
  · by_cases hl : u.length = 20
    · rw [rd_full hc hl]; exact h
    · rw [rd_letter hc hl]; intro _; simp
  · by_cases h2 : may = true ∧ 50 ≤ c ∧ c ≤ 57 ∧ u.length + (c - 49) ≤ 20
    · rw [rd_run hc h2]; intro h3; exact absurd h3 (by simp)
    · rw [rd_no hc h2]; exact h
theorem rdAll_cons {c : Nat} {r : List Nat} {s : List Bool × Bool} : rdAll (c :: r) s = if (rdStep s c).isSome then ((rdAll r (rdNext s c)).1 + 1, (rdAll r (rdNext s c)).2) else (0, s.1) := by
  show (match rdStep s c with | none => (0, s.1) | some s' => ((rdAll r s').1 + 1, (rdAll r s').2)) = _
  unfold rdNext
  cases h : rdStep s c with
  | none => rfl
  | some s' => rfl
theorem rdAll_le (r : List Nat) : ∀ s, (rdAll r s).1 ≤ r.length := by
  induction r with
  | nil => intro s; exact Nat.le_refl _
  | cons c r ih =>
    intro s
    rw [rdAll_cons]
    split
    · have := ih (rdNext s c)
      simp; omega
    · exact Nat.zero_le _
set_option maxHeartbeats 800000 in
theorem mt_read {la : Launch} {X : XE} {mh : Nat} {mad : Nat → Nat} {G0 : Gh} {st : MSt} (pg : List Nat) (h : PageAt st pg) : MM la X mh mad G0 yX2_read cX2_read 2 (some .int) 2 45 [] st (fun v st' => v = some (.int (iI ((rd pg).1 : Int))) ∧ NewAt st' (rd pg).2 ∧ eqx [15, 16, 17] st st') := by
  refine MG.of (by decide +kernel) (Nat.le_of_ble_eq_true rfl) ?_
  intro Z C hX hL hQ
  subst hX; subst hL
  change WW Z 2 (MOD mh mad G0 st) 0 0 0 [some (.ref mh), none] []
  have hpl := h.2.1
  have loop : ∀ k : Nat, k ≤ pg.length → ∀ (sti : MSt) (s : List Bool × Bool), eqx [15, 16, 17] st sti → NewAt sti s.1 → sti.1 17 = bi s.2 → (s.2 = true → 0 < s.1.length) → rd pg = ((rdAll (pg.drop k) s).1 + k, (rdAll (pg.drop k) s).2) → WW Z 2 (MOD mh mad G0 (sti)) 0 0 12 [some (.ref mh), some (.int (iI k))] [] := by
    refine loopN _ _ (fun k hk ih sti s g1 g2 g3 g4 g5 => ?_)
    have hp2 := h.x g1 (by decide) (by decide)
    refine r_iload_n (pc := 12) C dX2_read_12 rfl rfl ?_
    refine r_aload_n (pc := 13) C dX2_read_13 rfl rfl ?_
    refine r_mget (pc := 14) (k := 0) C dX2_read_14 rfl q1172 (by decide) rfl ?_
    rw [hp2.1]
    refine r_icmp_geZ (pc := 17) (tgt := 39) C dX2_read_17 (by decide) (by unfold i32; omega) (by unfold i32; omega) (fun h17 => ?_) (fun h17 => ?_)
    · refine r_iload_n (pc := 39) C dX2_read_39 rfl rfl ?_
      exact r_iret (pc := 40) C hQ dX2_read_40 (Nat.le_of_ble_eq_true rfl) (Nat.le_of_ble_eq_true rfl) (fun G hG => ⟨_, hG, (by first | (rw [if_neg (by rw [bi_0.mp h30]; decide)] at g5; have hn : rdStep s (pg.getD k 0) = none := (Option.isNone_iff_eq_none.mp (by have := bi_0.mp h30; simpa using this)); refine ⟨by rw [g5, Nat.zero_add], ?_, g1.tr t3⟩; rw [g5]; unfold rdNext at t1; rw [hn] at t1; exact t1) | (rw [show k = pg.length by omega, List.drop_length] at g5; rw [g5]; exact ⟨by rw [show k = pg.length by omega]; show _ = some (Value.int (iI ((0 + pg.length : Nat) : Int))); rw [Nat.zero_add], g2, g1⟩))⟩)
    · refine r_aload_n (pc := 20) C dX2_read_20 rfl rfl ?_
      refine r_aload_n (pc := 21) C dX2_read_21 rfl rfl ?_
      refine r_mget (pc := 22) (k := 1) C dX2_read_22 rfl q1173 (by decide) rfl ?_
      refine r_iload_n (pc := 25) C dX2_read_25 rfl rfl ?_
      refine r_mald (pc := 26) (L := 20) C dX2_read_26 (by decide) rfl (by omega) (by omega) ?_
      have hck := hp2.2.2 k (by omega)
      rw [hck.1]
      rw [List.drop_eq_getElem_cons (show k < pg.length by omega), show pg[k]'(by omega) = pg.getD k 0 from by rw [List.getD_eq_getElem?_getD, List.getElem?_eq_getElem (by omega)]; rfl, rdAll_cons] at g5
      refine r_minv (pc := 27) 1 C dX2_read_27 (mt_takes s.1 s.2 (pg.getD k 0) hck.2 g2 g3 g4) rfl (lw_V q1300 q1302 qs28 q92 q1303) (by decide +kernel) rfl rfl ⟨Nat.le_of_ble_eq_true rfl, Nat.le_of_ble_eq_true rfl⟩ (Nat.le_of_ble_eq_true rfl) ⟨Nat.le_of_ble_eq_true rfl, Nat.le_of_ble_eq_true rfl⟩ (fun v27 st27 h27 => ?_)
      obtain ⟨rfl, t1, t2, t3⟩ := h27
      refine r_if_eqZ (pc := 30) (tgt := 39) C dX2_read_30 (by decide) (bi_i _) (fun h30 => ?_) (fun h30 => ?_)
      · refine r_iload_n (pc := 39) C dX2_read_39 rfl rfl ?_
        exact r_iret (pc := 40) C hQ dX2_read_40 (Nat.le_of_ble_eq_true rfl) (Nat.le_of_ble_eq_true rfl) (fun G hG => ⟨_, hG, (by first | (rw [if_neg (by rw [bi_0.mp h30]; decide)] at g5; have hn : rdStep s (pg.getD k 0) = none := (Option.isNone_iff_eq_none.mp (by have := bi_0.mp h30; simpa using this)); refine ⟨by rw [g5, Nat.zero_add], ?_, g1.tr t3⟩; rw [g5]; unfold rdNext at t1; rw [hn] at t1; exact t1) | (rw [show k = pg.length by omega, List.drop_length] at g5; rw [g5]; exact ⟨by rw [show k = pg.length by omega]; show _ = some (Value.int (iI ((0 + pg.length : Nat) : Int))); rw [Nat.zero_add], g2, g1⟩))⟩)
      · refine r_iincZ (pc := 33) C dX2_read_33 rfl (by decide) ?_
        refine r_goto (pc := 36) (tgt := 12) C dX2_read_36 (by decide) ?_
        rw [if_pos (bi_n0 h30)] at g5
        exact ih (by omega) _ (rdNext s (pg.getD k 0)) (g1.tr t3) t1 t2 (rdNext_ne g4) (by rw [g5]; simp; omega)
  refine r_aload_n (pc := 0) C dX2_read_0 rfl rfl ?_
  refine r_iconstZ (pc := 1) C dX2_read_1 ?_
  refine r_mput (pc := 2) (k := 15) (ty := .int) C dX2_read_2 rfl q1187 (by decide) rfl (by decide +kernel) rfl rfl (ms_15 mad _ _) rfl (Or.inl rfl) ?_
  refine r_aload_n (pc := 5) C dX2_read_5 rfl rfl ?_
  refine r_iconstZ (pc := 6) C dX2_read_6 ?_
  refine r_mput (pc := 7) (k := 17) (ty := .boolean) C dX2_read_7 rfl q1189 (by decide) rfl (by decide +kernel) (by first | exact b2_nar _ | decide) (by first | exact b2_fit _ | decide) (ms_17 mad _ _) rfl (Or.inl rfl) ?_
  refine r_iconstZ (pc := 10) C dX2_read_10 ?_
  refine r_istore_n (pc := 11) C dX2_read_11 rfl (by decide) ?_
  exact loop 0 (Nat.zero_le _) _ ([], false) ((eqx.rf.iput (by decide)).iput (by decide)) ((NewAt.zero st).x (eqx.rf.iput (ks := [17]) (by decide)) (by decide) (by decide)) rfl (fun h => absurd h (by decide)) rfl
set_option maxHeartbeats 800000 in
theorem mt_fault {la : Launch} {X : XE} {mh : Nat} {mad : Nat → Nat} {G0 : Gh} {st : MSt} (pg : List Nat) (h : PageAt st pg) : MM la X mh mad G0 yX2_fault cX2_fault 1 (some .int) 3 66 [] st (fun v st' => v = some (.int (iI ((rd pg).1 : Int))) ∧ eqx [15, 16, 17] st st') := by
  refine MG.of (by decide +kernel) (Nat.le_of_ble_eq_true rfl) ?_
  intro Z C hX hL hQ
  subst hX; subst hL
  change WW Z 1 (MOD mh mad G0 st) 0 0 0 [some (.ref mh)] []
  refine r_aload_n (pc := 0) C dX2_fault_0 rfl rfl ?_
  refine r_minv (pc := 1) 0 C dX2_fault_1 (mt_read pg h) rfl (lw_V q1296 q1298 qs27 q92 q1299) (by decide +kernel) rfl rfl ⟨Nat.le_of_ble_eq_true rfl, Nat.le_of_ble_eq_true rfl⟩ (Nat.le_of_ble_eq_true rfl) ⟨Nat.le_of_ble_eq_true rfl, Nat.le_of_ble_eq_true rfl⟩ (fun v1 st1 h1 => ?_)
  obtain ⟨rfl, h1a, h1b⟩ := h1
  exact r_iret (pc := 4) C hQ dX2_fault_4 (Nat.le_of_ble_eq_true rfl) (Nat.le_of_ble_eq_true rfl) (fun G hG => ⟨_, hG, ⟨rfl, h1b⟩⟩)
/-- a word is read off the page: the answer, the roads, the page, and whether one more word counts as read -/
def sWord (ws : Wss) (pg : List Nat) : Int × Wss × List Nat × Int :=
  if (rd pg).1 < pg.length ∨ (rd pg).2.length = 0 then (STA, ws, pg, 0) else if ws.length = 6 then (FUL, ws, pg, 0) else ((ws.length : Int), ws ++ [(rd pg).2], [], 1)
set_option maxHeartbeats 800000 in
theorem mt_word {la : Launch} {X : XE} {mh : Nat} {mad : Nat → Nat} {G0 : Gh} {st : MSt} (ws : Wss) (pg : List Nat) (h : RoadsAre st ws) (hp : PageAt st pg) : MM la X mh mad G0 yX2_word cX2_word 1 (some .int) 3 66 [] st (fun v st' => v = some (.int (iI (sWord ws pg).1)) ∧ RoadsAre st' (sWord ws pg).2.1 ∧ PageAt st' (sWord ws pg).2.2.1 ∧ st'.1 5 = st.1 5 + (sWord ws pg).2.2.2 ∧ eqx (0 :: 2 :: 3 :: 4 :: 5 :: tq) st st') := by
  refine MG.of (by decide +kernel) (Nat.le_of_ble_eq_true rfl) ?_
  intro Z C hX hL hQ
  subst hX; subst hL
  change WW Z 1 (MOD mh mad G0 st) 0 0 0 [some (.ref mh)] []
  have hl6 := h.2.1
  have hpl := hp.2.1
  have hrd := rdAll_le pg ([], false)
  refine r_aload_n (pc := 0) C dX2_word_0 rfl rfl ?_
  refine r_minv (pc := 1) 0 C dX2_word_1 (mt_read pg hp) rfl (lw_V q1296 q1298 qs27 q92 q1299) (by decide +kernel) rfl rfl ⟨Nat.le_of_ble_eq_true rfl, Nat.le_of_ble_eq_true rfl⟩ (Nat.le_of_ble_eq_true rfl) ⟨Nat.le_of_ble_eq_true rfl, Nat.le_of_ble_eq_true rfl⟩ (fun v1 st1 h1 => ?_)
  obtain ⟨rfl, h1a, h1b⟩ := h1
  have h1w := h.x h1b (by decide) (by decide) (by decide)
  have h1p := hp.x h1b (by decide) (by decide)
  have h1l := h1a.2.1
  have hf5 := (h1b 5 (by decide)).1
  refine r_aload_n (pc := 4) C dX2_word_4 rfl rfl ?_
  refine r_mget (pc := 5) (k := 0) C dX2_word_5 rfl q1172 (by decide) rfl ?_
  rw [h1p.1]
  refine r_icmp_ltZ (pc := 8) (tgt := 18) C dX2_word_8 (by decide) (by unfold rd at *; unfold i32; omega) (by unfold i32; omega) (fun h8 => ?_) (fun h8 => ?_)
  · refine r_ldcZ (pc := 18) (a := -2000000103) C dX2_word_18 rfl q1308 (by decide) ?_
    exact r_iret (pc := 20) C hQ dX2_word_20 (Nat.le_of_ble_eq_true rfl) (Nat.le_of_ble_eq_true rfl) (fun G hG => ⟨_, hG, (by unfold sWord; rw [if_pos (by omega)]; exact ⟨rfl, h1w, h1p, by rw [hf5]; exact (Int.add_zero _).symm, h1b.wk (by decide)⟩)⟩)
  · refine r_aload_n (pc := 11) C dX2_word_11 rfl rfl ?_
    refine r_mget (pc := 12) (k := 15) C dX2_word_12 rfl q1187 (by decide) rfl ?_
    rw [h1a.1]
    refine r_if_neZ (pc := 15) (tgt := 21) C dX2_word_15 (by decide) (by unfold i32; omega) (fun h15 => ?_) (fun h15 => ?_)
    · refine r_aload_n (pc := 21) C dX2_word_21 rfl rfl ?_
      refine r_mget (pc := 22) (k := 2) C dX2_word_22 rfl q1174 (by decide) rfl ?_
      rw [h1w.1]
      refine r_bipushZ (pc := 25) C dX2_word_25 (by decide) ?_
      refine r_icmp_neZ (pc := 27) (tgt := 33) C dX2_word_27 (by decide) (by unfold i32; omega) (by unfold i32; omega) (fun h27 => ?_) (fun h27 => ?_)
      · refine r_aload_n (pc := 33) C dX2_word_33 rfl rfl ?_
        refine r_dup (pc := 34) C dX2_word_34 rfl ?_
        refine r_mget (pc := 35) (k := 5) C dX2_word_35 rfl q1177 (by decide) rfl ?_
        refine r_iconstZ (pc := 38) C dX2_word_38 ?_
        refine r_iaddZ (pc := 39) C dX2_word_39 ?_
        refine r_mput (pc := 40) (k := 5) (ty := .int) C dX2_word_40 rfl q1177 (by decide) rfl (by decide +kernel) rfl rfl (ms_5 mad _ _) rfl (Or.inl rfl) ?_
        refine r_aload_n (pc := 43) C dX2_word_43 rfl rfl ?_
        refine r_iconstZ (pc := 44) C dX2_word_44 ?_
        refine r_mput (pc := 45) (k := 0) (ty := .int) C dX2_word_45 rfl q1172 (by decide) rfl (by decide +kernel) rfl rfl (ms_0 mad _ _) rfl (Or.inl rfl) ?_
        refine r_aload_n (pc := 48) C dX2_word_48 rfl rfl ?_
        have e2 := ((eqx.rf (st := st1)).iput (ks := [0, 5]) (k := 5) (z := st1.1 5 + 1) (by decide)).iput (k := 0) (z := 0) (by decide)
        refine r_minv (pc := 49) 0 C dX2_word_49 (mt_keepNew ws (rd pg).2 (by omega) (by omega) (h1w.x e2 (by decide) (by decide) (by decide)) (h1a.x e2 (by decide) (by decide))) rfl (lw_V q1309 q1311 qs29 q92 q1312) (by decide +kernel) rfl rfl ⟨Nat.le_of_ble_eq_true rfl, Nat.le_of_ble_eq_true rfl⟩ (Nat.le_of_ble_eq_true rfl) ⟨Nat.le_of_ble_eq_true rfl, Nat.le_of_ble_eq_true rfl⟩ (fun v49 st49 h49 => ?_)
        obtain ⟨rfl, h49a, h49b⟩ := h49
        exact r_iret (pc := 52) C hQ dX2_word_52 (Nat.le_of_ble_eq_true rfl) (Nat.le_of_ble_eq_true rfl) (fun G hG => ⟨_, hG, (by unfold sWord; rw [if_neg (by omega), if_neg (by omega)]; exact ⟨rfl, h49a, ⟨((h49b 0 (by decide)).1).trans rfl, Nat.zero_le _, fun j hj => absurd hj (Nat.not_lt_zero _)⟩, by rw [(h49b 5 (by decide)).1, ← hf5]; rfl, ((h1b.wk (by decide)).tr (e2.wk (by decide))).tr (h49b.wk (by decide))⟩)⟩)
      · refine r_ldcZ (pc := 30) (a := -2000000104) C dX2_word_30 rfl q1287 (by decide) ?_
        exact r_iret (pc := 32) C hQ dX2_word_32 (Nat.le_of_ble_eq_true rfl) (Nat.le_of_ble_eq_true rfl) (fun G hG => ⟨_, hG, (by unfold sWord; rw [if_neg (by omega), if_pos (by omega)]; exact ⟨rfl, h1w, h1p, by rw [hf5]; exact (Int.add_zero _).symm, h1b.wk (by decide)⟩)⟩)
    · refine r_ldcZ (pc := 18) (a := -2000000103) C dX2_word_18 rfl q1308 (by decide) ?_
      exact r_iret (pc := 20) C hQ dX2_word_20 (Nat.le_of_ble_eq_true rfl) (Nat.le_of_ble_eq_true rfl) (fun G hG => ⟨_, hG, (by unfold sWord; rw [if_pos (by omega)]; exact ⟨rfl, h1w, h1p, by rw [hf5]; exact (Int.add_zero _).symm, h1b.wk (by decide)⟩)⟩)

