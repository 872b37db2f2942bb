/-! the reference's methods: a river is laid -/
set_option maxRecDepth 100000
theorem dvs_mono (P : Nat) {m n : Nat} (h : m ≤ n) : dvs P m ≤ dvs P n := by
  induction n with
  | zero => rw [show m = 0 by omega]; exact Nat.le_refl _
  | succ n ih =>
    by_cases e : m = n + 1
    · rw [e]; exact Nat.le_refl _
    · have := ih (by omega)
      have e2 : dvs P (n + 1) = dvs P n + (if P % (n + 1) = 0 then 1 else 0) := rfl
      omega
theorem fmA_s (y : Int) (P n : Nat) : fmA y P (n + 1) = fmA y P n ++ (if P % (n + 1) = 0 ∧ Int.gcd (Int.gcd ((n + 1 : Nat) : Int) y : Nat) ((P / (n + 1) : Nat) : Int) = 1 then [(((n + 1 : Nat) : Int), y, -((P / (n + 1) : Nat) : Int))] else []) := rfl
set_option maxHeartbeats 800000 in
theorem mt_layMiddle {la : Launch} {X : XE} {mh : Nat} {mad : Nat → Nat} {G0 : Gh} {st : MSt} (d y : Int) (lf : List Fm) (hd : 5 ≤ d ∧ d ≤ 900) (hy : -30 ≤ y ∧ y ≤ 30) (h6 : st.1 6 = d) (h : FormsAt st lf) (hlf : lf.length ≤ 1080) (hyd : y * y < d) (hm : (d - y * y) % 4 = 0) : MM la X mh mad G0 yX2_layMiddle cX2_layMiddle 4 none 2 44 [.int (iI y)] st (fun v st' => v = none ∧ FormsAt st' (lf ++ fmB d y) ∧ eqx [7, 8, 9, 10] st st') := by
  refine MG.of (by decide +kernel) (Nat.le_of_ble_eq_true rfl) ?_
  intro Z C hX hL hQ
  subst hX; subst hL
  change WW Z 4 (MOD mh mad G0 st) 0 0 0 [some (.ref mh), some (.int (iI y)), none, none] []
  have hyy : 0 ≤ y * y := by
    rcases Int.le_total 0 y with h | h
    · exact Int.mul_nonneg h h
    · exact Int.mul_nonneg_of_nonpos_of_nonpos h h
  have hfb : fmB d y = fmA y ((d - y * y) / 4).toNat ((d - y * y) / 4).toNat := by unfold fmB; rw [if_pos ⟨hyd, hm⟩]
  generalize hP : ((d - y * y) / 4).toNat = P at hfb
  have hleft : d - y * y = 4 * (P : Int) := by omega
  have hP2 : 1 ≤ P ∧ P < 226 := by omega
  have loop : ∀ k : Nat, k ≤ P → ∀ sti : MSt, eqx [7, 8, 9, 10] st sti → FormsAt sti (lf ++ fmA y P k) → WW Z 4 (MOD mh mad G0 (sti)) 0 0 11 [some (.ref mh), some (.int (iI y)), some (.int (iI (4 * (P : Int)))), some (.int (iI ((k + 1 : Nat) : Int)))] [] := by
    refine loopN _ _ (fun k hk ih sti g1 g2 => ?_)
    obtain ⟨Qd, hQd⟩ : ∃ q, P / (k + 1) = q := ⟨_, rfl⟩
    have e1 : (4 * (P : Int)) % (4 * ((k + 1 : Nat) : Int)) = 4 * ((P % (k + 1) : Nat) : Int) := by rw [Int.mul_emod_mul_of_pos _ _ (by decide)]; rfl
    have e2 : (4 * (P : Int)) / (4 * ((k + 1 : Nat) : Int)) = (Qd : Int) := by rw [Int.mul_ediv_mul_of_pos _ _ (by decide), ← hQd]; rfl
    have e3 : (-(4 * (P : Int))).tdiv (4 * ((k + 1 : Nat) : Int)) = -(Qd : Int) := by rw [Int.neg_tdiv, Int.tdiv_eq_ediv_of_nonneg (by omega), e2]
    have hq : Qd ≤ P := by rw [← hQd]; exact Nat.div_le_self _ _
    have hr : P % (k + 1) < k + 1 := Nat.mod_lt _ (by omega)
    have hg1 := igcd_le (a := ((k + 1 : Nat) : Int)) (b := y) (by omega)
    have hg2 := igcd_le (a := igcd ((k + 1 : Nat) : Int) y) (b := (Qd : Int)) (by unfold igcd; omega)
    have hgx : 1 ≤ igcd ((k + 1 : Nat) : Int) y ∧ igcd ((k + 1 : Nat) : Int) y ≤ 300 := by unfold igcd; omega
    have hgy : 1 ≤ igcd (igcd ((k + 1 : Nat) : Int) y) (Qd : Int) ∧ igcd (igcd ((k + 1 : Nat) : Int) y) (Qd : Int) ≤ 300 := by unfold igcd at *; omega
    have hno : k < P → ¬ (P % (k + 1) = 0 ∧ Int.gcd (Int.gcd ((k + 1 : Nat) : Int) y : Nat) (Qd : Int) = 1) → WW Z 4 (MOD mh mad G0 sti) 0 0 88 [some (.ref mh), some (.int (iI y)), some (.int (iI (4 * (P : Int)))), some (.int (iI ((k + 1 : Nat) : Int)))] [] := by
      intro hkP hn
      refine r_iincZ (pc := 88) C dX2_layMiddle_88 rfl (by decide) ?_
      refine r_goto (pc := 91) (tgt := 11) C dX2_layMiddle_91 (by decide) ?_
      refine ih hkP sti g1 ?_
      rw [fmA_s, hQd, if_neg hn, List.append_nil]
      exact g2
    refine r_iconstZ (pc := 11) C dX2_layMiddle_11 ?_
    refine r_iload_n (pc := 12) C dX2_layMiddle_12 rfl rfl ?_
    refine r_imulZ (pc := 13) C dX2_layMiddle_13 ?_
    refine r_iload_n (pc := 14) C dX2_layMiddle_14 rfl rfl ?_
    refine r_icmp_gtZ (pc := 15) (tgt := 94) C dX2_layMiddle_15 (by decide) (by unfold i32; omega) (by unfold i32; omega) (fun h15 => ?_) (fun h15 => ?_)
    · exact r_vret (pc := 94) C hQ dX2_layMiddle_94 (Nat.le_of_ble_eq_true rfl) (Nat.le_of_ble_eq_true rfl) (fun G hG => ⟨_, hG, ⟨rfl, by rw [hfb]; rw [show k = P by omega] at g2; exact g2, g1⟩⟩)
    · refine r_iload_n (pc := 18) C dX2_layMiddle_18 rfl rfl ?_
      refine r_iconstZ (pc := 19) C dX2_layMiddle_19 ?_
      refine r_iload_n (pc := 20) C dX2_layMiddle_20 rfl rfl ?_
      refine r_imulZ (pc := 21) C dX2_layMiddle_21 ?_
      refine r_iremE (pc := 22) C dX2_layMiddle_22 (by unfold i32; omega) (by unfold i32; omega) (by omega) (by omega) ?_
      rw [e1]
      refine r_if_neZ (pc := 23) (tgt := 88) C dX2_layMiddle_23 (by decide) (by unfold i32; omega) (fun h23 => ?_) (fun h23 => ?_)
      · first | exact hno (by omega) (fun q => h40 (by unfold igcd; rw [q.2]; rfl)) | exact hno (by omega) (fun q => h23 (by rw [q.1]; rfl))
      · refine r_iload_n (pc := 26) C dX2_layMiddle_26 rfl rfl ?_
        refine r_iload_n (pc := 27) C dX2_layMiddle_27 rfl rfl ?_
        refine r_invP (pc := 28) 2 C dX2_layMiddle_28 (pf_common ((k + 1 : Nat) : Int) y (by unfold i32; omega) (by unfold i32; omega)) rfl (lw_S q1402 q1403 q92 q1404) (by decide +kernel) rfl rfl ⟨Nat.le_of_ble_eq_true rfl, Nat.le_of_ble_eq_true rfl⟩ (Nat.le_of_ble_eq_true rfl) ⟨Nat.le_of_ble_eq_true rfl, Nat.le_of_ble_eq_true rfl⟩ ?_
        refine r_iload_n (pc := 31) C dX2_layMiddle_31 rfl rfl ?_
        refine r_iconstZ (pc := 32) C dX2_layMiddle_32 ?_
        refine r_iload_n (pc := 33) C dX2_layMiddle_33 rfl rfl ?_
        refine r_imulZ (pc := 34) C dX2_layMiddle_34 ?_
        refine r_idivE (pc := 35) C dX2_layMiddle_35 (by unfold i32; omega) (by unfold i32; omega) (by omega) (by omega) ?_
        rw [e2]
        refine r_invP (pc := 36) 2 C dX2_layMiddle_36 (pf_common (igcd ((k + 1 : Nat) : Int) y) (Qd : Int) (by unfold i32; omega) (by unfold i32; omega)) rfl (lw_S q1402 q1403 q92 q1404) (by decide +kernel) rfl rfl ⟨Nat.le_of_ble_eq_true rfl, Nat.le_of_ble_eq_true rfl⟩ (Nat.le_of_ble_eq_true rfl) ⟨Nat.le_of_ble_eq_true rfl, Nat.le_of_ble_eq_true rfl⟩ ?_
        refine r_iconstZ (pc := 39) C dX2_layMiddle_39 ?_
        refine r_icmp_neZ (pc := 40) (tgt := 88) C dX2_layMiddle_40 (by decide) (by unfold i32; omega) (by unfold i32; omega) (fun h40 => ?_) (fun h40 => ?_)
        · first | exact hno (by omega) (fun q => h40 (by unfold igcd; rw [q.2]; rfl)) | exact hno (by omega) (fun q => h23 (by rw [q.1]; rfl))
        · have hyes : P % (k + 1) = 0 ∧ Int.gcd (Int.gcd ((k + 1 : Nat) : Int) y : Nat) (Qd : Int) = 1 := ⟨by omega, by unfold igcd at h40; omega⟩
          have hcap : (lf ++ fmA y P k).length < 1098 := (by have a1 := fmA_len y P k; have a2 := dvs_mono P (show k + 1 ≤ P by omega); have a3 := dvs_18 P hP2.2; have a4 : dvs P (k + 1) = dvs P k + 1 := (by show dvs P k + _ = _; rw [if_pos hyes.1]); rw [List.length_append]; omega)
          have g7 := g2.1
          refine r_aload_n (pc := 43) C dX2_layMiddle_43 rfl rfl ?_
          refine r_mget (pc := 44) (k := 8) C dX2_layMiddle_44 rfl q1180 (by decide) rfl ?_
          refine r_aload_n (pc := 47) C dX2_layMiddle_47 rfl rfl ?_
          refine r_mget (pc := 48) (k := 7) C dX2_layMiddle_48 rfl q1179 (by decide) rfl ?_
          rw [g7]
          refine r_iload_n (pc := 51) C dX2_layMiddle_51 rfl rfl ?_
          refine r_mast (pc := 52) (L := 1200) C dX2_layMiddle_52 (by decide) rfl (by omega) (by omega) ?_
          refine r_aload_n (pc := 53) C dX2_layMiddle_53 rfl rfl ?_
          refine r_mget (pc := 54) (k := 9) C dX2_layMiddle_54 rfl q1181 (by decide) rfl ?_
          refine r_aload_n (pc := 57) C dX2_layMiddle_57 rfl rfl ?_
          refine r_mget (pc := 58) (k := 7) C dX2_layMiddle_58 rfl q1179 (by decide) rfl ?_
          rw [show ∀ z : Int, (aput sti 8 ((lf ++ fmA y P k).length : Int) z).1 7 = ((lf ++ fmA y P k).length : Int) from fun z => g7]
          refine r_iload_n (pc := 61) C dX2_layMiddle_61 rfl rfl ?_
          refine r_mast (pc := 62) (L := 1200) C dX2_layMiddle_62 (by decide) rfl (by omega) (by omega) ?_
          refine r_aload_n (pc := 63) C dX2_layMiddle_63 rfl rfl ?_
          refine r_mget (pc := 64) (k := 10) C dX2_layMiddle_64 rfl q1182 (by decide) rfl ?_
          refine r_aload_n (pc := 67) C dX2_layMiddle_67 rfl rfl ?_
          refine r_mget (pc := 68) (k := 7) C dX2_layMiddle_68 rfl q1179 (by decide) rfl ?_
          rw [show ∀ z w : Int, (aput (aput sti 8 ((lf ++ fmA y P k).length : Int) z) 9 ((lf ++ fmA y P k).length : Int) w).1 7 = ((lf ++ fmA y P k).length : Int) from fun z w => g7]
          refine r_iload_n (pc := 71) C dX2_layMiddle_71 rfl rfl ?_
          refine r_inegZ (pc := 72) C dX2_layMiddle_72 ?_
          refine r_iconstZ (pc := 73) C dX2_layMiddle_73 ?_
          refine r_iload_n (pc := 74) C dX2_layMiddle_74 rfl rfl ?_
          refine r_imulZ (pc := 75) C dX2_layMiddle_75 ?_
          refine r_idivZ (pc := 76) C dX2_layMiddle_76 (by unfold i32; omega) (by unfold i32; omega) (by omega) ?_
          rw [e3]
          refine r_mast (pc := 77) (L := 1200) C dX2_layMiddle_77 (by decide) rfl (by omega) (by omega) ?_
          refine r_aload_n (pc := 78) C dX2_layMiddle_78 rfl rfl ?_
          refine r_dup (pc := 79) C dX2_layMiddle_79 rfl ?_
          refine r_mget (pc := 80) (k := 7) C dX2_layMiddle_80 rfl q1179 (by decide) rfl ?_
          rw [show ∀ z w x : Int, (aput (aput (aput sti 8 ((lf ++ fmA y P k).length : Int) z) 9 ((lf ++ fmA y P k).length : Int) w) 10 ((lf ++ fmA y P k).length : Int) x).1 7 = ((lf ++ fmA y P k).length : Int) from fun z w x => g7]
          refine r_iconstZ (pc := 83) C dX2_layMiddle_83 ?_
          refine r_iaddZ (pc := 84) C dX2_layMiddle_84 ?_
          refine r_mput (pc := 85) (k := 7) (ty := .int) C dX2_layMiddle_85 rfl q1179 (by decide) rfl (by decide +kernel) rfl rfl (ms_7 mad _ _) rfl (Or.inl rfl) ?_
          refine r_iincZ (pc := 88) C dX2_layMiddle_88 rfl (by decide) ?_
          refine r_goto (pc := 91) (tgt := 11) C dX2_layMiddle_91 (by decide) ?_
          refine ih (by omega) _ ((((g1.aput (by decide)).aput (by decide)).aput (by decide)).iput (by decide)) ?_
          have hp := g2.push hcap (f := (((k + 1 : Nat) : Int), y, -(Qd : Int))) ⟨⟨by show -1000 ≤ ((k + 1 : Nat) : Int); omega, by show ((k + 1 : Nat) : Int) ≤ 1000; omega⟩, ⟨by show -1000 ≤ y; omega, by show y ≤ 1000; omega⟩, by show -1000 ≤ -(Qd : Int); omega, by show -(Qd : Int) ≤ 1000; omega⟩
          rw [fmA_s, hQd, if_pos hyes, ← List.append_assoc]
          exact hp
  refine r_aload_n (pc := 0) C dX2_layMiddle_0 rfl rfl ?_
  refine r_mget (pc := 1) (k := 6) C dX2_layMiddle_1 rfl q1178 (by decide) rfl ?_
  rw [h6]
  refine r_iload_n (pc := 4) C dX2_layMiddle_4 rfl rfl ?_
  refine r_iload_n (pc := 5) C dX2_layMiddle_5 rfl rfl ?_
  refine r_imulZ (pc := 6) C dX2_layMiddle_6 ?_
  refine r_isubZ (pc := 7) C dX2_layMiddle_7 ?_
  rw [hleft]
  refine r_istore_n (pc := 8) C dX2_layMiddle_8 rfl (by decide) ?_
  refine r_iconstZ (pc := 9) C dX2_layMiddle_9 ?_
  refine r_istore_n (pc := 10) C dX2_layMiddle_10 rfl (by decide) ?_
  exact loop 0 (Nat.zero_le _) _ eqx.rf (by show FormsAt st (lf ++ []); rw [List.append_nil]; exact h)

