/-! the component: rivers are laid -/
set_option maxRecDepth 100000
set_option maxHeartbeats 800000 in
theorem xo_layForms {la : Launch} {X : XE} {G0 : Gh} {xh mf : Nat} {A : Nat → Nat} {rdn d dr : Int} (hx : XOB G0 xh A rdn d dr) (hd : 5 ≤ d ∧ d ≤ 900) (hLs : LST X G0 (A 7) 5 [] mf) (hm : mf ≤ 1700) : MG la X yX0_layForms cX0_layForms 5 none (rmk 7 2196 14486 171) [.ref xh] (fun G => G = G0) (fun v G => v = none ∧ ∃ m, m ≤ 1700 ∧ LFI X G0 A (fms d) m G) := by
  refine MG.of (by decide +kernel) (Nat.le_of_ble_eq_true rfl) ?_
  intro Z C hX hL hQ
  subst hX; subst hL
  change WW Z 5 (fun G => G = G0) 0 0 0 [some (.ref xh), none, none, none, none] []
  have outer : ∀ k : Nat, k ≤ 61 → ∀ (m : Nat) (v2 v3 v4 : Option Value), m ≤ 1700 → WW Z 5 (LFI (zX Z) G0 A (fmsN d k) m) (2 * (fmsN d k).length) (7 * (fmsN d k).length + 4 * m) 3 [some (.ref xh), some (.int (iI ((k : Int) - 30))), v2, v3, v4] [] := by
    refine loopN _ _ (fun k hk ih m v2 v3 v4 hm => ?_)
    have hlen := fmsN_len (d := d) hd.2 k
    refine ww_all (fun G1 hG1 => ?_)
    have hx1 := hx.fr hG1.choose_spec.2.2 (by decide) (by decide)
    obtain ⟨y, hy⟩ : ∃ y, (k : Int) - 30 = y := ⟨_, rfl⟩
    have hyy : 0 ≤ y * y := by
      rcases Int.le_total 0 y with h | h
      · exact Int.mul_nonneg h h
      · exact Int.mul_nonneg_of_nonpos_of_nonpos h h
    have hyb : y * y ≤ 1000 := by
      rcases Int.le_total 0 y with h | h
      · have : y * y ≤ 31 * 31 := Int.mul_le_mul (by omega) (by omega) (by omega) (by omega)
        omega
      · have : (-y) * (-y) ≤ 31 * 31 := Int.mul_le_mul (by omega) (by omega) (by omega) (by omega)
        rw [Int.neg_mul_neg] at this
        omega
    have hN1 : 2 * (fmsN d k).length ≤ 2196 := by omega
    have next : k < 61 → ∀ (l : List Fm) (m : Nat) (v2 v3 v4 : Option Value), m ≤ 1700 → l = fmsN d (k + 1) → WW Z 5 (LFI (zX Z) G0 A l m) (2 * l.length) (7 * l.length + 4 * m) 115 [some (.ref xh), some (.int (iI y)), v2, v3, v4] [] := by
      intro hk61 l m v2 v3 v4 hm hl
      subst hl
      refine r_iincZ (pc := 115) C dX0_layForms_115 rfl (by decide) ?_
      refine r_goto (pc := 118) (tgt := 3) C dX0_layForms_118 (by decide) ?_
      have I := ih hk61 m v2 v3 v4 hm
      rw [show (((k + 1 : Nat) : Int) - 30) = y + 1 by omega] at I
      exact I
    rw [hy]
    have body : k < 61 → WW Z 5 (fun G => G = G1) (2 * (fmsN d k).length) (7 * (fmsN d k).length + 4 * m) 9 [some (.ref xh), some (.int (iI y)), v2, v3, v4] [] := by
      intro hk61
      by_cases hc : y * y < d ∧ (d - y * y) % 4 = 0
      · have hfb : fmB d y = fmA y ((d - y * y) / 4).toNat ((d - y * y) / 4).toNat := by unfold fmB; rw [if_pos hc]
        generalize hP : ((d - y * y) / 4).toNat = P at hfb
        have hP2 : 1 ≤ P ∧ P < 226 := by omega
        have hdiv : (d - y * y).tdiv 4 = (P : Int) := by rw [Int.tdiv_eq_ediv_of_nonneg (by omega)]; omega
        have inner : ∀ j : Nat, j ≤ P → ∀ m : Nat, m ≤ 1700 → WW Z 5 (LFI (zX Z) G0 A (fmsN d k ++ fmA y P j) m) (2 * (fmsN d k ++ fmA y P j).length) (7 * (fmsN d k ++ fmA y P j).length + 4 * m) 52 [some (.ref xh), some (.int (iI y)), some (.int (iI (P : Int))), some (.int (iI 1)), some (.int (iI ((j : Int) + 1)))] [] := by
          refine loopN _ _ (fun j hj ihj m hm => ?_)
          refine ww_all (fun G1 hG1 => ?_)
          obtain ⟨Qd, hQd⟩ : ∃ q, P / (j + 1) = q := ⟨_, rfl⟩
          have e2 : (P : Int) / ((j : Int) + 1) = (Qd : Int) := by rw [← hQd]; rfl
          have e1 : (P : Int) % ((j : Int) + 1) = ((P % (j + 1) : Nat) : Int) := rfl
          have e3 : (-(P : Int)).tdiv ((j : Int) + 1) = -(Qd : Int) := by rw [Int.neg_tdiv, Int.tdiv_eq_ediv_of_nonneg (by omega), e2]
          have hq : Qd ≤ P := by rw [← hQd]; exact Nat.div_le_self _ _
          have hr : P % (j + 1) < j + 1 := Nat.mod_lt _ (by omega)
          have hg1 := igcd_le (a := ((j + 1 : Nat) : Int)) (b := y) (by omega)
          have hg2 := igcd_le (a := igcd ((j + 1 : Nat) : Int) y) (b := (Qd : Int)) (by unfold igcd; omega)
          have hgx' : 1 ≤ igcd ((j + 1 : Nat) : Int) y ∧ igcd ((j + 1 : Nat) : Int) y ≤ 300 := by unfold igcd; omega
          have hgy' : 1 ≤ igcd (igcd ((j + 1 : Nat) : Int) y) (Qd : Int) ∧ igcd (igcd ((j + 1 : Nat) : Int) y) (Qd : Int) ≤ 300 := by unfold igcd at *; omega
          have hgx : 1 ≤ igcd ((j : Int) + 1) y ∧ igcd ((j : Int) + 1) y ≤ 300 := hgx'
          have hgy : 1 ≤ igcd (igcd ((j : Int) + 1) y) (Qd : Int) ∧ igcd (igcd ((j : Int) + 1) y) (Qd : Int) ≤ 300 := hgy'
          have hLL : (fmsN d k ++ fmA y P j).length ≤ 1098 := by
            have a1 := fmA_len y P j
            have a2 := dvs_mono P hj
            have a3 := dvs_18 P hP2.2
            rw [List.length_append]
            omega
          have hno : j < P → ¬ (P % (j + 1) = 0 ∧ Int.gcd (Int.gcd ((j + 1 : Nat) : Int) y : Nat) (Qd : Int) = 1) → WW Z 5 (fun G => G = G1) (2 * (fmsN d k ++ fmA y P j).length) (7 * (fmsN d k ++ fmA y P j).length + 4 * m) 109 [some (.ref xh), some (.int (iI y)), some (.int (iI (P : Int))), some (.int (iI 1)), some (.int (iI ((j : Int) + 1)))] [] := by
            intro hjP hn
            refine r_iincZ (pc := 109) C dX0_layForms_109 rfl (by decide) ?_
            refine r_goto (pc := 112) (tgt := 52) C dX0_layForms_112 (by decide) ?_
            have I := ihj hjP m hm
            rw [fmA_s, hQd, if_neg hn, List.append_nil] at I
            exact ww_to (fun G hG => by rw [hG]; exact hG1) I
          refine r_iload_n (pc := 52) C dX0_layForms_52 rfl rfl ?_
          refine r_if_eqZ (pc := 53) (tgt := 115) C dX0_layForms_53 (by decide) (by unfold i32; omega) (fun h53 => absurd h53 (by omega)) (fun h53 => ?_)
          refine r_iload (pc := 56) C dX0_layForms_56 rfl ?_
          refine r_iload_n (pc := 58) C dX0_layForms_58 rfl rfl ?_
          refine r_icmp_gtZ (pc := 59) (tgt := 115) C dX0_layForms_59 (by decide) (by unfold i32; omega) (by unfold i32; omega) (fun h59 => ?_) (fun h59 => ?_)
          · exact ww_to (fun G hG => by rw [hG]; exact hG1) (next hk61 _ m _ _ _ hm (by show _ = fmsN d k ++ fmB d ((k : Int) - 30); rw [hy, hfb, show j = P by omega]))
          · refine r_iload_n (pc := 62) C dX0_layForms_62 rfl rfl ?_
            refine r_iload (pc := 63) C dX0_layForms_63 rfl ?_
            refine r_iremE (pc := 65) C dX0_layForms_65 (by unfold i32; omega) (by unfold i32; omega) (by omega) (by omega) ?_
            rw [e1]
            refine r_if_neZ (pc := 66) (tgt := 109) C dX0_layForms_66 (by decide) (by unfold i32; omega) (fun h66 => ?_) (fun h66 => ?_)
            · first | exact hno (by omega) (fun q => h66 (by rw [q.1]; rfl)) | exact hno (by omega) (fun q => h83 (by have q2 := q.2; show igcd (igcd ((j + 1 : Nat) : Int) y) (Qd : Int) = 1; unfold igcd; omega)) | (refine r_iincZ (pc := 109) C dX0_layForms_109 rfl (by decide) ?_; refine r_goto (pc := 112) (tgt := 52) C dX0_layForms_112 (by decide) ?_; have I := ihj (by omega) m105 hm105; rw [hnew, List.length_append, List.length_singleton] at I; refine ww_wide (n' := 2 * (l.length + 1)) (s' := 7 * (l.length + 1) + 4 * m105) (by omega) (by omega) ?_; exact ww_to (fun G hG => by rw [hG]; exact ⟨_, k105a, F2.fr k105c (by decide), (f1.tr (q2.nil _)).tr k105c⟩) I)
            · refine r_iload (pc := 69) C dX0_layForms_69 rfl ?_
              refine r_iload_n (pc := 71) C dX0_layForms_71 rfl rfl ?_
              refine r_invP (pc := 72) 2 C dX0_layForms_72 (xf_common ((j : Int) + 1) y (by unfold i32; omega) (by unfold i32; omega)) rfl (lw_S q963 q805 q81 q806) (by decide +kernel) rfl rfl ⟨Nat.le_of_ble_eq_true rfl, Nat.le_of_ble_eq_true rfl⟩ (Nat.le_of_ble_eq_true rfl) ⟨(by first | exact Nat.le_of_ble_eq_true rfl | (dsimp only [rmk]; omega) | omega), (by first | exact Nat.le_of_ble_eq_true rfl | (dsimp only [rmk]; omega) | omega)⟩ ?_
              refine r_iload_n (pc := 75) C dX0_layForms_75 rfl rfl ?_
              refine r_iload (pc := 76) C dX0_layForms_76 rfl ?_
              refine r_idivE (pc := 78) C dX0_layForms_78 (by unfold i32; omega) (by unfold i32; omega) (by omega) (by omega) ?_
              rw [e2]
              refine r_invP (pc := 79) 2 C dX0_layForms_79 (xf_common (igcd ((j : Int) + 1) y) (Qd : Int) (by unfold i32; omega) (by unfold i32; omega)) rfl (lw_S q963 q805 q81 q806) (by decide +kernel) rfl rfl ⟨Nat.le_of_ble_eq_true rfl, Nat.le_of_ble_eq_true rfl⟩ (Nat.le_of_ble_eq_true rfl) ⟨(by first | exact Nat.le_of_ble_eq_true rfl | (dsimp only [rmk]; omega) | omega), (by first | exact Nat.le_of_ble_eq_true rfl | (dsimp only [rmk]; omega) | omega)⟩ ?_
              refine r_iconstZ (pc := 82) C dX0_layForms_82 ?_
              refine r_icmp_neZ (pc := 83) (tgt := 109) C dX0_layForms_83 (by decide) (by unfold i32; omega) (by unfold i32; omega) (fun h83 => ?_) (fun h83 => ?_)
              · first | exact hno (by omega) (fun q => h66 (by rw [q.1]; rfl)) | exact hno (by omega) (fun q => h83 (by have q2 := q.2; show igcd (igcd ((j + 1 : Nat) : Int) y) (Qd : Int) = 1; unfold igcd; omega)) | (refine r_iincZ (pc := 109) C dX0_layForms_109 rfl (by decide) ?_; refine r_goto (pc := 112) (tgt := 52) C dX0_layForms_112 (by decide) ?_; have I := ihj (by omega) m105 hm105; rw [hnew, List.length_append, List.length_singleton] at I; refine ww_wide (n' := 2 * (l.length + 1)) (s' := 7 * (l.length + 1) + 4 * m105) (by omega) (by omega) ?_; exact ww_to (fun G hG => by rw [hG]; exact ⟨_, k105a, F2.fr k105c (by decide), (f1.tr (q2.nil _)).tr k105c⟩) I)
              · have hyes : P % (j + 1) = 0 ∧ Int.gcd (Int.gcd ((j + 1 : Nat) : Int) y : Nat) (Qd : Int) = 1 := ⟨by omega, by have q : igcd (igcd ((j + 1 : Nat) : Int) y) (Qd : Int) = 1 := h83; unfold igcd at q; omega⟩
                have hcap : (fmsN d k ++ fmA y P j).length < 1098 := (by have a1 := fmA_len y P j; have a2 := dvs_mono P (show j + 1 ≤ P by omega); have a3 := dvs_18 P hP2.2; have a4 : dvs P (j + 1) = dvs P j + 1 := (by show dvs P j + _ = _; rw [if_pos hyes.1]); rw [List.length_append]; omega)
                obtain ⟨fls, L1, F1, f1⟩ := hG1
                have hx1 := hx.fr f1 (by decide) (by decide)
                have hnew : fmsN d k ++ fmA y P (j + 1) = (fmsN d k ++ fmA y P j) ++ [(((j + 1 : Nat) : Int), y, -(Qd : Int))] := (by rw [fmA_s, hQd, if_pos hyes, List.append_assoc])
                generalize fmsN d k ++ fmA y P j = l at *
                refine r_aload_n (pc := 86) C dX0_layForms_86 rfl rfl ?_
                refine r_get (pc := 87) (k := 7) (ci := 0) C dX0_layForms_87 (g1 hx1.1) (show vwC[0]? = some (RX0, TX0, 10) from rfl) in_X0 (by decide) (C.t _ q283) (fun _ h => h) rfl ?_
                refine r_newE (pc := 90) (ci := 5) (fs := [.int (iI 0), .int (iI 0), .int (iI 0), .int (iI 0), .int (iI 0), .int (iI 0), .int (iI 0)]) 6 C dX0_layForms_90 (show vwC[5]? = some (RX6, TX6, 7) from rfl) in_X6 tyX6 tyX6_ok q810 q811 q101 (by decide +kernel) (by dsimp only [rmk]; omega) (by dsimp only [rmk]; omega) (fun a90 n90 => ?_)
                refine r_dup (pc := 93) C dX0_layForms_93 rfl ?_
                refine r_iload (pc := 94) C dX0_layForms_94 rfl ?_
                refine r_iload_n (pc := 96) C dX0_layForms_96 rfl rfl ?_
                refine r_iload_n (pc := 97) C dX0_layForms_97 rfl rfl ?_
                refine r_inegZ (pc := 98) C dX0_layForms_98 ?_
                refine r_iload (pc := 99) C dX0_layForms_99 rfl ?_
                refine r_idivZ (pc := 101) C dX0_layForms_101 (by unfold i32; omega) (by unfold i32; omega) (by omega) ?_
                rw [e3]
                refine r_invI (pc := 102) 3 C dX0_layForms_102 (xm_init _ _ _ (gup_eq _ _ _) (by decide)) rfl (lw_meth q814) q101 q812 q813 rfl (by decide +kernel) rfl rfl ⟨Nat.le_of_ble_eq_true rfl, Nat.le_of_ble_eq_true rfl⟩ (Nat.le_of_ble_eq_true rfl) ⟨by dsimp only [rmk]; omega, by dsimp only [rmk]; omega⟩ (fun v102 G102 h102 => ?_)
                obtain ⟨rfl, q1⟩ := h102
                have q2 := FR.made n90 q1
                have F2 := F1.push (f := (((j + 1 : Nat) : Int), y, -(Qd : Int))) n90 (F1.fr q2 (by decide)) q1.1
                refine ww_wide (n' := 2 * l.length + 1) (s' := (7 * l.length + 7) + 4 * m) (by dsimp only [rmk]; omega) (by dsimp only [rmk]; omega) ?_
                refine r_addA (pc := 105) (c0 := 7 * l.length + 7) (L1.fr q2 (by decide) (by decide)) (by decide) (by have := F1.1; omega) (FLS.obj (F1.fr q2 (by decide))) ⟨_, _, _, by decide, q1.1⟩ ⟨Nat.le_of_ble_eq_true rfl, Nat.le_of_ble_eq_true rfl⟩ (Nat.le_of_ble_eq_true rfl) ⟨by dsimp only [rmk]; omega, by dsimp only [rmk]; omega, fun he => by have := F1.1; have := gcap_b (m := m) (by omega); dsimp only [rmk]; omega⟩ C dX0_layForms_105 rfl (lw_V q618 q619 q620 q89 q621) (fun G105 m105 k105a k105b k105c => ?_)
                have hm105 : m105 ≤ 1700 := (by rcases k105b with q | ⟨q, q'⟩; omega; rw [q']; have := F1.1; exact gcap_b (by omega))
                refine r_pop (pc := 108) C dX0_layForms_108 rfl ?_
                first | exact hno (by omega) (fun q => h66 (by rw [q.1]; rfl)) | exact hno (by omega) (fun q => h83 (by have q2 := q.2; show igcd (igcd ((j + 1 : Nat) : Int) y) (Qd : Int) = 1; unfold igcd; omega)) | (refine r_iincZ (pc := 109) C dX0_layForms_109 rfl (by decide) ?_; refine r_goto (pc := 112) (tgt := 52) C dX0_layForms_112 (by decide) ?_; have I := ihj (by omega) m105 hm105; rw [hnew, List.length_append, List.length_singleton] at I; refine ww_wide (n' := 2 * (l.length + 1)) (s' := 7 * (l.length + 1) + 4 * m105) (by omega) (by omega) ?_; exact ww_to (fun G hG => by rw [hG]; exact ⟨_, k105a, F2.fr k105c (by decide), (f1.tr (q2.nil _)).tr k105c⟩) I)
        refine r_aload_n (pc := 9) C dX0_layForms_9 rfl rfl ?_
        refine r_get (pc := 10) (k := 6) (ci := 0) C dX0_layForms_10 (g1 hx1.1) (show vwC[0]? = some (RX0, TX0, 10) from rfl) in_X0 (by decide) (C.t _ q281) (fun _ h => h) rfl ?_
        refine r_iload_n (pc := 13) C dX0_layForms_13 rfl rfl ?_
        refine r_iload_n (pc := 14) C dX0_layForms_14 rfl rfl ?_
        refine r_imulZ (pc := 15) C dX0_layForms_15 ?_
        refine r_isubZ (pc := 16) C dX0_layForms_16 ?_
        refine r_iconstZ (pc := 17) C dX0_layForms_17 ?_
        refine r_idivZ (pc := 18) C dX0_layForms_18 (by unfold i32; omega) (by unfold i32; omega) (by omega) ?_
        rw [hdiv]
        refine r_istore_n (pc := 19) C dX0_layForms_19 rfl (by decide) ?_
        refine r_iload_n (pc := 20) C dX0_layForms_20 rfl rfl ?_
        refine r_iload_n (pc := 21) C dX0_layForms_21 rfl rfl ?_
        refine r_imulZ (pc := 22) C dX0_layForms_22 ?_
        refine r_aload_n (pc := 23) C dX0_layForms_23 rfl rfl ?_
        refine r_get (pc := 24) (k := 6) (ci := 0) C dX0_layForms_24 (g1 hx1.1) (show vwC[0]? = some (RX0, TX0, 10) from rfl) in_X0 (by decide) (C.t _ q281) (fun _ h => h) rfl ?_
        refine r_icmp_geZ (pc := 27) (tgt := 47) C dX0_layForms_27 (by decide) (by unfold i32; omega) (by unfold i32; omega) (fun h27 => absurd h27 (by omega)) (fun h27 => ?_)
        refine r_aload_n (pc := 30) C dX0_layForms_30 rfl rfl ?_
        refine r_get (pc := 31) (k := 6) (ci := 0) C dX0_layForms_31 (g1 hx1.1) (show vwC[0]? = some (RX0, TX0, 10) from rfl) in_X0 (by decide) (C.t _ q281) (fun _ h => h) rfl ?_
        refine r_iload_n (pc := 34) C dX0_layForms_34 rfl rfl ?_
        refine r_iload_n (pc := 35) C dX0_layForms_35 rfl rfl ?_
        refine r_imulZ (pc := 36) C dX0_layForms_36 ?_
        refine r_isubZ (pc := 37) C dX0_layForms_37 ?_
        refine r_iconstZ (pc := 38) C dX0_layForms_38 ?_
        refine r_iremE (pc := 39) C dX0_layForms_39 (by unfold i32; omega) (by unfold i32; omega) (by omega) (by omega) ?_
        refine r_if_neZ (pc := 40) (tgt := 47) C dX0_layForms_40 (by decide) (by unfold i32; omega) (fun h40 => absurd h40 (by omega)) (fun h40 => ?_)
        refine r_iconstZ (pc := 43) C dX0_layForms_43 ?_
        refine r_goto (pc := 44) (tgt := 48) C dX0_layForms_44 (by decide) ?_
        refine r_istore_n (pc := 48) C dX0_layForms_48 rfl (by decide) ?_
        refine r_iconstZ (pc := 49) C dX0_layForms_49 ?_
        refine r_istore (pc := 50) C dX0_layForms_50 (by decide) ?_
        have I := inner 0 (Nat.zero_le _) m hm
        rw [show fmA y P 0 = [] from rfl, List.append_nil] at I
        exact ww_to (fun G hG => by rw [hG]; exact hG1) I
      · have hfb : fmB d y = [] := by unfold fmB; rw [if_neg hc]
        refine r_aload_n (pc := 9) C dX0_layForms_9 rfl rfl ?_
        refine r_get (pc := 10) (k := 6) (ci := 0) C dX0_layForms_10 (g1 hx1.1) (show vwC[0]? = some (RX0, TX0, 10) from rfl) in_X0 (by decide) (C.t _ q281) (fun _ h => h) rfl ?_
        refine r_iload_n (pc := 13) C dX0_layForms_13 rfl rfl ?_
        refine r_iload_n (pc := 14) C dX0_layForms_14 rfl rfl ?_
        refine r_imulZ (pc := 15) C dX0_layForms_15 ?_
        refine r_isubZ (pc := 16) C dX0_layForms_16 ?_
        refine r_iconstZ (pc := 17) C dX0_layForms_17 ?_
        refine r_idivZ (pc := 18) C dX0_layForms_18 (by unfold i32; omega) (by unfold i32; omega) (by omega) ?_
        skip
        refine r_istore_n (pc := 19) C dX0_layForms_19 rfl (by decide) ?_
        refine r_iload_n (pc := 20) C dX0_layForms_20 rfl rfl ?_
        refine r_iload_n (pc := 21) C dX0_layForms_21 rfl rfl ?_
        refine r_imulZ (pc := 22) C dX0_layForms_22 ?_
        refine r_aload_n (pc := 23) C dX0_layForms_23 rfl rfl ?_
        refine r_get (pc := 24) (k := 6) (ci := 0) C dX0_layForms_24 (g1 hx1.1) (show vwC[0]? = some (RX0, TX0, 10) from rfl) in_X0 (by decide) (C.t _ q281) (fun _ h => h) rfl ?_
        refine r_icmp_geZ (pc := 27) (tgt := 47) C dX0_layForms_27 (by decide) (by unfold i32; omega) (by unfold i32; omega) (fun h27 => ?_) (fun h27 => ?_)
        · refine r_iconstZ (pc := 47) C dX0_layForms_47 ?_
          refine r_istore_n (pc := 48) C dX0_layForms_48 rfl (by decide) ?_
          refine r_iconstZ (pc := 49) C dX0_layForms_49 ?_
          refine r_istore (pc := 50) C dX0_layForms_50 (by decide) ?_
          refine r_iload_n (pc := 52) C dX0_layForms_52 rfl rfl ?_
          refine r_if_eqZ (pc := 53) (tgt := 115) C dX0_layForms_53 (by decide) (by unfold i32; omega) (fun h53 => ?_) (fun h53 => absurd h53 (by omega))
          exact ww_to (fun G hG => by rw [hG]; exact hG1) (next hk61 _ m _ _ _ hm (by show _ = fmsN d k ++ fmB d ((k : Int) - 30); rw [hy, hfb, List.append_nil]))
        · refine r_aload_n (pc := 30) C dX0_layForms_30 rfl rfl ?_
          refine r_get (pc := 31) (k := 6) (ci := 0) C dX0_layForms_31 (g1 hx1.1) (show vwC[0]? = some (RX0, TX0, 10) from rfl) in_X0 (by decide) (C.t _ q281) (fun _ h => h) rfl ?_
          refine r_iload_n (pc := 34) C dX0_layForms_34 rfl rfl ?_
          refine r_iload_n (pc := 35) C dX0_layForms_35 rfl rfl ?_
          refine r_imulZ (pc := 36) C dX0_layForms_36 ?_
          refine r_isubZ (pc := 37) C dX0_layForms_37 ?_
          refine r_iconstZ (pc := 38) C dX0_layForms_38 ?_
          refine r_iremE (pc := 39) C dX0_layForms_39 (by unfold i32; omega) (by unfold i32; omega) (by omega) (by omega) ?_
          refine r_if_neZ (pc := 40) (tgt := 47) C dX0_layForms_40 (by decide) (by unfold i32; omega) (fun h40 => ?_) (fun h40 => ?_)
          · refine r_iconstZ (pc := 47) C dX0_layForms_47 ?_
            refine r_istore_n (pc := 48) C dX0_layForms_48 rfl (by decide) ?_
            refine r_iconstZ (pc := 49) C dX0_layForms_49 ?_
            refine r_istore (pc := 50) C dX0_layForms_50 (by decide) ?_
            refine r_iload_n (pc := 52) C dX0_layForms_52 rfl rfl ?_
            refine r_if_eqZ (pc := 53) (tgt := 115) C dX0_layForms_53 (by decide) (by unfold i32; omega) (fun h53 => ?_) (fun h53 => absurd h53 (by omega))
            exact ww_to (fun G hG => by rw [hG]; exact hG1) (next hk61 _ m _ _ _ hm (by show _ = fmsN d k ++ fmB d ((k : Int) - 30); rw [hy, hfb, List.append_nil]))
          · exact absurd ⟨by omega, by omega⟩ hc
    refine r_iload_n (pc := 3) C dX0_layForms_3 rfl rfl ?_
    refine r_bipushZ (pc := 4) C dX0_layForms_4 (by decide) ?_
    refine r_icmp_gtZ (pc := 6) (tgt := 121) C dX0_layForms_6 (by decide) (by unfold i32; omega) (by unfold i32; omega) (fun h6 => ?_) (fun h6 => ?_)
    · exact r_vret (pc := 121) C hQ dX0_layForms_121 (by dsimp only [rmk]; omega) (by dsimp only [rmk]; omega) (fun G hG => (by cases hG; exact ⟨rfl, m, hm, by unfold fms; rw [show 61 = k by omega]; exact hG1⟩))
    · exact body (by omega)
  refine r_bipushZ (pc := 0) C dX0_layForms_0 (by decide) ?_
  refine r_istore_n (pc := 2) C dX0_layForms_2 rfl (by decide) ?_
  refine ww_to (Γ' := LFI (zX Z) G0 A [] mf) (fun G hG => by rw [hG]; exact ⟨[], hLs, FLS.nil, FR.rf⟩) ?_
  refine ww_wide (n' := 0) (s' := 4 * mf) (Nat.le_refl _) (Nat.zero_le _) ?_
  have I := outer 0 (Nat.zero_le _) mf none none none hm
  rw [show (fmsN d 0) = [] from rfl] at I
  simp only [List.length_nil, Nat.mul_zero, Nat.zero_add] at I
  exact I

