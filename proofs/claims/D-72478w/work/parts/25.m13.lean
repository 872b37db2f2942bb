/-! the reference's methods: cycles are laid, the river -/
set_option maxRecDepth 100000
def NextAt (st : MSt) (lf : List Fm) : Prop := ∀ k : Nat, k < lf.length → st.2 11 k = (nxt lf k : Int)
def CycAt (st : MSt) (n : Nat) (s : (Nat → Int) × List Nat) : Prop := (∀ k : Nat, k < n → st.2 12 k = s.1 k) ∧ st.1 13 = s.2.length ∧ ∀ c : Nat, c < s.2.length → st.2 14 c = (s.2.getD c 0 : Nat)
theorem NextAt.x {ks : List Nat} {st st' : MSt} {lf : List Fm} (h : NextAt st lf) (e : eqx ks st st') (h1 : 11 ∉ ks) : NextAt st' lf := fun k hk => by rw [(e 11 h1).2]; exact h k hk
theorem CycAt.x {ks : List Nat} {st st' : MSt} {n : Nat} {s : (Nat → Int) × List Nat} (h : CycAt st n s) (e : eqx ks st st') (h1 : 12 ∉ ks) (h2 : 13 ∉ ks) (h3 : 14 ∉ ks) : CycAt st' n s := ⟨fun k hk => by rw [(e 12 h1).2]; exact h.1 k hk, (e 13 h2).1.trans h.2.1, fun c hc => by rw [(e 14 h3).2]; exact h.2.2 c hc⟩
def mrk (nx : Nat → Nat) (k i j : Nat) : Bool := decide (fstN (fun t => decide (it nx t k = j)) i < i)
theorem mrk_iff {nx : Nat → Nat} {k i j : Nat} : mrk nx k i j = true ↔ ∃ t, t < i ∧ it nx t k = j := by
  unfold mrk
  rw [decide_eq_true_iff]
  constructor
  · intro h
    exact ⟨_, h, of_decide_eq_true ((fstN_spec (fun t => decide (it nx t k = j)) i).2 h)⟩
  · rintro ⟨t, h1, h2⟩
    rcases Nat.lt_or_ge (fstN (fun t => decide (it nx t k = j)) i) i with q | q
    · exact q
    · exact absurd h2 (of_decide_eq_false ((fstN_spec (fun t => decide (it nx t k = j)) i).1 t (by omega)))
theorem mrk_0 {nx : Nat → Nat} {k j : Nat} : mrk nx k 0 j = false := by
  rw [Bool.eq_false_iff]
  intro h
  obtain ⟨t, h1, -⟩ := mrk_iff.mp h
  omega
theorem mrk_s {nx : Nat → Nat} {k i j : Nat} : mrk nx k (i + 1) j = (mrk nx k i j || decide (it nx i k = j)) := by
  rw [Bool.eq_iff_iff, Bool.or_eq_true, mrk_iff, mrk_iff, decide_eq_true_iff]
  constructor
  · rintro ⟨t, h1, h2⟩
    by_cases e : t = i
    · subst e; exact Or.inr h2
    · exact Or.inl ⟨t, by omega, h2⟩
  · rintro (⟨t, h1, h2⟩ | h)
    · exact ⟨t, by omega, h2⟩
    · exact ⟨i, by omega, h⟩
set_option maxHeartbeats 800000 in
theorem mt_layCycles {la : Launch} {X : XE} {mh : Nat} {mad : Nat → Nat} {G0 : Gh} {st : MSt} (lf : List Fm) (hcl : ∀ f ∈ lf, nextF f ∈ lf) (hpm : isPerm (nxt lf) lf.length) (h : FormsAt st lf) : MM la X mh mad G0 yX2_layCycles cX2_layCycles 3 none 2 46 [] st (fun v st' => v = none ∧ NextAt st' lf ∧ CycAt st' lf.length (cyN (nxt lf) lf.length lf.length) ∧ eqx [11, 12, 13, 14] st st') := by
  refine MG.of (by decide +kernel) (Nat.le_of_ble_eq_true rfl) ?_
  intro Z C hX hL hQ
  subst hX; subst hL
  change WW Z 3 (MOD mh mad G0 st) 0 0 0 [some (.ref mh), none, none] []
  have hl := h.2.1
  have second : ∀ k : Nat, k ≤ lf.length → ∀ (sti : MSt) (v2 : Option Value), eqx [11, 12, 13, 14] st sti → NextAt sti lf → CycAt sti lf.length (cyN (nxt lf) lf.length k) → WW Z 3 (MOD mh mad G0 sti) 0 0 42 [some (.ref mh), some (.int (iI (k : Int))), v2] [] := by
    refine loopN _ _ (fun k hk ih sti v2 g1 g2 g3 => ?_)
    have gf := h.x g1 (by decide) (by decide) (by decide) (by decide)
    have hI := cyN_I hpm k hk
    have hstep : cyN (nxt lf) lf.length (k + 1) = stC (nxt lf) lf.length (cyN (nxt lf) lf.length k) k := rfl
    generalize hs : cyN (nxt lf) lf.length k = s at g3 hI hstep
    obtain ⟨a1, a2, a3, a4, a5, a6⟩ := hI
    have hsi : ∀ j, j < lf.length → i32 (s.1 j) := fun j hj => by
      rcases a3 j hj with q | ⟨c, q1, q2⟩
      · rw [q]; unfold NON i32; omega
      · rw [q2]; unfold i32; omega
    have inner : k < lf.length → s.1 k = NON → ∀ i : Nat, i ≤ per (nxt lf) lf.length k → ∀ stj : MSt, eqx [12, 14] sti stj → (∀ c : Nat, c < s.2.length → stj.2 14 c = (s.2.getD c 0 : Nat)) → stj.2 14 s.2.length = k → (∀ j : Nat, j < lf.length → stj.2 12 j = if mrk (nxt lf) k i j then (s.2.length : Int) else s.1 j) → WW Z 3 (MOD mh mad G0 stj) 0 0 73 [some (.ref mh), some (.int (iI (k : Int))), some (.int (iI ((it (nxt lf) i k : Nat) : Int)))] [] := by
      intro hkl hkn
      have hps := per_spec hpm hkl
      have hfree : ∀ i, s.1 (it (nxt lf) i k) = NON := by
        intro i
        induction i with
        | zero => exact hkn
        | succ i ih2 => show s.1 (nxt lf (it (nxt lf) i k)) = NON; rw [a1 _ (it_lt hpm hkl i), ih2]
      refine loopN _ _ (fun i hi ihi stj e1 e2 e3 e4 => ?_)
      have hat := it_lt hpm hkl i
      have h12 := e4 _ hat
      have gn := g2.x e1 (by decide)
      have g13 : stj.1 13 = (s.2.length : Int) := (e1 13 (by decide)).1.trans g3.2.1
      have after : ∀ stj : MSt, eqx [12, 14] sti stj → (∀ c : Nat, c < s.2.length → stj.2 14 c = (s.2.getD c 0 : Nat)) → stj.2 14 s.2.length = k → (∀ j : Nat, j < lf.length → stj.2 12 j = if inOrb (nxt lf) lf.length k j then (s.2.length : Int) else s.1 j) → stj.1 13 = (s.2.length : Int) → ∀ v2 : Option Value, WW Z 3 (MOD mh mad G0 stj) 0 0 104 [some (.ref mh), some (.int (iI (k : Int))), v2] [] := by
        intro stj e1 e2 e3 e4 g13 v2
        refine r_aload_n (pc := 104) C dX2_layCycles_104 rfl rfl ?_
        refine r_dup (pc := 105) C dX2_layCycles_105 rfl ?_
        refine r_mget (pc := 106) (k := 13) C dX2_layCycles_106 rfl q1185 (by decide) rfl ?_
        rw [g13]
        refine r_iconstZ (pc := 109) C dX2_layCycles_109 ?_
        refine r_iaddZ (pc := 110) C dX2_layCycles_110 ?_
        refine r_mput (pc := 111) (k := 13) (ty := .int) C dX2_layCycles_111 rfl q1185 (by decide) rfl (by decide +kernel) rfl rfl (ms_13 mad _ _) rfl (Or.inl rfl) ?_
        refine r_iincZ (pc := 114) C dX2_layCycles_114 rfl (by decide) ?_
        refine r_goto (pc := 117) (tgt := 42) C dX2_layCycles_117 (by decide) ?_
        refine ih hkl _ _ ((g1.tr (e1.wk (by decide))).iput (by decide)) (g2.x (e1.iput (ks := [12, 14]) (k := 12) (z := 0) (by decide)) (by decide) |> fun q => g2.x (e1.wk (ls := [12, 13, 14]) (by decide) |> fun q2 => q2.iput (k := 13) (by decide)) (by decide)) ?_
        rw [hstep]
        unfold stC
        rw [if_pos hkn]
        refine ⟨fun j hj => by rw [iput_2]; exact e4 j hj, by rw [iput_eq]; simp, fun c hc => ?_⟩
        have hc2 : c < s.2.length + 1 := (by simpa using hc)
        rw [iput_2]
        by_cases e : c = s.2.length
        · subst e; dsimp only; rw [getD_app_eq]; exact e3
        · dsimp only; rw [getD_app_lt (by omega)]; exact e2 c (by omega)
      refine r_aload_n (pc := 73) C dX2_layCycles_73 rfl rfl ?_
      refine r_mget (pc := 74) (k := 12) C dX2_layCycles_74 rfl q1184 (by decide) rfl ?_
      refine r_iload_n (pc := 77) C dX2_layCycles_77 rfl rfl ?_
      refine r_mald (pc := 78) (L := 1200) C dX2_layCycles_78 (by decide) rfl (by omega) (by omega) ?_
      rw [h12]
      refine r_ldcZ (pc := 79) (a := -2000000001) C dX2_layCycles_79 rfl q1370 (by decide) ?_
      refine r_icmp_neZ (pc := 81) (tgt := 104) C dX2_layCycles_81 (by decide) (by split; unfold i32; omega; exact hsi _ hat) (by unfold i32; omega) (fun h81 => ?_) (fun h81 => ?_)
      · exact after stj e1 e2 e3 (by have hm : mrk (nxt lf) k i (it (nxt lf) i k) = true := (by cases hq : mrk (nxt lf) k i (it (nxt lf) i k); rw [hq, if_neg (by decide)] at h81; exact absurd (hfree i) h81; rfl); have hip : i = per (nxt lf) lf.length k := (by rcases Nat.lt_or_ge i (per (nxt lf) lf.length k) with q | q; (obtain ⟨t, t1, t2⟩ := mrk_iff.mp hm; exact absurd t2 (it_ne hpm hkl t1 q)); omega); rw [hip] at e4; exact e4) g13 _
      · have hnm : ¬ mrk (nxt lf) k i (it (nxt lf) i k) = true := (fun q => by rw [if_pos q] at h81; omega)
        have hip : i < per (nxt lf) lf.length k := (by rcases Nat.lt_or_ge i (per (nxt lf) lf.length k) with q | q; exact q; exact absurd (mrk_iff.mpr ⟨0, by omega, by rw [show i = per (nxt lf) lf.length k by omega]; exact hps.2.2.1.symm⟩) hnm)
        refine r_aload_n (pc := 84) C dX2_layCycles_84 rfl rfl ?_
        refine r_mget (pc := 85) (k := 12) C dX2_layCycles_85 rfl q1184 (by decide) rfl ?_
        refine r_iload_n (pc := 88) C dX2_layCycles_88 rfl rfl ?_
        refine r_aload_n (pc := 89) C dX2_layCycles_89 rfl rfl ?_
        refine r_mget (pc := 90) (k := 13) C dX2_layCycles_90 rfl q1185 (by decide) rfl ?_
        rw [g13]
        refine r_mast (pc := 93) (L := 1200) C dX2_layCycles_93 (by decide) rfl (by omega) (by omega) ?_
        refine r_aload_n (pc := 94) C dX2_layCycles_94 rfl rfl ?_
        refine r_mget (pc := 95) (k := 11) C dX2_layCycles_95 rfl q1183 (by decide) rfl ?_
        refine r_iload_n (pc := 98) C dX2_layCycles_98 rfl rfl ?_
        refine r_mald (pc := 99) (L := 1200) C dX2_layCycles_99 (by decide) rfl (by omega) (by omega) ?_
        rw [show ∀ z : Int, (aput stj 12 ((it (nxt lf) i k : Nat) : Int) z).2 11 ((it (nxt lf) i k : Nat) : Int) = ((nxt lf (it (nxt lf) i k) : Nat) : Int) from fun z => by rw [aput_nk _ _ _ (by decide)]; exact gn _ hat]
        refine r_istore_n (pc := 100) C dX2_layCycles_100 rfl (by decide) ?_
        refine r_goto (pc := 101) (tgt := 73) C dX2_layCycles_101 (by decide) ?_
        refine ihi hip _ (e1.aput (by decide)) (fun c hc => by rw [aput_nk _ _ _ (by decide)]; exact e2 c hc) (by rw [aput_nk _ _ _ (by decide)]; exact e3) (fun j hj => ?_)
        rw [mrk_s]
        by_cases e : it (nxt lf) i k = j
        · rw [← e, aput_eq, if_pos (by simp)]
        · rw [aput_nj _ _ _ (by omega), e4 j hj, decide_eq_false e, Bool.or_false]
    refine r_iload_n (pc := 42) C dX2_layCycles_42 rfl rfl ?_
    refine r_aload_n (pc := 43) C dX2_layCycles_43 rfl rfl ?_
    refine r_mget (pc := 44) (k := 7) C dX2_layCycles_44 rfl q1179 (by decide) rfl ?_
    rw [gf.1]
    refine r_icmp_geZ (pc := 47) (tgt := 120) C dX2_layCycles_47 (by decide) (by unfold i32; omega) (by unfold i32; omega) (fun h47 => ?_) (fun h47 => ?_)
    · exact r_vret (pc := 120) C hQ dX2_layCycles_120 (Nat.le_of_ble_eq_true rfl) (Nat.le_of_ble_eq_true rfl) (fun G hG => ⟨_, hG, ⟨rfl, g2, by rw [show k = lf.length by omega] at hs; rw [hs]; exact g3, g1⟩⟩)
    · refine r_aload_n (pc := 50) C dX2_layCycles_50 rfl rfl ?_
      refine r_mget (pc := 51) (k := 12) C dX2_layCycles_51 rfl q1184 (by decide) rfl ?_
      refine r_iload_n (pc := 54) C dX2_layCycles_54 rfl rfl ?_
      refine r_mald (pc := 55) (L := 1200) C dX2_layCycles_55 (by decide) rfl (by omega) (by omega) ?_
      rw [g3.1 k (by omega)]
      refine r_ldcZ (pc := 56) (a := -2000000001) C dX2_layCycles_56 rfl q1370 (by decide) ?_
      refine r_icmp_neZ (pc := 58) (tgt := 114) C dX2_layCycles_58 (by decide) (hsi k (by omega)) (by unfold i32; omega) (fun h58 => ?_) (fun h58 => ?_)
      · refine r_iincZ (pc := 114) C dX2_layCycles_114 rfl (by decide) ?_
        refine r_goto (pc := 117) (tgt := 42) C dX2_layCycles_117 (by decide) ?_
        refine ih (by omega) _ _ g1 g2 ?_
        rw [hstep]
        unfold stC
        rw [if_neg h58]
        exact g3
      · refine r_aload_n (pc := 61) C dX2_layCycles_61 rfl rfl ?_
        refine r_mget (pc := 62) (k := 14) C dX2_layCycles_62 rfl q1186 (by decide) rfl ?_
        refine r_aload_n (pc := 65) C dX2_layCycles_65 rfl rfl ?_
        refine r_mget (pc := 66) (k := 13) C dX2_layCycles_66 rfl q1185 (by decide) rfl ?_
        rw [g3.2.1]
        refine r_iload_n (pc := 69) C dX2_layCycles_69 rfl rfl ?_
        refine r_mast (pc := 70) (L := 1200) C dX2_layCycles_70 (by decide) rfl (by omega) (by omega) ?_
        refine r_iload_n (pc := 71) C dX2_layCycles_71 rfl rfl ?_
        refine r_istore_n (pc := 72) C dX2_layCycles_72 rfl (by decide) ?_
        exact inner (by omega) h58 0 (Nat.zero_le _) _ (eqx.rf.aput (by decide)) (fun c hc => by rw [aput_nj _ _ _ (by omega)]; exact g3.2.2 c hc) (aput_eq _ _ _ _) (fun j hj => by rw [aput_nk _ _ _ (by decide), mrk_0, if_neg (by decide)]; exact g3.1 j hj)
  have first : ∀ k : Nat, k ≤ lf.length → ∀ (sti : MSt), eqx [11, 12] st sti → (∀ j : Nat, j < k → sti.2 11 j = (nxt lf j : Int) ∧ sti.2 12 j = NON) → WW Z 3 (MOD mh mad G0 sti) 0 0 2 [some (.ref mh), some (.int (iI (k : Int))), none] [] := by
    refine loopN _ _ (fun k hk ih sti g1 g2 => ?_)
    have gf := h.x g1 (by decide) (by decide) (by decide) (by decide)
    refine r_iload_n (pc := 2) C dX2_layCycles_2 rfl rfl ?_
    refine r_aload_n (pc := 3) C dX2_layCycles_3 rfl rfl ?_
    refine r_mget (pc := 4) (k := 7) C dX2_layCycles_4 rfl q1179 (by decide) rfl ?_
    rw [gf.1]
    refine r_icmp_geZ (pc := 7) (tgt := 35) C dX2_layCycles_7 (by decide) (by unfold i32; omega) (by unfold i32; omega) (fun h7 => ?_) (fun h7 => ?_)
    · refine r_aload_n (pc := 35) C dX2_layCycles_35 rfl rfl ?_
      refine r_iconstZ (pc := 36) C dX2_layCycles_36 ?_
      refine r_mput (pc := 37) (k := 13) (ty := .int) C dX2_layCycles_37 rfl q1185 (by decide) rfl (by decide +kernel) rfl rfl (ms_13 mad _ _) rfl (Or.inl rfl) ?_
      refine r_iconstZ (pc := 40) C dX2_layCycles_40 ?_
      refine r_istore_n (pc := 41) C dX2_layCycles_41 rfl (by decide) ?_
      exact second 0 (Nat.zero_le _) _ _ ((g1.wk (by decide)).iput (by decide)) (fun j hj => (g2 j (by omega)).1) ⟨fun j hj => (g2 j (by omega)).2, iput_eq _ _ _, fun c hc => absurd hc (Nat.not_lt_zero _)⟩
    · refine r_aload_n (pc := 10) C dX2_layCycles_10 rfl rfl ?_
      refine r_mget (pc := 11) (k := 11) C dX2_layCycles_11 rfl q1183 (by decide) rfl ?_
      refine r_iload_n (pc := 14) C dX2_layCycles_14 rfl rfl ?_
      refine r_aload_n (pc := 15) C dX2_layCycles_15 rfl rfl ?_
      refine r_iload_n (pc := 16) C dX2_layCycles_16 rfl rfl ?_
      refine r_minv (pc := 17) 1 C dX2_layCycles_17 (mt_findNext lf k (by omega) gf) rfl (lw_V q1494 q1496 qs57 q92 q1497) (by decide +kernel) rfl rfl ⟨Nat.le_of_ble_eq_true rfl, Nat.le_of_ble_eq_true rfl⟩ (Nat.le_of_ble_eq_true rfl) ⟨Nat.le_of_ble_eq_true rfl, Nat.le_of_ble_eq_true rfl⟩ (fun v17 st17 h17 => ?_)
      obtain ⟨rfl, rfl⟩ := h17
      rw [show nof lf (nextF (fat lf k)) = (nxt lf k : Int) from if_pos (ix_mem (hcl _ (fat_mem (by omega)))).1]
      refine r_mast (pc := 20) (L := 1200) C dX2_layCycles_20 (by decide) rfl (by omega) (by omega) ?_
      refine r_aload_n (pc := 21) C dX2_layCycles_21 rfl rfl ?_
      refine r_mget (pc := 22) (k := 12) C dX2_layCycles_22 rfl q1184 (by decide) rfl ?_
      refine r_iload_n (pc := 25) C dX2_layCycles_25 rfl rfl ?_
      refine r_ldcZ (pc := 26) (a := -2000000001) C dX2_layCycles_26 rfl q1370 (by decide) ?_
      refine r_mast (pc := 28) (L := 1200) C dX2_layCycles_28 (by decide) rfl (by omega) (by omega) ?_
      refine r_iincZ (pc := 29) C dX2_layCycles_29 rfl (by decide) ?_
      refine r_goto (pc := 32) (tgt := 2) C dX2_layCycles_32 (by decide) ?_
      refine ih (by omega) _ ((g1.aput (by decide)).aput (by decide)) (fun j hj => ?_)
      by_cases e : j = k
      · subst e; exact ⟨by rw [aput_nk _ _ _ (by decide), aput_eq], aput_eq _ _ _ _⟩
      · rw [aput_nk _ _ _ (by decide), aput_nj _ _ _ (by omega), aput_nj _ _ _ (by omega), aput_nk _ _ _ (by decide)]; exact g2 j (by omega)
  refine r_iconstZ (pc := 0) C dX2_layCycles_0 ?_
  refine r_istore_n (pc := 1) C dX2_layCycles_1 rfl (by decide) ?_
  exact first 0 (Nat.zero_le _) _ eqx.rf (fun j hj => absurd hj (Nat.not_lt_zero _))

/-- the reference's river -/
def RivAt (st : MSt) (d : Int) : Prop := RivOK d ∧ st.1 6 = d ∧ FormsAt st (fl d) ∧ NextAt st (fl d) ∧ CycAt st (fl d).length (rc d)
theorem RivAt.x {ks : List Nat} {st st' : MSt} {d : Int} (h : RivAt st d) (e : eqx ks st st') (hk : ∀ k, k ∈ [6, 7, 8, 9, 10, 11, 12, 13, 14] → k ∉ ks) : RivAt st' d :=
  ⟨h.1, (e 6 (hk 6 (by decide))).1.trans h.2.1, h.2.2.1.x e (hk 7 (by decide)) (hk 8 (by decide)) (hk 9 (by decide)) (hk 10 (by decide)), h.2.2.2.1.x e (hk 11 (by decide)), h.2.2.2.2.x e (hk 12 (by decide)) (hk 13 (by decide)) (hk 14 (by decide))⟩
def okD (d : Int) : Prop := (5 ≤ d ∧ d ≤ 900) ∧ d % 4 ≤ 1 ∧ sqB d.toNat = false
theorem okD.riv {d : Int} (h : okD d) : RivOK d := Or.inr ⟨h.1.1, h.1.2, sqB_n (by have := h.1; omega) h.1.2 h.2.2⟩
/-- the answer, and the river from then on (d0: the river as it was) -/
def sRiver (d0 d : Int) : Int × Int := if (5 ≤ d ∧ d ≤ 900) ∧ d % 4 ≤ 1 ∧ sqB d.toNat = false then (((fms d).length : Int), d) else (OUT, d0)
set_option maxHeartbeats 800000 in
theorem mt_river {la : Launch} {X : XE} {mh : Nat} {mad : Nat → Nat} {G0 : Gh} {st : MSt} (d0 d : Int) (hd : i32 d) (h : RivAt st d0) : MM la X mh mad G0 yX2_river cX2_river 3 (some .int) 3 68 [.int (iI d)] st (fun v st' => v = some (.int (iI (sRiver d0 d).1)) ∧ RivAt st' (sRiver d0 d).2 ∧ eqx [6, 7, 8, 9, 10, 11, 12, 13, 14] st st') := by
  refine MG.of (by decide +kernel) (Nat.le_of_ble_eq_true rfl) ?_
  intro Z C hX hL hQ
  subst hX; subst hL
  change WW Z 3 (MOD mh mad G0 st) 0 0 0 [some (.ref mh), some (.int (iI d)), none] []
  have loop : ∀ (hok : okD d) (k : Nat), k ≤ 61 → ∀ sti : MSt, eqx [6, 7, 8, 9, 10] st sti → sti.1 6 = d → FormsAt sti (fmsN d k) → WW Z 3 (MOD mh mad G0 sti) 0 0 41 [some (.ref mh), some (.int (iI d)), some (.int (iI ((k : Int) - 30)))] [] := by
    intro hok
    obtain ⟨ok1, ok2, ok3⟩ := hok
    refine loopN _ _ (fun k hk ih sti g1 g2 g3 => ?_)
    have hlen := fmsN_len (d := d) ok1.2 k
    have hyy : 0 ≤ ((k : Int) - 30) * ((k : Int) - 30) := by
      rcases Int.le_total 0 ((k : Int) - 30) with h | h
      · exact Int.mul_nonneg h h
      · exact Int.mul_nonneg_of_nonpos_of_nonpos h h
    have hyb : ((k : Int) - 30) * ((k : Int) - 30) ≤ 1000 := by
      rcases Int.le_total 0 ((k : Int) - 30) with h | h
      · have : ((k : Int) - 30) * ((k : Int) - 30) ≤ 31 * 31 := Int.mul_le_mul (by omega) (by omega) (by omega) (by omega)
        omega
      · have : (-((k : Int) - 30)) * (-((k : Int) - 30)) ≤ 31 * 31 := Int.mul_le_mul (by omega) (by omega) (by omega) (by omega)
        rw [Int.neg_mul_neg] at this
        omega
    have next : k < 61 → ∀ stj : MSt, eqx [6, 7, 8, 9, 10] st stj → stj.1 6 = d → FormsAt stj (fmsN d k ++ fmB d ((k : Int) - 30)) → WW Z 3 (MOD mh mad G0 stj) 0 0 69 [some (.ref mh), some (.int (iI d)), some (.int (iI ((k : Int) - 30)))] [] := by
      intro hk61 stj e1 e2 e3
      refine r_iincZ (pc := 69) C dX2_river_69 rfl (by decide) ?_
      refine r_goto (pc := 72) (tgt := 41) C dX2_river_72 (by decide) ?_
      have I := ih hk61 stj e1 e2 e3
      rw [show (((k + 1 : Nat) : Int) - 30) = (k : Int) - 30 + 1 by omega] at I
      exact I
    refine r_iload_n (pc := 41) C dX2_river_41 rfl rfl ?_
    refine r_bipushZ (pc := 42) C dX2_river_42 (by decide) ?_
    refine r_icmp_gtZ (pc := 44) (tgt := 75) C dX2_river_44 (by decide) (by unfold i32; omega) (by unfold i32; omega) (fun h44 => ?_) (fun h44 => ?_)
    · have hfl : fl d = fmsN d k := (by unfold fl fms; rw [if_neg (by omega), show k = 61 by omega])
      have hrv : RivOK d := okD.riv ⟨ok1, ok2, ok3⟩
      rw [← hfl] at g3
      refine r_aload_n (pc := 75) C dX2_river_75 rfl rfl ?_
      refine r_minv (pc := 76) 0 C dX2_river_76 (mt_layCycles (fl d) (fun f hf => fl_next hrv hf) (fl_perm hrv) g3) rfl (lw_V q1490 q1492 qs56 q92 q1493) (by decide +kernel) rfl rfl ⟨Nat.le_of_ble_eq_true rfl, Nat.le_of_ble_eq_true rfl⟩ (Nat.le_of_ble_eq_true rfl) ⟨Nat.le_of_ble_eq_true rfl, Nat.le_of_ble_eq_true rfl⟩ (fun v76 st76 h76 => ?_)
      obtain ⟨rfl, h76n, h76c, h76e⟩ := h76
      have h76f := g3.x h76e (by decide) (by decide) (by decide) (by decide)
      refine r_aload_n (pc := 79) C dX2_river_79 rfl rfl ?_
      refine r_mget (pc := 80) (k := 7) C dX2_river_80 rfl q1179 (by decide) rfl ?_
      rw [h76f.1, hfl, show k = 61 by omega]
      exact r_iret (pc := 83) C hQ dX2_river_83 (Nat.le_of_ble_eq_true rfl) (Nat.le_of_ble_eq_true rfl) (fun G hG => ⟨_, hG, ⟨by unfold sRiver; rw [if_pos ⟨ok1, ok2, ok3⟩]; rfl, by unfold sRiver; rw [if_pos ⟨ok1, ok2, ok3⟩]; exact ⟨hrv, (h76e 6 (by decide)).1.trans g2, h76f, h76n, h76c⟩, (g1.wk (by decide)).tr (h76e.wk (by decide))⟩⟩)
    · refine r_iload_n (pc := 47) C dX2_river_47 rfl rfl ?_
      refine r_iload_n (pc := 48) C dX2_river_48 rfl rfl ?_
      refine r_imulZ (pc := 49) C dX2_river_49 ?_
      refine r_iload_n (pc := 50) C dX2_river_50 rfl rfl ?_
      refine r_icmp_geZ (pc := 51) (tgt := 69) C dX2_river_51 (by decide) (by unfold i32; omega) (by unfold i32; omega) (fun h51 => ?_) (fun h51 => ?_)
      · first | exact next (by omega) _ (g1.tr (h66b.wk (by decide))) ((h66b 6 (by decide)).1.trans g2) h66a | exact next (by omega) _ g1 g2 (by unfold fmB; rw [if_neg (by omega), List.append_nil]; exact g3)
      · refine r_iload_n (pc := 54) C dX2_river_54 rfl rfl ?_
        refine r_iload_n (pc := 55) C dX2_river_55 rfl rfl ?_
        refine r_iload_n (pc := 56) C dX2_river_56 rfl rfl ?_
        refine r_imulZ (pc := 57) C dX2_river_57 ?_
        refine r_isubZ (pc := 58) C dX2_river_58 ?_
        refine r_iconstZ (pc := 59) C dX2_river_59 ?_
        refine r_iremE (pc := 60) C dX2_river_60 (by unfold i32; omega) (by unfold i32; omega) (by omega) (by omega) ?_
        refine r_if_neZ (pc := 61) (tgt := 69) C dX2_river_61 (by decide) (by unfold i32; omega) (fun h61 => ?_) (fun h61 => ?_)
        · first | exact next (by omega) _ (g1.tr (h66b.wk (by decide))) ((h66b 6 (by decide)).1.trans g2) h66a | exact next (by omega) _ g1 g2 (by unfold fmB; rw [if_neg (by omega), List.append_nil]; exact g3)
        · refine r_aload_n (pc := 64) C dX2_river_64 rfl rfl ?_
          refine r_iload_n (pc := 65) C dX2_river_65 rfl rfl ?_
          refine r_minv (pc := 66) 1 C dX2_river_66 (mt_layMiddle d ((k : Int) - 30) (fmsN d k) ok1 (by omega) g2 g3 (by omega) (by omega) h61) rfl (lw_V q1486 q1488 qs55 q92 q1489) (by decide +kernel) rfl rfl ⟨Nat.le_of_ble_eq_true rfl, Nat.le_of_ble_eq_true rfl⟩ (Nat.le_of_ble_eq_true rfl) ⟨Nat.le_of_ble_eq_true rfl, Nat.le_of_ble_eq_true rfl⟩ (fun v66 st66 h66 => ?_)
          obtain ⟨rfl, h66a, h66b⟩ := h66
          first | exact next (by omega) _ (g1.tr (h66b.wk (by decide))) ((h66b 6 (by decide)).1.trans g2) h66a | exact next (by omega) _ g1 g2 (by unfold fmB; rw [if_neg (by omega), List.append_nil]; exact g3)
  refine r_iload_n (pc := 0) C dX2_river_0 rfl rfl ?_
  refine r_iconstZ (pc := 1) C dX2_river_1 ?_
  refine r_sipushZ (pc := 2) C dX2_river_2 (by decide) ?_
  refine r_invP (pc := 5) 3 C dX2_river_5 (pf_within d 5 900 hd (by unfold i32; omega) (by unfold i32; omega)) rfl (lw_S q1283 q1284 q92 q1285) (by decide +kernel) rfl rfl ⟨Nat.le_of_ble_eq_true rfl, Nat.le_of_ble_eq_true rfl⟩ (Nat.le_of_ble_eq_true rfl) ⟨Nat.le_of_ble_eq_true rfl, Nat.le_of_ble_eq_true rfl⟩ ?_
  refine r_if_eqB (pc := 8) (tgt := 25) C dX2_river_8 (by decide)  (fun h8 => ?_) (fun h8 => ?_)
  · refine r_ldcZ (pc := 25) (a := -2000000102) C dX2_river_25 rfl q1286 (by decide) ?_
    exact r_iret (pc := 27) C hQ dX2_river_27 (Nat.le_of_ble_eq_true rfl) (Nat.le_of_ble_eq_true rfl) (fun G hG => ⟨_, hG, ⟨by unfold sRiver; first | rw [if_neg (fun q => h8 q.1)] | rw [if_neg (fun q => absurd q.2.1 (by omega))] | rw [if_neg (fun q => h22 (by rw [q.2.2]; rfl))], by unfold sRiver; first | (rw [if_neg (fun q => h8 q.1)]; exact h) | (rw [if_neg (fun q => absurd q.2.1 (by omega))]; exact h) | (rw [if_neg (fun q => h22 (by rw [q.2.2]; rfl))]; exact h), eqx.rf⟩⟩)
  · refine r_iload_n (pc := 11) C dX2_river_11 rfl rfl ?_
    refine r_iconstZ (pc := 12) C dX2_river_12 ?_
    refine r_iremE (pc := 13) C dX2_river_13 (by unfold i32; omega) (by unfold i32; omega) (by omega) (by omega) ?_
    refine r_iconstZ (pc := 14) C dX2_river_14 ?_
    refine r_icmp_gtZ (pc := 15) (tgt := 25) C dX2_river_15 (by decide) (by unfold i32; omega) (by unfold i32; omega) (fun h15 => ?_) (fun h15 => ?_)
    · refine r_ldcZ (pc := 25) (a := -2000000102) C dX2_river_25 rfl q1286 (by decide) ?_
      exact r_iret (pc := 27) C hQ dX2_river_27 (Nat.le_of_ble_eq_true rfl) (Nat.le_of_ble_eq_true rfl) (fun G hG => ⟨_, hG, ⟨by unfold sRiver; first | rw [if_neg (fun q => h8 q.1)] | rw [if_neg (fun q => absurd q.2.1 (by omega))] | rw [if_neg (fun q => h22 (by rw [q.2.2]; rfl))], by unfold sRiver; first | (rw [if_neg (fun q => h8 q.1)]; exact h) | (rw [if_neg (fun q => absurd q.2.1 (by omega))]; exact h) | (rw [if_neg (fun q => h22 (by rw [q.2.2]; rfl))]; exact h), eqx.rf⟩⟩)
    · refine r_iload_n (pc := 18) C dX2_river_18 rfl rfl ?_
      refine r_invP (pc := 19) 1 C dX2_river_19 (show PF yX2_isSquare cX2_isSquare 2 (some .boolean) 0 0 [.int (iI d)] (some (.int (iI (bi (sqB d.toNat))))) from (by have q := pf_isSquare d.toNat (by omega); rwa [show ((d.toNat : Nat) : Int) = d by omega] at q)) rfl (lw_S q1483 q1484 q92 q1485) (by decide +kernel) rfl rfl ⟨Nat.le_of_ble_eq_true rfl, Nat.le_of_ble_eq_true rfl⟩ (Nat.le_of_ble_eq_true rfl) ⟨Nat.le_of_ble_eq_true rfl, Nat.le_of_ble_eq_true rfl⟩ ?_
      refine r_if_eqZ (pc := 22) (tgt := 28) C dX2_river_22 (by decide) (bi_i _) (fun h22 => ?_) (fun h22 => ?_)
      · refine r_aload_n (pc := 28) C dX2_river_28 rfl rfl ?_
        refine r_iload_n (pc := 29) C dX2_river_29 rfl rfl ?_
        refine r_mput (pc := 30) (k := 6) (ty := .int) C dX2_river_30 rfl q1178 (by decide) rfl (by decide +kernel) rfl rfl (ms_6 mad _ _) rfl (Or.inl rfl) ?_
        refine r_aload_n (pc := 33) C dX2_river_33 rfl rfl ?_
        refine r_iconstZ (pc := 34) C dX2_river_34 ?_
        refine r_mput (pc := 35) (k := 7) (ty := .int) C dX2_river_35 rfl q1179 (by decide) rfl (by decide +kernel) rfl rfl (ms_7 mad _ _) rfl (Or.inl rfl) ?_
        refine r_bipushZ (pc := 38) C dX2_river_38 (by decide) ?_
        refine r_istore_n (pc := 40) C dX2_river_40 rfl (by decide) ?_
        exact loop ⟨h8, by omega, bi_0.mp h22⟩ 0 (Nat.zero_le _) _ ((eqx.rf.iput (k := 6) (by decide)).iput (k := 7) (by decide)) rfl ⟨iput_eq _ _ _, Nat.zero_le _, fun f hf => absurd hf List.not_mem_nil, fun k hk => absurd hk (Nat.not_lt_zero _)⟩
      · refine r_ldcZ (pc := 25) (a := -2000000102) C dX2_river_25 rfl q1286 (by decide) ?_
        exact r_iret (pc := 27) C hQ dX2_river_27 (Nat.le_of_ble_eq_true rfl) (Nat.le_of_ble_eq_true rfl) (fun G hG => ⟨_, hG, ⟨by unfold sRiver; first | rw [if_neg (fun q => h8 q.1)] | rw [if_neg (fun q => absurd q.2.1 (by omega))] | rw [if_neg (fun q => h22 (by rw [q.2.2]; rfl))], by unfold sRiver; first | (rw [if_neg (fun q => h8 q.1)]; exact h) | (rw [if_neg (fun q => absurd q.2.1 (by omega))]; exact h) | (rw [if_neg (fun q => h22 (by rw [q.2.2]; rfl))]; exact h), eqx.rf⟩⟩)

