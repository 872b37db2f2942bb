/-! the component: cycles are laid -/
set_option maxRecDepth 100000
theorem fat_next {l : List Fm} {k : Nat} (hk : k < l.length) (hcl : ∀ f ∈ l, nextF f ∈ l) : nof l (nextF (fat l k)) = nxZ l k := if_pos (ix_mem (hcl _ (fat_mem hk))).1
abbrev ffs (f : Fm) (c n b m : Int) : List Value := [.int (iI f.1), .int (iI f.2.1), .int (iI f.2.2), .int (iI c), .int (iI n), .int (iI b), .int (iI m)]
set_option maxHeartbeats 800000 in
theorem xo_layCycles {la : Launch} {X : XE} {G0 : Gh} {xh mf mc : Nat} {A : Nat → Nat} {rdn rv dr : Int} {fls : List Nat} {l : List Fm} (hx : XOB G0 xh A rdn rv dr) (hLs : LST X G0 (A 7) 5 fls mf) (hF : FLS G0 fls l (fun _ => NON) (fun _ => 0) (fun _ => 0) (fun _ => 0)) (hCs : LST X G0 (A 8) 7 [] mc) (hmc : mc ≤ 1700) (hb : ∀ f ∈ l, FB f) (hn : l.length ≤ 1098) (hcl : ∀ f ∈ l, nextF f ∈ l) (hp : isPerm (nxt l) l.length) : MG la X yX0_layCycles cX0_layCycles 4 none (rmk 8 6588 66092 196) [.ref xh] (fun G => G = G0) (fun v G => v = none ∧ ∃ cls m, m ≤ 1700 ∧ LST X G (A 8) 7 cls m ∧ CLS G xh cls (cyN (nxt l) l.length l.length).2 (fun k => wpre l k (per (nxt l) l.length k)) ∧ FLS G fls l (cyN (nxt l) l.length l.length).1 (nxZ l) (bkZ l) (mrZ l) ∧ FR [6, 7, 9, 12] G0 G) := by
  refine MG.of (by decide +kernel) (Nat.le_of_ble_eq_true rfl) ?_
  intro Z C hX hL hQ
  subst hX; subst hL
  change WW Z 4 (fun G => G = G0) 0 0 0 [some (.ref xh), none, none, none] []
  have hfl := hF.1
  have second : ∀ k : Nat, k ≤ l.length → ∀ (m : Nat) (v2 v3 : Option Value), m ≤ 1700 → WW Z 4 (fun G => ∃ cls, LST (zX Z) G (A 8) 7 cls m ∧ CLS G xh cls (cyN (nxt l) l.length k).2 (fun k => wpre l k (per (nxt l) l.length k)) ∧ FLS G fls l (cyN (nxt l) l.length k).1 (nxZ l) (bkZ l) (mrZ l) ∧ FR [6, 7, 9, 12] G0 G) (5 * (cyN (nxt l) l.length k).2.length + (mkd l.length (cyN (nxt l) l.length k).1).toNat) (50 * (cyN (nxt l) l.length k).2.length + 4 * (mkd l.length (cyN (nxt l) l.length k).1).toNat + 4 * m) 148 [some (.ref xh), some (.int (iI (k : Int))), v2, v3] [] := by
    refine loopN _ _ (fun k hk ih m v2 v3 hm => ?_)
    have hI := cyN_I hp k hk
    have hstep : cyN (nxt l) l.length (k + 1) = stC (nxt l) l.length (cyN (nxt l) l.length k) k := rfl
    have hend : k = l.length → cyN (nxt l) l.length l.length = cyN (nxt l) l.length k := fun e => by rw [e]
    have hM := mkd_le l.length (cyN (nxt l) l.length k).1
    generalize hs : cyN (nxt l) l.length k = s at hI hstep hend hM ⊢
    obtain ⟨a1, a2, a3, a4, a5, a6⟩ := hI
    obtain ⟨M, hMe⟩ : ∃ M : Nat, mkd l.length s.1 = (M : Int) := ⟨(mkd l.length s.1).toNat, by omega⟩
    rw [hMe, Int.toNat_natCast]
    have hMn : M ≤ 1098 := by omega
    have hsi : ∀ j, j < l.length → i32 (s.1 j) := fun j hj => by
      rcases a3 j hj with q | ⟨c, q1, q2⟩
      · rw [q]; unfold NON i32; omega
      · rw [q2]; unfold i32; omega
    refine ww_all (fun G1 hG1 => ?_)
    obtain ⟨cls, C1, K1, F1, f1⟩ := hG1
    have hx1 := hx.fr f1 (by decide) (by decide)
    have L1 := hLs.fr f1 (by decide) (by decide)
    have hcl1 := K1.1
    have keep : k < l.length → s.1 k ≠ NON → WW Z 4 (fun G => G = G1) (5 * s.2.length + M) (50 * s.2.length + 4 * M + 4 * m) 202 [some (.ref xh), some (.int (iI (k : Int))), v2, v3] [] := by
      intro hkl hkn
      refine r_iincZ (pc := 202) C dX0_layCycles_202 rfl (by decide) ?_
      refine r_goto (pc := 205) (tgt := 148) C dX0_layCycles_205 (by decide) ?_
      have I := ih hkl m v2 v3 hm
      rw [hstep, show stC (nxt l) l.length s k = s from if_neg hkn, hMe, Int.toNat_natCast] at I
      exact ww_to (fun G hG => by rw [hG]; exact ⟨cls, C1, K1, F1, f1⟩) I
    have make : k < l.length → s.1 k = NON → WW Z 4 (fun G => G = G1) (5 * s.2.length + M) (50 * s.2.length + 4 * M + 4 * m) 178 [some (.ref xh), some (.int (iI (k : Int))), v2, v3] [] := by
      intro hkl hkn
      have hps := per_spec hp hkl
      have hfree : ∀ i, s.1 (it (nxt l) i k) = NON := by
        intro i
        induction i with
        | zero => exact hkn
        | succ i ih2 => show s.1 (nxt l (it (nxt l) i k)) = NON; rw [a1 _ (it_lt hp hkl i), ih2]
      have hc0 : ((s.2.length : Nat) : Int) ≠ NON := by unfold NON; omega
      have hmk := mkd_cyI hp hkl hc0 hfree
      have hM2 := mkd_le l.length (cyI l k (s.2.length : Nat) s.1 (per (nxt l) l.length k))
      rw [hMe] at hmk
      have hsn : stC (nxt l) l.length s k = (cyI l k (s.2.length : Nat) s.1 (per (nxt l) l.length k), s.2 ++ [k]) := if_pos hkn
      refine r_aload_n (pc := 178) C dX0_layCycles_178 rfl rfl ?_
      refine r_get (pc := 179) (k := 8) (ci := 0) C dX0_layCycles_179 (g1 hx1.1) (show vwC[0]? = some (RX0, TX0, 10) from rfl) in_X0 (by decide) (C.t _ q284) (fun _ h => h) rfl ?_
      refine r_newE (pc := 182) (ci := 6) (fs := [.int (iI 0), .null, .null]) 12 C dX0_layCycles_182 (show vwC[6]? = some (RX7, TX7, 3) from rfl) in_X7 tyX7 tyX7_ok q1015 q1016 q102 (by decide +kernel) (by dsimp only [rmk]; omega) (by dsimp only [rmk]; omega) (fun a182 n182 => ?_)
      refine r_dup (pc := 185) C dX0_layCycles_185 rfl ?_
      refine r_aload_n (pc := 186) C dX0_layCycles_186 rfl rfl ?_
      refine r_iload_n (pc := 187) C dX0_layCycles_187 rfl rfl ?_
      refine r_aload_n (pc := 188) C dX0_layCycles_188 rfl rfl ?_
      refine r_get (pc := 189) (k := 8) (ci := 0) C dX0_layCycles_189 (g1 (up0 n182 hx1.1)) (show vwC[0]? = some (RX0, TX0, 10) from rfl) in_X0 (by decide) (C.t _ q284) (fun _ h => h) rfl ?_
      refine r_invV (pc := 192) (ci := 8) 0 C dX0_layCycles_192 (jl_size (C1.fr (FR.new (ts := []) n182) (by decide) (by decide))) (gLs (C1.fr (FR.new (ts := []) n182) (by decide) (by decide))) (show vwC[8]? = some (RJ6, TJ6, 3) from rfl) rfl (lw_V q580 q581 q582 q89 q583) (by decide +kernel) rfl rfl ⟨Nat.le_of_ble_eq_true rfl, Nat.le_of_ble_eq_true rfl⟩ (Nat.le_of_ble_eq_true rfl) ⟨by dsimp only [rmk]; omega, by dsimp only [rmk]; omega⟩ (rd_k ?_)
      rw [hcl1]
      refine r_invI (pc := 195) 3 C dX0_layCycles_195 (xc_init k (s.2.length : Nat) (gup_eq _ _ _) (hx1.fr (FR.new (ts := []) n182) (by decide) (by decide)) (L1.fr (FR.new (ts := []) n182) (by decide) (by decide)) (F1.fr (FR.new (ts := []) n182) (by decide)) hb hn hp hkl) rfl (lw_meth q1019) q102 q1017 q1018 rfl (by decide +kernel) rfl rfl ⟨Nat.le_of_ble_eq_true rfl, Nat.le_of_ble_eq_true rfl⟩ (Nat.le_of_ble_eq_true rfl) ⟨by dsimp only [rmk]; omega, by dsimp only [rmk]; omega⟩ (fun v195 G195 h195 => ?_)
      obtain ⟨rfl, s', m', -, b1, b2', F2, f2⟩ := h195
      have f3 : FR [6, 9, 12] G1 G195 := (FR.new (ts := [6, 9, 12]) n182).tr f2
      refine ww_retag (Γ' := fun G => CYC G xh a182 (k : Nat) (wpre l k (per (nxt l) l.length k)) ∧ FLS G fls l (cyI l k (s.2.length : Nat) s.1 (per (nxt l) l.length k)) (nxZ l) (bkZ l) (mrZ l) ∧ FR [6, 9, 12] G1 G) (fun G hG => by rw [hG]; obtain ⟨G', ⟨z1, z2, z3⟩, z4⟩ := CYC.frz (ts := [6, 9, 12]) (by decide) (by decide) b1 b2' f3; exact ⟨G', ⟨z1, ⟨F2.1, fun j hj => z3 _ _ (F2.2.1 j hj) (by simp) (by simp), F2.2.2⟩, z2⟩, z4⟩) ?_
      refine ww_all (fun G2 hG2 => ?_)
      obtain ⟨y1, F3, f4⟩ := hG2
      refine ww_wide (n' := 5 * s.2.length + M + per (nxt l) l.length k + 4) (s' := (50 * (s.2.length + 1) + 4 * (M + per (nxt l) l.length k)) + 4 * m) (by dsimp only [rmk]; omega) (by dsimp only [rmk]; omega) ?_
      have y2 : ∃ fs, G2 a182 = some (0, .inl (6, fs)) := (by obtain ⟨s0, m0, w0, -⟩ := y1; exact ⟨_, w0⟩)
      obtain ⟨fs2, y2⟩ := y2
      have K2 := K1.fr f4 (by decide) (by decide)
      refine r_addA (pc := 198) (c0 := 50 * (s.2.length + 1) + 4 * (M + per (nxt l) l.length k)) (C1.fr f4 (by decide) (by decide)) (by decide) (by omega) K2.obj ⟨0, 6, fs2, by decide, y2⟩ ⟨Nat.le_of_ble_eq_true rfl, Nat.le_of_ble_eq_true rfl⟩ (Nat.le_of_ble_eq_true rfl) ⟨by dsimp only [rmk]; omega, by dsimp only [rmk]; omega, fun he => by have := gcap_b (m := m) (by omega); dsimp only [rmk]; omega⟩ C dX0_layCycles_198 rfl (lw_V q618 q619 q620 q89 q621) (fun G198 m198 k198a k198b k198c => ?_)
      have hm198 : m198 ≤ 1700 := (by rcases k198b with q | ⟨q, q'⟩; omega; rw [q']; exact gcap_b (by omega))
      refine r_pop (pc := 201) C dX0_layCycles_201 rfl ?_
      refine r_iincZ (pc := 202) C dX0_layCycles_202 rfl (by decide) ?_
      refine r_goto (pc := 205) (tgt := 148) C dX0_layCycles_205 (by decide) ?_
      have I := ih hkl m198 v2 v3 hm198
      rw [hstep, hsn] at I
      dsimp only at I
      rw [hmk, List.length_append, List.length_singleton, show (((M : Nat) : Int) + ((per (nxt l) l.length k : Nat) : Int)).toNat = M + per (nxt l) l.length k by omega] at I
      refine ww_wide (n' := 5 * (s.2.length + 1) + (M + per (nxt l) l.length k)) (s' := 50 * (s.2.length + 1) + 4 * (M + per (nxt l) l.length k) + 4 * m198) (by omega) (by omega) ?_
      exact ww_to (fun G hG => by rw [hG]; exact ⟨_, k198a, (K2.push y1).fr k198c (by decide) (by decide), F3.fr k198c (by decide), (f1.tr (f4.wk (by decide))).tr (k198c.wk (by decide))⟩) I
    refine r_iload_n (pc := 148) C dX0_layCycles_148 rfl rfl ?_
    refine r_aload_n (pc := 149) C dX0_layCycles_149 rfl rfl ?_
    refine r_get (pc := 150) (k := 7) (ci := 0) C dX0_layCycles_150 (g1 hx1.1) (show vwC[0]? = some (RX0, TX0, 10) from rfl) in_X0 (by decide) (C.t _ q283) (fun _ h => h) rfl ?_
    refine r_invV (pc := 153) (ci := 8) 0 C dX0_layCycles_153 (jl_size L1) (gLs L1) (show vwC[8]? = some (RJ6, TJ6, 3) from rfl) rfl (lw_V q580 q581 q582 q89 q583) (by decide +kernel) rfl rfl ⟨Nat.le_of_ble_eq_true rfl, Nat.le_of_ble_eq_true rfl⟩ (Nat.le_of_ble_eq_true rfl) ⟨(by first | exact Nat.le_of_ble_eq_true rfl | (dsimp only [rmk]; omega) | omega), (by first | exact Nat.le_of_ble_eq_true rfl | (dsimp only [rmk]; omega) | omega)⟩ (rd_k ?_)
    rw [hfl]
    refine r_icmp_geZ (pc := 156) (tgt := 208) C dX0_layCycles_156 (by decide) (by unfold i32; omega) (by unfold i32; omega) (fun h156 => ?_) (fun h156 => ?_)
    · exact r_vret (pc := 208) C hQ dX0_layCycles_208 (by dsimp only [rmk]; omega) (by dsimp only [rmk]; omega) (fun G hG => (by cases hG; rw [hend (by omega)]; exact ⟨rfl, cls, m, hm, C1, K1, F1, f1⟩))
    · refine r_aload_n (pc := 159) C dX0_layCycles_159 rfl rfl ?_
      refine r_get (pc := 160) (k := 7) (ci := 0) C dX0_layCycles_160 (g1 hx1.1) (show vwC[0]? = some (RX0, TX0, 10) from rfl) in_X0 (by decide) (C.t _ q283) (fun _ h => h) rfl ?_
      refine r_iload_n (pc := 163) C dX0_layCycles_163 rfl rfl ?_
      refine r_invV (pc := 164) (ci := 8) 1 C dX0_layCycles_164 (jl_get (k : Int) L1 ⟨by omega, by omega⟩) (gLs L1) (show vwC[8]? = some (RJ6, TJ6, 3) from rfl) rfl (lw_V q670 q671 q672 q89 q673) (by decide +kernel) rfl rfl ⟨Nat.le_of_ble_eq_true rfl, Nat.le_of_ble_eq_true rfl⟩ (Nat.le_of_ble_eq_true rfl) ⟨(by first | exact Nat.le_of_ble_eq_true rfl | (dsimp only [rmk]; omega) | omega), (by first | exact Nat.le_of_ble_eq_true rfl | (dsimp only [rmk]; omega) | omega)⟩ (rd_k ?_)
      rw [show ((k : Int)).toNat = k from rfl]
      refine r_castO (pc := 167) (ci := 5) C dX0_layCycles_167 (g2 (F1.2.1 k (by omega))) (show vwC[5]? = some (RX6, TX6, 7) from rfl) q810 ?_
      refine r_getN (pc := 170) (k := 3) (ci := 5) C dX0_layCycles_170 (g1 (F1.2.1 k (by omega))) (show vwC[5]? = some (RX6, TX6, 7) from rfl) in_X6 (by decide) (C.nf (h1 := "RiverWords") (by decide +kernel)) (fun _ h => h) rfl ?_
      refine r_ldcZ (pc := 173) (a := -2000000001) C dX0_layCycles_173 rfl q863 (by decide) ?_
      refine r_icmp_neZ (pc := 175) (tgt := 202) C dX0_layCycles_175 (by decide) (hsi k (by omega)) (by unfold i32; omega) (fun h175 => ?_) (fun h175 => ?_)
      · exact keep (by omega) h175
      · exact make (by omega) h175
  have first : ∀ k : Nat, k ≤ l.length → ∀ (v2 v3 : Option Value), WW Z 4 (fun G => FLS G fls l (fun _ => NON) (cut0 (nxZ l) k) (cut0 (bkZ l) k) (cut0 (mrZ l) k) ∧ FR [6] G0 G) 0 0 2 [some (.ref xh), some (.int (iI (k : Int))), v2, v3] [] := by
    refine loopN _ _ (fun k hk ih v2 v3 => ?_)
    refine ww_all (fun G1 hG1 => ?_)
    obtain ⟨F1, f1⟩ := hG1
    have hx1 := hx.fr f1 (by decide) (by decide)
    have L1 := hLs.fr f1 (by decide) (by decide)
    have done' : l.length ≤ k → WW Z 4 (fun G => G = G1) 0 0 146 [some (.ref xh), some (.int (iI (k : Int))), v2, v3] [] := by
      intro hkl
      refine r_iconstZ (pc := 146) C dX0_layCycles_146 ?_
      refine r_istore_n (pc := 147) C dX0_layCycles_147 rfl (by decide) ?_
      have e0 : cyN (nxt l) l.length 0 = (fun _ => NON, []) := rfl
      have hM0 : mkd l.length (fun _ => NON) = 0 := (by have : mkd l.length (fun _ => NON) = cnt (fun _ => false) l.length := cnt_congr (fun j _ => by simp); rw [this]; show sumN (fun _ => bi false) _ = 0; exact sumN_0)
      refine ww_wide (n' := 0) (s' := 4 * mc) (Nat.le_refl _) (Nat.zero_le _) ?_
      have I := second 0 (Nat.zero_le _) mc v2 v3 hmc
      rw [e0] at I
      dsimp only at I
      rw [hM0] at I
      simp only [List.length_nil, Nat.mul_zero, Nat.zero_add, Int.toNat_zero] at I
      refine ww_to (fun G hG => ?_) I
      rw [hG]
      exact ⟨[], hCs.fr f1 (by decide) (by decide), CLS.nil, F1.eq (fun j hj => ⟨rfl, by unfold cut0; rw [if_pos (by omega)], by unfold cut0; rw [if_pos (by omega)], by unfold cut0; rw [if_pos (by omega)]⟩), f1.wk (by decide)⟩
    have body : k < l.length → WW Z 4 (fun G => G = G1) 0 0 13 [some (.ref xh), some (.int (iI (k : Int))), v2, v3] [] := by
      intro hkl
      have fb := hb _ (fat_mem hkl)
      have fbi := fb.i
      obtain ⟨b1, b2', b3⟩ := fb
      have three : ∀ v3 : Option Value, WW Z 4 (fun G => G = G1) 0 0 93 [some (.ref xh), some (.int (iI (k : Int))), some (.ref (fls.getD k 0)), v3] [.int (iI (nxZ l k)), .ref (fls.getD k 0)] := by
        intro v3
        have two : ∀ (v3 : Option Value) (G2 : Gh), FLS G2 fls l (fun _ => NON) (cut0 (nxZ l) (k + 1)) (cut0 (bkZ l) k) (cut0 (mrZ l) k) → FR [6] G0 G2 → WW Z 4 (fun G => G = G2) 0 0 96 [some (.ref xh), some (.int (iI (k : Int))), some (.ref (fls.getD k 0)), v3] [] := by
          intro v3 G2 F2 f2
          have hx2 := hx.fr f2 (by decide) (by decide)
          have L2 := hLs.fr f2 (by decide) (by decide)
          have one : ∀ (v3 : Option Value) (G3 : Gh), FLS G3 fls l (fun _ => NON) (cut0 (nxZ l) (k + 1)) (cut0 (bkZ l) (k + 1)) (cut0 (mrZ l) k) → FR [6] G0 G3 → WW Z 4 (fun G => G = G3) 0 0 117 [some (.ref xh), some (.int (iI (k : Int))), some (.ref (fls.getD k 0)), v3] [] := by
            intro v3 G3 F3 f3
            have hx3 := hx.fr f3 (by decide) (by decide)
            have L3 := hLs.fr f3 (by decide) (by decide)
            refine r_aload_n (pc := 117) C dX0_layCycles_117 rfl rfl ?_
            refine r_aload_n (pc := 118) C dX0_layCycles_118 rfl rfl ?_
            refine r_aload_n (pc := 119) C dX0_layCycles_119 rfl rfl ?_
            refine r_getN (pc := 120) (k := 2) (ci := 5) C dX0_layCycles_120 (g1 (F3.2.1 k hkl)) (show vwC[5]? = some (RX6, TX6, 7) from rfl) in_X6 (by decide) (C.nf (h1 := "RiverWords") (by decide +kernel)) (fun _ h => h) rfl ?_
            refine r_inegZ (pc := 123) C dX0_layCycles_123 ?_
            refine r_aload_n (pc := 124) C dX0_layCycles_124 rfl rfl ?_
            refine r_getN (pc := 125) (k := 1) (ci := 5) C dX0_layCycles_125 (g1 (F3.2.1 k hkl)) (show vwC[5]? = some (RX6, TX6, 7) from rfl) in_X6 (by decide) (C.nf (h1 := "RiverWords") (by decide +kernel)) (fun _ h => h) rfl ?_
            refine r_inegZ (pc := 128) C dX0_layCycles_128 ?_
            refine r_aload_n (pc := 129) C dX0_layCycles_129 rfl rfl ?_
            refine r_getN (pc := 130) (k := 0) (ci := 5) C dX0_layCycles_130 (g1 (F3.2.1 k hkl)) (show vwC[5]? = some (RX6, TX6, 7) from rfl) in_X6 (by decide) (C.nf (h1 := "RiverWords") (by decide +kernel)) (fun _ h => h) rfl ?_
            refine r_inegZ (pc := 133) C dX0_layCycles_133 ?_
            refine r_invV (pc := 134) (ci := 0) 3 C dX0_layCycles_134 (xo_numberOf _ _ _ hx3 L3 F3 hb hn ⟨by unfold i32; omega, by unfold i32; omega, by unfold i32; omega⟩) (g2 hx3.1) (show vwC[0]? = some (RX0, TX0, 10) from rfl) rfl (lw_V q1007 q1009 qs13 q81 q1010) (by decide +kernel) rfl rfl ⟨Nat.le_of_ble_eq_true rfl, Nat.le_of_ble_eq_true rfl⟩ (Nat.le_of_ble_eq_true rfl) ⟨(by first | exact Nat.le_of_ble_eq_true rfl | (dsimp only [rmk]; omega) | omega), (by first | exact Nat.le_of_ble_eq_true rfl | (dsimp only [rmk]; omega) | omega)⟩ (rd_k ?_)
            rw [show nof l (-(fat l k).2.2, -(fat l k).2.1, -(fat l k).1) = mrZ l k from rfl]
            refine r_putN (pc := 137) (k := 6) (ci := 5) (ty := .int) C dX0_layCycles_137 (Γ' := fun G => G = gup G3 (fls.getD k 0) (6, .inl (5, ffs (fat l k) NON (cut0 (nxZ l) (k + 1) k) (cut0 (bkZ l) (k + 1) k) (mrZ l k)))) (fun G hG => ⟨6, by decide, by rw [hG]; exact F3.2.1 k hkl, by rw [hG]; rfl⟩) (show vwC[5]? = some (RX6, TX6, 7) from rfl) in_X6 tyX6 tyX6_ok nmX6 (by decide) (C.nf (h1 := "RiverWords") (by decide +kernel)) (fun _ h => h) rfl (by decide +kernel) rfl rfl (Nat.le_of_ble_eq_true rfl) ?_
            refine r_iincZ (pc := 140) C dX0_layCycles_140 rfl (by decide) ?_
            refine r_goto (pc := 143) (tgt := 2) C dX0_layCycles_143 (by decide) ?_
            refine ww_to (fun G hG => ?_) (ih hkl (some (.ref (fls.getD k 0))) v3)
            rw [hG]
            refine ⟨?_, f3.tr (FR.up (F3.2.1 k hkl) (by decide) 6)⟩
            have F4 := F3.set hkl NON (cut0 (nxZ l) (k + 1) k) (cut0 (bkZ l) (k + 1) k) (mrZ l k)
            rw [updz_self (fun _ => NON) k, updz_self (cut0 (nxZ l) (k + 1)), updz_self (cut0 (bkZ l) (k + 1)), cut0_s] at F4
            exact F4
          refine r_aload_n (pc := 96) C dX0_layCycles_96 rfl rfl ?_
          refine r_aload_n (pc := 97) C dX0_layCycles_97 rfl rfl ?_
          refine r_aload_n (pc := 98) C dX0_layCycles_98 rfl rfl ?_
          refine r_getN (pc := 99) (k := 0) (ci := 5) C dX0_layCycles_99 (g1 (F2.2.1 k hkl)) (show vwC[5]? = some (RX6, TX6, 7) from rfl) in_X6 (by decide) (C.nf (h1 := "RiverWords") (by decide +kernel)) (fun _ h => h) rfl ?_
          refine r_aload_n (pc := 102) C dX0_layCycles_102 rfl rfl ?_
          refine r_getN (pc := 103) (k := 1) (ci := 5) C dX0_layCycles_103 (g1 (F2.2.1 k hkl)) (show vwC[5]? = some (RX6, TX6, 7) from rfl) in_X6 (by decide) (C.nf (h1 := "RiverWords") (by decide +kernel)) (fun _ h => h) rfl ?_
          refine r_inegZ (pc := 106) C dX0_layCycles_106 ?_
          refine r_aload_n (pc := 107) C dX0_layCycles_107 rfl rfl ?_
          refine r_getN (pc := 108) (k := 2) (ci := 5) C dX0_layCycles_108 (g1 (F2.2.1 k hkl)) (show vwC[5]? = some (RX6, TX6, 7) from rfl) in_X6 (by decide) (C.nf (h1 := "RiverWords") (by decide +kernel)) (fun _ h => h) rfl ?_
          refine r_invV (pc := 111) (ci := 0) 3 C dX0_layCycles_111 (xo_numberOf _ _ _ hx2 L2 F2 hb hn ⟨by unfold i32; omega, by unfold i32; omega, by unfold i32; omega⟩) (g2 hx2.1) (show vwC[0]? = some (RX0, TX0, 10) from rfl) rfl (lw_V q1007 q1009 qs13 q81 q1010) (by decide +kernel) rfl rfl ⟨Nat.le_of_ble_eq_true rfl, Nat.le_of_ble_eq_true rfl⟩ (Nat.le_of_ble_eq_true rfl) ⟨(by first | exact Nat.le_of_ble_eq_true rfl | (dsimp only [rmk]; omega) | omega), (by first | exact Nat.le_of_ble_eq_true rfl | (dsimp only [rmk]; omega) | omega)⟩ (rd_k ?_)
          rw [show nof l ((fat l k).1, -(fat l k).2.1, (fat l k).2.2) = bkZ l k from rfl]
          refine r_putN (pc := 114) (k := 5) (ci := 5) (ty := .int) C dX0_layCycles_114 (Γ' := fun G => G = gup G2 (fls.getD k 0) (6, .inl (5, ffs (fat l k) NON (cut0 (nxZ l) (k + 1) k) (bkZ l k) (cut0 (mrZ l) k k)))) (fun G hG => ⟨6, by decide, by rw [hG]; exact F2.2.1 k hkl, by rw [hG]; rfl⟩) (show vwC[5]? = some (RX6, TX6, 7) from rfl) in_X6 tyX6 tyX6_ok nmX6 (by decide) (C.nf (h1 := "RiverWords") (by decide +kernel)) (fun _ h => h) rfl (by decide +kernel) rfl rfl (Nat.le_of_ble_eq_true rfl) ?_
          exact one v3 _ (by have F3 := F2.set hkl NON (cut0 (nxZ l) (k + 1) k) (bkZ l k) (cut0 (mrZ l) k k); rw [updz_self (fun _ => NON) k, updz_self (cut0 (nxZ l) (k + 1)), updz_self (cut0 (mrZ l) k), cut0_s] at F3; exact F3) (f2.tr (FR.up (F2.2.1 k hkl) (by decide) 6))
        skip
        refine r_putN (pc := 93) (k := 4) (ci := 5) (ty := .int) C dX0_layCycles_93 (Γ' := fun G => G = gup G1 (fls.getD k 0) (6, .inl (5, ffs (fat l k) NON (nxZ l k) (cut0 (bkZ l) k k) (cut0 (mrZ l) k k)))) (fun G hG => ⟨6, by decide, by rw [hG]; exact F1.2.1 k hkl, by rw [hG]; rfl⟩) (show vwC[5]? = some (RX6, TX6, 7) from rfl) in_X6 tyX6 tyX6_ok nmX6 (by decide) (C.nf (h1 := "RiverWords") (by decide +kernel)) (fun _ h => h) rfl (by decide +kernel) rfl rfl (Nat.le_of_ble_eq_true rfl) ?_
        exact two v3 _ (by have F2 := F1.set hkl NON (nxZ l k) (cut0 (bkZ l) k k) (cut0 (mrZ l) k k); rw [updz_self (fun _ => NON) k, updz_self (cut0 (bkZ l) k), updz_self (cut0 (mrZ l) k), cut0_s] at F2; exact F2) (f1.tr (FR.up (F1.2.1 k hkl) (by decide) 6))
      refine r_aload_n (pc := 13) C dX0_layCycles_13 rfl rfl ?_
      refine r_get (pc := 14) (k := 7) (ci := 0) C dX0_layCycles_14 (g1 hx1.1) (show vwC[0]? = some (RX0, TX0, 10) from rfl) in_X0 (by decide) (C.t _ q283) (fun _ h => h) rfl ?_
      refine r_iload_n (pc := 17) C dX0_layCycles_17 rfl rfl ?_
      refine r_invV (pc := 18) (ci := 8) 1 C dX0_layCycles_18 (jl_get (k : Int) L1 ⟨by omega, by omega⟩) (gLs L1) (show vwC[8]? = some (RJ6, TJ6, 3) from rfl) rfl (lw_V q670 q671 q672 q89 q673) (by decide +kernel) rfl rfl ⟨Nat.le_of_ble_eq_true rfl, Nat.le_of_ble_eq_true rfl⟩ (Nat.le_of_ble_eq_true rfl) ⟨(by first | exact Nat.le_of_ble_eq_true rfl | (dsimp only [rmk]; omega) | omega), (by first | exact Nat.le_of_ble_eq_true rfl | (dsimp only [rmk]; omega) | omega)⟩ (rd_k ?_)
      rw [show ((k : Int)).toNat = k from rfl]
      refine r_castO (pc := 21) (ci := 5) C dX0_layCycles_21 (g2 (F1.2.1 k hkl)) (show vwC[5]? = some (RX6, TX6, 7) from rfl) q810 ?_
      refine r_astore_n (pc := 24) C dX0_layCycles_24 rfl (by decide) ?_
      refine r_aload_n (pc := 25) C dX0_layCycles_25 rfl rfl ?_
      refine r_getN (pc := 26) (k := 0) (ci := 5) C dX0_layCycles_26 (g1 (F1.2.1 k hkl)) (show vwC[5]? = some (RX6, TX6, 7) from rfl) in_X6 (by decide) (C.nf (h1 := "RiverWords") (by decide +kernel)) (fun _ h => h) rfl ?_
      refine r_aload_n (pc := 29) C dX0_layCycles_29 rfl rfl ?_
      refine r_getN (pc := 30) (k := 1) (ci := 5) C dX0_layCycles_30 (g1 (F1.2.1 k hkl)) (show vwC[5]? = some (RX6, TX6, 7) from rfl) in_X6 (by decide) (C.nf (h1 := "RiverWords") (by decide +kernel)) (fun _ h => h) rfl ?_
      refine r_iaddZ (pc := 33) C dX0_layCycles_33 ?_
      refine r_aload_n (pc := 34) C dX0_layCycles_34 rfl rfl ?_
      refine r_getN (pc := 35) (k := 2) (ci := 5) C dX0_layCycles_35 (g1 (F1.2.1 k hkl)) (show vwC[5]? = some (RX6, TX6, 7) from rfl) in_X6 (by decide) (C.nf (h1 := "RiverWords") (by decide +kernel)) (fun _ h => h) rfl ?_
      refine r_iaddZ (pc := 38) C dX0_layCycles_38 ?_
      refine r_istore_n (pc := 39) C dX0_layCycles_39 rfl (by decide) ?_
      refine r_aload_n (pc := 40) C dX0_layCycles_40 rfl rfl ?_
      refine r_aload_n (pc := 41) C dX0_layCycles_41 rfl rfl ?_
      refine r_invV (pc := 42) (ci := 5) 0 C dX0_layCycles_42 (xm_letter (F1.2.1 k hkl) (by unfold i32; omega)) (g2 (F1.2.1 k hkl)) (show vwC[5]? = some (RX6, TX6, 7) from rfl) rfl (lw_V q1003 q1004 q1005 q101 q1006) (by decide +kernel) rfl rfl ⟨Nat.le_of_ble_eq_true rfl, Nat.le_of_ble_eq_true rfl⟩ (Nat.le_of_ble_eq_true rfl) ⟨(by first | exact Nat.le_of_ble_eq_true rfl | (dsimp only [rmk]; omega) | omega), (by first | exact Nat.le_of_ble_eq_true rfl | (dsimp only [rmk]; omega) | omega)⟩ (rd_k ?_)
      refine r_bipushZ (pc := 45) C dX0_layCycles_45 (by decide) ?_
      refine r_icmp_neZ (pc := 47) (tgt := 73) C dX0_layCycles_47 (by decide) (by have := codeB_b (!fLeft (fat l k)); unfold i32; omega) (by unfold i32; omega) (fun h47 => ?_) (fun h47 => ?_)
      · refine r_aload_n (pc := 73) C dX0_layCycles_73 rfl rfl ?_
        refine r_aload_n (pc := 74) C dX0_layCycles_74 rfl rfl ?_
        refine r_getN (pc := 75) (k := 0) (ci := 5) C dX0_layCycles_75 (g1 (F1.2.1 k hkl)) (show vwC[5]? = some (RX6, TX6, 7) from rfl) in_X6 (by decide) (C.nf (h1 := "RiverWords") (by decide +kernel)) (fun _ h => h) rfl ?_
        refine r_aload_n (pc := 78) C dX0_layCycles_78 rfl rfl ?_
        refine r_getN (pc := 79) (k := 1) (ci := 5) C dX0_layCycles_79 (g1 (F1.2.1 k hkl)) (show vwC[5]? = some (RX6, TX6, 7) from rfl) in_X6 (by decide) (C.nf (h1 := "RiverWords") (by decide +kernel)) (fun _ h => h) rfl ?_
        refine r_iconstZ (pc := 82) C dX0_layCycles_82 ?_
        refine r_aload_n (pc := 83) C dX0_layCycles_83 rfl rfl ?_
        refine r_getN (pc := 84) (k := 0) (ci := 5) C dX0_layCycles_84 (g1 (F1.2.1 k hkl)) (show vwC[5]? = some (RX6, TX6, 7) from rfl) in_X6 (by decide) (C.nf (h1 := "RiverWords") (by decide +kernel)) (fun _ h => h) rfl ?_
        refine r_imulZ (pc := 87) C dX0_layCycles_87 ?_
        refine r_iaddZ (pc := 88) C dX0_layCycles_88 ?_
        refine r_iload_n (pc := 89) C dX0_layCycles_89 rfl rfl ?_
        refine r_invV (pc := 90) (ci := 0) 3 C dX0_layCycles_90 (xo_numberOf _ _ _ hx1 L1 F1 hb hn ⟨by unfold i32; omega, by unfold i32; omega, by unfold i32; omega⟩) (g2 hx1.1) (show vwC[0]? = some (RX0, TX0, 10) from rfl) rfl (lw_V q1007 q1009 qs13 q81 q1010) (by decide +kernel) rfl rfl ⟨Nat.le_of_ble_eq_true rfl, Nat.le_of_ble_eq_true rfl⟩ (Nat.le_of_ble_eq_true rfl) ⟨(by first | exact Nat.le_of_ble_eq_true rfl | (dsimp only [rmk]; omega) | omega), (by first | exact Nat.le_of_ble_eq_true rfl | (dsimp only [rmk]; omega) | omega)⟩ (rd_k ?_)
        first | exact three _ | (rw [show nof l ((fat l k).1, (fat l k).2.1 + 2 * (fat l k).1, (fat l k).1 + (fat l k).2.1 + (fat l k).2.2) = nxZ l k by rw [← fat_next hkl hcl]; have e2 : ¬ 0 < (fat l k).1 + (fat l k).2.1 + (fat l k).2.2 := (fun q => h47 (codeB_L.mpr (by unfold fLeft; rw [decide_eq_true q]; rfl))); unfold nextF; rw [if_neg e2]]; exact three _)
      · refine r_aload_n (pc := 50) C dX0_layCycles_50 rfl rfl ?_
        refine r_iload_n (pc := 51) C dX0_layCycles_51 rfl rfl ?_
        refine r_aload_n (pc := 52) C dX0_layCycles_52 rfl rfl ?_
        refine r_getN (pc := 53) (k := 1) (ci := 5) C dX0_layCycles_53 (g1 (F1.2.1 k hkl)) (show vwC[5]? = some (RX6, TX6, 7) from rfl) in_X6 (by decide) (C.nf (h1 := "RiverWords") (by decide +kernel)) (fun _ h => h) rfl ?_
        refine r_iconstZ (pc := 56) C dX0_layCycles_56 ?_
        refine r_aload_n (pc := 57) C dX0_layCycles_57 rfl rfl ?_
        refine r_getN (pc := 58) (k := 2) (ci := 5) C dX0_layCycles_58 (g1 (F1.2.1 k hkl)) (show vwC[5]? = some (RX6, TX6, 7) from rfl) in_X6 (by decide) (C.nf (h1 := "RiverWords") (by decide +kernel)) (fun _ h => h) rfl ?_
        refine r_imulZ (pc := 61) C dX0_layCycles_61 ?_
        refine r_iaddZ (pc := 62) C dX0_layCycles_62 ?_
        refine r_aload_n (pc := 63) C dX0_layCycles_63 rfl rfl ?_
        refine r_getN (pc := 64) (k := 2) (ci := 5) C dX0_layCycles_64 (g1 (F1.2.1 k hkl)) (show vwC[5]? = some (RX6, TX6, 7) from rfl) in_X6 (by decide) (C.nf (h1 := "RiverWords") (by decide +kernel)) (fun _ h => h) rfl ?_
        refine r_invV (pc := 67) (ci := 0) 3 C dX0_layCycles_67 (xo_numberOf _ _ _ hx1 L1 F1 hb hn ⟨by unfold i32; omega, by unfold i32; omega, by unfold i32; omega⟩) (g2 hx1.1) (show vwC[0]? = some (RX0, TX0, 10) from rfl) rfl (lw_V q1007 q1009 qs13 q81 q1010) (by decide +kernel) rfl rfl ⟨Nat.le_of_ble_eq_true rfl, Nat.le_of_ble_eq_true rfl⟩ (Nat.le_of_ble_eq_true rfl) ⟨(by first | exact Nat.le_of_ble_eq_true rfl | (dsimp only [rmk]; omega) | omega), (by first | exact Nat.le_of_ble_eq_true rfl | (dsimp only [rmk]; omega) | omega)⟩ (rd_k ?_)
        rw [show nof l ((fat l k).1 + (fat l k).2.1 + (fat l k).2.2, (fat l k).2.1 + 2 * (fat l k).2.2, (fat l k).2.2) = nxZ l k by rw [← fat_next hkl hcl]; have e := codeB_L.mp h47; unfold fLeft at e; have e2 : 0 < (fat l k).1 + (fat l k).2.1 + (fat l k).2.2 := (by have := Bool.not_eq_false' .. ▸ e; simpa using e); unfold nextF; rw [if_pos e2]]
        refine r_goto (pc := 70) (tgt := 93) C dX0_layCycles_70 (by decide) ?_
        first | exact three _ | (rw [show nof l ((fat l k).1, (fat l k).2.1 + 2 * (fat l k).1, (fat l k).1 + (fat l k).2.1 + (fat l k).2.2) = nxZ l k by rw [← fat_next hkl hcl]; have e2 : ¬ 0 < (fat l k).1 + (fat l k).2.1 + (fat l k).2.2 := (fun q => h47 (codeB_L.mpr (by unfold fLeft; rw [decide_eq_true q]; rfl))); unfold nextF; rw [if_neg e2]]; exact three _)
    refine r_iload_n (pc := 2) C dX0_layCycles_2 rfl rfl ?_
    refine r_aload_n (pc := 3) C dX0_layCycles_3 rfl rfl ?_
    refine r_get (pc := 4) (k := 7) (ci := 0) C dX0_layCycles_4 (g1 hx1.1) (show vwC[0]? = some (RX0, TX0, 10) from rfl) in_X0 (by decide) (C.t _ q283) (fun _ h => h) rfl ?_
    refine r_invV (pc := 7) (ci := 8) 0 C dX0_layCycles_7 (jl_size L1) (gLs L1) (show vwC[8]? = some (RJ6, TJ6, 3) from rfl) rfl (lw_V q580 q581 q582 q89 q583) (by decide +kernel) rfl rfl ⟨Nat.le_of_ble_eq_true rfl, Nat.le_of_ble_eq_true rfl⟩ (Nat.le_of_ble_eq_true rfl) ⟨(by first | exact Nat.le_of_ble_eq_true rfl | (dsimp only [rmk]; omega) | omega), (by first | exact Nat.le_of_ble_eq_true rfl | (dsimp only [rmk]; omega) | omega)⟩ (rd_k ?_)
    rw [hfl]
    refine r_icmp_geZ (pc := 10) (tgt := 146) C dX0_layCycles_10 (by decide) (by unfold i32; omega) (by unfold i32; omega) (fun h10 => ?_) (fun h10 => ?_)
    · exact done' (by omega)
    · exact body (by omega)
  refine r_iconstZ (pc := 0) C dX0_layCycles_0 ?_
  refine r_istore_n (pc := 1) C dX0_layCycles_1 rfl (by decide) ?_
  refine ww_to (fun G hG => ?_) (first 0 (Nat.zero_le _) none none)
  rw [hG, cut0_0, cut0_0, cut0_0]
  exact ⟨hF, FR.rf⟩

